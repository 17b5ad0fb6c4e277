set_option maxRecDepth 100000
def rm_X10_on (d : Nat) : Room := { frames := 5 * d + 2, cells := 0, slots := 0, locals := 125 * d + 48 }
def rm_X8_value (d : Nat) : Room := { frames := 5 * d + 3, cells := 0, slots := 0, locals := 125 * d + 73 }
def rm_X7_value (d : Nat) : Room := { frames := 5 * d + 4, cells := 0, slots := 0, locals := 125 * d + 98 }
def rm_X9_value (d : Nat) : Room := { frames := 5 * d + 5, cells := 0, slots := 0, locals := 125 * d + 123 }
def rm_value (d : Nat) : Room := { frames := 5 * d + 1, cells := 0, slots := 0, locals := 125 * d + 23 }
def B_X10_on_74 (Bk : Nat → (Int32 → Wd → va_W → Prop) → Wd → va_W → Prop) (N : Nat) (post : Int64 → Wd → va_W → Prop) (s0 : Int64) (w : Wd) (L : va_W) : Prop :=
  post s0 w L
set_option maxHeartbeats 4000000 in
theorem k_X10_on_74 {Γ : gT} {K : gK} {N : Nat} {post : Int64 → Wd → va_W → Prop} {d : Nat} {Bk : Nat → (Int32 → Wd → va_W → Prop) → Wd → va_W → Prop} (C : gC Γ K RX10 cX10_on 6 (rm_X10_on d)) (ret : gRl Γ K cX10_on (some .long) (xPl K post) 0 0) (hk : ∀ {z0 : Nat} {p0 : Int32 → Wd → va_W → Prop} {w0 : Wd} {L0 : va_W}, Bk z0 p0 w0 L0 → gAV Γ.l K (⟨"OneBears$Sum", "value", "([I)I"⟩ : MethodName) z0 [.ref (xa K 5)] (xL K w0 ++ L0) (xPi K p0) (rm_value d)) (s0 : Int64) (w : Wd) (L : va_W) (h : B_X10_on_74 Bk N post s0 w L) : gJ Γ K 0 0 (xL K w ++ L) 74 [] [.long s0] := by
  unfold B_X10_on_74 at h
  exact ret rfl _ _ _ _ dX10_on_74 ⟨_, _, rfl, h⟩
def B_X10_on_0 (Bk : Nat → (Int32 → Wd → va_W → Prop) → Wd → va_W → Prop) (N : Nat) (post : Int64 → Wd → va_W → Prop) (x0 : Nat) (x1 : Int64) (w : Wd) (L : va_W) : Prop :=
  ∃ (k1 : Nat) (f1 : List Value) (v1 : Option Nat), L[k1]? = some (x0, .inr (7, f1)) ∧ f1[1]? = some (va_rf v1) ∧ ∃ y2 : Nat, v1 = some y2 ∧ Bk y2 (fun (v5 : Int32) (w3 : Wd) (L4 : va_W) =>
  ∃ (k6 : Nat) (f6 : List Value) (v6 : Int32), L4[k6]? = some (x0, .inr (7, f6)) ∧ f6[0]? = some (.int v6) ∧ (v6 = 42 →
    post (x1 * v5.toInt64) w3 L4) ∧
  (¬ v6 = 42 →
  (v6 = 43 →
    post (x1 + v5.toInt64) w3 L4) ∧
  (¬ v6 = 43 →
  (v6 = 44 →
    (v5.toInt64 = (0 : Int64) →
      B_X10_on_74 Bk N post 0 w3 L4) ∧
    (¬ v5.toInt64 = (0 : Int64) →
      ¬ v5.toInt64 = 0 ∧ B_X10_on_74 Bk N post (x1 / v5.toInt64) w3 L4)) ∧
  (¬ v6 = 44 →
  (v6 = 45 →
    post (x1 - v5.toInt64) w3 L4) ∧
  (¬ v6 = 45 →
  (v5.toInt64 = (0 : Int64) →
      B_X10_on_74 Bk N post 0 w3 L4) ∧
    (¬ v5.toInt64 = (0 : Int64) →
      ¬ v5.toInt64 = 0 ∧ B_X10_on_74 Bk N post (x1 / v5.toInt64) w3 L4)))))) w L
set_option maxHeartbeats 4000000 in
theorem k_X10_on_0 {Γ : gT} {K : gK} {N : Nat} {post : Int64 → Wd → va_W → Prop} {d : Nat} {Bk : Nat → (Int32 → Wd → va_W → Prop) → Wd → va_W → Prop} (C : gC Γ K RX10 cX10_on 6 (rm_X10_on d)) (ret : gRl Γ K cX10_on (some .long) (xPl K post) 0 0) (hk : ∀ {z0 : Nat} {p0 : Int32 → Wd → va_W → Prop} {w0 : Wd} {L0 : va_W}, Bk z0 p0 w0 L0 → gAV Γ.l K (⟨"OneBears$Sum", "value", "([I)I"⟩ : MethodName) z0 [.ref (xa K 5)] (xL K w0 ++ L0) (xPi K p0) (rm_value d)) (x0 : Nat) (x1 : Int64) (w : Wd) (L : va_W) (h : B_X10_on_0 Bk N post x0 x1 w L) : gJ Γ K 0 0 (xL K w ++ L) 0 [(0, .ref x0), (1, .long x1), (3, .ref (xa K 5))] [] := by
  unfold B_X10_on_0 at h
  refine g_aload_n C 0 rfl dX10_on_0 ?_
  obtain ⟨k1, f1, v1, e1, g1, h⟩ := h
  refine xd_Link_sum C q542 e1 g1 dX10_on_1 ?_
  refine g_aload_n C 2 rfl dX10_on_4 ?_
  obtain ⟨y2, ey2, h⟩ := h
  refine g_stk (st' := [.ref (xa K 5), .ref y2]) (by rw [ey2]; rfl) ?_
  refine g_callAi C (As := [.ref (xa K 5)]) (rest := []) (hk h) (by dsimp only [rm_X10_on, rm_value]; omega) q834 (by decide +kernel) 1 rfl (by decide +kernel) rfl (Nat.le_of_ble_eq_true rfl) ⟨Nat.zero_le _, Nat.zero_le _⟩ dX10_on_5 ?_
  rintro v5 _ ⟨w3, L4, rfl, h⟩
  refine g_i2l C dX10_on_8 ?_
  refine g_lstore C (lt := [(4, .long v5.toInt64), (0, .ref x0), (1, .long x1), (3, .ref (xa K 5))]) dX10_on_9 (by decide) rfl ?_
  refine g_aload_n C 1 rfl dX10_on_11 ?_
  obtain ⟨k6, f6, v6, e6, g6, h⟩ := h
  refine xd_Link_sign C q541 e6 g6 dX10_on_12 ?_
  by_cases hc0 : v6 = 42
  · replace h := h.1 hc0
    refine g_tableIn C 54 dX10_on_15 (n := 42) (by rw [hc0]; decide) (by decide) (by decide) rfl (by decide) ?_
    refine g_lload_n C 2 rfl dX10_on_54 ?_
    refine g_lload C 0 rfl dX10_on_55 ?_
    refine g_lmul C dX10_on_57 ?_
    exact ret rfl _ _ _ _ dX10_on_58 ⟨_, _, rfl, h⟩
  · replace h := h.2 hc0
    by_cases hc1 : v6 = 43
    · replace h := h.1 hc1
      refine g_tableIn C 44 dX10_on_15 (n := 43) (by rw [hc1]; decide) (by decide) (by decide) rfl (by decide) ?_
      refine g_lload_n C 2 rfl dX10_on_44 ?_
      refine g_lload C 0 rfl dX10_on_45 ?_
      refine g_ladd C dX10_on_47 ?_
      exact ret rfl _ _ _ _ dX10_on_48 ⟨_, _, rfl, h⟩
    · replace h := h.2 hc1
      by_cases hc2 : v6 = 44
      · replace h := h.1 hc2
        refine g_tableIn C 59 dX10_on_15 (n := 44) (by rw [hc2]; decide) (by decide) (by decide) rfl (by decide) ?_
        refine g_lload C 0 rfl dX10_on_59 ?_
        refine g_lconst C 0 (by decide) dX10_on_61 ?_
        refine g_lif_ne C 70 dX10_on_62 dX10_on_63 (by decide) (fun hc => ?_) (fun hc => ?_)
        · replace h := h.2 hc
          refine g_lload_n C 2 rfl dX10_on_70 ?_
          refine g_lload C 0 rfl dX10_on_71 ?_
          obtain ⟨h0, h⟩ := h
          refine g_ldiv C h0 dX10_on_73 ?_
          refine g_sub [] rfl ?_
          exact k_X10_on_74 C ret hk (x1 / v5.toInt64) w3 L4 h
        · replace h := h.1 hc
          refine g_lconst C 0 (by decide) dX10_on_66 ?_
          refine g_goto C 74 dX10_on_67 (by decide) ?_
          refine g_sub [] rfl ?_
          exact k_X10_on_74 C ret hk 0 w3 L4 h
      · replace h := h.2 hc2
        by_cases hc3 : v6 = 45
        · replace h := h.1 hc3
          refine g_tableIn C 49 dX10_on_15 (n := 45) (by rw [hc3]; decide) (by decide) (by decide) rfl (by decide) ?_
          refine g_lload_n C 2 rfl dX10_on_49 ?_
          refine g_lload C 0 rfl dX10_on_50 ?_
          refine g_lsub C dX10_on_52 ?_
          exact ret rfl _ _ _ _ dX10_on_53 ⟨_, _, rfl, h⟩
        · replace h := h.2 hc3
          have n0 := lv_neT hc0 (a := 42) (by decide)
          have n1 := lv_neT hc1 (a := 43) (by decide)
          have n2 := lv_neT hc2 (a := 44) (by decide)
          have n3 := lv_neT hc3 (a := 45) (by decide)
          refine g_tableOut C 59 dX10_on_15 (by omega) (by decide) ?_
          refine g_lload C 0 rfl dX10_on_59 ?_
          refine g_lconst C 0 (by decide) dX10_on_61 ?_
          refine g_lif_ne C 70 dX10_on_62 dX10_on_63 (by decide) (fun hc => ?_) (fun hc => ?_)
          · replace h := h.2 hc
            refine g_lload_n C 2 rfl dX10_on_70 ?_
            refine g_lload C 0 rfl dX10_on_71 ?_
            obtain ⟨h0, h⟩ := h
            refine g_ldiv C h0 dX10_on_73 ?_
            refine g_sub [] rfl ?_
            exact k_X10_on_74 C ret hk (x1 / v5.toInt64) w3 L4 h
          · replace h := h.1 hc
            refine g_lconst C 0 (by decide) dX10_on_66 ?_
            refine g_goto C 74 dX10_on_67 (by decide) ?_
            refine g_sub [] rfl ?_
            exact k_X10_on_74 C ret hk 0 w3 L4 h
def B_X10_on (Bk : Nat → (Int32 → Wd → va_W → Prop) → Wd → va_W → Prop) (N : Nat) (x0 : Nat) (x1 : Int64) (post : Int64 → Wd → va_W → Prop) (w : Wd) (L : va_W) : Prop := B_X10_on_0 Bk N post x0 x1 w L
theorem m_X10_on {l : Launch} {K : gK} {N : Nat} {post : Int64 → Wd → va_W → Prop} {d : Nat} {Bk : Nat → (Int32 → Wd → va_W → Prop) → Wd → va_W → Prop} {x0 : Nat} {x1 : Int64} {w : Wd} {L : va_W} (hk : ∀ {z0 : Nat} {p0 : Int32 → Wd → va_W → Prop} {w0 : Wd} {L0 : va_W}, Bk z0 p0 w0 L0 → gAV l K (⟨"OneBears$Sum", "value", "([I)I"⟩ : MethodName) z0 [.ref (xa K 5)] (xL K w0 ++ L0) (xPi K p0) (rm_value d)) (h : B_X10_on Bk N x0 x1 post w L) : gMl l K yX10_on cX10_on 6 (some .long) (rm_X10_on d) [.ref x0, .long x1, .ref (xa K 5)] (xL K w ++ L) (xPl K post) 0 0 := by
  refine g_inL (ls0 := [(0, .ref x0), (1, .long x1), (3, .ref (xa K 5))]) (by decide) (Nat.le_of_ble_eq_true rfl) rfl (fun Γ hl C hn ret => ?_)
  subst hl
  exact k_X10_on_0 C ret hk x0 x1 w L h
def B_X8_value_0 (Bk : Nat → (Int32 → Wd → va_W → Prop) → Wd → va_W → Prop) (N : Nat) (post : Int32 → Wd → va_W → Prop) (x0 : Nat) (w : Wd) (L : va_W) : Prop :=
  ∃ (k1 : Nat) (f1 : List Value) (v1 : Int32), L[k1]? = some (x0, .inr (4, f1)) ∧ f1[0]? = some (.int v1) ∧ post v1 w L
set_option maxHeartbeats 4000000 in
theorem k_X8_value_0 {Γ : gT} {K : gK} {N : Nat} {post : Int32 → Wd → va_W → Prop} {d : Nat} {Bk : Nat → (Int32 → Wd → va_W → Prop) → Wd → va_W → Prop} (C : gC Γ K RX8 cX8_value 2 (rm_X8_value d)) (ret : gRi Γ K cX8_value (some .int) (xPi K post) 0 0) (hk : ∀ {z0 : Nat} {p0 : Int32 → Wd → va_W → Prop} {w0 : Wd} {L0 : va_W}, Bk z0 p0 w0 L0 → gAV Γ.l K (⟨"OneBears$Sum", "value", "([I)I"⟩ : MethodName) z0 [.ref (xa K 5)] (xL K w0 ++ L0) (xPi K p0) (rm_value d)) (x0 : Nat) (w : Wd) (L : va_W) (h : B_X8_value_0 Bk N post x0 w L) : gJ Γ K 0 0 (xL K w ++ L) 0 [(0, .ref x0), (1, .ref (xa K 5))] [] := by
  unfold B_X8_value_0 at h
  refine g_aload_n C 0 rfl dX8_value_0 ?_
  obtain ⟨k1, f1, v1, e1, g1, h⟩ := h
  refine xd_Constant_v C q511 e1 g1 dX8_value_1 ?_
  exact ret _ _ _ _ _ rfl rfl dX8_value_4 ⟨_, _, rfl, h⟩
def B_X8_value (Bk : Nat → (Int32 → Wd → va_W → Prop) → Wd → va_W → Prop) (N : Nat) (x0 : Nat) (post : Int32 → Wd → va_W → Prop) (w : Wd) (L : va_W) : Prop := B_X8_value_0 Bk N post x0 w L
theorem m_X8_value {l : Launch} {K : gK} {N : Nat} {post : Int32 → Wd → va_W → Prop} {d : Nat} {Bk : Nat → (Int32 → Wd → va_W → Prop) → Wd → va_W → Prop} {x0 : Nat} {w : Wd} {L : va_W} (hk : ∀ {z0 : Nat} {p0 : Int32 → Wd → va_W → Prop} {w0 : Wd} {L0 : va_W}, Bk z0 p0 w0 L0 → gAV l K (⟨"OneBears$Sum", "value", "([I)I"⟩ : MethodName) z0 [.ref (xa K 5)] (xL K w0 ++ L0) (xPi K p0) (rm_value d)) (h : B_X8_value Bk N x0 post w L) : gMi l K yX8_value cX8_value 2 (some .int) (rm_X8_value d) [.ref x0, .ref (xa K 5)] (xL K w ++ L) (xPi K post) 0 0 := by
  refine g_inI (ls0 := [(0, .ref x0), (1, .ref (xa K 5))]) (by decide) (Nat.le_of_ble_eq_true rfl) rfl (fun Γ hl C hn ret => ?_)
  subst hl
  exact k_X8_value_0 C ret hk x0 w L h
def B_X7_value_0 (Bk : Nat → (Int32 → Wd → va_W → Prop) → Wd → va_W → Prop) (N : Nat) (post : Int32 → Wd → va_W → Prop) (x0 : Nat) (w : Wd) (L : va_W) : Prop :=
  ∃ (k1 : Nat) (f1 : List Value) (v1 : Int32), L[k1]? = some (x0, .inr (5, f1)) ∧ f1[0]? = some (.int v1) ∧ vp_in v1 128 ∧ post (xA w 5 v1.toNatClampNeg) w L
set_option maxHeartbeats 4000000 in
theorem k_X7_value_0 {Γ : gT} {K : gK} {N : Nat} {post : Int32 → Wd → va_W → Prop} {d : Nat} {Bk : Nat → (Int32 → Wd → va_W → Prop) → Wd → va_W → Prop} (C : gC Γ K RX7 cX7_value 2 (rm_X7_value d)) (ret : gRi Γ K cX7_value (some .int) (xPi K post) 0 0) (hk : ∀ {z0 : Nat} {p0 : Int32 → Wd → va_W → Prop} {w0 : Wd} {L0 : va_W}, Bk z0 p0 w0 L0 → gAV Γ.l K (⟨"OneBears$Sum", "value", "([I)I"⟩ : MethodName) z0 [.ref (xa K 5)] (xL K w0 ++ L0) (xPi K p0) (rm_value d)) (x0 : Nat) (w : Wd) (L : va_W) (h : B_X7_value_0 Bk N post x0 w L) : gJ Γ K 0 0 (xL K w ++ L) 0 [(0, .ref x0), (1, .ref (xa K 5))] [] := by
  unfold B_X7_value_0 at h
  refine g_aload_n C 1 rfl dX7_value_0 ?_
  refine g_aload_n C 0 rfl dX7_value_1 ?_
  obtain ⟨k1, f1, v1, e1, g1, h⟩ := h
  refine xd_Letter_c C q498 e1 g1 dX7_value_2 ?_
  obtain ⟨hb, h⟩ := h
  refine xld_5 C hb (xA w 5 v1.toNatClampNeg) rfl dX7_value_5 ?_
  exact ret _ _ _ _ _ rfl rfl dX7_value_6 ⟨_, _, rfl, h⟩
def B_X7_value (Bk : Nat → (Int32 → Wd → va_W → Prop) → Wd → va_W → Prop) (N : Nat) (x0 : Nat) (post : Int32 → Wd → va_W → Prop) (w : Wd) (L : va_W) : Prop := B_X7_value_0 Bk N post x0 w L
theorem m_X7_value {l : Launch} {K : gK} {N : Nat} {post : Int32 → Wd → va_W → Prop} {d : Nat} {Bk : Nat → (Int32 → Wd → va_W → Prop) → Wd → va_W → Prop} {x0 : Nat} {w : Wd} {L : va_W} (hk : ∀ {z0 : Nat} {p0 : Int32 → Wd → va_W → Prop} {w0 : Wd} {L0 : va_W}, Bk z0 p0 w0 L0 → gAV l K (⟨"OneBears$Sum", "value", "([I)I"⟩ : MethodName) z0 [.ref (xa K 5)] (xL K w0 ++ L0) (xPi K p0) (rm_value d)) (h : B_X7_value Bk N x0 post w L) : gMi l K yX7_value cX7_value 2 (some .int) (rm_X7_value d) [.ref x0, .ref (xa K 5)] (xL K w ++ L) (xPi K post) 0 0 := by
  refine g_inI (ls0 := [(0, .ref x0), (1, .ref (xa K 5))]) (by decide) (Nat.le_of_ble_eq_true rfl) rfl (fun Γ hl C hn ret => ?_)
  subst hl
  exact k_X7_value_0 C ret hk x0 w L h
def B_X9_value_16s (Bk : Nat → (Int32 → Wd → va_W → Prop) → Wd → va_W → Prop) (r16 : Int64 → Option Nat → Wd → va_W → Prop) (N : Nat) (post : Int32 → Wd → va_W → Prop) (x2 : Int64) (x4 : Option Nat) (w : Wd) (L : va_W) : Prop :=
  (x4 = none →
    post x2.toInt32 w L) ∧
  (∀ y1 : Nat, x4 = some y1 →
    ∃ y2 : Nat, x4 = some y2 ∧ ∃ (k2 : Nat) (f2 : List Value), L[k2]? = some (y2, .inr (7, f2)) ∧ B_X10_on Bk N y2 x2 (fun (v5 : Int64) (w3 : Wd) (L4 : va_W) =>
  ∃ (y6 k6 : Nat) (f6 : List Value) (v6 : Option Nat), x4 = some y6 ∧ L4[k6]? = some (y6, .inr (7, f6)) ∧ f6[2]? = some (va_rf v6) ∧ r16 (if (if v5 < 1000000 then v5 else 1000000) < (-1000000) then (-1000000) else (if v5 < 1000000 then v5 else 1000000)) v6 w3 L4) w L)
def B_X9_value_16 (Bk : Nat → (Int32 → Wd → va_W → Prop) → Wd → va_W → Prop) (N : Nat) (post : Int32 → Wd → va_W → Prop) : Nat → Int64 → Option Nat → Wd → va_W → Prop
  | 0, _, _, _, _ => False
  | n + 1, x2, x4, w, L => B_X9_value_16s Bk (B_X9_value_16 Bk N post n) N post x2 x4 w L
set_option maxHeartbeats 4000000 in
theorem k_X9_value_16s {Γ : gT} {K : gK} {N : Nat} {post : Int32 → Wd → va_W → Prop} {d : Nat} {Bk : Nat → (Int32 → Wd → va_W → Prop) → Wd → va_W → Prop} (C : gC Γ K RX9 cX9_value 5 (rm_X9_value d)) (ret : gRi Γ K cX9_value (some .int) (xPi K post) 0 0) (hk : ∀ {z0 : Nat} {p0 : Int32 → Wd → va_W → Prop} {w0 : Wd} {L0 : va_W}, Bk z0 p0 w0 L0 → gAV Γ.l K (⟨"OneBears$Sum", "value", "([I)I"⟩ : MethodName) z0 [.ref (xa K 5)] (xL K w0 ++ L0) (xPi K p0) (rm_value d)) {r16 : Int64 → Option Nat → Wd → va_W → Prop} (hr16 : ∀ (x2 : Int64) (x4 : Option Nat) (w : Wd) (L : va_W), r16 x2 x4 w L → gJ Γ K 0 0 (xL K w ++ L) 16 [(1, .ref (xa K 5)), (2, .long x2), (4, va_rf x4)] []) (x2 : Int64) (x4 : Option Nat) (w : Wd) (L : va_W) (h : B_X9_value_16s Bk r16 N post x2 x4 w L) : gJ Γ K 0 0 (xL K w ++ L) 16 [(1, .ref (xa K 5)), (2, .long x2), (4, va_rf x4)] [] := by
  unfold B_X9_value_16s at h
  refine g_aloadq C 2 rfl dX9_value_16 ?_
  refine g_ifnull C 51 dX9_value_18 (by decide) (fun hc => ?_) (fun y1 hc => ?_)
  · replace h := h.1 hc
    refine g_lload_n C 1 rfl dX9_value_51 ?_
    refine g_l2i C dX9_value_52 ?_
    exact ret _ _ _ _ _ rfl rfl dX9_value_53 ⟨_, _, rfl, h⟩
  · replace h := h.2 y1 hc
    refine g_ldc2 C (v := (-1000000)) q828 dX9_value_21 ?_
    refine g_ldc2 C (v := 1000000) q829 dX9_value_24 ?_
    refine g_aloadq C 2 rfl dX9_value_27 ?_
    refine g_lload_n C 1 rfl dX9_value_29 ?_
    refine g_aload_n C 0 rfl dX9_value_30 ?_
    obtain ⟨y2, ey2, h⟩ := h
    refine g_stk (st' := [.ref (xa K 5), .long x2, .ref y2, .long 1000000, .long (-1000000)]) (by rw [ey2]; rfl) ?_
    obtain ⟨k2, f2, e2, h⟩ := h
    refine g_callVl C (As := [.long x2, .ref (xa K 5)]) (rest := [.long 1000000, .long (-1000000)]) (m_X10_on hk h) (lw_V q830 q831 q832 q95 q833) (ci := 7) (qi := 31 + k2) rfl (x_at e2) ⟨rfl, rfl⟩ (by dsimp only [rm_X9_value, rm_X10_on]; omega) 2 rfl (by decide +kernel) rfl (Nat.le_of_ble_eq_true rfl) ⟨Nat.zero_le _, Nat.zero_le _⟩ dX9_value_31 ?_
    rintro v5 _ ⟨w3, L4, rfl, h⟩
    refine g_mmin_long C q835 q836 q87 q837 (by constructor <;> (dsimp only [rm_X9_value]; simp [Value.category]; try omega)) ⟨Nat.zero_le _, Nat.zero_le _⟩ dX9_value_34 ?_
    refine g_mmax_long C q838 q839 q87 q840 (by constructor <;> (dsimp only [rm_X9_value]; simp [Value.category]; try omega)) ⟨Nat.zero_le _, Nat.zero_le _⟩ dX9_value_37 ?_
    refine g_lstore_n C rfl (lt := [(2, .long (if (if v5 < 1000000 then v5 else 1000000) < (-1000000) then (-1000000) else (if v5 < 1000000 then v5 else 1000000))), (1, .ref (xa K 5)), (4, va_rf x4)]) dX9_value_40 (by decide) rfl ?_
    refine g_aloadq C 2 rfl dX9_value_41 ?_
    obtain ⟨y6, k6, f6, v6, ey6, e6, g6, h⟩ := h
    refine g_stk (st' := [.ref y6]) (by rw [ey6]; rfl) ?_
    refine xdN_Link_next C nf_X9_27 e6 g6 dX9_value_43 ?_
    refine g_astoreq C (lt := [(4, va_rf v6), (2, .long (if (if v5 < 1000000 then v5 else 1000000) < (-1000000) then (-1000000) else (if v5 < 1000000 then v5 else 1000000))), (1, .ref (xa K 5))]) dX9_value_46 (by decide) rfl ?_
    refine g_goto C 16 dX9_value_48 (by decide) ?_
    refine g_sub [2, 1, 0] rfl ?_
    exact hr16 (if (if v5 < 1000000 then v5 else 1000000) < (-1000000) then (-1000000) else (if v5 < 1000000 then v5 else 1000000)) v6 w3 L4 h
theorem k_X9_value_16 {Γ : gT} {K : gK} {N : Nat} {post : Int32 → Wd → va_W → Prop} {d : Nat} {Bk : Nat → (Int32 → Wd → va_W → Prop) → Wd → va_W → Prop} (C : gC Γ K RX9 cX9_value 5 (rm_X9_value d)) (ret : gRi Γ K cX9_value (some .int) (xPi K post) 0 0) (hk : ∀ {z0 : Nat} {p0 : Int32 → Wd → va_W → Prop} {w0 : Wd} {L0 : va_W}, Bk z0 p0 w0 L0 → gAV Γ.l K (⟨"OneBears$Sum", "value", "([I)I"⟩ : MethodName) z0 [.ref (xa K 5)] (xL K w0 ++ L0) (xPi K p0) (rm_value d)) : ∀ (n : Nat) (x2 : Int64) (x4 : Option Nat) (w : Wd) (L : va_W) (h : B_X9_value_16 Bk N post n x2 x4 w L), gJ Γ K 0 0 (xL K w ++ L) 16 [(1, .ref (xa K 5)), (2, .long x2), (4, va_rf x4)] [] := by
  intro n
  induction n with
  | zero => intro x2 x4 w L h; exact h.elim
  | succ n ih => intro x2 x4 w L h; exact k_X9_value_16s C ret hk ih x2 x4 w L h
def B_X9_value_0 (Bk : Nat → (Int32 → Wd → va_W → Prop) → Wd → va_W → Prop) (N : Nat) (post : Int32 → Wd → va_W → Prop) (x0 : Nat) (w : Wd) (L : va_W) : Prop :=
  ∃ (k1 : Nat) (f1 : List Value) (v1 : Option Nat), L[k1]? = some (x0, .inr (6, f1)) ∧ f1[0]? = some (va_rf v1) ∧ ∃ y2 : Nat, v1 = some y2 ∧ Bk y2 (fun (v5 : Int32) (w3 : Wd) (L4 : va_W) =>
  ∃ (k6 : Nat) (f6 : List Value) (v6 : Option Nat), L4[k6]? = some (x0, .inr (6, f6)) ∧ f6[1]? = some (va_rf v6) ∧ B_X9_value_16 Bk N post N v5.toInt64 v6 w3 L4) w L
set_option maxHeartbeats 4000000 in
theorem k_X9_value_0 {Γ : gT} {K : gK} {N : Nat} {post : Int32 → Wd → va_W → Prop} {d : Nat} {Bk : Nat → (Int32 → Wd → va_W → Prop) → Wd → va_W → Prop} (C : gC Γ K RX9 cX9_value 5 (rm_X9_value d)) (ret : gRi Γ K cX9_value (some .int) (xPi K post) 0 0) (hk : ∀ {z0 : Nat} {p0 : Int32 → Wd → va_W → Prop} {w0 : Wd} {L0 : va_W}, Bk z0 p0 w0 L0 → gAV Γ.l K (⟨"OneBears$Sum", "value", "([I)I"⟩ : MethodName) z0 [.ref (xa K 5)] (xL K w0 ++ L0) (xPi K p0) (rm_value d)) (x0 : Nat) (w : Wd) (L : va_W) (h : B_X9_value_0 Bk N post x0 w L) : gJ Γ K 0 0 (xL K w ++ L) 0 [(0, .ref x0), (1, .ref (xa K 5))] [] := by
  unfold B_X9_value_0 at h
  refine g_aload_n C 0 rfl dX9_value_0 ?_
  obtain ⟨k1, f1, v1, e1, g1, h⟩ := h
  refine xd_Chain_first C q521 e1 g1 dX9_value_1 ?_
  refine g_aload_n C 1 rfl dX9_value_4 ?_
  obtain ⟨y2, ey2, h⟩ := h
  refine g_stk (st' := [.ref (xa K 5), .ref y2]) (by rw [ey2]; rfl) ?_
  refine g_callAi C (As := [.ref (xa K 5)]) (rest := []) (hk h) (by dsimp only [rm_X9_value, rm_value]; omega) q823 (by decide +kernel) 1 rfl (by decide +kernel) rfl (Nat.le_of_ble_eq_true rfl) ⟨Nat.zero_le _, Nat.zero_le _⟩ dX9_value_5 ?_
  rintro v5 _ ⟨w3, L4, rfl, h⟩
  refine g_i2l C dX9_value_8 ?_
  refine g_lstore_n C rfl (lt := [(2, .long v5.toInt64), (0, .ref x0), (1, .ref (xa K 5))]) dX9_value_9 (by decide) rfl ?_
  refine g_aload_n C 1 rfl dX9_value_10 ?_
  obtain ⟨k6, f6, v6, e6, g6, h⟩ := h
  refine xd_Chain_links C q522 e6 g6 dX9_value_11 ?_
  refine g_astoreq C (lt := [(4, va_rf v6), (2, .long v5.toInt64), (0, .ref x0), (1, .ref (xa K 5))]) dX9_value_14 (by decide) rfl ?_
  refine g_sub [3, 1, 0] rfl ?_
  exact k_X9_value_16 C ret hk N v5.toInt64 v6 w3 L4 h
def B_X9_value (Bk : Nat → (Int32 → Wd → va_W → Prop) → Wd → va_W → Prop) (N : Nat) (x0 : Nat) (post : Int32 → Wd → va_W → Prop) (w : Wd) (L : va_W) : Prop := B_X9_value_0 Bk N post x0 w L
theorem m_X9_value {l : Launch} {K : gK} {N : Nat} {post : Int32 → Wd → va_W → Prop} {d : Nat} {Bk : Nat → (Int32 → Wd → va_W → Prop) → Wd → va_W → Prop} {x0 : Nat} {w : Wd} {L : va_W} (hk : ∀ {z0 : Nat} {p0 : Int32 → Wd → va_W → Prop} {w0 : Wd} {L0 : va_W}, Bk z0 p0 w0 L0 → gAV l K (⟨"OneBears$Sum", "value", "([I)I"⟩ : MethodName) z0 [.ref (xa K 5)] (xL K w0 ++ L0) (xPi K p0) (rm_value d)) (h : B_X9_value Bk N x0 post w L) : gMi l K yX9_value cX9_value 5 (some .int) (rm_X9_value d) [.ref x0, .ref (xa K 5)] (xL K w ++ L) (xPi K post) 0 0 := by
  refine g_inI (ls0 := [(0, .ref x0), (1, .ref (xa K 5))]) (by decide) (Nat.le_of_ble_eq_true rfl) rfl (fun Γ hl C hn ret => ?_)
  subst hl
  exact k_X9_value_0 C ret hk x0 w L h
def B_value1 (Bk : Nat → (Int32 → Wd → va_W → Prop) → Wd → va_W → Prop) (N : Nat) (z0 : Nat) (p0 : Int32 → Wd → va_W → Prop) (w0 : Wd) (L0 : va_W) : Prop := (∃ (k : Nat) (fs : List Value), L0[k]? = some (z0, .inr (4, fs)) ∧ B_X8_value Bk N z0 p0 w0 L0) ∨ (∃ (k : Nat) (fs : List Value), L0[k]? = some (z0, .inr (5, fs)) ∧ B_X7_value Bk N z0 p0 w0 L0) ∨ (∃ (k : Nat) (fs : List Value), L0[k]? = some (z0, .inr (6, fs)) ∧ B_X9_value Bk N z0 p0 w0 L0)
theorem a_value1 {l : Launch} {K : gK} {N d : Nat} {Bk : Nat → (Int32 → Wd → va_W → Prop) → Wd → va_W → Prop} (hk : ∀ {z0 : Nat} {p0 : Int32 → Wd → va_W → Prop} {w0 : Wd} {L0 : va_W}, Bk z0 p0 w0 L0 → gAV l K (⟨"OneBears$Sum", "value", "([I)I"⟩ : MethodName) z0 [.ref (xa K 5)] (xL K w0 ++ L0) (xPi K p0) (rm_value d)) {z0 : Nat} {p0 : Int32 → Wd → va_W → Prop} {w0 : Wd} {L0 : va_W} (h : B_value1 Bk N z0 p0 w0 L0) : gAV l K (⟨"OneBears$Sum", "value", "([I)I"⟩ : MethodName) z0 [.ref (xa K 5)] (xL K w0 ++ L0) (xPi K p0) (rm_value (d + 1)) := by
  rcases h with ⟨k, fs, e, h⟩ | ⟨k, fs, e, h⟩ | ⟨k, fs, e, h⟩
  · exact ⟨31 + k, 4, fs, RX8, TX8, 1, yX8_value, cX8_value, 2, _, rm_X8_value d, x_at e, rfl, q819, q841, q824, q93, q825, m_X8_value hk h, rfl, rfl, by dsimp only [rm_value, rm_X8_value]; omega, by dsimp only [rm_value, rm_X8_value]; omega⟩
  · exact ⟨31 + k, 5, fs, RX7, TX7, 1, yX7_value, cX7_value, 2, _, rm_X7_value d, x_at e, rfl, q819, q842, q826, q92, q827, m_X7_value hk h, rfl, rfl, by dsimp only [rm_value, rm_X7_value]; omega, by dsimp only [rm_value, rm_X7_value]; omega⟩
  · exact ⟨31 + k, 6, fs, RX9, TX9, 3, yX9_value, cX9_value, 5, _, rm_X9_value d, x_at e, rfl, q819, q820, q821, q94, q822, m_X9_value hk h, rfl, rfl, by dsimp only [rm_value, rm_X9_value]; omega, by dsimp only [rm_value, rm_X9_value]; omega⟩
def B_valued (N : Nat) : Nat → Nat → (Int32 → Wd → va_W → Prop) → Wd → va_W → Prop
  | 0, _, _, _, _ => False
  | d + 1, z0, p0, w0, L0 => B_value1 (B_valued N d) N z0 p0 w0 L0
theorem a_valued {l : Launch} {K : gK} {N : Nat} : ∀ (d : Nat) {z0 : Nat} {p0 : Int32 → Wd → va_W → Prop} {w0 : Wd} {L0 : va_W}, B_valued N d z0 p0 w0 L0 → gAV l K (⟨"OneBears$Sum", "value", "([I)I"⟩ : MethodName) z0 [.ref (xa K 5)] (xL K w0 ++ L0) (xPi K p0) (rm_value d) := by
  intro d
  induction d with
  | zero => intro z0 p0 w0 L0 h; exact h.elim
  | succ d ih => intro z0 p0 w0 L0 h; exact a_value1 (d := d) (Bk := B_valued N d) (N := N) ih h
def B_value (N : Nat) (z0 : Nat) (p0 : Int32 → Wd → va_W → Prop) (w0 : Wd) (L0 : va_W) : Prop := B_valued N 40 z0 p0 w0 L0
theorem a_value {l : Launch} {K : gK} {N : Nat} {z0 : Nat} {p0 : Int32 → Wd → va_W → Prop} {w0 : Wd} {L0 : va_W} (h : B_value N z0 p0 w0 L0) : gAV l K (⟨"OneBears$Sum", "value", "([I)I"⟩ : MethodName) z0 [.ref (xa K 5)] (xL K w0 ++ L0) (xPi K p0) (rm_value 40) := a_valued 40 h
def rm_X14_holds (d : Nat) : Room := { frames := 4 * d + 202, cells := 0, slots := 0, locals := 92 * d + 5046 }
def rm_X13_holds (d : Nat) : Room := { frames := 4 * d + 203, cells := 0, slots := 0, locals := 92 * d + 5069 }
def rm_X15_holds (d : Nat) : Room := { frames := 4 * d + 204, cells := 0, slots := 0, locals := 92 * d + 5092 }
def rm_holds (d : Nat) : Room := { frames := 4 * d + 201, cells := 0, slots := 0, locals := 92 * d + 5023 }
def B_X14_holds_72 (Bk : Nat → (Int32 → Wd → va_W → Prop) → Wd → va_W → Prop) (N : Nat) (post : Int32 → Wd → va_W → Prop) (s0 : Int32) (w : Wd) (L : va_W) : Prop :=
  gZ s0 ∧ post s0 w L
set_option maxHeartbeats 4000000 in
theorem k_X14_holds_72 {Γ : gT} {K : gK} {N : Nat} {post : Int32 → Wd → va_W → Prop} {d : Nat} {Bk : Nat → (Int32 → Wd → va_W → Prop) → Wd → va_W → Prop} (C : gC Γ K RX14 cX14_holds 4 (rm_X14_holds d)) (ret : gRi Γ K cX14_holds (some .boolean) (xPi K post) 0 0) (hk : ∀ {z0 : Nat} {p0 : Int32 → Wd → va_W → Prop} {w0 : Wd} {L0 : va_W}, Bk z0 p0 w0 L0 → gAV Γ.l K (⟨"OneBears$Test", "holds", "([I)Z"⟩ : MethodName) z0 [.ref (xa K 5)] (xL K w0 ++ L0) (xPi K p0) (rm_holds d)) (s0 : Int32) (w : Wd) (L : va_W) (h : B_X14_holds_72 Bk N post s0 w L) : gJ Γ K 0 0 (xL K w ++ L) 72 [] [.int s0] := by
  unfold B_X14_holds_72 at h
  obtain ⟨hz, h⟩ := h
  exact ret _ _ _ _ _ rfl hz.n dX14_holds_72 ⟨_, _, rfl, h⟩
def B_X14_holds_0 (Bk : Nat → (Int32 → Wd → va_W → Prop) → Wd → va_W → Prop) (N : Nat) (post : Int32 → Wd → va_W → Prop) (x0 : Nat) (w : Wd) (L : va_W) : Prop :=
  ∃ (k1 : Nat) (f1 : List Value) (v1 : Option Nat), L[k1]? = some (x0, .inr (8, f1)) ∧ f1[2]? = some (va_rf v1) ∧ ∃ y2 : Nat, v1 = some y2 ∧ B_value N y2 (fun (v5 : Int32) (w3 : Wd) (L4 : va_W) =>
  ∃ (k6 : Nat) (f6 : List Value) (v6 : Option Nat), L4[k6]? = some (x0, .inr (8, f6)) ∧ f6[3]? = some (va_rf v6) ∧ ∃ y7 : Nat, v6 = some y7 ∧ B_value N y7 (fun (v10 : Int32) (w8 : Wd) (L9 : va_W) =>
  ∃ (k11 : Nat) (f11 : List Value) (v11 : Int32), L9[k11]? = some (x0, .inr (8, f11)) ∧ f11[1]? = some (.int v11) ∧ (v11 = (61 : Int32) →
    (v5 = v10 →
      B_X14_holds_72 Bk N post 1 w8 L9) ∧
    (¬ v5 = v10 →
      B_X14_holds_72 Bk N post 0 w8 L9)) ∧
  (¬ v11 = (61 : Int32) →
    ∃ (k12 : Nat) (f12 : List Value) (v12 : Int32), L9[k12]? = some (x0, .inr (8, f12)) ∧ f12[1]? = some (.int v12) ∧ (v12 = (60 : Int32) →
      (v10 ≤ v5 →
        B_X14_holds_72 Bk N post 0 w8 L9) ∧
      (¬ v10 ≤ v5 →
        B_X14_holds_72 Bk N post 1 w8 L9)) ∧
    (¬ v12 = (60 : Int32) →
      (v5 ≤ v10 →
        B_X14_holds_72 Bk N post 0 w8 L9) ∧
      (¬ v5 ≤ v10 →
        B_X14_holds_72 Bk N post 1 w8 L9)))) w3 L4) w L
set_option maxHeartbeats 4000000 in
theorem k_X14_holds_0 {Γ : gT} {K : gK} {N : Nat} {post : Int32 → Wd → va_W → Prop} {d : Nat} {Bk : Nat → (Int32 → Wd → va_W → Prop) → Wd → va_W → Prop} (C : gC Γ K RX14 cX14_holds 4 (rm_X14_holds d)) (ret : gRi Γ K cX14_holds (some .boolean) (xPi K post) 0 0) (hk : ∀ {z0 : Nat} {p0 : Int32 → Wd → va_W → Prop} {w0 : Wd} {L0 : va_W}, Bk z0 p0 w0 L0 → gAV Γ.l K (⟨"OneBears$Test", "holds", "([I)Z"⟩ : MethodName) z0 [.ref (xa K 5)] (xL K w0 ++ L0) (xPi K p0) (rm_holds d)) (x0 : Nat) (w : Wd) (L : va_W) (h : B_X14_holds_0 Bk N post x0 w L) : gJ Γ K 0 0 (xL K w ++ L) 0 [(0, .ref x0), (1, .ref (xa K 5))] [] := by
  unfold B_X14_holds_0 at h
  refine g_aload_n C 0 rfl dX14_holds_0 ?_
  obtain ⟨k1, f1, v1, e1, g1, h⟩ := h
  refine xd_Compare_one C q614 e1 g1 dX14_holds_1 ?_
  refine g_aload_n C 1 rfl dX14_holds_4 ?_
  obtain ⟨y2, ey2, h⟩ := h
  refine g_stk (st' := [.ref (xa K 5), .ref y2]) (by rw [ey2]; rfl) ?_
  refine g_callAi C (As := [.ref (xa K 5)]) (rest := []) (a_value h) (by dsimp only [rm_X14_holds, rm_value]; omega) q817 (by decide +kernel) 1 rfl (by decide +kernel) rfl (Nat.le_of_ble_eq_true rfl) ⟨Nat.zero_le _, Nat.zero_le _⟩ dX14_holds_5 ?_
  rintro v5 _ ⟨w3, L4, rfl, h⟩
  refine g_istore_n C rfl (lt := [(2, .int v5), (0, .ref x0), (1, .ref (xa K 5))]) dX14_holds_8 (by decide) rfl ?_
  refine g_aload_n C 1 rfl dX14_holds_9 ?_
  obtain ⟨k6, f6, v6, e6, g6, h⟩ := h
  refine xd_Compare_other C q615 e6 g6 dX14_holds_10 ?_
  refine g_aload_n C 2 rfl dX14_holds_13 ?_
  obtain ⟨y7, ey7, h⟩ := h
  refine g_stk (st' := [.ref (xa K 5), .ref y7]) (by rw [ey7]; rfl) ?_
  refine g_callAi C (As := [.ref (xa K 5)]) (rest := []) (a_value h) (by dsimp only [rm_X14_holds, rm_value]; omega) q817 (by decide +kernel) 1 rfl (by decide +kernel) rfl (Nat.le_of_ble_eq_true rfl) ⟨Nat.zero_le _, Nat.zero_le _⟩ dX14_holds_14 ?_
  rintro v10 _ ⟨w8, L9, rfl, h⟩
  refine g_istore_n C rfl (lt := [(3, .int v10), (2, .int v5), (0, .ref x0), (1, .ref (xa K 5))]) dX14_holds_17 (by decide) rfl ?_
  refine g_aload_n C 2 rfl dX14_holds_18 ?_
  obtain ⟨k11, f11, v11, e11, g11, h⟩ := h
  refine xd_Compare_sign C q613 e11 g11 dX14_holds_19 ?_
  refine g_bipush C 61 (by decide) dX14_holds_22 ?_
  refine g_icmp_ne C 40 dX14_holds_24 (by decide) (fun hc => ?_) (fun hc => ?_)
  · replace h := h.2 hc
    refine g_aload_n C 2 rfl dX14_holds_40 ?_
    obtain ⟨k12, f12, v12, e12, g12, h⟩ := h
    refine xd_Compare_sign C q613 e12 g12 dX14_holds_41 ?_
    refine g_bipush C 60 (by decide) dX14_holds_44 ?_
    refine g_icmp_ne C 62 dX14_holds_46 (by decide) (fun hc => ?_) (fun hc => ?_)
    · replace h := h.2 hc
      refine g_iload_n C 1 rfl dX14_holds_62 ?_
      refine g_iload_n C 0 rfl dX14_holds_63 ?_
      refine g_icmp_le C 71 dX14_holds_64 (by decide) (fun hc => ?_) (fun hc => ?_)
      · replace h := h.1 hc
        refine g_iconst C 0 (by decide) dX14_holds_71 ?_
        refine g_sub [] rfl ?_
        exact k_X14_holds_72 C ret hk 0 w8 L9 h
      · replace h := h.2 hc
        refine g_iconst C 1 (by decide) dX14_holds_67 ?_
        refine g_goto C 72 dX14_holds_68 (by decide) ?_
        refine g_sub [] rfl ?_
        exact k_X14_holds_72 C ret hk 1 w8 L9 h
    · replace h := h.1 hc
      refine g_iload_n C 1 rfl dX14_holds_49 ?_
      refine g_iload_n C 0 rfl dX14_holds_50 ?_
      refine g_icmp_ge C 58 dX14_holds_51 (by decide) (fun hc => ?_) (fun hc => ?_)
      · replace h := h.1 hc
        refine g_iconst C 0 (by decide) dX14_holds_58 ?_
        refine g_goto C 72 dX14_holds_59 (by decide) ?_
        refine g_sub [] rfl ?_
        exact k_X14_holds_72 C ret hk 0 w8 L9 h
      · replace h := h.2 hc
        refine g_iconst C 1 (by decide) dX14_holds_54 ?_
        refine g_goto C 72 dX14_holds_55 (by decide) ?_
        refine g_sub [] rfl ?_
        exact k_X14_holds_72 C ret hk 1 w8 L9 h
  · replace h := h.1 hc
    refine g_iload_n C 1 rfl dX14_holds_27 ?_
    refine g_iload_n C 0 rfl dX14_holds_28 ?_
    refine g_icmp_ne C 36 dX14_holds_29 (by decide) (fun hc => ?_) (fun hc => ?_)
    · replace h := h.2 hc
      refine g_iconst C 0 (by decide) dX14_holds_36 ?_
      refine g_goto C 72 dX14_holds_37 (by decide) ?_
      refine g_sub [] rfl ?_
      exact k_X14_holds_72 C ret hk 0 w8 L9 h
    · replace h := h.1 hc
      refine g_iconst C 1 (by decide) dX14_holds_32 ?_
      refine g_goto C 72 dX14_holds_33 (by decide) ?_
      refine g_sub [] rfl ?_
      exact k_X14_holds_72 C ret hk 1 w8 L9 h
def B_X14_holds (Bk : Nat → (Int32 → Wd → va_W → Prop) → Wd → va_W → Prop) (N : Nat) (x0 : Nat) (post : Int32 → Wd → va_W → Prop) (w : Wd) (L : va_W) : Prop := B_X14_holds_0 Bk N post x0 w L
theorem m_X14_holds {l : Launch} {K : gK} {N : Nat} {post : Int32 → Wd → va_W → Prop} {d : Nat} {Bk : Nat → (Int32 → Wd → va_W → Prop) → Wd → va_W → Prop} {x0 : Nat} {w : Wd} {L : va_W} (hk : ∀ {z0 : Nat} {p0 : Int32 → Wd → va_W → Prop} {w0 : Wd} {L0 : va_W}, Bk z0 p0 w0 L0 → gAV l K (⟨"OneBears$Test", "holds", "([I)Z"⟩ : MethodName) z0 [.ref (xa K 5)] (xL K w0 ++ L0) (xPi K p0) (rm_holds d)) (h : B_X14_holds Bk N x0 post w L) : gMi l K yX14_holds cX14_holds 4 (some .boolean) (rm_X14_holds d) [.ref x0, .ref (xa K 5)] (xL K w ++ L) (xPi K post) 0 0 := by
  refine g_inI (ls0 := [(0, .ref x0), (1, .ref (xa K 5))]) (by decide) (Nat.le_of_ble_eq_true rfl) rfl (fun Γ hl C hn ret => ?_)
  subst hl
  exact k_X14_holds_0 C ret hk x0 w L h
def B_X13_holds_16 (Bk : Nat → (Int32 → Wd → va_W → Prop) → Wd → va_W → Prop) (N : Nat) (post : Int32 → Wd → va_W → Prop) (s0 : Int32) (w : Wd) (L : va_W) : Prop :=
  gZ s0 ∧ post s0 w L
set_option maxHeartbeats 4000000 in
theorem k_X13_holds_16 {Γ : gT} {K : gK} {N : Nat} {post : Int32 → Wd → va_W → Prop} {d : Nat} {Bk : Nat → (Int32 → Wd → va_W → Prop) → Wd → va_W → Prop} (C : gC Γ K RX13 cX13_holds 2 (rm_X13_holds d)) (ret : gRi Γ K cX13_holds (some .boolean) (xPi K post) 0 0) (hk : ∀ {z0 : Nat} {p0 : Int32 → Wd → va_W → Prop} {w0 : Wd} {L0 : va_W}, Bk z0 p0 w0 L0 → gAV Γ.l K (⟨"OneBears$Test", "holds", "([I)Z"⟩ : MethodName) z0 [.ref (xa K 5)] (xL K w0 ++ L0) (xPi K p0) (rm_holds d)) (s0 : Int32) (w : Wd) (L : va_W) (h : B_X13_holds_16 Bk N post s0 w L) : gJ Γ K 0 0 (xL K w ++ L) 16 [] [.int s0] := by
  unfold B_X13_holds_16 at h
  obtain ⟨hz, h⟩ := h
  exact ret _ _ _ _ _ rfl hz.n dX13_holds_16 ⟨_, _, rfl, h⟩
def B_X13_holds_0 (Bk : Nat → (Int32 → Wd → va_W → Prop) → Wd → va_W → Prop) (N : Nat) (post : Int32 → Wd → va_W → Prop) (x0 : Nat) (w : Wd) (L : va_W) : Prop :=
  ∃ (k1 : Nat) (f1 : List Value) (v1 : Option Nat), L[k1]? = some (x0, .inr (9, f1)) ∧ f1[1]? = some (va_rf v1) ∧ ∃ y2 : Nat, v1 = some y2 ∧ Bk y2 (fun (v5 : Int32) (w3 : Wd) (L4 : va_W) =>
  (v5 = 0 →
    B_X13_holds_16 Bk N post 1 w3 L4) ∧
  (¬ v5 = 0 →
    B_X13_holds_16 Bk N post 0 w3 L4)) w L
set_option maxHeartbeats 4000000 in
theorem k_X13_holds_0 {Γ : gT} {K : gK} {N : Nat} {post : Int32 → Wd → va_W → Prop} {d : Nat} {Bk : Nat → (Int32 → Wd → va_W → Prop) → Wd → va_W → Prop} (C : gC Γ K RX13 cX13_holds 2 (rm_X13_holds d)) (ret : gRi Γ K cX13_holds (some .boolean) (xPi K post) 0 0) (hk : ∀ {z0 : Nat} {p0 : Int32 → Wd → va_W → Prop} {w0 : Wd} {L0 : va_W}, Bk z0 p0 w0 L0 → gAV Γ.l K (⟨"OneBears$Test", "holds", "([I)Z"⟩ : MethodName) z0 [.ref (xa K 5)] (xL K w0 ++ L0) (xPi K p0) (rm_holds d)) (x0 : Nat) (w : Wd) (L : va_W) (h : B_X13_holds_0 Bk N post x0 w L) : gJ Γ K 0 0 (xL K w ++ L) 0 [(0, .ref x0), (1, .ref (xa K 5))] [] := by
  unfold B_X13_holds_0 at h
  refine g_aload_n C 0 rfl dX13_holds_0 ?_
  obtain ⟨k1, f1, v1, e1, g1, h⟩ := h
  refine xd_Not_test C q596 e1 g1 dX13_holds_1 ?_
  refine g_aload_n C 1 rfl dX13_holds_4 ?_
  obtain ⟨y2, ey2, h⟩ := h
  refine g_stk (st' := [.ref (xa K 5), .ref y2]) (by rw [ey2]; rfl) ?_
  refine g_callAi C (As := [.ref (xa K 5)]) (rest := []) (hk h) (by dsimp only [rm_X13_holds, rm_holds]; omega) q846 (by decide +kernel) 1 rfl (by decide +kernel) rfl (Nat.le_of_ble_eq_true rfl) ⟨Nat.zero_le _, Nat.zero_le _⟩ dX13_holds_5 ?_
  rintro v5 _ ⟨w3, L4, rfl, h⟩
  refine g_if_ne C 15 dX13_holds_8 (by decide) (fun hc => ?_) (fun hc => ?_)
  · replace h := h.2 hc
    refine g_iconst C 0 (by decide) dX13_holds_15 ?_
    refine g_sub [] rfl ?_
    exact k_X13_holds_16 C ret hk 0 w3 L4 h
  · replace h := h.1 hc
    refine g_iconst C 1 (by decide) dX13_holds_11 ?_
    refine g_goto C 16 dX13_holds_12 (by decide) ?_
    refine g_sub [] rfl ?_
    exact k_X13_holds_16 C ret hk 1 w3 L4 h
def B_X13_holds (Bk : Nat → (Int32 → Wd → va_W → Prop) → Wd → va_W → Prop) (N : Nat) (x0 : Nat) (post : Int32 → Wd → va_W → Prop) (w : Wd) (L : va_W) : Prop := B_X13_holds_0 Bk N post x0 w L
theorem m_X13_holds {l : Launch} {K : gK} {N : Nat} {post : Int32 → Wd → va_W → Prop} {d : Nat} {Bk : Nat → (Int32 → Wd → va_W → Prop) → Wd → va_W → Prop} {x0 : Nat} {w : Wd} {L : va_W} (hk : ∀ {z0 : Nat} {p0 : Int32 → Wd → va_W → Prop} {w0 : Wd} {L0 : va_W}, Bk z0 p0 w0 L0 → gAV l K (⟨"OneBears$Test", "holds", "([I)Z"⟩ : MethodName) z0 [.ref (xa K 5)] (xL K w0 ++ L0) (xPi K p0) (rm_holds d)) (h : B_X13_holds Bk N x0 post w L) : gMi l K yX13_holds cX13_holds 2 (some .boolean) (rm_X13_holds d) [.ref x0, .ref (xa K 5)] (xL K w ++ L) (xPi K post) 0 0 := by
  refine g_inI (ls0 := [(0, .ref x0), (1, .ref (xa K 5))]) (by decide) (Nat.le_of_ble_eq_true rfl) rfl (fun Γ hl C hn ret => ?_)
  subst hl
  exact k_X13_holds_0 C ret hk x0 w L h
def B_X15_holds_33 (Bk : Nat → (Int32 → Wd → va_W → Prop) → Wd → va_W → Prop) (N : Nat) (post : Int32 → Wd → va_W → Prop) (s0 : Int32) (w : Wd) (L : va_W) : Prop :=
  gZ s0 ∧ post s0 w L
set_option maxHeartbeats 4000000 in
theorem k_X15_holds_33 {Γ : gT} {K : gK} {N : Nat} {post : Int32 → Wd → va_W → Prop} {d : Nat} {Bk : Nat → (Int32 → Wd → va_W → Prop) → Wd → va_W → Prop} (C : gC Γ K RX15 cX15_holds 3 (rm_X15_holds d)) (ret : gRi Γ K cX15_holds (some .boolean) (xPi K post) 0 0) (hk : ∀ {z0 : Nat} {p0 : Int32 → Wd → va_W → Prop} {w0 : Wd} {L0 : va_W}, Bk z0 p0 w0 L0 → gAV Γ.l K (⟨"OneBears$Test", "holds", "([I)Z"⟩ : MethodName) z0 [.ref (xa K 5)] (xL K w0 ++ L0) (xPi K p0) (rm_holds d)) (s0 : Int32) (w : Wd) (L : va_W) (h : B_X15_holds_33 Bk N post s0 w L) : gJ Γ K 0 0 (xL K w ++ L) 33 [] [.int s0] := by
  unfold B_X15_holds_33 at h
  obtain ⟨hz, h⟩ := h
  exact ret _ _ _ _ _ rfl hz.n dX15_holds_33 ⟨_, _, rfl, h⟩
def B_X15_holds_5s (Bk : Nat → (Int32 → Wd → va_W → Prop) → Wd → va_W → Prop) (r5 : Nat → Option Nat → Wd → va_W → Prop) (N : Nat) (post : Int32 → Wd → va_W → Prop) (x0 : Nat) (x2 : Option Nat) (w : Wd) (L : va_W) : Prop :=
  (x2 = none →
    ∃ (k2 : Nat) (f2 : List Value) (v2 : Int32), L[k2]? = some (x0, .inr (10, f2)) ∧ f2[1]? = some (.int v2) ∧ gZ v2 ∧ post v2 w L) ∧
  (∀ y1 : Nat, x2 = some y1 →
    ∃ y3 : Nat, x2 = some y3 ∧ Bk y3 (fun (v6 : Int32) (w4 : Wd) (L5 : va_W) =>
  ∃ (k7 : Nat) (f7 : List Value) (v7 : Int32), L5[k7]? = some (x0, .inr (10, f7)) ∧ f7[1]? = some (.int v7) ∧ (v6 = v7 →
      ∃ (y8 k8 c8 : Nat) (f8 : List Value) (v8 : Option Nat), x2 = some y8 ∧ (c8 = 8 ∨ c8 = 9 ∨ c8 = 10) ∧ L5[k8]? = some (y8, .inr (c8, f8)) ∧ f8[0]? = some (va_rf v8) ∧ r5 x0 v8 w4 L5) ∧
    (¬ v6 = v7 →
      ∃ (k9 : Nat) (f9 : List Value) (v9 : Int32), L5[k9]? = some (x0, .inr (10, f9)) ∧ f9[1]? = some (.int v9) ∧ (v9 = 0 →
        B_X15_holds_33 Bk N post 1 w4 L5) ∧
      (¬ v9 = 0 →
        B_X15_holds_33 Bk N post 0 w4 L5))) w L)
def B_X15_holds_5 (Bk : Nat → (Int32 → Wd → va_W → Prop) → Wd → va_W → Prop) (N : Nat) (post : Int32 → Wd → va_W → Prop) : Nat → Nat → Option Nat → Wd → va_W → Prop
  | 0, _, _, _, _ => False
  | n + 1, x0, x2, w, L => B_X15_holds_5s Bk (B_X15_holds_5 Bk N post n) N post x0 x2 w L
set_option maxHeartbeats 4000000 in
theorem k_X15_holds_5s {Γ : gT} {K : gK} {N : Nat} {post : Int32 → Wd → va_W → Prop} {d : Nat} {Bk : Nat → (Int32 → Wd → va_W → Prop) → Wd → va_W → Prop} (C : gC Γ K RX15 cX15_holds 3 (rm_X15_holds d)) (ret : gRi Γ K cX15_holds (some .boolean) (xPi K post) 0 0) (hk : ∀ {z0 : Nat} {p0 : Int32 → Wd → va_W → Prop} {w0 : Wd} {L0 : va_W}, Bk z0 p0 w0 L0 → gAV Γ.l K (⟨"OneBears$Test", "holds", "([I)Z"⟩ : MethodName) z0 [.ref (xa K 5)] (xL K w0 ++ L0) (xPi K p0) (rm_holds d)) {r5 : Nat → Option Nat → Wd → va_W → Prop} (hr5 : ∀ (x0 : Nat) (x2 : Option Nat) (w : Wd) (L : va_W), r5 x0 x2 w L → gJ Γ K 0 0 (xL K w ++ L) 5 [(0, .ref x0), (1, .ref (xa K 5)), (2, va_rf x2)] []) (x0 : Nat) (x2 : Option Nat) (w : Wd) (L : va_W) (h : B_X15_holds_5s Bk r5 N post x0 x2 w L) : gJ Γ K 0 0 (xL K w ++ L) 5 [(0, .ref x0), (1, .ref (xa K 5)), (2, va_rf x2)] [] := by
  unfold B_X15_holds_5s at h
  refine g_aload_nq C 2 rfl dX15_holds_5 ?_
  refine g_ifnull C 42 dX15_holds_6 (by decide) (fun hc => ?_) (fun y1 hc => ?_)
  · replace h := h.1 hc
    refine g_aload_n C 0 rfl dX15_holds_42 ?_
    obtain ⟨k2, f2, v2, e2, g2, h⟩ := h
    refine xd_Several_isAll C q630 e2 g2 dX15_holds_43 ?_
    obtain ⟨hz, h⟩ := h
    exact ret _ _ _ _ _ rfl hz.n dX15_holds_46 ⟨_, _, rfl, h⟩
  · replace h := h.2 y1 hc
    refine g_aload_nq C 2 rfl dX15_holds_9 ?_
    refine g_aload_n C 1 rfl dX15_holds_10 ?_
    obtain ⟨y3, ey3, h⟩ := h
    refine g_stk (st' := [.ref (xa K 5), .ref y3]) (by rw [ey3]; rfl) ?_
    refine g_callAi C (As := [.ref (xa K 5)]) (rest := []) (hk h) (by dsimp only [rm_X15_holds, rm_holds]; omega) q849 (by decide +kernel) 1 rfl (by decide +kernel) rfl (Nat.le_of_ble_eq_true rfl) ⟨Nat.zero_le _, Nat.zero_le _⟩ dX15_holds_11 ?_
    rintro v6 _ ⟨w4, L5, rfl, h⟩
    refine g_aload_n C 0 rfl dX15_holds_14 ?_
    obtain ⟨k7, f7, v7, e7, g7, h⟩ := h
    refine xd_Several_isAll C q630 e7 g7 dX15_holds_15 ?_
    refine g_icmp_eq C 34 dX15_holds_18 (by decide) (fun hc => ?_) (fun hc => ?_)
    · replace h := h.1 hc
      refine g_aload_nq C 2 rfl dX15_holds_34 ?_
      obtain ⟨y8, k8, c8, f8, v8, ey8, hc8, e8, g8, h⟩ := h
      refine g_stk (st' := [.ref y8]) (by rw [ey8]; rfl) ?_
      refine xdN_Test_next C nf_X15_20 hc8 e8 g8 dX15_holds_35 ?_
      refine g_astore_nq C rfl (lt := [(2, va_rf v8), (0, .ref x0), (1, .ref (xa K 5))]) dX15_holds_38 (by decide) rfl ?_
      refine g_goto C 5 dX15_holds_39 (by decide) ?_
      refine g_sub [1, 2, 0] rfl ?_
      exact hr5 x0 v8 w4 L5 h
    · replace h := h.2 hc
      refine g_aload_n C 0 rfl dX15_holds_21 ?_
      obtain ⟨k9, f9, v9, e9, g9, h⟩ := h
      refine xd_Several_isAll C q630 e9 g9 dX15_holds_22 ?_
      refine g_if_ne C 32 dX15_holds_25 (by decide) (fun hc => ?_) (fun hc => ?_)
      · replace h := h.2 hc
        refine g_iconst C 0 (by decide) dX15_holds_32 ?_
        refine g_sub [] rfl ?_
        exact k_X15_holds_33 C ret hk 0 w4 L5 h
      · replace h := h.1 hc
        refine g_iconst C 1 (by decide) dX15_holds_28 ?_
        refine g_goto C 33 dX15_holds_29 (by decide) ?_
        refine g_sub [] rfl ?_
        exact k_X15_holds_33 C ret hk 1 w4 L5 h
theorem k_X15_holds_5 {Γ : gT} {K : gK} {N : Nat} {post : Int32 → Wd → va_W → Prop} {d : Nat} {Bk : Nat → (Int32 → Wd → va_W → Prop) → Wd → va_W → Prop} (C : gC Γ K RX15 cX15_holds 3 (rm_X15_holds d)) (ret : gRi Γ K cX15_holds (some .boolean) (xPi K post) 0 0) (hk : ∀ {z0 : Nat} {p0 : Int32 → Wd → va_W → Prop} {w0 : Wd} {L0 : va_W}, Bk z0 p0 w0 L0 → gAV Γ.l K (⟨"OneBears$Test", "holds", "([I)Z"⟩ : MethodName) z0 [.ref (xa K 5)] (xL K w0 ++ L0) (xPi K p0) (rm_holds d)) : ∀ (n : Nat) (x0 : Nat) (x2 : Option Nat) (w : Wd) (L : va_W) (h : B_X15_holds_5 Bk N post n x0 x2 w L), gJ Γ K 0 0 (xL K w ++ L) 5 [(0, .ref x0), (1, .ref (xa K 5)), (2, va_rf x2)] [] := by
  intro n
  induction n with
  | zero => intro x0 x2 w L h; exact h.elim
  | succ n ih => intro x0 x2 w L h; exact k_X15_holds_5s C ret hk ih x0 x2 w L h
def B_X15_holds_0 (Bk : Nat → (Int32 → Wd → va_W → Prop) → Wd → va_W → Prop) (N : Nat) (post : Int32 → Wd → va_W → Prop) (x0 : Nat) (w : Wd) (L : va_W) : Prop :=
  ∃ (k1 : Nat) (f1 : List Value) (v1 : Option Nat), L[k1]? = some (x0, .inr (10, f1)) ∧ f1[2]? = some (va_rf v1) ∧ B_X15_holds_5 Bk N post N x0 v1 w L
set_option maxHeartbeats 4000000 in
theorem k_X15_holds_0 {Γ : gT} {K : gK} {N : Nat} {post : Int32 → Wd → va_W → Prop} {d : Nat} {Bk : Nat → (Int32 → Wd → va_W → Prop) → Wd → va_W → Prop} (C : gC Γ K RX15 cX15_holds 3 (rm_X15_holds d)) (ret : gRi Γ K cX15_holds (some .boolean) (xPi K post) 0 0) (hk : ∀ {z0 : Nat} {p0 : Int32 → Wd → va_W → Prop} {w0 : Wd} {L0 : va_W}, Bk z0 p0 w0 L0 → gAV Γ.l K (⟨"OneBears$Test", "holds", "([I)Z"⟩ : MethodName) z0 [.ref (xa K 5)] (xL K w0 ++ L0) (xPi K p0) (rm_holds d)) (x0 : Nat) (w : Wd) (L : va_W) (h : B_X15_holds_0 Bk N post x0 w L) : gJ Γ K 0 0 (xL K w ++ L) 0 [(0, .ref x0), (1, .ref (xa K 5))] [] := by
  unfold B_X15_holds_0 at h
  refine g_aload_n C 0 rfl dX15_holds_0 ?_
  obtain ⟨k1, f1, v1, e1, g1, h⟩ := h
  refine xd_Several_first C q631 e1 g1 dX15_holds_1 ?_
  refine g_astore_nq C rfl (lt := [(2, va_rf v1), (0, .ref x0), (1, .ref (xa K 5))]) dX15_holds_4 (by decide) rfl ?_
  refine g_sub [1, 2, 0] rfl ?_
  exact k_X15_holds_5 C ret hk N x0 v1 w L h
def B_X15_holds (Bk : Nat → (Int32 → Wd → va_W → Prop) → Wd → va_W → Prop) (N : Nat) (x0 : Nat) (post : Int32 → Wd → va_W → Prop) (w : Wd) (L : va_W) : Prop := B_X15_holds_0 Bk N post x0 w L
theorem m_X15_holds {l : Launch} {K : gK} {N : Nat} {post : Int32 → Wd → va_W → Prop} {d : Nat} {Bk : Nat → (Int32 → Wd → va_W → Prop) → Wd → va_W → Prop} {x0 : Nat} {w : Wd} {L : va_W} (hk : ∀ {z0 : Nat} {p0 : Int32 → Wd → va_W → Prop} {w0 : Wd} {L0 : va_W}, Bk z0 p0 w0 L0 → gAV l K (⟨"OneBears$Test", "holds", "([I)Z"⟩ : MethodName) z0 [.ref (xa K 5)] (xL K w0 ++ L0) (xPi K p0) (rm_holds d)) (h : B_X15_holds Bk N x0 post w L) : gMi l K yX15_holds cX15_holds 3 (some .boolean) (rm_X15_holds d) [.ref x0, .ref (xa K 5)] (xL K w ++ L) (xPi K post) 0 0 := by
  refine g_inI (ls0 := [(0, .ref x0), (1, .ref (xa K 5))]) (by decide) (Nat.le_of_ble_eq_true rfl) rfl (fun Γ hl C hn ret => ?_)
  subst hl
  exact k_X15_holds_0 C ret hk x0 w L h
def B_holds1 (Bk : Nat → (Int32 → Wd → va_W → Prop) → Wd → va_W → Prop) (N : Nat) (z0 : Nat) (p0 : Int32 → Wd → va_W → Prop) (w0 : Wd) (L0 : va_W) : Prop := (∃ (k : Nat) (fs : List Value), L0[k]? = some (z0, .inr (8, fs)) ∧ B_X14_holds Bk N z0 p0 w0 L0) ∨ (∃ (k : Nat) (fs : List Value), L0[k]? = some (z0, .inr (9, fs)) ∧ B_X13_holds Bk N z0 p0 w0 L0) ∨ (∃ (k : Nat) (fs : List Value), L0[k]? = some (z0, .inr (10, fs)) ∧ B_X15_holds Bk N z0 p0 w0 L0)
theorem a_holds1 {l : Launch} {K : gK} {N d : Nat} {Bk : Nat → (Int32 → Wd → va_W → Prop) → Wd → va_W → Prop} (hk : ∀ {z0 : Nat} {p0 : Int32 → Wd → va_W → Prop} {w0 : Wd} {L0 : va_W}, Bk z0 p0 w0 L0 → gAV l K (⟨"OneBears$Test", "holds", "([I)Z"⟩ : MethodName) z0 [.ref (xa K 5)] (xL K w0 ++ L0) (xPi K p0) (rm_holds d)) {z0 : Nat} {p0 : Int32 → Wd → va_W → Prop} {w0 : Wd} {L0 : va_W} (h : B_holds1 Bk N z0 p0 w0 L0) : gAV l K (⟨"OneBears$Test", "holds", "([I)Z"⟩ : MethodName) z0 [.ref (xa K 5)] (xL K w0 ++ L0) (xPi K p0) (rm_holds (d + 1)) := by
  rcases h with ⟨k, fs, e, h⟩ | ⟨k, fs, e, h⟩ | ⟨k, fs, e, h⟩
  · exact ⟨31 + k, 8, fs, RX14, TX14, 4, yX14_holds, cX14_holds, 4, _, rm_X14_holds d, x_at e, rfl, q813, q814, q815, q99, q816, m_X14_holds hk h, rfl, rfl, by dsimp only [rm_holds, rm_X14_holds]; omega, by dsimp only [rm_holds, rm_X14_holds]; omega⟩
  · exact ⟨31 + k, 9, fs, RX13, TX13, 2, yX13_holds, cX13_holds, 2, _, rm_X13_holds d, x_at e, rfl, q813, q843, q844, q98, q845, m_X13_holds hk h, rfl, rfl, by dsimp only [rm_holds, rm_X13_holds]; omega, by dsimp only [rm_holds, rm_X13_holds]; omega⟩
  · exact ⟨31 + k, 10, fs, RX15, TX15, 4, yX15_holds, cX15_holds, 3, _, rm_X15_holds d, x_at e, rfl, q813, q850, q847, q100, q848, m_X15_holds hk h, rfl, rfl, by dsimp only [rm_holds, rm_X15_holds]; omega, by dsimp only [rm_holds, rm_X15_holds]; omega⟩
def B_holdsd (N : Nat) : Nat → Nat → (Int32 → Wd → va_W → Prop) → Wd → va_W → Prop
  | 0, _, _, _, _ => False
  | d + 1, z0, p0, w0, L0 => B_holds1 (B_holdsd N d) N z0 p0 w0 L0
theorem a_holdsd {l : Launch} {K : gK} {N : Nat} : ∀ (d : Nat) {z0 : Nat} {p0 : Int32 → Wd → va_W → Prop} {w0 : Wd} {L0 : va_W}, B_holdsd N d z0 p0 w0 L0 → gAV l K (⟨"OneBears$Test", "holds", "([I)Z"⟩ : MethodName) z0 [.ref (xa K 5)] (xL K w0 ++ L0) (xPi K p0) (rm_holds d) := by
  intro d
  induction d with
  | zero => intro z0 p0 w0 L0 h; exact h.elim
  | succ d ih => intro z0 p0 w0 L0 h; exact a_holds1 (d := d) (Bk := B_holdsd N d) (N := N) ih h
def B_holds (N : Nat) (z0 : Nat) (p0 : Int32 → Wd → va_W → Prop) (w0 : Wd) (L0 : va_W) : Prop := B_holdsd N 40 z0 p0 w0 L0
theorem a_holds {l : Launch} {K : gK} {N : Nat} {z0 : Nat} {p0 : Int32 → Wd → va_W → Prop} {w0 : Wd} {L0 : va_W} (h : B_holds N z0 p0 w0 L0) : gAV l K (⟨"OneBears$Test", "holds", "([I)Z"⟩ : MethodName) z0 [.ref (xa K 5)] (xL K w0 ++ L0) (xPi K p0) (rm_holds 40) := a_holdsd 40 h
def rm_X1_worth : Room := { frames := 361, cells := 0, slots := 0, locals := 8703 }
def B_X1_worth_32 (N : Nat) (post : Int32 → Wd → va_W → Prop) (x3 : Option Nat) (w : Wd) (L : va_W) : Prop :=
  ∃ (y1 k1 : Nat) (f1 : List Value) (v1 : Option Nat), x3 = some y1 ∧ L[k1]? = some (y1, .inr (11, f1)) ∧ f1[2]? = some (va_rf v1) ∧ ∃ y2 : Nat, v1 = some y2 ∧ B_value N y2 (fun (v5 : Int32) (w3 : Wd) (L4 : va_W) =>
  post v5 w3 L4) w L
set_option maxHeartbeats 4000000 in
theorem k_X1_worth_32 {Γ : gT} {K : gK} {N : Nat} {post : Int32 → Wd → va_W → Prop} (C : gC Γ K RX1 cX1_worth 4 rm_X1_worth) (ret : gRi Γ K cX1_worth (some .int) (xPi K post) 0 0) (x3 : Option Nat) (w : Wd) (L : va_W) (h : B_X1_worth_32 N post x3 w L) : gJ Γ K 0 0 (xL K w ++ L) 32 [(2, .ref (xa K 5)), (3, va_rf x3)] [] := by
  unfold B_X1_worth_32 at h
  refine g_aload_nq C 1 rfl dX1_worth_32 ?_
  obtain ⟨y1, k1, f1, v1, ey1, e1, g1, h⟩ := h
  refine g_stk (st' := [.ref y1]) (by rw [ey1]; rfl) ?_
  refine xdN_Clause_sum C nf_X1_216 e1 g1 dX1_worth_33 ?_
  refine g_aload_n C 0 rfl dX1_worth_36 ?_
  obtain ⟨y2, ey2, h⟩ := h
  refine g_stk (st' := [.ref (xa K 5), .ref y2]) (by rw [ey2]; rfl) ?_
  refine g_callAi C (As := [.ref (xa K 5)]) (rest := []) (a_value h) ⟨Nat.le_of_ble_eq_true rfl, Nat.le_of_ble_eq_true rfl⟩ q851 (by decide +kernel) 1 rfl (by decide +kernel) rfl (Nat.le_of_ble_eq_true rfl) ⟨Nat.zero_le _, Nat.zero_le _⟩ dX1_worth_37 ?_
  rintro v5 _ ⟨w3, L4, rfl, h⟩
  exact ret _ _ _ _ _ rfl rfl dX1_worth_40 ⟨_, _, rfl, h⟩
def B_X1_worth_41 (r2 : Int32 → Option Nat → Wd → va_W → Prop) (N : Nat) (post : Int32 → Wd → va_W → Prop) (x1 : Int32) (x3 : Option Nat) (w : Wd) (L : va_W) : Prop :=
  ∃ (y1 k1 : Nat) (f1 : List Value) (v1 : Option Nat), x3 = some y1 ∧ L[k1]? = some (y1, .inr (11, f1)) ∧ f1[3]? = some (va_rf v1) ∧ r2 x1 v1 w L
set_option maxHeartbeats 4000000 in
theorem k_X1_worth_41 {Γ : gT} {K : gK} {N : Nat} {post : Int32 → Wd → va_W → Prop} (C : gC Γ K RX1 cX1_worth 4 rm_X1_worth) (ret : gRi Γ K cX1_worth (some .int) (xPi K post) 0 0) {r2 : Int32 → Option Nat → Wd → va_W → Prop} (hr2 : ∀ (x1 : Int32) (x3 : Option Nat) (w : Wd) (L : va_W), r2 x1 x3 w L → gJ Γ K 0 0 (xL K w ++ L) 2 [(1, .int x1), (2, .ref (xa K 5)), (3, va_rf x3)] []) (x1 : Int32) (x3 : Option Nat) (w : Wd) (L : va_W) (h : B_X1_worth_41 r2 N post x1 x3 w L) : gJ Γ K 0 0 (xL K w ++ L) 41 [(1, .int x1), (2, .ref (xa K 5)), (3, va_rf x3)] [] := by
  unfold B_X1_worth_41 at h
  refine g_aload_nq C 2 rfl dX1_worth_41 ?_
  obtain ⟨y1, k1, f1, v1, ey1, e1, g1, h⟩ := h
  refine g_stk (st' := [.ref y1]) (by rw [ey1]; rfl) ?_
  refine xdN_Clause_next C nf_X1_189 e1 g1 dX1_worth_42 ?_
  refine g_astore_nq C rfl (lt := [(3, va_rf v1), (1, .int x1), (2, .ref (xa K 5))]) dX1_worth_45 (by decide) rfl ?_
  refine g_goto C 2 dX1_worth_46 (by decide) ?_
  refine g_sub [1, 2, 0] rfl ?_
  exact hr2 x1 v1 w L h
def B_X1_worth_2s (r2 : Int32 → Option Nat → Wd → va_W → Prop) (N : Nat) (post : Int32 → Wd → va_W → Prop) (x1 : Int32) (x3 : Option Nat) (w : Wd) (L : va_W) : Prop :=
  (x3 = none →
    post 0 w L) ∧
  (∀ y1 : Nat, x3 = some y1 →
    ∃ (y2 k2 : Nat) (f2 : List Value) (v2 : Int32), x3 = some y2 ∧ L[k2]? = some (y2, .inr (11, f2)) ∧ f2[0]? = some (.int v2) ∧ (v2 = x1 →
      ∃ (y3 k3 : Nat) (f3 : List Value) (v3 : Option Nat), x3 = some y3 ∧ L[k3]? = some (y3, .inr (11, f3)) ∧ f3[1]? = some (va_rf v3) ∧ (v3 = none →
        B_X1_worth_32 N post x3 w L) ∧
      (∀ y4 : Nat, v3 = some y4 →
        ∃ (y5 k5 : Nat) (f5 : List Value) (v5 : Option Nat), x3 = some y5 ∧ L[k5]? = some (y5, .inr (11, f5)) ∧ f5[1]? = some (va_rf v5) ∧ ∃ y6 : Nat, v5 = some y6 ∧ B_holds N y6 (fun (v9 : Int32) (w7 : Wd) (L8 : va_W) =>
  (v9 = 0 →
          B_X1_worth_41 r2 N post x1 x3 w7 L8) ∧
        (¬ v9 = 0 →
          B_X1_worth_32 N post x3 w7 L8)) w L)) ∧
    (¬ v2 = x1 →
      B_X1_worth_41 r2 N post x1 x3 w L))
def B_X1_worth_2 (N : Nat) (post : Int32 → Wd → va_W → Prop) : Nat → Int32 → Option Nat → Wd → va_W → Prop
  | 0, _, _, _, _ => False
  | n + 1, x1, x3, w, L => B_X1_worth_2s (B_X1_worth_2 N post n) N post x1 x3 w L
set_option maxHeartbeats 4000000 in
theorem k_X1_worth_2s {Γ : gT} {K : gK} {N : Nat} {post : Int32 → Wd → va_W → Prop} (C : gC Γ K RX1 cX1_worth 4 rm_X1_worth) (ret : gRi Γ K cX1_worth (some .int) (xPi K post) 0 0) {r2 : Int32 → Option Nat → Wd → va_W → Prop} (hr2 : ∀ (x1 : Int32) (x3 : Option Nat) (w : Wd) (L : va_W), r2 x1 x3 w L → gJ Γ K 0 0 (xL K w ++ L) 2 [(1, .int x1), (2, .ref (xa K 5)), (3, va_rf x3)] []) (x1 : Int32) (x3 : Option Nat) (w : Wd) (L : va_W) (h : B_X1_worth_2s r2 N post x1 x3 w L) : gJ Γ K 0 0 (xL K w ++ L) 2 [(1, .int x1), (2, .ref (xa K 5)), (3, va_rf x3)] [] := by
  unfold B_X1_worth_2s at h
  refine g_aload_nq C 2 rfl dX1_worth_2 ?_
  refine g_ifnull C 49 dX1_worth_3 (by decide) (fun hc => ?_) (fun y1 hc => ?_)
  · replace h := h.1 hc
    refine g_iconst C 0 (by decide) dX1_worth_49 ?_
    exact ret _ _ _ _ _ rfl rfl dX1_worth_50 ⟨_, _, rfl, h⟩
  · replace h := h.2 y1 hc
    refine g_aload_nq C 2 rfl dX1_worth_6 ?_
    obtain ⟨y2, k2, f2, v2, ey2, e2, g2, h⟩ := h
    refine g_stk (st' := [.ref y2]) (by rw [ey2]; rfl) ?_
    refine xdN_Clause_label C nf_X1_203 e2 g2 dX1_worth_7 ?_
    refine g_iload_n C 0 rfl dX1_worth_10 ?_
    refine g_icmp_ne C 41 dX1_worth_11 (by decide) (fun hc => ?_) (fun hc => ?_)
    · replace h := h.2 hc
      exact k_X1_worth_41 C ret hr2 x1 x3 w L h
    · replace h := h.1 hc
      refine g_aload_nq C 2 rfl dX1_worth_14 ?_
      obtain ⟨y3, k3, f3, v3, ey3, e3, g3, h⟩ := h
      refine g_stk (st' := [.ref y3]) (by rw [ey3]; rfl) ?_
      refine xdN_Clause_test C nf_X1_206 e3 g3 dX1_worth_15 ?_
      refine g_ifnull C 32 dX1_worth_18 (by decide) (fun hc => ?_) (fun y4 hc => ?_)
      · replace h := h.1 hc
        refine g_sub [1, 2] rfl ?_
        exact k_X1_worth_32 C ret x3 w L h
      · replace h := h.2 y4 hc
        refine g_aload_nq C 2 rfl dX1_worth_21 ?_
        obtain ⟨y5, k5, f5, v5, ey5, e5, g5, h⟩ := h
        refine g_stk (st' := [.ref y5]) (by rw [ey5]; rfl) ?_
        refine xdN_Clause_test C nf_X1_206 e5 g5 dX1_worth_22 ?_
        refine g_aload_n C 1 rfl dX1_worth_25 ?_
        obtain ⟨y6, ey6, h⟩ := h
        refine g_stk (st' := [.ref (xa K 5), .ref y6]) (by rw [ey6]; rfl) ?_
        refine g_callAi C (As := [.ref (xa K 5)]) (rest := []) (a_holds h) ⟨Nat.le_of_ble_eq_true rfl, Nat.le_of_ble_eq_true rfl⟩ q811 (by decide +kernel) 1 rfl (by decide +kernel) rfl (Nat.le_of_ble_eq_true rfl) ⟨Nat.zero_le _, Nat.zero_le _⟩ dX1_worth_26 ?_
        rintro v9 _ ⟨w7, L8, rfl, h⟩
        refine g_if_eq C 41 dX1_worth_29 (by decide) (fun hc => ?_) (fun hc => ?_)
        · replace h := h.1 hc
          exact k_X1_worth_41 C ret hr2 x1 x3 w7 L8 h
        · replace h := h.2 hc
          refine g_sub [1, 2] rfl ?_
          exact k_X1_worth_32 C ret x3 w7 L8 h
theorem k_X1_worth_2 {Γ : gT} {K : gK} {N : Nat} {post : Int32 → Wd → va_W → Prop} (C : gC Γ K RX1 cX1_worth 4 rm_X1_worth) (ret : gRi Γ K cX1_worth (some .int) (xPi K post) 0 0) : ∀ (n : Nat) (x1 : Int32) (x3 : Option Nat) (w : Wd) (L : va_W) (h : B_X1_worth_2 N post n x1 x3 w L), gJ Γ K 0 0 (xL K w ++ L) 2 [(1, .int x1), (2, .ref (xa K 5)), (3, va_rf x3)] [] := by
  intro n
  induction n with
  | zero => intro x1 x3 w L h; exact h.elim
  | succ n ih => intro x1 x3 w L h; exact k_X1_worth_2s C ret ih x1 x3 w L h
def B_X1_worth_0 (N : Nat) (post : Int32 → Wd → va_W → Prop) (x0 : Option Nat) (x1 : Int32) (w : Wd) (L : va_W) : Prop :=
  B_X1_worth_2 N post N x1 x0 w L
set_option maxHeartbeats 4000000 in
theorem k_X1_worth_0 {Γ : gT} {K : gK} {N : Nat} {post : Int32 → Wd → va_W → Prop} (C : gC Γ K RX1 cX1_worth 4 rm_X1_worth) (ret : gRi Γ K cX1_worth (some .int) (xPi K post) 0 0) (x0 : Option Nat) (x1 : Int32) (w : Wd) (L : va_W) (h : B_X1_worth_0 N post x0 x1 w L) : gJ Γ K 0 0 (xL K w ++ L) 0 [(0, va_rf x0), (1, .int x1), (2, .ref (xa K 5))] [] := by
  unfold B_X1_worth_0 at h
  refine g_aload_nq C 0 rfl dX1_worth_0 ?_
  refine g_astore_nq C rfl (lt := [(3, va_rf x0), (0, va_rf x0), (1, .int x1), (2, .ref (xa K 5))]) dX1_worth_1 (by decide) rfl ?_
  refine g_sub [2, 3, 0] rfl ?_
  exact k_X1_worth_2 C ret N x1 x0 w L h
def B_X1_worth (N : Nat) (x0 : Option Nat) (x1 : Int32) (post : Int32 → Wd → va_W → Prop) (w : Wd) (L : va_W) : Prop := B_X1_worth_0 N post x0 x1 w L
theorem m_X1_worth {l : Launch} {K : gK} {N : Nat} {post : Int32 → Wd → va_W → Prop} {x0 : Option Nat} {x1 : Int32} {w : Wd} {L : va_W} (h : B_X1_worth N x0 x1 post w L) : gMi l K yX1_worth cX1_worth 4 (some .int) rm_X1_worth [va_rf x0, .int x1, .ref (xa K 5)] (xL K w ++ L) (xPi K post) 0 0 := by
  refine g_inI (ls0 := [(0, va_rf x0), (1, .int x1), (2, .ref (xa K 5))]) (by decide) (by cases x0 <;> exact Nat.le_of_ble_eq_true rfl) (by cases x0 <;> rfl) (fun Γ hl C hn ret => ?_)
  exact k_X1_worth_0 C ret x0 x1 w L h
