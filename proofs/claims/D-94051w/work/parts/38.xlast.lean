set_option maxRecDepth 100000
def rm_X1_fault (mc : Nat) : Room := { frames := 59, cells := mc, slots := 4 * mc, locals := 1355 }
def B_X1_fault_7 (N : Nat) (mc : Nat) (post : Int32 → Wd → va_W → Prop) (i : Nat) (s0 : Nat) (w : Wd) (L : va_W) : Prop :=
  post (xi w 1) w L
set_option maxHeartbeats 4000000 in
theorem k_X1_fault_7 {Γ : gT} {K : gK} {N : Nat} {mc : Nat} {post : Int32 → Wd → va_W → Prop} (C : gC Γ K RX1 cX1_fault 2 (rm_X1_fault mc)) (ret : gXiR Γ K cX1_fault (some .int) (xPi K post) mc) (htab : Γ.c.exceptionTable.toList = tableOf [(0, 6, 7, 7)]) (i : Nat) (s0 : Nat) (w : Wd) (L : va_W) (hi : i ≤ mc) (h : B_X1_fault_7 N mc post i s0 w L) : gJ Γ K i (4 * i) (xL K w ++ L) 7 [(0, .ref (xa K 0))] [.ref s0] := by
  unfold B_X1_fault_7 at h
  refine g_astore_n C rfl (lt := [(1, .ref s0), (0, .ref (xa K 0))]) dX1_fault_7 (by decide) rfl ?_
  refine g_aload_n C 1 rfl dX1_fault_8 ?_
  refine xg_place C q273 (xi w 1) rfl dX1_fault_9 ?_
  exact ret _ _ _ _ _ _ hi rfl rfl dX1_fault_12 ⟨_, _, rfl, h⟩
def B_X1_fault_0 (N : Nat) (mc : Nat) (post : Int32 → Wd → va_W → Prop) (i : Nat) (w : Wd) (L : va_W) : Prop :=
  ∃ m1 : Nat, i + m1 ≤ mc ∧ B_X1_whole N m1 (fun (v4 : Option Nat) (w2 : Wd) (L3 : va_W) =>
  post (-1) w2 L3) (fun (wX : Wd) (LX : va_W) => ∀ q9 : Nat, B_X1_fault_7 N mc post (i + m1) q9 wX LX) w L
set_option maxHeartbeats 4000000 in
theorem k_X1_fault_0 {Γ : gT} {K : gK} {N : Nat} {mc : Nat} {post : Int32 → Wd → va_W → Prop} (C : gC Γ K RX1 cX1_fault 2 (rm_X1_fault mc)) (ret : gXiR Γ K cX1_fault (some .int) (xPi K post) mc) (htab : Γ.c.exceptionTable.toList = tableOf [(0, 6, 7, 7)]) (i : Nat) (w : Wd) (L : va_W) (hi : i ≤ mc) (h : B_X1_fault_0 N mc post i w L) : gJ Γ K i (4 * i) (xL K w ++ L) 0 [(0, .ref (xa K 0))] [] := by
  unfold B_X1_fault_0 at h
  refine g_aload_n C 0 rfl dX1_fault_0 ?_
  obtain ⟨m1, hm1, h⟩ := h
  refine g_callXVq C (As := []) (rest := []) (m_X1_whole h) (lw_V q365 q367 qs1 q78 q368) (ci := 0) (qi := 0) rfl rfl ⟨rfl, rfl⟩ ⟨Nat.le_of_ble_eq_true rfl, Nat.le_of_ble_eq_true rfl⟩ 0 rfl (by decide +kernel) rfl (Nat.le_of_ble_eq_true rfl) ⟨rfl, rfl⟩ hm1 dX1_fault_1 (fun V9 q9 hx => ?_) ?_
  · obtain ⟨wX, LX, rfl, h⟩ := hx
    refine g_catch1 C htab (by decide) (by decide) q111 C.e.2.2.2.2.2.2.2.2.2.2.1 (fun q9 => ?_) q9
    replace h := h q9
    exact k_X1_fault_7 C ret htab (i + m1) q9 wX LX hm1 h
  rintro v4 _ ⟨w2, L3, rfl, h⟩
  refine g_popq C dX1_fault_4 ?_
  refine g_iconst C (-1) (by decide) dX1_fault_5 ?_
  exact ret _ _ _ _ _ _ hm1 rfl rfl dX1_fault_6 ⟨_, _, rfl, h⟩
def B_X1_fault (N : Nat) (mc : Nat) (post : Int32 → Wd → va_W → Prop) (w : Wd) (L : va_W) : Prop := B_X1_fault_0 N mc post 0 w L
theorem m_X1_fault {l : Launch} {K : gK} {N : Nat} {mc : Nat} {post : Int32 → Wd → va_W → Prop} {w : Wd} {L : va_W} (h : B_X1_fault N mc post w L) : gHi l K yX1_fault cX1_fault 2 (some .int) [(0, 6, 7, 7)] (rm_X1_fault mc) [.ref (xa K 0)] (xL K w ++ L) (xPi K post) mc := by
  refine g_inHI (ls0 := [(0, .ref (xa K 0))]) (by decide) (Nat.le_of_ble_eq_true rfl) rfl rfl rfl (fun Γ hl C hn ret htab => ?_)
  exact k_X1_fault_0 C ret htab 0 w L (Nat.zero_le _) h
def rm_X1_law (mc : Nat) : Room := { frames := 59, cells := mc, slots := 4 * mc, locals := 1355 }
def B_X1_law_27 (N : Nat) (mc : Nat) (post : Int32 → Wd → va_W → Prop) (i : Nat) (s0 : Nat) (w : Wd) (L : va_W) : Prop :=
  post (-1) w L
set_option maxHeartbeats 4000000 in
theorem k_X1_law_27 {Γ : gT} {K : gK} {N : Nat} {mc : Nat} {post : Int32 → Wd → va_W → Prop} (C : gC Γ K RX1 cX1_law 2 (rm_X1_law mc)) (ret : gXiR Γ K cX1_law (some .int) (xPi K post) mc) (htab : Γ.c.exceptionTable.toList = tableOf [(11, 24, 27, 7)]) (i : Nat) (s0 : Nat) (w : Wd) (L : va_W) (hi : i ≤ mc) (h : B_X1_law_27 N mc post i s0 w L) : gJ Γ K i (4 * i) (xL K w ++ L) 27 [] [.ref s0] := by
  unfold B_X1_law_27 at h
  refine g_astore_n C rfl (lt := [(1, .ref s0)]) dX1_law_27 (by decide) rfl ?_
  refine g_iconst C (-1) (by decide) dX1_law_28 ?_
  exact ret _ _ _ _ _ _ hi rfl rfl dX1_law_29 ⟨_, _, rfl, h⟩
def B_X1_law_0 (N : Nat) (mc : Nat) (post : Int32 → Wd → va_W → Prop) (i : Nat) (w : Wd) (L : va_W) : Prop :=
  ((xi w 3) = (6 : Int32) →
    post (-1) w L) ∧
  (¬ (xi w 3) = (6 : Int32) →
    ∃ m1 : Nat, i + m1 ≤ mc ∧ B_X1_whole N m1 (fun (v4 : Option Nat) (w2 : Wd) (L3 : va_W) =>
  ∃ (y5 k5 : Nat) (f5 : List Value), v4 = some y5 ∧ L3[k5]? = some (y5, .inr (11, f5)) ∧ vp_in (xi w 3) 6 ∧ ∀ w6 : Wd, w6 = (xsQ w2 (xi w 3).toNatClampNeg (some y5)) → post (((xi w6 3) + 1) - 1) (xsi (xsi w6 3 ((xi w6 3) + 1)) 0 0) L3) (fun (wX : Wd) (LX : va_W) => ∀ q9 : Nat, B_X1_law_27 N mc post (i + m1) q9 wX LX) w L)
set_option maxHeartbeats 4000000 in
theorem k_X1_law_0 {Γ : gT} {K : gK} {N : Nat} {mc : Nat} {post : Int32 → Wd → va_W → Prop} (C : gC Γ K RX1 cX1_law 2 (rm_X1_law mc)) (ret : gXiR Γ K cX1_law (some .int) (xPi K post) mc) (htab : Γ.c.exceptionTable.toList = tableOf [(11, 24, 27, 7)]) (i : Nat) (w : Wd) (L : va_W) (hi : i ≤ mc) (h : B_X1_law_0 N mc post i w L) : gJ Γ K i (4 * i) (xL K w ++ L) 0 [(0, .ref (xa K 0))] [] := by
  unfold B_X1_law_0 at h
  refine g_aload_n C 0 rfl dX1_law_0 ?_
  refine xg_lawMany C q278 (xi w 3) rfl dX1_law_1 ?_
  refine g_bipush C 6 (by decide) dX1_law_4 ?_
  refine g_icmp_ne C 11 dX1_law_6 (by decide) (fun hc => ?_) (fun hc => ?_)
  · replace h := h.2 hc
    refine g_aload_n C 0 rfl dX1_law_11 ?_
    refine xg_laws C q277 dX1_law_12 ?_
    refine g_aload_n C 0 rfl dX1_law_15 ?_
    refine xg_lawMany C q278 (xi w 3) rfl dX1_law_16 ?_
    refine g_aload_n C 0 rfl dX1_law_19 ?_
    obtain ⟨m1, hm1, h⟩ := h
    refine g_callXVq C (As := []) (rest := [.int (xi w 3), .ref (xa K 8)]) (m_X1_whole h) (lw_V q365 q367 qs1 q78 q368) (ci := 0) (qi := 0) rfl rfl ⟨rfl, rfl⟩ ⟨Nat.le_of_ble_eq_true rfl, Nat.le_of_ble_eq_true rfl⟩ 0 rfl (by decide +kernel) rfl (Nat.le_of_ble_eq_true rfl) ⟨rfl, rfl⟩ hm1 dX1_law_20 (fun V9 q9 hx => ?_) ?_
    · obtain ⟨wX, LX, rfl, h⟩ := hx
      refine g_catch1 C htab (by decide) (by decide) q111 C.e.2.2.2.2.2.2.2.2.2.2.1 (fun q9 => ?_) q9
      replace h := h q9
      refine g_sub [] rfl ?_
      exact k_X1_law_27 C ret htab (i + m1) q9 wX LX hm1 h
    rintro v4 _ ⟨w2, L3, rfl, h⟩
    obtain ⟨y5, k5, f5, ey5, e5, hb, h⟩ := h
    refine g_stk (st' := [.ref y5, .int (xi w 3), .ref (xa K 8)]) (by rw [ey5]; rfl) ?_
    refine xst_8 C (x_at e5) hb dX1_law_23 ?_
    obtain ⟨w6, ew6⟩ : ∃ z, z = (xsQ w2 (xi w 3).toNatClampNeg (some y5)) := ⟨_, rfl⟩
    replace h := h w6 ew6
    rw [← ew6]
    refine g_goto C 30 dX1_law_24 (by decide) ?_
    refine g_aload_n C 0 rfl dX1_law_30 ?_
    refine g_dup C rfl dX1_law_31 ?_
    refine xg_lawMany C q278 (xi w6 3) rfl dX1_law_32 ?_
    refine g_iconst C 1 (by decide) dX1_law_35 ?_
    refine g_iadd C dX1_law_36 ?_
    refine xp_lawMany C q278 dX1_law_37 ?_
    refine g_aload_n C 0 rfl dX1_law_40 ?_
    refine g_iconst C 0 (by decide) dX1_law_41 ?_
    refine xp_taped C q272 dX1_law_42 ?_
    refine g_aload_n C 0 rfl dX1_law_45 ?_
    refine xg_lawMany C q278 (((xi w6 3) + 1)) rfl dX1_law_46 ?_
    refine g_iconst C 1 (by decide) dX1_law_49 ?_
    refine g_isub C dX1_law_50 ?_
    exact ret _ _ _ _ _ _ hm1 rfl rfl dX1_law_51 ⟨_, _, rfl, h⟩
  · replace h := h.1 hc
    refine g_iconst C (-1) (by decide) dX1_law_9 ?_
    exact ret _ _ _ _ _ _ hi rfl rfl dX1_law_10 ⟨_, _, rfl, h⟩
def B_X1_law (N : Nat) (mc : Nat) (post : Int32 → Wd → va_W → Prop) (w : Wd) (L : va_W) : Prop := B_X1_law_0 N mc post 0 w L
theorem m_X1_law {l : Launch} {K : gK} {N : Nat} {mc : Nat} {post : Int32 → Wd → va_W → Prop} {w : Wd} {L : va_W} (h : B_X1_law N mc post w L) : gHi l K yX1_law cX1_law 2 (some .int) [(11, 24, 27, 7)] (rm_X1_law mc) [.ref (xa K 0)] (xL K w ++ L) (xPi K post) mc := by
  refine g_inHI (ls0 := [(0, .ref (xa K 0))]) (by decide) (Nat.le_of_ble_eq_true rfl) rfl rfl rfl (fun Γ hl C hn ret htab => ?_)
  exact k_X1_law_0 C ret htab 0 w L (Nat.zero_le _) h
def rm_X1_worth_2_III (mc : Nat) : Room := { frames := 363, cells := mc, slots := 4 * mc, locals := 8748 }
def B_X1_worth_2_III_25 (N : Nat) (mc : Nat) (post : Int32 → Wd → va_W → Prop) (postX : Wd → va_W → Prop) (i : Nat) (w : Wd) (L : va_W) : Prop :=
  i + 2 ≤ mc ∧ ∀ q9 : Nat, postX w (L ++ [(q9, .inr (13, []))])
set_option maxHeartbeats 4000000 in
theorem k_X1_worth_2_III_25 {Γ : gT} {K : gK} {N : Nat} {mc : Nat} {post : Int32 → Wd → va_W → Prop} {postX : Wd → va_W → Prop} (C : gC Γ K RX1 cX1_worth_2 4 (rm_X1_worth_2_III mc)) (ret : gXiR Γ K cX1_worth_2 (some .int) (xPi K post) mc) (hl0 : Γ.l.stackTraces = false) (thr : gXTE Γ K "java/util/NoSuchElementException" (xPv K postX) mc) (i : Nat) (w : Wd) (L : va_W) (hi : i ≤ mc) (h : B_X1_worth_2_III_25 N mc post postX i w L) : gJ Γ K i (4 * i) (xL K w ++ L) 25 [] [] := by
  unfold B_X1_worth_2_III_25 at h
  obtain ⟨hb, h⟩ := h
  exact g_throwN C hl0 ⟨Nat.le_of_ble_eq_true rfl, (Nat.le_of_ble_eq_true rfl)⟩ ⟨rfl, rfl⟩ hb dX1_worth_2_25 dX1_worth_2_28 dX1_worth_2_29 dX1_worth_2_32 (fun q9 => thr _ _ _ _ _ q9 hb ⟨_, _, List.append_assoc _ _ _, h q9⟩)
def B_X1_worth_2_III_95 (N : Nat) (mc : Nat) (post : Int32 → Wd → va_W → Prop) (postX : Wd → va_W → Prop) (i : Nat) (s0 : Int32) (s1 : Int32) (w : Wd) (L : va_W) : Prop :=
  B_X4_worthOf N s1 s0 (fun (v3 : Int32) (w1 : Wd) (L2 : va_W) =>
  post v3 w1 L2) w L
set_option maxHeartbeats 4000000 in
theorem k_X1_worth_2_III_95 {Γ : gT} {K : gK} {N : Nat} {mc : Nat} {post : Int32 → Wd → va_W → Prop} {postX : Wd → va_W → Prop} (C : gC Γ K RX1 cX1_worth_2 4 (rm_X1_worth_2_III mc)) (ret : gXiR Γ K cX1_worth_2 (some .int) (xPi K post) mc) (hl0 : Γ.l.stackTraces = false) (thr : gXTE Γ K "java/util/NoSuchElementException" (xPv K postX) mc) (i : Nat) (s0 : Int32) (s1 : Int32) (w : Wd) (L : va_W) (hi : i ≤ mc) (h : B_X1_worth_2_III_95 N mc post postX i s0 s1 w L) : gJ Γ K i (4 * i) (xL K w ++ L) 95 [] [.int s0, .int s1, .ref (xa K 1)] := by
  unfold B_X1_worth_2_III_95 at h
  refine g_callVi C (As := [.int s1, .int s0]) (rest := []) (m_X4_worthOf h) (lw_V q987 q763 q764 q83 q765) (ci := 1) (qi := 1) rfl rfl ⟨rfl, rfl⟩ ⟨Nat.le_of_ble_eq_true rfl, Nat.le_of_ble_eq_true rfl⟩ 2 rfl (by decide +kernel) rfl (Nat.le_of_ble_eq_true rfl) ⟨hi, Nat.mul_le_mul_left 4 hi⟩ dX1_worth_2_95 ?_
  rintro v3 _ ⟨w1, L2, rfl, h⟩
  exact ret _ _ _ _ _ _ hi rfl rfl dX1_worth_2_98 ⟨_, _, rfl, h⟩
def B_X1_worth_2_III_0 (N : Nat) (mc : Nat) (post : Int32 → Wd → va_W → Prop) (postX : Wd → va_W → Prop) (i : Nat) (x1 : Int32) (x2 : Int32) (x3 : Int32) (w : Wd) (L : va_W) : Prop :=
  B_X1_isLaw N x1 (fun (v3 : Int32) (w1 : Wd) (L2 : va_W) =>
  (v3 = 0 →
    B_X1_worth_2_III_25 N mc post postX i w1 L2) ∧
  (¬ v3 = 0 →
    B_X1_in N x2 0 3 (fun (v6 : Int32) (w4 : Wd) (L5 : va_W) =>
  (v6 = 0 →
      B_X1_worth_2_III_25 N mc post postX i w4 L5) ∧
    (¬ v6 = 0 →
      B_X1_isAnimal N x3 (fun (v9 : Int32) (w7 : Wd) (L8 : va_W) =>
  (v9 = 0 →
        B_X1_worth_2_III_25 N mc post postX i w7 L8) ∧
      (¬ v9 = 0 →
        vp_in x1 6 ∧ B_X4_begin N (xQ w7 x1.toNatClampNeg) 0 (xi w7 4) 0 (fun (w10 : Wd) (L11 : va_W) =>
  B_X4_opens N (fun (w12 : Wd) (L13 : va_W) =>
  (x2 = 0 →
          B_X1_worth_2_III_95 N mc post postX i 100 x3 w12 L13) ∧
        (¬ x2 = 0 →
          (x2 = (1 : Int32) →
            B_X1_worth_2_III_95 N mc post postX i 101 x3 w12 L13) ∧
          (¬ x2 = (1 : Int32) →
            (x2 = (2 : Int32) →
              B_X1_worth_2_III_95 N mc post postX i 115 x3 w12 L13) ∧
            (¬ x2 = (2 : Int32) →
              B_X1_worth_2_III_95 N mc post postX i 99 x3 w12 L13)))) w10 L11) w7 L8)) w4 L5)) w1 L2)) w L
set_option maxHeartbeats 4000000 in
theorem k_X1_worth_2_III_0 {Γ : gT} {K : gK} {N : Nat} {mc : Nat} {post : Int32 → Wd → va_W → Prop} {postX : Wd → va_W → Prop} (C : gC Γ K RX1 cX1_worth_2 4 (rm_X1_worth_2_III mc)) (ret : gXiR Γ K cX1_worth_2 (some .int) (xPi K post) mc) (hl0 : Γ.l.stackTraces = false) (thr : gXTE Γ K "java/util/NoSuchElementException" (xPv K postX) mc) (i : Nat) (x1 : Int32) (x2 : Int32) (x3 : Int32) (w : Wd) (L : va_W) (hi : i ≤ mc) (h : B_X1_worth_2_III_0 N mc post postX i x1 x2 x3 w L) : gJ Γ K i (4 * i) (xL K w ++ L) 0 [(0, .ref (xa K 0)), (1, .int x1), (2, .int x2), (3, .int x3)] [] := by
  unfold B_X1_worth_2_III_0 at h
  refine g_aload_n C 0 rfl dX1_worth_2_0 ?_
  refine g_iload_n C 1 rfl dX1_worth_2_1 ?_
  refine g_callVi C (As := [.int x1]) (rest := []) (m_X1_isLaw h) (lw_V q721 q723 qs16 q78 q724) (ci := 0) (qi := 0) rfl rfl ⟨rfl, rfl⟩ ⟨Nat.le_of_ble_eq_true rfl, Nat.le_of_ble_eq_true rfl⟩ 1 rfl (by decide +kernel) rfl (Nat.le_of_ble_eq_true rfl) ⟨hi, Nat.mul_le_mul_left 4 hi⟩ dX1_worth_2_2 ?_
  rintro v3 _ ⟨w1, L2, rfl, h⟩
  refine g_if_eq C 25 dX1_worth_2_5 (by decide) (fun hc => ?_) (fun hc => ?_)
  · replace h := h.1 hc
    refine g_sub [] rfl ?_
    exact k_X1_worth_2_III_25 C ret hl0 thr i w1 L2 hi h
  · replace h := h.2 hc
    refine g_iload_n C 2 rfl dX1_worth_2_8 ?_
    refine g_iconst C 0 (by decide) dX1_worth_2_9 ?_
    refine g_iconst C 3 (by decide) dX1_worth_2_10 ?_
    refine g_callSi C (As := [.int x2, .int 0, .int 3]) (rest := []) (m_X1_in h) (Cn := "") (b := 0) (lw_S q657 q658 q78 q659) ⟨rfl, rfl⟩ ⟨Nat.le_of_ble_eq_true rfl, Nat.le_of_ble_eq_true rfl⟩ 3 rfl (by decide +kernel) rfl (Nat.le_of_ble_eq_true rfl) ⟨hi, Nat.mul_le_mul_left 4 hi⟩ dX1_worth_2_11 ?_
    rintro v6 _ ⟨w4, L5, rfl, h⟩
    refine g_if_eq C 25 dX1_worth_2_14 (by decide) (fun hc => ?_) (fun hc => ?_)
    · replace h := h.1 hc
      refine g_sub [] rfl ?_
      exact k_X1_worth_2_III_25 C ret hl0 thr i w4 L5 hi h
    · replace h := h.2 hc
      refine g_aload_n C 0 rfl dX1_worth_2_17 ?_
      refine g_iload_n C 3 rfl dX1_worth_2_18 ?_
      refine g_callVi C (As := [.int x3]) (rest := []) (m_X1_isAnimal h) (lw_V q653 q655 qs14 q78 q656) (ci := 0) (qi := 0) rfl rfl ⟨rfl, rfl⟩ ⟨Nat.le_of_ble_eq_true rfl, Nat.le_of_ble_eq_true rfl⟩ 1 rfl (by decide +kernel) rfl (Nat.le_of_ble_eq_true rfl) ⟨hi, Nat.mul_le_mul_left 4 hi⟩ dX1_worth_2_19 ?_
      rintro v9 _ ⟨w7, L8, rfl, h⟩
      refine g_if_ne C 33 dX1_worth_2_22 (by decide) (fun hc => ?_) (fun hc => ?_)
      · replace h := h.2 hc
        refine g_aload_n C 0 rfl dX1_worth_2_33 ?_
        refine xg_colony C q292 dX1_worth_2_34 ?_
        refine g_aload_n C 0 rfl dX1_worth_2_37 ?_
        refine xg_laws C q277 dX1_worth_2_38 ?_
        refine g_iload_n C 1 rfl dX1_worth_2_41 ?_
        obtain ⟨hb, h⟩ := h
        refine xld_8 C hb (xQ w7 x1.toNatClampNeg) rfl dX1_worth_2_42 ?_
        refine g_lconst C 0 (by decide) dX1_worth_2_43 ?_
        refine g_aload_n C 0 rfl dX1_worth_2_44 ?_
        refine xg_animals C q283 (xi w7 4) rfl dX1_worth_2_45 ?_
        refine g_iconst C 0 (by decide) dX1_worth_2_48 ?_
        refine g_callVv C (As := [va_rf (xQ w7 x1.toNatClampNeg), .long 0, .int (xi w7 4), .int 0]) (rest := []) (m_X4_begin h) (lw_V q729 q730 q731 q83 q732) (ci := 1) (qi := 1) rfl rfl ⟨rfl, rfl⟩ ⟨Nat.le_of_ble_eq_true rfl, Nat.le_of_ble_eq_true rfl⟩ 4 rfl (by decide +kernel) rfl (Nat.le_of_ble_eq_true rfl) ⟨hi, Nat.mul_le_mul_left 4 hi⟩ dX1_worth_2_49 ?_
        rintro _ ⟨w10, L11, rfl, h⟩
        refine g_aload_n C 0 rfl dX1_worth_2_52 ?_
        refine xg_colony C q292 dX1_worth_2_53 ?_
        refine g_callVv C (As := []) (rest := []) (m_X4_opens h) (lw_V q986 q747 q748 q83 q749) (ci := 1) (qi := 1) rfl rfl ⟨rfl, rfl⟩ ⟨Nat.le_of_ble_eq_true rfl, Nat.le_of_ble_eq_true rfl⟩ 0 rfl (by decide +kernel) rfl (Nat.le_of_ble_eq_true rfl) ⟨hi, Nat.mul_le_mul_left 4 hi⟩ dX1_worth_2_56 ?_
        rintro _ ⟨w12, L13, rfl, h⟩
        refine g_aload_n C 0 rfl dX1_worth_2_59 ?_
        refine xg_colony C q292 dX1_worth_2_60 ?_
        refine g_iload_n C 3 rfl dX1_worth_2_63 ?_
        refine g_iload_n C 2 rfl dX1_worth_2_64 ?_
        refine g_if_ne C 73 dX1_worth_2_65 (by decide) (fun hc => ?_) (fun hc => ?_)
        · replace h := h.2 hc
          refine g_iload_n C 2 rfl dX1_worth_2_73 ?_
          refine g_iconst C 1 (by decide) dX1_worth_2_74 ?_
          refine g_icmp_ne C 83 dX1_worth_2_75 (by decide) (fun hc => ?_) (fun hc => ?_)
          · replace h := h.2 hc
            refine g_iload_n C 2 rfl dX1_worth_2_83 ?_
            refine g_iconst C 2 (by decide) dX1_worth_2_84 ?_
            refine g_icmp_ne C 93 dX1_worth_2_85 (by decide) (fun hc => ?_) (fun hc => ?_)
            · replace h := h.2 hc
              refine g_bipush C 99 (by decide) dX1_worth_2_93 ?_
              refine g_sub [] rfl ?_
              exact k_X1_worth_2_III_95 C ret hl0 thr i 99 x3 w12 L13 hi h
            · replace h := h.1 hc
              refine g_bipush C 115 (by decide) dX1_worth_2_88 ?_
              refine g_goto C 95 dX1_worth_2_90 (by decide) ?_
              refine g_sub [] rfl ?_
              exact k_X1_worth_2_III_95 C ret hl0 thr i 115 x3 w12 L13 hi h
          · replace h := h.1 hc
            refine g_bipush C 101 (by decide) dX1_worth_2_78 ?_
            refine g_goto C 95 dX1_worth_2_80 (by decide) ?_
            refine g_sub [] rfl ?_
            exact k_X1_worth_2_III_95 C ret hl0 thr i 101 x3 w12 L13 hi h
        · replace h := h.1 hc
          refine g_bipush C 100 (by decide) dX1_worth_2_68 ?_
          refine g_goto C 95 dX1_worth_2_70 (by decide) ?_
          refine g_sub [] rfl ?_
          exact k_X1_worth_2_III_95 C ret hl0 thr i 100 x3 w12 L13 hi h
      · replace h := h.1 hc
        refine g_sub [] rfl ?_
        exact k_X1_worth_2_III_25 C ret hl0 thr i w7 L8 hi h
def B_X1_worth_2_III (N : Nat) (x1 : Int32) (x2 : Int32) (x3 : Int32) (mc : Nat) (post : Int32 → Wd → va_W → Prop) (postX : Wd → va_W → Prop) (w : Wd) (L : va_W) : Prop := B_X1_worth_2_III_0 N mc post postX 0 x1 x2 x3 w L
theorem m_X1_worth_2_III {l : Launch} {K : gK} {N : Nat} {mc : Nat} {post : Int32 → Wd → va_W → Prop} {postX : Wd → va_W → Prop} {x1 : Int32} {x2 : Int32} {x3 : Int32} {w : Wd} {L : va_W} (hl00 : l.stackTraces = false) (h : B_X1_worth_2_III N x1 x2 x3 mc post postX w L) : gXiE "java/util/NoSuchElementException" l K yX1_worth_2 cX1_worth_2 4 (some .int) (rm_X1_worth_2_III mc) [.ref (xa K 0), .int x1, .int x2, .int x3] (xL K w ++ L) (xPi K post) (xPv K postX) mc := by
  refine g_inXI (ls0 := [(0, .ref (xa K 0)), (1, .int x1), (2, .int x2), (3, .int x3)]) (by decide) (Nat.le_of_ble_eq_true rfl) rfl rfl rfl (fun Γ hl C hn ret thr => ?_)
  have hl0 : Γ.l.stackTraces = false := by rw [hl]; exact hl00
  exact k_X1_worth_2_III_0 C ret hl0 thr 0 x1 x2 x3 w L (Nat.zero_le _) h
def rm_X0_worth (mc : Nat) : Room := { frames := 364, cells := mc, slots := 4 * mc, locals := 8771 }
def B_X0_worth_15 (K : gK) (N : Nat) (mc : Nat) (post : Int32 → Wd → va_W → Prop) (i : Nat) (s0 : Nat) (w : Wd) (L : va_W) : Prop :=
  post 1 w L
set_option maxHeartbeats 4000000 in
theorem k_X0_worth_15 {Γ : gT} {K : gK} {N : Nat} {mc : Nat} {post : Int32 → Wd → va_W → Prop} (C : gC Γ K RX0 cX0_worth 6 (rm_X0_worth mc)) (ret : gXiR Γ K cX0_worth (some .int) (xPi K post) mc) (hl0 : Γ.l.stackTraces = false) (htab : Γ.c.exceptionTable.toList = tableOf [(0, 12, 15, 13)]) (i : Nat) (s0 : Nat) (w : Wd) (L : va_W) (hi : i ≤ mc) (h : B_X0_worth_15 K N mc post i s0 w L) : gJ Γ K i (4 * i) (xL K w ++ L) 15 [] [.ref s0] := by
  unfold B_X0_worth_15 at h
  refine g_astore C (lt := [(5, .ref s0)]) dX0_worth_15 (by decide) rfl ?_
  refine g_iconst C 1 (by decide) dX0_worth_17 ?_
  exact ret _ _ _ _ _ _ hi rfl rfl dX0_worth_18 ⟨_, _, rfl, h⟩
def B_X0_worth_0 (K : gK) (N : Nat) (mc : Nat) (post : Int32 → Wd → va_W → Prop) (i : Nat) (x1 : Int32) (x2 : Int32) (x3 : Int32) (x4 : Nat) (w : Wd) (L : va_W) : Prop :=
  ∃ m1 : Nat, i + m1 ≤ mc ∧ B_X1_worth_2_III N x1 x2 x3 m1 (fun (v4 : Int32) (w2 : Wd) (L3 : va_W) =>
  ∃ (k5 n5 : Nat) (f5 : Nat → Int64), L3[k5]? = some (x4, .inl (K.2.1 1, n5, .inr (.inl f5))) ∧ vp_in 0 n5 ∧ ∀ L5 : va_W, L5 = L3.set k5 (x4, .inl (K.2.1 1, n5, .inr (.inl (vp_updL f5 (0 : Int32).toNatClampNeg v4.toInt64)))) → post 0 w2 L5) (fun (wX : Wd) (LX : va_W) => ∀ q9 : Nat, B_X0_worth_15 K N mc post (i + m1) q9 wX LX) w L
set_option maxHeartbeats 4000000 in
theorem k_X0_worth_0 {Γ : gT} {K : gK} {N : Nat} {mc : Nat} {post : Int32 → Wd → va_W → Prop} (C : gC Γ K RX0 cX0_worth 6 (rm_X0_worth mc)) (ret : gXiR Γ K cX0_worth (some .int) (xPi K post) mc) (hl0 : Γ.l.stackTraces = false) (htab : Γ.c.exceptionTable.toList = tableOf [(0, 12, 15, 13)]) (i : Nat) (x1 : Int32) (x2 : Int32) (x3 : Int32) (x4 : Nat) (w : Wd) (L : va_W) (hi : i ≤ mc) (h : B_X0_worth_0 K N mc post i x1 x2 x3 x4 w L) : gJ Γ K i (4 * i) (xL K w ++ L) 0 [(0, .ref (xa K 0)), (1, .int x1), (2, .int x2), (3, .int x3), (4, .ref x4)] [] := by
  unfold B_X0_worth_0 at h
  refine g_aload C 4 rfl dX0_worth_0 ?_
  refine g_iconst C 0 (by decide) dX0_worth_2 ?_
  refine g_aload_n C 0 rfl dX0_worth_3 ?_
  refine g_iload_n C 1 rfl dX0_worth_4 ?_
  refine g_iload_n C 2 rfl dX0_worth_5 ?_
  refine g_iload_n C 3 rfl dX0_worth_6 ?_
  obtain ⟨m1, hm1, h⟩ := h
  refine g_callXVi C (As := [.int x1, .int x2, .int x3]) (rest := [.int 0, .ref x4]) (m_X1_worth_2_III hl0 h) (lw_V q962 q963 q964 q78 q965) (ci := 0) (qi := 0) rfl rfl ⟨rfl, rfl⟩ ⟨Nat.le_of_ble_eq_true rfl, Nat.le_of_ble_eq_true rfl⟩ 3 rfl (by decide +kernel) rfl (Nat.le_of_ble_eq_true rfl) ⟨rfl, rfl⟩ hm1 dX0_worth_7 (fun V9 q9 hx => ?_) ?_
  · obtain ⟨wX, LX, rfl, h⟩ := hx
    refine g_catch1 C htab (by decide) (by decide) q961 C.e.2.2.2.2.2.2.2.2.2.2.2 (fun q9 => ?_) q9
    replace h := h q9
    refine g_sub [] rfl ?_
    exact k_X0_worth_15 C ret hl0 htab (i + m1) q9 wX LX hm1 h
  rintro v4 _ ⟨w2, L3, rfl, h⟩
  refine g_i2l C dX0_worth_10 ?_
  obtain ⟨k5, n5, f5, e5, hb, h⟩ := h
  refine g_last (V1 := xL K w2 ++ L3.set k5 (x4, .inl (K.2.1 1, n5, .inr (.inl (vp_updL f5 (0 : Int32).toNatClampNeg v4.toInt64))))) C (31 + k5) (x_at e5) hb dX0_worth_11 x_set ?_
  obtain ⟨L5, eL5⟩ : ∃ z, z = L3.set k5 (x4, .inl (K.2.1 1, n5, .inr (.inl (vp_updL f5 (0 : Int32).toNatClampNeg v4.toInt64)))) := ⟨_, rfl⟩
  replace h := h L5 eL5
  rw [← eL5]
  refine g_goto C 19 dX0_worth_12 (by decide) ?_
  refine g_iconst C 0 (by decide) dX0_worth_19 ?_
  exact ret _ _ _ _ _ _ hm1 rfl rfl dX0_worth_20 ⟨_, _, rfl, h⟩
def B_X0_worth (K : gK) (N : Nat) (x1 : Int32) (x2 : Int32) (x3 : Int32) (x4 : Nat) (mc : Nat) (post : Int32 → Wd → va_W → Prop) (w : Wd) (L : va_W) : Prop := B_X0_worth_0 K N mc post 0 x1 x2 x3 x4 w L
theorem m_X0_worth {l : Launch} {K : gK} {N : Nat} {mc : Nat} {post : Int32 → Wd → va_W → Prop} {x1 : Int32} {x2 : Int32} {x3 : Int32} {x4 : Nat} {w : Wd} {L : va_W} (hl00 : l.stackTraces = false) (h : B_X0_worth K N x1 x2 x3 x4 mc post w L) : gHi l K yX0_worth cX0_worth 6 (some .int) [(0, 12, 15, 13)] (rm_X0_worth mc) [.ref (xa K 0), .int x1, .int x2, .int x3, .ref x4] (xL K w ++ L) (xPi K post) mc := by
  refine g_inHI (ls0 := [(0, .ref (xa K 0)), (1, .int x1), (2, .int x2), (3, .int x3), (4, .ref x4)]) (by decide) (Nat.le_of_ble_eq_true rfl) rfl rfl rfl (fun Γ hl C hn ret htab => ?_)
  have hl0 : Γ.l.stackTraces = false := by rw [hl]; exact hl00
  exact k_X0_worth_0 C ret hl0 htab 0 x1 x2 x3 x4 w L (Nat.zero_le _) h
