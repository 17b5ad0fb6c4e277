set_option maxRecDepth 100000
def rm_J2_coder_s0 : Room := { frames := 0, cells := 0, slots := 0, locals := 0 }
def B_J2_coder_s0_14 (N : Nat) (post : Int32 → Wd → va_W → Prop) (s0 : Int32) (w : Wd) (L : va_W) : Prop :=
  narrow .byte (.int s0) = .int s0 ∧ post s0 w L
set_option maxHeartbeats 4000000 in
theorem k_J2_coder_s0_14 {Γ : gT} {K : gK} {N : Nat} {post : Int32 → Wd → va_W → Prop} (C : gC Γ K RJ2 cJ2_coder 1 rm_J2_coder_s0) (ret : gRi Γ K cJ2_coder (some .byte) (jPi K post) 0 0) (s0 : Int32) (w : Wd) (L : va_W) (h : B_J2_coder_s0_14 N post s0 w L) : gJ Γ K 0 0 (jL K w ++ L) 14 [] [.int s0] := by
  unfold B_J2_coder_s0_14 at h
  obtain ⟨hz, h⟩ := h
  exact ret _ _ _ _ _ rfl hz dJ2_coder_14 ⟨_, _, rfl, h⟩
def B_J2_coder_s0_0 (N : Nat) (post : Int32 → Wd → va_W → Prop) (w : Wd) (L : va_W) : Prop :=
  ((1 : Int32) = 0 →
    B_J2_coder_s0_14 N post 1 w L) ∧
  (¬ (1 : Int32) = 0 →
    B_J2_coder_s0_14 N post 0 w L)
set_option maxHeartbeats 4000000 in
theorem k_J2_coder_s0_0 {Γ : gT} {K : gK} {N : Nat} {post : Int32 → Wd → va_W → Prop} (C : gC Γ K RJ2 cJ2_coder 1 rm_J2_coder_s0) (ret : gRi Γ K cJ2_coder (some .byte) (jPi K post) 0 0) (w : Wd) (L : va_W) (h : B_J2_coder_s0_0 N post w L) : gJ Γ K 0 0 (jL K w ++ L) 0 [(0, .ref (kS K 0))] [] := by
  unfold B_J2_coder_s0_0 at h
  refine g_compact C q390 dJ2_coder_0 ?_
  refine g_if_eq C 13 dJ2_coder_3 (by decide) (fun hc => ?_) (fun hc => ?_)
  · replace h := h.1 hc
    refine g_iconst C 1 (by decide) dJ2_coder_13 ?_
    refine g_sub [] rfl ?_
    exact k_J2_coder_s0_14 C ret 1 w L h
  · replace h := h.2 hc
    refine g_aload_n C 0 rfl dJ2_coder_6 ?_
    refine g_strc C q1503 (i0 := 0) (by decide) dJ2_coder_7 ?_
    refine g_goto C 14 dJ2_coder_10 (by decide) ?_
    refine g_sub [] rfl ?_
    exact k_J2_coder_s0_14 C ret 0 w L h
def B_J2_coder_s0 (N : Nat) (post : Int32 → Wd → va_W → Prop) (w : Wd) (L : va_W) : Prop := B_J2_coder_s0_0 N post w L
theorem m_J2_coder_s0 {l : Launch} {K : gK} {N : Nat} {post : Int32 → Wd → va_W → Prop} {w : Wd} {L : va_W} (h : B_J2_coder_s0 N post w L) : gMi l K yJ2_coder cJ2_coder 1 (some .byte) rm_J2_coder_s0 [.ref (kS K 0)] (jL K w ++ L) (jPi K post) 0 0 := by
  refine g_inI (ls0 := [(0, .ref (kS K 0))]) (by decide) (Nat.le_of_ble_eq_true rfl) rfl (fun Γ hl C hn ret => ?_)
  exact k_J2_coder_s0_0 C ret w L h
def rm_J2_coder_s1 : Room := { frames := 0, cells := 0, slots := 0, locals := 0 }
def B_J2_coder_s1_14 (N : Nat) (post : Int32 → Wd → va_W → Prop) (s0 : Int32) (w : Wd) (L : va_W) : Prop :=
  narrow .byte (.int s0) = .int s0 ∧ post s0 w L
set_option maxHeartbeats 4000000 in
theorem k_J2_coder_s1_14 {Γ : gT} {K : gK} {N : Nat} {post : Int32 → Wd → va_W → Prop} (C : gC Γ K RJ2 cJ2_coder 1 rm_J2_coder_s1) (ret : gRi Γ K cJ2_coder (some .byte) (jPi K post) 0 0) (s0 : Int32) (w : Wd) (L : va_W) (h : B_J2_coder_s1_14 N post s0 w L) : gJ Γ K 0 0 (jL K w ++ L) 14 [] [.int s0] := by
  unfold B_J2_coder_s1_14 at h
  obtain ⟨hz, h⟩ := h
  exact ret _ _ _ _ _ rfl hz dJ2_coder_14 ⟨_, _, rfl, h⟩
def B_J2_coder_s1_0 (N : Nat) (post : Int32 → Wd → va_W → Prop) (w : Wd) (L : va_W) : Prop :=
  ((1 : Int32) = 0 →
    B_J2_coder_s1_14 N post 1 w L) ∧
  (¬ (1 : Int32) = 0 →
    B_J2_coder_s1_14 N post 0 w L)
set_option maxHeartbeats 4000000 in
theorem k_J2_coder_s1_0 {Γ : gT} {K : gK} {N : Nat} {post : Int32 → Wd → va_W → Prop} (C : gC Γ K RJ2 cJ2_coder 1 rm_J2_coder_s1) (ret : gRi Γ K cJ2_coder (some .byte) (jPi K post) 0 0) (w : Wd) (L : va_W) (h : B_J2_coder_s1_0 N post w L) : gJ Γ K 0 0 (jL K w ++ L) 0 [(0, .ref (kS K 1))] [] := by
  unfold B_J2_coder_s1_0 at h
  refine g_compact C q390 dJ2_coder_0 ?_
  refine g_if_eq C 13 dJ2_coder_3 (by decide) (fun hc => ?_) (fun hc => ?_)
  · replace h := h.1 hc
    refine g_iconst C 1 (by decide) dJ2_coder_13 ?_
    refine g_sub [] rfl ?_
    exact k_J2_coder_s1_14 C ret 1 w L h
  · replace h := h.2 hc
    refine g_aload_n C 0 rfl dJ2_coder_6 ?_
    refine g_strc C q1503 (i0 := 1) (by decide) dJ2_coder_7 ?_
    refine g_goto C 14 dJ2_coder_10 (by decide) ?_
    refine g_sub [] rfl ?_
    exact k_J2_coder_s1_14 C ret 0 w L h
def B_J2_coder_s1 (N : Nat) (post : Int32 → Wd → va_W → Prop) (w : Wd) (L : va_W) : Prop := B_J2_coder_s1_0 N post w L
theorem m_J2_coder_s1 {l : Launch} {K : gK} {N : Nat} {post : Int32 → Wd → va_W → Prop} {w : Wd} {L : va_W} (h : B_J2_coder_s1 N post w L) : gMi l K yJ2_coder cJ2_coder 1 (some .byte) rm_J2_coder_s1 [.ref (kS K 1)] (jL K w ++ L) (jPi K post) 0 0 := by
  refine g_inI (ls0 := [(0, .ref (kS K 1))]) (by decide) (Nat.le_of_ble_eq_true rfl) rfl (fun Γ hl C hn ret => ?_)
  exact k_J2_coder_s1_0 C ret w L h
def rm_J6_checkIndex : Room := { frames := 0, cells := 0, slots := 0, locals := 0 }
def B_J6_checkIndex_9 (N : Nat) (post : Int32 → Wd → va_W → Prop) (x2 : Option Nat) (w : Wd) (L : va_W) : Prop :=
  False
set_option maxHeartbeats 4000000 in
theorem k_J6_checkIndex_9 {Γ : gT} {K : gK} {N : Nat} {post : Int32 → Wd → va_W → Prop} (C : gC Γ K RJ6 cJ6_checkIndex 3 rm_J6_checkIndex) (ret : gRi Γ K cJ6_checkIndex (some .int) (jPi K post) 0 0) (x2 : Option Nat) (w : Wd) (L : va_W) (h : B_J6_checkIndex_9 N post x2 w L) : gJ Γ K 0 0 (jL K w ++ L) 9 [(2, va_rf x2)] [] := by
  unfold B_J6_checkIndex_9 at h
  exact h.elim
def B_J6_checkIndex_0 (N : Nat) (post : Int32 → Wd → va_W → Prop) (x0 : Int32) (x1 : Int32) (x2 : Option Nat) (w : Wd) (L : va_W) : Prop :=
  (x0 < 0 →
    B_J6_checkIndex_9 N post x2 w L) ∧
  (¬ x0 < 0 →
    (x0 < x1 →
      post x0 w L) ∧
    (¬ x0 < x1 →
      B_J6_checkIndex_9 N post x2 w L))
set_option maxHeartbeats 4000000 in
theorem k_J6_checkIndex_0 {Γ : gT} {K : gK} {N : Nat} {post : Int32 → Wd → va_W → Prop} (C : gC Γ K RJ6 cJ6_checkIndex 3 rm_J6_checkIndex) (ret : gRi Γ K cJ6_checkIndex (some .int) (jPi K post) 0 0) (x0 : Int32) (x1 : Int32) (x2 : Option Nat) (w : Wd) (L : va_W) (h : B_J6_checkIndex_0 N post x0 x1 x2 w L) : gJ Γ K 0 0 (jL K w ++ L) 0 [(0, .int x0), (1, .int x1), (2, va_rf x2)] [] := by
  unfold B_J6_checkIndex_0 at h
  refine g_iload_n C 0 rfl dJ6_checkIndex_0 ?_
  refine g_if_lt C 9 dJ6_checkIndex_1 (by decide) (fun hc => ?_) (fun hc => ?_)
  · replace h := h.1 hc
    refine g_sub [2] rfl ?_
    exact k_J6_checkIndex_9 C ret x2 w L h
  · replace h := h.2 hc
    refine g_iload_n C 0 rfl dJ6_checkIndex_4 ?_
    refine g_iload_n C 1 rfl dJ6_checkIndex_5 ?_
    refine g_icmp_lt C 16 dJ6_checkIndex_6 (by decide) (fun hc => ?_) (fun hc => ?_)
    · replace h := h.1 hc
      refine g_iload_n C 0 rfl dJ6_checkIndex_16 ?_
      exact ret _ _ _ _ _ rfl rfl dJ6_checkIndex_17 ⟨_, _, rfl, h⟩
    · replace h := h.2 hc
      refine g_sub [2] rfl ?_
      exact k_J6_checkIndex_9 C ret x2 w L h
def B_J6_checkIndex (N : Nat) (x0 : Int32) (x1 : Int32) (x2 : Option Nat) (post : Int32 → Wd → va_W → Prop) (w : Wd) (L : va_W) : Prop := B_J6_checkIndex_0 N post x0 x1 x2 w L
theorem m_J6_checkIndex {l : Launch} {K : gK} {N : Nat} {post : Int32 → Wd → va_W → Prop} {x0 : Int32} {x1 : Int32} {x2 : Option Nat} {w : Wd} {L : va_W} (h : B_J6_checkIndex N x0 x1 x2 post w L) : gMi l K yJ6_checkIndex cJ6_checkIndex 3 (some .int) rm_J6_checkIndex [.int x0, .int x1, va_rf x2] (jL K w ++ L) (jPi K post) 0 0 := by
  refine g_inI (ls0 := [(0, .int x0), (1, .int x1), (2, va_rf x2)]) (by decide) (by cases x2 <;> exact Nat.le_of_ble_eq_true rfl) (by cases x2 <;> rfl) (fun Γ hl C hn ret => ?_)
  exact k_J6_checkIndex_0 C ret x0 x1 x2 w L h
def rm_J2_checkIndex : Room := { frames := 1, cells := 0, slots := 0, locals := 22 }
def B_J2_checkIndex_0 (N : Nat) (post : Wd → va_W → Prop) (x0 : Int32) (x1 : Int32) (w : Wd) (L : va_W) : Prop :=
  ∀ z1 : Option Nat, B_J6_checkIndex N x0 x1 z1 (fun (v4 : Int32) (w2 : Wd) (L3 : va_W) =>
  post w2 L3) w L
set_option maxHeartbeats 4000000 in
theorem k_J2_checkIndex_0 {Γ : gT} {K : gK} {N : Nat} {post : Wd → va_W → Prop} (C : gC Γ K RJ2 cJ2_checkIndex 2 rm_J2_checkIndex) (ret : gRv Γ K cJ2_checkIndex (none) (jPv K post) 0 0) (x0 : Int32) (x1 : Int32) (w : Wd) (L : va_W) (h : B_J2_checkIndex_0 N post x0 x1 w L) : gJ Γ K 0 0 (jL K w ++ L) 0 [(0, .int x0), (1, .int x1)] [] := by
  unfold B_J2_checkIndex_0 at h
  refine g_iload_n C 0 rfl dJ2_checkIndex_0 ?_
  refine g_iload_n C 1 rfl dJ2_checkIndex_1 ?_
  refine g_getsq C q433 C.e.2.2.2.2.2.2.2.1 dJ2_checkIndex_2 (fun z1 => ?_)
  replace h := h z1
  refine g_callSi C (As := [.int x0, .int x1, va_rf z1]) (rest := []) (m_J6_checkIndex h) (Cn := "") (b := 0) (lw_S q785 q786 q89 q787) ⟨rfl, rfl⟩ ⟨Nat.le_of_ble_eq_true rfl, Nat.le_of_ble_eq_true rfl⟩ 3 rfl (by decide +kernel) rfl (Nat.le_of_ble_eq_true rfl) ⟨Nat.zero_le _, Nat.zero_le _⟩ dJ2_checkIndex_5 ?_
  rintro v4 _ ⟨w2, L3, rfl, h⟩
  refine g_pop C rfl dJ2_checkIndex_8 ?_
  exact ret rfl _ _ _ dJ2_checkIndex_9 ⟨_, _, rfl, h⟩
def B_J2_checkIndex (N : Nat) (x0 : Int32) (x1 : Int32) (post : Wd → va_W → Prop) (w : Wd) (L : va_W) : Prop := B_J2_checkIndex_0 N post x0 x1 w L
theorem m_J2_checkIndex {l : Launch} {K : gK} {N : Nat} {post : Wd → va_W → Prop} {x0 : Int32} {x1 : Int32} {w : Wd} {L : va_W} (h : B_J2_checkIndex N x0 x1 post w L) : gMv l K yJ2_checkIndex cJ2_checkIndex 2 (none) rm_J2_checkIndex [.int x0, .int x1] (jL K w ++ L) (jPv K post) 0 0 := by
  refine g_inV (ls0 := [(0, .int x0), (1, .int x1)]) (by decide) (Nat.le_of_ble_eq_true rfl) rfl (fun Γ hl C hn ret => ?_)
  exact k_J2_checkIndex_0 C ret x0 x1 w L h
def rm_J3_canEncode : Room := { frames := 0, cells := 0, slots := 0, locals := 0 }
def B_J3_canEncode_16 (N : Nat) (post : Int32 → Wd → va_W → Prop) (s0 : Int32) (w : Wd) (L : va_W) : Prop :=
  gZ s0 ∧ post s0 w L
set_option maxHeartbeats 4000000 in
theorem k_J3_canEncode_16 {Γ : gT} {K : gK} {N : Nat} {post : Int32 → Wd → va_W → Prop} (C : gC Γ K RJ3 cJ3_canEncode 1 rm_J3_canEncode) (ret : gRi Γ K cJ3_canEncode (some .boolean) (jPi K post) 0 0) (s0 : Int32) (w : Wd) (L : va_W) (h : B_J3_canEncode_16 N post s0 w L) : gJ Γ K 0 0 (jL K w ++ L) 16 [] [.int s0] := by
  unfold B_J3_canEncode_16 at h
  obtain ⟨hz, h⟩ := h
  exact ret _ _ _ _ _ rfl hz.n dJ3_canEncode_16 ⟨_, _, rfl, h⟩
def B_J3_canEncode_15 (N : Nat) (post : Int32 → Wd → va_W → Prop) (w : Wd) (L : va_W) : Prop :=
  B_J3_canEncode_16 N post 0 w L
set_option maxHeartbeats 4000000 in
theorem k_J3_canEncode_15 {Γ : gT} {K : gK} {N : Nat} {post : Int32 → Wd → va_W → Prop} (C : gC Γ K RJ3 cJ3_canEncode 1 rm_J3_canEncode) (ret : gRi Γ K cJ3_canEncode (some .boolean) (jPi K post) 0 0) (w : Wd) (L : va_W) (h : B_J3_canEncode_15 N post w L) : gJ Γ K 0 0 (jL K w ++ L) 15 [] [] := by
  unfold B_J3_canEncode_15 at h
  refine g_iconst C 0 (by decide) dJ3_canEncode_15 ?_
  exact k_J3_canEncode_16 C ret 0 w L h
def B_J3_canEncode_0 (N : Nat) (post : Int32 → Wd → va_W → Prop) (x0 : Int32) (w : Wd) (L : va_W) : Prop :=
  (x0 < 0 →
    B_J3_canEncode_15 N post w L) ∧
  (¬ x0 < 0 →
    ((255 : Int32) < x0 →
      B_J3_canEncode_15 N post w L) ∧
    (¬ (255 : Int32) < x0 →
      B_J3_canEncode_16 N post 1 w L))
set_option maxHeartbeats 4000000 in
theorem k_J3_canEncode_0 {Γ : gT} {K : gK} {N : Nat} {post : Int32 → Wd → va_W → Prop} (C : gC Γ K RJ3 cJ3_canEncode 1 rm_J3_canEncode) (ret : gRi Γ K cJ3_canEncode (some .boolean) (jPi K post) 0 0) (x0 : Int32) (w : Wd) (L : va_W) (h : B_J3_canEncode_0 N post x0 w L) : gJ Γ K 0 0 (jL K w ++ L) 0 [(0, .int x0)] [] := by
  unfold B_J3_canEncode_0 at h
  refine g_iload_n C 0 rfl dJ3_canEncode_0 ?_
  refine g_if_lt C 15 dJ3_canEncode_1 (by decide) (fun hc => ?_) (fun hc => ?_)
  · replace h := h.1 hc
    refine g_sub [] rfl ?_
    exact k_J3_canEncode_15 C ret w L h
  · replace h := h.2 hc
    refine g_iload_n C 0 rfl dJ3_canEncode_4 ?_
    refine g_sipush C 255 (by decide) dJ3_canEncode_5 ?_
    refine g_icmp_gt C 15 dJ3_canEncode_8 (by decide) (fun hc => ?_) (fun hc => ?_)
    · replace h := h.1 hc
      refine g_sub [] rfl ?_
      exact k_J3_canEncode_15 C ret w L h
    · replace h := h.2 hc
      refine g_iconst C 1 (by decide) dJ3_canEncode_11 ?_
      refine g_goto C 16 dJ3_canEncode_12 (by decide) ?_
      refine g_sub [] rfl ?_
      exact k_J3_canEncode_16 C ret 1 w L h
def B_J3_canEncode (N : Nat) (x0 : Int32) (post : Int32 → Wd → va_W → Prop) (w : Wd) (L : va_W) : Prop := B_J3_canEncode_0 N post x0 w L
theorem m_J3_canEncode {l : Launch} {K : gK} {N : Nat} {post : Int32 → Wd → va_W → Prop} {x0 : Int32} {w : Wd} {L : va_W} (h : B_J3_canEncode N x0 post w L) : gMi l K yJ3_canEncode cJ3_canEncode 1 (some .boolean) rm_J3_canEncode [.int x0] (jL K w ++ L) (jPi K post) 0 0 := by
  refine g_inI (ls0 := [(0, .int x0)]) (by decide) (Nat.le_of_ble_eq_true rfl) rfl (fun Γ hl C hn ret => ?_)
  exact k_J3_canEncode_0 C ret x0 w L h
def rm_J2_isLatin1_s0 : Room := { frames := 0, cells := 0, slots := 0, locals := 0 }
def B_J2_isLatin1_s0_18 (N : Nat) (post : Int32 → Wd → va_W → Prop) (s0 : Int32) (w : Wd) (L : va_W) : Prop :=
  gZ s0 ∧ post s0 w L
set_option maxHeartbeats 4000000 in
theorem k_J2_isLatin1_s0_18 {Γ : gT} {K : gK} {N : Nat} {post : Int32 → Wd → va_W → Prop} (C : gC Γ K RJ2 cJ2_isLatin1 1 rm_J2_isLatin1_s0) (ret : gRi Γ K cJ2_isLatin1 (some .boolean) (jPi K post) 0 0) (s0 : Int32) (w : Wd) (L : va_W) (h : B_J2_isLatin1_s0_18 N post s0 w L) : gJ Γ K 0 0 (jL K w ++ L) 18 [] [.int s0] := by
  unfold B_J2_isLatin1_s0_18 at h
  obtain ⟨hz, h⟩ := h
  exact ret _ _ _ _ _ rfl hz.n dJ2_isLatin1_18 ⟨_, _, rfl, h⟩
def B_J2_isLatin1_s0_17 (N : Nat) (post : Int32 → Wd → va_W → Prop) (w : Wd) (L : va_W) : Prop :=
  B_J2_isLatin1_s0_18 N post 0 w L
set_option maxHeartbeats 4000000 in
theorem k_J2_isLatin1_s0_17 {Γ : gT} {K : gK} {N : Nat} {post : Int32 → Wd → va_W → Prop} (C : gC Γ K RJ2 cJ2_isLatin1 1 rm_J2_isLatin1_s0) (ret : gRi Γ K cJ2_isLatin1 (some .boolean) (jPi K post) 0 0) (w : Wd) (L : va_W) (h : B_J2_isLatin1_s0_17 N post w L) : gJ Γ K 0 0 (jL K w ++ L) 17 [] [] := by
  unfold B_J2_isLatin1_s0_17 at h
  refine g_iconst C 0 (by decide) dJ2_isLatin1_17 ?_
  exact k_J2_isLatin1_s0_18 C ret 0 w L h
def B_J2_isLatin1_s0_0 (N : Nat) (post : Int32 → Wd → va_W → Prop) (w : Wd) (L : va_W) : Prop :=
  ((1 : Int32) = 0 →
    B_J2_isLatin1_s0_17 N post w L) ∧
  (¬ (1 : Int32) = 0 →
    ((0 : Int32) = 0 →
      B_J2_isLatin1_s0_18 N post 1 w L) ∧
    (¬ (0 : Int32) = 0 →
      B_J2_isLatin1_s0_17 N post w L))
set_option maxHeartbeats 4000000 in
theorem k_J2_isLatin1_s0_0 {Γ : gT} {K : gK} {N : Nat} {post : Int32 → Wd → va_W → Prop} (C : gC Γ K RJ2 cJ2_isLatin1 1 rm_J2_isLatin1_s0) (ret : gRi Γ K cJ2_isLatin1 (some .boolean) (jPi K post) 0 0) (w : Wd) (L : va_W) (h : B_J2_isLatin1_s0_0 N post w L) : gJ Γ K 0 0 (jL K w ++ L) 0 [(0, .ref (kS K 0))] [] := by
  unfold B_J2_isLatin1_s0_0 at h
  refine g_compact C q390 dJ2_isLatin1_0 ?_
  refine g_if_eq C 17 dJ2_isLatin1_3 (by decide) (fun hc => ?_) (fun hc => ?_)
  · replace h := h.1 hc
    refine g_sub [] rfl ?_
    exact k_J2_isLatin1_s0_17 C ret w L h
  · replace h := h.2 hc
    refine g_aload_n C 0 rfl dJ2_isLatin1_6 ?_
    refine g_strc C q1503 (i0 := 0) (by decide) dJ2_isLatin1_7 ?_
    refine g_if_ne C 17 dJ2_isLatin1_10 (by decide) (fun hc => ?_) (fun hc => ?_)
    · replace h := h.2 hc
      refine g_sub [] rfl ?_
      exact k_J2_isLatin1_s0_17 C ret w L h
    · replace h := h.1 hc
      refine g_iconst C 1 (by decide) dJ2_isLatin1_13 ?_
      refine g_goto C 18 dJ2_isLatin1_14 (by decide) ?_
      refine g_sub [] rfl ?_
      exact k_J2_isLatin1_s0_18 C ret 1 w L h
def B_J2_isLatin1_s0 (N : Nat) (post : Int32 → Wd → va_W → Prop) (w : Wd) (L : va_W) : Prop := B_J2_isLatin1_s0_0 N post w L
theorem m_J2_isLatin1_s0 {l : Launch} {K : gK} {N : Nat} {post : Int32 → Wd → va_W → Prop} {w : Wd} {L : va_W} (h : B_J2_isLatin1_s0 N post w L) : gMi l K yJ2_isLatin1 cJ2_isLatin1 1 (some .boolean) rm_J2_isLatin1_s0 [.ref (kS K 0)] (jL K w ++ L) (jPi K post) 0 0 := by
  refine g_inI (ls0 := [(0, .ref (kS K 0))]) (by decide) (Nat.le_of_ble_eq_true rfl) rfl (fun Γ hl C hn ret => ?_)
  exact k_J2_isLatin1_s0_0 C ret w L h
def rm_J2_length_s0 : Room := { frames := 1, cells := 0, slots := 0, locals := 20 }
def B_J2_length_s0_0 (N : Nat) (post : Int32 → Wd → va_W → Prop) (w : Wd) (L : va_W) : Prop :=
  B_J2_coder_s0 N (fun (v3 : Int32) (w1 : Wd) (L2 : va_W) =>
  post (4 >>> (v3 &&& 31)) w1 L2) w L
set_option maxHeartbeats 4000000 in
theorem k_J2_length_s0_0 {Γ : gT} {K : gK} {N : Nat} {post : Int32 → Wd → va_W → Prop} (C : gC Γ K RJ2 cJ2_length 1 rm_J2_length_s0) (ret : gRi Γ K cJ2_length (some .int) (jPi K post) 0 0) (w : Wd) (L : va_W) (h : B_J2_length_s0_0 N post w L) : gJ Γ K 0 0 (jL K w ++ L) 0 [(0, .ref (kS K 0))] [] := by
  unfold B_J2_length_s0_0 at h
  refine g_aload_n C 0 rfl dJ2_length_0 ?_
  refine g_strv C q1504 (i0 := 0) (by decide) dJ2_length_1 ?_
  refine g_stra C (i0 := 0) (by decide) 4 (by decide) dJ2_length_4 ?_
  refine g_aload_n C 0 rfl dJ2_length_5 ?_
  refine g_callVKi C (As := []) (rest := [.int 4]) (m_J2_coder_s0 h) (lw_V q396 q397 q398 q85 q399) (i0 := 0) (by decide) ⟨rfl, rfl⟩ ⟨Nat.le_of_ble_eq_true rfl, Nat.le_of_ble_eq_true rfl⟩ 0 rfl (by decide +kernel) rfl (Nat.le_of_ble_eq_true rfl) ⟨Nat.zero_le _, Nat.zero_le _⟩ dJ2_length_6 ?_
  rintro v3 _ ⟨w1, L2, rfl, h⟩
  refine g_ishr C dJ2_length_9 ?_
  exact ret _ _ _ _ _ rfl rfl dJ2_length_10 ⟨_, _, rfl, h⟩
def B_J2_length_s0 (N : Nat) (post : Int32 → Wd → va_W → Prop) (w : Wd) (L : va_W) : Prop := B_J2_length_s0_0 N post w L
theorem m_J2_length_s0 {l : Launch} {K : gK} {N : Nat} {post : Int32 → Wd → va_W → Prop} {w : Wd} {L : va_W} (h : B_J2_length_s0 N post w L) : gMi l K yJ2_length cJ2_length 1 (some .int) rm_J2_length_s0 [.ref (kS K 0)] (jL K w ++ L) (jPi K post) 0 0 := by
  refine g_inI (ls0 := [(0, .ref (kS K 0))]) (by decide) (Nat.le_of_ble_eq_true rfl) rfl (fun Γ hl C hn ret => ?_)
  exact k_J2_length_s0_0 C ret w L h
def rm_J3_charAt_b0 : Room := { frames := 2, cells := 0, slots := 0, locals := 43 }
def B_J3_charAt_b0_0 (N : Nat) (post : Int32 → Wd → va_W → Prop) (x1 : Int32) (w : Wd) (L : va_W) : Prop :=
  B_J2_checkIndex N x1 4 (fun (w1 : Wd) (L2 : va_W) =>
  vp_in x1 (sln 0) ∧ narrow .char (.int ((((sby 0 x1.toNatClampNeg) &&& 255).toUInt32 % 65536).toInt32)) = .int ((((sby 0 x1.toNatClampNeg) &&& 255).toUInt32 % 65536).toInt32) ∧ post ((((sby 0 x1.toNatClampNeg) &&& 255).toUInt32 % 65536).toInt32) w1 L2) w L
set_option maxHeartbeats 4000000 in
theorem k_J3_charAt_b0_0 {Γ : gT} {K : gK} {N : Nat} {post : Int32 → Wd → va_W → Prop} (C : gC Γ K RJ3 cJ3_charAt 2 rm_J3_charAt_b0) (ret : gRi Γ K cJ3_charAt (some .char) (jPi K post) 0 0) (x1 : Int32) (w : Wd) (L : va_W) (h : B_J3_charAt_b0_0 N post x1 w L) : gJ Γ K 0 0 (jL K w ++ L) 0 [(0, .ref (kV K 0)), (1, .int x1)] [] := by
  unfold B_J3_charAt_b0_0 at h
  refine g_iload_n C 1 rfl dJ3_charAt_0 ?_
  refine g_aload_n C 0 rfl dJ3_charAt_1 ?_
  refine g_stra C (i0 := 0) (by decide) 4 (by decide) dJ3_charAt_2 ?_
  refine g_callSv C (As := [.int x1, .int 4]) (rest := []) (m_J2_checkIndex h) (Cn := "") (b := 0) (lw_S q782 q783 q85 q784) ⟨rfl, rfl⟩ ⟨Nat.le_of_ble_eq_true rfl, Nat.le_of_ble_eq_true rfl⟩ 2 rfl (by decide +kernel) rfl (Nat.le_of_ble_eq_true rfl) ⟨Nat.zero_le _, Nat.zero_le _⟩ dJ3_charAt_3 ?_
  rintro _ ⟨w1, L2, rfl, h⟩
  refine g_aload_n C 0 rfl dJ3_charAt_6 ?_
  refine g_iload_n C 1 rfl dJ3_charAt_7 ?_
  obtain ⟨hb, h⟩ := h
  refine g_strb C (i0 := 0) (by decide) hb dJ3_charAt_8 ?_
  refine g_sipush C 255 (by decide) dJ3_charAt_9 ?_
  refine g_iand C dJ3_charAt_12 ?_
  refine g_i2c C dJ3_charAt_13 ?_
  obtain ⟨hz, h⟩ := h
  exact ret _ _ _ _ _ rfl hz dJ3_charAt_14 ⟨_, _, rfl, h⟩
def B_J3_charAt_b0 (N : Nat) (x1 : Int32) (post : Int32 → Wd → va_W → Prop) (w : Wd) (L : va_W) : Prop := B_J3_charAt_b0_0 N post x1 w L
theorem m_J3_charAt_b0 {l : Launch} {K : gK} {N : Nat} {post : Int32 → Wd → va_W → Prop} {x1 : Int32} {w : Wd} {L : va_W} (h : B_J3_charAt_b0 N x1 post w L) : gMi l K yJ3_charAt cJ3_charAt 2 (some .char) rm_J3_charAt_b0 [.ref (kV K 0), .int x1] (jL K w ++ L) (jPi K post) 0 0 := by
  refine g_inI (ls0 := [(0, .ref (kV K 0)), (1, .int x1)]) (by decide) (Nat.le_of_ble_eq_true rfl) rfl (fun Γ hl C hn ret => ?_)
  exact k_J3_charAt_b0_0 C ret x1 w L h
def rm_J2_charAt_s0 : Room := { frames := 3, cells := 0, slots := 0, locals := 64 }
def B_J2_charAt_s0_0 (N : Nat) (post : Int32 → Wd → va_W → Prop) (x1 : Int32) (w : Wd) (L : va_W) : Prop :=
  B_J2_isLatin1_s0 N (fun (v3 : Int32) (w1 : Wd) (L2 : va_W) =>
  (v3 = 0 →
    False) ∧
  (¬ v3 = 0 →
    B_J3_charAt_b0 N x1 (fun (v6 : Int32) (w4 : Wd) (L5 : va_W) =>
  narrow .char (.int v6) = .int v6 ∧ post v6 w4 L5) w1 L2)) w L
set_option maxHeartbeats 4000000 in
theorem k_J2_charAt_s0_0 {Γ : gT} {K : gK} {N : Nat} {post : Int32 → Wd → va_W → Prop} (C : gC Γ K RJ2 cJ2_charAt 2 rm_J2_charAt_s0) (ret : gRi Γ K cJ2_charAt (some .char) (jPi K post) 0 0) (x1 : Int32) (w : Wd) (L : va_W) (h : B_J2_charAt_s0_0 N post x1 w L) : gJ Γ K 0 0 (jL K w ++ L) 0 [(0, .ref (kS K 0)), (1, .int x1)] [] := by
  unfold B_J2_charAt_s0_0 at h
  refine g_aload_n C 0 rfl dJ2_charAt_0 ?_
  refine g_callVKi C (As := []) (rest := []) (m_J2_isLatin1_s0 h) (lw_V q386 q387 q388 q85 q389) (i0 := 0) (by decide) ⟨rfl, rfl⟩ ⟨Nat.le_of_ble_eq_true rfl, Nat.le_of_ble_eq_true rfl⟩ 0 rfl (by decide +kernel) rfl (Nat.le_of_ble_eq_true rfl) ⟨Nat.zero_le _, Nat.zero_le _⟩ dJ2_charAt_1 ?_
  rintro v3 _ ⟨w1, L2, rfl, h⟩
  refine g_if_eq C 16 dJ2_charAt_4 (by decide) (fun hc => ?_) (fun hc => ?_)
  · replace h := h.1 hc
    exact h.elim
  · replace h := h.2 hc
    refine g_aload_n C 0 rfl dJ2_charAt_7 ?_
    refine g_strv C q1504 (i0 := 0) (by decide) dJ2_charAt_8 ?_
    refine g_iload_n C 1 rfl dJ2_charAt_11 ?_
    refine g_callSi C (As := [.ref (kV K 0), .int x1]) (rest := []) (m_J3_charAt_b0 h) (Cn := "") (b := 0) (lw_S q779 q780 q86 q781) ⟨rfl, rfl⟩ ⟨Nat.le_of_ble_eq_true rfl, Nat.le_of_ble_eq_true rfl⟩ 2 rfl (by decide +kernel) rfl (Nat.le_of_ble_eq_true rfl) ⟨Nat.zero_le _, Nat.zero_le _⟩ dJ2_charAt_12 ?_
    rintro v6 _ ⟨w4, L5, rfl, h⟩
    obtain ⟨hz, h⟩ := h
    exact ret _ _ _ _ _ rfl hz dJ2_charAt_15 ⟨_, _, rfl, h⟩
def B_J2_charAt_s0 (N : Nat) (x1 : Int32) (post : Int32 → Wd → va_W → Prop) (w : Wd) (L : va_W) : Prop := B_J2_charAt_s0_0 N post x1 w L
theorem m_J2_charAt_s0 {l : Launch} {K : gK} {N : Nat} {post : Int32 → Wd → va_W → Prop} {x1 : Int32} {w : Wd} {L : va_W} (h : B_J2_charAt_s0 N x1 post w L) : gMi l K yJ2_charAt cJ2_charAt 2 (some .char) rm_J2_charAt_s0 [.ref (kS K 0), .int x1] (jL K w ++ L) (jPi K post) 0 0 := by
  refine g_inI (ls0 := [(0, .ref (kS K 0)), (1, .int x1)]) (by decide) (Nat.le_of_ble_eq_true rfl) rfl (fun Γ hl C hn ret => ?_)
  exact k_J2_charAt_s0_0 C ret x1 w L h
def rm_J3_indexOfChar_b0 : Room := { frames := 0, cells := 0, slots := 0, locals := 0 }
def B_J3_indexOfChar_b0_7s (r7 : Int32 → Int32 → Int32 → Wd → va_W → Prop) (N : Nat) (post : Int32 → Wd → va_W → Prop) (x3 : Int32) (x4 : Int32) (x5 : Int32) (w : Wd) (L : va_W) : Prop :=
  (x3 ≤ x5 →
    post (-1) w L) ∧
  (¬ x3 ≤ x5 →
    vp_in x5 (sln 0) ∧ ((sby 0 x5.toNatClampNeg) = x4 →
      post x5 w L) ∧
    (¬ (sby 0 x5.toNatClampNeg) = x4 →
      r7 x3 x4 (x5 + 1) w L))
def B_J3_indexOfChar_b0_7 (N : Nat) (post : Int32 → Wd → va_W → Prop) : Nat → Int32 → Int32 → Int32 → Wd → va_W → Prop
  | 0, _, _, _, _, _ => False
  | n + 1, x3, x4, x5, w, L => B_J3_indexOfChar_b0_7s (B_J3_indexOfChar_b0_7 N post n) N post x3 x4 x5 w L
set_option maxHeartbeats 4000000 in
theorem k_J3_indexOfChar_b0_7s {Γ : gT} {K : gK} {N : Nat} {post : Int32 → Wd → va_W → Prop} (C : gC Γ K RJ3 cJ3_indexOfChar 6 rm_J3_indexOfChar_b0) (ret : gRi Γ K cJ3_indexOfChar (some .int) (jPi K post) 0 0) {r7 : Int32 → Int32 → Int32 → Wd → va_W → Prop} (hr7 : ∀ (x3 : Int32) (x4 : Int32) (x5 : Int32) (w : Wd) (L : va_W), r7 x3 x4 x5 w L → gJ Γ K 0 0 (jL K w ++ L) 7 [(0, .ref (kV K 0)), (3, .int x3), (4, .int x4), (5, .int x5)] []) (x3 : Int32) (x4 : Int32) (x5 : Int32) (w : Wd) (L : va_W) (h : B_J3_indexOfChar_b0_7s r7 N post x3 x4 x5 w L) : gJ Γ K 0 0 (jL K w ++ L) 7 [(0, .ref (kV K 0)), (3, .int x3), (4, .int x4), (5, .int x5)] [] := by
  unfold B_J3_indexOfChar_b0_7s at h
  refine g_iload C 3 rfl dJ3_indexOfChar_7 ?_
  refine g_iload_n C 1 rfl dJ3_indexOfChar_9 ?_
  refine g_icmp_ge C 31 dJ3_indexOfChar_10 (by decide) (fun hc => ?_) (fun hc => ?_)
  · replace h := h.1 hc
    refine g_iconst C (-1) (by decide) dJ3_indexOfChar_31 ?_
    exact ret _ _ _ _ _ rfl rfl dJ3_indexOfChar_32 ⟨_, _, rfl, h⟩
  · replace h := h.2 hc
    refine g_aload_n C 0 rfl dJ3_indexOfChar_13 ?_
    refine g_iload C 3 rfl dJ3_indexOfChar_14 ?_
    obtain ⟨hb, h⟩ := h
    refine g_strb C (i0 := 0) (by decide) hb dJ3_indexOfChar_16 ?_
    refine g_iload C 2 rfl dJ3_indexOfChar_17 ?_
    refine g_icmp_ne C 25 dJ3_indexOfChar_19 (by decide) (fun hc => ?_) (fun hc => ?_)
    · replace h := h.2 hc
      refine g_iinc C 3 (x5 + 1) (lt := [(5, .int (x5 + 1)), (0, .ref (kV K 0)), (3, .int x3), (4, .int x4)]) rfl rfl dJ3_indexOfChar_25 (by decide) rfl ?_
      refine g_goto C 7 dJ3_indexOfChar_28 (by decide) ?_
      refine g_sub [1, 2, 3, 0] rfl ?_
      exact hr7 x3 x4 (x5 + 1) w L h
    · replace h := h.1 hc
      refine g_iload C 3 rfl dJ3_indexOfChar_22 ?_
      exact ret _ _ _ _ _ rfl rfl dJ3_indexOfChar_24 ⟨_, _, rfl, h⟩
theorem k_J3_indexOfChar_b0_7 {Γ : gT} {K : gK} {N : Nat} {post : Int32 → Wd → va_W → Prop} (C : gC Γ K RJ3 cJ3_indexOfChar 6 rm_J3_indexOfChar_b0) (ret : gRi Γ K cJ3_indexOfChar (some .int) (jPi K post) 0 0) : ∀ (n : Nat) (x3 : Int32) (x4 : Int32) (x5 : Int32) (w : Wd) (L : va_W) (h : B_J3_indexOfChar_b0_7 N post n x3 x4 x5 w L), gJ Γ K 0 0 (jL K w ++ L) 7 [(0, .ref (kV K 0)), (3, .int x3), (4, .int x4), (5, .int x5)] [] := by
  intro n
  induction n with
  | zero => intro x3 x4 x5 w L h; exact h.elim
  | succ n ih => intro x3 x4 x5 w L h; exact k_J3_indexOfChar_b0_7s C ret ih x3 x4 x5 w L h
def B_J3_indexOfChar_b0_0 (N : Nat) (post : Int32 → Wd → va_W → Prop) (x1 : Int32) (x2 : Int32) (x3 : Int32) (w : Wd) (L : va_W) : Prop :=
  B_J3_indexOfChar_b0_7 N post N x3 x1.toInt8.toInt32 x2 w L
set_option maxHeartbeats 4000000 in
theorem k_J3_indexOfChar_b0_0 {Γ : gT} {K : gK} {N : Nat} {post : Int32 → Wd → va_W → Prop} (C : gC Γ K RJ3 cJ3_indexOfChar 6 rm_J3_indexOfChar_b0) (ret : gRi Γ K cJ3_indexOfChar (some .int) (jPi K post) 0 0) (x1 : Int32) (x2 : Int32) (x3 : Int32) (w : Wd) (L : va_W) (h : B_J3_indexOfChar_b0_0 N post x1 x2 x3 w L) : gJ Γ K 0 0 (jL K w ++ L) 0 [(0, .ref (kV K 0)), (1, .int x1), (2, .int x2), (3, .int x3)] [] := by
  unfold B_J3_indexOfChar_b0_0 at h
  refine g_iload_n C 1 rfl dJ3_indexOfChar_0 ?_
  refine g_i2b C dJ3_indexOfChar_1 ?_
  refine g_istore C (lt := [(4, .int x1.toInt8.toInt32), (0, .ref (kV K 0)), (1, .int x1), (2, .int x2), (3, .int x3)]) dJ3_indexOfChar_2 (by decide) rfl ?_
  refine g_iload_n C 3 rfl dJ3_indexOfChar_4 ?_
  refine g_istore C (lt := [(5, .int x2), (4, .int x1.toInt8.toInt32), (0, .ref (kV K 0)), (1, .int x1), (2, .int x2), (3, .int x3)]) dJ3_indexOfChar_5 (by decide) rfl ?_
  refine g_sub [2, 5, 1, 0] rfl ?_
  exact k_J3_indexOfChar_b0_7 C ret N x3 x1.toInt8.toInt32 x2 w L h
def B_J3_indexOfChar_b0 (N : Nat) (x1 : Int32) (x2 : Int32) (x3 : Int32) (post : Int32 → Wd → va_W → Prop) (w : Wd) (L : va_W) : Prop := B_J3_indexOfChar_b0_0 N post x1 x2 x3 w L
theorem m_J3_indexOfChar_b0 {l : Launch} {K : gK} {N : Nat} {post : Int32 → Wd → va_W → Prop} {x1 : Int32} {x2 : Int32} {x3 : Int32} {w : Wd} {L : va_W} (h : B_J3_indexOfChar_b0 N x1 x2 x3 post w L) : gMi l K yJ3_indexOfChar cJ3_indexOfChar 6 (some .int) rm_J3_indexOfChar_b0 [.ref (kV K 0), .int x1, .int x2, .int x3] (jL K w ++ L) (jPi K post) 0 0 := by
  refine g_inI (ls0 := [(0, .ref (kV K 0)), (1, .int x1), (2, .int x2), (3, .int x3)]) (by decide) (Nat.le_of_ble_eq_true rfl) rfl (fun Γ hl C hn ret => ?_)
  exact k_J3_indexOfChar_b0_0 C ret x1 x2 x3 w L h
def rm_J3_indexOf_b0 : Room := { frames := 1, cells := 0, slots := 0, locals := 25 }
def B_J3_indexOf_b0_0 (N : Nat) (post : Int32 → Wd → va_W → Prop) (x1 : Int32) (x2 : Int32) (x3 : Int32) (w : Wd) (L : va_W) : Prop :=
  B_J3_canEncode N x1 (fun (v3 : Int32) (w1 : Wd) (L2 : va_W) =>
  (v3 = 0 →
    post (-1) w1 L2) ∧
  (¬ v3 = 0 →
    ((if x2 < 0 then 0 else x2) < (if 4 < x3 then 4 else x3) →
      B_J3_indexOfChar_b0 N x1 (if x2 < 0 then 0 else x2) (if 4 < x3 then 4 else x3) (fun (v6 : Int32) (w4 : Wd) (L5 : va_W) =>
  post v6 w4 L5) w1 L2) ∧
    (¬ (if x2 < 0 then 0 else x2) < (if 4 < x3 then 4 else x3) →
      post (-1) w1 L2))) w L
set_option maxHeartbeats 4000000 in
theorem k_J3_indexOf_b0_0 {Γ : gT} {K : gK} {N : Nat} {post : Int32 → Wd → va_W → Prop} (C : gC Γ K RJ3 cJ3_indexOf 4 rm_J3_indexOf_b0) (ret : gRi Γ K cJ3_indexOf (some .int) (jPi K post) 0 0) (x1 : Int32) (x2 : Int32) (x3 : Int32) (w : Wd) (L : va_W) (h : B_J3_indexOf_b0_0 N post x1 x2 x3 w L) : gJ Γ K 0 0 (jL K w ++ L) 0 [(0, .ref (kV K 0)), (1, .int x1), (2, .int x2), (3, .int x3)] [] := by
  unfold B_J3_indexOf_b0_0 at h
  refine g_iload_n C 1 rfl dJ3_indexOf_0 ?_
  refine g_callSi C (As := [.int x1]) (rest := []) (m_J3_canEncode h) (Cn := "") (b := 0) (lw_S q403 q404 q86 q405) ⟨rfl, rfl⟩ ⟨Nat.le_of_ble_eq_true rfl, Nat.le_of_ble_eq_true rfl⟩ 1 rfl (by decide +kernel) rfl (Nat.le_of_ble_eq_true rfl) ⟨Nat.zero_le _, Nat.zero_le _⟩ dJ3_indexOf_1 ?_
  rintro v3 _ ⟨w1, L2, rfl, h⟩
  refine g_if_ne C 9 dJ3_indexOf_4 (by decide) (fun hc => ?_) (fun hc => ?_)
  · replace h := h.2 hc
    refine g_iload_n C 2 rfl dJ3_indexOf_9 ?_
    refine g_iconst C 0 (by decide) dJ3_indexOf_10 ?_
    refine g_mmax C q406 q407 q87 q408 ⟨Nat.le_of_ble_eq_true rfl, (Nat.le_of_ble_eq_true rfl)⟩ ⟨Nat.zero_le _, Nat.zero_le _⟩ dJ3_indexOf_11 ?_
    refine g_istore_n C rfl (lt := [(2, .int (if x2 < 0 then 0 else x2)), (0, .ref (kV K 0)), (1, .int x1), (3, .int x3)]) dJ3_indexOf_14 (by decide) rfl ?_
    refine g_iload_n C 3 rfl dJ3_indexOf_15 ?_
    refine g_aload_n C 1 rfl dJ3_indexOf_16 ?_
    refine g_stra C (i0 := 0) (by decide) 4 (by decide) dJ3_indexOf_17 ?_
    refine g_mmin C q409 q410 q87 q411 ⟨Nat.le_of_ble_eq_true rfl, (Nat.le_of_ble_eq_true rfl)⟩ ⟨Nat.zero_le _, Nat.zero_le _⟩ dJ3_indexOf_18 ?_
    refine g_istore_n C rfl (lt := [(3, .int (if 4 < x3 then 4 else x3)), (2, .int (if x2 < 0 then 0 else x2)), (0, .ref (kV K 0)), (1, .int x1)]) dJ3_indexOf_21 (by decide) rfl ?_
    refine g_iload_n C 1 rfl dJ3_indexOf_22 ?_
    refine g_iload_n C 0 rfl dJ3_indexOf_23 ?_
    refine g_icmp_lt C 29 dJ3_indexOf_24 (by decide) (fun hc => ?_) (fun hc => ?_)
    · replace h := h.1 hc
      refine g_aload_n C 2 rfl dJ3_indexOf_29 ?_
      refine g_iload_n C 3 rfl dJ3_indexOf_30 ?_
      refine g_iload_n C 1 rfl dJ3_indexOf_31 ?_
      refine g_iload_n C 0 rfl dJ3_indexOf_32 ?_
      refine g_callSi C (As := [.ref (kV K 0), .int x1, .int (if x2 < 0 then 0 else x2), .int (if 4 < x3 then 4 else x3)]) (rest := []) (m_J3_indexOfChar_b0 h) (Cn := "") (b := 0) (lw_S q412 q413 q86 q414) ⟨rfl, rfl⟩ ⟨Nat.le_of_ble_eq_true rfl, Nat.le_of_ble_eq_true rfl⟩ 4 rfl (by decide +kernel) rfl (Nat.le_of_ble_eq_true rfl) ⟨Nat.zero_le _, Nat.zero_le _⟩ dJ3_indexOf_33 ?_
      rintro v6 _ ⟨w4, L5, rfl, h⟩
      exact ret _ _ _ _ _ rfl rfl dJ3_indexOf_36 ⟨_, _, rfl, h⟩
    · replace h := h.2 hc
      refine g_iconst C (-1) (by decide) dJ3_indexOf_27 ?_
      exact ret _ _ _ _ _ rfl rfl dJ3_indexOf_28 ⟨_, _, rfl, h⟩
  · replace h := h.1 hc
    refine g_iconst C (-1) (by decide) dJ3_indexOf_7 ?_
    exact ret _ _ _ _ _ rfl rfl dJ3_indexOf_8 ⟨_, _, rfl, h⟩
def B_J3_indexOf_b0 (N : Nat) (x1 : Int32) (x2 : Int32) (x3 : Int32) (post : Int32 → Wd → va_W → Prop) (w : Wd) (L : va_W) : Prop := B_J3_indexOf_b0_0 N post x1 x2 x3 w L
theorem m_J3_indexOf_b0 {l : Launch} {K : gK} {N : Nat} {post : Int32 → Wd → va_W → Prop} {x1 : Int32} {x2 : Int32} {x3 : Int32} {w : Wd} {L : va_W} (h : B_J3_indexOf_b0 N x1 x2 x3 post w L) : gMi l K yJ3_indexOf cJ3_indexOf 4 (some .int) rm_J3_indexOf_b0 [.ref (kV K 0), .int x1, .int x2, .int x3] (jL K w ++ L) (jPi K post) 0 0 := by
  refine g_inI (ls0 := [(0, .ref (kV K 0)), (1, .int x1), (2, .int x2), (3, .int x3)]) (by decide) (Nat.le_of_ble_eq_true rfl) rfl (fun Γ hl C hn ret => ?_)
  exact k_J3_indexOf_b0_0 C ret x1 x2 x3 w L h
def rm_J2_indexOf_2_s0 : Room := { frames := 2, cells := 0, slots := 0, locals := 48 }
def B_J2_indexOf_2_s0_0 (N : Nat) (post : Int32 → Wd → va_W → Prop) (x1 : Int32) (x2 : Int32) (w : Wd) (L : va_W) : Prop :=
  B_J2_isLatin1_s0 N (fun (v3 : Int32) (w1 : Wd) (L2 : va_W) =>
  (v3 = 0 →
    False) ∧
  (¬ v3 = 0 →
    B_J2_length_s0 N (fun (v6 : Int32) (w4 : Wd) (L5 : va_W) =>
  B_J3_indexOf_b0 N x1 x2 v6 (fun (v9 : Int32) (w7 : Wd) (L8 : va_W) =>
  post v9 w7 L8) w4 L5) w1 L2)) w L
set_option maxHeartbeats 4000000 in
theorem k_J2_indexOf_2_s0_0 {Γ : gT} {K : gK} {N : Nat} {post : Int32 → Wd → va_W → Prop} (C : gC Γ K RJ2 cJ2_indexOf_2 3 rm_J2_indexOf_2_s0) (ret : gRi Γ K cJ2_indexOf_2 (some .int) (jPi K post) 0 0) (x1 : Int32) (x2 : Int32) (w : Wd) (L : va_W) (h : B_J2_indexOf_2_s0_0 N post x1 x2 w L) : gJ Γ K 0 0 (jL K w ++ L) 0 [(0, .ref (kS K 0)), (1, .int x1), (2, .int x2)] [] := by
  unfold B_J2_indexOf_2_s0_0 at h
  refine g_aload_n C 0 rfl dJ2_indexOf_2_0 ?_
  refine g_callVKi C (As := []) (rest := []) (m_J2_isLatin1_s0 h) (lw_V q386 q387 q388 q85 q389) (i0 := 0) (by decide) ⟨rfl, rfl⟩ ⟨Nat.le_of_ble_eq_true rfl, Nat.le_of_ble_eq_true rfl⟩ 0 rfl (by decide +kernel) rfl (Nat.le_of_ble_eq_true rfl) ⟨Nat.zero_le _, Nat.zero_le _⟩ dJ2_indexOf_2_1 ?_
  rintro v3 _ ⟨w1, L2, rfl, h⟩
  refine g_if_eq C 23 dJ2_indexOf_2_4 (by decide) (fun hc => ?_) (fun hc => ?_)
  · replace h := h.1 hc
    exact h.elim
  · replace h := h.2 hc
    refine g_aload_n C 0 rfl dJ2_indexOf_2_7 ?_
    refine g_strv C q1504 (i0 := 0) (by decide) dJ2_indexOf_2_8 ?_
    refine g_iload_n C 1 rfl dJ2_indexOf_2_11 ?_
    refine g_iload_n C 2 rfl dJ2_indexOf_2_12 ?_
    refine g_aload_n C 0 rfl dJ2_indexOf_2_13 ?_
    refine g_callVKi C (As := []) (rest := [.int x2, .int x1, .ref (kV K 0)]) (m_J2_length_s0 h) (lw_V q392 q393 q394 q85 q395) (i0 := 0) (by decide) ⟨rfl, rfl⟩ ⟨Nat.le_of_ble_eq_true rfl, Nat.le_of_ble_eq_true rfl⟩ 0 rfl (by decide +kernel) rfl (Nat.le_of_ble_eq_true rfl) ⟨Nat.zero_le _, Nat.zero_le _⟩ dJ2_indexOf_2_14 ?_
    rintro v6 _ ⟨w4, L5, rfl, h⟩
    refine g_callSi C (As := [.ref (kV K 0), .int x1, .int x2, .int v6]) (rest := []) (m_J3_indexOf_b0 h) (Cn := "") (b := 0) (lw_S q400 q401 q86 q402) ⟨rfl, rfl⟩ ⟨Nat.le_of_ble_eq_true rfl, Nat.le_of_ble_eq_true rfl⟩ 4 rfl (by decide +kernel) rfl (Nat.le_of_ble_eq_true rfl) ⟨Nat.zero_le _, Nat.zero_le _⟩ dJ2_indexOf_2_17 ?_
    rintro v9 _ ⟨w7, L8, rfl, h⟩
    refine g_goto C 36 dJ2_indexOf_2_20 (by decide) ?_
    exact ret _ _ _ _ _ rfl rfl dJ2_indexOf_2_36 ⟨_, _, rfl, h⟩
def B_J2_indexOf_2_s0 (N : Nat) (x1 : Int32) (x2 : Int32) (post : Int32 → Wd → va_W → Prop) (w : Wd) (L : va_W) : Prop := B_J2_indexOf_2_s0_0 N post x1 x2 w L
theorem m_J2_indexOf_2_s0 {l : Launch} {K : gK} {N : Nat} {post : Int32 → Wd → va_W → Prop} {x1 : Int32} {x2 : Int32} {w : Wd} {L : va_W} (h : B_J2_indexOf_2_s0 N x1 x2 post w L) : gMi l K yJ2_indexOf_2 cJ2_indexOf_2 3 (some .int) rm_J2_indexOf_2_s0 [.ref (kS K 0), .int x1, .int x2] (jL K w ++ L) (jPi K post) 0 0 := by
  refine g_inI (ls0 := [(0, .ref (kS K 0)), (1, .int x1), (2, .int x2)]) (by decide) (Nat.le_of_ble_eq_true rfl) rfl (fun Γ hl C hn ret => ?_)
  exact k_J2_indexOf_2_s0_0 C ret x1 x2 w L h
def rm_J2_indexOf_s0 : Room := { frames := 3, cells := 0, slots := 0, locals := 70 }
def B_J2_indexOf_s0_0 (N : Nat) (post : Int32 → Wd → va_W → Prop) (x1 : Int32) (w : Wd) (L : va_W) : Prop :=
  B_J2_indexOf_2_s0 N x1 0 (fun (v3 : Int32) (w1 : Wd) (L2 : va_W) =>
  post v3 w1 L2) w L
set_option maxHeartbeats 4000000 in
theorem k_J2_indexOf_s0_0 {Γ : gT} {K : gK} {N : Nat} {post : Int32 → Wd → va_W → Prop} (C : gC Γ K RJ2 cJ2_indexOf 2 rm_J2_indexOf_s0) (ret : gRi Γ K cJ2_indexOf (some .int) (jPi K post) 0 0) (x1 : Int32) (w : Wd) (L : va_W) (h : B_J2_indexOf_s0_0 N post x1 w L) : gJ Γ K 0 0 (jL K w ++ L) 0 [(0, .ref (kS K 0)), (1, .int x1)] [] := by
  unfold B_J2_indexOf_s0_0 at h
  refine g_aload_n C 0 rfl dJ2_indexOf_0 ?_
  refine g_iload_n C 1 rfl dJ2_indexOf_1 ?_
  refine g_iconst C 0 (by decide) dJ2_indexOf_2 ?_
  refine g_callVKi C (As := [.int x1, .int 0]) (rest := []) (m_J2_indexOf_2_s0 h) (lw_V q382 q383 q384 q85 q385) (i0 := 0) (by decide) ⟨rfl, rfl⟩ ⟨Nat.le_of_ble_eq_true rfl, Nat.le_of_ble_eq_true rfl⟩ 2 rfl (by decide +kernel) rfl (Nat.le_of_ble_eq_true rfl) ⟨Nat.zero_le _, Nat.zero_le _⟩ dJ2_indexOf_3 ?_
  rintro v3 _ ⟨w1, L2, rfl, h⟩
  exact ret _ _ _ _ _ rfl rfl dJ2_indexOf_6 ⟨_, _, rfl, h⟩
def B_J2_indexOf_s0 (N : Nat) (x1 : Int32) (post : Int32 → Wd → va_W → Prop) (w : Wd) (L : va_W) : Prop := B_J2_indexOf_s0_0 N post x1 w L
theorem m_J2_indexOf_s0 {l : Launch} {K : gK} {N : Nat} {post : Int32 → Wd → va_W → Prop} {x1 : Int32} {w : Wd} {L : va_W} (h : B_J2_indexOf_s0 N x1 post w L) : gMi l K yJ2_indexOf cJ2_indexOf 2 (some .int) rm_J2_indexOf_s0 [.ref (kS K 0), .int x1] (jL K w ++ L) (jPi K post) 0 0 := by
  refine g_inI (ls0 := [(0, .ref (kS K 0)), (1, .int x1)]) (by decide) (Nat.le_of_ble_eq_true rfl) rfl (fun Γ hl C hn ret => ?_)
  exact k_J2_indexOf_s0_0 C ret x1 w L h
def rm_J2_isLatin1_s1 : Room := { frames := 0, cells := 0, slots := 0, locals := 0 }
def B_J2_isLatin1_s1_18 (N : Nat) (post : Int32 → Wd → va_W → Prop) (s0 : Int32) (w : Wd) (L : va_W) : Prop :=
  gZ s0 ∧ post s0 w L
set_option maxHeartbeats 4000000 in
theorem k_J2_isLatin1_s1_18 {Γ : gT} {K : gK} {N : Nat} {post : Int32 → Wd → va_W → Prop} (C : gC Γ K RJ2 cJ2_isLatin1 1 rm_J2_isLatin1_s1) (ret : gRi Γ K cJ2_isLatin1 (some .boolean) (jPi K post) 0 0) (s0 : Int32) (w : Wd) (L : va_W) (h : B_J2_isLatin1_s1_18 N post s0 w L) : gJ Γ K 0 0 (jL K w ++ L) 18 [] [.int s0] := by
  unfold B_J2_isLatin1_s1_18 at h
  obtain ⟨hz, h⟩ := h
  exact ret _ _ _ _ _ rfl hz.n dJ2_isLatin1_18 ⟨_, _, rfl, h⟩
def B_J2_isLatin1_s1_17 (N : Nat) (post : Int32 → Wd → va_W → Prop) (w : Wd) (L : va_W) : Prop :=
  B_J2_isLatin1_s1_18 N post 0 w L
set_option maxHeartbeats 4000000 in
theorem k_J2_isLatin1_s1_17 {Γ : gT} {K : gK} {N : Nat} {post : Int32 → Wd → va_W → Prop} (C : gC Γ K RJ2 cJ2_isLatin1 1 rm_J2_isLatin1_s1) (ret : gRi Γ K cJ2_isLatin1 (some .boolean) (jPi K post) 0 0) (w : Wd) (L : va_W) (h : B_J2_isLatin1_s1_17 N post w L) : gJ Γ K 0 0 (jL K w ++ L) 17 [] [] := by
  unfold B_J2_isLatin1_s1_17 at h
  refine g_iconst C 0 (by decide) dJ2_isLatin1_17 ?_
  exact k_J2_isLatin1_s1_18 C ret 0 w L h
def B_J2_isLatin1_s1_0 (N : Nat) (post : Int32 → Wd → va_W → Prop) (w : Wd) (L : va_W) : Prop :=
  ((1 : Int32) = 0 →
    B_J2_isLatin1_s1_17 N post w L) ∧
  (¬ (1 : Int32) = 0 →
    ((0 : Int32) = 0 →
      B_J2_isLatin1_s1_18 N post 1 w L) ∧
    (¬ (0 : Int32) = 0 →
      B_J2_isLatin1_s1_17 N post w L))
set_option maxHeartbeats 4000000 in
theorem k_J2_isLatin1_s1_0 {Γ : gT} {K : gK} {N : Nat} {post : Int32 → Wd → va_W → Prop} (C : gC Γ K RJ2 cJ2_isLatin1 1 rm_J2_isLatin1_s1) (ret : gRi Γ K cJ2_isLatin1 (some .boolean) (jPi K post) 0 0) (w : Wd) (L : va_W) (h : B_J2_isLatin1_s1_0 N post w L) : gJ Γ K 0 0 (jL K w ++ L) 0 [(0, .ref (kS K 1))] [] := by
  unfold B_J2_isLatin1_s1_0 at h
  refine g_compact C q390 dJ2_isLatin1_0 ?_
  refine g_if_eq C 17 dJ2_isLatin1_3 (by decide) (fun hc => ?_) (fun hc => ?_)
  · replace h := h.1 hc
    refine g_sub [] rfl ?_
    exact k_J2_isLatin1_s1_17 C ret w L h
  · replace h := h.2 hc
    refine g_aload_n C 0 rfl dJ2_isLatin1_6 ?_
    refine g_strc C q1503 (i0 := 1) (by decide) dJ2_isLatin1_7 ?_
    refine g_if_ne C 17 dJ2_isLatin1_10 (by decide) (fun hc => ?_) (fun hc => ?_)
    · replace h := h.2 hc
      refine g_sub [] rfl ?_
      exact k_J2_isLatin1_s1_17 C ret w L h
    · replace h := h.1 hc
      refine g_iconst C 1 (by decide) dJ2_isLatin1_13 ?_
      refine g_goto C 18 dJ2_isLatin1_14 (by decide) ?_
      refine g_sub [] rfl ?_
      exact k_J2_isLatin1_s1_18 C ret 1 w L h
def B_J2_isLatin1_s1 (N : Nat) (post : Int32 → Wd → va_W → Prop) (w : Wd) (L : va_W) : Prop := B_J2_isLatin1_s1_0 N post w L
theorem m_J2_isLatin1_s1 {l : Launch} {K : gK} {N : Nat} {post : Int32 → Wd → va_W → Prop} {w : Wd} {L : va_W} (h : B_J2_isLatin1_s1 N post w L) : gMi l K yJ2_isLatin1 cJ2_isLatin1 1 (some .boolean) rm_J2_isLatin1_s1 [.ref (kS K 1)] (jL K w ++ L) (jPi K post) 0 0 := by
  refine g_inI (ls0 := [(0, .ref (kS K 1))]) (by decide) (Nat.le_of_ble_eq_true rfl) rfl (fun Γ hl C hn ret => ?_)
  exact k_J2_isLatin1_s1_0 C ret w L h
def rm_J2_length_s1 : Room := { frames := 1, cells := 0, slots := 0, locals := 20 }
def B_J2_length_s1_0 (N : Nat) (post : Int32 → Wd → va_W → Prop) (w : Wd) (L : va_W) : Prop :=
  B_J2_coder_s1 N (fun (v3 : Int32) (w1 : Wd) (L2 : va_W) =>
  post (8 >>> (v3 &&& 31)) w1 L2) w L
set_option maxHeartbeats 4000000 in
theorem k_J2_length_s1_0 {Γ : gT} {K : gK} {N : Nat} {post : Int32 → Wd → va_W → Prop} (C : gC Γ K RJ2 cJ2_length 1 rm_J2_length_s1) (ret : gRi Γ K cJ2_length (some .int) (jPi K post) 0 0) (w : Wd) (L : va_W) (h : B_J2_length_s1_0 N post w L) : gJ Γ K 0 0 (jL K w ++ L) 0 [(0, .ref (kS K 1))] [] := by
  unfold B_J2_length_s1_0 at h
  refine g_aload_n C 0 rfl dJ2_length_0 ?_
  refine g_strv C q1504 (i0 := 1) (by decide) dJ2_length_1 ?_
  refine g_stra C (i0 := 1) (by decide) 8 (by decide) dJ2_length_4 ?_
  refine g_aload_n C 0 rfl dJ2_length_5 ?_
  refine g_callVKi C (As := []) (rest := [.int 8]) (m_J2_coder_s1 h) (lw_V q396 q397 q398 q85 q399) (i0 := 1) (by decide) ⟨rfl, rfl⟩ ⟨Nat.le_of_ble_eq_true rfl, Nat.le_of_ble_eq_true rfl⟩ 0 rfl (by decide +kernel) rfl (Nat.le_of_ble_eq_true rfl) ⟨Nat.zero_le _, Nat.zero_le _⟩ dJ2_length_6 ?_
  rintro v3 _ ⟨w1, L2, rfl, h⟩
  refine g_ishr C dJ2_length_9 ?_
  exact ret _ _ _ _ _ rfl rfl dJ2_length_10 ⟨_, _, rfl, h⟩
def B_J2_length_s1 (N : Nat) (post : Int32 → Wd → va_W → Prop) (w : Wd) (L : va_W) : Prop := B_J2_length_s1_0 N post w L
theorem m_J2_length_s1 {l : Launch} {K : gK} {N : Nat} {post : Int32 → Wd → va_W → Prop} {w : Wd} {L : va_W} (h : B_J2_length_s1 N post w L) : gMi l K yJ2_length cJ2_length 1 (some .int) rm_J2_length_s1 [.ref (kS K 1)] (jL K w ++ L) (jPi K post) 0 0 := by
  refine g_inI (ls0 := [(0, .ref (kS K 1))]) (by decide) (Nat.le_of_ble_eq_true rfl) rfl (fun Γ hl C hn ret => ?_)
  exact k_J2_length_s1_0 C ret w L h
def rm_J3_charAt_b1 : Room := { frames := 2, cells := 0, slots := 0, locals := 43 }
def B_J3_charAt_b1_0 (N : Nat) (post : Int32 → Wd → va_W → Prop) (x1 : Int32) (w : Wd) (L : va_W) : Prop :=
  B_J2_checkIndex N x1 8 (fun (w1 : Wd) (L2 : va_W) =>
  vp_in x1 (sln 1) ∧ narrow .char (.int ((((sby 1 x1.toNatClampNeg) &&& 255).toUInt32 % 65536).toInt32)) = .int ((((sby 1 x1.toNatClampNeg) &&& 255).toUInt32 % 65536).toInt32) ∧ post ((((sby 1 x1.toNatClampNeg) &&& 255).toUInt32 % 65536).toInt32) w1 L2) w L
set_option maxHeartbeats 4000000 in
theorem k_J3_charAt_b1_0 {Γ : gT} {K : gK} {N : Nat} {post : Int32 → Wd → va_W → Prop} (C : gC Γ K RJ3 cJ3_charAt 2 rm_J3_charAt_b1) (ret : gRi Γ K cJ3_charAt (some .char) (jPi K post) 0 0) (x1 : Int32) (w : Wd) (L : va_W) (h : B_J3_charAt_b1_0 N post x1 w L) : gJ Γ K 0 0 (jL K w ++ L) 0 [(0, .ref (kV K 1)), (1, .int x1)] [] := by
  unfold B_J3_charAt_b1_0 at h
  refine g_iload_n C 1 rfl dJ3_charAt_0 ?_
  refine g_aload_n C 0 rfl dJ3_charAt_1 ?_
  refine g_stra C (i0 := 1) (by decide) 8 (by decide) dJ3_charAt_2 ?_
  refine g_callSv C (As := [.int x1, .int 8]) (rest := []) (m_J2_checkIndex h) (Cn := "") (b := 0) (lw_S q782 q783 q85 q784) ⟨rfl, rfl⟩ ⟨Nat.le_of_ble_eq_true rfl, Nat.le_of_ble_eq_true rfl⟩ 2 rfl (by decide +kernel) rfl (Nat.le_of_ble_eq_true rfl) ⟨Nat.zero_le _, Nat.zero_le _⟩ dJ3_charAt_3 ?_
  rintro _ ⟨w1, L2, rfl, h⟩
  refine g_aload_n C 0 rfl dJ3_charAt_6 ?_
  refine g_iload_n C 1 rfl dJ3_charAt_7 ?_
  obtain ⟨hb, h⟩ := h
  refine g_strb C (i0 := 1) (by decide) hb dJ3_charAt_8 ?_
  refine g_sipush C 255 (by decide) dJ3_charAt_9 ?_
  refine g_iand C dJ3_charAt_12 ?_
  refine g_i2c C dJ3_charAt_13 ?_
  obtain ⟨hz, h⟩ := h
  exact ret _ _ _ _ _ rfl hz dJ3_charAt_14 ⟨_, _, rfl, h⟩
def B_J3_charAt_b1 (N : Nat) (x1 : Int32) (post : Int32 → Wd → va_W → Prop) (w : Wd) (L : va_W) : Prop := B_J3_charAt_b1_0 N post x1 w L
theorem m_J3_charAt_b1 {l : Launch} {K : gK} {N : Nat} {post : Int32 → Wd → va_W → Prop} {x1 : Int32} {w : Wd} {L : va_W} (h : B_J3_charAt_b1 N x1 post w L) : gMi l K yJ3_charAt cJ3_charAt 2 (some .char) rm_J3_charAt_b1 [.ref (kV K 1), .int x1] (jL K w ++ L) (jPi K post) 0 0 := by
  refine g_inI (ls0 := [(0, .ref (kV K 1)), (1, .int x1)]) (by decide) (Nat.le_of_ble_eq_true rfl) rfl (fun Γ hl C hn ret => ?_)
  exact k_J3_charAt_b1_0 C ret x1 w L h
def rm_J2_charAt_s1 : Room := { frames := 3, cells := 0, slots := 0, locals := 64 }
def B_J2_charAt_s1_0 (N : Nat) (post : Int32 → Wd → va_W → Prop) (x1 : Int32) (w : Wd) (L : va_W) : Prop :=
  B_J2_isLatin1_s1 N (fun (v3 : Int32) (w1 : Wd) (L2 : va_W) =>
  (v3 = 0 →
    False) ∧
  (¬ v3 = 0 →
    B_J3_charAt_b1 N x1 (fun (v6 : Int32) (w4 : Wd) (L5 : va_W) =>
  narrow .char (.int v6) = .int v6 ∧ post v6 w4 L5) w1 L2)) w L
set_option maxHeartbeats 4000000 in
theorem k_J2_charAt_s1_0 {Γ : gT} {K : gK} {N : Nat} {post : Int32 → Wd → va_W → Prop} (C : gC Γ K RJ2 cJ2_charAt 2 rm_J2_charAt_s1) (ret : gRi Γ K cJ2_charAt (some .char) (jPi K post) 0 0) (x1 : Int32) (w : Wd) (L : va_W) (h : B_J2_charAt_s1_0 N post x1 w L) : gJ Γ K 0 0 (jL K w ++ L) 0 [(0, .ref (kS K 1)), (1, .int x1)] [] := by
  unfold B_J2_charAt_s1_0 at h
  refine g_aload_n C 0 rfl dJ2_charAt_0 ?_
  refine g_callVKi C (As := []) (rest := []) (m_J2_isLatin1_s1 h) (lw_V q386 q387 q388 q85 q389) (i0 := 1) (by decide) ⟨rfl, rfl⟩ ⟨Nat.le_of_ble_eq_true rfl, Nat.le_of_ble_eq_true rfl⟩ 0 rfl (by decide +kernel) rfl (Nat.le_of_ble_eq_true rfl) ⟨Nat.zero_le _, Nat.zero_le _⟩ dJ2_charAt_1 ?_
  rintro v3 _ ⟨w1, L2, rfl, h⟩
  refine g_if_eq C 16 dJ2_charAt_4 (by decide) (fun hc => ?_) (fun hc => ?_)
  · replace h := h.1 hc
    exact h.elim
  · replace h := h.2 hc
    refine g_aload_n C 0 rfl dJ2_charAt_7 ?_
    refine g_strv C q1504 (i0 := 1) (by decide) dJ2_charAt_8 ?_
    refine g_iload_n C 1 rfl dJ2_charAt_11 ?_
    refine g_callSi C (As := [.ref (kV K 1), .int x1]) (rest := []) (m_J3_charAt_b1 h) (Cn := "") (b := 0) (lw_S q779 q780 q86 q781) ⟨rfl, rfl⟩ ⟨Nat.le_of_ble_eq_true rfl, Nat.le_of_ble_eq_true rfl⟩ 2 rfl (by decide +kernel) rfl (Nat.le_of_ble_eq_true rfl) ⟨Nat.zero_le _, Nat.zero_le _⟩ dJ2_charAt_12 ?_
    rintro v6 _ ⟨w4, L5, rfl, h⟩
    obtain ⟨hz, h⟩ := h
    exact ret _ _ _ _ _ rfl hz dJ2_charAt_15 ⟨_, _, rfl, h⟩
def B_J2_charAt_s1 (N : Nat) (x1 : Int32) (post : Int32 → Wd → va_W → Prop) (w : Wd) (L : va_W) : Prop := B_J2_charAt_s1_0 N post x1 w L
theorem m_J2_charAt_s1 {l : Launch} {K : gK} {N : Nat} {post : Int32 → Wd → va_W → Prop} {x1 : Int32} {w : Wd} {L : va_W} (h : B_J2_charAt_s1 N x1 post w L) : gMi l K yJ2_charAt cJ2_charAt 2 (some .char) rm_J2_charAt_s1 [.ref (kS K 1), .int x1] (jL K w ++ L) (jPi K post) 0 0 := by
  refine g_inI (ls0 := [(0, .ref (kS K 1)), (1, .int x1)]) (by decide) (Nat.le_of_ble_eq_true rfl) rfl (fun Γ hl C hn ret => ?_)
  exact k_J2_charAt_s1_0 C ret x1 w L h
def rm_J3_indexOfChar_b1 : Room := { frames := 0, cells := 0, slots := 0, locals := 0 }
def B_J3_indexOfChar_b1_7s (r7 : Int32 → Int32 → Int32 → Wd → va_W → Prop) (N : Nat) (post : Int32 → Wd → va_W → Prop) (x3 : Int32) (x4 : Int32) (x5 : Int32) (w : Wd) (L : va_W) : Prop :=
  (x3 ≤ x5 →
    post (-1) w L) ∧
  (¬ x3 ≤ x5 →
    vp_in x5 (sln 1) ∧ ((sby 1 x5.toNatClampNeg) = x4 →
      post x5 w L) ∧
    (¬ (sby 1 x5.toNatClampNeg) = x4 →
      r7 x3 x4 (x5 + 1) w L))
def B_J3_indexOfChar_b1_7 (N : Nat) (post : Int32 → Wd → va_W → Prop) : Nat → Int32 → Int32 → Int32 → Wd → va_W → Prop
  | 0, _, _, _, _, _ => False
  | n + 1, x3, x4, x5, w, L => B_J3_indexOfChar_b1_7s (B_J3_indexOfChar_b1_7 N post n) N post x3 x4 x5 w L
set_option maxHeartbeats 4000000 in
theorem k_J3_indexOfChar_b1_7s {Γ : gT} {K : gK} {N : Nat} {post : Int32 → Wd → va_W → Prop} (C : gC Γ K RJ3 cJ3_indexOfChar 6 rm_J3_indexOfChar_b1) (ret : gRi Γ K cJ3_indexOfChar (some .int) (jPi K post) 0 0) {r7 : Int32 → Int32 → Int32 → Wd → va_W → Prop} (hr7 : ∀ (x3 : Int32) (x4 : Int32) (x5 : Int32) (w : Wd) (L : va_W), r7 x3 x4 x5 w L → gJ Γ K 0 0 (jL K w ++ L) 7 [(0, .ref (kV K 1)), (3, .int x3), (4, .int x4), (5, .int x5)] []) (x3 : Int32) (x4 : Int32) (x5 : Int32) (w : Wd) (L : va_W) (h : B_J3_indexOfChar_b1_7s r7 N post x3 x4 x5 w L) : gJ Γ K 0 0 (jL K w ++ L) 7 [(0, .ref (kV K 1)), (3, .int x3), (4, .int x4), (5, .int x5)] [] := by
  unfold B_J3_indexOfChar_b1_7s at h
  refine g_iload C 3 rfl dJ3_indexOfChar_7 ?_
  refine g_iload_n C 1 rfl dJ3_indexOfChar_9 ?_
  refine g_icmp_ge C 31 dJ3_indexOfChar_10 (by decide) (fun hc => ?_) (fun hc => ?_)
  · replace h := h.1 hc
    refine g_iconst C (-1) (by decide) dJ3_indexOfChar_31 ?_
    exact ret _ _ _ _ _ rfl rfl dJ3_indexOfChar_32 ⟨_, _, rfl, h⟩
  · replace h := h.2 hc
    refine g_aload_n C 0 rfl dJ3_indexOfChar_13 ?_
    refine g_iload C 3 rfl dJ3_indexOfChar_14 ?_
    obtain ⟨hb, h⟩ := h
    refine g_strb C (i0 := 1) (by decide) hb dJ3_indexOfChar_16 ?_
    refine g_iload C 2 rfl dJ3_indexOfChar_17 ?_
    refine g_icmp_ne C 25 dJ3_indexOfChar_19 (by decide) (fun hc => ?_) (fun hc => ?_)
    · replace h := h.2 hc
      refine g_iinc C 3 (x5 + 1) (lt := [(5, .int (x5 + 1)), (0, .ref (kV K 1)), (3, .int x3), (4, .int x4)]) rfl rfl dJ3_indexOfChar_25 (by decide) rfl ?_
      refine g_goto C 7 dJ3_indexOfChar_28 (by decide) ?_
      refine g_sub [1, 2, 3, 0] rfl ?_
      exact hr7 x3 x4 (x5 + 1) w L h
    · replace h := h.1 hc
      refine g_iload C 3 rfl dJ3_indexOfChar_22 ?_
      exact ret _ _ _ _ _ rfl rfl dJ3_indexOfChar_24 ⟨_, _, rfl, h⟩
theorem k_J3_indexOfChar_b1_7 {Γ : gT} {K : gK} {N : Nat} {post : Int32 → Wd → va_W → Prop} (C : gC Γ K RJ3 cJ3_indexOfChar 6 rm_J3_indexOfChar_b1) (ret : gRi Γ K cJ3_indexOfChar (some .int) (jPi K post) 0 0) : ∀ (n : Nat) (x3 : Int32) (x4 : Int32) (x5 : Int32) (w : Wd) (L : va_W) (h : B_J3_indexOfChar_b1_7 N post n x3 x4 x5 w L), gJ Γ K 0 0 (jL K w ++ L) 7 [(0, .ref (kV K 1)), (3, .int x3), (4, .int x4), (5, .int x5)] [] := by
  intro n
  induction n with
  | zero => intro x3 x4 x5 w L h; exact h.elim
  | succ n ih => intro x3 x4 x5 w L h; exact k_J3_indexOfChar_b1_7s C ret ih x3 x4 x5 w L h
def B_J3_indexOfChar_b1_0 (N : Nat) (post : Int32 → Wd → va_W → Prop) (x1 : Int32) (x2 : Int32) (x3 : Int32) (w : Wd) (L : va_W) : Prop :=
  B_J3_indexOfChar_b1_7 N post N x3 x1.toInt8.toInt32 x2 w L
set_option maxHeartbeats 4000000 in
theorem k_J3_indexOfChar_b1_0 {Γ : gT} {K : gK} {N : Nat} {post : Int32 → Wd → va_W → Prop} (C : gC Γ K RJ3 cJ3_indexOfChar 6 rm_J3_indexOfChar_b1) (ret : gRi Γ K cJ3_indexOfChar (some .int) (jPi K post) 0 0) (x1 : Int32) (x2 : Int32) (x3 : Int32) (w : Wd) (L : va_W) (h : B_J3_indexOfChar_b1_0 N post x1 x2 x3 w L) : gJ Γ K 0 0 (jL K w ++ L) 0 [(0, .ref (kV K 1)), (1, .int x1), (2, .int x2), (3, .int x3)] [] := by
  unfold B_J3_indexOfChar_b1_0 at h
  refine g_iload_n C 1 rfl dJ3_indexOfChar_0 ?_
  refine g_i2b C dJ3_indexOfChar_1 ?_
  refine g_istore C (lt := [(4, .int x1.toInt8.toInt32), (0, .ref (kV K 1)), (1, .int x1), (2, .int x2), (3, .int x3)]) dJ3_indexOfChar_2 (by decide) rfl ?_
  refine g_iload_n C 3 rfl dJ3_indexOfChar_4 ?_
  refine g_istore C (lt := [(5, .int x2), (4, .int x1.toInt8.toInt32), (0, .ref (kV K 1)), (1, .int x1), (2, .int x2), (3, .int x3)]) dJ3_indexOfChar_5 (by decide) rfl ?_
  refine g_sub [2, 5, 1, 0] rfl ?_
  exact k_J3_indexOfChar_b1_7 C ret N x3 x1.toInt8.toInt32 x2 w L h
def B_J3_indexOfChar_b1 (N : Nat) (x1 : Int32) (x2 : Int32) (x3 : Int32) (post : Int32 → Wd → va_W → Prop) (w : Wd) (L : va_W) : Prop := B_J3_indexOfChar_b1_0 N post x1 x2 x3 w L
theorem m_J3_indexOfChar_b1 {l : Launch} {K : gK} {N : Nat} {post : Int32 → Wd → va_W → Prop} {x1 : Int32} {x2 : Int32} {x3 : Int32} {w : Wd} {L : va_W} (h : B_J3_indexOfChar_b1 N x1 x2 x3 post w L) : gMi l K yJ3_indexOfChar cJ3_indexOfChar 6 (some .int) rm_J3_indexOfChar_b1 [.ref (kV K 1), .int x1, .int x2, .int x3] (jL K w ++ L) (jPi K post) 0 0 := by
  refine g_inI (ls0 := [(0, .ref (kV K 1)), (1, .int x1), (2, .int x2), (3, .int x3)]) (by decide) (Nat.le_of_ble_eq_true rfl) rfl (fun Γ hl C hn ret => ?_)
  exact k_J3_indexOfChar_b1_0 C ret x1 x2 x3 w L h
def rm_J3_indexOf_b1 : Room := { frames := 1, cells := 0, slots := 0, locals := 25 }
def B_J3_indexOf_b1_0 (N : Nat) (post : Int32 → Wd → va_W → Prop) (x1 : Int32) (x2 : Int32) (x3 : Int32) (w : Wd) (L : va_W) : Prop :=
  B_J3_canEncode N x1 (fun (v3 : Int32) (w1 : Wd) (L2 : va_W) =>
  (v3 = 0 →
    post (-1) w1 L2) ∧
  (¬ v3 = 0 →
    ((if x2 < 0 then 0 else x2) < (if 8 < x3 then 8 else x3) →
      B_J3_indexOfChar_b1 N x1 (if x2 < 0 then 0 else x2) (if 8 < x3 then 8 else x3) (fun (v6 : Int32) (w4 : Wd) (L5 : va_W) =>
  post v6 w4 L5) w1 L2) ∧
    (¬ (if x2 < 0 then 0 else x2) < (if 8 < x3 then 8 else x3) →
      post (-1) w1 L2))) w L
set_option maxHeartbeats 4000000 in
theorem k_J3_indexOf_b1_0 {Γ : gT} {K : gK} {N : Nat} {post : Int32 → Wd → va_W → Prop} (C : gC Γ K RJ3 cJ3_indexOf 4 rm_J3_indexOf_b1) (ret : gRi Γ K cJ3_indexOf (some .int) (jPi K post) 0 0) (x1 : Int32) (x2 : Int32) (x3 : Int32) (w : Wd) (L : va_W) (h : B_J3_indexOf_b1_0 N post x1 x2 x3 w L) : gJ Γ K 0 0 (jL K w ++ L) 0 [(0, .ref (kV K 1)), (1, .int x1), (2, .int x2), (3, .int x3)] [] := by
  unfold B_J3_indexOf_b1_0 at h
  refine g_iload_n C 1 rfl dJ3_indexOf_0 ?_
  refine g_callSi C (As := [.int x1]) (rest := []) (m_J3_canEncode h) (Cn := "") (b := 0) (lw_S q403 q404 q86 q405) ⟨rfl, rfl⟩ ⟨Nat.le_of_ble_eq_true rfl, Nat.le_of_ble_eq_true rfl⟩ 1 rfl (by decide +kernel) rfl (Nat.le_of_ble_eq_true rfl) ⟨Nat.zero_le _, Nat.zero_le _⟩ dJ3_indexOf_1 ?_
  rintro v3 _ ⟨w1, L2, rfl, h⟩
  refine g_if_ne C 9 dJ3_indexOf_4 (by decide) (fun hc => ?_) (fun hc => ?_)
  · replace h := h.2 hc
    refine g_iload_n C 2 rfl dJ3_indexOf_9 ?_
    refine g_iconst C 0 (by decide) dJ3_indexOf_10 ?_
    refine g_mmax C q406 q407 q87 q408 ⟨Nat.le_of_ble_eq_true rfl, (Nat.le_of_ble_eq_true rfl)⟩ ⟨Nat.zero_le _, Nat.zero_le _⟩ dJ3_indexOf_11 ?_
    refine g_istore_n C rfl (lt := [(2, .int (if x2 < 0 then 0 else x2)), (0, .ref (kV K 1)), (1, .int x1), (3, .int x3)]) dJ3_indexOf_14 (by decide) rfl ?_
    refine g_iload_n C 3 rfl dJ3_indexOf_15 ?_
    refine g_aload_n C 1 rfl dJ3_indexOf_16 ?_
    refine g_stra C (i0 := 1) (by decide) 8 (by decide) dJ3_indexOf_17 ?_
    refine g_mmin C q409 q410 q87 q411 ⟨Nat.le_of_ble_eq_true rfl, (Nat.le_of_ble_eq_true rfl)⟩ ⟨Nat.zero_le _, Nat.zero_le _⟩ dJ3_indexOf_18 ?_
    refine g_istore_n C rfl (lt := [(3, .int (if 8 < x3 then 8 else x3)), (2, .int (if x2 < 0 then 0 else x2)), (0, .ref (kV K 1)), (1, .int x1)]) dJ3_indexOf_21 (by decide) rfl ?_
    refine g_iload_n C 1 rfl dJ3_indexOf_22 ?_
    refine g_iload_n C 0 rfl dJ3_indexOf_23 ?_
    refine g_icmp_lt C 29 dJ3_indexOf_24 (by decide) (fun hc => ?_) (fun hc => ?_)
    · replace h := h.1 hc
      refine g_aload_n C 2 rfl dJ3_indexOf_29 ?_
      refine g_iload_n C 3 rfl dJ3_indexOf_30 ?_
      refine g_iload_n C 1 rfl dJ3_indexOf_31 ?_
      refine g_iload_n C 0 rfl dJ3_indexOf_32 ?_
      refine g_callSi C (As := [.ref (kV K 1), .int x1, .int (if x2 < 0 then 0 else x2), .int (if 8 < x3 then 8 else x3)]) (rest := []) (m_J3_indexOfChar_b1 h) (Cn := "") (b := 0) (lw_S q412 q413 q86 q414) ⟨rfl, rfl⟩ ⟨Nat.le_of_ble_eq_true rfl, Nat.le_of_ble_eq_true rfl⟩ 4 rfl (by decide +kernel) rfl (Nat.le_of_ble_eq_true rfl) ⟨Nat.zero_le _, Nat.zero_le _⟩ dJ3_indexOf_33 ?_
      rintro v6 _ ⟨w4, L5, rfl, h⟩
      exact ret _ _ _ _ _ rfl rfl dJ3_indexOf_36 ⟨_, _, rfl, h⟩
    · replace h := h.2 hc
      refine g_iconst C (-1) (by decide) dJ3_indexOf_27 ?_
      exact ret _ _ _ _ _ rfl rfl dJ3_indexOf_28 ⟨_, _, rfl, h⟩
  · replace h := h.1 hc
    refine g_iconst C (-1) (by decide) dJ3_indexOf_7 ?_
    exact ret _ _ _ _ _ rfl rfl dJ3_indexOf_8 ⟨_, _, rfl, h⟩
def B_J3_indexOf_b1 (N : Nat) (x1 : Int32) (x2 : Int32) (x3 : Int32) (post : Int32 → Wd → va_W → Prop) (w : Wd) (L : va_W) : Prop := B_J3_indexOf_b1_0 N post x1 x2 x3 w L
theorem m_J3_indexOf_b1 {l : Launch} {K : gK} {N : Nat} {post : Int32 → Wd → va_W → Prop} {x1 : Int32} {x2 : Int32} {x3 : Int32} {w : Wd} {L : va_W} (h : B_J3_indexOf_b1 N x1 x2 x3 post w L) : gMi l K yJ3_indexOf cJ3_indexOf 4 (some .int) rm_J3_indexOf_b1 [.ref (kV K 1), .int x1, .int x2, .int x3] (jL K w ++ L) (jPi K post) 0 0 := by
  refine g_inI (ls0 := [(0, .ref (kV K 1)), (1, .int x1), (2, .int x2), (3, .int x3)]) (by decide) (Nat.le_of_ble_eq_true rfl) rfl (fun Γ hl C hn ret => ?_)
  exact k_J3_indexOf_b1_0 C ret x1 x2 x3 w L h
def rm_J2_indexOf_2_s1 : Room := { frames := 2, cells := 0, slots := 0, locals := 48 }
def B_J2_indexOf_2_s1_0 (N : Nat) (post : Int32 → Wd → va_W → Prop) (x1 : Int32) (x2 : Int32) (w : Wd) (L : va_W) : Prop :=
  B_J2_isLatin1_s1 N (fun (v3 : Int32) (w1 : Wd) (L2 : va_W) =>
  (v3 = 0 →
    False) ∧
  (¬ v3 = 0 →
    B_J2_length_s1 N (fun (v6 : Int32) (w4 : Wd) (L5 : va_W) =>
  B_J3_indexOf_b1 N x1 x2 v6 (fun (v9 : Int32) (w7 : Wd) (L8 : va_W) =>
  post v9 w7 L8) w4 L5) w1 L2)) w L
set_option maxHeartbeats 4000000 in
theorem k_J2_indexOf_2_s1_0 {Γ : gT} {K : gK} {N : Nat} {post : Int32 → Wd → va_W → Prop} (C : gC Γ K RJ2 cJ2_indexOf_2 3 rm_J2_indexOf_2_s1) (ret : gRi Γ K cJ2_indexOf_2 (some .int) (jPi K post) 0 0) (x1 : Int32) (x2 : Int32) (w : Wd) (L : va_W) (h : B_J2_indexOf_2_s1_0 N post x1 x2 w L) : gJ Γ K 0 0 (jL K w ++ L) 0 [(0, .ref (kS K 1)), (1, .int x1), (2, .int x2)] [] := by
  unfold B_J2_indexOf_2_s1_0 at h
  refine g_aload_n C 0 rfl dJ2_indexOf_2_0 ?_
  refine g_callVKi C (As := []) (rest := []) (m_J2_isLatin1_s1 h) (lw_V q386 q387 q388 q85 q389) (i0 := 1) (by decide) ⟨rfl, rfl⟩ ⟨Nat.le_of_ble_eq_true rfl, Nat.le_of_ble_eq_true rfl⟩ 0 rfl (by decide +kernel) rfl (Nat.le_of_ble_eq_true rfl) ⟨Nat.zero_le _, Nat.zero_le _⟩ dJ2_indexOf_2_1 ?_
  rintro v3 _ ⟨w1, L2, rfl, h⟩
  refine g_if_eq C 23 dJ2_indexOf_2_4 (by decide) (fun hc => ?_) (fun hc => ?_)
  · replace h := h.1 hc
    exact h.elim
  · replace h := h.2 hc
    refine g_aload_n C 0 rfl dJ2_indexOf_2_7 ?_
    refine g_strv C q1504 (i0 := 1) (by decide) dJ2_indexOf_2_8 ?_
    refine g_iload_n C 1 rfl dJ2_indexOf_2_11 ?_
    refine g_iload_n C 2 rfl dJ2_indexOf_2_12 ?_
    refine g_aload_n C 0 rfl dJ2_indexOf_2_13 ?_
    refine g_callVKi C (As := []) (rest := [.int x2, .int x1, .ref (kV K 1)]) (m_J2_length_s1 h) (lw_V q392 q393 q394 q85 q395) (i0 := 1) (by decide) ⟨rfl, rfl⟩ ⟨Nat.le_of_ble_eq_true rfl, Nat.le_of_ble_eq_true rfl⟩ 0 rfl (by decide +kernel) rfl (Nat.le_of_ble_eq_true rfl) ⟨Nat.zero_le _, Nat.zero_le _⟩ dJ2_indexOf_2_14 ?_
    rintro v6 _ ⟨w4, L5, rfl, h⟩
    refine g_callSi C (As := [.ref (kV K 1), .int x1, .int x2, .int v6]) (rest := []) (m_J3_indexOf_b1 h) (Cn := "") (b := 0) (lw_S q400 q401 q86 q402) ⟨rfl, rfl⟩ ⟨Nat.le_of_ble_eq_true rfl, Nat.le_of_ble_eq_true rfl⟩ 4 rfl (by decide +kernel) rfl (Nat.le_of_ble_eq_true rfl) ⟨Nat.zero_le _, Nat.zero_le _⟩ dJ2_indexOf_2_17 ?_
    rintro v9 _ ⟨w7, L8, rfl, h⟩
    refine g_goto C 36 dJ2_indexOf_2_20 (by decide) ?_
    exact ret _ _ _ _ _ rfl rfl dJ2_indexOf_2_36 ⟨_, _, rfl, h⟩
def B_J2_indexOf_2_s1 (N : Nat) (x1 : Int32) (x2 : Int32) (post : Int32 → Wd → va_W → Prop) (w : Wd) (L : va_W) : Prop := B_J2_indexOf_2_s1_0 N post x1 x2 w L
theorem m_J2_indexOf_2_s1 {l : Launch} {K : gK} {N : Nat} {post : Int32 → Wd → va_W → Prop} {x1 : Int32} {x2 : Int32} {w : Wd} {L : va_W} (h : B_J2_indexOf_2_s1 N x1 x2 post w L) : gMi l K yJ2_indexOf_2 cJ2_indexOf_2 3 (some .int) rm_J2_indexOf_2_s1 [.ref (kS K 1), .int x1, .int x2] (jL K w ++ L) (jPi K post) 0 0 := by
  refine g_inI (ls0 := [(0, .ref (kS K 1)), (1, .int x1), (2, .int x2)]) (by decide) (Nat.le_of_ble_eq_true rfl) rfl (fun Γ hl C hn ret => ?_)
  exact k_J2_indexOf_2_s1_0 C ret x1 x2 w L h
def rm_J2_indexOf_s1 : Room := { frames := 3, cells := 0, slots := 0, locals := 70 }
def B_J2_indexOf_s1_0 (N : Nat) (post : Int32 → Wd → va_W → Prop) (x1 : Int32) (w : Wd) (L : va_W) : Prop :=
  B_J2_indexOf_2_s1 N x1 0 (fun (v3 : Int32) (w1 : Wd) (L2 : va_W) =>
  post v3 w1 L2) w L
set_option maxHeartbeats 4000000 in
theorem k_J2_indexOf_s1_0 {Γ : gT} {K : gK} {N : Nat} {post : Int32 → Wd → va_W → Prop} (C : gC Γ K RJ2 cJ2_indexOf 2 rm_J2_indexOf_s1) (ret : gRi Γ K cJ2_indexOf (some .int) (jPi K post) 0 0) (x1 : Int32) (w : Wd) (L : va_W) (h : B_J2_indexOf_s1_0 N post x1 w L) : gJ Γ K 0 0 (jL K w ++ L) 0 [(0, .ref (kS K 1)), (1, .int x1)] [] := by
  unfold B_J2_indexOf_s1_0 at h
  refine g_aload_n C 0 rfl dJ2_indexOf_0 ?_
  refine g_iload_n C 1 rfl dJ2_indexOf_1 ?_
  refine g_iconst C 0 (by decide) dJ2_indexOf_2 ?_
  refine g_callVKi C (As := [.int x1, .int 0]) (rest := []) (m_J2_indexOf_2_s1 h) (lw_V q382 q383 q384 q85 q385) (i0 := 1) (by decide) ⟨rfl, rfl⟩ ⟨Nat.le_of_ble_eq_true rfl, Nat.le_of_ble_eq_true rfl⟩ 2 rfl (by decide +kernel) rfl (Nat.le_of_ble_eq_true rfl) ⟨Nat.zero_le _, Nat.zero_le _⟩ dJ2_indexOf_3 ?_
  rintro v3 _ ⟨w1, L2, rfl, h⟩
  exact ret _ _ _ _ _ rfl rfl dJ2_indexOf_6 ⟨_, _, rfl, h⟩
def B_J2_indexOf_s1 (N : Nat) (x1 : Int32) (post : Int32 → Wd → va_W → Prop) (w : Wd) (L : va_W) : Prop := B_J2_indexOf_s1_0 N post x1 w L
theorem m_J2_indexOf_s1 {l : Launch} {K : gK} {N : Nat} {post : Int32 → Wd → va_W → Prop} {x1 : Int32} {w : Wd} {L : va_W} (h : B_J2_indexOf_s1 N x1 post w L) : gMi l K yJ2_indexOf cJ2_indexOf 2 (some .int) rm_J2_indexOf_s1 [.ref (kS K 1), .int x1] (jL K w ++ L) (jPi K post) 0 0 := by
  refine g_inI (ls0 := [(0, .ref (kS K 1)), (1, .int x1)]) (by decide) (Nat.le_of_ble_eq_true rfl) rfl (fun Γ hl C hn ret => ?_)
  exact k_J2_indexOf_s1_0 C ret x1 w L h
theorem t_checkIndex {N : Nat} {post post1 : Wd → va_W → Prop} {w w1 : Wd} {L L1 : va_W} (f : post w L → post1 w1 L1) {x0 x1 : Int32} (h : B_J2_checkIndex N x0 x1 post w L) : B_J2_checkIndex N x0 x1 post1 w1 L1 := fun z => ⟨fun c => (h z).1 c, fun c => ⟨fun d => f (((h z).2 c).1 d), fun d => ((h z).2 c).2 d⟩⟩
theorem t_canEncode {N : Nat} {post post1 : Int32 → Wd → va_W → Prop} {w w1 : Wd} {L L1 : va_W} (f : ∀ r, post r w L → post1 r w1 L1) {x0 : Int32} (h : B_J3_canEncode N x0 post w L) : B_J3_canEncode N x0 post1 w1 L1 := ⟨fun c => ⟨(h.1 c).1, f _ (h.1 c).2⟩, fun c => ⟨fun d => ⟨((h.2 c).1 d).1, f _ ((h.2 c).1 d).2⟩, fun d => ⟨((h.2 c).2 d).1, f _ ((h.2 c).2 d).2⟩⟩⟩
theorem jPi_x (K : gK) (post : Int32 → Wd → va_W → Prop) : jPi K (fun r _ V => xPi K post r V) = xPi K post := by
  funext r V; exact propext ⟨fun ⟨w, L, e, p⟩ => by subst e; exact p, fun p => ⟨(fun _ => 0, fun _ => 0, fun _ _ => 0, fun _ _ => 0, none, fun _ => none), V, rfl, p⟩⟩
theorem jPi_m (K : gK) (post : Int32 → Wd → va_W → Prop) : jPi K (fun r _ V => mPi K post r V) = mPi K post := by
  funext r V; exact propext ⟨fun ⟨w, L, e, p⟩ => by subst e; exact p, fun p => ⟨(fun _ => 0, fun _ => 0, fun _ _ => 0, fun _ _ => 0, none, fun _ => none), V, rfl, p⟩⟩
theorem t_coder_s0 {N : Nat} {post post1 : Int32 → Wd → va_W → Prop} {w w1 : Wd} {L L1 : va_W} (f : ∀ r, post r w L → post1 r w1 L1) (h : B_J2_coder_s0 N post w L) : B_J2_coder_s0 N post1 w1 L1 := ⟨fun c => ⟨(h.1 c).1, f _ (h.1 c).2⟩, fun c => ⟨(h.2 c).1, f _ (h.2 c).2⟩⟩
theorem t_isLatin1_s0 {N : Nat} {post post1 : Int32 → Wd → va_W → Prop} {w w1 : Wd} {L L1 : va_W} (f : ∀ r, post r w L → post1 r w1 L1) (h : B_J2_isLatin1_s0 N post w L) : B_J2_isLatin1_s0 N post1 w1 L1 := ⟨fun c => ⟨(h.1 c).1, f _ (h.1 c).2⟩, fun c => ⟨fun d => ⟨((h.2 c).1 d).1, f _ ((h.2 c).1 d).2⟩, fun d => ⟨((h.2 c).2 d).1, f _ ((h.2 c).2 d).2⟩⟩⟩
theorem t_length_s0 {N : Nat} {post post1 : Int32 → Wd → va_W → Prop} {w w1 : Wd} {L L1 : va_W} (f : ∀ r, post r w L → post1 r w1 L1) (h : B_J2_length_s0 N post w L) : B_J2_length_s0 N post1 w1 L1 := t_coder_s0 (fun _ g => f _ g) h
theorem t_charAt_b0 {N : Nat} {post post1 : Int32 → Wd → va_W → Prop} {w w1 : Wd} {L L1 : va_W} (f : ∀ r, post r w L → post1 r w1 L1) {x : Int32} (h : B_J3_charAt_b0 N x post w L) : B_J3_charAt_b0 N x post1 w1 L1 := t_checkIndex (fun g => ⟨g.1, g.2.1, f _ g.2.2⟩) h
theorem t_charAt_s0 {N : Nat} {post post1 : Int32 → Wd → va_W → Prop} {w w1 : Wd} {L L1 : va_W} (f : ∀ r, post r w L → post1 r w1 L1) {x : Int32} (h : B_J2_charAt_s0 N x post w L) : B_J2_charAt_s0 N x post1 w1 L1 := t_isLatin1_s0 (fun _ g => ⟨g.1, fun c => t_charAt_b0 (fun _ g => ⟨g.1, f _ g.2⟩) (g.2 c)⟩) h
theorem t_indexOfChar_b0_7 {N : Nat} {post post1 : Int32 → Wd → va_W → Prop} {w w1 : Wd} {L L1 : va_W} (f : ∀ r, post r w L → post1 r w1 L1) : ∀ (n : Nat) {x3 x4 x5 : Int32} (_ : B_J3_indexOfChar_b0_7 N post n x3 x4 x5 w L), B_J3_indexOfChar_b0_7 N post1 n x3 x4 x5 w1 L1
  | 0, _, _, _, h => h.elim
  | n + 1, _, _, _, h => ⟨fun c => f _ (h.1 c), fun c => ⟨(h.2 c).1, fun d => f _ ((h.2 c).2.1 d), fun d => t_indexOfChar_b0_7 f n ((h.2 c).2.2 d)⟩⟩
theorem t_indexOf_b0 {N : Nat} {post post1 : Int32 → Wd → va_W → Prop} {w w1 : Wd} {L L1 : va_W} (f : ∀ r, post r w L → post1 r w1 L1) {x1 x2 x3 : Int32} (h : B_J3_indexOf_b0 N x1 x2 x3 post w L) : B_J3_indexOf_b0 N x1 x2 x3 post1 w1 L1 := t_canEncode (fun _ g => ⟨fun c => f _ (g.1 c), fun c => ⟨fun d => t_indexOfChar_b0_7 (fun _ g => f _ g) N ((g.2 c).1 d), fun d => f _ ((g.2 c).2 d)⟩⟩) h
theorem t_indexOf_s0 {N : Nat} {post post1 : Int32 → Wd → va_W → Prop} {w w1 : Wd} {L L1 : va_W} (f : ∀ r, post r w L → post1 r w1 L1) {x1 : Int32} (h : B_J2_indexOf_s0 N x1 post w L) : B_J2_indexOf_s0 N x1 post1 w1 L1 := t_isLatin1_s0 (fun _ g => ⟨g.1, fun c => t_length_s0 (fun _ g => t_indexOf_b0 (fun _ g => f _ g) g) (g.2 c)⟩) h
theorem t_coder_s1 {N : Nat} {post post1 : Int32 → Wd → va_W → Prop} {w w1 : Wd} {L L1 : va_W} (f : ∀ r, post r w L → post1 r w1 L1) (h : B_J2_coder_s1 N post w L) : B_J2_coder_s1 N post1 w1 L1 := ⟨fun c => ⟨(h.1 c).1, f _ (h.1 c).2⟩, fun c => ⟨(h.2 c).1, f _ (h.2 c).2⟩⟩
theorem t_isLatin1_s1 {N : Nat} {post post1 : Int32 → Wd → va_W → Prop} {w w1 : Wd} {L L1 : va_W} (f : ∀ r, post r w L → post1 r w1 L1) (h : B_J2_isLatin1_s1 N post w L) : B_J2_isLatin1_s1 N post1 w1 L1 := ⟨fun c => ⟨(h.1 c).1, f _ (h.1 c).2⟩, fun c => ⟨fun d => ⟨((h.2 c).1 d).1, f _ ((h.2 c).1 d).2⟩, fun d => ⟨((h.2 c).2 d).1, f _ ((h.2 c).2 d).2⟩⟩⟩
theorem t_length_s1 {N : Nat} {post post1 : Int32 → Wd → va_W → Prop} {w w1 : Wd} {L L1 : va_W} (f : ∀ r, post r w L → post1 r w1 L1) (h : B_J2_length_s1 N post w L) : B_J2_length_s1 N post1 w1 L1 := t_coder_s1 (fun _ g => f _ g) h
theorem t_charAt_b1 {N : Nat} {post post1 : Int32 → Wd → va_W → Prop} {w w1 : Wd} {L L1 : va_W} (f : ∀ r, post r w L → post1 r w1 L1) {x : Int32} (h : B_J3_charAt_b1 N x post w L) : B_J3_charAt_b1 N x post1 w1 L1 := t_checkIndex (fun g => ⟨g.1, g.2.1, f _ g.2.2⟩) h
theorem t_charAt_s1 {N : Nat} {post post1 : Int32 → Wd → va_W → Prop} {w w1 : Wd} {L L1 : va_W} (f : ∀ r, post r w L → post1 r w1 L1) {x : Int32} (h : B_J2_charAt_s1 N x post w L) : B_J2_charAt_s1 N x post1 w1 L1 := t_isLatin1_s1 (fun _ g => ⟨g.1, fun c => t_charAt_b1 (fun _ g => ⟨g.1, f _ g.2⟩) (g.2 c)⟩) h
theorem t_indexOfChar_b1_7 {N : Nat} {post post1 : Int32 → Wd → va_W → Prop} {w w1 : Wd} {L L1 : va_W} (f : ∀ r, post r w L → post1 r w1 L1) : ∀ (n : Nat) {x3 x4 x5 : Int32} (_ : B_J3_indexOfChar_b1_7 N post n x3 x4 x5 w L), B_J3_indexOfChar_b1_7 N post1 n x3 x4 x5 w1 L1
  | 0, _, _, _, h => h.elim
  | n + 1, _, _, _, h => ⟨fun c => f _ (h.1 c), fun c => ⟨(h.2 c).1, fun d => f _ ((h.2 c).2.1 d), fun d => t_indexOfChar_b1_7 f n ((h.2 c).2.2 d)⟩⟩
theorem t_indexOf_b1 {N : Nat} {post post1 : Int32 → Wd → va_W → Prop} {w w1 : Wd} {L L1 : va_W} (f : ∀ r, post r w L → post1 r w1 L1) {x1 x2 x3 : Int32} (h : B_J3_indexOf_b1 N x1 x2 x3 post w L) : B_J3_indexOf_b1 N x1 x2 x3 post1 w1 L1 := t_canEncode (fun _ g => ⟨fun c => f _ (g.1 c), fun c => ⟨fun d => t_indexOfChar_b1_7 (fun _ g => f _ g) N ((g.2 c).1 d), fun d => f _ ((g.2 c).2 d)⟩⟩) h
theorem t_indexOf_s1 {N : Nat} {post post1 : Int32 → Wd → va_W → Prop} {w w1 : Wd} {L L1 : va_W} (f : ∀ r, post r w L → post1 r w1 L1) {x1 : Int32} (h : B_J2_indexOf_s1 N x1 post w L) : B_J2_indexOf_s1 N x1 post1 w1 L1 := t_isLatin1_s1 (fun _ g => ⟨g.1, fun c => t_length_s1 (fun _ g => t_indexOf_b1 (fun _ g => f _ g) g) (g.2 c)⟩) h
theorem m_J2_length_s0_x {l : Launch} {K : gK} {N : Nat} {post : Int32 → Wd → va_W → Prop} {w : Wd} {L : va_W} (h : B_J2_length_s0 N post w L) : gMi l K yJ2_length cJ2_length 1 (some .int) rm_J2_length_s0 [.ref (kS K 0)] (xL K w ++ L) (xPi K post) 0 0 := by
  have g := m_J2_length_s0 (l := l) (K := K) (w := w) (L := xL K w ++ L) (t_length_s0 (post1 := fun r _ V => xPi K post r V) (w1 := w) (L1 := xL K w ++ L) (fun r p => ⟨_, _, rfl, p⟩) h)
  rw [jPi_x] at g
  exact g
theorem m_J2_length_s0_m {l : Launch} {K : gK} {N : Nat} {post : Int32 → Wd → va_W → Prop} {w : Wd} {L : va_W} (h : B_J2_length_s0 N post w L) : gMi l K yJ2_length cJ2_length 1 (some .int) rm_J2_length_s0 [.ref (kS K 0)] (mL K w ++ L) (mPi K post) 0 0 := by
  have g := m_J2_length_s0 (l := l) (K := K) (w := w) (L := mL K w ++ L) (t_length_s0 (post1 := fun r _ V => mPi K post r V) (w1 := w) (L1 := mL K w ++ L) (fun r p => ⟨_, _, rfl, p⟩) h)
  rw [jPi_m] at g
  exact g
theorem m_J2_length_s1_x {l : Launch} {K : gK} {N : Nat} {post : Int32 → Wd → va_W → Prop} {w : Wd} {L : va_W} (h : B_J2_length_s1 N post w L) : gMi l K yJ2_length cJ2_length 1 (some .int) rm_J2_length_s1 [.ref (kS K 1)] (xL K w ++ L) (xPi K post) 0 0 := by
  have g := m_J2_length_s1 (l := l) (K := K) (w := w) (L := xL K w ++ L) (t_length_s1 (post1 := fun r _ V => xPi K post r V) (w1 := w) (L1 := xL K w ++ L) (fun r p => ⟨_, _, rfl, p⟩) h)
  rw [jPi_x] at g
  exact g
theorem m_J2_length_s1_m {l : Launch} {K : gK} {N : Nat} {post : Int32 → Wd → va_W → Prop} {w : Wd} {L : va_W} (h : B_J2_length_s1 N post w L) : gMi l K yJ2_length cJ2_length 1 (some .int) rm_J2_length_s1 [.ref (kS K 1)] (mL K w ++ L) (mPi K post) 0 0 := by
  have g := m_J2_length_s1 (l := l) (K := K) (w := w) (L := mL K w ++ L) (t_length_s1 (post1 := fun r _ V => mPi K post r V) (w1 := w) (L1 := mL K w ++ L) (fun r p => ⟨_, _, rfl, p⟩) h)
  rw [jPi_m] at g
  exact g
theorem m_J2_charAt_s0_x {l : Launch} {K : gK} {N : Nat} {post : Int32 → Wd → va_W → Prop} {x1 : Int32} {w : Wd} {L : va_W} (h : B_J2_charAt_s0 N x1 post w L) : gMi l K yJ2_charAt cJ2_charAt 2 (some .char) rm_J2_charAt_s0 [.ref (kS K 0), .int x1] (xL K w ++ L) (xPi K post) 0 0 := by
  have g := m_J2_charAt_s0 (l := l) (K := K) (w := w) (L := xL K w ++ L) (t_charAt_s0 (post1 := fun r _ V => xPi K post r V) (w1 := w) (L1 := xL K w ++ L) (fun r p => ⟨_, _, rfl, p⟩) h)
  rw [jPi_x] at g
  exact g
theorem m_J2_charAt_s0_m {l : Launch} {K : gK} {N : Nat} {post : Int32 → Wd → va_W → Prop} {x1 : Int32} {w : Wd} {L : va_W} (h : B_J2_charAt_s0 N x1 post w L) : gMi l K yJ2_charAt cJ2_charAt 2 (some .char) rm_J2_charAt_s0 [.ref (kS K 0), .int x1] (mL K w ++ L) (mPi K post) 0 0 := by
  have g := m_J2_charAt_s0 (l := l) (K := K) (w := w) (L := mL K w ++ L) (t_charAt_s0 (post1 := fun r _ V => mPi K post r V) (w1 := w) (L1 := mL K w ++ L) (fun r p => ⟨_, _, rfl, p⟩) h)
  rw [jPi_m] at g
  exact g
theorem m_J2_charAt_s1_x {l : Launch} {K : gK} {N : Nat} {post : Int32 → Wd → va_W → Prop} {x1 : Int32} {w : Wd} {L : va_W} (h : B_J2_charAt_s1 N x1 post w L) : gMi l K yJ2_charAt cJ2_charAt 2 (some .char) rm_J2_charAt_s1 [.ref (kS K 1), .int x1] (xL K w ++ L) (xPi K post) 0 0 := by
  have g := m_J2_charAt_s1 (l := l) (K := K) (w := w) (L := xL K w ++ L) (t_charAt_s1 (post1 := fun r _ V => xPi K post r V) (w1 := w) (L1 := xL K w ++ L) (fun r p => ⟨_, _, rfl, p⟩) h)
  rw [jPi_x] at g
  exact g
theorem m_J2_charAt_s1_m {l : Launch} {K : gK} {N : Nat} {post : Int32 → Wd → va_W → Prop} {x1 : Int32} {w : Wd} {L : va_W} (h : B_J2_charAt_s1 N x1 post w L) : gMi l K yJ2_charAt cJ2_charAt 2 (some .char) rm_J2_charAt_s1 [.ref (kS K 1), .int x1] (mL K w ++ L) (mPi K post) 0 0 := by
  have g := m_J2_charAt_s1 (l := l) (K := K) (w := w) (L := mL K w ++ L) (t_charAt_s1 (post1 := fun r _ V => mPi K post r V) (w1 := w) (L1 := mL K w ++ L) (fun r p => ⟨_, _, rfl, p⟩) h)
  rw [jPi_m] at g
  exact g
theorem m_J2_indexOf_s0_x {l : Launch} {K : gK} {N : Nat} {post : Int32 → Wd → va_W → Prop} {x1 : Int32} {w : Wd} {L : va_W} (h : B_J2_indexOf_s0 N x1 post w L) : gMi l K yJ2_indexOf cJ2_indexOf 2 (some .int) rm_J2_indexOf_s0 [.ref (kS K 0), .int x1] (xL K w ++ L) (xPi K post) 0 0 := by
  have g := m_J2_indexOf_s0 (l := l) (K := K) (w := w) (L := xL K w ++ L) (t_indexOf_s0 (post1 := fun r _ V => xPi K post r V) (w1 := w) (L1 := xL K w ++ L) (fun r p => ⟨_, _, rfl, p⟩) h)
  rw [jPi_x] at g
  exact g
theorem m_J2_indexOf_s0_m {l : Launch} {K : gK} {N : Nat} {post : Int32 → Wd → va_W → Prop} {x1 : Int32} {w : Wd} {L : va_W} (h : B_J2_indexOf_s0 N x1 post w L) : gMi l K yJ2_indexOf cJ2_indexOf 2 (some .int) rm_J2_indexOf_s0 [.ref (kS K 0), .int x1] (mL K w ++ L) (mPi K post) 0 0 := by
  have g := m_J2_indexOf_s0 (l := l) (K := K) (w := w) (L := mL K w ++ L) (t_indexOf_s0 (post1 := fun r _ V => mPi K post r V) (w1 := w) (L1 := mL K w ++ L) (fun r p => ⟨_, _, rfl, p⟩) h)
  rw [jPi_m] at g
  exact g
theorem m_J2_indexOf_s1_x {l : Launch} {K : gK} {N : Nat} {post : Int32 → Wd → va_W → Prop} {x1 : Int32} {w : Wd} {L : va_W} (h : B_J2_indexOf_s1 N x1 post w L) : gMi l K yJ2_indexOf cJ2_indexOf 2 (some .int) rm_J2_indexOf_s1 [.ref (kS K 1), .int x1] (xL K w ++ L) (xPi K post) 0 0 := by
  have g := m_J2_indexOf_s1 (l := l) (K := K) (w := w) (L := xL K w ++ L) (t_indexOf_s1 (post1 := fun r _ V => xPi K post r V) (w1 := w) (L1 := xL K w ++ L) (fun r p => ⟨_, _, rfl, p⟩) h)
  rw [jPi_x] at g
  exact g
theorem m_J2_indexOf_s1_m {l : Launch} {K : gK} {N : Nat} {post : Int32 → Wd → va_W → Prop} {x1 : Int32} {w : Wd} {L : va_W} (h : B_J2_indexOf_s1 N x1 post w L) : gMi l K yJ2_indexOf cJ2_indexOf 2 (some .int) rm_J2_indexOf_s1 [.ref (kS K 1), .int x1] (mL K w ++ L) (mPi K post) 0 0 := by
  have g := m_J2_indexOf_s1 (l := l) (K := K) (w := w) (L := mL K w ++ L) (t_indexOf_s1 (post1 := fun r _ V => mPi K post r V) (w1 := w) (L1 := mL K w ++ L) (fun r p => ⟨_, _, rfl, p⟩) h)
  rw [jPi_m] at g
  exact g
