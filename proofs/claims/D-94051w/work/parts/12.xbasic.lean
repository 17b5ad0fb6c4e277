set_option maxRecDepth 100000
def rm_X1_in : Room := { frames := 0, cells := 0, slots := 0, locals := 0 }
def B_X1_in_15 (N : Nat) (post : Int32 → Wd → va_W → Prop) (s0 : Int32) (w : Wd) (L : va_W) : Prop :=
  gZ s0 ∧ post s0 w L
set_option maxHeartbeats 4000000 in
theorem k_X1_in_15 {Γ : gT} {K : gK} {N : Nat} {post : Int32 → Wd → va_W → Prop} (C : gC Γ K RX1 cX1_in 3 rm_X1_in) (ret : gRi Γ K cX1_in (some .boolean) (xPi K post) 0 0) (s0 : Int32) (w : Wd) (L : va_W) (h : B_X1_in_15 N post s0 w L) : gJ Γ K 0 0 (xL K w ++ L) 15 [] [.int s0] := by
  unfold B_X1_in_15 at h
  obtain ⟨hz, h⟩ := h
  exact ret _ _ _ _ _ rfl hz.n dX1_in_15 ⟨_, _, rfl, h⟩
def B_X1_in_14 (N : Nat) (post : Int32 → Wd → va_W → Prop) (w : Wd) (L : va_W) : Prop :=
  B_X1_in_15 N post 0 w L
set_option maxHeartbeats 4000000 in
theorem k_X1_in_14 {Γ : gT} {K : gK} {N : Nat} {post : Int32 → Wd → va_W → Prop} (C : gC Γ K RX1 cX1_in 3 rm_X1_in) (ret : gRi Γ K cX1_in (some .boolean) (xPi K post) 0 0) (w : Wd) (L : va_W) (h : B_X1_in_14 N post w L) : gJ Γ K 0 0 (xL K w ++ L) 14 [] [] := by
  unfold B_X1_in_14 at h
  refine g_iconst C 0 (by decide) dX1_in_14 ?_
  exact k_X1_in_15 C ret 0 w L h
def B_X1_in_0 (N : Nat) (post : Int32 → Wd → va_W → Prop) (x0 : Int32) (x1 : Int32) (x2 : Int32) (w : Wd) (L : va_W) : Prop :=
  (x0 < x1 →
    B_X1_in_14 N post w L) ∧
  (¬ x0 < x1 →
    (x2 < x0 →
      B_X1_in_14 N post w L) ∧
    (¬ x2 < x0 →
      B_X1_in_15 N post 1 w L))
set_option maxHeartbeats 4000000 in
theorem k_X1_in_0 {Γ : gT} {K : gK} {N : Nat} {post : Int32 → Wd → va_W → Prop} (C : gC Γ K RX1 cX1_in 3 rm_X1_in) (ret : gRi Γ K cX1_in (some .boolean) (xPi K post) 0 0) (x0 : Int32) (x1 : Int32) (x2 : Int32) (w : Wd) (L : va_W) (h : B_X1_in_0 N post x0 x1 x2 w L) : gJ Γ K 0 0 (xL K w ++ L) 0 [(0, .int x0), (1, .int x1), (2, .int x2)] [] := by
  unfold B_X1_in_0 at h
  refine g_iload_n C 0 rfl dX1_in_0 ?_
  refine g_iload_n C 1 rfl dX1_in_1 ?_
  refine g_icmp_lt C 14 dX1_in_2 (by decide) (fun hc => ?_) (fun hc => ?_)
  · replace h := h.1 hc
    refine g_sub [] rfl ?_
    exact k_X1_in_14 C ret w L h
  · replace h := h.2 hc
    refine g_iload_n C 0 rfl dX1_in_5 ?_
    refine g_iload_n C 2 rfl dX1_in_6 ?_
    refine g_icmp_gt C 14 dX1_in_7 (by decide) (fun hc => ?_) (fun hc => ?_)
    · replace h := h.1 hc
      refine g_sub [] rfl ?_
      exact k_X1_in_14 C ret w L h
    · replace h := h.2 hc
      refine g_iconst C 1 (by decide) dX1_in_10 ?_
      refine g_goto C 15 dX1_in_11 (by decide) ?_
      refine g_sub [] rfl ?_
      exact k_X1_in_15 C ret 1 w L h
def B_X1_in (N : Nat) (x0 : Int32) (x1 : Int32) (x2 : Int32) (post : Int32 → Wd → va_W → Prop) (w : Wd) (L : va_W) : Prop := B_X1_in_0 N post x0 x1 x2 w L
theorem m_X1_in {l : Launch} {K : gK} {N : Nat} {post : Int32 → Wd → va_W → Prop} {x0 : Int32} {x1 : Int32} {x2 : Int32} {w : Wd} {L : va_W} (h : B_X1_in N x0 x1 x2 post w L) : gMi l K yX1_in cX1_in 3 (some .boolean) rm_X1_in [.int x0, .int x1, .int x2] (xL K w ++ L) (xPi K post) 0 0 := by
  refine g_inI (ls0 := [(0, .int x0), (1, .int x1), (2, .int x2)]) (by decide) (Nat.le_of_ble_eq_true rfl) rfl (fun Γ hl C hn ret => ?_)
  exact k_X1_in_0 C ret x0 x1 x2 w L h
def rm_X1_byteOf : Room := { frames := 0, cells := 0, slots := 0, locals := 0 }
def B_X1_byteOf_45 (N : Nat) (post : Int32 → Wd → va_W → Prop) (x5 : Int32) (s0 : Int32) (w : Wd) (L : va_W) : Prop :=
  post ((s0 >>> ((24 - (8 * (x5 - x5 / 4 * 4))) &&& 31)) &&& 255) w L
set_option maxHeartbeats 4000000 in
theorem k_X1_byteOf_45 {Γ : gT} {K : gK} {N : Nat} {post : Int32 → Wd → va_W → Prop} (C : gC Γ K RX1 cX1_byteOf 7 rm_X1_byteOf) (ret : gRi Γ K cX1_byteOf (some .int) (xPi K post) 0 0) (x5 : Int32) (s0 : Int32) (w : Wd) (L : va_W) (h : B_X1_byteOf_45 N post x5 s0 w L) : gJ Γ K 0 0 (xL K w ++ L) 45 [(5, .int x5)] [.int s0] := by
  unfold B_X1_byteOf_45 at h
  refine g_istore C (lt := [(6, .int s0), (5, .int x5)]) dX1_byteOf_45 (by decide) rfl ?_
  refine g_iload C 0 rfl dX1_byteOf_47 ?_
  refine g_bipush C 24 (by decide) dX1_byteOf_49 ?_
  refine g_bipush C 8 (by decide) dX1_byteOf_51 ?_
  refine g_iload C 1 rfl dX1_byteOf_53 ?_
  refine g_iconst C 4 (by decide) dX1_byteOf_55 ?_
  refine g_irem C (by decide) dX1_byteOf_56 ?_
  refine g_imul C dX1_byteOf_57 ?_
  refine g_isub C dX1_byteOf_58 ?_
  refine g_ishr C dX1_byteOf_59 ?_
  refine g_sipush C 255 (by decide) dX1_byteOf_60 ?_
  refine g_iand C dX1_byteOf_63 ?_
  exact ret _ _ _ _ _ rfl rfl dX1_byteOf_64 ⟨_, _, rfl, h⟩
def B_X1_byteOf_0 (N : Nat) (post : Int32 → Wd → va_W → Prop) (x0 : Int32) (x1 : Int32) (x2 : Int32) (x3 : Int32) (x4 : Int32) (x5 : Int32) (w : Wd) (L : va_W) : Prop :=
  ((4 : Int32) ≤ x5 →
    ((8 : Int32) ≤ x5 →
      ((12 : Int32) ≤ x5 →
        ((16 : Int32) ≤ x5 →
          B_X1_byteOf_45 N post x5 x4 w L) ∧
        (¬ (16 : Int32) ≤ x5 →
          B_X1_byteOf_45 N post x5 x3 w L)) ∧
      (¬ (12 : Int32) ≤ x5 →
        B_X1_byteOf_45 N post x5 x2 w L)) ∧
    (¬ (8 : Int32) ≤ x5 →
      B_X1_byteOf_45 N post x5 x1 w L)) ∧
  (¬ (4 : Int32) ≤ x5 →
    B_X1_byteOf_45 N post x5 x0 w L)
set_option maxHeartbeats 4000000 in
theorem k_X1_byteOf_0 {Γ : gT} {K : gK} {N : Nat} {post : Int32 → Wd → va_W → Prop} (C : gC Γ K RX1 cX1_byteOf 7 rm_X1_byteOf) (ret : gRi Γ K cX1_byteOf (some .int) (xPi K post) 0 0) (x0 : Int32) (x1 : Int32) (x2 : Int32) (x3 : Int32) (x4 : Int32) (x5 : Int32) (w : Wd) (L : va_W) (h : B_X1_byteOf_0 N post x0 x1 x2 x3 x4 x5 w L) : gJ Γ K 0 0 (xL K w ++ L) 0 [(0, .int x0), (1, .int x1), (2, .int x2), (3, .int x3), (4, .int x4), (5, .int x5)] [] := by
  unfold B_X1_byteOf_0 at h
  refine g_iload C 5 rfl dX1_byteOf_0 ?_
  refine g_iconst C 4 (by decide) dX1_byteOf_2 ?_
  refine g_icmp_ge C 10 dX1_byteOf_3 (by decide) (fun hc => ?_) (fun hc => ?_)
  · replace h := h.1 hc
    refine g_iload C 5 rfl dX1_byteOf_10 ?_
    refine g_bipush C 8 (by decide) dX1_byteOf_12 ?_
    refine g_icmp_ge C 21 dX1_byteOf_14 (by decide) (fun hc => ?_) (fun hc => ?_)
    · replace h := h.1 hc
      refine g_iload C 5 rfl dX1_byteOf_21 ?_
      refine g_bipush C 12 (by decide) dX1_byteOf_23 ?_
      refine g_icmp_ge C 32 dX1_byteOf_25 (by decide) (fun hc => ?_) (fun hc => ?_)
      · replace h := h.1 hc
        refine g_iload C 5 rfl dX1_byteOf_32 ?_
        refine g_bipush C 16 (by decide) dX1_byteOf_34 ?_
        refine g_icmp_ge C 43 dX1_byteOf_36 (by decide) (fun hc => ?_) (fun hc => ?_)
        · replace h := h.1 hc
          refine g_iload C 4 rfl dX1_byteOf_43 ?_
          refine g_sub [5] rfl ?_
          exact k_X1_byteOf_45 C ret x5 x4 w L h
        · replace h := h.2 hc
          refine g_iload_n C 3 rfl dX1_byteOf_39 ?_
          refine g_goto C 45 dX1_byteOf_40 (by decide) ?_
          refine g_sub [5] rfl ?_
          exact k_X1_byteOf_45 C ret x5 x3 w L h
      · replace h := h.2 hc
        refine g_iload_n C 2 rfl dX1_byteOf_28 ?_
        refine g_goto C 45 dX1_byteOf_29 (by decide) ?_
        refine g_sub [5] rfl ?_
        exact k_X1_byteOf_45 C ret x5 x2 w L h
    · replace h := h.2 hc
      refine g_iload_n C 1 rfl dX1_byteOf_17 ?_
      refine g_goto C 45 dX1_byteOf_18 (by decide) ?_
      refine g_sub [5] rfl ?_
      exact k_X1_byteOf_45 C ret x5 x1 w L h
  · replace h := h.2 hc
    refine g_iload_n C 0 rfl dX1_byteOf_6 ?_
    refine g_goto C 45 dX1_byteOf_7 (by decide) ?_
    refine g_sub [5] rfl ?_
    exact k_X1_byteOf_45 C ret x5 x0 w L h
def B_X1_byteOf (N : Nat) (x0 : Int32) (x1 : Int32) (x2 : Int32) (x3 : Int32) (x4 : Int32) (x5 : Int32) (post : Int32 → Wd → va_W → Prop) (w : Wd) (L : va_W) : Prop := B_X1_byteOf_0 N post x0 x1 x2 x3 x4 x5 w L
theorem m_X1_byteOf {l : Launch} {K : gK} {N : Nat} {post : Int32 → Wd → va_W → Prop} {x0 : Int32} {x1 : Int32} {x2 : Int32} {x3 : Int32} {x4 : Int32} {x5 : Int32} {w : Wd} {L : va_W} (h : B_X1_byteOf N x0 x1 x2 x3 x4 x5 post w L) : gMi l K yX1_byteOf cX1_byteOf 7 (some .int) rm_X1_byteOf [.int x0, .int x1, .int x2, .int x3, .int x4, .int x5] (xL K w ++ L) (xPi K post) 0 0 := by
  refine g_inI (ls0 := [(0, .int x0), (1, .int x1), (2, .int x2), (3, .int x3), (4, .int x4), (5, .int x5)]) (by decide) (Nat.le_of_ble_eq_true rfl) rfl (fun Γ hl C hn ret => ?_)
  exact k_X1_byteOf_0 C ret x0 x1 x2 x3 x4 x5 w L h
def rm_X1_isDigit : Room := { frames := 0, cells := 0, slots := 0, locals := 0 }
def B_X1_isDigit_17 (N : Nat) (post : Int32 → Wd → va_W → Prop) (s0 : Int32) (w : Wd) (L : va_W) : Prop :=
  gZ s0 ∧ post s0 w L
set_option maxHeartbeats 4000000 in
theorem k_X1_isDigit_17 {Γ : gT} {K : gK} {N : Nat} {post : Int32 → Wd → va_W → Prop} (C : gC Γ K RX1 cX1_isDigit 1 rm_X1_isDigit) (ret : gRi Γ K cX1_isDigit (some .boolean) (xPi K post) 0 0) (s0 : Int32) (w : Wd) (L : va_W) (h : B_X1_isDigit_17 N post s0 w L) : gJ Γ K 0 0 (xL K w ++ L) 17 [] [.int s0] := by
  unfold B_X1_isDigit_17 at h
  obtain ⟨hz, h⟩ := h
  exact ret _ _ _ _ _ rfl hz.n dX1_isDigit_17 ⟨_, _, rfl, h⟩
def B_X1_isDigit_16 (N : Nat) (post : Int32 → Wd → va_W → Prop) (w : Wd) (L : va_W) : Prop :=
  B_X1_isDigit_17 N post 0 w L
set_option maxHeartbeats 4000000 in
theorem k_X1_isDigit_16 {Γ : gT} {K : gK} {N : Nat} {post : Int32 → Wd → va_W → Prop} (C : gC Γ K RX1 cX1_isDigit 1 rm_X1_isDigit) (ret : gRi Γ K cX1_isDigit (some .boolean) (xPi K post) 0 0) (w : Wd) (L : va_W) (h : B_X1_isDigit_16 N post w L) : gJ Γ K 0 0 (xL K w ++ L) 16 [] [] := by
  unfold B_X1_isDigit_16 at h
  refine g_iconst C 0 (by decide) dX1_isDigit_16 ?_
  exact k_X1_isDigit_17 C ret 0 w L h
def B_X1_isDigit_0 (N : Nat) (post : Int32 → Wd → va_W → Prop) (x0 : Int32) (w : Wd) (L : va_W) : Prop :=
  (x0 < (48 : Int32) →
    B_X1_isDigit_16 N post w L) ∧
  (¬ x0 < (48 : Int32) →
    ((57 : Int32) < x0 →
      B_X1_isDigit_16 N post w L) ∧
    (¬ (57 : Int32) < x0 →
      B_X1_isDigit_17 N post 1 w L))
set_option maxHeartbeats 4000000 in
theorem k_X1_isDigit_0 {Γ : gT} {K : gK} {N : Nat} {post : Int32 → Wd → va_W → Prop} (C : gC Γ K RX1 cX1_isDigit 1 rm_X1_isDigit) (ret : gRi Γ K cX1_isDigit (some .boolean) (xPi K post) 0 0) (x0 : Int32) (w : Wd) (L : va_W) (h : B_X1_isDigit_0 N post x0 w L) : gJ Γ K 0 0 (xL K w ++ L) 0 [(0, .int x0)] [] := by
  unfold B_X1_isDigit_0 at h
  refine g_iload_n C 0 rfl dX1_isDigit_0 ?_
  refine g_bipush C 48 (by decide) dX1_isDigit_1 ?_
  refine g_icmp_lt C 16 dX1_isDigit_3 (by decide) (fun hc => ?_) (fun hc => ?_)
  · replace h := h.1 hc
    refine g_sub [] rfl ?_
    exact k_X1_isDigit_16 C ret w L h
  · replace h := h.2 hc
    refine g_iload_n C 0 rfl dX1_isDigit_6 ?_
    refine g_bipush C 57 (by decide) dX1_isDigit_7 ?_
    refine g_icmp_gt C 16 dX1_isDigit_9 (by decide) (fun hc => ?_) (fun hc => ?_)
    · replace h := h.1 hc
      refine g_sub [] rfl ?_
      exact k_X1_isDigit_16 C ret w L h
    · replace h := h.2 hc
      refine g_iconst C 1 (by decide) dX1_isDigit_12 ?_
      refine g_goto C 17 dX1_isDigit_13 (by decide) ?_
      refine g_sub [] rfl ?_
      exact k_X1_isDigit_17 C ret 1 w L h
def B_X1_isDigit (N : Nat) (x0 : Int32) (post : Int32 → Wd → va_W → Prop) (w : Wd) (L : va_W) : Prop := B_X1_isDigit_0 N post x0 w L
theorem m_X1_isDigit {l : Launch} {K : gK} {N : Nat} {post : Int32 → Wd → va_W → Prop} {x0 : Int32} {w : Wd} {L : va_W} (h : B_X1_isDigit N x0 post w L) : gMi l K yX1_isDigit cX1_isDigit 1 (some .boolean) rm_X1_isDigit [.int x0] (xL K w ++ L) (xPi K post) 0 0 := by
  refine g_inI (ls0 := [(0, .int x0)]) (by decide) (Nat.le_of_ble_eq_true rfl) rfl (fun Γ hl C hn ret => ?_)
  exact k_X1_isDigit_0 C ret x0 w L h
def rm_X1_isSign : Room := { frames := 0, cells := 0, slots := 0, locals := 0 }
def B_X1_isSign_23 (N : Nat) (post : Int32 → Wd → va_W → Prop) (s0 : Int32) (w : Wd) (L : va_W) : Prop :=
  gZ s0 ∧ post s0 w L
set_option maxHeartbeats 4000000 in
theorem k_X1_isSign_23 {Γ : gT} {K : gK} {N : Nat} {post : Int32 → Wd → va_W → Prop} (C : gC Γ K RX1 cX1_isSign 1 rm_X1_isSign) (ret : gRi Γ K cX1_isSign (some .boolean) (xPi K post) 0 0) (s0 : Int32) (w : Wd) (L : va_W) (h : B_X1_isSign_23 N post s0 w L) : gJ Γ K 0 0 (xL K w ++ L) 23 [] [.int s0] := by
  unfold B_X1_isSign_23 at h
  obtain ⟨hz, h⟩ := h
  exact ret _ _ _ _ _ rfl hz.n dX1_isSign_23 ⟨_, _, rfl, h⟩
def B_X1_isSign_18 (N : Nat) (post : Int32 → Wd → va_W → Prop) (w : Wd) (L : va_W) : Prop :=
  B_X1_isSign_23 N post 1 w L
set_option maxHeartbeats 4000000 in
theorem k_X1_isSign_18 {Γ : gT} {K : gK} {N : Nat} {post : Int32 → Wd → va_W → Prop} (C : gC Γ K RX1 cX1_isSign 1 rm_X1_isSign) (ret : gRi Γ K cX1_isSign (some .boolean) (xPi K post) 0 0) (w : Wd) (L : va_W) (h : B_X1_isSign_18 N post w L) : gJ Γ K 0 0 (xL K w ++ L) 18 [] [] := by
  unfold B_X1_isSign_18 at h
  refine g_iconst C 1 (by decide) dX1_isSign_18 ?_
  refine g_goto C 23 dX1_isSign_19 (by decide) ?_
  exact k_X1_isSign_23 C ret 1 w L h
def B_X1_isSign_0 (N : Nat) (post : Int32 → Wd → va_W → Prop) (x0 : Int32) (w : Wd) (L : va_W) : Prop :=
  (x0 = (61 : Int32) →
    B_X1_isSign_18 N post w L) ∧
  (¬ x0 = (61 : Int32) →
    (x0 = (60 : Int32) →
      B_X1_isSign_18 N post w L) ∧
    (¬ x0 = (60 : Int32) →
      (x0 = (62 : Int32) →
        B_X1_isSign_18 N post w L) ∧
      (¬ x0 = (62 : Int32) →
        B_X1_isSign_23 N post 0 w L)))
set_option maxHeartbeats 4000000 in
theorem k_X1_isSign_0 {Γ : gT} {K : gK} {N : Nat} {post : Int32 → Wd → va_W → Prop} (C : gC Γ K RX1 cX1_isSign 1 rm_X1_isSign) (ret : gRi Γ K cX1_isSign (some .boolean) (xPi K post) 0 0) (x0 : Int32) (w : Wd) (L : va_W) (h : B_X1_isSign_0 N post x0 w L) : gJ Γ K 0 0 (xL K w ++ L) 0 [(0, .int x0)] [] := by
  unfold B_X1_isSign_0 at h
  refine g_iload_n C 0 rfl dX1_isSign_0 ?_
  refine g_bipush C 61 (by decide) dX1_isSign_1 ?_
  refine g_icmp_eq C 18 dX1_isSign_3 (by decide) (fun hc => ?_) (fun hc => ?_)
  · replace h := h.1 hc
    refine g_sub [] rfl ?_
    exact k_X1_isSign_18 C ret w L h
  · replace h := h.2 hc
    refine g_iload_n C 0 rfl dX1_isSign_6 ?_
    refine g_bipush C 60 (by decide) dX1_isSign_7 ?_
    refine g_icmp_eq C 18 dX1_isSign_9 (by decide) (fun hc => ?_) (fun hc => ?_)
    · replace h := h.1 hc
      refine g_sub [] rfl ?_
      exact k_X1_isSign_18 C ret w L h
    · replace h := h.2 hc
      refine g_iload_n C 0 rfl dX1_isSign_12 ?_
      refine g_bipush C 62 (by decide) dX1_isSign_13 ?_
      refine g_icmp_ne C 22 dX1_isSign_15 (by decide) (fun hc => ?_) (fun hc => ?_)
      · replace h := h.2 hc
        refine g_iconst C 0 (by decide) dX1_isSign_22 ?_
        refine g_sub [] rfl ?_
        exact k_X1_isSign_23 C ret 0 w L h
      · replace h := h.1 hc
        refine g_sub [] rfl ?_
        exact k_X1_isSign_18 C ret w L h
def B_X1_isSign (N : Nat) (x0 : Int32) (post : Int32 → Wd → va_W → Prop) (w : Wd) (L : va_W) : Prop := B_X1_isSign_0 N post x0 w L
theorem m_X1_isSign {l : Launch} {K : gK} {N : Nat} {post : Int32 → Wd → va_W → Prop} {x0 : Int32} {w : Wd} {L : va_W} (h : B_X1_isSign N x0 post w L) : gMi l K yX1_isSign cX1_isSign 1 (some .boolean) rm_X1_isSign [.int x0] (xL K w ++ L) (xPi K post) 0 0 := by
  refine g_inI (ls0 := [(0, .int x0)]) (by decide) (Nat.le_of_ble_eq_true rfl) rfl (fun Γ hl C hn ret => ?_)
  exact k_X1_isSign_0 C ret x0 w L h
def rm_X1_least : Room := { frames := 0, cells := 0, slots := 0, locals := 0 }
def B_X1_least_20 (N : Nat) (post : Int32 → Wd → va_W → Prop) (s0 : Int32) (w : Wd) (L : va_W) : Prop :=
  post s0 w L
set_option maxHeartbeats 4000000 in
theorem k_X1_least_20 {Γ : gT} {K : gK} {N : Nat} {post : Int32 → Wd → va_W → Prop} (C : gC Γ K RX1 cX1_least 1 rm_X1_least) (ret : gRi Γ K cX1_least (some .int) (xPi K post) 0 0) (s0 : Int32) (w : Wd) (L : va_W) (h : B_X1_least_20 N post s0 w L) : gJ Γ K 0 0 (xL K w ++ L) 20 [] [.int s0] := by
  unfold B_X1_least_20 at h
  exact ret _ _ _ _ _ rfl rfl dX1_least_20 ⟨_, _, rfl, h⟩
def B_X1_least_0 (N : Nat) (post : Int32 → Wd → va_W → Prop) (x0 : Int32) (w : Wd) (L : va_W) : Prop :=
  (x0 = (4 : Int32) →
    B_X1_least_20 N post 1 w L) ∧
  (¬ x0 = (4 : Int32) →
    (x0 = (8 : Int32) →
      B_X1_least_20 N post (-1) w L) ∧
    (¬ x0 = (8 : Int32) →
      B_X1_least_20 N post 0 w L))
set_option maxHeartbeats 4000000 in
theorem k_X1_least_0 {Γ : gT} {K : gK} {N : Nat} {post : Int32 → Wd → va_W → Prop} (C : gC Γ K RX1 cX1_least 1 rm_X1_least) (ret : gRi Γ K cX1_least (some .int) (xPi K post) 0 0) (x0 : Int32) (w : Wd) (L : va_W) (h : B_X1_least_0 N post x0 w L) : gJ Γ K 0 0 (xL K w ++ L) 0 [(0, .int x0)] [] := by
  unfold B_X1_least_0 at h
  refine g_iload_n C 0 rfl dX1_least_0 ?_
  refine g_iconst C 4 (by decide) dX1_least_1 ?_
  refine g_icmp_ne C 9 dX1_least_2 (by decide) (fun hc => ?_) (fun hc => ?_)
  · replace h := h.2 hc
    refine g_iload_n C 0 rfl dX1_least_9 ?_
    refine g_bipush C 8 (by decide) dX1_least_10 ?_
    refine g_icmp_ne C 19 dX1_least_12 (by decide) (fun hc => ?_) (fun hc => ?_)
    · replace h := h.2 hc
      refine g_iconst C 0 (by decide) dX1_least_19 ?_
      refine g_sub [] rfl ?_
      exact k_X1_least_20 C ret 0 w L h
    · replace h := h.1 hc
      refine g_iconst C (-1) (by decide) dX1_least_15 ?_
      refine g_goto C 20 dX1_least_16 (by decide) ?_
      refine g_sub [] rfl ?_
      exact k_X1_least_20 C ret (-1) w L h
  · replace h := h.1 hc
    refine g_iconst C 1 (by decide) dX1_least_5 ?_
    refine g_goto C 20 dX1_least_6 (by decide) ?_
    refine g_sub [] rfl ?_
    exact k_X1_least_20 C ret 1 w L h
def B_X1_least (N : Nat) (x0 : Int32) (post : Int32 → Wd → va_W → Prop) (w : Wd) (L : va_W) : Prop := B_X1_least_0 N post x0 w L
theorem m_X1_least {l : Launch} {K : gK} {N : Nat} {post : Int32 → Wd → va_W → Prop} {x0 : Int32} {w : Wd} {L : va_W} (h : B_X1_least N x0 post w L) : gMi l K yX1_least cX1_least 1 (some .int) rm_X1_least [.int x0] (xL K w ++ L) (xPi K post) 0 0 := by
  refine g_inI (ls0 := [(0, .int x0)]) (by decide) (Nat.le_of_ble_eq_true rfl) rfl (fun Γ hl C hn ret => ?_)
  exact k_X1_least_0 C ret x0 w L h
def rm_X1_most : Room := { frames := 0, cells := 0, slots := 0, locals := 0 }
def B_X1_most_0 (N : Nat) (post : Int32 → Wd → va_W → Prop) (x0 : Int32) (w : Wd) (L : va_W) : Prop :=
  (x0 = 0 →
    post 9999 w L) ∧
  (¬ x0 = 0 →
  (x0 = 1 →
    post 100 w L) ∧
  (¬ x0 = 1 →
  (x0 = 2 →
    post 999 w L) ∧
  (¬ x0 = 2 →
  (x0 = 3 →
    post 100 w L) ∧
  (¬ x0 = 3 →
  (x0 = 4 →
    post 12 w L) ∧
  (¬ x0 = 4 →
  (x0 = 5 →
    post 9 w L) ∧
  (¬ x0 = 5 →
  (x0 = 6 →
    post 99 w L) ∧
  (¬ x0 = 6 →
  (x0 = 7 →
    post 100 w L) ∧
  (¬ x0 = 7 →
  (x0 = 8 →
    post 23 w L) ∧
  (¬ x0 = 8 →
  post 100 w L)))))))))
set_option maxHeartbeats 4000000 in
theorem k_X1_most_0 {Γ : gT} {K : gK} {N : Nat} {post : Int32 → Wd → va_W → Prop} (C : gC Γ K RX1 cX1_most 1 rm_X1_most) (ret : gRi Γ K cX1_most (some .int) (xPi K post) 0 0) (x0 : Int32) (w : Wd) (L : va_W) (h : B_X1_most_0 N post x0 w L) : gJ Γ K 0 0 (xL K w ++ L) 0 [(0, .int x0)] [] := by
  unfold B_X1_most_0 at h
  refine g_iload_n C 0 rfl dX1_most_0 ?_
  by_cases hc0 : x0 = 0
  · replace h := h.1 hc0
    refine g_tableIn C 52 dX1_most_1 (n := 0) (by rw [hc0]; decide) (by decide) (by decide) rfl (by decide) ?_
    refine g_sipush C 9999 (by decide) dX1_most_52 ?_
    exact ret _ _ _ _ _ rfl rfl dX1_most_55 ⟨_, _, rfl, h⟩
  · replace h := h.2 hc0
    by_cases hc1 : x0 = 1
    · replace h := h.1 hc1
      refine g_tableIn C 72 dX1_most_1 (n := 1) (by rw [hc1]; decide) (by decide) (by decide) rfl (by decide) ?_
      refine g_bipush C 100 (by decide) dX1_most_72 ?_
      exact ret _ _ _ _ _ rfl rfl dX1_most_74 ⟨_, _, rfl, h⟩
    · replace h := h.2 hc1
      by_cases hc2 : x0 = 2
      · replace h := h.1 hc2
        refine g_tableIn C 56 dX1_most_1 (n := 2) (by rw [hc2]; decide) (by decide) (by decide) rfl (by decide) ?_
        refine g_sipush C 999 (by decide) dX1_most_56 ?_
        exact ret _ _ _ _ _ rfl rfl dX1_most_59 ⟨_, _, rfl, h⟩
      · replace h := h.2 hc2
        by_cases hc3 : x0 = 3
        · replace h := h.1 hc3
          refine g_tableIn C 72 dX1_most_1 (n := 3) (by rw [hc3]; decide) (by decide) (by decide) rfl (by decide) ?_
          refine g_bipush C 100 (by decide) dX1_most_72 ?_
          exact ret _ _ _ _ _ rfl rfl dX1_most_74 ⟨_, _, rfl, h⟩
        · replace h := h.2 hc3
          by_cases hc4 : x0 = 4
          · replace h := h.1 hc4
            refine g_tableIn C 60 dX1_most_1 (n := 4) (by rw [hc4]; decide) (by decide) (by decide) rfl (by decide) ?_
            refine g_bipush C 12 (by decide) dX1_most_60 ?_
            exact ret _ _ _ _ _ rfl rfl dX1_most_62 ⟨_, _, rfl, h⟩
          · replace h := h.2 hc4
            by_cases hc5 : x0 = 5
            · replace h := h.1 hc5
              refine g_tableIn C 63 dX1_most_1 (n := 5) (by rw [hc5]; decide) (by decide) (by decide) rfl (by decide) ?_
              refine g_bipush C 9 (by decide) dX1_most_63 ?_
              exact ret _ _ _ _ _ rfl rfl dX1_most_65 ⟨_, _, rfl, h⟩
            · replace h := h.2 hc5
              by_cases hc6 : x0 = 6
              · replace h := h.1 hc6
                refine g_tableIn C 66 dX1_most_1 (n := 6) (by rw [hc6]; decide) (by decide) (by decide) rfl (by decide) ?_
                refine g_bipush C 99 (by decide) dX1_most_66 ?_
                exact ret _ _ _ _ _ rfl rfl dX1_most_68 ⟨_, _, rfl, h⟩
              · replace h := h.2 hc6
                by_cases hc7 : x0 = 7
                · replace h := h.1 hc7
                  refine g_tableIn C 72 dX1_most_1 (n := 7) (by rw [hc7]; decide) (by decide) (by decide) rfl (by decide) ?_
                  refine g_bipush C 100 (by decide) dX1_most_72 ?_
                  exact ret _ _ _ _ _ rfl rfl dX1_most_74 ⟨_, _, rfl, h⟩
                · replace h := h.2 hc7
                  by_cases hc8 : x0 = 8
                  · replace h := h.1 hc8
                    refine g_tableIn C 69 dX1_most_1 (n := 8) (by rw [hc8]; decide) (by decide) (by decide) rfl (by decide) ?_
                    refine g_bipush C 23 (by decide) dX1_most_69 ?_
                    exact ret _ _ _ _ _ rfl rfl dX1_most_71 ⟨_, _, rfl, h⟩
                  · replace h := h.2 hc8
                    have n0 := lv_neT hc0 (a := 0) (by decide)
                    have n1 := lv_neT hc1 (a := 1) (by decide)
                    have n2 := lv_neT hc2 (a := 2) (by decide)
                    have n3 := lv_neT hc3 (a := 3) (by decide)
                    have n4 := lv_neT hc4 (a := 4) (by decide)
                    have n5 := lv_neT hc5 (a := 5) (by decide)
                    have n6 := lv_neT hc6 (a := 6) (by decide)
                    have n7 := lv_neT hc7 (a := 7) (by decide)
                    have n8 := lv_neT hc8 (a := 8) (by decide)
                    refine g_tableOut C 72 dX1_most_1 (by omega) (by decide) ?_
                    refine g_bipush C 100 (by decide) dX1_most_72 ?_
                    exact ret _ _ _ _ _ rfl rfl dX1_most_74 ⟨_, _, rfl, h⟩
def B_X1_most (N : Nat) (x0 : Int32) (post : Int32 → Wd → va_W → Prop) (w : Wd) (L : va_W) : Prop := B_X1_most_0 N post x0 w L
theorem m_X1_most {l : Launch} {K : gK} {N : Nat} {post : Int32 → Wd → va_W → Prop} {x0 : Int32} {w : Wd} {L : va_W} (h : B_X1_most N x0 post w L) : gMi l K yX1_most cX1_most 1 (some .int) rm_X1_most [.int x0] (xL K w ++ L) (xPi K post) 0 0 := by
  refine g_inI (ls0 := [(0, .int x0)]) (by decide) (Nat.le_of_ble_eq_true rfl) rfl (fun Γ hl C hn ret => ?_)
  exact k_X1_most_0 C ret x0 w L h
def rm_X1_power : Room := { frames := 0, cells := 0, slots := 0, locals := 0 }
def B_X1_power_5s (r5 : Int64 → Int32 → Int64 → Int32 → Wd → va_W → Prop) (N : Nat) (post : Int64 → Wd → va_W → Prop) (x0 : Int64) (x2 : Int32) (x3 : Int64) (x5 : Int32) (w : Wd) (L : va_W) : Prop :=
  (x2 ≤ x5 →
    post x3 w L) ∧
  (¬ x2 ≤ x5 →
    r5 x0 x2 (x3 * x0) (x5 + 1) w L)
def B_X1_power_5 (N : Nat) (post : Int64 → Wd → va_W → Prop) : Nat → Int64 → Int32 → Int64 → Int32 → Wd → va_W → Prop
  | 0, _, _, _, _, _, _ => False
  | n + 1, x0, x2, x3, x5, w, L => B_X1_power_5s (B_X1_power_5 N post n) N post x0 x2 x3 x5 w L
set_option maxHeartbeats 4000000 in
theorem k_X1_power_5s {Γ : gT} {K : gK} {N : Nat} {post : Int64 → Wd → va_W → Prop} (C : gC Γ K RX1 cX1_power 6 rm_X1_power) (ret : gRl Γ K cX1_power (some .long) (xPl K post) 0 0) {r5 : Int64 → Int32 → Int64 → Int32 → Wd → va_W → Prop} (hr5 : ∀ (x0 : Int64) (x2 : Int32) (x3 : Int64) (x5 : Int32) (w : Wd) (L : va_W), r5 x0 x2 x3 x5 w L → gJ Γ K 0 0 (xL K w ++ L) 5 [(0, .long x0), (2, .int x2), (3, .long x3), (5, .int x5)] []) (x0 : Int64) (x2 : Int32) (x3 : Int64) (x5 : Int32) (w : Wd) (L : va_W) (h : B_X1_power_5s r5 N post x0 x2 x3 x5 w L) : gJ Γ K 0 0 (xL K w ++ L) 5 [(0, .long x0), (2, .int x2), (3, .long x3), (5, .int x5)] [] := by
  unfold B_X1_power_5s at h
  refine g_iload C 3 rfl dX1_power_5 ?_
  refine g_iload_n C 1 rfl dX1_power_7 ?_
  refine g_icmp_ge C 21 dX1_power_8 (by decide) (fun hc => ?_) (fun hc => ?_)
  · replace h := h.1 hc
    refine g_lload_n C 2 rfl dX1_power_21 ?_
    exact ret rfl _ _ _ _ dX1_power_22 ⟨_, _, rfl, h⟩
  · replace h := h.2 hc
    refine g_lload_n C 2 rfl dX1_power_11 ?_
    refine g_lload_n C 0 rfl dX1_power_12 ?_
    refine g_lmul C dX1_power_13 ?_
    refine g_lstore_n C rfl (lt := [(3, .long (x3 * x0)), (0, .long x0), (2, .int x2), (5, .int x5)]) dX1_power_14 (by decide) rfl ?_
    refine g_iinc C 3 (x5 + 1) (lt := [(5, .int (x5 + 1)), (3, .long (x3 * x0)), (0, .long x0), (2, .int x2)]) rfl rfl dX1_power_15 (by decide) rfl ?_
    refine g_goto C 5 dX1_power_18 (by decide) ?_
    refine g_sub [2, 3, 1, 0] rfl ?_
    exact hr5 x0 x2 (x3 * x0) (x5 + 1) w L h
theorem k_X1_power_5 {Γ : gT} {K : gK} {N : Nat} {post : Int64 → Wd → va_W → Prop} (C : gC Γ K RX1 cX1_power 6 rm_X1_power) (ret : gRl Γ K cX1_power (some .long) (xPl K post) 0 0) : ∀ (n : Nat) (x0 : Int64) (x2 : Int32) (x3 : Int64) (x5 : Int32) (w : Wd) (L : va_W) (h : B_X1_power_5 N post n x0 x2 x3 x5 w L), gJ Γ K 0 0 (xL K w ++ L) 5 [(0, .long x0), (2, .int x2), (3, .long x3), (5, .int x5)] [] := by
  intro n
  induction n with
  | zero => intro x0 x2 x3 x5 w L h; exact h.elim
  | succ n ih => intro x0 x2 x3 x5 w L h; exact k_X1_power_5s C ret ih x0 x2 x3 x5 w L h
def B_X1_power_0 (N : Nat) (post : Int64 → Wd → va_W → Prop) (x0 : Int64) (x2 : Int32) (w : Wd) (L : va_W) : Prop :=
  B_X1_power_5 N post N x0 x2 1 0 w L
set_option maxHeartbeats 4000000 in
theorem k_X1_power_0 {Γ : gT} {K : gK} {N : Nat} {post : Int64 → Wd → va_W → Prop} (C : gC Γ K RX1 cX1_power 6 rm_X1_power) (ret : gRl Γ K cX1_power (some .long) (xPl K post) 0 0) (x0 : Int64) (x2 : Int32) (w : Wd) (L : va_W) (h : B_X1_power_0 N post x0 x2 w L) : gJ Γ K 0 0 (xL K w ++ L) 0 [(0, .long x0), (2, .int x2)] [] := by
  unfold B_X1_power_0 at h
  refine g_lconst C 1 (by decide) dX1_power_0 ?_
  refine g_lstore_n C rfl (lt := [(3, .long 1), (0, .long x0), (2, .int x2)]) dX1_power_1 (by decide) rfl ?_
  refine g_iconst C 0 (by decide) dX1_power_2 ?_
  refine g_istore C (lt := [(5, .int 0), (3, .long 1), (0, .long x0), (2, .int x2)]) dX1_power_3 (by decide) rfl ?_
  refine g_sub [2, 3, 1, 0] rfl ?_
  exact k_X1_power_5 C ret N x0 x2 1 0 w L h
def B_X1_power (N : Nat) (x0 : Int64) (x2 : Int32) (post : Int64 → Wd → va_W → Prop) (w : Wd) (L : va_W) : Prop := B_X1_power_0 N post x0 x2 w L
theorem m_X1_power {l : Launch} {K : gK} {N : Nat} {post : Int64 → Wd → va_W → Prop} {x0 : Int64} {x2 : Int32} {w : Wd} {L : va_W} (h : B_X1_power N x0 x2 post w L) : gMl l K yX1_power cX1_power 6 (some .long) rm_X1_power [.long x0, .int x2] (xL K w ++ L) (xPl K post) 0 0 := by
  refine g_inL (ls0 := [(0, .long x0), (2, .int x2)]) (by decide) (Nat.le_of_ble_eq_true rfl) rfl (fun Γ hl C hn ret => ?_)
  exact k_X1_power_0 C ret x0 x2 w L h
def rm_X1_feed : Room := { frames := 1, cells := 0, slots := 0, locals := 26 }
def B_X1_feed_31 (r6 : Int32 → Int32 → Int32 → Int32 → Int32 → Int32 → Int32 → Wd → va_W → Prop) (N : Nat) (post : Int32 → Wd → va_W → Prop) (x1 : Int32) (x2 : Int32) (x3 : Int32) (x4 : Int32) (x5 : Int32) (x6 : Int32) (x7 : Int32) (w : Wd) (L : va_W) : Prop :=
  r6 x1 x2 x3 x4 x5 x6 (x7 + 1) w L
set_option maxHeartbeats 4000000 in
theorem k_X1_feed_31 {Γ : gT} {K : gK} {N : Nat} {post : Int32 → Wd → va_W → Prop} (C : gC Γ K RX1 cX1_feed 9 rm_X1_feed) (ret : gRi Γ K cX1_feed (some .int) (xPi K post) 0 0) {r6 : Int32 → Int32 → Int32 → Int32 → Int32 → Int32 → Int32 → Wd → va_W → Prop} (hr6 : ∀ (x1 : Int32) (x2 : Int32) (x3 : Int32) (x4 : Int32) (x5 : Int32) (x6 : Int32) (x7 : Int32) (w : Wd) (L : va_W), r6 x1 x2 x3 x4 x5 x6 x7 w L → gJ Γ K 0 0 (xL K w ++ L) 6 [(0, .ref (xa K 0)), (1, .int x1), (2, .int x2), (3, .int x3), (4, .int x4), (5, .int x5), (6, .int x6), (7, .int x7)] []) (x1 : Int32) (x2 : Int32) (x3 : Int32) (x4 : Int32) (x5 : Int32) (x6 : Int32) (x7 : Int32) (w : Wd) (L : va_W) (h : B_X1_feed_31 r6 N post x1 x2 x3 x4 x5 x6 x7 w L) : gJ Γ K 0 0 (xL K w ++ L) 31 [(0, .ref (xa K 0)), (1, .int x1), (2, .int x2), (3, .int x3), (4, .int x4), (5, .int x5), (6, .int x6), (7, .int x7)] [] := by
  unfold B_X1_feed_31 at h
  refine g_iinc C 7 (x7 + 1) (lt := [(7, .int (x7 + 1)), (0, .ref (xa K 0)), (1, .int x1), (2, .int x2), (3, .int x3), (4, .int x4), (5, .int x5), (6, .int x6)]) rfl rfl dX1_feed_31 (by decide) rfl ?_
  refine g_goto C 6 dX1_feed_34 (by decide) ?_
  refine g_sub [1, 2, 3, 4, 5, 6, 7, 0] rfl ?_
  exact hr6 x1 x2 x3 x4 x5 x6 (x7 + 1) w L h
def B_X1_feed_99 (r54 : Int32 → Int32 → Int32 → Int32 → Int32 → Int32 → Wd → va_W → Prop) (N : Nat) (post : Int32 → Wd → va_W → Prop) (x1 : Int32) (x2 : Int32) (x3 : Int32) (x4 : Int32) (x5 : Int32) (x7 : Int32) (w : Wd) (L : va_W) : Prop :=
  r54 x1 x2 x3 x4 x5 (x7 + 1) w L
set_option maxHeartbeats 4000000 in
theorem k_X1_feed_99 {Γ : gT} {K : gK} {N : Nat} {post : Int32 → Wd → va_W → Prop} (C : gC Γ K RX1 cX1_feed 9 rm_X1_feed) (ret : gRi Γ K cX1_feed (some .int) (xPi K post) 0 0) {r54 : Int32 → Int32 → Int32 → Int32 → Int32 → Int32 → Wd → va_W → Prop} (hr54 : ∀ (x1 : Int32) (x2 : Int32) (x3 : Int32) (x4 : Int32) (x5 : Int32) (x7 : Int32) (w : Wd) (L : va_W), r54 x1 x2 x3 x4 x5 x7 w L → gJ Γ K 0 0 (xL K w ++ L) 54 [(0, .ref (xa K 0)), (1, .int x1), (2, .int x2), (3, .int x3), (4, .int x4), (5, .int x5), (7, .int x7)] []) (x1 : Int32) (x2 : Int32) (x3 : Int32) (x4 : Int32) (x5 : Int32) (x7 : Int32) (w : Wd) (L : va_W) (h : B_X1_feed_99 r54 N post x1 x2 x3 x4 x5 x7 w L) : gJ Γ K 0 0 (xL K w ++ L) 99 [(0, .ref (xa K 0)), (1, .int x1), (2, .int x2), (3, .int x3), (4, .int x4), (5, .int x5), (7, .int x7)] [] := by
  unfold B_X1_feed_99 at h
  refine g_iinc C 6 (x7 + 1) (lt := [(7, .int (x7 + 1)), (0, .ref (xa K 0)), (1, .int x1), (2, .int x2), (3, .int x3), (4, .int x4), (5, .int x5)]) rfl rfl dX1_feed_99 (by decide) rfl ?_
  refine g_goto C 54 dX1_feed_102 (by decide) ?_
  refine g_sub [1, 2, 3, 4, 5, 6, 0] rfl ?_
  exact hr54 x1 x2 x3 x4 x5 (x7 + 1) w L h
def B_X1_feed_54s (r54 : Int32 → Int32 → Int32 → Int32 → Int32 → Int32 → Wd → va_W → Prop) (N : Nat) (post : Int32 → Wd → va_W → Prop) (x1 : Int32) (x2 : Int32) (x3 : Int32) (x4 : Int32) (x5 : Int32) (x7 : Int32) (w : Wd) (L : va_W) : Prop :=
  ((20 : Int32) ≤ x7 →
    post (xi w 0) w L) ∧
  (¬ (20 : Int32) ≤ x7 →
    B_X1_byteOf N x1 x2 x3 x4 x5 x7 (fun (v3 : Int32) (w1 : Wd) (L2 : va_W) =>
  (v3 = 0 →
      B_X1_feed_99 r54 N post x1 x2 x3 x4 x5 x7 w1 L2) ∧
    (¬ v3 = 0 →
      vp_in (xi w1 0) 120 ∧ ∀ w4 : Wd, w4 = (xsA (xsi w1 0 ((xi w1 0) + 1)) 6 (xi w1 0).toNatClampNeg (vp_nar .byte v3.toInt8.toInt32)) → B_X1_feed_99 r54 N post x1 x2 x3 x4 x5 x7 w4 L2)) w L)
def B_X1_feed_54 (N : Nat) (post : Int32 → Wd → va_W → Prop) : Nat → Int32 → Int32 → Int32 → Int32 → Int32 → Int32 → Wd → va_W → Prop
  | 0, _, _, _, _, _, _, _, _ => False
  | n + 1, x1, x2, x3, x4, x5, x7, w, L => B_X1_feed_54s (B_X1_feed_54 N post n) N post x1 x2 x3 x4 x5 x7 w L
set_option maxHeartbeats 4000000 in
theorem k_X1_feed_54s {Γ : gT} {K : gK} {N : Nat} {post : Int32 → Wd → va_W → Prop} (C : gC Γ K RX1 cX1_feed 9 rm_X1_feed) (ret : gRi Γ K cX1_feed (some .int) (xPi K post) 0 0) {r54 : Int32 → Int32 → Int32 → Int32 → Int32 → Int32 → Wd → va_W → Prop} (hr54 : ∀ (x1 : Int32) (x2 : Int32) (x3 : Int32) (x4 : Int32) (x5 : Int32) (x7 : Int32) (w : Wd) (L : va_W), r54 x1 x2 x3 x4 x5 x7 w L → gJ Γ K 0 0 (xL K w ++ L) 54 [(0, .ref (xa K 0)), (1, .int x1), (2, .int x2), (3, .int x3), (4, .int x4), (5, .int x5), (7, .int x7)] []) (x1 : Int32) (x2 : Int32) (x3 : Int32) (x4 : Int32) (x5 : Int32) (x7 : Int32) (w : Wd) (L : va_W) (h : B_X1_feed_54s r54 N post x1 x2 x3 x4 x5 x7 w L) : gJ Γ K 0 0 (xL K w ++ L) 54 [(0, .ref (xa K 0)), (1, .int x1), (2, .int x2), (3, .int x3), (4, .int x4), (5, .int x5), (7, .int x7)] [] := by
  unfold B_X1_feed_54s at h
  refine g_iload C 6 rfl dX1_feed_54 ?_
  refine g_bipush C 20 (by decide) dX1_feed_56 ?_
  refine g_icmp_ge C 105 dX1_feed_58 (by decide) (fun hc => ?_) (fun hc => ?_)
  · replace h := h.1 hc
    refine g_aload_n C 0 rfl dX1_feed_105 ?_
    refine xg_taped C q272 (xi w 0) rfl dX1_feed_106 ?_
    exact ret _ _ _ _ _ rfl rfl dX1_feed_109 ⟨_, _, rfl, h⟩
  · replace h := h.2 hc
    refine g_iload_n C 1 rfl dX1_feed_61 ?_
    refine g_iload_n C 2 rfl dX1_feed_62 ?_
    refine g_iload_n C 3 rfl dX1_feed_63 ?_
    refine g_iload C 4 rfl dX1_feed_64 ?_
    refine g_iload C 5 rfl dX1_feed_66 ?_
    refine g_iload C 6 rfl dX1_feed_68 ?_
    refine g_callSi C (As := [.int x1, .int x2, .int x3, .int x4, .int x5, .int x7]) (rest := []) (m_X1_byteOf h) (Cn := "") (b := 0) (lw_S q354 q355 q78 q356) ⟨rfl, rfl⟩ ⟨Nat.le_of_ble_eq_true rfl, Nat.le_of_ble_eq_true rfl⟩ 6 rfl (by decide +kernel) rfl (Nat.le_of_ble_eq_true rfl) ⟨Nat.zero_le _, Nat.zero_le _⟩ dX1_feed_70 ?_
    rintro v3 _ ⟨w1, L2, rfl, h⟩
    refine g_istore C (lt := [(8, .int v3), (0, .ref (xa K 0)), (1, .int x1), (2, .int x2), (3, .int x3), (4, .int x4), (5, .int x5), (7, .int x7)]) dX1_feed_73 (by decide) rfl ?_
    refine g_iload C 0 rfl dX1_feed_75 ?_
    refine g_if_eq C 99 dX1_feed_77 (by decide) (fun hc => ?_) (fun hc => ?_)
    · replace h := h.1 hc
      refine g_sub [1, 2, 3, 4, 5, 6, 7] rfl ?_
      exact k_X1_feed_99 C ret hr54 x1 x2 x3 x4 x5 x7 w1 L2 h
    · replace h := h.2 hc
      refine g_aload_n C 1 rfl dX1_feed_80 ?_
      refine xg_tape C q271 dX1_feed_81 ?_
      refine g_aload_n C 1 rfl dX1_feed_84 ?_
      refine g_dup C rfl dX1_feed_85 ?_
      refine xg_taped C q272 (xi w1 0) rfl dX1_feed_86 ?_
      refine g_dup_x1 C rfl rfl dX1_feed_89 ?_
      refine g_iconst C 1 (by decide) dX1_feed_90 ?_
      refine g_iadd C dX1_feed_91 ?_
      refine xp_taped C q272 dX1_feed_92 ?_
      refine g_iload C 0 rfl dX1_feed_95 ?_
      refine g_i2b C dX1_feed_97 ?_
      obtain ⟨hb, h⟩ := h
      refine xst_6 C hb dX1_feed_98 ?_
      obtain ⟨w4, ew4⟩ : ∃ z, z = (xsA (xsi w1 0 ((xi w1 0) + 1)) 6 (xi w1 0).toNatClampNeg (vp_nar .byte v3.toInt8.toInt32)) := ⟨_, rfl⟩
      replace h := h w4 ew4
      rw [← ew4]
      refine g_sub [1, 2, 3, 4, 5, 6, 7] rfl ?_
      exact k_X1_feed_99 C ret hr54 x1 x2 x3 x4 x5 x7 w4 L2 h
theorem k_X1_feed_54 {Γ : gT} {K : gK} {N : Nat} {post : Int32 → Wd → va_W → Prop} (C : gC Γ K RX1 cX1_feed 9 rm_X1_feed) (ret : gRi Γ K cX1_feed (some .int) (xPi K post) 0 0) : ∀ (n : Nat) (x1 : Int32) (x2 : Int32) (x3 : Int32) (x4 : Int32) (x5 : Int32) (x7 : Int32) (w : Wd) (L : va_W) (h : B_X1_feed_54 N post n x1 x2 x3 x4 x5 x7 w L), gJ Γ K 0 0 (xL K w ++ L) 54 [(0, .ref (xa K 0)), (1, .int x1), (2, .int x2), (3, .int x3), (4, .int x4), (5, .int x5), (7, .int x7)] [] := by
  intro n
  induction n with
  | zero => intro x1 x2 x3 x4 x5 x7 w L h; exact h.elim
  | succ n ih => intro x1 x2 x3 x4 x5 x7 w L h; exact k_X1_feed_54s C ret ih x1 x2 x3 x4 x5 x7 w L h
def B_X1_feed_6s (r6 : Int32 → Int32 → Int32 → Int32 → Int32 → Int32 → Int32 → Wd → va_W → Prop) (N : Nat) (post : Int32 → Wd → va_W → Prop) (x1 : Int32) (x2 : Int32) (x3 : Int32) (x4 : Int32) (x5 : Int32) (x6 : Int32) (x7 : Int32) (w : Wd) (L : va_W) : Prop :=
  ((20 : Int32) ≤ x7 →
    (((xi w 0) + x6) ≤ (120 : Int32) →
      B_X1_feed_54 N post N x1 x2 x3 x4 x5 0 w L) ∧
    (¬ ((xi w 0) + x6) ≤ (120 : Int32) →
      post (-1) w L)) ∧
  (¬ (20 : Int32) ≤ x7 →
    B_X1_byteOf N x1 x2 x3 x4 x5 x7 (fun (v3 : Int32) (w1 : Wd) (L2 : va_W) =>
  (v3 = 0 →
      B_X1_feed_31 r6 N post x1 x2 x3 x4 x5 x6 x7 w1 L2) ∧
    (¬ v3 = 0 →
      B_X1_feed_31 r6 N post x1 x2 x3 x4 x5 (x6 + 1) x7 w1 L2)) w L)
def B_X1_feed_6 (N : Nat) (post : Int32 → Wd → va_W → Prop) : Nat → Int32 → Int32 → Int32 → Int32 → Int32 → Int32 → Int32 → Wd → va_W → Prop
  | 0, _, _, _, _, _, _, _, _, _ => False
  | n + 1, x1, x2, x3, x4, x5, x6, x7, w, L => B_X1_feed_6s (B_X1_feed_6 N post n) N post x1 x2 x3 x4 x5 x6 x7 w L
set_option maxHeartbeats 4000000 in
theorem k_X1_feed_6s {Γ : gT} {K : gK} {N : Nat} {post : Int32 → Wd → va_W → Prop} (C : gC Γ K RX1 cX1_feed 9 rm_X1_feed) (ret : gRi Γ K cX1_feed (some .int) (xPi K post) 0 0) {r6 : Int32 → Int32 → Int32 → Int32 → Int32 → Int32 → Int32 → Wd → va_W → Prop} (hr6 : ∀ (x1 : Int32) (x2 : Int32) (x3 : Int32) (x4 : Int32) (x5 : Int32) (x6 : Int32) (x7 : Int32) (w : Wd) (L : va_W), r6 x1 x2 x3 x4 x5 x6 x7 w L → gJ Γ K 0 0 (xL K w ++ L) 6 [(0, .ref (xa K 0)), (1, .int x1), (2, .int x2), (3, .int x3), (4, .int x4), (5, .int x5), (6, .int x6), (7, .int x7)] []) (x1 : Int32) (x2 : Int32) (x3 : Int32) (x4 : Int32) (x5 : Int32) (x6 : Int32) (x7 : Int32) (w : Wd) (L : va_W) (h : B_X1_feed_6s r6 N post x1 x2 x3 x4 x5 x6 x7 w L) : gJ Γ K 0 0 (xL K w ++ L) 6 [(0, .ref (xa K 0)), (1, .int x1), (2, .int x2), (3, .int x3), (4, .int x4), (5, .int x5), (6, .int x6), (7, .int x7)] [] := by
  unfold B_X1_feed_6s at h
  refine g_iload C 7 rfl dX1_feed_6 ?_
  refine g_bipush C 20 (by decide) dX1_feed_8 ?_
  refine g_icmp_ge C 37 dX1_feed_10 (by decide) (fun hc => ?_) (fun hc => ?_)
  · replace h := h.1 hc
    refine g_aload_n C 0 rfl dX1_feed_37 ?_
    refine xg_taped C q272 (xi w 0) rfl dX1_feed_38 ?_
    refine g_iload C 6 rfl dX1_feed_41 ?_
    refine g_iadd C dX1_feed_43 ?_
    refine g_bipush C 120 (by decide) dX1_feed_44 ?_
    refine g_icmp_le C 51 dX1_feed_46 (by decide) (fun hc => ?_) (fun hc => ?_)
    · replace h := h.1 hc
      refine g_iconst C 0 (by decide) dX1_feed_51 ?_
      refine g_istore C (lt := [(7, .int 0), (0, .ref (xa K 0)), (1, .int x1), (2, .int x2), (3, .int x3), (4, .int x4), (5, .int x5), (6, .int x6)]) dX1_feed_52 (by decide) rfl ?_
      refine g_sub [1, 2, 3, 4, 5, 6, 0] rfl ?_
      exact k_X1_feed_54 C ret N x1 x2 x3 x4 x5 0 w L h
    · replace h := h.2 hc
      refine g_iconst C (-1) (by decide) dX1_feed_49 ?_
      exact ret _ _ _ _ _ rfl rfl dX1_feed_50 ⟨_, _, rfl, h⟩
  · replace h := h.2 hc
    refine g_iload_n C 1 rfl dX1_feed_13 ?_
    refine g_iload_n C 2 rfl dX1_feed_14 ?_
    refine g_iload_n C 3 rfl dX1_feed_15 ?_
    refine g_iload C 4 rfl dX1_feed_16 ?_
    refine g_iload C 5 rfl dX1_feed_18 ?_
    refine g_iload C 7 rfl dX1_feed_20 ?_
    refine g_callSi C (As := [.int x1, .int x2, .int x3, .int x4, .int x5, .int x7]) (rest := []) (m_X1_byteOf h) (Cn := "") (b := 0) (lw_S q354 q355 q78 q356) ⟨rfl, rfl⟩ ⟨Nat.le_of_ble_eq_true rfl, Nat.le_of_ble_eq_true rfl⟩ 6 rfl (by decide +kernel) rfl (Nat.le_of_ble_eq_true rfl) ⟨Nat.zero_le _, Nat.zero_le _⟩ dX1_feed_22 ?_
    rintro v3 _ ⟨w1, L2, rfl, h⟩
    refine g_if_eq C 31 dX1_feed_25 (by decide) (fun hc => ?_) (fun hc => ?_)
    · replace h := h.1 hc
      exact k_X1_feed_31 C ret hr6 x1 x2 x3 x4 x5 x6 x7 w1 L2 h
    · replace h := h.2 hc
      refine g_iinc C 6 (x6 + 1) (lt := [(6, .int (x6 + 1)), (0, .ref (xa K 0)), (1, .int x1), (2, .int x2), (3, .int x3), (4, .int x4), (5, .int x5), (7, .int x7)]) rfl rfl dX1_feed_28 (by decide) rfl ?_
      refine g_sub [1, 2, 3, 4, 5, 6, 0, 7] rfl ?_
      exact k_X1_feed_31 C ret hr6 x1 x2 x3 x4 x5 (x6 + 1) x7 w1 L2 h
theorem k_X1_feed_6 {Γ : gT} {K : gK} {N : Nat} {post : Int32 → Wd → va_W → Prop} (C : gC Γ K RX1 cX1_feed 9 rm_X1_feed) (ret : gRi Γ K cX1_feed (some .int) (xPi K post) 0 0) : ∀ (n : Nat) (x1 : Int32) (x2 : Int32) (x3 : Int32) (x4 : Int32) (x5 : Int32) (x6 : Int32) (x7 : Int32) (w : Wd) (L : va_W) (h : B_X1_feed_6 N post n x1 x2 x3 x4 x5 x6 x7 w L), gJ Γ K 0 0 (xL K w ++ L) 6 [(0, .ref (xa K 0)), (1, .int x1), (2, .int x2), (3, .int x3), (4, .int x4), (5, .int x5), (6, .int x6), (7, .int x7)] [] := by
  intro n
  induction n with
  | zero => intro x1 x2 x3 x4 x5 x6 x7 w L h; exact h.elim
  | succ n ih => intro x1 x2 x3 x4 x5 x6 x7 w L h; exact k_X1_feed_6s C ret ih x1 x2 x3 x4 x5 x6 x7 w L h
def B_X1_feed_0 (N : Nat) (post : Int32 → Wd → va_W → Prop) (x1 : Int32) (x2 : Int32) (x3 : Int32) (x4 : Int32) (x5 : Int32) (w : Wd) (L : va_W) : Prop :=
  B_X1_feed_6 N post N x1 x2 x3 x4 x5 0 0 w L
set_option maxHeartbeats 4000000 in
theorem k_X1_feed_0 {Γ : gT} {K : gK} {N : Nat} {post : Int32 → Wd → va_W → Prop} (C : gC Γ K RX1 cX1_feed 9 rm_X1_feed) (ret : gRi Γ K cX1_feed (some .int) (xPi K post) 0 0) (x1 : Int32) (x2 : Int32) (x3 : Int32) (x4 : Int32) (x5 : Int32) (w : Wd) (L : va_W) (h : B_X1_feed_0 N post x1 x2 x3 x4 x5 w L) : gJ Γ K 0 0 (xL K w ++ L) 0 [(0, .ref (xa K 0)), (1, .int x1), (2, .int x2), (3, .int x3), (4, .int x4), (5, .int x5)] [] := by
  unfold B_X1_feed_0 at h
  refine g_iconst C 0 (by decide) dX1_feed_0 ?_
  refine g_istore C (lt := [(6, .int 0), (0, .ref (xa K 0)), (1, .int x1), (2, .int x2), (3, .int x3), (4, .int x4), (5, .int x5)]) dX1_feed_1 (by decide) rfl ?_
  refine g_iconst C 0 (by decide) dX1_feed_3 ?_
  refine g_istore C (lt := [(7, .int 0), (6, .int 0), (0, .ref (xa K 0)), (1, .int x1), (2, .int x2), (3, .int x3), (4, .int x4), (5, .int x5)]) dX1_feed_4 (by decide) rfl ?_
  refine g_sub [2, 3, 4, 5, 6, 7, 1, 0] rfl ?_
  exact k_X1_feed_6 C ret N x1 x2 x3 x4 x5 0 0 w L h
def B_X1_feed (N : Nat) (x1 : Int32) (x2 : Int32) (x3 : Int32) (x4 : Int32) (x5 : Int32) (post : Int32 → Wd → va_W → Prop) (w : Wd) (L : va_W) : Prop := B_X1_feed_0 N post x1 x2 x3 x4 x5 w L
theorem m_X1_feed {l : Launch} {K : gK} {N : Nat} {post : Int32 → Wd → va_W → Prop} {x1 : Int32} {x2 : Int32} {x3 : Int32} {x4 : Int32} {x5 : Int32} {w : Wd} {L : va_W} (h : B_X1_feed N x1 x2 x3 x4 x5 post w L) : gMi l K yX1_feed cX1_feed 9 (some .int) rm_X1_feed [.ref (xa K 0), .int x1, .int x2, .int x3, .int x4, .int x5] (xL K w ++ L) (xPi K post) 0 0 := by
  refine g_inI (ls0 := [(0, .ref (xa K 0)), (1, .int x1), (2, .int x2), (3, .int x3), (4, .int x4), (5, .int x5)]) (by decide) (Nat.le_of_ble_eq_true rfl) rfl (fun Γ hl C hn ret => ?_)
  exact k_X1_feed_0 C ret x1 x2 x3 x4 x5 w L h
def rm_X1_end : Room := { frames := 0, cells := 0, slots := 0, locals := 0 }
def B_X1_end_12 (N : Nat) (post : Int32 → Wd → va_W → Prop) (w : Wd) (L : va_W) : Prop :=
  post 0 w L
set_option maxHeartbeats 4000000 in
theorem k_X1_end_12 {Γ : gT} {K : gK} {N : Nat} {post : Int32 → Wd → va_W → Prop} (C : gC Γ K RX1 cX1_end 2 rm_X1_end) (ret : gRi Γ K cX1_end (some .boolean) (xPi K post) 0 0) (w : Wd) (L : va_W) (h : B_X1_end_12 N post w L) : gJ Γ K 0 0 (xL K w ++ L) 12 [] [] := by
  unfold B_X1_end_12 at h
  refine g_iconst C 0 (by decide) dX1_end_12 ?_
  exact ret _ _ _ _ _ rfl (gZ.n (Or.inl rfl)) dX1_end_13 ⟨_, _, rfl, h⟩
def B_X1_end_0 (N : Nat) (post : Int32 → Wd → va_W → Prop) (x1 : Int32) (w : Wd) (L : va_W) : Prop :=
  (x1 < 0 →
    B_X1_end_12 N post w L) ∧
  (¬ x1 < 0 →
    (x1 ≤ (xi w 0) →
      post 1 (xsi w 0 x1) L) ∧
    (¬ x1 ≤ (xi w 0) →
      B_X1_end_12 N post w L))
set_option maxHeartbeats 4000000 in
theorem k_X1_end_0 {Γ : gT} {K : gK} {N : Nat} {post : Int32 → Wd → va_W → Prop} (C : gC Γ K RX1 cX1_end 2 rm_X1_end) (ret : gRi Γ K cX1_end (some .boolean) (xPi K post) 0 0) (x1 : Int32) (w : Wd) (L : va_W) (h : B_X1_end_0 N post x1 w L) : gJ Γ K 0 0 (xL K w ++ L) 0 [(0, .ref (xa K 0)), (1, .int x1)] [] := by
  unfold B_X1_end_0 at h
  refine g_iload_n C 1 rfl dX1_end_0 ?_
  refine g_if_lt C 12 dX1_end_1 (by decide) (fun hc => ?_) (fun hc => ?_)
  · replace h := h.1 hc
    refine g_sub [] rfl ?_
    exact k_X1_end_12 C ret w L h
  · replace h := h.2 hc
    refine g_iload_n C 1 rfl dX1_end_4 ?_
    refine g_aload_n C 0 rfl dX1_end_5 ?_
    refine xg_taped C q272 (xi w 0) rfl dX1_end_6 ?_
    refine g_icmp_le C 14 dX1_end_9 (by decide) (fun hc => ?_) (fun hc => ?_)
    · replace h := h.1 hc
      refine g_aload_n C 0 rfl dX1_end_14 ?_
      refine g_iload_n C 1 rfl dX1_end_15 ?_
      refine xp_taped C q272 dX1_end_16 ?_
      refine g_iconst C 1 (by decide) dX1_end_19 ?_
      exact ret _ _ _ _ _ rfl (gZ.n (Or.inr rfl)) dX1_end_20 ⟨_, _, rfl, h⟩
    · replace h := h.2 hc
      refine g_sub [] rfl ?_
      exact k_X1_end_12 C ret w L h
def B_X1_end (N : Nat) (x1 : Int32) (post : Int32 → Wd → va_W → Prop) (w : Wd) (L : va_W) : Prop := B_X1_end_0 N post x1 w L
theorem m_X1_end {l : Launch} {K : gK} {N : Nat} {post : Int32 → Wd → va_W → Prop} {x1 : Int32} {w : Wd} {L : va_W} (h : B_X1_end N x1 post w L) : gMi l K yX1_end cX1_end 2 (some .boolean) rm_X1_end [.ref (xa K 0), .int x1] (xL K w ++ L) (xPi K post) 0 0 := by
  refine g_inI (ls0 := [(0, .ref (xa K 0)), (1, .int x1)]) (by decide) (Nat.le_of_ble_eq_true rfl) rfl (fun Γ hl C hn ret => ?_)
  exact k_X1_end_0 C ret x1 w L h
def rm_X1_look : Room := { frames := 0, cells := 0, slots := 0, locals := 0 }
def B_X1_look_66 (N : Nat) (post : Int32 → Wd → va_W → Prop) (s0 : Int32) (w : Wd) (L : va_W) : Prop :=
  post s0 w L
set_option maxHeartbeats 4000000 in
theorem k_X1_look_66 {Γ : gT} {K : gK} {N : Nat} {post : Int32 → Wd → va_W → Prop} (C : gC Γ K RX1 cX1_look 1 rm_X1_look) (ret : gRi Γ K cX1_look (some .int) (xPi K post) 0 0) (s0 : Int32) (w : Wd) (L : va_W) (h : B_X1_look_66 N post s0 w L) : gJ Γ K 0 0 (xL K w ++ L) 66 [] [.int s0] := by
  unfold B_X1_look_66 at h
  exact ret _ _ _ _ _ rfl rfl dX1_look_66 ⟨_, _, rfl, h⟩
def B_X1_look_38 (N : Nat) (post : Int32 → Wd → va_W → Prop) (w : Wd) (L : va_W) : Prop :=
  ((xi w 0) ≤ (xi w 1) →
    B_X1_look_66 N post (-1) w L) ∧
  (¬ (xi w 0) ≤ (xi w 1) →
    vp_in (xi w 1) 120 ∧ B_X1_look_66 N post ((xA w 6 (xi w 1).toNatClampNeg) &&& 255) w L)
set_option maxHeartbeats 4000000 in
theorem k_X1_look_38 {Γ : gT} {K : gK} {N : Nat} {post : Int32 → Wd → va_W → Prop} (C : gC Γ K RX1 cX1_look 1 rm_X1_look) (ret : gRi Γ K cX1_look (some .int) (xPi K post) 0 0) (w : Wd) (L : va_W) (h : B_X1_look_38 N post w L) : gJ Γ K 0 0 (xL K w ++ L) 38 [(0, .ref (xa K 0))] [] := by
  unfold B_X1_look_38 at h
  refine g_aload_n C 0 rfl dX1_look_38 ?_
  refine xg_place C q273 (xi w 1) rfl dX1_look_39 ?_
  refine g_aload_n C 0 rfl dX1_look_42 ?_
  refine xg_taped C q272 (xi w 0) rfl dX1_look_43 ?_
  refine g_icmp_ge C 65 dX1_look_46 (by decide) (fun hc => ?_) (fun hc => ?_)
  · replace h := h.1 hc
    refine g_iconst C (-1) (by decide) dX1_look_65 ?_
    refine g_sub [] rfl ?_
    exact k_X1_look_66 C ret (-1) w L h
  · replace h := h.2 hc
    refine g_aload_n C 0 rfl dX1_look_49 ?_
    refine xg_tape C q271 dX1_look_50 ?_
    refine g_aload_n C 0 rfl dX1_look_53 ?_
    refine xg_place C q273 (xi w 1) rfl dX1_look_54 ?_
    obtain ⟨hb, h⟩ := h
    refine xld_6 C hb (xA w 6 (xi w 1).toNatClampNeg) rfl dX1_look_57 ?_
    refine g_sipush C 255 (by decide) dX1_look_58 ?_
    refine g_iand C dX1_look_61 ?_
    refine g_goto C 66 dX1_look_62 (by decide) ?_
    refine g_sub [] rfl ?_
    exact k_X1_look_66 C ret ((xA w 6 (xi w 1).toNatClampNeg) &&& 255) w L h
def B_X1_look_0s (r0 : Wd → va_W → Prop) (N : Nat) (post : Int32 → Wd → va_W → Prop) (w : Wd) (L : va_W) : Prop :=
  ((xi w 0) ≤ (xi w 1) →
    B_X1_look_38 N post w L) ∧
  (¬ (xi w 0) ≤ (xi w 1) →
    vp_in (xi w 1) 120 ∧ ((xA w 6 (xi w 1).toNatClampNeg) = (32 : Int32) →
      r0 (xsi w 1 ((xi w 1) + 1)) L) ∧
    (¬ (xA w 6 (xi w 1).toNatClampNeg) = (32 : Int32) →
      B_X1_look_38 N post w L))
def B_X1_look_0 (N : Nat) (post : Int32 → Wd → va_W → Prop) : Nat → Wd → va_W → Prop
  | 0, _, _ => False
  | n + 1, w, L => B_X1_look_0s (B_X1_look_0 N post n) N post w L
set_option maxHeartbeats 4000000 in
theorem k_X1_look_0s {Γ : gT} {K : gK} {N : Nat} {post : Int32 → Wd → va_W → Prop} (C : gC Γ K RX1 cX1_look 1 rm_X1_look) (ret : gRi Γ K cX1_look (some .int) (xPi K post) 0 0) {r0 : Wd → va_W → Prop} (hr0 : ∀ (w : Wd) (L : va_W), r0 w L → gJ Γ K 0 0 (xL K w ++ L) 0 [(0, .ref (xa K 0))] []) (w : Wd) (L : va_W) (h : B_X1_look_0s r0 N post w L) : gJ Γ K 0 0 (xL K w ++ L) 0 [(0, .ref (xa K 0))] [] := by
  unfold B_X1_look_0s at h
  refine g_aload_n C 0 rfl dX1_look_0 ?_
  refine xg_place C q273 (xi w 1) rfl dX1_look_1 ?_
  refine g_aload_n C 0 rfl dX1_look_4 ?_
  refine xg_taped C q272 (xi w 0) rfl dX1_look_5 ?_
  refine g_icmp_ge C 38 dX1_look_8 (by decide) (fun hc => ?_) (fun hc => ?_)
  · replace h := h.1 hc
    exact k_X1_look_38 C ret w L h
  · replace h := h.2 hc
    refine g_aload_n C 0 rfl dX1_look_11 ?_
    refine xg_tape C q271 dX1_look_12 ?_
    refine g_aload_n C 0 rfl dX1_look_15 ?_
    refine xg_place C q273 (xi w 1) rfl dX1_look_16 ?_
    obtain ⟨hb, h⟩ := h
    refine xld_6 C hb (xA w 6 (xi w 1).toNatClampNeg) rfl dX1_look_19 ?_
    refine g_bipush C 32 (by decide) dX1_look_20 ?_
    refine g_icmp_ne C 38 dX1_look_22 (by decide) (fun hc => ?_) (fun hc => ?_)
    · replace h := h.2 hc
      exact k_X1_look_38 C ret w L h
    · replace h := h.1 hc
      refine g_aload_n C 0 rfl dX1_look_25 ?_
      refine g_dup C rfl dX1_look_26 ?_
      refine xg_place C q273 (xi w 1) rfl dX1_look_27 ?_
      refine g_iconst C 1 (by decide) dX1_look_30 ?_
      refine g_iadd C dX1_look_31 ?_
      refine xp_place C q273 dX1_look_32 ?_
      refine g_goto C 0 dX1_look_35 (by decide) ?_
      exact hr0 (xsi w 1 ((xi w 1) + 1)) L h
theorem k_X1_look_0 {Γ : gT} {K : gK} {N : Nat} {post : Int32 → Wd → va_W → Prop} (C : gC Γ K RX1 cX1_look 1 rm_X1_look) (ret : gRi Γ K cX1_look (some .int) (xPi K post) 0 0) : ∀ (n : Nat) (w : Wd) (L : va_W) (h : B_X1_look_0 N post n w L), gJ Γ K 0 0 (xL K w ++ L) 0 [(0, .ref (xa K 0))] [] := by
  intro n
  induction n with
  | zero => intro w L h; exact h.elim
  | succ n ih => intro w L h; exact k_X1_look_0s C ret ih w L h
def B_X1_look (N : Nat) (post : Int32 → Wd → va_W → Prop) (w : Wd) (L : va_W) : Prop := B_X1_look_0 N post N w L
theorem m_X1_look {l : Launch} {K : gK} {N : Nat} {post : Int32 → Wd → va_W → Prop} {w : Wd} {L : va_W} (h : B_X1_look N post w L) : gMi l K yX1_look cX1_look 1 (some .int) rm_X1_look [.ref (xa K 0)] (xL K w ++ L) (xPi K post) 0 0 := by
  refine g_inI (ls0 := [(0, .ref (xa K 0))]) (by decide) (Nat.le_of_ble_eq_true rfl) rfl (fun Γ hl C hn ret => ?_)
  refine g_sub [0] rfl ?_
  exact k_X1_look_0 C ret N w L h
def rm_X1_isLaw : Room := { frames := 1, cells := 0, slots := 0, locals := 22 }
def B_X1_isLaw_0 (N : Nat) (post : Int32 → Wd → va_W → Prop) (x1 : Int32) (w : Wd) (L : va_W) : Prop :=
  B_X1_in N x1 0 ((xi w 3) - 1) (fun (v3 : Int32) (w1 : Wd) (L2 : va_W) =>
  gZ v3 ∧ post v3 w1 L2) w L
set_option maxHeartbeats 4000000 in
theorem k_X1_isLaw_0 {Γ : gT} {K : gK} {N : Nat} {post : Int32 → Wd → va_W → Prop} (C : gC Γ K RX1 cX1_isLaw 2 rm_X1_isLaw) (ret : gRi Γ K cX1_isLaw (some .boolean) (xPi K post) 0 0) (x1 : Int32) (w : Wd) (L : va_W) (h : B_X1_isLaw_0 N post x1 w L) : gJ Γ K 0 0 (xL K w ++ L) 0 [(0, .ref (xa K 0)), (1, .int x1)] [] := by
  unfold B_X1_isLaw_0 at h
  refine g_iload_n C 1 rfl dX1_isLaw_0 ?_
  refine g_iconst C 0 (by decide) dX1_isLaw_1 ?_
  refine g_aload_n C 0 rfl dX1_isLaw_2 ?_
  refine xg_lawMany C q278 (xi w 3) rfl dX1_isLaw_3 ?_
  refine g_iconst C 1 (by decide) dX1_isLaw_6 ?_
  refine g_isub C dX1_isLaw_7 ?_
  refine g_callSi C (As := [.int x1, .int 0, .int ((xi w 3) - 1)]) (rest := []) (m_X1_in h) (Cn := "") (b := 0) (lw_S q657 q658 q78 q659) ⟨rfl, rfl⟩ ⟨Nat.le_of_ble_eq_true rfl, Nat.le_of_ble_eq_true rfl⟩ 3 rfl (by decide +kernel) rfl (Nat.le_of_ble_eq_true rfl) ⟨Nat.zero_le _, Nat.zero_le _⟩ dX1_isLaw_8 ?_
  rintro v3 _ ⟨w1, L2, rfl, h⟩
  obtain ⟨hz, h⟩ := h
  exact ret _ _ _ _ _ rfl hz.n dX1_isLaw_11 ⟨_, _, rfl, h⟩
def B_X1_isLaw (N : Nat) (x1 : Int32) (post : Int32 → Wd → va_W → Prop) (w : Wd) (L : va_W) : Prop := B_X1_isLaw_0 N post x1 w L
theorem m_X1_isLaw {l : Launch} {K : gK} {N : Nat} {post : Int32 → Wd → va_W → Prop} {x1 : Int32} {w : Wd} {L : va_W} (h : B_X1_isLaw N x1 post w L) : gMi l K yX1_isLaw cX1_isLaw 2 (some .boolean) rm_X1_isLaw [.ref (xa K 0), .int x1] (xL K w ++ L) (xPi K post) 0 0 := by
  refine g_inI (ls0 := [(0, .ref (xa K 0)), (1, .int x1)]) (by decide) (Nat.le_of_ble_eq_true rfl) rfl (fun Γ hl C hn ret => ?_)
  exact k_X1_isLaw_0 C ret x1 w L h
def rm_X1_isAnimal : Room := { frames := 1, cells := 0, slots := 0, locals := 22 }
def B_X1_isAnimal_0 (N : Nat) (post : Int32 → Wd → va_W → Prop) (x1 : Int32) (w : Wd) (L : va_W) : Prop :=
  B_X1_in N x1 0 ((xi w 4) - 1) (fun (v3 : Int32) (w1 : Wd) (L2 : va_W) =>
  gZ v3 ∧ post v3 w1 L2) w L
set_option maxHeartbeats 4000000 in
theorem k_X1_isAnimal_0 {Γ : gT} {K : gK} {N : Nat} {post : Int32 → Wd → va_W → Prop} (C : gC Γ K RX1 cX1_isAnimal 2 rm_X1_isAnimal) (ret : gRi Γ K cX1_isAnimal (some .boolean) (xPi K post) 0 0) (x1 : Int32) (w : Wd) (L : va_W) (h : B_X1_isAnimal_0 N post x1 w L) : gJ Γ K 0 0 (xL K w ++ L) 0 [(0, .ref (xa K 0)), (1, .int x1)] [] := by
  unfold B_X1_isAnimal_0 at h
  refine g_iload_n C 1 rfl dX1_isAnimal_0 ?_
  refine g_iconst C 0 (by decide) dX1_isAnimal_1 ?_
  refine g_aload_n C 0 rfl dX1_isAnimal_2 ?_
  refine xg_animals C q283 (xi w 4) rfl dX1_isAnimal_3 ?_
  refine g_iconst C 1 (by decide) dX1_isAnimal_6 ?_
  refine g_isub C dX1_isAnimal_7 ?_
  refine g_callSi C (As := [.int x1, .int 0, .int ((xi w 4) - 1)]) (rest := []) (m_X1_in h) (Cn := "") (b := 0) (lw_S q657 q658 q78 q659) ⟨rfl, rfl⟩ ⟨Nat.le_of_ble_eq_true rfl, Nat.le_of_ble_eq_true rfl⟩ 3 rfl (by decide +kernel) rfl (Nat.le_of_ble_eq_true rfl) ⟨Nat.zero_le _, Nat.zero_le _⟩ dX1_isAnimal_8 ?_
  rintro v3 _ ⟨w1, L2, rfl, h⟩
  obtain ⟨hz, h⟩ := h
  exact ret _ _ _ _ _ rfl hz.n dX1_isAnimal_11 ⟨_, _, rfl, h⟩
def B_X1_isAnimal (N : Nat) (x1 : Int32) (post : Int32 → Wd → va_W → Prop) (w : Wd) (L : va_W) : Prop := B_X1_isAnimal_0 N post x1 w L
theorem m_X1_isAnimal {l : Launch} {K : gK} {N : Nat} {post : Int32 → Wd → va_W → Prop} {x1 : Int32} {w : Wd} {L : va_W} (h : B_X1_isAnimal N x1 post w L) : gMi l K yX1_isAnimal cX1_isAnimal 2 (some .boolean) rm_X1_isAnimal [.ref (xa K 0), .int x1] (xL K w ++ L) (xPi K post) 0 0 := by
  refine g_inI (ls0 := [(0, .ref (xa K 0)), (1, .int x1)]) (by decide) (Nat.le_of_ble_eq_true rfl) rfl (fun Γ hl C hn ret => ?_)
  exact k_X1_isAnimal_0 C ret x1 w L h
def rm_X1_animal : Room := { frames := 2, cells := 0, slots := 0, locals := 43 }
def B_X1_animal_62 (N : Nat) (post : Int32 → Wd → va_W → Prop) (w : Wd) (L : va_W) : Prop :=
  post (-1) w L
set_option maxHeartbeats 4000000 in
theorem k_X1_animal_62 {Γ : gT} {K : gK} {N : Nat} {post : Int32 → Wd → va_W → Prop} (C : gC Γ K RX1 cX1_animal 5 rm_X1_animal) (ret : gRi Γ K cX1_animal (some .int) (xPi K post) 0 0) (w : Wd) (L : va_W) (h : B_X1_animal_62 N post w L) : gJ Γ K 0 0 (xL K w ++ L) 62 [] [] := by
  unfold B_X1_animal_62 at h
  refine g_iconst C (-1) (by decide) dX1_animal_62 ?_
  exact ret _ _ _ _ _ rfl rfl dX1_animal_63 ⟨_, _, rfl, h⟩
def B_X1_animal_43 (N : Nat) (post : Int32 → Wd → va_W → Prop) (x1 : Int32) (x2 : Int32) (x3 : Int32) (w : Wd) (L : va_W) : Prop :=
  B_X1_in N x3 1 99 (fun (v3 : Int32) (w1 : Wd) (L2 : va_W) =>
  (v3 = 0 →
    B_X1_animal_62 N post w1 L2) ∧
  (¬ v3 = 0 →
    ((xi w1 4) = (16 : Int32) →
      B_X1_animal_62 N post w1 L2) ∧
    (¬ (xi w1 4) = (16 : Int32) →
      B_X3_add_t2 N (xi w1 4) x1 x2 (fun (w4 : Wd) (L5 : va_W) =>
  vp_in (xi w4 4) 16 ∧ ∀ w6 : Wd, w6 = (xsA w4 9 (xi w4 4).toNatClampNeg x3) → post (((xi w6 4) + 1) - 1) (xsi w6 4 ((xi w6 4) + 1)) L5) w1 L2))) w L
set_option maxHeartbeats 4000000 in
theorem k_X1_animal_43 {Γ : gT} {K : gK} {N : Nat} {post : Int32 → Wd → va_W → Prop} (C : gC Γ K RX1 cX1_animal 5 rm_X1_animal) (ret : gRi Γ K cX1_animal (some .int) (xPi K post) 0 0) (x1 : Int32) (x2 : Int32) (x3 : Int32) (w : Wd) (L : va_W) (h : B_X1_animal_43 N post x1 x2 x3 w L) : gJ Γ K 0 0 (xL K w ++ L) 43 [(0, .ref (xa K 0)), (1, .int x1), (2, .int x2), (3, .int x3)] [] := by
  unfold B_X1_animal_43 at h
  refine g_iload_n C 3 rfl dX1_animal_43 ?_
  refine g_iconst C 1 (by decide) dX1_animal_44 ?_
  refine g_bipush C 99 (by decide) dX1_animal_45 ?_
  refine g_callSi C (As := [.int x3, .int 1, .int 99]) (rest := []) (m_X1_in h) (Cn := "") (b := 0) (lw_S q657 q658 q78 q659) ⟨rfl, rfl⟩ ⟨Nat.le_of_ble_eq_true rfl, Nat.le_of_ble_eq_true rfl⟩ 3 rfl (by decide +kernel) rfl (Nat.le_of_ble_eq_true rfl) ⟨Nat.zero_le _, Nat.zero_le _⟩ dX1_animal_47 ?_
  rintro v3 _ ⟨w1, L2, rfl, h⟩
  refine g_if_eq C 62 dX1_animal_50 (by decide) (fun hc => ?_) (fun hc => ?_)
  · replace h := h.1 hc
    refine g_sub [] rfl ?_
    exact k_X1_animal_62 C ret w1 L2 h
  · replace h := h.2 hc
    refine g_aload_n C 0 rfl dX1_animal_53 ?_
    refine xg_animals C q283 (xi w1 4) rfl dX1_animal_54 ?_
    refine g_bipush C 16 (by decide) dX1_animal_57 ?_
    refine g_icmp_ne C 64 dX1_animal_59 (by decide) (fun hc => ?_) (fun hc => ?_)
    · replace h := h.2 hc
      refine g_aload_n C 0 rfl dX1_animal_64 ?_
      refine xg_tree C q279 dX1_animal_65 ?_
      refine g_aload_n C 0 rfl dX1_animal_68 ?_
      refine xg_animals C q283 (xi w1 4) rfl dX1_animal_69 ?_
      refine g_iload_n C 1 rfl dX1_animal_72 ?_
      refine g_iload_n C 2 rfl dX1_animal_73 ?_
      refine g_callVv C (As := [.int (xi w1 4), .int x1, .int x2]) (rest := []) (m_X3_add_t2 h) (lw_V q660 q661 q662 q82 q663) (ci := 2) (qi := 2) rfl rfl ⟨rfl, rfl⟩ ⟨Nat.le_of_ble_eq_true rfl, Nat.le_of_ble_eq_true rfl⟩ 3 rfl (by decide +kernel) rfl (Nat.le_of_ble_eq_true rfl) ⟨Nat.zero_le _, Nat.zero_le _⟩ dX1_animal_74 ?_
      rintro _ ⟨w4, L5, rfl, h⟩
      refine g_aload_n C 0 rfl dX1_animal_77 ?_
      refine xg_weights C q281 dX1_animal_78 ?_
      refine g_aload_n C 0 rfl dX1_animal_81 ?_
      refine xg_animals C q283 (xi w4 4) rfl dX1_animal_82 ?_
      refine g_iload_n C 3 rfl dX1_animal_85 ?_
      obtain ⟨hb, h⟩ := h
      refine xst_9 C hb dX1_animal_86 ?_
      obtain ⟨w6, ew6⟩ : ∃ z, z = (xsA w4 9 (xi w4 4).toNatClampNeg x3) := ⟨_, rfl⟩
      replace h := h w6 ew6
      rw [← ew6]
      refine g_aload_n C 0 rfl dX1_animal_87 ?_
      refine g_dup C rfl dX1_animal_88 ?_
      refine xg_animals C q283 (xi w6 4) rfl dX1_animal_89 ?_
      refine g_iconst C 1 (by decide) dX1_animal_92 ?_
      refine g_iadd C dX1_animal_93 ?_
      refine xp_animals C q283 dX1_animal_94 ?_
      refine g_aload_n C 0 rfl dX1_animal_97 ?_
      refine xg_animals C q283 (((xi w6 4) + 1)) rfl dX1_animal_98 ?_
      refine g_iconst C 1 (by decide) dX1_animal_101 ?_
      refine g_isub C dX1_animal_102 ?_
      exact ret _ _ _ _ _ rfl rfl dX1_animal_103 ⟨_, _, rfl, h⟩
    · replace h := h.1 hc
      refine g_sub [] rfl ?_
      exact k_X1_animal_62 C ret w1 L2 h
def B_X1_animal_15 (N : Nat) (post : Int32 → Wd → va_W → Prop) (x1 : Int32) (x2 : Int32) (x3 : Int32) (s0 : Int32) (w : Wd) (L : va_W) : Prop :=
  (s0 = 0 →
    B_X1_isAnimal N x1 (fun (v3 : Int32) (w1 : Wd) (L2 : va_W) =>
  (v3 = 0 →
      B_X1_animal_62 N post w1 L2) ∧
    (¬ v3 = 0 →
      B_X1_isAnimal N x2 (fun (v6 : Int32) (w4 : Wd) (L5 : va_W) =>
  (v6 = 0 →
        B_X1_animal_62 N post w4 L5) ∧
      (¬ v6 = 0 →
        (x1 = x2 →
          B_X1_animal_62 N post w4 L5) ∧
        (¬ x1 = x2 →
          B_X1_animal_43 N post x1 x2 x3 w4 L5))) w1 L2)) w L) ∧
  (¬ s0 = 0 →
    B_X1_animal_43 N post x1 x2 x3 w L)
set_option maxHeartbeats 4000000 in
theorem k_X1_animal_15 {Γ : gT} {K : gK} {N : Nat} {post : Int32 → Wd → va_W → Prop} (C : gC Γ K RX1 cX1_animal 5 rm_X1_animal) (ret : gRi Γ K cX1_animal (some .int) (xPi K post) 0 0) (x1 : Int32) (x2 : Int32) (x3 : Int32) (s0 : Int32) (w : Wd) (L : va_W) (h : B_X1_animal_15 N post x1 x2 x3 s0 w L) : gJ Γ K 0 0 (xL K w ++ L) 15 [(0, .ref (xa K 0)), (1, .int x1), (2, .int x2), (3, .int x3)] [.int s0] := by
  unfold B_X1_animal_15 at h
  refine g_istore C (lt := [(4, .int s0), (0, .ref (xa K 0)), (1, .int x1), (2, .int x2), (3, .int x3)]) dX1_animal_15 (by decide) rfl ?_
  refine g_iload C 0 rfl dX1_animal_17 ?_
  refine g_if_ne C 43 dX1_animal_19 (by decide) (fun hc => ?_) (fun hc => ?_)
  · replace h := h.2 hc
    refine g_sub [1, 2, 3, 4] rfl ?_
    exact k_X1_animal_43 C ret x1 x2 x3 w L h
  · replace h := h.1 hc
    refine g_aload_n C 1 rfl dX1_animal_22 ?_
    refine g_iload_n C 2 rfl dX1_animal_23 ?_
    refine g_callVi C (As := [.int x1]) (rest := []) (m_X1_isAnimal h) (lw_V q653 q655 qs14 q78 q656) (ci := 0) (qi := 0) rfl rfl ⟨rfl, rfl⟩ ⟨Nat.le_of_ble_eq_true rfl, Nat.le_of_ble_eq_true rfl⟩ 1 rfl (by decide +kernel) rfl (Nat.le_of_ble_eq_true rfl) ⟨Nat.zero_le _, Nat.zero_le _⟩ dX1_animal_24 ?_
    rintro v3 _ ⟨w1, L2, rfl, h⟩
    refine g_if_eq C 62 dX1_animal_27 (by decide) (fun hc => ?_) (fun hc => ?_)
    · replace h := h.1 hc
      refine g_sub [] rfl ?_
      exact k_X1_animal_62 C ret w1 L2 h
    · replace h := h.2 hc
      refine g_aload_n C 1 rfl dX1_animal_30 ?_
      refine g_iload_n C 3 rfl dX1_animal_31 ?_
      refine g_callVi C (As := [.int x2]) (rest := []) (m_X1_isAnimal h) (lw_V q653 q655 qs14 q78 q656) (ci := 0) (qi := 0) rfl rfl ⟨rfl, rfl⟩ ⟨Nat.le_of_ble_eq_true rfl, Nat.le_of_ble_eq_true rfl⟩ 1 rfl (by decide +kernel) rfl (Nat.le_of_ble_eq_true rfl) ⟨Nat.zero_le _, Nat.zero_le _⟩ dX1_animal_32 ?_
      rintro v6 _ ⟨w4, L5, rfl, h⟩
      refine g_if_eq C 62 dX1_animal_35 (by decide) (fun hc => ?_) (fun hc => ?_)
      · replace h := h.1 hc
        refine g_sub [] rfl ?_
        exact k_X1_animal_62 C ret w4 L5 h
      · replace h := h.2 hc
        refine g_iload_n C 2 rfl dX1_animal_38 ?_
        refine g_iload_n C 3 rfl dX1_animal_39 ?_
        refine g_icmp_eq C 62 dX1_animal_40 (by decide) (fun hc => ?_) (fun hc => ?_)
        · replace h := h.1 hc
          refine g_sub [] rfl ?_
          exact k_X1_animal_62 C ret w4 L5 h
        · replace h := h.2 hc
          refine g_sub [1, 2, 3, 4] rfl ?_
          exact k_X1_animal_43 C ret x1 x2 x3 w4 L5 h
def B_X1_animal_14 (N : Nat) (post : Int32 → Wd → va_W → Prop) (x1 : Int32) (x2 : Int32) (x3 : Int32) (w : Wd) (L : va_W) : Prop :=
  B_X1_animal_15 N post x1 x2 x3 0 w L
set_option maxHeartbeats 4000000 in
theorem k_X1_animal_14 {Γ : gT} {K : gK} {N : Nat} {post : Int32 → Wd → va_W → Prop} (C : gC Γ K RX1 cX1_animal 5 rm_X1_animal) (ret : gRi Γ K cX1_animal (some .int) (xPi K post) 0 0) (x1 : Int32) (x2 : Int32) (x3 : Int32) (w : Wd) (L : va_W) (h : B_X1_animal_14 N post x1 x2 x3 w L) : gJ Γ K 0 0 (xL K w ++ L) 14 [(0, .ref (xa K 0)), (1, .int x1), (2, .int x2), (3, .int x3)] [] := by
  unfold B_X1_animal_14 at h
  refine g_iconst C 0 (by decide) dX1_animal_14 ?_
  exact k_X1_animal_15 C ret x1 x2 x3 0 w L h
def B_X1_animal_0 (N : Nat) (post : Int32 → Wd → va_W → Prop) (x1 : Int32) (x2 : Int32) (x3 : Int32) (w : Wd) (L : va_W) : Prop :=
  (x1 = (-1 : Int32) →
    (x2 = (-1 : Int32) →
      B_X1_animal_15 N post x1 x2 x3 1 w L) ∧
    (¬ x2 = (-1 : Int32) →
      B_X1_animal_14 N post x1 x2 x3 w L)) ∧
  (¬ x1 = (-1 : Int32) →
    B_X1_animal_14 N post x1 x2 x3 w L)
set_option maxHeartbeats 4000000 in
theorem k_X1_animal_0 {Γ : gT} {K : gK} {N : Nat} {post : Int32 → Wd → va_W → Prop} (C : gC Γ K RX1 cX1_animal 5 rm_X1_animal) (ret : gRi Γ K cX1_animal (some .int) (xPi K post) 0 0) (x1 : Int32) (x2 : Int32) (x3 : Int32) (w : Wd) (L : va_W) (h : B_X1_animal_0 N post x1 x2 x3 w L) : gJ Γ K 0 0 (xL K w ++ L) 0 [(0, .ref (xa K 0)), (1, .int x1), (2, .int x2), (3, .int x3)] [] := by
  unfold B_X1_animal_0 at h
  refine g_iload_n C 1 rfl dX1_animal_0 ?_
  refine g_iconst C (-1) (by decide) dX1_animal_1 ?_
  refine g_icmp_ne C 14 dX1_animal_2 (by decide) (fun hc => ?_) (fun hc => ?_)
  · replace h := h.2 hc
    exact k_X1_animal_14 C ret x1 x2 x3 w L h
  · replace h := h.1 hc
    refine g_iload_n C 2 rfl dX1_animal_5 ?_
    refine g_iconst C (-1) (by decide) dX1_animal_6 ?_
    refine g_icmp_ne C 14 dX1_animal_7 (by decide) (fun hc => ?_) (fun hc => ?_)
    · replace h := h.2 hc
      exact k_X1_animal_14 C ret x1 x2 x3 w L h
    · replace h := h.1 hc
      refine g_iconst C 1 (by decide) dX1_animal_10 ?_
      refine g_goto C 15 dX1_animal_11 (by decide) ?_
      exact k_X1_animal_15 C ret x1 x2 x3 1 w L h
def B_X1_animal (N : Nat) (x1 : Int32) (x2 : Int32) (x3 : Int32) (post : Int32 → Wd → va_W → Prop) (w : Wd) (L : va_W) : Prop := B_X1_animal_0 N post x1 x2 x3 w L
theorem m_X1_animal {l : Launch} {K : gK} {N : Nat} {post : Int32 → Wd → va_W → Prop} {x1 : Int32} {x2 : Int32} {x3 : Int32} {w : Wd} {L : va_W} (h : B_X1_animal N x1 x2 x3 post w L) : gMi l K yX1_animal cX1_animal 5 (some .int) rm_X1_animal [.ref (xa K 0), .int x1, .int x2, .int x3] (xL K w ++ L) (xPi K post) 0 0 := by
  refine g_inI (ls0 := [(0, .ref (xa K 0)), (1, .int x1), (2, .int x2), (3, .int x3)]) (by decide) (Nat.le_of_ble_eq_true rfl) rfl (fun Γ hl C hn ret => ?_)
  exact k_X1_animal_0 C ret x1 x2 x3 w L h
def rm_X1_kin : Room := { frames := 130, cells := 0, slots := 0, locals := 3248 }
def B_X1_kin_34 (N : Nat) (post : Int64 → Wd → va_W → Prop) (s0 : Int64) (w : Wd) (L : va_W) : Prop :=
  post s0 w L
set_option maxHeartbeats 4000000 in
theorem k_X1_kin_34 {Γ : gT} {K : gK} {N : Nat} {post : Int64 → Wd → va_W → Prop} (C : gC Γ K RX1 cX1_kin 3 rm_X1_kin) (ret : gRl Γ K cX1_kin (some .long) (xPl K post) 0 0) (s0 : Int64) (w : Wd) (L : va_W) (h : B_X1_kin_34 N post s0 w L) : gJ Γ K 0 0 (xL K w ++ L) 34 [] [.long s0] := by
  unfold B_X1_kin_34 at h
  exact ret rfl _ _ _ _ dX1_kin_34 ⟨_, _, rfl, h⟩
def B_X1_kin_31 (N : Nat) (post : Int64 → Wd → va_W → Prop) (w : Wd) (L : va_W) : Prop :=
  B_X1_kin_34 N post (-1000) w L
set_option maxHeartbeats 4000000 in
theorem k_X1_kin_31 {Γ : gT} {K : gK} {N : Nat} {post : Int64 → Wd → va_W → Prop} (C : gC Γ K RX1 cX1_kin 3 rm_X1_kin) (ret : gRl Γ K cX1_kin (some .long) (xPl K post) 0 0) (w : Wd) (L : va_W) (h : B_X1_kin_31 N post w L) : gJ Γ K 0 0 (xL K w ++ L) 31 [] [] := by
  unfold B_X1_kin_31 at h
  refine g_ldc2 C (v := (-1000)) q682 dX1_kin_31 ?_
  exact k_X1_kin_34 C ret (-1000) w L h
def B_X1_kin_0 (N : Nat) (post : Int64 → Wd → va_W → Prop) (x1 : Int32) (x2 : Int32) (w : Wd) (L : va_W) : Prop :=
  B_X1_isAnimal N x1 (fun (v3 : Int32) (w1 : Wd) (L2 : va_W) =>
  (v3 = 0 →
    B_X1_kin_31 N post w1 L2) ∧
  (¬ v3 = 0 →
    B_X1_isAnimal N x2 (fun (v6 : Int32) (w4 : Wd) (L5 : va_W) =>
  (v6 = 0 →
      B_X1_kin_31 N post w4 L5) ∧
    (¬ v6 = 0 →
      B_X3_kin_t2 N x1 x2 (fun (v9 : Int64) (w7 : Wd) (L8 : va_W) =>
  B_X1_kin_34 N post (v9 >>> ((18 : Int32).toInt64 &&& 63)) w7 L8) w4 L5)) w1 L2)) w L
set_option maxHeartbeats 4000000 in
theorem k_X1_kin_0 {Γ : gT} {K : gK} {N : Nat} {post : Int64 → Wd → va_W → Prop} (C : gC Γ K RX1 cX1_kin 3 rm_X1_kin) (ret : gRl Γ K cX1_kin (some .long) (xPl K post) 0 0) (x1 : Int32) (x2 : Int32) (w : Wd) (L : va_W) (h : B_X1_kin_0 N post x1 x2 w L) : gJ Γ K 0 0 (xL K w ++ L) 0 [(0, .ref (xa K 0)), (1, .int x1), (2, .int x2)] [] := by
  unfold B_X1_kin_0 at h
  refine g_aload_n C 0 rfl dX1_kin_0 ?_
  refine g_iload_n C 1 rfl dX1_kin_1 ?_
  refine g_callVi C (As := [.int x1]) (rest := []) (m_X1_isAnimal h) (lw_V q653 q655 qs14 q78 q656) (ci := 0) (qi := 0) rfl rfl ⟨rfl, rfl⟩ ⟨Nat.le_of_ble_eq_true rfl, Nat.le_of_ble_eq_true rfl⟩ 1 rfl (by decide +kernel) rfl (Nat.le_of_ble_eq_true rfl) ⟨Nat.zero_le _, Nat.zero_le _⟩ dX1_kin_2 ?_
  rintro v3 _ ⟨w1, L2, rfl, h⟩
  refine g_if_eq C 31 dX1_kin_5 (by decide) (fun hc => ?_) (fun hc => ?_)
  · replace h := h.1 hc
    refine g_sub [] rfl ?_
    exact k_X1_kin_31 C ret w1 L2 h
  · replace h := h.2 hc
    refine g_aload_n C 0 rfl dX1_kin_8 ?_
    refine g_iload_n C 2 rfl dX1_kin_9 ?_
    refine g_callVi C (As := [.int x2]) (rest := []) (m_X1_isAnimal h) (lw_V q653 q655 qs14 q78 q656) (ci := 0) (qi := 0) rfl rfl ⟨rfl, rfl⟩ ⟨Nat.le_of_ble_eq_true rfl, Nat.le_of_ble_eq_true rfl⟩ 1 rfl (by decide +kernel) rfl (Nat.le_of_ble_eq_true rfl) ⟨Nat.zero_le _, Nat.zero_le _⟩ dX1_kin_10 ?_
    rintro v6 _ ⟨w4, L5, rfl, h⟩
    refine g_if_eq C 31 dX1_kin_13 (by decide) (fun hc => ?_) (fun hc => ?_)
    · replace h := h.1 hc
      refine g_sub [] rfl ?_
      exact k_X1_kin_31 C ret w4 L5 h
    · replace h := h.2 hc
      refine g_aload_n C 0 rfl dX1_kin_16 ?_
      refine xg_tree C q279 dX1_kin_17 ?_
      refine g_iload_n C 1 rfl dX1_kin_20 ?_
      refine g_iload_n C 2 rfl dX1_kin_21 ?_
      refine g_callVl C (As := [.int x1, .int x2]) (rest := []) (m_X3_kin_t2 h) (lw_V q669 q670 q671 q82 q672) (ci := 2) (qi := 2) rfl rfl ⟨rfl, rfl⟩ ⟨Nat.le_of_ble_eq_true rfl, Nat.le_of_ble_eq_true rfl⟩ 2 rfl (by decide +kernel) rfl (Nat.le_of_ble_eq_true rfl) ⟨Nat.zero_le _, Nat.zero_le _⟩ dX1_kin_22 ?_
      rintro v9 _ ⟨w7, L8, rfl, h⟩
      refine g_bipush C 18 (by decide) dX1_kin_25 ?_
      refine g_lshr C dX1_kin_27 ?_
      refine g_goto C 34 dX1_kin_28 (by decide) ?_
      refine g_sub [] rfl ?_
      exact k_X1_kin_34 C ret (v9 >>> ((18 : Int32).toInt64 &&& 63)) w7 L8 h
def B_X1_kin (N : Nat) (x1 : Int32) (x2 : Int32) (post : Int64 → Wd → va_W → Prop) (w : Wd) (L : va_W) : Prop := B_X1_kin_0 N post x1 x2 w L
theorem m_X1_kin {l : Launch} {K : gK} {N : Nat} {post : Int64 → Wd → va_W → Prop} {x1 : Int32} {x2 : Int32} {w : Wd} {L : va_W} (h : B_X1_kin N x1 x2 post w L) : gMl l K yX1_kin cX1_kin 3 (some .long) rm_X1_kin [.ref (xa K 0), .int x1, .int x2] (xL K w ++ L) (xPl K post) 0 0 := by
  refine g_inL (ls0 := [(0, .ref (xa K 0)), (1, .int x1), (2, .int x2)]) (by decide) (Nat.le_of_ble_eq_true rfl) rfl (fun Γ hl C hn ret => ?_)
  exact k_X1_kin_0 C ret x1 x2 w L h
def rm_X1_young : Room := { frames := 131, cells := 0, slots := 0, locals := 3271 }
def B_X1_young_43 (N : Nat) (post : Int64 → Wd → va_W → Prop) (s0 : Int64) (w : Wd) (L : va_W) : Prop :=
  post s0 w L
set_option maxHeartbeats 4000000 in
theorem k_X1_young_43 {Γ : gT} {K : gK} {N : Nat} {post : Int64 → Wd → va_W → Prop} (C : gC Γ K RX1 cX1_young 4 rm_X1_young) (ret : gRl Γ K cX1_young (some .long) (xPl K post) 0 0) (s0 : Int64) (w : Wd) (L : va_W) (h : B_X1_young_43 N post s0 w L) : gJ Γ K 0 0 (xL K w ++ L) 43 [] [.long s0] := by
  unfold B_X1_young_43 at h
  exact ret rfl _ _ _ _ dX1_young_43 ⟨_, _, rfl, h⟩
def B_X1_young_40 (N : Nat) (post : Int64 → Wd → va_W → Prop) (w : Wd) (L : va_W) : Prop :=
  B_X1_young_43 N post (-1000) w L
set_option maxHeartbeats 4000000 in
theorem k_X1_young_40 {Γ : gT} {K : gK} {N : Nat} {post : Int64 → Wd → va_W → Prop} (C : gC Γ K RX1 cX1_young 4 rm_X1_young) (ret : gRl Γ K cX1_young (some .long) (xPl K post) 0 0) (w : Wd) (L : va_W) (h : B_X1_young_40 N post w L) : gJ Γ K 0 0 (xL K w ++ L) 40 [] [] := by
  unfold B_X1_young_40 at h
  refine g_ldc2 C (v := (-1000)) q682 dX1_young_40 ?_
  exact k_X1_young_43 C ret (-1000) w L h
def B_X1_young_0 (N : Nat) (post : Int64 → Wd → va_W → Prop) (x1 : Int32) (x2 : Int32) (x3 : Int32) (w : Wd) (L : va_W) : Prop :=
  B_X1_isAnimal N x1 (fun (v3 : Int32) (w1 : Wd) (L2 : va_W) =>
  (v3 = 0 →
    B_X1_young_40 N post w1 L2) ∧
  (¬ v3 = 0 →
    B_X1_isAnimal N x2 (fun (v6 : Int32) (w4 : Wd) (L5 : va_W) =>
  (v6 = 0 →
      B_X1_young_40 N post w4 L5) ∧
    (¬ v6 = 0 →
      B_X1_isAnimal N x3 (fun (v9 : Int32) (w7 : Wd) (L8 : va_W) =>
  (v9 = 0 →
        B_X1_young_40 N post w7 L8) ∧
      (¬ v9 = 0 →
        B_X3_young_t2 N x1 x2 x3 (fun (v12 : Int64) (w10 : Wd) (L11 : va_W) =>
  B_X1_young_43 N post (v12 >>> ((18 : Int32).toInt64 &&& 63)) w10 L11) w7 L8)) w4 L5)) w1 L2)) w L
set_option maxHeartbeats 4000000 in
theorem k_X1_young_0 {Γ : gT} {K : gK} {N : Nat} {post : Int64 → Wd → va_W → Prop} (C : gC Γ K RX1 cX1_young 4 rm_X1_young) (ret : gRl Γ K cX1_young (some .long) (xPl K post) 0 0) (x1 : Int32) (x2 : Int32) (x3 : Int32) (w : Wd) (L : va_W) (h : B_X1_young_0 N post x1 x2 x3 w L) : gJ Γ K 0 0 (xL K w ++ L) 0 [(0, .ref (xa K 0)), (1, .int x1), (2, .int x2), (3, .int x3)] [] := by
  unfold B_X1_young_0 at h
  refine g_aload_n C 0 rfl dX1_young_0 ?_
  refine g_iload_n C 1 rfl dX1_young_1 ?_
  refine g_callVi C (As := [.int x1]) (rest := []) (m_X1_isAnimal h) (lw_V q653 q655 qs14 q78 q656) (ci := 0) (qi := 0) rfl rfl ⟨rfl, rfl⟩ ⟨Nat.le_of_ble_eq_true rfl, Nat.le_of_ble_eq_true rfl⟩ 1 rfl (by decide +kernel) rfl (Nat.le_of_ble_eq_true rfl) ⟨Nat.zero_le _, Nat.zero_le _⟩ dX1_young_2 ?_
  rintro v3 _ ⟨w1, L2, rfl, h⟩
  refine g_if_eq C 40 dX1_young_5 (by decide) (fun hc => ?_) (fun hc => ?_)
  · replace h := h.1 hc
    refine g_sub [] rfl ?_
    exact k_X1_young_40 C ret w1 L2 h
  · replace h := h.2 hc
    refine g_aload_n C 0 rfl dX1_young_8 ?_
    refine g_iload_n C 2 rfl dX1_young_9 ?_
    refine g_callVi C (As := [.int x2]) (rest := []) (m_X1_isAnimal h) (lw_V q653 q655 qs14 q78 q656) (ci := 0) (qi := 0) rfl rfl ⟨rfl, rfl⟩ ⟨Nat.le_of_ble_eq_true rfl, Nat.le_of_ble_eq_true rfl⟩ 1 rfl (by decide +kernel) rfl (Nat.le_of_ble_eq_true rfl) ⟨Nat.zero_le _, Nat.zero_le _⟩ dX1_young_10 ?_
    rintro v6 _ ⟨w4, L5, rfl, h⟩
    refine g_if_eq C 40 dX1_young_13 (by decide) (fun hc => ?_) (fun hc => ?_)
    · replace h := h.1 hc
      refine g_sub [] rfl ?_
      exact k_X1_young_40 C ret w4 L5 h
    · replace h := h.2 hc
      refine g_aload_n C 0 rfl dX1_young_16 ?_
      refine g_iload_n C 3 rfl dX1_young_17 ?_
      refine g_callVi C (As := [.int x3]) (rest := []) (m_X1_isAnimal h) (lw_V q653 q655 qs14 q78 q656) (ci := 0) (qi := 0) rfl rfl ⟨rfl, rfl⟩ ⟨Nat.le_of_ble_eq_true rfl, Nat.le_of_ble_eq_true rfl⟩ 1 rfl (by decide +kernel) rfl (Nat.le_of_ble_eq_true rfl) ⟨Nat.zero_le _, Nat.zero_le _⟩ dX1_young_18 ?_
      rintro v9 _ ⟨w7, L8, rfl, h⟩
      refine g_if_eq C 40 dX1_young_21 (by decide) (fun hc => ?_) (fun hc => ?_)
      · replace h := h.1 hc
        refine g_sub [] rfl ?_
        exact k_X1_young_40 C ret w7 L8 h
      · replace h := h.2 hc
        refine g_aload_n C 0 rfl dX1_young_24 ?_
        refine xg_tree C q279 dX1_young_25 ?_
        refine g_iload_n C 1 rfl dX1_young_28 ?_
        refine g_iload_n C 2 rfl dX1_young_29 ?_
        refine g_iload_n C 3 rfl dX1_young_30 ?_
        refine g_callVl C (As := [.int x1, .int x2, .int x3]) (rest := []) (m_X3_young_t2 h) (lw_V q687 q688 q689 q82 q690) (ci := 2) (qi := 2) rfl rfl ⟨rfl, rfl⟩ ⟨Nat.le_of_ble_eq_true rfl, Nat.le_of_ble_eq_true rfl⟩ 3 rfl (by decide +kernel) rfl (Nat.le_of_ble_eq_true rfl) ⟨Nat.zero_le _, Nat.zero_le _⟩ dX1_young_31 ?_
        rintro v12 _ ⟨w10, L11, rfl, h⟩
        refine g_bipush C 18 (by decide) dX1_young_34 ?_
        refine g_lshr C dX1_young_36 ?_
        refine g_goto C 43 dX1_young_37 (by decide) ?_
        refine g_sub [] rfl ?_
        exact k_X1_young_43 C ret (v12 >>> ((18 : Int32).toInt64 &&& 63)) w10 L11 h
def B_X1_young (N : Nat) (x1 : Int32) (x2 : Int32) (x3 : Int32) (post : Int64 → Wd → va_W → Prop) (w : Wd) (L : va_W) : Prop := B_X1_young_0 N post x1 x2 x3 w L
theorem m_X1_young {l : Launch} {K : gK} {N : Nat} {post : Int64 → Wd → va_W → Prop} {x1 : Int32} {x2 : Int32} {x3 : Int32} {w : Wd} {L : va_W} (h : B_X1_young N x1 x2 x3 post w L) : gMl l K yX1_young cX1_young 4 (some .long) rm_X1_young [.ref (xa K 0), .int x1, .int x2, .int x3] (xL K w ++ L) (xPl K post) 0 0 := by
  refine g_inL (ls0 := [(0, .ref (xa K 0)), (1, .int x1), (2, .int x2), (3, .int x3)]) (by decide) (Nat.le_of_ble_eq_true rfl) rfl (fun Γ hl C hn ret => ?_)
  exact k_X1_young_0 C ret x1 x2 x3 w L h
def rm_X1_worthIt : Room := { frames := 131, cells := 0, slots := 0, locals := 3271 }
def B_X1_worthIt_55 (N : Nat) (post : Int32 → Wd → va_W → Prop) (w : Wd) (L : va_W) : Prop :=
  post (-1) w L
set_option maxHeartbeats 4000000 in
theorem k_X1_worthIt_55 {Γ : gT} {K : gK} {N : Nat} {post : Int32 → Wd → va_W → Prop} (C : gC Γ K RX1 cX1_worthIt 11 rm_X1_worthIt) (ret : gRi Γ K cX1_worthIt (some .int) (xPi K post) 0 0) (w : Wd) (L : va_W) (h : B_X1_worthIt_55 N post w L) : gJ Γ K 0 0 (xL K w ++ L) 55 [] [] := by
  unfold B_X1_worthIt_55 at h
  refine g_iconst C (-1) (by decide) dX1_worthIt_55 ?_
  exact ret _ _ _ _ _ rfl rfl dX1_worthIt_56 ⟨_, _, rfl, h⟩
def B_X1_worthIt_95s (r95 : Int64 → Int64 → Int32 → Wd → va_W → Prop) (N : Nat) (post : Int32 → Wd → va_W → Prop) (x6 : Int64) (x8 : Int64) (x10 : Int32) (w : Wd) (L : va_W) : Prop :=
  ((1000 : Int32) < x10 →
    post (-1) w L) ∧
  (¬ (1000 : Int32) < x10 →
    ((x10.toInt64 * x6) ≤ x8 →
      r95 x6 x8 (x10 + 1) w L) ∧
    (¬ (x10.toInt64 * x6) ≤ x8 →
      post x10 w L))
def B_X1_worthIt_95 (N : Nat) (post : Int32 → Wd → va_W → Prop) : Nat → Int64 → Int64 → Int32 → Wd → va_W → Prop
  | 0, _, _, _, _, _ => False
  | n + 1, x6, x8, x10, w, L => B_X1_worthIt_95s (B_X1_worthIt_95 N post n) N post x6 x8 x10 w L
set_option maxHeartbeats 4000000 in
theorem k_X1_worthIt_95s {Γ : gT} {K : gK} {N : Nat} {post : Int32 → Wd → va_W → Prop} (C : gC Γ K RX1 cX1_worthIt 11 rm_X1_worthIt) (ret : gRi Γ K cX1_worthIt (some .int) (xPi K post) 0 0) {r95 : Int64 → Int64 → Int32 → Wd → va_W → Prop} (hr95 : ∀ (x6 : Int64) (x8 : Int64) (x10 : Int32) (w : Wd) (L : va_W), r95 x6 x8 x10 w L → gJ Γ K 0 0 (xL K w ++ L) 95 [(6, .long x6), (8, .long x8), (10, .int x10)] []) (x6 : Int64) (x8 : Int64) (x10 : Int32) (w : Wd) (L : va_W) (h : B_X1_worthIt_95s r95 N post x6 x8 x10 w L) : gJ Γ K 0 0 (xL K w ++ L) 95 [(6, .long x6), (8, .long x8), (10, .int x10)] [] := by
  unfold B_X1_worthIt_95s at h
  refine g_iload C 2 rfl dX1_worthIt_95 ?_
  refine g_sipush C 1000 (by decide) dX1_worthIt_97 ?_
  refine g_icmp_gt C 124 dX1_worthIt_100 (by decide) (fun hc => ?_) (fun hc => ?_)
  · replace h := h.1 hc
    refine g_iconst C (-1) (by decide) dX1_worthIt_124 ?_
    exact ret _ _ _ _ _ rfl rfl dX1_worthIt_125 ⟨_, _, rfl, h⟩
  · replace h := h.2 hc
    refine g_iload C 2 rfl dX1_worthIt_103 ?_
    refine g_i2l C dX1_worthIt_105 ?_
    refine g_lload C 0 rfl dX1_worthIt_106 ?_
    refine g_lmul C dX1_worthIt_108 ?_
    refine g_lload C 1 rfl dX1_worthIt_109 ?_
    refine g_lif_le C 118 dX1_worthIt_111 dX1_worthIt_112 (by decide) (fun hc => ?_) (fun hc => ?_)
    · replace h := h.1 hc
      refine g_iinc C 2 (x10 + 1) (lt := [(10, .int (x10 + 1)), (6, .long x6), (8, .long x8)]) rfl rfl dX1_worthIt_118 (by decide) rfl ?_
      refine g_goto C 95 dX1_worthIt_121 (by decide) ?_
      refine g_sub [1, 2, 0] rfl ?_
      exact hr95 x6 x8 (x10 + 1) w L h
    · replace h := h.2 hc
      refine g_iload C 2 rfl dX1_worthIt_115 ?_
      exact ret _ _ _ _ _ rfl rfl dX1_worthIt_117 ⟨_, _, rfl, h⟩
theorem k_X1_worthIt_95 {Γ : gT} {K : gK} {N : Nat} {post : Int32 → Wd → va_W → Prop} (C : gC Γ K RX1 cX1_worthIt 11 rm_X1_worthIt) (ret : gRi Γ K cX1_worthIt (some .int) (xPi K post) 0 0) : ∀ (n : Nat) (x6 : Int64) (x8 : Int64) (x10 : Int32) (w : Wd) (L : va_W) (h : B_X1_worthIt_95 N post n x6 x8 x10 w L), gJ Γ K 0 0 (xL K w ++ L) 95 [(6, .long x6), (8, .long x8), (10, .int x10)] [] := by
  intro n
  induction n with
  | zero => intro x6 x8 x10 w L h; exact h.elim
  | succ n ih => intro x6 x8 x10 w L h; exact k_X1_worthIt_95s C ret ih x6 x8 x10 w L h
def B_X1_worthIt_0 (N : Nat) (post : Int32 → Wd → va_W → Prop) (x1 : Int32) (x2 : Int32) (x3 : Int32) (x4 : Int32) (x5 : Int32) (w : Wd) (L : va_W) : Prop :=
  B_X1_isAnimal N x1 (fun (v3 : Int32) (w1 : Wd) (L2 : va_W) =>
  (v3 = 0 →
    B_X1_worthIt_55 N post w1 L2) ∧
  (¬ v3 = 0 →
    B_X1_isAnimal N x2 (fun (v6 : Int32) (w4 : Wd) (L5 : va_W) =>
  (v6 = 0 →
      B_X1_worthIt_55 N post w4 L5) ∧
    (¬ v6 = 0 →
      B_X1_isAnimal N x3 (fun (v9 : Int32) (w7 : Wd) (L8 : va_W) =>
  (v9 = 0 →
        B_X1_worthIt_55 N post w7 L8) ∧
      (¬ v9 = 0 →
        (x2 = x3 →
          B_X1_worthIt_55 N post w7 L8) ∧
        (¬ x2 = x3 →
          B_X1_isAnimal N x4 (fun (v12 : Int32) (w10 : Wd) (L11 : va_W) =>
  (v12 = 0 →
            B_X1_worthIt_55 N post w10 L11) ∧
          (¬ v12 = 0 →
            (x4 = x1 →
              B_X1_worthIt_55 N post w10 L11) ∧
            (¬ x4 = x1 →
              B_X1_in N x5 0 99 (fun (v15 : Int32) (w13 : Wd) (L14 : va_W) =>
  (v15 = 0 →
                B_X1_worthIt_55 N post w13 L14) ∧
              (¬ v15 = 0 →
                B_X3_young_t2 N x1 x2 x3 (fun (v18 : Int64) (w16 : Wd) (L17 : va_W) =>
  B_X3_young_t2 N x1 x1 x4 (fun (v21 : Int64) (w19 : Wd) (L20 : va_W) =>
  B_X1_worthIt_95 N post N (v18 >>> ((18 : Int32).toInt64 &&& 63)) (x5.toInt64 * (v21 >>> ((18 : Int32).toInt64 &&& 63))) 1 w19 L20) w16 L17) w13 L14)) w10 L11))) w7 L8))) w4 L5)) w1 L2)) w L
set_option maxHeartbeats 4000000 in
theorem k_X1_worthIt_0 {Γ : gT} {K : gK} {N : Nat} {post : Int32 → Wd → va_W → Prop} (C : gC Γ K RX1 cX1_worthIt 11 rm_X1_worthIt) (ret : gRi Γ K cX1_worthIt (some .int) (xPi K post) 0 0) (x1 : Int32) (x2 : Int32) (x3 : Int32) (x4 : Int32) (x5 : Int32) (w : Wd) (L : va_W) (h : B_X1_worthIt_0 N post x1 x2 x3 x4 x5 w L) : gJ Γ K 0 0 (xL K w ++ L) 0 [(0, .ref (xa K 0)), (1, .int x1), (2, .int x2), (3, .int x3), (4, .int x4), (5, .int x5)] [] := by
  unfold B_X1_worthIt_0 at h
  refine g_aload_n C 0 rfl dX1_worthIt_0 ?_
  refine g_iload_n C 1 rfl dX1_worthIt_1 ?_
  refine g_callVi C (As := [.int x1]) (rest := []) (m_X1_isAnimal h) (lw_V q653 q655 qs14 q78 q656) (ci := 0) (qi := 0) rfl rfl ⟨rfl, rfl⟩ ⟨Nat.le_of_ble_eq_true rfl, Nat.le_of_ble_eq_true rfl⟩ 1 rfl (by decide +kernel) rfl (Nat.le_of_ble_eq_true rfl) ⟨Nat.zero_le _, Nat.zero_le _⟩ dX1_worthIt_2 ?_
  rintro v3 _ ⟨w1, L2, rfl, h⟩
  refine g_if_eq C 55 dX1_worthIt_5 (by decide) (fun hc => ?_) (fun hc => ?_)
  · replace h := h.1 hc
    refine g_sub [] rfl ?_
    exact k_X1_worthIt_55 C ret w1 L2 h
  · replace h := h.2 hc
    refine g_aload_n C 0 rfl dX1_worthIt_8 ?_
    refine g_iload_n C 2 rfl dX1_worthIt_9 ?_
    refine g_callVi C (As := [.int x2]) (rest := []) (m_X1_isAnimal h) (lw_V q653 q655 qs14 q78 q656) (ci := 0) (qi := 0) rfl rfl ⟨rfl, rfl⟩ ⟨Nat.le_of_ble_eq_true rfl, Nat.le_of_ble_eq_true rfl⟩ 1 rfl (by decide +kernel) rfl (Nat.le_of_ble_eq_true rfl) ⟨Nat.zero_le _, Nat.zero_le _⟩ dX1_worthIt_10 ?_
    rintro v6 _ ⟨w4, L5, rfl, h⟩
    refine g_if_eq C 55 dX1_worthIt_13 (by decide) (fun hc => ?_) (fun hc => ?_)
    · replace h := h.1 hc
      refine g_sub [] rfl ?_
      exact k_X1_worthIt_55 C ret w4 L5 h
    · replace h := h.2 hc
      refine g_aload_n C 0 rfl dX1_worthIt_16 ?_
      refine g_iload_n C 3 rfl dX1_worthIt_17 ?_
      refine g_callVi C (As := [.int x3]) (rest := []) (m_X1_isAnimal h) (lw_V q653 q655 qs14 q78 q656) (ci := 0) (qi := 0) rfl rfl ⟨rfl, rfl⟩ ⟨Nat.le_of_ble_eq_true rfl, Nat.le_of_ble_eq_true rfl⟩ 1 rfl (by decide +kernel) rfl (Nat.le_of_ble_eq_true rfl) ⟨Nat.zero_le _, Nat.zero_le _⟩ dX1_worthIt_18 ?_
      rintro v9 _ ⟨w7, L8, rfl, h⟩
      refine g_if_eq C 55 dX1_worthIt_21 (by decide) (fun hc => ?_) (fun hc => ?_)
      · replace h := h.1 hc
        refine g_sub [] rfl ?_
        exact k_X1_worthIt_55 C ret w7 L8 h
      · replace h := h.2 hc
        refine g_iload_n C 2 rfl dX1_worthIt_24 ?_
        refine g_iload_n C 3 rfl dX1_worthIt_25 ?_
        refine g_icmp_eq C 55 dX1_worthIt_26 (by decide) (fun hc => ?_) (fun hc => ?_)
        · replace h := h.1 hc
          refine g_sub [] rfl ?_
          exact k_X1_worthIt_55 C ret w7 L8 h
        · replace h := h.2 hc
          refine g_aload_n C 0 rfl dX1_worthIt_29 ?_
          refine g_iload C 4 rfl dX1_worthIt_30 ?_
          refine g_callVi C (As := [.int x4]) (rest := []) (m_X1_isAnimal h) (lw_V q653 q655 qs14 q78 q656) (ci := 0) (qi := 0) rfl rfl ⟨rfl, rfl⟩ ⟨Nat.le_of_ble_eq_true rfl, Nat.le_of_ble_eq_true rfl⟩ 1 rfl (by decide +kernel) rfl (Nat.le_of_ble_eq_true rfl) ⟨Nat.zero_le _, Nat.zero_le _⟩ dX1_worthIt_32 ?_
          rintro v12 _ ⟨w10, L11, rfl, h⟩
          refine g_if_eq C 55 dX1_worthIt_35 (by decide) (fun hc => ?_) (fun hc => ?_)
          · replace h := h.1 hc
            refine g_sub [] rfl ?_
            exact k_X1_worthIt_55 C ret w10 L11 h
          · replace h := h.2 hc
            refine g_iload C 4 rfl dX1_worthIt_38 ?_
            refine g_iload_n C 1 rfl dX1_worthIt_40 ?_
            refine g_icmp_eq C 55 dX1_worthIt_41 (by decide) (fun hc => ?_) (fun hc => ?_)
            · replace h := h.1 hc
              refine g_sub [] rfl ?_
              exact k_X1_worthIt_55 C ret w10 L11 h
            · replace h := h.2 hc
              refine g_iload C 5 rfl dX1_worthIt_44 ?_
              refine g_iconst C 0 (by decide) dX1_worthIt_46 ?_
              refine g_bipush C 99 (by decide) dX1_worthIt_47 ?_
              refine g_callSi C (As := [.int x5, .int 0, .int 99]) (rest := []) (m_X1_in h) (Cn := "") (b := 0) (lw_S q657 q658 q78 q659) ⟨rfl, rfl⟩ ⟨Nat.le_of_ble_eq_true rfl, Nat.le_of_ble_eq_true rfl⟩ 3 rfl (by decide +kernel) rfl (Nat.le_of_ble_eq_true rfl) ⟨Nat.zero_le _, Nat.zero_le _⟩ dX1_worthIt_49 ?_
              rintro v15 _ ⟨w13, L14, rfl, h⟩
              refine g_if_ne C 57 dX1_worthIt_52 (by decide) (fun hc => ?_) (fun hc => ?_)
              · replace h := h.2 hc
                refine g_aload_n C 0 rfl dX1_worthIt_57 ?_
                refine xg_tree C q279 dX1_worthIt_58 ?_
                refine g_iload_n C 1 rfl dX1_worthIt_61 ?_
                refine g_iload_n C 2 rfl dX1_worthIt_62 ?_
                refine g_iload_n C 3 rfl dX1_worthIt_63 ?_
                refine g_callVl C (As := [.int x1, .int x2, .int x3]) (rest := []) (m_X3_young_t2 h) (lw_V q687 q688 q689 q82 q690) (ci := 2) (qi := 2) rfl rfl ⟨rfl, rfl⟩ ⟨Nat.le_of_ble_eq_true rfl, Nat.le_of_ble_eq_true rfl⟩ 3 rfl (by decide +kernel) rfl (Nat.le_of_ble_eq_true rfl) ⟨Nat.zero_le _, Nat.zero_le _⟩ dX1_worthIt_64 ?_
                rintro v18 _ ⟨w16, L17, rfl, h⟩
                refine g_bipush C 18 (by decide) dX1_worthIt_67 ?_
                refine g_lshr C dX1_worthIt_69 ?_
                refine g_lstore C (lt := [(6, .long (v18 >>> ((18 : Int32).toInt64 &&& 63))), (0, .ref (xa K 0)), (1, .int x1), (2, .int x2), (3, .int x3), (4, .int x4), (5, .int x5)]) dX1_worthIt_70 (by decide) rfl ?_
                refine g_iload C 6 rfl dX1_worthIt_72 ?_
                refine g_i2l C dX1_worthIt_74 ?_
                refine g_aload_n C 1 rfl dX1_worthIt_75 ?_
                refine xg_tree C q279 dX1_worthIt_76 ?_
                refine g_iload_n C 2 rfl dX1_worthIt_79 ?_
                refine g_iload_n C 2 rfl dX1_worthIt_80 ?_
                refine g_iload C 5 rfl dX1_worthIt_81 ?_
                refine g_callVl C (As := [.int x1, .int x1, .int x4]) (rest := [.long x5.toInt64]) (m_X3_young_t2 h) (lw_V q687 q688 q689 q82 q690) (ci := 2) (qi := 2) rfl rfl ⟨rfl, rfl⟩ ⟨Nat.le_of_ble_eq_true rfl, Nat.le_of_ble_eq_true rfl⟩ 3 rfl (by decide +kernel) rfl (Nat.le_of_ble_eq_true rfl) ⟨Nat.zero_le _, Nat.zero_le _⟩ dX1_worthIt_83 ?_
                rintro v21 _ ⟨w19, L20, rfl, h⟩
                refine g_bipush C 18 (by decide) dX1_worthIt_86 ?_
                refine g_lshr C dX1_worthIt_88 ?_
                refine g_lmul C dX1_worthIt_89 ?_
                refine g_lstore C (lt := [(8, .long (x5.toInt64 * (v21 >>> ((18 : Int32).toInt64 &&& 63)))), (6, .long (v18 >>> ((18 : Int32).toInt64 &&& 63))), (0, .ref (xa K 0)), (1, .int x1), (2, .int x2), (3, .int x3), (4, .int x4), (5, .int x5)]) dX1_worthIt_90 (by decide) rfl ?_
                refine g_iconst C 1 (by decide) dX1_worthIt_92 ?_
                refine g_istore C (lt := [(10, .int 1), (8, .long (x5.toInt64 * (v21 >>> ((18 : Int32).toInt64 &&& 63)))), (6, .long (v18 >>> ((18 : Int32).toInt64 &&& 63))), (0, .ref (xa K 0)), (1, .int x1), (2, .int x2), (3, .int x3), (4, .int x4), (5, .int x5)]) dX1_worthIt_93 (by decide) rfl ?_
                refine g_sub [2, 1, 0] rfl ?_
                exact k_X1_worthIt_95 C ret N (v18 >>> ((18 : Int32).toInt64 &&& 63)) (x5.toInt64 * (v21 >>> ((18 : Int32).toInt64 &&& 63))) 1 w19 L20 h
              · replace h := h.1 hc
                refine g_sub [] rfl ?_
                exact k_X1_worthIt_55 C ret w13 L14 h
def B_X1_worthIt (N : Nat) (x1 : Int32) (x2 : Int32) (x3 : Int32) (x4 : Int32) (x5 : Int32) (post : Int32 → Wd → va_W → Prop) (w : Wd) (L : va_W) : Prop := B_X1_worthIt_0 N post x1 x2 x3 x4 x5 w L
theorem m_X1_worthIt {l : Launch} {K : gK} {N : Nat} {post : Int32 → Wd → va_W → Prop} {x1 : Int32} {x2 : Int32} {x3 : Int32} {x4 : Int32} {x5 : Int32} {w : Wd} {L : va_W} (h : B_X1_worthIt N x1 x2 x3 x4 x5 post w L) : gMi l K yX1_worthIt cX1_worthIt 11 (some .int) rm_X1_worthIt [.ref (xa K 0), .int x1, .int x2, .int x3, .int x4, .int x5] (xL K w ++ L) (xPi K post) 0 0 := by
  refine g_inI (ls0 := [(0, .ref (xa K 0)), (1, .int x1), (2, .int x2), (3, .int x3), (4, .int x4), (5, .int x5)]) (by decide) (Nat.le_of_ble_eq_true rfl) rfl (fun Γ hl C hn ret => ?_)
  exact k_X1_worthIt_0 C ret x1 x2 x3 x4 x5 w L h
def rm_X1_reign : Room := { frames := 2, cells := 0, slots := 0, locals := 43 }
def B_X1_reign_21 (N : Nat) (post : Int32 → Wd → va_W → Prop) (w : Wd) (L : va_W) : Prop :=
  post 0 w L
set_option maxHeartbeats 4000000 in
theorem k_X1_reign_21 {Γ : gT} {K : gK} {N : Nat} {post : Int32 → Wd → va_W → Prop} (C : gC Γ K RX1 cX1_reign 3 rm_X1_reign) (ret : gRi Γ K cX1_reign (some .boolean) (xPi K post) 0 0) (w : Wd) (L : va_W) (h : B_X1_reign_21 N post w L) : gJ Γ K 0 0 (xL K w ++ L) 21 [] [] := by
  unfold B_X1_reign_21 at h
  refine g_iconst C 0 (by decide) dX1_reign_21 ?_
  exact ret _ _ _ _ _ rfl (gZ.n (Or.inl rfl)) dX1_reign_22 ⟨_, _, rfl, h⟩
def B_X1_reign_0 (N : Nat) (post : Int32 → Wd → va_W → Prop) (x1 : Int32) (x2 : Int32) (w : Wd) (L : va_W) : Prop :=
  B_X1_isAnimal N x1 (fun (v3 : Int32) (w1 : Wd) (L2 : va_W) =>
  (v3 = 0 →
    B_X1_reign_21 N post w1 L2) ∧
  (¬ v3 = 0 →
    B_X1_isAnimal N x2 (fun (v6 : Int32) (w4 : Wd) (L5 : va_W) =>
  (v6 = 0 →
      B_X1_reign_21 N post w4 L5) ∧
    (¬ v6 = 0 →
      (x1 = x2 →
        B_X1_reign_21 N post w4 L5) ∧
      (¬ x1 = x2 →
        post 1 (xsi (xsi w4 5 x1) 6 x2) L5))) w1 L2)) w L
set_option maxHeartbeats 4000000 in
theorem k_X1_reign_0 {Γ : gT} {K : gK} {N : Nat} {post : Int32 → Wd → va_W → Prop} (C : gC Γ K RX1 cX1_reign 3 rm_X1_reign) (ret : gRi Γ K cX1_reign (some .boolean) (xPi K post) 0 0) (x1 : Int32) (x2 : Int32) (w : Wd) (L : va_W) (h : B_X1_reign_0 N post x1 x2 w L) : gJ Γ K 0 0 (xL K w ++ L) 0 [(0, .ref (xa K 0)), (1, .int x1), (2, .int x2)] [] := by
  unfold B_X1_reign_0 at h
  refine g_aload_n C 0 rfl dX1_reign_0 ?_
  refine g_iload_n C 1 rfl dX1_reign_1 ?_
  refine g_callVi C (As := [.int x1]) (rest := []) (m_X1_isAnimal h) (lw_V q653 q655 qs14 q78 q656) (ci := 0) (qi := 0) rfl rfl ⟨rfl, rfl⟩ ⟨Nat.le_of_ble_eq_true rfl, Nat.le_of_ble_eq_true rfl⟩ 1 rfl (by decide +kernel) rfl (Nat.le_of_ble_eq_true rfl) ⟨Nat.zero_le _, Nat.zero_le _⟩ dX1_reign_2 ?_
  rintro v3 _ ⟨w1, L2, rfl, h⟩
  refine g_if_eq C 21 dX1_reign_5 (by decide) (fun hc => ?_) (fun hc => ?_)
  · replace h := h.1 hc
    refine g_sub [] rfl ?_
    exact k_X1_reign_21 C ret w1 L2 h
  · replace h := h.2 hc
    refine g_aload_n C 0 rfl dX1_reign_8 ?_
    refine g_iload_n C 2 rfl dX1_reign_9 ?_
    refine g_callVi C (As := [.int x2]) (rest := []) (m_X1_isAnimal h) (lw_V q653 q655 qs14 q78 q656) (ci := 0) (qi := 0) rfl rfl ⟨rfl, rfl⟩ ⟨Nat.le_of_ble_eq_true rfl, Nat.le_of_ble_eq_true rfl⟩ 1 rfl (by decide +kernel) rfl (Nat.le_of_ble_eq_true rfl) ⟨Nat.zero_le _, Nat.zero_le _⟩ dX1_reign_10 ?_
    rintro v6 _ ⟨w4, L5, rfl, h⟩
    refine g_if_eq C 21 dX1_reign_13 (by decide) (fun hc => ?_) (fun hc => ?_)
    · replace h := h.1 hc
      refine g_sub [] rfl ?_
      exact k_X1_reign_21 C ret w4 L5 h
    · replace h := h.2 hc
      refine g_iload_n C 1 rfl dX1_reign_16 ?_
      refine g_iload_n C 2 rfl dX1_reign_17 ?_
      refine g_icmp_ne C 23 dX1_reign_18 (by decide) (fun hc => ?_) (fun hc => ?_)
      · replace h := h.2 hc
        refine g_aload_n C 0 rfl dX1_reign_23 ?_
        refine g_iload_n C 1 rfl dX1_reign_24 ?_
        refine xp_queen C q284 dX1_reign_25 ?_
        refine g_aload_n C 0 rfl dX1_reign_28 ?_
        refine g_iload_n C 2 rfl dX1_reign_29 ?_
        refine xp_mate C q286 dX1_reign_30 ?_
        refine g_iconst C 1 (by decide) dX1_reign_33 ?_
        exact ret _ _ _ _ _ rfl (gZ.n (Or.inr rfl)) dX1_reign_34 ⟨_, _, rfl, h⟩
      · replace h := h.1 hc
        refine g_sub [] rfl ?_
        exact k_X1_reign_21 C ret w4 L5 h
def B_X1_reign (N : Nat) (x1 : Int32) (x2 : Int32) (post : Int32 → Wd → va_W → Prop) (w : Wd) (L : va_W) : Prop := B_X1_reign_0 N post x1 x2 w L
theorem m_X1_reign {l : Launch} {K : gK} {N : Nat} {post : Int32 → Wd → va_W → Prop} {x1 : Int32} {x2 : Int32} {w : Wd} {L : va_W} (h : B_X1_reign N x1 x2 post w L) : gMi l K yX1_reign cX1_reign 3 (some .boolean) rm_X1_reign [.ref (xa K 0), .int x1, .int x2] (xL K w ++ L) (xPi K post) 0 0 := by
  refine g_inI (ls0 := [(0, .ref (xa K 0)), (1, .int x1), (2, .int x2)]) (by decide) (Nat.le_of_ble_eq_true rfl) rfl (fun Γ hl C hn ret => ?_)
  exact k_X1_reign_0 C ret x1 x2 w L h
def rm_X1_set : Room := { frames := 1, cells := 0, slots := 0, locals := 22 }
def B_X1_set_25 (N : Nat) (post : Int32 → Wd → va_W → Prop) (w : Wd) (L : va_W) : Prop :=
  post 0 w L
set_option maxHeartbeats 4000000 in
theorem k_X1_set_25 {Γ : gT} {K : gK} {N : Nat} {post : Int32 → Wd → va_W → Prop} (C : gC Γ K RX1 cX1_set 3 rm_X1_set) (ret : gRi Γ K cX1_set (some .boolean) (xPi K post) 0 0) (w : Wd) (L : va_W) (h : B_X1_set_25 N post w L) : gJ Γ K 0 0 (xL K w ++ L) 25 [] [] := by
  unfold B_X1_set_25 at h
  refine g_iconst C 0 (by decide) dX1_set_25 ?_
  exact ret _ _ _ _ _ rfl (gZ.n (Or.inl rfl)) dX1_set_26 ⟨_, _, rfl, h⟩
def B_X1_set_0 (N : Nat) (post : Int32 → Wd → va_W → Prop) (x1 : Int32) (x2 : Int32) (w : Wd) (L : va_W) : Prop :=
  B_X1_in N x1 0 8 (fun (v3 : Int32) (w1 : Wd) (L2 : va_W) =>
  (v3 = 0 →
    B_X1_set_25 N post w1 L2) ∧
  (¬ v3 = 0 →
    B_X1_least N x1 (fun (v6 : Int32) (w4 : Wd) (L5 : va_W) =>
  B_X1_most N x1 (fun (v9 : Int32) (w7 : Wd) (L8 : va_W) =>
  B_X1_in N x2 v6 v9 (fun (v12 : Int32) (w10 : Wd) (L11 : va_W) =>
  (v12 = 0 →
      B_X1_set_25 N post w10 L11) ∧
    (¬ v12 = 0 →
      vp_in x1 9 ∧ ∀ w13 : Wd, w13 = (xsA w10 7 x1.toNatClampNeg x2) → post 1 w13 L11)) w7 L8) w4 L5) w1 L2)) w L
set_option maxHeartbeats 4000000 in
theorem k_X1_set_0 {Γ : gT} {K : gK} {N : Nat} {post : Int32 → Wd → va_W → Prop} (C : gC Γ K RX1 cX1_set 3 rm_X1_set) (ret : gRi Γ K cX1_set (some .boolean) (xPi K post) 0 0) (x1 : Int32) (x2 : Int32) (w : Wd) (L : va_W) (h : B_X1_set_0 N post x1 x2 w L) : gJ Γ K 0 0 (xL K w ++ L) 0 [(0, .ref (xa K 0)), (1, .int x1), (2, .int x2)] [] := by
  unfold B_X1_set_0 at h
  refine g_iload_n C 1 rfl dX1_set_0 ?_
  refine g_iconst C 0 (by decide) dX1_set_1 ?_
  refine g_bipush C 8 (by decide) dX1_set_2 ?_
  refine g_callSi C (As := [.int x1, .int 0, .int 8]) (rest := []) (m_X1_in h) (Cn := "") (b := 0) (lw_S q657 q658 q78 q659) ⟨rfl, rfl⟩ ⟨Nat.le_of_ble_eq_true rfl, Nat.le_of_ble_eq_true rfl⟩ 3 rfl (by decide +kernel) rfl (Nat.le_of_ble_eq_true rfl) ⟨Nat.zero_le _, Nat.zero_le _⟩ dX1_set_4 ?_
  rintro v3 _ ⟨w1, L2, rfl, h⟩
  refine g_if_eq C 25 dX1_set_7 (by decide) (fun hc => ?_) (fun hc => ?_)
  · replace h := h.1 hc
    refine g_sub [] rfl ?_
    exact k_X1_set_25 C ret w1 L2 h
  · replace h := h.2 hc
    refine g_iload_n C 2 rfl dX1_set_10 ?_
    refine g_iload_n C 1 rfl dX1_set_11 ?_
    refine g_callSi C (As := [.int x1]) (rest := [.int x2]) (m_X1_least h) (Cn := "") (b := 0) (lw_S q703 q704 q78 q705) ⟨rfl, rfl⟩ ⟨Nat.le_of_ble_eq_true rfl, Nat.le_of_ble_eq_true rfl⟩ 1 rfl (by decide +kernel) rfl (Nat.le_of_ble_eq_true rfl) ⟨Nat.zero_le _, Nat.zero_le _⟩ dX1_set_12 ?_
    rintro v6 _ ⟨w4, L5, rfl, h⟩
    refine g_iload_n C 1 rfl dX1_set_15 ?_
    refine g_callSi C (As := [.int x1]) (rest := [.int v6, .int x2]) (m_X1_most h) (Cn := "") (b := 0) (lw_S q706 q707 q78 q708) ⟨rfl, rfl⟩ ⟨Nat.le_of_ble_eq_true rfl, Nat.le_of_ble_eq_true rfl⟩ 1 rfl (by decide +kernel) rfl (Nat.le_of_ble_eq_true rfl) ⟨Nat.zero_le _, Nat.zero_le _⟩ dX1_set_16 ?_
    rintro v9 _ ⟨w7, L8, rfl, h⟩
    refine g_callSi C (As := [.int x2, .int v6, .int v9]) (rest := []) (m_X1_in h) (Cn := "") (b := 0) (lw_S q657 q658 q78 q659) ⟨rfl, rfl⟩ ⟨Nat.le_of_ble_eq_true rfl, Nat.le_of_ble_eq_true rfl⟩ 3 rfl (by decide +kernel) rfl (Nat.le_of_ble_eq_true rfl) ⟨Nat.zero_le _, Nat.zero_le _⟩ dX1_set_19 ?_
    rintro v12 _ ⟨w10, L11, rfl, h⟩
    refine g_if_ne C 27 dX1_set_22 (by decide) (fun hc => ?_) (fun hc => ?_)
    · replace h := h.2 hc
      refine g_aload_n C 0 rfl dX1_set_27 ?_
      refine xg_things C q289 dX1_set_28 ?_
      refine g_iload_n C 1 rfl dX1_set_31 ?_
      refine g_iload_n C 2 rfl dX1_set_32 ?_
      obtain ⟨hb, h⟩ := h
      refine xst_7 C hb dX1_set_33 ?_
      obtain ⟨w13, ew13⟩ : ∃ z, z = (xsA w10 7 x1.toNatClampNeg x2) := ⟨_, rfl⟩
      replace h := h w13 ew13
      rw [← ew13]
      refine g_iconst C 1 (by decide) dX1_set_34 ?_
      exact ret _ _ _ _ _ rfl (gZ.n (Or.inr rfl)) dX1_set_35 ⟨_, _, rfl, h⟩
    · replace h := h.1 hc
      refine g_sub [] rfl ?_
      exact k_X1_set_25 C ret w10 L11 h
def B_X1_set (N : Nat) (x1 : Int32) (x2 : Int32) (post : Int32 → Wd → va_W → Prop) (w : Wd) (L : va_W) : Prop := B_X1_set_0 N post x1 x2 w L
theorem m_X1_set {l : Launch} {K : gK} {N : Nat} {post : Int32 → Wd → va_W → Prop} {x1 : Int32} {x2 : Int32} {w : Wd} {L : va_W} (h : B_X1_set N x1 x2 post w L) : gMi l K yX1_set cX1_set 3 (some .boolean) rm_X1_set [.ref (xa K 0), .int x1, .int x2] (xL K w ++ L) (xPi K post) 0 0 := by
  refine g_inI (ls0 := [(0, .ref (xa K 0)), (1, .int x1), (2, .int x2)]) (by decide) (Nat.le_of_ble_eq_true rfl) rfl (fun Γ hl C hn ret => ?_)
  exact k_X1_set_0 C ret x1 x2 w L h
def rm_X1_told : Room := { frames := 1, cells := 0, slots := 0, locals := 22 }
def B_X1_told_22 (N : Nat) (post : Int32 → Wd → va_W → Prop) (s0 : Int32) (w : Wd) (L : va_W) : Prop :=
  post s0 w L
set_option maxHeartbeats 4000000 in
theorem k_X1_told_22 {Γ : gT} {K : gK} {N : Nat} {post : Int32 → Wd → va_W → Prop} (C : gC Γ K RX1 cX1_told 2 rm_X1_told) (ret : gRi Γ K cX1_told (some .int) (xPi K post) 0 0) (s0 : Int32) (w : Wd) (L : va_W) (h : B_X1_told_22 N post s0 w L) : gJ Γ K 0 0 (xL K w ++ L) 22 [] [.int s0] := by
  unfold B_X1_told_22 at h
  exact ret _ _ _ _ _ rfl rfl dX1_told_22 ⟨_, _, rfl, h⟩
def B_X1_told_0 (N : Nat) (post : Int32 → Wd → va_W → Prop) (x1 : Int32) (w : Wd) (L : va_W) : Prop :=
  B_X1_in N x1 0 8 (fun (v3 : Int32) (w1 : Wd) (L2 : va_W) =>
  (v3 = 0 →
    B_X1_told_22 N post (-1000) w1 L2) ∧
  (¬ v3 = 0 →
    vp_in x1 9 ∧ B_X1_told_22 N post (xA w1 7 x1.toNatClampNeg) w1 L2)) w L
set_option maxHeartbeats 4000000 in
theorem k_X1_told_0 {Γ : gT} {K : gK} {N : Nat} {post : Int32 → Wd → va_W → Prop} (C : gC Γ K RX1 cX1_told 2 rm_X1_told) (ret : gRi Γ K cX1_told (some .int) (xPi K post) 0 0) (x1 : Int32) (w : Wd) (L : va_W) (h : B_X1_told_0 N post x1 w L) : gJ Γ K 0 0 (xL K w ++ L) 0 [(0, .ref (xa K 0)), (1, .int x1)] [] := by
  unfold B_X1_told_0 at h
  refine g_iload_n C 1 rfl dX1_told_0 ?_
  refine g_iconst C 0 (by decide) dX1_told_1 ?_
  refine g_bipush C 8 (by decide) dX1_told_2 ?_
  refine g_callSi C (As := [.int x1, .int 0, .int 8]) (rest := []) (m_X1_in h) (Cn := "") (b := 0) (lw_S q657 q658 q78 q659) ⟨rfl, rfl⟩ ⟨Nat.le_of_ble_eq_true rfl, Nat.le_of_ble_eq_true rfl⟩ 3 rfl (by decide +kernel) rfl (Nat.le_of_ble_eq_true rfl) ⟨Nat.zero_le _, Nat.zero_le _⟩ dX1_told_4 ?_
  rintro v3 _ ⟨w1, L2, rfl, h⟩
  refine g_if_eq C 19 dX1_told_7 (by decide) (fun hc => ?_) (fun hc => ?_)
  · replace h := h.1 hc
    refine g_sipush C (-1000) (by decide) dX1_told_19 ?_
    refine g_sub [] rfl ?_
    exact k_X1_told_22 C ret (-1000) w1 L2 h
  · replace h := h.2 hc
    refine g_aload_n C 0 rfl dX1_told_10 ?_
    refine xg_things C q289 dX1_told_11 ?_
    refine g_iload_n C 1 rfl dX1_told_14 ?_
    obtain ⟨hb, h⟩ := h
    refine xld_7 C hb (xA w1 7 x1.toNatClampNeg) rfl dX1_told_15 ?_
    refine g_goto C 22 dX1_told_16 (by decide) ?_
    refine g_sub [] rfl ?_
    exact k_X1_told_22 C ret (xA w1 7 x1.toNatClampNeg) w1 L2 h
def B_X1_told (N : Nat) (x1 : Int32) (post : Int32 → Wd → va_W → Prop) (w : Wd) (L : va_W) : Prop := B_X1_told_0 N post x1 w L
theorem m_X1_told {l : Launch} {K : gK} {N : Nat} {post : Int32 → Wd → va_W → Prop} {x1 : Int32} {w : Wd} {L : va_W} (h : B_X1_told N x1 post w L) : gMi l K yX1_told cX1_told 2 (some .int) rm_X1_told [.ref (xa K 0), .int x1] (xL K w ++ L) (xPi K post) 0 0 := by
  refine g_inI (ls0 := [(0, .ref (xa K 0)), (1, .int x1)]) (by decide) (Nat.le_of_ble_eq_true rfl) rfl (fun Γ hl C hn ret => ?_)
  exact k_X1_told_0 C ret x1 w L h
def rm_X1_rain : Room := { frames := 1, cells := 0, slots := 0, locals := 22 }
def B_X1_rain_30 (N : Nat) (post : Int32 → Wd → va_W → Prop) (w : Wd) (L : va_W) : Prop :=
  post 0 w L
set_option maxHeartbeats 4000000 in
theorem k_X1_rain_30 {Γ : gT} {K : gK} {N : Nat} {post : Int32 → Wd → va_W → Prop} (C : gC Γ K RX1 cX1_rain 5 rm_X1_rain) (ret : gRi Γ K cX1_rain (some .boolean) (xPi K post) 0 0) (w : Wd) (L : va_W) (h : B_X1_rain_30 N post w L) : gJ Γ K 0 0 (xL K w ++ L) 30 [] [] := by
  unfold B_X1_rain_30 at h
  refine g_iconst C 0 (by decide) dX1_rain_30 ?_
  exact ret _ _ _ _ _ rfl (gZ.n (Or.inl rfl)) dX1_rain_31 ⟨_, _, rfl, h⟩
def B_X1_rain_35s (r35 : Int32 → Int32 → Int32 → Wd → va_W → Prop) (N : Nat) (post : Int32 → Wd → va_W → Prop) (x2 : Int32) (x3 : Int32) (x4 : Int32) (w : Wd) (L : va_W) : Prop :=
  (x2 < x4 →
    post 1 w L) ∧
  (¬ x2 < x4 →
    vp_in x4 24 ∧ ∀ w1 : Wd, w1 = (xsA w 10 x4.toNatClampNeg x3) → r35 x2 x3 (x4 + 1) w1 L)
def B_X1_rain_35 (N : Nat) (post : Int32 → Wd → va_W → Prop) : Nat → Int32 → Int32 → Int32 → Wd → va_W → Prop
  | 0, _, _, _, _, _ => False
  | n + 1, x2, x3, x4, w, L => B_X1_rain_35s (B_X1_rain_35 N post n) N post x2 x3 x4 w L
set_option maxHeartbeats 4000000 in
theorem k_X1_rain_35s {Γ : gT} {K : gK} {N : Nat} {post : Int32 → Wd → va_W → Prop} (C : gC Γ K RX1 cX1_rain 5 rm_X1_rain) (ret : gRi Γ K cX1_rain (some .boolean) (xPi K post) 0 0) {r35 : Int32 → Int32 → Int32 → Wd → va_W → Prop} (hr35 : ∀ (x2 : Int32) (x3 : Int32) (x4 : Int32) (w : Wd) (L : va_W), r35 x2 x3 x4 w L → gJ Γ K 0 0 (xL K w ++ L) 35 [(0, .ref (xa K 0)), (2, .int x2), (3, .int x3), (4, .int x4)] []) (x2 : Int32) (x3 : Int32) (x4 : Int32) (w : Wd) (L : va_W) (h : B_X1_rain_35s r35 N post x2 x3 x4 w L) : gJ Γ K 0 0 (xL K w ++ L) 35 [(0, .ref (xa K 0)), (2, .int x2), (3, .int x3), (4, .int x4)] [] := by
  unfold B_X1_rain_35s at h
  refine g_iload C 3 rfl dX1_rain_35 ?_
  refine g_iload_n C 1 rfl dX1_rain_37 ?_
  refine g_icmp_gt C 55 dX1_rain_38 (by decide) (fun hc => ?_) (fun hc => ?_)
  · replace h := h.1 hc
    refine g_iconst C 1 (by decide) dX1_rain_55 ?_
    exact ret _ _ _ _ _ rfl (gZ.n (Or.inr rfl)) dX1_rain_56 ⟨_, _, rfl, h⟩
  · replace h := h.2 hc
    refine g_aload_n C 0 rfl dX1_rain_41 ?_
    refine xg_rains C q290 dX1_rain_42 ?_
    refine g_iload C 3 rfl dX1_rain_45 ?_
    refine g_iload_n C 2 rfl dX1_rain_47 ?_
    obtain ⟨hb, h⟩ := h
    refine xst_10 C hb dX1_rain_48 ?_
    obtain ⟨w1, ew1⟩ : ∃ z, z = (xsA w 10 x4.toNatClampNeg x3) := ⟨_, rfl⟩
    replace h := h w1 ew1
    rw [← ew1]
    refine g_iinc C 3 (x4 + 1) (lt := [(4, .int (x4 + 1)), (0, .ref (xa K 0)), (2, .int x2), (3, .int x3)]) rfl rfl dX1_rain_49 (by decide) rfl ?_
    refine g_goto C 35 dX1_rain_52 (by decide) ?_
    refine g_sub [1, 2, 3, 0] rfl ?_
    exact hr35 x2 x3 (x4 + 1) w1 L h
theorem k_X1_rain_35 {Γ : gT} {K : gK} {N : Nat} {post : Int32 → Wd → va_W → Prop} (C : gC Γ K RX1 cX1_rain 5 rm_X1_rain) (ret : gRi Γ K cX1_rain (some .boolean) (xPi K post) 0 0) : ∀ (n : Nat) (x2 : Int32) (x3 : Int32) (x4 : Int32) (w : Wd) (L : va_W) (h : B_X1_rain_35 N post n x2 x3 x4 w L), gJ Γ K 0 0 (xL K w ++ L) 35 [(0, .ref (xa K 0)), (2, .int x2), (3, .int x3), (4, .int x4)] [] := by
  intro n
  induction n with
  | zero => intro x2 x3 x4 w L h; exact h.elim
  | succ n ih => intro x2 x3 x4 w L h; exact k_X1_rain_35s C ret ih x2 x3 x4 w L h
def B_X1_rain_0 (N : Nat) (post : Int32 → Wd → va_W → Prop) (x1 : Int32) (x2 : Int32) (x3 : Int32) (w : Wd) (L : va_W) : Prop :=
  B_X1_in N x1 0 23 (fun (v3 : Int32) (w1 : Wd) (L2 : va_W) =>
  (v3 = 0 →
    B_X1_rain_30 N post w1 L2) ∧
  (¬ v3 = 0 →
    B_X1_in N x2 x1 23 (fun (v6 : Int32) (w4 : Wd) (L5 : va_W) =>
  (v6 = 0 →
      B_X1_rain_30 N post w4 L5) ∧
    (¬ v6 = 0 →
      B_X1_in N x3 0 99 (fun (v9 : Int32) (w7 : Wd) (L8 : va_W) =>
  (v9 = 0 →
        B_X1_rain_30 N post w7 L8) ∧
      (¬ v9 = 0 →
        B_X1_rain_35 N post N x2 x3 x1 w7 L8)) w4 L5)) w1 L2)) w L
set_option maxHeartbeats 4000000 in
theorem k_X1_rain_0 {Γ : gT} {K : gK} {N : Nat} {post : Int32 → Wd → va_W → Prop} (C : gC Γ K RX1 cX1_rain 5 rm_X1_rain) (ret : gRi Γ K cX1_rain (some .boolean) (xPi K post) 0 0) (x1 : Int32) (x2 : Int32) (x3 : Int32) (w : Wd) (L : va_W) (h : B_X1_rain_0 N post x1 x2 x3 w L) : gJ Γ K 0 0 (xL K w ++ L) 0 [(0, .ref (xa K 0)), (1, .int x1), (2, .int x2), (3, .int x3)] [] := by
  unfold B_X1_rain_0 at h
  refine g_iload_n C 1 rfl dX1_rain_0 ?_
  refine g_iconst C 0 (by decide) dX1_rain_1 ?_
  refine g_bipush C 23 (by decide) dX1_rain_2 ?_
  refine g_callSi C (As := [.int x1, .int 0, .int 23]) (rest := []) (m_X1_in h) (Cn := "") (b := 0) (lw_S q657 q658 q78 q659) ⟨rfl, rfl⟩ ⟨Nat.le_of_ble_eq_true rfl, Nat.le_of_ble_eq_true rfl⟩ 3 rfl (by decide +kernel) rfl (Nat.le_of_ble_eq_true rfl) ⟨Nat.zero_le _, Nat.zero_le _⟩ dX1_rain_4 ?_
  rintro v3 _ ⟨w1, L2, rfl, h⟩
  refine g_if_eq C 30 dX1_rain_7 (by decide) (fun hc => ?_) (fun hc => ?_)
  · replace h := h.1 hc
    refine g_sub [] rfl ?_
    exact k_X1_rain_30 C ret w1 L2 h
  · replace h := h.2 hc
    refine g_iload_n C 2 rfl dX1_rain_10 ?_
    refine g_iload_n C 1 rfl dX1_rain_11 ?_
    refine g_bipush C 23 (by decide) dX1_rain_12 ?_
    refine g_callSi C (As := [.int x2, .int x1, .int 23]) (rest := []) (m_X1_in h) (Cn := "") (b := 0) (lw_S q657 q658 q78 q659) ⟨rfl, rfl⟩ ⟨Nat.le_of_ble_eq_true rfl, Nat.le_of_ble_eq_true rfl⟩ 3 rfl (by decide +kernel) rfl (Nat.le_of_ble_eq_true rfl) ⟨Nat.zero_le _, Nat.zero_le _⟩ dX1_rain_14 ?_
    rintro v6 _ ⟨w4, L5, rfl, h⟩
    refine g_if_eq C 30 dX1_rain_17 (by decide) (fun hc => ?_) (fun hc => ?_)
    · replace h := h.1 hc
      refine g_sub [] rfl ?_
      exact k_X1_rain_30 C ret w4 L5 h
    · replace h := h.2 hc
      refine g_iload_n C 3 rfl dX1_rain_20 ?_
      refine g_iconst C 0 (by decide) dX1_rain_21 ?_
      refine g_bipush C 99 (by decide) dX1_rain_22 ?_
      refine g_callSi C (As := [.int x3, .int 0, .int 99]) (rest := []) (m_X1_in h) (Cn := "") (b := 0) (lw_S q657 q658 q78 q659) ⟨rfl, rfl⟩ ⟨Nat.le_of_ble_eq_true rfl, Nat.le_of_ble_eq_true rfl⟩ 3 rfl (by decide +kernel) rfl (Nat.le_of_ble_eq_true rfl) ⟨Nat.zero_le _, Nat.zero_le _⟩ dX1_rain_24 ?_
      rintro v9 _ ⟨w7, L8, rfl, h⟩
      refine g_if_ne C 32 dX1_rain_27 (by decide) (fun hc => ?_) (fun hc => ?_)
      · replace h := h.2 hc
        refine g_iload_n C 1 rfl dX1_rain_32 ?_
        refine g_istore C (lt := [(4, .int x1), (0, .ref (xa K 0)), (1, .int x1), (2, .int x2), (3, .int x3)]) dX1_rain_33 (by decide) rfl ?_
        refine g_sub [1, 3, 4, 0] rfl ?_
        exact k_X1_rain_35 C ret N x2 x3 x1 w7 L8 h
      · replace h := h.1 hc
        refine g_sub [] rfl ?_
        exact k_X1_rain_30 C ret w7 L8 h
def B_X1_rain (N : Nat) (x1 : Int32) (x2 : Int32) (x3 : Int32) (post : Int32 → Wd → va_W → Prop) (w : Wd) (L : va_W) : Prop := B_X1_rain_0 N post x1 x2 x3 w L
theorem m_X1_rain {l : Launch} {K : gK} {N : Nat} {post : Int32 → Wd → va_W → Prop} {x1 : Int32} {x2 : Int32} {x3 : Int32} {w : Wd} {L : va_W} (h : B_X1_rain N x1 x2 x3 post w L) : gMi l K yX1_rain cX1_rain 5 (some .boolean) rm_X1_rain [.ref (xa K 0), .int x1, .int x2, .int x3] (xL K w ++ L) (xPi K post) 0 0 := by
  refine g_inI (ls0 := [(0, .ref (xa K 0)), (1, .int x1), (2, .int x2), (3, .int x3)]) (by decide) (Nat.le_of_ble_eq_true rfl) rfl (fun Γ hl C hn ret => ?_)
  exact k_X1_rain_0 C ret x1 x2 x3 w L h
def rm_X1_find : Room := { frames := 1, cells := 0, slots := 0, locals := 25 }
def B_X1_find_39 (N : Nat) (post : Int64 → Wd → va_W → Prop) (s0 : Int64) (w : Wd) (L : va_W) : Prop :=
  post s0 w L
set_option maxHeartbeats 4000000 in
theorem k_X1_find_39 {Γ : gT} {K : gK} {N : Nat} {post : Int64 → Wd → va_W → Prop} (C : gC Γ K RX1 cX1_find 2 rm_X1_find) (ret : gRl Γ K cX1_find (some .long) (xPl K post) 0 0) (s0 : Int64) (w : Wd) (L : va_W) (h : B_X1_find_39 N post s0 w L) : gJ Γ K 0 0 (xL K w ++ L) 39 [] [.long s0] := by
  unfold B_X1_find_39 at h
  exact ret rfl _ _ _ _ dX1_find_39 ⟨_, _, rfl, h⟩
def B_X1_find_0 (N : Nat) (post : Int64 → Wd → va_W → Prop) (x1 : Int32) (w : Wd) (L : va_W) : Prop :=
  B_X1_in N x1 0 9 (fun (v3 : Int32) (w1 : Wd) (L2 : va_W) =>
  (v3 = 0 →
    B_X1_find_39 N post (-1) w1 L2) ∧
  (¬ v3 = 0 →
    B_X1_power N 100 x1 (fun (v6 : Int64) (w4 : Wd) (L5 : va_W) =>
  vp_in 1 9 ∧ B_X1_power N (100 - ((xA w4 7 (1 : Int32).toNatClampNeg).toInt64)) x1 (fun (v9 : Int64) (w7 : Wd) (L8 : va_W) =>
  B_X1_find_39 N post (v6 - v9) w7 L8) w4 L5) w1 L2)) w L
set_option maxHeartbeats 4000000 in
theorem k_X1_find_0 {Γ : gT} {K : gK} {N : Nat} {post : Int64 → Wd → va_W → Prop} (C : gC Γ K RX1 cX1_find 2 rm_X1_find) (ret : gRl Γ K cX1_find (some .long) (xPl K post) 0 0) (x1 : Int32) (w : Wd) (L : va_W) (h : B_X1_find_0 N post x1 w L) : gJ Γ K 0 0 (xL K w ++ L) 0 [(0, .ref (xa K 0)), (1, .int x1)] [] := by
  unfold B_X1_find_0 at h
  refine g_iload_n C 1 rfl dX1_find_0 ?_
  refine g_iconst C 0 (by decide) dX1_find_1 ?_
  refine g_bipush C 9 (by decide) dX1_find_2 ?_
  refine g_callSi C (As := [.int x1, .int 0, .int 9]) (rest := []) (m_X1_in h) (Cn := "") (b := 0) (lw_S q657 q658 q78 q659) ⟨rfl, rfl⟩ ⟨Nat.le_of_ble_eq_true rfl, Nat.le_of_ble_eq_true rfl⟩ 3 rfl (by decide +kernel) rfl (Nat.le_of_ble_eq_true rfl) ⟨Nat.zero_le _, Nat.zero_le _⟩ dX1_find_4 ?_
  rintro v3 _ ⟨w1, L2, rfl, h⟩
  refine g_if_eq C 36 dX1_find_7 (by decide) (fun hc => ?_) (fun hc => ?_)
  · replace h := h.1 hc
    refine g_ldc2 C (v := (-1)) q896 dX1_find_36 ?_
    refine g_sub [] rfl ?_
    exact k_X1_find_39 C ret (-1) w1 L2 h
  · replace h := h.2 hc
    refine g_ldc2 C (v := 100) q892 dX1_find_10 ?_
    refine g_iload_n C 1 rfl dX1_find_13 ?_
    refine g_callSl C (As := [.long 100, .int x1]) (rest := []) (m_X1_power h) (Cn := "") (b := 0) (lw_S q893 q894 q78 q895) ⟨rfl, rfl⟩ ⟨Nat.le_of_ble_eq_true rfl, Nat.le_of_ble_eq_true rfl⟩ 2 rfl (by decide +kernel) rfl (Nat.le_of_ble_eq_true rfl) ⟨Nat.zero_le _, Nat.zero_le _⟩ dX1_find_14 ?_
    rintro v6 _ ⟨w4, L5, rfl, h⟩
    refine g_ldc2 C (v := 100) q892 dX1_find_17 ?_
    refine g_aload_n C 0 rfl dX1_find_20 ?_
    refine xg_things C q289 dX1_find_21 ?_
    refine g_iconst C 1 (by decide) dX1_find_24 ?_
    obtain ⟨hb, h⟩ := h
    refine xld_7 C hb (xA w4 7 (1 : Int32).toNatClampNeg) rfl dX1_find_25 ?_
    refine g_i2l C dX1_find_26 ?_
    refine g_lsub C dX1_find_27 ?_
    refine g_iload_n C 1 rfl dX1_find_28 ?_
    refine g_callSl C (As := [.long (100 - ((xA w4 7 (1 : Int32).toNatClampNeg).toInt64)), .int x1]) (rest := [.long v6]) (m_X1_power h) (Cn := "") (b := 0) (lw_S q893 q894 q78 q895) ⟨rfl, rfl⟩ ⟨Nat.le_of_ble_eq_true rfl, Nat.le_of_ble_eq_true rfl⟩ 2 rfl (by decide +kernel) rfl (Nat.le_of_ble_eq_true rfl) ⟨Nat.zero_le _, Nat.zero_le _⟩ dX1_find_29 ?_
    rintro v9 _ ⟨w7, L8, rfl, h⟩
    refine g_lsub C dX1_find_32 ?_
    refine g_goto C 39 dX1_find_33 (by decide) ?_
    refine g_sub [] rfl ?_
    exact k_X1_find_39 C ret (v6 - v9) w7 L8 h
def B_X1_find (N : Nat) (x1 : Int32) (post : Int64 → Wd → va_W → Prop) (w : Wd) (L : va_W) : Prop := B_X1_find_0 N post x1 w L
theorem m_X1_find {l : Launch} {K : gK} {N : Nat} {post : Int64 → Wd → va_W → Prop} {x1 : Int32} {w : Wd} {L : va_W} (h : B_X1_find N x1 post w L) : gMl l K yX1_find cX1_find 2 (some .long) rm_X1_find [.ref (xa K 0), .int x1] (xL K w ++ L) (xPl K post) 0 0 := by
  refine g_inL (ls0 := [(0, .ref (xa K 0)), (1, .int x1)]) (by decide) (Nat.le_of_ble_eq_true rfl) rfl (fun Γ hl C hn ret => ?_)
  exact k_X1_find_0 C ret x1 w L h
def rm_X1_many : Room := { frames := 1, cells := 0, slots := 0, locals := 25 }
def B_X1_many_20 (N : Nat) (post : Int32 → Wd → va_W → Prop) (w : Wd) (L : va_W) : Prop :=
  post (-1) w L
set_option maxHeartbeats 4000000 in
theorem k_X1_many_20 {Γ : gT} {K : gK} {N : Nat} {post : Int32 → Wd → va_W → Prop} (C : gC Γ K RX1 cX1_many 4 rm_X1_many) (ret : gRi Γ K cX1_many (some .int) (xPi K post) 0 0) (w : Wd) (L : va_W) (h : B_X1_many_20 N post w L) : gJ Γ K 0 0 (xL K w ++ L) 20 [] [] := by
  unfold B_X1_many_20 at h
  refine g_iconst C (-1) (by decide) dX1_many_20 ?_
  exact ret _ _ _ _ _ rfl rfl dX1_many_21 ⟨_, _, rfl, h⟩
def B_X1_many_24s (r24 : Int32 → Int32 → Int32 → Wd → va_W → Prop) (N : Nat) (post : Int32 → Wd → va_W → Prop) (x1 : Int32) (x2 : Int32) (x3 : Int32) (w : Wd) (L : va_W) : Prop :=
  ((9 : Int32) < (x3 * x1) →
    post (-1) w L) ∧
  (¬ (9 : Int32) < (x3 * x1) →
    vp_in 1 9 ∧ B_X1_power N (100 - ((xA w 7 (1 : Int32).toNatClampNeg).toInt64)) (x3 * x1) (fun (v3 : Int64) (w1 : Wd) (L2 : va_W) =>
  B_X1_power N 100 ((x3 * x1) - 1) (fun (v6 : Int64) (w4 : Wd) (L5 : va_W) =>
  (((100 - x2.toInt64) * v6) < v3 →
      r24 x1 x2 (x3 + 1) w4 L5) ∧
    (¬ ((100 - x2.toInt64) * v6) < v3 →
      post x3 w4 L5)) w1 L2) w L)
def B_X1_many_24 (N : Nat) (post : Int32 → Wd → va_W → Prop) : Nat → Int32 → Int32 → Int32 → Wd → va_W → Prop
  | 0, _, _, _, _, _ => False
  | n + 1, x1, x2, x3, w, L => B_X1_many_24s (B_X1_many_24 N post n) N post x1 x2 x3 w L
set_option maxHeartbeats 4000000 in
theorem k_X1_many_24s {Γ : gT} {K : gK} {N : Nat} {post : Int32 → Wd → va_W → Prop} (C : gC Γ K RX1 cX1_many 4 rm_X1_many) (ret : gRi Γ K cX1_many (some .int) (xPi K post) 0 0) {r24 : Int32 → Int32 → Int32 → Wd → va_W → Prop} (hr24 : ∀ (x1 : Int32) (x2 : Int32) (x3 : Int32) (w : Wd) (L : va_W), r24 x1 x2 x3 w L → gJ Γ K 0 0 (xL K w ++ L) 24 [(0, .ref (xa K 0)), (1, .int x1), (2, .int x2), (3, .int x3)] []) (x1 : Int32) (x2 : Int32) (x3 : Int32) (w : Wd) (L : va_W) (h : B_X1_many_24s r24 N post x1 x2 x3 w L) : gJ Γ K 0 0 (xL K w ++ L) 24 [(0, .ref (xa K 0)), (1, .int x1), (2, .int x2), (3, .int x3)] [] := by
  unfold B_X1_many_24s at h
  refine g_iload_n C 3 rfl dX1_many_24 ?_
  refine g_iload_n C 1 rfl dX1_many_25 ?_
  refine g_imul C dX1_many_26 ?_
  refine g_bipush C 9 (by decide) dX1_many_27 ?_
  refine g_icmp_gt C 79 dX1_many_29 (by decide) (fun hc => ?_) (fun hc => ?_)
  · replace h := h.1 hc
    refine g_iconst C (-1) (by decide) dX1_many_79 ?_
    exact ret _ _ _ _ _ rfl rfl dX1_many_80 ⟨_, _, rfl, h⟩
  · replace h := h.2 hc
    refine g_ldc2 C (v := 100) q892 dX1_many_32 ?_
    refine g_aload_n C 0 rfl dX1_many_35 ?_
    refine xg_things C q289 dX1_many_36 ?_
    refine g_iconst C 1 (by decide) dX1_many_39 ?_
    obtain ⟨hb, h⟩ := h
    refine xld_7 C hb (xA w 7 (1 : Int32).toNatClampNeg) rfl dX1_many_40 ?_
    refine g_i2l C dX1_many_41 ?_
    refine g_lsub C dX1_many_42 ?_
    refine g_iload_n C 3 rfl dX1_many_43 ?_
    refine g_iload_n C 1 rfl dX1_many_44 ?_
    refine g_imul C dX1_many_45 ?_
    refine g_callSl C (As := [.long (100 - ((xA w 7 (1 : Int32).toNatClampNeg).toInt64)), .int (x3 * x1)]) (rest := []) (m_X1_power h) (Cn := "") (b := 0) (lw_S q893 q894 q78 q895) ⟨rfl, rfl⟩ ⟨Nat.le_of_ble_eq_true rfl, Nat.le_of_ble_eq_true rfl⟩ 2 rfl (by decide +kernel) rfl (Nat.le_of_ble_eq_true rfl) ⟨Nat.zero_le _, Nat.zero_le _⟩ dX1_many_46 ?_
    rintro v3 _ ⟨w1, L2, rfl, h⟩
    refine g_ldc2 C (v := 100) q892 dX1_many_49 ?_
    refine g_iload_n C 2 rfl dX1_many_52 ?_
    refine g_i2l C dX1_many_53 ?_
    refine g_lsub C dX1_many_54 ?_
    refine g_ldc2 C (v := 100) q892 dX1_many_55 ?_
    refine g_iload_n C 3 rfl dX1_many_58 ?_
    refine g_iload_n C 1 rfl dX1_many_59 ?_
    refine g_imul C dX1_many_60 ?_
    refine g_iconst C 1 (by decide) dX1_many_61 ?_
    refine g_isub C dX1_many_62 ?_
    refine g_callSl C (As := [.long 100, .int ((x3 * x1) - 1)]) (rest := [.long (100 - x2.toInt64), .long v3]) (m_X1_power h) (Cn := "") (b := 0) (lw_S q893 q894 q78 q895) ⟨rfl, rfl⟩ ⟨Nat.le_of_ble_eq_true rfl, Nat.le_of_ble_eq_true rfl⟩ 2 rfl (by decide +kernel) rfl (Nat.le_of_ble_eq_true rfl) ⟨Nat.zero_le _, Nat.zero_le _⟩ dX1_many_63 ?_
    rintro v6 _ ⟨w4, L5, rfl, h⟩
    refine g_lmul C dX1_many_66 ?_
    refine g_lif_gt C 73 dX1_many_67 dX1_many_68 (by decide) (fun hc => ?_) (fun hc => ?_)
    · replace h := h.1 hc
      refine g_iinc C 3 (x3 + 1) (lt := [(3, .int (x3 + 1)), (0, .ref (xa K 0)), (1, .int x1), (2, .int x2)]) rfl rfl dX1_many_73 (by decide) rfl ?_
      refine g_goto C 24 dX1_many_76 (by decide) ?_
      refine g_sub [1, 2, 3, 0] rfl ?_
      exact hr24 x1 x2 (x3 + 1) w4 L5 h
    · replace h := h.2 hc
      refine g_iload_n C 3 rfl dX1_many_71 ?_
      exact ret _ _ _ _ _ rfl rfl dX1_many_72 ⟨_, _, rfl, h⟩
theorem k_X1_many_24 {Γ : gT} {K : gK} {N : Nat} {post : Int32 → Wd → va_W → Prop} (C : gC Γ K RX1 cX1_many 4 rm_X1_many) (ret : gRi Γ K cX1_many (some .int) (xPi K post) 0 0) : ∀ (n : Nat) (x1 : Int32) (x2 : Int32) (x3 : Int32) (w : Wd) (L : va_W) (h : B_X1_many_24 N post n x1 x2 x3 w L), gJ Γ K 0 0 (xL K w ++ L) 24 [(0, .ref (xa K 0)), (1, .int x1), (2, .int x2), (3, .int x3)] [] := by
  intro n
  induction n with
  | zero => intro x1 x2 x3 w L h; exact h.elim
  | succ n ih => intro x1 x2 x3 w L h; exact k_X1_many_24s C ret ih x1 x2 x3 w L h
def B_X1_many_0 (N : Nat) (post : Int32 → Wd → va_W → Prop) (x1 : Int32) (x2 : Int32) (w : Wd) (L : va_W) : Prop :=
  B_X1_in N x1 1 9 (fun (v3 : Int32) (w1 : Wd) (L2 : va_W) =>
  (v3 = 0 →
    B_X1_many_20 N post w1 L2) ∧
  (¬ v3 = 0 →
    B_X1_in N x2 0 100 (fun (v6 : Int32) (w4 : Wd) (L5 : va_W) =>
  (v6 = 0 →
      B_X1_many_20 N post w4 L5) ∧
    (¬ v6 = 0 →
      B_X1_many_24 N post N x1 x2 1 w4 L5)) w1 L2)) w L
set_option maxHeartbeats 4000000 in
theorem k_X1_many_0 {Γ : gT} {K : gK} {N : Nat} {post : Int32 → Wd → va_W → Prop} (C : gC Γ K RX1 cX1_many 4 rm_X1_many) (ret : gRi Γ K cX1_many (some .int) (xPi K post) 0 0) (x1 : Int32) (x2 : Int32) (w : Wd) (L : va_W) (h : B_X1_many_0 N post x1 x2 w L) : gJ Γ K 0 0 (xL K w ++ L) 0 [(0, .ref (xa K 0)), (1, .int x1), (2, .int x2)] [] := by
  unfold B_X1_many_0 at h
  refine g_iload_n C 1 rfl dX1_many_0 ?_
  refine g_iconst C 1 (by decide) dX1_many_1 ?_
  refine g_bipush C 9 (by decide) dX1_many_2 ?_
  refine g_callSi C (As := [.int x1, .int 1, .int 9]) (rest := []) (m_X1_in h) (Cn := "") (b := 0) (lw_S q657 q658 q78 q659) ⟨rfl, rfl⟩ ⟨Nat.le_of_ble_eq_true rfl, Nat.le_of_ble_eq_true rfl⟩ 3 rfl (by decide +kernel) rfl (Nat.le_of_ble_eq_true rfl) ⟨Nat.zero_le _, Nat.zero_le _⟩ dX1_many_4 ?_
  rintro v3 _ ⟨w1, L2, rfl, h⟩
  refine g_if_eq C 20 dX1_many_7 (by decide) (fun hc => ?_) (fun hc => ?_)
  · replace h := h.1 hc
    refine g_sub [] rfl ?_
    exact k_X1_many_20 C ret w1 L2 h
  · replace h := h.2 hc
    refine g_iload_n C 2 rfl dX1_many_10 ?_
    refine g_iconst C 0 (by decide) dX1_many_11 ?_
    refine g_bipush C 100 (by decide) dX1_many_12 ?_
    refine g_callSi C (As := [.int x2, .int 0, .int 100]) (rest := []) (m_X1_in h) (Cn := "") (b := 0) (lw_S q657 q658 q78 q659) ⟨rfl, rfl⟩ ⟨Nat.le_of_ble_eq_true rfl, Nat.le_of_ble_eq_true rfl⟩ 3 rfl (by decide +kernel) rfl (Nat.le_of_ble_eq_true rfl) ⟨Nat.zero_le _, Nat.zero_le _⟩ dX1_many_14 ?_
    rintro v6 _ ⟨w4, L5, rfl, h⟩
    refine g_if_ne C 22 dX1_many_17 (by decide) (fun hc => ?_) (fun hc => ?_)
    · replace h := h.2 hc
      refine g_iconst C 1 (by decide) dX1_many_22 ?_
      refine g_istore_n C rfl (lt := [(3, .int 1), (0, .ref (xa K 0)), (1, .int x1), (2, .int x2)]) dX1_many_23 (by decide) rfl ?_
      refine g_sub [1, 2, 3, 0] rfl ?_
      exact k_X1_many_24 C ret N x1 x2 1 w4 L5 h
    · replace h := h.1 hc
      refine g_sub [] rfl ?_
      exact k_X1_many_20 C ret w4 L5 h
def B_X1_many (N : Nat) (x1 : Int32) (x2 : Int32) (post : Int32 → Wd → va_W → Prop) (w : Wd) (L : va_W) : Prop := B_X1_many_0 N post x1 x2 w L
theorem m_X1_many {l : Launch} {K : gK} {N : Nat} {post : Int32 → Wd → va_W → Prop} {x1 : Int32} {x2 : Int32} {w : Wd} {L : va_W} (h : B_X1_many N x1 x2 post w L) : gMi l K yX1_many cX1_many 4 (some .int) rm_X1_many [.ref (xa K 0), .int x1, .int x2] (xL K w ++ L) (xPi K post) 0 0 := by
  refine g_inI (ls0 := [(0, .ref (xa K 0)), (1, .int x1), (2, .int x2)]) (by decide) (Nat.le_of_ble_eq_true rfl) rfl (fun Γ hl C hn ret => ?_)
  exact k_X1_many_0 C ret x1 x2 w L h
def rm_X1_note : Room := { frames := 1, cells := 0, slots := 0, locals := 22 }
def B_X1_note_39 (N : Nat) (post : Int32 → Wd → va_W → Prop) (w : Wd) (L : va_W) : Prop :=
  post (-1) w L
set_option maxHeartbeats 4000000 in
theorem k_X1_note_39 {Γ : gT} {K : gK} {N : Nat} {post : Int32 → Wd → va_W → Prop} (C : gC Γ K RX1 cX1_note 4 rm_X1_note) (ret : gRi Γ K cX1_note (some .int) (xPi K post) 0 0) (w : Wd) (L : va_W) (h : B_X1_note_39 N post w L) : gJ Γ K 0 0 (xL K w ++ L) 39 [] [] := by
  unfold B_X1_note_39 at h
  refine g_iconst C (-1) (by decide) dX1_note_39 ?_
  exact ret _ _ _ _ _ rfl rfl dX1_note_40 ⟨_, _, rfl, h⟩
def B_X1_note_0 (N : Nat) (post : Int32 → Wd → va_W → Prop) (x1 : Int32) (x2 : Int32) (x3 : Int32) (w : Wd) (L : va_W) : Prop :=
  B_X1_in N x1 0 24 (fun (v3 : Int32) (w1 : Wd) (L2 : va_W) =>
  (v3 = 0 →
    B_X1_note_39 N post w1 L2) ∧
  (¬ v3 = 0 →
    B_X1_in N x2 0 24 (fun (v6 : Int32) (w4 : Wd) (L5 : va_W) =>
  (v6 = 0 →
      B_X1_note_39 N post w4 L5) ∧
    (¬ v6 = 0 →
      B_X1_in N x3 0 24 (fun (v9 : Int32) (w7 : Wd) (L8 : va_W) =>
  (v9 = 0 →
        B_X1_note_39 N post w7 L8) ∧
      (¬ v9 = 0 →
        ((xi w7 7) = (12 : Int32) →
          B_X1_note_39 N post w7 L8) ∧
        (¬ (xi w7 7) = (12 : Int32) →
          vp_in (xi w7 7) 12 ∧ ∀ w10 : Wd, w10 = (xsA w7 11 (xi w7 7).toNatClampNeg x1) → vp_in (xi w10 7) 12 ∧ ∀ w11 : Wd, w11 = (xsA w10 12 (xi w10 7).toNatClampNeg x2) → vp_in (xi w11 7) 12 ∧ ∀ w12 : Wd, w12 = (xsA w11 13 (xi w11 7).toNatClampNeg x3) → post ((xi w12 7) + 1) (xsi w12 7 ((xi w12 7) + 1)) L8))) w4 L5)) w1 L2)) w L
set_option maxHeartbeats 4000000 in
theorem k_X1_note_0 {Γ : gT} {K : gK} {N : Nat} {post : Int32 → Wd → va_W → Prop} (C : gC Γ K RX1 cX1_note 4 rm_X1_note) (ret : gRi Γ K cX1_note (some .int) (xPi K post) 0 0) (x1 : Int32) (x2 : Int32) (x3 : Int32) (w : Wd) (L : va_W) (h : B_X1_note_0 N post x1 x2 x3 w L) : gJ Γ K 0 0 (xL K w ++ L) 0 [(0, .ref (xa K 0)), (1, .int x1), (2, .int x2), (3, .int x3)] [] := by
  unfold B_X1_note_0 at h
  refine g_iload_n C 1 rfl dX1_note_0 ?_
  refine g_iconst C 0 (by decide) dX1_note_1 ?_
  refine g_bipush C 24 (by decide) dX1_note_2 ?_
  refine g_callSi C (As := [.int x1, .int 0, .int 24]) (rest := []) (m_X1_in h) (Cn := "") (b := 0) (lw_S q657 q658 q78 q659) ⟨rfl, rfl⟩ ⟨Nat.le_of_ble_eq_true rfl, Nat.le_of_ble_eq_true rfl⟩ 3 rfl (by decide +kernel) rfl (Nat.le_of_ble_eq_true rfl) ⟨Nat.zero_le _, Nat.zero_le _⟩ dX1_note_4 ?_
  rintro v3 _ ⟨w1, L2, rfl, h⟩
  refine g_if_eq C 39 dX1_note_7 (by decide) (fun hc => ?_) (fun hc => ?_)
  · replace h := h.1 hc
    refine g_sub [] rfl ?_
    exact k_X1_note_39 C ret w1 L2 h
  · replace h := h.2 hc
    refine g_iload_n C 2 rfl dX1_note_10 ?_
    refine g_iconst C 0 (by decide) dX1_note_11 ?_
    refine g_bipush C 24 (by decide) dX1_note_12 ?_
    refine g_callSi C (As := [.int x2, .int 0, .int 24]) (rest := []) (m_X1_in h) (Cn := "") (b := 0) (lw_S q657 q658 q78 q659) ⟨rfl, rfl⟩ ⟨Nat.le_of_ble_eq_true rfl, Nat.le_of_ble_eq_true rfl⟩ 3 rfl (by decide +kernel) rfl (Nat.le_of_ble_eq_true rfl) ⟨Nat.zero_le _, Nat.zero_le _⟩ dX1_note_14 ?_
    rintro v6 _ ⟨w4, L5, rfl, h⟩
    refine g_if_eq C 39 dX1_note_17 (by decide) (fun hc => ?_) (fun hc => ?_)
    · replace h := h.1 hc
      refine g_sub [] rfl ?_
      exact k_X1_note_39 C ret w4 L5 h
    · replace h := h.2 hc
      refine g_iload_n C 3 rfl dX1_note_20 ?_
      refine g_iconst C 0 (by decide) dX1_note_21 ?_
      refine g_bipush C 24 (by decide) dX1_note_22 ?_
      refine g_callSi C (As := [.int x3, .int 0, .int 24]) (rest := []) (m_X1_in h) (Cn := "") (b := 0) (lw_S q657 q658 q78 q659) ⟨rfl, rfl⟩ ⟨Nat.le_of_ble_eq_true rfl, Nat.le_of_ble_eq_true rfl⟩ 3 rfl (by decide +kernel) rfl (Nat.le_of_ble_eq_true rfl) ⟨Nat.zero_le _, Nat.zero_le _⟩ dX1_note_24 ?_
      rintro v9 _ ⟨w7, L8, rfl, h⟩
      refine g_if_eq C 39 dX1_note_27 (by decide) (fun hc => ?_) (fun hc => ?_)
      · replace h := h.1 hc
        refine g_sub [] rfl ?_
        exact k_X1_note_39 C ret w7 L8 h
      · replace h := h.2 hc
        refine g_aload_n C 0 rfl dX1_note_30 ?_
        refine xg_notes C q298 (xi w7 7) rfl dX1_note_31 ?_
        refine g_bipush C 12 (by decide) dX1_note_34 ?_
        refine g_icmp_ne C 41 dX1_note_36 (by decide) (fun hc => ?_) (fun hc => ?_)
        · replace h := h.2 hc
          refine g_aload_n C 0 rfl dX1_note_41 ?_
          refine xg_noteMonth C q293 dX1_note_42 ?_
          refine g_aload_n C 0 rfl dX1_note_45 ?_
          refine xg_notes C q298 (xi w7 7) rfl dX1_note_46 ?_
          refine g_iload_n C 1 rfl dX1_note_49 ?_
          obtain ⟨hb, h⟩ := h
          refine xst_11 C hb dX1_note_50 ?_
          obtain ⟨w10, ew10⟩ : ∃ z, z = (xsA w7 11 (xi w7 7).toNatClampNeg x1) := ⟨_, rfl⟩
          replace h := h w10 ew10
          rw [← ew10]
          refine g_aload_n C 0 rfl dX1_note_51 ?_
          refine xg_noteThere C q294 dX1_note_52 ?_
          refine g_aload_n C 0 rfl dX1_note_55 ?_
          refine xg_notes C q298 (xi w10 7) rfl dX1_note_56 ?_
          refine g_iload_n C 2 rfl dX1_note_59 ?_
          obtain ⟨hb, h⟩ := h
          refine xst_12 C hb dX1_note_60 ?_
          obtain ⟨w11, ew11⟩ : ∃ z, z = (xsA w10 12 (xi w10 7).toNatClampNeg x2) := ⟨_, rfl⟩
          replace h := h w11 ew11
          rw [← ew11]
          refine g_aload_n C 0 rfl dX1_note_61 ?_
          refine xg_noteOff C q295 dX1_note_62 ?_
          refine g_aload_n C 0 rfl dX1_note_65 ?_
          refine xg_notes C q298 (xi w11 7) rfl dX1_note_66 ?_
          refine g_iload_n C 3 rfl dX1_note_69 ?_
          obtain ⟨hb, h⟩ := h
          refine xst_13 C hb dX1_note_70 ?_
          obtain ⟨w12, ew12⟩ : ∃ z, z = (xsA w11 13 (xi w11 7).toNatClampNeg x3) := ⟨_, rfl⟩
          replace h := h w12 ew12
          rw [← ew12]
          refine g_aload_n C 0 rfl dX1_note_71 ?_
          refine g_dup C rfl dX1_note_72 ?_
          refine xg_notes C q298 (xi w12 7) rfl dX1_note_73 ?_
          refine g_iconst C 1 (by decide) dX1_note_76 ?_
          refine g_iadd C dX1_note_77 ?_
          refine xp_notes C q298 dX1_note_78 ?_
          refine g_aload_n C 0 rfl dX1_note_81 ?_
          refine xg_notes C q298 (((xi w12 7) + 1)) rfl dX1_note_82 ?_
          exact ret _ _ _ _ _ rfl rfl dX1_note_85 ⟨_, _, rfl, h⟩
        · replace h := h.1 hc
          refine g_sub [] rfl ?_
          exact k_X1_note_39 C ret w7 L8 h
def B_X1_note (N : Nat) (x1 : Int32) (x2 : Int32) (x3 : Int32) (post : Int32 → Wd → va_W → Prop) (w : Wd) (L : va_W) : Prop := B_X1_note_0 N post x1 x2 x3 w L
theorem m_X1_note {l : Launch} {K : gK} {N : Nat} {post : Int32 → Wd → va_W → Prop} {x1 : Int32} {x2 : Int32} {x3 : Int32} {w : Wd} {L : va_W} (h : B_X1_note N x1 x2 x3 post w L) : gMi l K yX1_note cX1_note 4 (some .int) rm_X1_note [.ref (xa K 0), .int x1, .int x2, .int x3] (xL K w ++ L) (xPi K post) 0 0 := by
  refine g_inI (ls0 := [(0, .ref (xa K 0)), (1, .int x1), (2, .int x2), (3, .int x3)]) (by decide) (Nat.le_of_ble_eq_true rfl) rfl (fun Γ hl C hn ret => ?_)
  exact k_X1_note_0 C ret x1 x2 x3 w L h
def rm_X1_trial : Room := { frames := 1, cells := 0, slots := 0, locals := 22 }
def B_X1_trial_29 (N : Nat) (post : Int32 → Wd → va_W → Prop) (w : Wd) (L : va_W) : Prop :=
  post (-1) w L
set_option maxHeartbeats 4000000 in
theorem k_X1_trial_29 {Γ : gT} {K : gK} {N : Nat} {post : Int32 → Wd → va_W → Prop} (C : gC Γ K RX1 cX1_trial 3 rm_X1_trial) (ret : gRi Γ K cX1_trial (some .int) (xPi K post) 0 0) (w : Wd) (L : va_W) (h : B_X1_trial_29 N post w L) : gJ Γ K 0 0 (xL K w ++ L) 29 [] [] := by
  unfold B_X1_trial_29 at h
  refine g_iconst C (-1) (by decide) dX1_trial_29 ?_
  exact ret _ _ _ _ _ rfl rfl dX1_trial_30 ⟨_, _, rfl, h⟩
def B_X1_trial_0 (N : Nat) (post : Int32 → Wd → va_W → Prop) (x1 : Int32) (x2 : Int32) (w : Wd) (L : va_W) : Prop :=
  B_X1_in N x1 1 16 (fun (v3 : Int32) (w1 : Wd) (L2 : va_W) =>
  (v3 = 0 →
    B_X1_trial_29 N post w1 L2) ∧
  (¬ v3 = 0 →
    B_X1_in N x2 1 24 (fun (v6 : Int32) (w4 : Wd) (L5 : va_W) =>
  (v6 = 0 →
      B_X1_trial_29 N post w4 L5) ∧
    (¬ v6 = 0 →
      ((xi w4 8) = (6 : Int32) →
        B_X1_trial_29 N post w4 L5) ∧
      (¬ (xi w4 8) = (6 : Int32) →
        vp_in (xi w4 8) 6 ∧ ∀ w7 : Wd, w7 = (xsA w4 14 (xi w4 8).toNatClampNeg x1) → vp_in (xi w7 8) 6 ∧ ∀ w8 : Wd, w8 = (xsA w7 15 (xi w7 8).toNatClampNeg x2) → post (((xi w8 8) + 1) - 1) (xsi w8 8 ((xi w8 8) + 1)) L5))) w1 L2)) w L
set_option maxHeartbeats 4000000 in
theorem k_X1_trial_0 {Γ : gT} {K : gK} {N : Nat} {post : Int32 → Wd → va_W → Prop} (C : gC Γ K RX1 cX1_trial 3 rm_X1_trial) (ret : gRi Γ K cX1_trial (some .int) (xPi K post) 0 0) (x1 : Int32) (x2 : Int32) (w : Wd) (L : va_W) (h : B_X1_trial_0 N post x1 x2 w L) : gJ Γ K 0 0 (xL K w ++ L) 0 [(0, .ref (xa K 0)), (1, .int x1), (2, .int x2)] [] := by
  unfold B_X1_trial_0 at h
  refine g_iload_n C 1 rfl dX1_trial_0 ?_
  refine g_iconst C 1 (by decide) dX1_trial_1 ?_
  refine g_bipush C 16 (by decide) dX1_trial_2 ?_
  refine g_callSi C (As := [.int x1, .int 1, .int 16]) (rest := []) (m_X1_in h) (Cn := "") (b := 0) (lw_S q657 q658 q78 q659) ⟨rfl, rfl⟩ ⟨Nat.le_of_ble_eq_true rfl, Nat.le_of_ble_eq_true rfl⟩ 3 rfl (by decide +kernel) rfl (Nat.le_of_ble_eq_true rfl) ⟨Nat.zero_le _, Nat.zero_le _⟩ dX1_trial_4 ?_
  rintro v3 _ ⟨w1, L2, rfl, h⟩
  refine g_if_eq C 29 dX1_trial_7 (by decide) (fun hc => ?_) (fun hc => ?_)
  · replace h := h.1 hc
    refine g_sub [] rfl ?_
    exact k_X1_trial_29 C ret w1 L2 h
  · replace h := h.2 hc
    refine g_iload_n C 2 rfl dX1_trial_10 ?_
    refine g_iconst C 1 (by decide) dX1_trial_11 ?_
    refine g_bipush C 24 (by decide) dX1_trial_12 ?_
    refine g_callSi C (As := [.int x2, .int 1, .int 24]) (rest := []) (m_X1_in h) (Cn := "") (b := 0) (lw_S q657 q658 q78 q659) ⟨rfl, rfl⟩ ⟨Nat.le_of_ble_eq_true rfl, Nat.le_of_ble_eq_true rfl⟩ 3 rfl (by decide +kernel) rfl (Nat.le_of_ble_eq_true rfl) ⟨Nat.zero_le _, Nat.zero_le _⟩ dX1_trial_14 ?_
    rintro v6 _ ⟨w4, L5, rfl, h⟩
    refine g_if_eq C 29 dX1_trial_17 (by decide) (fun hc => ?_) (fun hc => ?_)
    · replace h := h.1 hc
      refine g_sub [] rfl ?_
      exact k_X1_trial_29 C ret w4 L5 h
    · replace h := h.2 hc
      refine g_aload_n C 0 rfl dX1_trial_20 ?_
      refine xg_trials C q299 (xi w4 8) rfl dX1_trial_21 ?_
      refine g_bipush C 6 (by decide) dX1_trial_24 ?_
      refine g_icmp_ne C 31 dX1_trial_26 (by decide) (fun hc => ?_) (fun hc => ?_)
      · replace h := h.2 hc
        refine g_aload_n C 0 rfl dX1_trial_31 ?_
        refine xg_trialAnimals C q296 dX1_trial_32 ?_
        refine g_aload_n C 0 rfl dX1_trial_35 ?_
        refine xg_trials C q299 (xi w4 8) rfl dX1_trial_36 ?_
        refine g_iload_n C 1 rfl dX1_trial_39 ?_
        obtain ⟨hb, h⟩ := h
        refine xst_14 C hb dX1_trial_40 ?_
        obtain ⟨w7, ew7⟩ : ∃ z, z = (xsA w4 14 (xi w4 8).toNatClampNeg x1) := ⟨_, rfl⟩
        replace h := h w7 ew7
        rw [← ew7]
        refine g_aload_n C 0 rfl dX1_trial_41 ?_
        refine xg_trialMonths C q297 dX1_trial_42 ?_
        refine g_aload_n C 0 rfl dX1_trial_45 ?_
        refine xg_trials C q299 (xi w7 8) rfl dX1_trial_46 ?_
        refine g_iload_n C 2 rfl dX1_trial_49 ?_
        obtain ⟨hb, h⟩ := h
        refine xst_15 C hb dX1_trial_50 ?_
        obtain ⟨w8, ew8⟩ : ∃ z, z = (xsA w7 15 (xi w7 8).toNatClampNeg x2) := ⟨_, rfl⟩
        replace h := h w8 ew8
        rw [← ew8]
        refine g_aload_n C 0 rfl dX1_trial_51 ?_
        refine g_dup C rfl dX1_trial_52 ?_
        refine xg_trials C q299 (xi w8 8) rfl dX1_trial_53 ?_
        refine g_iconst C 1 (by decide) dX1_trial_56 ?_
        refine g_iadd C dX1_trial_57 ?_
        refine xp_trials C q299 dX1_trial_58 ?_
        refine g_aload_n C 0 rfl dX1_trial_61 ?_
        refine xg_trials C q299 (((xi w8 8) + 1)) rfl dX1_trial_62 ?_
        refine g_iconst C 1 (by decide) dX1_trial_65 ?_
        refine g_isub C dX1_trial_66 ?_
        exact ret _ _ _ _ _ rfl rfl dX1_trial_67 ⟨_, _, rfl, h⟩
      · replace h := h.1 hc
        refine g_sub [] rfl ?_
        exact k_X1_trial_29 C ret w4 L5 h
def B_X1_trial (N : Nat) (x1 : Int32) (x2 : Int32) (post : Int32 → Wd → va_W → Prop) (w : Wd) (L : va_W) : Prop := B_X1_trial_0 N post x1 x2 w L
theorem m_X1_trial {l : Launch} {K : gK} {N : Nat} {post : Int32 → Wd → va_W → Prop} {x1 : Int32} {x2 : Int32} {w : Wd} {L : va_W} (h : B_X1_trial N x1 x2 post w L) : gMi l K yX1_trial cX1_trial 3 (some .int) rm_X1_trial [.ref (xa K 0), .int x1, .int x2] (xL K w ++ L) (xPi K post) 0 0 := by
  refine g_inI (ls0 := [(0, .ref (xa K 0)), (1, .int x1), (2, .int x2)]) (by decide) (Nat.le_of_ble_eq_true rfl) rfl (fun Γ hl C hn ret => ?_)
  exact k_X1_trial_0 C ret x1 x2 w L h
def rm_X1_isTrial : Room := { frames := 1, cells := 0, slots := 0, locals := 22 }
def B_X1_isTrial_0 (N : Nat) (post : Int32 → Wd → va_W → Prop) (x1 : Int32) (w : Wd) (L : va_W) : Prop :=
  B_X1_in N x1 0 ((xi w 8) - 1) (fun (v3 : Int32) (w1 : Wd) (L2 : va_W) =>
  gZ v3 ∧ post v3 w1 L2) w L
set_option maxHeartbeats 4000000 in
theorem k_X1_isTrial_0 {Γ : gT} {K : gK} {N : Nat} {post : Int32 → Wd → va_W → Prop} (C : gC Γ K RX1 cX1_isTrial 2 rm_X1_isTrial) (ret : gRi Γ K cX1_isTrial (some .boolean) (xPi K post) 0 0) (x1 : Int32) (w : Wd) (L : va_W) (h : B_X1_isTrial_0 N post x1 w L) : gJ Γ K 0 0 (xL K w ++ L) 0 [(0, .ref (xa K 0)), (1, .int x1)] [] := by
  unfold B_X1_isTrial_0 at h
  refine g_iload_n C 1 rfl dX1_isTrial_0 ?_
  refine g_iconst C 0 (by decide) dX1_isTrial_1 ?_
  refine g_aload_n C 0 rfl dX1_isTrial_2 ?_
  refine xg_trials C q299 (xi w 8) rfl dX1_isTrial_3 ?_
  refine g_iconst C 1 (by decide) dX1_isTrial_6 ?_
  refine g_isub C dX1_isTrial_7 ?_
  refine g_callSi C (As := [.int x1, .int 0, .int ((xi w 8) - 1)]) (rest := []) (m_X1_in h) (Cn := "") (b := 0) (lw_S q657 q658 q78 q659) ⟨rfl, rfl⟩ ⟨Nat.le_of_ble_eq_true rfl, Nat.le_of_ble_eq_true rfl⟩ 3 rfl (by decide +kernel) rfl (Nat.le_of_ble_eq_true rfl) ⟨Nat.zero_le _, Nat.zero_le _⟩ dX1_isTrial_8 ?_
  rintro v3 _ ⟨w1, L2, rfl, h⟩
  obtain ⟨hz, h⟩ := h
  exact ret _ _ _ _ _ rfl hz.n dX1_isTrial_11 ⟨_, _, rfl, h⟩
def B_X1_isTrial (N : Nat) (x1 : Int32) (post : Int32 → Wd → va_W → Prop) (w : Wd) (L : va_W) : Prop := B_X1_isTrial_0 N post x1 w L
theorem m_X1_isTrial {l : Launch} {K : gK} {N : Nat} {post : Int32 → Wd → va_W → Prop} {x1 : Int32} {w : Wd} {L : va_W} (h : B_X1_isTrial N x1 post w L) : gMi l K yX1_isTrial cX1_isTrial 2 (some .boolean) rm_X1_isTrial [.ref (xa K 0), .int x1] (xL K w ++ L) (xPi K post) 0 0 := by
  refine g_inI (ls0 := [(0, .ref (xa K 0)), (1, .int x1)]) (by decide) (Nat.le_of_ble_eq_true rfl) rfl (fun Γ hl C hn ret => ?_)
  exact k_X1_isTrial_0 C ret x1 w L h
def rm_X1_areLaws : Room := { frames := 0, cells := 0, slots := 0, locals := 0 }
def B_X1_areLaws_18 (N : Nat) (post : Int32 → Wd → va_W → Prop) (s0 : Int32) (w : Wd) (L : va_W) : Prop :=
  gZ s0 ∧ post s0 w L
set_option maxHeartbeats 4000000 in
theorem k_X1_areLaws_18 {Γ : gT} {K : gK} {N : Nat} {post : Int32 → Wd → va_W → Prop} (C : gC Γ K RX1 cX1_areLaws 2 rm_X1_areLaws) (ret : gRi Γ K cX1_areLaws (some .boolean) (xPi K post) 0 0) (s0 : Int32) (w : Wd) (L : va_W) (h : B_X1_areLaws_18 N post s0 w L) : gJ Γ K 0 0 (xL K w ++ L) 18 [] [.int s0] := by
  unfold B_X1_areLaws_18 at h
  obtain ⟨hz, h⟩ := h
  exact ret _ _ _ _ _ rfl hz.n dX1_areLaws_18 ⟨_, _, rfl, h⟩
def B_X1_areLaws_17 (N : Nat) (post : Int32 → Wd → va_W → Prop) (w : Wd) (L : va_W) : Prop :=
  B_X1_areLaws_18 N post 0 w L
set_option maxHeartbeats 4000000 in
theorem k_X1_areLaws_17 {Γ : gT} {K : gK} {N : Nat} {post : Int32 → Wd → va_W → Prop} (C : gC Γ K RX1 cX1_areLaws 2 rm_X1_areLaws) (ret : gRi Γ K cX1_areLaws (some .boolean) (xPi K post) 0 0) (w : Wd) (L : va_W) (h : B_X1_areLaws_17 N post w L) : gJ Γ K 0 0 (xL K w ++ L) 17 [] [] := by
  unfold B_X1_areLaws_17 at h
  refine g_iconst C 0 (by decide) dX1_areLaws_17 ?_
  exact k_X1_areLaws_18 C ret 0 w L h
def B_X1_areLaws_0 (N : Nat) (post : Int32 → Wd → va_W → Prop) (x1 : Int32) (w : Wd) (L : va_W) : Prop :=
  (x1 < 0 →
    B_X1_areLaws_17 N post w L) ∧
  (¬ x1 < 0 →
    ((x1 >>> ((xi w 3) &&& 31)) = 0 →
      B_X1_areLaws_18 N post 1 w L) ∧
    (¬ (x1 >>> ((xi w 3) &&& 31)) = 0 →
      B_X1_areLaws_17 N post w L))
set_option maxHeartbeats 4000000 in
theorem k_X1_areLaws_0 {Γ : gT} {K : gK} {N : Nat} {post : Int32 → Wd → va_W → Prop} (C : gC Γ K RX1 cX1_areLaws 2 rm_X1_areLaws) (ret : gRi Γ K cX1_areLaws (some .boolean) (xPi K post) 0 0) (x1 : Int32) (w : Wd) (L : va_W) (h : B_X1_areLaws_0 N post x1 w L) : gJ Γ K 0 0 (xL K w ++ L) 0 [(0, .ref (xa K 0)), (1, .int x1)] [] := by
  unfold B_X1_areLaws_0 at h
  refine g_iload_n C 1 rfl dX1_areLaws_0 ?_
  refine g_if_lt C 17 dX1_areLaws_1 (by decide) (fun hc => ?_) (fun hc => ?_)
  · replace h := h.1 hc
    refine g_sub [] rfl ?_
    exact k_X1_areLaws_17 C ret w L h
  · replace h := h.2 hc
    refine g_iload_n C 1 rfl dX1_areLaws_4 ?_
    refine g_aload_n C 0 rfl dX1_areLaws_5 ?_
    refine xg_lawMany C q278 (xi w 3) rfl dX1_areLaws_6 ?_
    refine g_ishr C dX1_areLaws_9 ?_
    refine g_if_ne C 17 dX1_areLaws_10 (by decide) (fun hc => ?_) (fun hc => ?_)
    · replace h := h.2 hc
      refine g_sub [] rfl ?_
      exact k_X1_areLaws_17 C ret w L h
    · replace h := h.1 hc
      refine g_iconst C 1 (by decide) dX1_areLaws_13 ?_
      refine g_goto C 18 dX1_areLaws_14 (by decide) ?_
      refine g_sub [] rfl ?_
      exact k_X1_areLaws_18 C ret 1 w L h
def B_X1_areLaws (N : Nat) (x1 : Int32) (post : Int32 → Wd → va_W → Prop) (w : Wd) (L : va_W) : Prop := B_X1_areLaws_0 N post x1 w L
theorem m_X1_areLaws {l : Launch} {K : gK} {N : Nat} {post : Int32 → Wd → va_W → Prop} {x1 : Int32} {w : Wd} {L : va_W} (h : B_X1_areLaws N x1 post w L) : gMi l K yX1_areLaws cX1_areLaws 2 (some .boolean) rm_X1_areLaws [.ref (xa K 0), .int x1] (xL K w ++ L) (xPi K post) 0 0 := by
  refine g_inI (ls0 := [(0, .ref (xa K 0)), (1, .int x1)]) (by decide) (Nat.le_of_ble_eq_true rfl) rfl (fun Γ hl C hn ret => ?_)
  exact k_X1_areLaws_0 C ret x1 w L h
def rm_X1_count : Room := { frames := 0, cells := 0, slots := 0, locals := 0 }
def B_X1_count_0 (N : Nat) (post : Int32 → Wd → va_W → Prop) (x1 : Int32) (w : Wd) (L : va_W) : Prop :=
  (x1 = 0 →
    post (xi w 3) w L) ∧
  (¬ x1 = 0 →
  (x1 = 1 →
    post (xi w 4) w L) ∧
  (¬ x1 = 1 →
  (x1 = 2 →
    post (xi w 7) w L) ∧
  (¬ x1 = 2 →
  (x1 = 3 →
    post (xi w 8) w L) ∧
  (¬ x1 = 3 →
  (x1 = 4 →
    post (xi w 0) w L) ∧
  (¬ x1 = 4 →
  (x1 = 5 →
    post (xi w 5) w L) ∧
  (¬ x1 = 5 →
  (x1 = 6 →
    post (xi w 6) w L) ∧
  (¬ x1 = 6 →
  post (-1000) w L)))))))
set_option maxHeartbeats 4000000 in
theorem k_X1_count_0 {Γ : gT} {K : gK} {N : Nat} {post : Int32 → Wd → va_W → Prop} (C : gC Γ K RX1 cX1_count 2 rm_X1_count) (ret : gRi Γ K cX1_count (some .int) (xPi K post) 0 0) (x1 : Int32) (w : Wd) (L : va_W) (h : B_X1_count_0 N post x1 w L) : gJ Γ K 0 0 (xL K w ++ L) 0 [(0, .ref (xa K 0)), (1, .int x1)] [] := by
  unfold B_X1_count_0 at h
  refine g_iload_n C 1 rfl dX1_count_0 ?_
  by_cases hc0 : x1 = 0
  · replace h := h.1 hc0
    refine g_tableIn C 44 dX1_count_1 (n := 0) (by rw [hc0]; decide) (by decide) (by decide) rfl (by decide) ?_
    refine g_aload_n C 0 rfl dX1_count_44 ?_
    refine xg_lawMany C q278 (xi w 3) rfl dX1_count_45 ?_
    exact ret _ _ _ _ _ rfl rfl dX1_count_48 ⟨_, _, rfl, h⟩
  · replace h := h.2 hc0
    by_cases hc1 : x1 = 1
    · replace h := h.1 hc1
      refine g_tableIn C 49 dX1_count_1 (n := 1) (by rw [hc1]; decide) (by decide) (by decide) rfl (by decide) ?_
      refine g_aload_n C 0 rfl dX1_count_49 ?_
      refine xg_animals C q283 (xi w 4) rfl dX1_count_50 ?_
      exact ret _ _ _ _ _ rfl rfl dX1_count_53 ⟨_, _, rfl, h⟩
    · replace h := h.2 hc1
      by_cases hc2 : x1 = 2
      · replace h := h.1 hc2
        refine g_tableIn C 54 dX1_count_1 (n := 2) (by rw [hc2]; decide) (by decide) (by decide) rfl (by decide) ?_
        refine g_aload_n C 0 rfl dX1_count_54 ?_
        refine xg_notes C q298 (xi w 7) rfl dX1_count_55 ?_
        exact ret _ _ _ _ _ rfl rfl dX1_count_58 ⟨_, _, rfl, h⟩
      · replace h := h.2 hc2
        by_cases hc3 : x1 = 3
        · replace h := h.1 hc3
          refine g_tableIn C 59 dX1_count_1 (n := 3) (by rw [hc3]; decide) (by decide) (by decide) rfl (by decide) ?_
          refine g_aload_n C 0 rfl dX1_count_59 ?_
          refine xg_trials C q299 (xi w 8) rfl dX1_count_60 ?_
          exact ret _ _ _ _ _ rfl rfl dX1_count_63 ⟨_, _, rfl, h⟩
        · replace h := h.2 hc3
          by_cases hc4 : x1 = 4
          · replace h := h.1 hc4
            refine g_tableIn C 64 dX1_count_1 (n := 4) (by rw [hc4]; decide) (by decide) (by decide) rfl (by decide) ?_
            refine g_aload_n C 0 rfl dX1_count_64 ?_
            refine xg_taped C q272 (xi w 0) rfl dX1_count_65 ?_
            exact ret _ _ _ _ _ rfl rfl dX1_count_68 ⟨_, _, rfl, h⟩
          · replace h := h.2 hc4
            by_cases hc5 : x1 = 5
            · replace h := h.1 hc5
              refine g_tableIn C 69 dX1_count_1 (n := 5) (by rw [hc5]; decide) (by decide) (by decide) rfl (by decide) ?_
              refine g_aload_n C 0 rfl dX1_count_69 ?_
              refine xg_queen C q284 (xi w 5) rfl dX1_count_70 ?_
              exact ret _ _ _ _ _ rfl rfl dX1_count_73 ⟨_, _, rfl, h⟩
            · replace h := h.2 hc5
              by_cases hc6 : x1 = 6
              · replace h := h.1 hc6
                refine g_tableIn C 74 dX1_count_1 (n := 6) (by rw [hc6]; decide) (by decide) (by decide) rfl (by decide) ?_
                refine g_aload_n C 0 rfl dX1_count_74 ?_
                refine xg_mate C q286 (xi w 6) rfl dX1_count_75 ?_
                exact ret _ _ _ _ _ rfl rfl dX1_count_78 ⟨_, _, rfl, h⟩
              · replace h := h.2 hc6
                have n0 := lv_neT hc0 (a := 0) (by decide)
                have n1 := lv_neT hc1 (a := 1) (by decide)
                have n2 := lv_neT hc2 (a := 2) (by decide)
                have n3 := lv_neT hc3 (a := 3) (by decide)
                have n4 := lv_neT hc4 (a := 4) (by decide)
                have n5 := lv_neT hc5 (a := 5) (by decide)
                have n6 := lv_neT hc6 (a := 6) (by decide)
                refine g_tableOut C 79 dX1_count_1 (by omega) (by decide) ?_
                refine g_sipush C (-1000) (by decide) dX1_count_79 ?_
                exact ret _ _ _ _ _ rfl rfl dX1_count_82 ⟨_, _, rfl, h⟩
def B_X1_count (N : Nat) (x1 : Int32) (post : Int32 → Wd → va_W → Prop) (w : Wd) (L : va_W) : Prop := B_X1_count_0 N post x1 w L
theorem m_X1_count {l : Launch} {K : gK} {N : Nat} {post : Int32 → Wd → va_W → Prop} {x1 : Int32} {w : Wd} {L : va_W} (h : B_X1_count N x1 post w L) : gMi l K yX1_count cX1_count 2 (some .int) rm_X1_count [.ref (xa K 0), .int x1] (xL K w ++ L) (xPi K post) 0 0 := by
  refine g_inI (ls0 := [(0, .ref (xa K 0)), (1, .int x1)]) (by decide) (Nat.le_of_ble_eq_true rfl) rfl (fun Γ hl C hn ret => ?_)
  exact k_X1_count_0 C ret x1 w L h
