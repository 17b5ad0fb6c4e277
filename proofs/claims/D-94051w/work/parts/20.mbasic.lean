set_option maxRecDepth 100000
def rm_X5_isIn : Room := { frames := 0, cells := 0, slots := 0, locals := 0 }
def B_X5_isIn_15 (N : Nat) (post : Int32 → Wd → va_W → Prop) (s0 : Int32) (w : Wd) (L : va_W) : Prop :=
  gZ s0 ∧ post s0 w L
set_option maxHeartbeats 4000000 in
theorem k_X5_isIn_15 {Γ : gT} {K : gK} {N : Nat} {post : Int32 → Wd → va_W → Prop} (C : gC Γ K RX5 cX5_isIn 3 rm_X5_isIn) (ret : gRi Γ K cX5_isIn (some .boolean) (mPi K post) 0 0) (s0 : Int32) (w : Wd) (L : va_W) (h : B_X5_isIn_15 N post s0 w L) : gJ Γ K 0 0 (mL K w ++ L) 15 [] [.int s0] := by
  unfold B_X5_isIn_15 at h
  obtain ⟨hz, h⟩ := h
  exact ret _ _ _ _ _ rfl hz.n dX5_isIn_15 ⟨_, _, rfl, h⟩
def B_X5_isIn_14 (N : Nat) (post : Int32 → Wd → va_W → Prop) (w : Wd) (L : va_W) : Prop :=
  B_X5_isIn_15 N post 0 w L
set_option maxHeartbeats 4000000 in
theorem k_X5_isIn_14 {Γ : gT} {K : gK} {N : Nat} {post : Int32 → Wd → va_W → Prop} (C : gC Γ K RX5 cX5_isIn 3 rm_X5_isIn) (ret : gRi Γ K cX5_isIn (some .boolean) (mPi K post) 0 0) (w : Wd) (L : va_W) (h : B_X5_isIn_14 N post w L) : gJ Γ K 0 0 (mL K w ++ L) 14 [] [] := by
  unfold B_X5_isIn_14 at h
  refine g_iconst C 0 (by decide) dX5_isIn_14 ?_
  exact k_X5_isIn_15 C ret 0 w L h
def B_X5_isIn_0 (N : Nat) (post : Int32 → Wd → va_W → Prop) (x0 : Int32) (x1 : Int32) (x2 : Int32) (w : Wd) (L : va_W) : Prop :=
  (x0 < x1 →
    B_X5_isIn_14 N post w L) ∧
  (¬ x0 < x1 →
    (x2 < x0 →
      B_X5_isIn_14 N post w L) ∧
    (¬ x2 < x0 →
      B_X5_isIn_15 N post 1 w L))
set_option maxHeartbeats 4000000 in
theorem k_X5_isIn_0 {Γ : gT} {K : gK} {N : Nat} {post : Int32 → Wd → va_W → Prop} (C : gC Γ K RX5 cX5_isIn 3 rm_X5_isIn) (ret : gRi Γ K cX5_isIn (some .boolean) (mPi K post) 0 0) (x0 : Int32) (x1 : Int32) (x2 : Int32) (w : Wd) (L : va_W) (h : B_X5_isIn_0 N post x0 x1 x2 w L) : gJ Γ K 0 0 (mL K w ++ L) 0 [(0, .int x0), (1, .int x1), (2, .int x2)] [] := by
  unfold B_X5_isIn_0 at h
  refine g_iload_n C 0 rfl dX5_isIn_0 ?_
  refine g_iload_n C 1 rfl dX5_isIn_1 ?_
  refine g_icmp_lt C 14 dX5_isIn_2 (by decide) (fun hc => ?_) (fun hc => ?_)
  · replace h := h.1 hc
    refine g_sub [] rfl ?_
    exact k_X5_isIn_14 C ret w L h
  · replace h := h.2 hc
    refine g_iload_n C 0 rfl dX5_isIn_5 ?_
    refine g_iload_n C 2 rfl dX5_isIn_6 ?_
    refine g_icmp_gt C 14 dX5_isIn_7 (by decide) (fun hc => ?_) (fun hc => ?_)
    · replace h := h.1 hc
      refine g_sub [] rfl ?_
      exact k_X5_isIn_14 C ret w L h
    · replace h := h.2 hc
      refine g_iconst C 1 (by decide) dX5_isIn_10 ?_
      refine g_goto C 15 dX5_isIn_11 (by decide) ?_
      refine g_sub [] rfl ?_
      exact k_X5_isIn_15 C ret 1 w L h
def B_X5_isIn (N : Nat) (x0 : Int32) (x1 : Int32) (x2 : Int32) (post : Int32 → Wd → va_W → Prop) (w : Wd) (L : va_W) : Prop := B_X5_isIn_0 N post x0 x1 x2 w L
theorem m_X5_isIn {l : Launch} {K : gK} {N : Nat} {post : Int32 → Wd → va_W → Prop} {x0 : Int32} {x1 : Int32} {x2 : Int32} {w : Wd} {L : va_W} (h : B_X5_isIn N x0 x1 x2 post w L) : gMi l K yX5_isIn cX5_isIn 3 (some .boolean) rm_X5_isIn [.int x0, .int x1, .int x2] (mL K w ++ L) (mPi K post) 0 0 := by
  refine g_inI (ls0 := [(0, .int x0), (1, .int x1), (2, .int x2)]) (by decide) (Nat.le_of_ble_eq_true rfl) rfl (fun Γ hl C hn ret => ?_)
  exact k_X5_isIn_0 C ret x0 x1 x2 w L h
def rm_X5_bytesIn : Room := { frames := 0, cells := 0, slots := 0, locals := 0 }
def B_X5_bytesIn_25 (r5 : Int32 → Int32 → Int32 → Wd → va_W → Prop) (N : Nat) (post : Int32 → Wd → va_W → Prop) (x0 : Int32) (x2 : Int32) (s0 : Int32) (s1 : Int32) (w : Wd) (L : va_W) : Prop :=
  r5 x0 (s1 + s0) (x2 + (-8)) w L
set_option maxHeartbeats 4000000 in
theorem k_X5_bytesIn_25 {Γ : gT} {K : gK} {N : Nat} {post : Int32 → Wd → va_W → Prop} (C : gC Γ K RX5 cX5_bytesIn 3 rm_X5_bytesIn) (ret : gRi Γ K cX5_bytesIn (some .int) (mPi K post) 0 0) {r5 : Int32 → Int32 → Int32 → Wd → va_W → Prop} (hr5 : ∀ (x0 : Int32) (x1 : Int32) (x2 : Int32) (w : Wd) (L : va_W), r5 x0 x1 x2 w L → gJ Γ K 0 0 (mL K w ++ L) 5 [(0, .int x0), (1, .int x1), (2, .int x2)] []) (x0 : Int32) (x2 : Int32) (s0 : Int32) (s1 : Int32) (w : Wd) (L : va_W) (h : B_X5_bytesIn_25 r5 N post x0 x2 s0 s1 w L) : gJ Γ K 0 0 (mL K w ++ L) 25 [(0, .int x0), (2, .int x2)] [.int s0, .int s1] := by
  unfold B_X5_bytesIn_25 at h
  refine g_iadd C dX5_bytesIn_25 ?_
  refine g_istore_n C rfl (lt := [(1, .int (s1 + s0)), (0, .int x0), (2, .int x2)]) dX5_bytesIn_26 (by decide) rfl ?_
  refine g_iinc C 2 (x2 + (-8)) (lt := [(2, .int (x2 + (-8))), (1, .int (s1 + s0)), (0, .int x0)]) rfl (congrArg (fun t => x2 + t) (by decide : Int32.ofInt (-8) = (-8))) dX5_bytesIn_27 (by decide) rfl ?_
  refine g_goto C 5 dX5_bytesIn_30 (by decide) ?_
  refine g_sub [2, 1, 0] rfl ?_
  exact hr5 x0 (s1 + s0) (x2 + (-8)) w L h
def B_X5_bytesIn_5s (r5 : Int32 → Int32 → Int32 → Wd → va_W → Prop) (N : Nat) (post : Int32 → Wd → va_W → Prop) (x0 : Int32) (x1 : Int32) (x2 : Int32) (w : Wd) (L : va_W) : Prop :=
  (x2 < 0 →
    post x1 w L) ∧
  (¬ x2 < 0 →
    (((x0 >>> (x2 &&& 31)) &&& 255) = 0 →
      B_X5_bytesIn_25 r5 N post x0 x2 0 x1 w L) ∧
    (¬ ((x0 >>> (x2 &&& 31)) &&& 255) = 0 →
      B_X5_bytesIn_25 r5 N post x0 x2 1 x1 w L))
def B_X5_bytesIn_5 (N : Nat) (post : Int32 → Wd → va_W → Prop) : Nat → Int32 → Int32 → Int32 → Wd → va_W → Prop
  | 0, _, _, _, _, _ => False
  | n + 1, x0, x1, x2, w, L => B_X5_bytesIn_5s (B_X5_bytesIn_5 N post n) N post x0 x1 x2 w L
set_option maxHeartbeats 4000000 in
theorem k_X5_bytesIn_5s {Γ : gT} {K : gK} {N : Nat} {post : Int32 → Wd → va_W → Prop} (C : gC Γ K RX5 cX5_bytesIn 3 rm_X5_bytesIn) (ret : gRi Γ K cX5_bytesIn (some .int) (mPi K post) 0 0) {r5 : Int32 → Int32 → Int32 → Wd → va_W → Prop} (hr5 : ∀ (x0 : Int32) (x1 : Int32) (x2 : Int32) (w : Wd) (L : va_W), r5 x0 x1 x2 w L → gJ Γ K 0 0 (mL K w ++ L) 5 [(0, .int x0), (1, .int x1), (2, .int x2)] []) (x0 : Int32) (x1 : Int32) (x2 : Int32) (w : Wd) (L : va_W) (h : B_X5_bytesIn_5s r5 N post x0 x1 x2 w L) : gJ Γ K 0 0 (mL K w ++ L) 5 [(0, .int x0), (1, .int x1), (2, .int x2)] [] := by
  unfold B_X5_bytesIn_5s at h
  refine g_iload_n C 2 rfl dX5_bytesIn_5 ?_
  refine g_if_lt C 33 dX5_bytesIn_6 (by decide) (fun hc => ?_) (fun hc => ?_)
  · replace h := h.1 hc
    refine g_iload_n C 1 rfl dX5_bytesIn_33 ?_
    exact ret _ _ _ _ _ rfl rfl dX5_bytesIn_34 ⟨_, _, rfl, h⟩
  · replace h := h.2 hc
    refine g_iload_n C 1 rfl dX5_bytesIn_9 ?_
    refine g_iload_n C 0 rfl dX5_bytesIn_10 ?_
    refine g_iload_n C 2 rfl dX5_bytesIn_11 ?_
    refine g_ishr C dX5_bytesIn_12 ?_
    refine g_sipush C 255 (by decide) dX5_bytesIn_13 ?_
    refine g_iand C dX5_bytesIn_16 ?_
    refine g_if_eq C 24 dX5_bytesIn_17 (by decide) (fun hc => ?_) (fun hc => ?_)
    · replace h := h.1 hc
      refine g_iconst C 0 (by decide) dX5_bytesIn_24 ?_
      refine g_sub [0, 2] rfl ?_
      exact k_X5_bytesIn_25 C ret hr5 x0 x2 0 x1 w L h
    · replace h := h.2 hc
      refine g_iconst C 1 (by decide) dX5_bytesIn_20 ?_
      refine g_goto C 25 dX5_bytesIn_21 (by decide) ?_
      refine g_sub [0, 2] rfl ?_
      exact k_X5_bytesIn_25 C ret hr5 x0 x2 1 x1 w L h
theorem k_X5_bytesIn_5 {Γ : gT} {K : gK} {N : Nat} {post : Int32 → Wd → va_W → Prop} (C : gC Γ K RX5 cX5_bytesIn 3 rm_X5_bytesIn) (ret : gRi Γ K cX5_bytesIn (some .int) (mPi K post) 0 0) : ∀ (n : Nat) (x0 : Int32) (x1 : Int32) (x2 : Int32) (w : Wd) (L : va_W) (h : B_X5_bytesIn_5 N post n x0 x1 x2 w L), gJ Γ K 0 0 (mL K w ++ L) 5 [(0, .int x0), (1, .int x1), (2, .int x2)] [] := by
  intro n
  induction n with
  | zero => intro x0 x1 x2 w L h; exact h.elim
  | succ n ih => intro x0 x1 x2 w L h; exact k_X5_bytesIn_5s C ret ih x0 x1 x2 w L h
def B_X5_bytesIn_0 (N : Nat) (post : Int32 → Wd → va_W → Prop) (x0 : Int32) (w : Wd) (L : va_W) : Prop :=
  B_X5_bytesIn_5 N post N x0 0 24 w L
set_option maxHeartbeats 4000000 in
theorem k_X5_bytesIn_0 {Γ : gT} {K : gK} {N : Nat} {post : Int32 → Wd → va_W → Prop} (C : gC Γ K RX5 cX5_bytesIn 3 rm_X5_bytesIn) (ret : gRi Γ K cX5_bytesIn (some .int) (mPi K post) 0 0) (x0 : Int32) (w : Wd) (L : va_W) (h : B_X5_bytesIn_0 N post x0 w L) : gJ Γ K 0 0 (mL K w ++ L) 0 [(0, .int x0)] [] := by
  unfold B_X5_bytesIn_0 at h
  refine g_iconst C 0 (by decide) dX5_bytesIn_0 ?_
  refine g_istore_n C rfl (lt := [(1, .int 0), (0, .int x0)]) dX5_bytesIn_1 (by decide) rfl ?_
  refine g_bipush C 24 (by decide) dX5_bytesIn_2 ?_
  refine g_istore_n C rfl (lt := [(2, .int 24), (1, .int 0), (0, .int x0)]) dX5_bytesIn_4 (by decide) rfl ?_
  refine g_sub [2, 1, 0] rfl ?_
  exact k_X5_bytesIn_5 C ret N x0 0 24 w L h
def B_X5_bytesIn (N : Nat) (x0 : Int32) (post : Int32 → Wd → va_W → Prop) (w : Wd) (L : va_W) : Prop := B_X5_bytesIn_0 N post x0 w L
theorem m_X5_bytesIn {l : Launch} {K : gK} {N : Nat} {post : Int32 → Wd → va_W → Prop} {x0 : Int32} {w : Wd} {L : va_W} (h : B_X5_bytesIn N x0 post w L) : gMi l K yX5_bytesIn cX5_bytesIn 3 (some .int) rm_X5_bytesIn [.int x0] (mL K w ++ L) (mPi K post) 0 0 := by
  refine g_inI (ls0 := [(0, .int x0)]) (by decide) (Nat.le_of_ble_eq_true rfl) rfl (fun Γ hl C hn ret => ?_)
  exact k_X5_bytesIn_0 C ret x0 w L h
def rm_X5_isSign : Room := { frames := 0, cells := 0, slots := 0, locals := 0 }
def B_X5_isSign_23 (N : Nat) (post : Int32 → Wd → va_W → Prop) (s0 : Int32) (w : Wd) (L : va_W) : Prop :=
  gZ s0 ∧ post s0 w L
set_option maxHeartbeats 4000000 in
theorem k_X5_isSign_23 {Γ : gT} {K : gK} {N : Nat} {post : Int32 → Wd → va_W → Prop} (C : gC Γ K RX5 cX5_isSign 1 rm_X5_isSign) (ret : gRi Γ K cX5_isSign (some .boolean) (mPi K post) 0 0) (s0 : Int32) (w : Wd) (L : va_W) (h : B_X5_isSign_23 N post s0 w L) : gJ Γ K 0 0 (mL K w ++ L) 23 [] [.int s0] := by
  unfold B_X5_isSign_23 at h
  obtain ⟨hz, h⟩ := h
  exact ret _ _ _ _ _ rfl hz.n dX5_isSign_23 ⟨_, _, rfl, h⟩
def B_X5_isSign_18 (N : Nat) (post : Int32 → Wd → va_W → Prop) (w : Wd) (L : va_W) : Prop :=
  B_X5_isSign_23 N post 1 w L
set_option maxHeartbeats 4000000 in
theorem k_X5_isSign_18 {Γ : gT} {K : gK} {N : Nat} {post : Int32 → Wd → va_W → Prop} (C : gC Γ K RX5 cX5_isSign 1 rm_X5_isSign) (ret : gRi Γ K cX5_isSign (some .boolean) (mPi K post) 0 0) (w : Wd) (L : va_W) (h : B_X5_isSign_18 N post w L) : gJ Γ K 0 0 (mL K w ++ L) 18 [] [] := by
  unfold B_X5_isSign_18 at h
  refine g_iconst C 1 (by decide) dX5_isSign_18 ?_
  refine g_goto C 23 dX5_isSign_19 (by decide) ?_
  exact k_X5_isSign_23 C ret 1 w L h
def B_X5_isSign_0 (N : Nat) (post : Int32 → Wd → va_W → Prop) (x0 : Int32) (w : Wd) (L : va_W) : Prop :=
  (x0 = (61 : Int32) →
    B_X5_isSign_18 N post w L) ∧
  (¬ x0 = (61 : Int32) →
    (x0 = (60 : Int32) →
      B_X5_isSign_18 N post w L) ∧
    (¬ x0 = (60 : Int32) →
      (x0 = (62 : Int32) →
        B_X5_isSign_18 N post w L) ∧
      (¬ x0 = (62 : Int32) →
        B_X5_isSign_23 N post 0 w L)))
set_option maxHeartbeats 4000000 in
theorem k_X5_isSign_0 {Γ : gT} {K : gK} {N : Nat} {post : Int32 → Wd → va_W → Prop} (C : gC Γ K RX5 cX5_isSign 1 rm_X5_isSign) (ret : gRi Γ K cX5_isSign (some .boolean) (mPi K post) 0 0) (x0 : Int32) (w : Wd) (L : va_W) (h : B_X5_isSign_0 N post x0 w L) : gJ Γ K 0 0 (mL K w ++ L) 0 [(0, .int x0)] [] := by
  unfold B_X5_isSign_0 at h
  refine g_iload_n C 0 rfl dX5_isSign_0 ?_
  refine g_bipush C 61 (by decide) dX5_isSign_1 ?_
  refine g_icmp_eq C 18 dX5_isSign_3 (by decide) (fun hc => ?_) (fun hc => ?_)
  · replace h := h.1 hc
    refine g_sub [] rfl ?_
    exact k_X5_isSign_18 C ret w L h
  · replace h := h.2 hc
    refine g_iload_n C 0 rfl dX5_isSign_6 ?_
    refine g_bipush C 60 (by decide) dX5_isSign_7 ?_
    refine g_icmp_eq C 18 dX5_isSign_9 (by decide) (fun hc => ?_) (fun hc => ?_)
    · replace h := h.1 hc
      refine g_sub [] rfl ?_
      exact k_X5_isSign_18 C ret w L h
    · replace h := h.2 hc
      refine g_iload_n C 0 rfl dX5_isSign_12 ?_
      refine g_bipush C 62 (by decide) dX5_isSign_13 ?_
      refine g_icmp_ne C 22 dX5_isSign_15 (by decide) (fun hc => ?_) (fun hc => ?_)
      · replace h := h.2 hc
        refine g_iconst C 0 (by decide) dX5_isSign_22 ?_
        refine g_sub [] rfl ?_
        exact k_X5_isSign_23 C ret 0 w L h
      · replace h := h.1 hc
        refine g_sub [] rfl ?_
        exact k_X5_isSign_18 C ret w L h
def B_X5_isSign (N : Nat) (x0 : Int32) (post : Int32 → Wd → va_W → Prop) (w : Wd) (L : va_W) : Prop := B_X5_isSign_0 N post x0 w L
theorem m_X5_isSign {l : Launch} {K : gK} {N : Nat} {post : Int32 → Wd → va_W → Prop} {x0 : Int32} {w : Wd} {L : va_W} (h : B_X5_isSign N x0 post w L) : gMi l K yX5_isSign cX5_isSign 1 (some .boolean) rm_X5_isSign [.int x0] (mL K w ++ L) (mPi K post) 0 0 := by
  refine g_inI (ls0 := [(0, .int x0)]) (by decide) (Nat.le_of_ble_eq_true rfl) rfl (fun Γ hl C hn ret => ?_)
  exact k_X5_isSign_0 C ret x0 w L h
def rm_X5_leastOf : Room := { frames := 0, cells := 0, slots := 0, locals := 0 }
def B_X5_leastOf_20 (N : Nat) (post : Int32 → Wd → va_W → Prop) (s0 : Int32) (w : Wd) (L : va_W) : Prop :=
  post s0 w L
set_option maxHeartbeats 4000000 in
theorem k_X5_leastOf_20 {Γ : gT} {K : gK} {N : Nat} {post : Int32 → Wd → va_W → Prop} (C : gC Γ K RX5 cX5_leastOf 1 rm_X5_leastOf) (ret : gRi Γ K cX5_leastOf (some .int) (mPi K post) 0 0) (s0 : Int32) (w : Wd) (L : va_W) (h : B_X5_leastOf_20 N post s0 w L) : gJ Γ K 0 0 (mL K w ++ L) 20 [] [.int s0] := by
  unfold B_X5_leastOf_20 at h
  exact ret _ _ _ _ _ rfl rfl dX5_leastOf_20 ⟨_, _, rfl, h⟩
def B_X5_leastOf_0 (N : Nat) (post : Int32 → Wd → va_W → Prop) (x0 : Int32) (w : Wd) (L : va_W) : Prop :=
  (x0 = (4 : Int32) →
    B_X5_leastOf_20 N post 1 w L) ∧
  (¬ x0 = (4 : Int32) →
    (x0 = (8 : Int32) →
      B_X5_leastOf_20 N post (-1) w L) ∧
    (¬ x0 = (8 : Int32) →
      B_X5_leastOf_20 N post 0 w L))
set_option maxHeartbeats 4000000 in
theorem k_X5_leastOf_0 {Γ : gT} {K : gK} {N : Nat} {post : Int32 → Wd → va_W → Prop} (C : gC Γ K RX5 cX5_leastOf 1 rm_X5_leastOf) (ret : gRi Γ K cX5_leastOf (some .int) (mPi K post) 0 0) (x0 : Int32) (w : Wd) (L : va_W) (h : B_X5_leastOf_0 N post x0 w L) : gJ Γ K 0 0 (mL K w ++ L) 0 [(0, .int x0)] [] := by
  unfold B_X5_leastOf_0 at h
  refine g_iload_n C 0 rfl dX5_leastOf_0 ?_
  refine g_iconst C 4 (by decide) dX5_leastOf_1 ?_
  refine g_icmp_ne C 9 dX5_leastOf_2 (by decide) (fun hc => ?_) (fun hc => ?_)
  · replace h := h.2 hc
    refine g_iload_n C 0 rfl dX5_leastOf_9 ?_
    refine g_bipush C 8 (by decide) dX5_leastOf_10 ?_
    refine g_icmp_ne C 19 dX5_leastOf_12 (by decide) (fun hc => ?_) (fun hc => ?_)
    · replace h := h.2 hc
      refine g_iconst C 0 (by decide) dX5_leastOf_19 ?_
      refine g_sub [] rfl ?_
      exact k_X5_leastOf_20 C ret 0 w L h
    · replace h := h.1 hc
      refine g_iconst C (-1) (by decide) dX5_leastOf_15 ?_
      refine g_goto C 20 dX5_leastOf_16 (by decide) ?_
      refine g_sub [] rfl ?_
      exact k_X5_leastOf_20 C ret (-1) w L h
  · replace h := h.1 hc
    refine g_iconst C 1 (by decide) dX5_leastOf_5 ?_
    refine g_goto C 20 dX5_leastOf_6 (by decide) ?_
    refine g_sub [] rfl ?_
    exact k_X5_leastOf_20 C ret 1 w L h
def B_X5_leastOf (N : Nat) (x0 : Int32) (post : Int32 → Wd → va_W → Prop) (w : Wd) (L : va_W) : Prop := B_X5_leastOf_0 N post x0 w L
theorem m_X5_leastOf {l : Launch} {K : gK} {N : Nat} {post : Int32 → Wd → va_W → Prop} {x0 : Int32} {w : Wd} {L : va_W} (h : B_X5_leastOf N x0 post w L) : gMi l K yX5_leastOf cX5_leastOf 1 (some .int) rm_X5_leastOf [.int x0] (mL K w ++ L) (mPi K post) 0 0 := by
  refine g_inI (ls0 := [(0, .int x0)]) (by decide) (Nat.le_of_ble_eq_true rfl) rfl (fun Γ hl C hn ret => ?_)
  exact k_X5_leastOf_0 C ret x0 w L h
def rm_X5_mostOf : Room := { frames := 0, cells := 0, slots := 0, locals := 0 }
def B_X5_mostOf_0 (N : Nat) (post : Int32 → Wd → va_W → Prop) (x0 : Int32) (w : Wd) (L : va_W) : Prop :=
  (x0 = 0 →
    post 9999 w L) ∧
  (¬ x0 = 0 →
  (x0 = 1 →
    post 100 w L) ∧
  (¬ x0 = 1 →
  (x0 = 2 →
    post 999 w L) ∧
  (¬ x0 = 2 →
  (x0 = 3 →
    post 100 w L) ∧
  (¬ x0 = 3 →
  (x0 = 4 →
    post 12 w L) ∧
  (¬ x0 = 4 →
  (x0 = 5 →
    post 9 w L) ∧
  (¬ x0 = 5 →
  (x0 = 6 →
    post 99 w L) ∧
  (¬ x0 = 6 →
  (x0 = 7 →
    post 100 w L) ∧
  (¬ x0 = 7 →
  (x0 = 8 →
    post 23 w L) ∧
  (¬ x0 = 8 →
  post 100 w L)))))))))
set_option maxHeartbeats 4000000 in
theorem k_X5_mostOf_0 {Γ : gT} {K : gK} {N : Nat} {post : Int32 → Wd → va_W → Prop} (C : gC Γ K RX5 cX5_mostOf 1 rm_X5_mostOf) (ret : gRi Γ K cX5_mostOf (some .int) (mPi K post) 0 0) (x0 : Int32) (w : Wd) (L : va_W) (h : B_X5_mostOf_0 N post x0 w L) : gJ Γ K 0 0 (mL K w ++ L) 0 [(0, .int x0)] [] := by
  unfold B_X5_mostOf_0 at h
  refine g_iload_n C 0 rfl dX5_mostOf_0 ?_
  by_cases hc0 : x0 = 0
  · replace h := h.1 hc0
    refine g_tableIn C 52 dX5_mostOf_1 (n := 0) (by rw [hc0]; decide) (by decide) (by decide) rfl (by decide) ?_
    refine g_sipush C 9999 (by decide) dX5_mostOf_52 ?_
    exact ret _ _ _ _ _ rfl rfl dX5_mostOf_55 ⟨_, _, rfl, h⟩
  · replace h := h.2 hc0
    by_cases hc1 : x0 = 1
    · replace h := h.1 hc1
      refine g_tableIn C 72 dX5_mostOf_1 (n := 1) (by rw [hc1]; decide) (by decide) (by decide) rfl (by decide) ?_
      refine g_bipush C 100 (by decide) dX5_mostOf_72 ?_
      exact ret _ _ _ _ _ rfl rfl dX5_mostOf_74 ⟨_, _, rfl, h⟩
    · replace h := h.2 hc1
      by_cases hc2 : x0 = 2
      · replace h := h.1 hc2
        refine g_tableIn C 56 dX5_mostOf_1 (n := 2) (by rw [hc2]; decide) (by decide) (by decide) rfl (by decide) ?_
        refine g_sipush C 999 (by decide) dX5_mostOf_56 ?_
        exact ret _ _ _ _ _ rfl rfl dX5_mostOf_59 ⟨_, _, rfl, h⟩
      · replace h := h.2 hc2
        by_cases hc3 : x0 = 3
        · replace h := h.1 hc3
          refine g_tableIn C 72 dX5_mostOf_1 (n := 3) (by rw [hc3]; decide) (by decide) (by decide) rfl (by decide) ?_
          refine g_bipush C 100 (by decide) dX5_mostOf_72 ?_
          exact ret _ _ _ _ _ rfl rfl dX5_mostOf_74 ⟨_, _, rfl, h⟩
        · replace h := h.2 hc3
          by_cases hc4 : x0 = 4
          · replace h := h.1 hc4
            refine g_tableIn C 60 dX5_mostOf_1 (n := 4) (by rw [hc4]; decide) (by decide) (by decide) rfl (by decide) ?_
            refine g_bipush C 12 (by decide) dX5_mostOf_60 ?_
            exact ret _ _ _ _ _ rfl rfl dX5_mostOf_62 ⟨_, _, rfl, h⟩
          · replace h := h.2 hc4
            by_cases hc5 : x0 = 5
            · replace h := h.1 hc5
              refine g_tableIn C 63 dX5_mostOf_1 (n := 5) (by rw [hc5]; decide) (by decide) (by decide) rfl (by decide) ?_
              refine g_bipush C 9 (by decide) dX5_mostOf_63 ?_
              exact ret _ _ _ _ _ rfl rfl dX5_mostOf_65 ⟨_, _, rfl, h⟩
            · replace h := h.2 hc5
              by_cases hc6 : x0 = 6
              · replace h := h.1 hc6
                refine g_tableIn C 66 dX5_mostOf_1 (n := 6) (by rw [hc6]; decide) (by decide) (by decide) rfl (by decide) ?_
                refine g_bipush C 99 (by decide) dX5_mostOf_66 ?_
                exact ret _ _ _ _ _ rfl rfl dX5_mostOf_68 ⟨_, _, rfl, h⟩
              · replace h := h.2 hc6
                by_cases hc7 : x0 = 7
                · replace h := h.1 hc7
                  refine g_tableIn C 72 dX5_mostOf_1 (n := 7) (by rw [hc7]; decide) (by decide) (by decide) rfl (by decide) ?_
                  refine g_bipush C 100 (by decide) dX5_mostOf_72 ?_
                  exact ret _ _ _ _ _ rfl rfl dX5_mostOf_74 ⟨_, _, rfl, h⟩
                · replace h := h.2 hc7
                  by_cases hc8 : x0 = 8
                  · replace h := h.1 hc8
                    refine g_tableIn C 69 dX5_mostOf_1 (n := 8) (by rw [hc8]; decide) (by decide) (by decide) rfl (by decide) ?_
                    refine g_bipush C 23 (by decide) dX5_mostOf_69 ?_
                    exact ret _ _ _ _ _ rfl rfl dX5_mostOf_71 ⟨_, _, rfl, h⟩
                  · replace h := h.2 hc8
                    have n0 := lv_neT hc0 (a := 0) (by decide)
                    have n1 := lv_neT hc1 (a := 1) (by decide)
                    have n2 := lv_neT hc2 (a := 2) (by decide)
                    have n3 := lv_neT hc3 (a := 3) (by decide)
                    have n4 := lv_neT hc4 (a := 4) (by decide)
                    have n5 := lv_neT hc5 (a := 5) (by decide)
                    have n6 := lv_neT hc6 (a := 6) (by decide)
                    have n7 := lv_neT hc7 (a := 7) (by decide)
                    have n8 := lv_neT hc8 (a := 8) (by decide)
                    refine g_tableOut C 72 dX5_mostOf_1 (by omega) (by decide) ?_
                    refine g_bipush C 100 (by decide) dX5_mostOf_72 ?_
                    exact ret _ _ _ _ _ rfl rfl dX5_mostOf_74 ⟨_, _, rfl, h⟩
def B_X5_mostOf (N : Nat) (x0 : Int32) (post : Int32 → Wd → va_W → Prop) (w : Wd) (L : va_W) : Prop := B_X5_mostOf_0 N post x0 w L
theorem m_X5_mostOf {l : Launch} {K : gK} {N : Nat} {post : Int32 → Wd → va_W → Prop} {x0 : Int32} {w : Wd} {L : va_W} (h : B_X5_mostOf N x0 post w L) : gMi l K yX5_mostOf cX5_mostOf 1 (some .int) rm_X5_mostOf [.int x0] (mL K w ++ L) (mPi K post) 0 0 := by
  refine g_inI (ls0 := [(0, .int x0)]) (by decide) (Nat.le_of_ble_eq_true rfl) rfl (fun Γ hl C hn ret => ?_)
  exact k_X5_mostOf_0 C ret x0 w L h
def rm_X5_within : Room := { frames := 1, cells := 0, slots := 0, locals := 23 }
def B_X5_within_0 (N : Nat) (post : Int32 → Wd → va_W → Prop) (x0 : Int64) (w : Wd) (L : va_W) : Prop :=
  post ((if (if x0 < 1000000 then x0 else 1000000) < (-1000000) then (-1000000) else (if x0 < 1000000 then x0 else 1000000)).toInt32) w L
set_option maxHeartbeats 4000000 in
theorem k_X5_within_0 {Γ : gT} {K : gK} {N : Nat} {post : Int32 → Wd → va_W → Prop} (C : gC Γ K RX5 cX5_within 2 rm_X5_within) (ret : gRi Γ K cX5_within (some .int) (mPi K post) 0 0) (x0 : Int64) (w : Wd) (L : va_W) (h : B_X5_within_0 N post x0 w L) : gJ Γ K 0 0 (mL K w ++ L) 0 [(0, .long x0)] [] := by
  unfold B_X5_within_0 at h
  refine g_ldc2 C (v := (-1000000)) q1251 dX5_within_0 ?_
  refine g_ldc2 C (v := 1000000) q1252 dX5_within_3 ?_
  refine g_lload_n C 0 rfl dX5_within_6 ?_
  refine g_mmin_long C q1253 q836 q87 q837 ⟨Nat.le_of_ble_eq_true rfl, (Nat.le_of_ble_eq_true rfl)⟩ ⟨Nat.zero_le _, Nat.zero_le _⟩ dX5_within_7 ?_
  refine g_mmax_long C q1254 q839 q87 q840 ⟨Nat.le_of_ble_eq_true rfl, (Nat.le_of_ble_eq_true rfl)⟩ ⟨Nat.zero_le _, Nat.zero_le _⟩ dX5_within_10 ?_
  refine g_l2i C dX5_within_13 ?_
  exact ret _ _ _ _ _ rfl rfl dX5_within_14 ⟨_, _, rfl, h⟩
def B_X5_within (N : Nat) (x0 : Int64) (post : Int32 → Wd → va_W → Prop) (w : Wd) (L : va_W) : Prop := B_X5_within_0 N post x0 w L
theorem m_X5_within {l : Launch} {K : gK} {N : Nat} {post : Int32 → Wd → va_W → Prop} {x0 : Int64} {w : Wd} {L : va_W} (h : B_X5_within N x0 post w L) : gMi l K yX5_within cX5_within 2 (some .int) rm_X5_within [.long x0] (mL K w ++ L) (mPi K post) 0 0 := by
  refine g_inI (ls0 := [(0, .long x0)]) (by decide) (Nat.le_of_ble_eq_true rfl) rfl (fun Γ hl C hn ret => ?_)
  exact k_X5_within_0 C ret x0 w L h
def rm_X5_thrown : Room := { frames := 0, cells := 0, slots := 0, locals := 0 }
def B_X5_thrown_0 (N : Nat) (post : Int32 → Wd → va_W → Prop) (w : Wd) (L : va_W) : Prop :=
  post (xi w 0) w L
set_option maxHeartbeats 4000000 in
theorem k_X5_thrown_0 {Γ : gT} {K : gK} {N : Nat} {post : Int32 → Wd → va_W → Prop} (C : gC Γ K RX5 cX5_thrown 1 rm_X5_thrown) (ret : gRi Γ K cX5_thrown (some .int) (mPi K post) 0 0) (w : Wd) (L : va_W) (h : B_X5_thrown_0 N post w L) : gJ Γ K 0 0 (mL K w ++ L) 0 [(0, .ref (ma K 0))] [] := by
  unfold B_X5_thrown_0 at h
  refine g_aload_n C 0 rfl dX5_thrown_0 ?_
  refine mg_thrown C q996 (xi w 0) rfl dX5_thrown_1 ?_
  exact ret _ _ _ _ _ rfl rfl dX5_thrown_4 ⟨_, _, rfl, h⟩
def B_X5_thrown (N : Nat) (post : Int32 → Wd → va_W → Prop) (w : Wd) (L : va_W) : Prop := B_X5_thrown_0 N post w L
theorem m_X5_thrown {l : Launch} {K : gK} {N : Nat} {post : Int32 → Wd → va_W → Prop} {w : Wd} {L : va_W} (h : B_X5_thrown N post w L) : gMi l K yX5_thrown cX5_thrown 1 (some .int) rm_X5_thrown [.ref (ma K 0)] (mL K w ++ L) (mPi K post) 0 0 := by
  refine g_inI (ls0 := [(0, .ref (ma K 0))]) (by decide) (Nat.le_of_ble_eq_true rfl) rfl (fun Γ hl C hn ret => ?_)
  exact k_X5_thrown_0 C ret w L h
def rm_X5_put : Room := { frames := 0, cells := 0, slots := 0, locals := 0 }
def B_X5_put_43 (r3 : Int32 → Int32 → Wd → va_W → Prop) (N : Nat) (post : Wd → va_W → Prop) (x1 : Int32) (x2 : Int32) (w : Wd) (L : va_W) : Prop :=
  r3 x1 (x2 + (-8)) w L
set_option maxHeartbeats 4000000 in
theorem k_X5_put_43 {Γ : gT} {K : gK} {N : Nat} {post : Wd → va_W → Prop} (C : gC Γ K RX5 cX5_put 3 rm_X5_put) (ret : gRv Γ K cX5_put (none) (mPv K post) 0 0) {r3 : Int32 → Int32 → Wd → va_W → Prop} (hr3 : ∀ (x1 : Int32) (x2 : Int32) (w : Wd) (L : va_W), r3 x1 x2 w L → gJ Γ K 0 0 (mL K w ++ L) 3 [(0, .ref (ma K 0)), (1, .int x1), (2, .int x2)] []) (x1 : Int32) (x2 : Int32) (w : Wd) (L : va_W) (h : B_X5_put_43 r3 N post x1 x2 w L) : gJ Γ K 0 0 (mL K w ++ L) 43 [(0, .ref (ma K 0)), (1, .int x1), (2, .int x2)] [] := by
  unfold B_X5_put_43 at h
  refine g_iinc C 2 (x2 + (-8)) (lt := [(2, .int (x2 + (-8))), (0, .ref (ma K 0)), (1, .int x1)]) rfl (congrArg (fun t => x2 + t) (by decide : Int32.ofInt (-8) = (-8))) dX5_put_43 (by decide) rfl ?_
  refine g_goto C 3 dX5_put_46 (by decide) ?_
  refine g_sub [1, 2, 0] rfl ?_
  exact hr3 x1 (x2 + (-8)) w L h
def B_X5_put_3s (r3 : Int32 → Int32 → Wd → va_W → Prop) (N : Nat) (post : Wd → va_W → Prop) (x1 : Int32) (x2 : Int32) (w : Wd) (L : va_W) : Prop :=
  (x2 < 0 →
    post w L) ∧
  (¬ x2 < 0 →
    (((x1 >>> (x2 &&& 31)) &&& 255) = 0 →
      B_X5_put_43 r3 N post x1 x2 w L) ∧
    (¬ ((x1 >>> (x2 &&& 31)) &&& 255) = 0 →
      vp_in (xi w 1) 120 ∧ ∀ w1 : Wd, w1 = (xsA w 1 (xi w 1).toNatClampNeg (vp_nar .byte ((x1 >>> (x2 &&& 31)).toInt8.toInt32))) → B_X5_put_43 r3 N post x1 x2 (xsi w1 1 ((xi w1 1) + 1)) L))
def B_X5_put_3 (N : Nat) (post : Wd → va_W → Prop) : Nat → Int32 → Int32 → Wd → va_W → Prop
  | 0, _, _, _, _ => False
  | n + 1, x1, x2, w, L => B_X5_put_3s (B_X5_put_3 N post n) N post x1 x2 w L
set_option maxHeartbeats 4000000 in
theorem k_X5_put_3s {Γ : gT} {K : gK} {N : Nat} {post : Wd → va_W → Prop} (C : gC Γ K RX5 cX5_put 3 rm_X5_put) (ret : gRv Γ K cX5_put (none) (mPv K post) 0 0) {r3 : Int32 → Int32 → Wd → va_W → Prop} (hr3 : ∀ (x1 : Int32) (x2 : Int32) (w : Wd) (L : va_W), r3 x1 x2 w L → gJ Γ K 0 0 (mL K w ++ L) 3 [(0, .ref (ma K 0)), (1, .int x1), (2, .int x2)] []) (x1 : Int32) (x2 : Int32) (w : Wd) (L : va_W) (h : B_X5_put_3s r3 N post x1 x2 w L) : gJ Γ K 0 0 (mL K w ++ L) 3 [(0, .ref (ma K 0)), (1, .int x1), (2, .int x2)] [] := by
  unfold B_X5_put_3s at h
  refine g_iload_n C 2 rfl dX5_put_3 ?_
  refine g_if_lt C 49 dX5_put_4 (by decide) (fun hc => ?_) (fun hc => ?_)
  · replace h := h.1 hc
    exact ret rfl _ _ _ dX5_put_49 ⟨_, _, rfl, h⟩
  · replace h := h.2 hc
    refine g_iload_n C 1 rfl dX5_put_7 ?_
    refine g_iload_n C 2 rfl dX5_put_8 ?_
    refine g_ishr C dX5_put_9 ?_
    refine g_sipush C 255 (by decide) dX5_put_10 ?_
    refine g_iand C dX5_put_13 ?_
    refine g_if_ne C 20 dX5_put_14 (by decide) (fun hc => ?_) (fun hc => ?_)
    · replace h := h.2 hc
      refine g_aload_n C 0 rfl dX5_put_20 ?_
      refine mg_tape C q997 dX5_put_21 ?_
      refine g_aload_n C 0 rfl dX5_put_24 ?_
      refine mg_length C q1002 (xi w 1) rfl dX5_put_25 ?_
      refine g_iload_n C 1 rfl dX5_put_28 ?_
      refine g_iload_n C 2 rfl dX5_put_29 ?_
      refine g_ishr C dX5_put_30 ?_
      refine g_i2b C dX5_put_31 ?_
      obtain ⟨hb, h⟩ := h
      refine mst_1 C hb dX5_put_32 ?_
      obtain ⟨w1, ew1⟩ : ∃ z, z = (xsA w 1 (xi w 1).toNatClampNeg (vp_nar .byte ((x1 >>> (x2 &&& 31)).toInt8.toInt32))) := ⟨_, rfl⟩
      replace h := h w1 ew1
      rw [← ew1]
      refine g_aload_n C 0 rfl dX5_put_33 ?_
      refine g_dup C rfl dX5_put_34 ?_
      refine mg_length C q1002 (xi w1 1) rfl dX5_put_35 ?_
      refine g_iconst C 1 (by decide) dX5_put_38 ?_
      refine g_iadd C dX5_put_39 ?_
      refine mp_length C q1002 dX5_put_40 ?_
      exact k_X5_put_43 C ret hr3 x1 x2 (xsi w1 1 ((xi w1 1) + 1)) L h
    · replace h := h.1 hc
      refine g_goto C 43 dX5_put_17 (by decide) ?_
      exact k_X5_put_43 C ret hr3 x1 x2 w L h
theorem k_X5_put_3 {Γ : gT} {K : gK} {N : Nat} {post : Wd → va_W → Prop} (C : gC Γ K RX5 cX5_put 3 rm_X5_put) (ret : gRv Γ K cX5_put (none) (mPv K post) 0 0) : ∀ (n : Nat) (x1 : Int32) (x2 : Int32) (w : Wd) (L : va_W) (h : B_X5_put_3 N post n x1 x2 w L), gJ Γ K 0 0 (mL K w ++ L) 3 [(0, .ref (ma K 0)), (1, .int x1), (2, .int x2)] [] := by
  intro n
  induction n with
  | zero => intro x1 x2 w L h; exact h.elim
  | succ n ih => intro x1 x2 w L h; exact k_X5_put_3s C ret ih x1 x2 w L h
def B_X5_put_0 (N : Nat) (post : Wd → va_W → Prop) (x1 : Int32) (w : Wd) (L : va_W) : Prop :=
  B_X5_put_3 N post N x1 24 w L
set_option maxHeartbeats 4000000 in
theorem k_X5_put_0 {Γ : gT} {K : gK} {N : Nat} {post : Wd → va_W → Prop} (C : gC Γ K RX5 cX5_put 3 rm_X5_put) (ret : gRv Γ K cX5_put (none) (mPv K post) 0 0) (x1 : Int32) (w : Wd) (L : va_W) (h : B_X5_put_0 N post x1 w L) : gJ Γ K 0 0 (mL K w ++ L) 0 [(0, .ref (ma K 0)), (1, .int x1)] [] := by
  unfold B_X5_put_0 at h
  refine g_bipush C 24 (by decide) dX5_put_0 ?_
  refine g_istore_n C rfl (lt := [(2, .int 24), (0, .ref (ma K 0)), (1, .int x1)]) dX5_put_2 (by decide) rfl ?_
  refine g_sub [1, 2, 0] rfl ?_
  exact k_X5_put_3 C ret N x1 24 w L h
def B_X5_put (N : Nat) (x1 : Int32) (post : Wd → va_W → Prop) (w : Wd) (L : va_W) : Prop := B_X5_put_0 N post x1 w L
theorem m_X5_put {l : Launch} {K : gK} {N : Nat} {post : Wd → va_W → Prop} {x1 : Int32} {w : Wd} {L : va_W} (h : B_X5_put N x1 post w L) : gMv l K yX5_put cX5_put 3 (none) rm_X5_put [.ref (ma K 0), .int x1] (mL K w ++ L) (mPv K post) 0 0 := by
  refine g_inV (ls0 := [(0, .ref (ma K 0)), (1, .int x1)]) (by decide) (Nat.le_of_ble_eq_true rfl) rfl (fun Γ hl C hn ret => ?_)
  exact k_X5_put_0 C ret x1 w L h
def rm_X5_feed : Room := { frames := 1, cells := 0, slots := 0, locals := 22 }
def B_X5_feed_0 (N : Nat) (post : Int32 → Wd → va_W → Prop) (x1 : Int32) (x2 : Int32) (x3 : Int32) (x4 : Int32) (x5 : Int32) (w : Wd) (L : va_W) : Prop :=
  B_X5_bytesIn N x1 (fun (v3 : Int32) (w1 : Wd) (L2 : va_W) =>
  B_X5_bytesIn N x2 (fun (v6 : Int32) (w4 : Wd) (L5 : va_W) =>
  B_X5_bytesIn N x3 (fun (v9 : Int32) (w7 : Wd) (L8 : va_W) =>
  B_X5_bytesIn N x4 (fun (v12 : Int32) (w10 : Wd) (L11 : va_W) =>
  B_X5_bytesIn N x5 (fun (v15 : Int32) (w13 : Wd) (L14 : va_W) =>
  (((((((xi w 1) + v3) + v6) + v9) + v12) + v15) ≤ (120 : Int32) →
    B_X5_put N x1 (fun (w16 : Wd) (L17 : va_W) =>
  B_X5_put N x2 (fun (w18 : Wd) (L19 : va_W) =>
  B_X5_put N x3 (fun (w20 : Wd) (L21 : va_W) =>
  B_X5_put N x4 (fun (w22 : Wd) (L23 : va_W) =>
  B_X5_put N x5 (fun (w24 : Wd) (L25 : va_W) =>
  post (xi w24 1) w24 L25) w22 L23) w20 L21) w18 L19) w16 L17) w13 L14) ∧
  (¬ ((((((xi w 1) + v3) + v6) + v9) + v12) + v15) ≤ (120 : Int32) →
    post (-1) w13 L14)) w10 L11) w7 L8) w4 L5) w1 L2) (xsi w 0 0) L
set_option maxHeartbeats 4000000 in
theorem k_X5_feed_0 {Γ : gT} {K : gK} {N : Nat} {post : Int32 → Wd → va_W → Prop} (C : gC Γ K RX5 cX5_feed 6 rm_X5_feed) (ret : gRi Γ K cX5_feed (some .int) (mPi K post) 0 0) (x1 : Int32) (x2 : Int32) (x3 : Int32) (x4 : Int32) (x5 : Int32) (w : Wd) (L : va_W) (h : B_X5_feed_0 N post x1 x2 x3 x4 x5 w L) : gJ Γ K 0 0 (mL K w ++ L) 0 [(0, .ref (ma K 0)), (1, .int x1), (2, .int x2), (3, .int x3), (4, .int x4), (5, .int x5)] [] := by
  unfold B_X5_feed_0 at h
  refine g_aload_n C 0 rfl dX5_feed_0 ?_
  refine g_iconst C 0 (by decide) dX5_feed_1 ?_
  refine mp_thrown C q996 dX5_feed_2 ?_
  refine g_aload_n C 0 rfl dX5_feed_5 ?_
  refine mg_length C q1002 (xi w 1) rfl dX5_feed_6 ?_
  refine g_iload_n C 1 rfl dX5_feed_9 ?_
  refine g_callSi C (As := [.int x1]) (rest := [.int (xi w 1)]) (m_X5_bytesIn h) (Cn := "") (b := 0) (lw_S q1176 q1177 q84 q1178) ⟨rfl, rfl⟩ ⟨Nat.le_of_ble_eq_true rfl, Nat.le_of_ble_eq_true rfl⟩ 1 rfl (by decide +kernel) rfl (Nat.le_of_ble_eq_true rfl) ⟨Nat.zero_le _, Nat.zero_le _⟩ dX5_feed_10 ?_
  rintro v3 _ ⟨w1, L2, rfl, h⟩
  refine g_iadd C dX5_feed_13 ?_
  refine g_iload_n C 2 rfl dX5_feed_14 ?_
  refine g_callSi C (As := [.int x2]) (rest := [.int ((xi w 1) + v3)]) (m_X5_bytesIn h) (Cn := "") (b := 0) (lw_S q1176 q1177 q84 q1178) ⟨rfl, rfl⟩ ⟨Nat.le_of_ble_eq_true rfl, Nat.le_of_ble_eq_true rfl⟩ 1 rfl (by decide +kernel) rfl (Nat.le_of_ble_eq_true rfl) ⟨Nat.zero_le _, Nat.zero_le _⟩ dX5_feed_15 ?_
  rintro v6 _ ⟨w4, L5, rfl, h⟩
  refine g_iadd C dX5_feed_18 ?_
  refine g_iload_n C 3 rfl dX5_feed_19 ?_
  refine g_callSi C (As := [.int x3]) (rest := [.int (((xi w 1) + v3) + v6)]) (m_X5_bytesIn h) (Cn := "") (b := 0) (lw_S q1176 q1177 q84 q1178) ⟨rfl, rfl⟩ ⟨Nat.le_of_ble_eq_true rfl, Nat.le_of_ble_eq_true rfl⟩ 1 rfl (by decide +kernel) rfl (Nat.le_of_ble_eq_true rfl) ⟨Nat.zero_le _, Nat.zero_le _⟩ dX5_feed_20 ?_
  rintro v9 _ ⟨w7, L8, rfl, h⟩
  refine g_iadd C dX5_feed_23 ?_
  refine g_iload C 4 rfl dX5_feed_24 ?_
  refine g_callSi C (As := [.int x4]) (rest := [.int ((((xi w 1) + v3) + v6) + v9)]) (m_X5_bytesIn h) (Cn := "") (b := 0) (lw_S q1176 q1177 q84 q1178) ⟨rfl, rfl⟩ ⟨Nat.le_of_ble_eq_true rfl, Nat.le_of_ble_eq_true rfl⟩ 1 rfl (by decide +kernel) rfl (Nat.le_of_ble_eq_true rfl) ⟨Nat.zero_le _, Nat.zero_le _⟩ dX5_feed_26 ?_
  rintro v12 _ ⟨w10, L11, rfl, h⟩
  refine g_iadd C dX5_feed_29 ?_
  refine g_iload C 5 rfl dX5_feed_30 ?_
  refine g_callSi C (As := [.int x5]) (rest := [.int (((((xi w 1) + v3) + v6) + v9) + v12)]) (m_X5_bytesIn h) (Cn := "") (b := 0) (lw_S q1176 q1177 q84 q1178) ⟨rfl, rfl⟩ ⟨Nat.le_of_ble_eq_true rfl, Nat.le_of_ble_eq_true rfl⟩ 1 rfl (by decide +kernel) rfl (Nat.le_of_ble_eq_true rfl) ⟨Nat.zero_le _, Nat.zero_le _⟩ dX5_feed_32 ?_
  rintro v15 _ ⟨w13, L14, rfl, h⟩
  refine g_iadd C dX5_feed_35 ?_
  refine g_bipush C 120 (by decide) dX5_feed_36 ?_
  refine g_icmp_le C 43 dX5_feed_38 (by decide) (fun hc => ?_) (fun hc => ?_)
  · replace h := h.1 hc
    refine g_aload_n C 0 rfl dX5_feed_43 ?_
    refine g_iload_n C 1 rfl dX5_feed_44 ?_
    refine g_callVv C (As := [.int x1]) (rest := []) (m_X5_put h) (lw_V q1179 q1181 qs33 q84 q1182) (ci := 12) (qi := 0) rfl rfl ⟨rfl, rfl⟩ ⟨Nat.le_of_ble_eq_true rfl, Nat.le_of_ble_eq_true rfl⟩ 1 rfl (by decide +kernel) rfl (Nat.le_of_ble_eq_true rfl) ⟨Nat.zero_le _, Nat.zero_le _⟩ dX5_feed_45 ?_
    rintro _ ⟨w16, L17, rfl, h⟩
    refine g_aload_n C 0 rfl dX5_feed_48 ?_
    refine g_iload_n C 2 rfl dX5_feed_49 ?_
    refine g_callVv C (As := [.int x2]) (rest := []) (m_X5_put h) (lw_V q1179 q1181 qs33 q84 q1182) (ci := 12) (qi := 0) rfl rfl ⟨rfl, rfl⟩ ⟨Nat.le_of_ble_eq_true rfl, Nat.le_of_ble_eq_true rfl⟩ 1 rfl (by decide +kernel) rfl (Nat.le_of_ble_eq_true rfl) ⟨Nat.zero_le _, Nat.zero_le _⟩ dX5_feed_50 ?_
    rintro _ ⟨w18, L19, rfl, h⟩
    refine g_aload_n C 0 rfl dX5_feed_53 ?_
    refine g_iload_n C 3 rfl dX5_feed_54 ?_
    refine g_callVv C (As := [.int x3]) (rest := []) (m_X5_put h) (lw_V q1179 q1181 qs33 q84 q1182) (ci := 12) (qi := 0) rfl rfl ⟨rfl, rfl⟩ ⟨Nat.le_of_ble_eq_true rfl, Nat.le_of_ble_eq_true rfl⟩ 1 rfl (by decide +kernel) rfl (Nat.le_of_ble_eq_true rfl) ⟨Nat.zero_le _, Nat.zero_le _⟩ dX5_feed_55 ?_
    rintro _ ⟨w20, L21, rfl, h⟩
    refine g_aload_n C 0 rfl dX5_feed_58 ?_
    refine g_iload C 4 rfl dX5_feed_59 ?_
    refine g_callVv C (As := [.int x4]) (rest := []) (m_X5_put h) (lw_V q1179 q1181 qs33 q84 q1182) (ci := 12) (qi := 0) rfl rfl ⟨rfl, rfl⟩ ⟨Nat.le_of_ble_eq_true rfl, Nat.le_of_ble_eq_true rfl⟩ 1 rfl (by decide +kernel) rfl (Nat.le_of_ble_eq_true rfl) ⟨Nat.zero_le _, Nat.zero_le _⟩ dX5_feed_61 ?_
    rintro _ ⟨w22, L23, rfl, h⟩
    refine g_aload_n C 0 rfl dX5_feed_64 ?_
    refine g_iload C 5 rfl dX5_feed_65 ?_
    refine g_callVv C (As := [.int x5]) (rest := []) (m_X5_put h) (lw_V q1179 q1181 qs33 q84 q1182) (ci := 12) (qi := 0) rfl rfl ⟨rfl, rfl⟩ ⟨Nat.le_of_ble_eq_true rfl, Nat.le_of_ble_eq_true rfl⟩ 1 rfl (by decide +kernel) rfl (Nat.le_of_ble_eq_true rfl) ⟨Nat.zero_le _, Nat.zero_le _⟩ dX5_feed_67 ?_
    rintro _ ⟨w24, L25, rfl, h⟩
    refine g_aload_n C 0 rfl dX5_feed_70 ?_
    refine mg_length C q1002 (xi w24 1) rfl dX5_feed_71 ?_
    exact ret _ _ _ _ _ rfl rfl dX5_feed_74 ⟨_, _, rfl, h⟩
  · replace h := h.2 hc
    refine g_iconst C (-1) (by decide) dX5_feed_41 ?_
    exact ret _ _ _ _ _ rfl rfl dX5_feed_42 ⟨_, _, rfl, h⟩
def B_X5_feed (N : Nat) (x1 : Int32) (x2 : Int32) (x3 : Int32) (x4 : Int32) (x5 : Int32) (post : Int32 → Wd → va_W → Prop) (w : Wd) (L : va_W) : Prop := B_X5_feed_0 N post x1 x2 x3 x4 x5 w L
theorem m_X5_feed {l : Launch} {K : gK} {N : Nat} {post : Int32 → Wd → va_W → Prop} {x1 : Int32} {x2 : Int32} {x3 : Int32} {x4 : Int32} {x5 : Int32} {w : Wd} {L : va_W} (h : B_X5_feed N x1 x2 x3 x4 x5 post w L) : gMi l K yX5_feed cX5_feed 6 (some .int) rm_X5_feed [.ref (ma K 0), .int x1, .int x2, .int x3, .int x4, .int x5] (mL K w ++ L) (mPi K post) 0 0 := by
  refine g_inI (ls0 := [(0, .ref (ma K 0)), (1, .int x1), (2, .int x2), (3, .int x3), (4, .int x4), (5, .int x5)]) (by decide) (Nat.le_of_ble_eq_true rfl) rfl (fun Γ hl C hn ret => ?_)
  exact k_X5_feed_0 C ret x1 x2 x3 x4 x5 w L h
def rm_X5_end : Room := { frames := 0, cells := 0, slots := 0, locals := 0 }
def B_X5_end_17 (N : Nat) (post : Int32 → Wd → va_W → Prop) (w : Wd) (L : va_W) : Prop :=
  post 0 w L
set_option maxHeartbeats 4000000 in
theorem k_X5_end_17 {Γ : gT} {K : gK} {N : Nat} {post : Int32 → Wd → va_W → Prop} (C : gC Γ K RX5 cX5_end 2 rm_X5_end) (ret : gRi Γ K cX5_end (some .boolean) (mPi K post) 0 0) (w : Wd) (L : va_W) (h : B_X5_end_17 N post w L) : gJ Γ K 0 0 (mL K w ++ L) 17 [] [] := by
  unfold B_X5_end_17 at h
  refine g_iconst C 0 (by decide) dX5_end_17 ?_
  exact ret _ _ _ _ _ rfl (gZ.n (Or.inl rfl)) dX5_end_18 ⟨_, _, rfl, h⟩
def B_X5_end_0 (N : Nat) (post : Int32 → Wd → va_W → Prop) (x1 : Int32) (w : Wd) (L : va_W) : Prop :=
  ∀ w1 : Wd, w1 = (xsi w 0 0) → (x1 < 0 →
    B_X5_end_17 N post w1 L) ∧
  (¬ x1 < 0 →
    (x1 ≤ (xi w1 1) →
      post 1 (xsi w1 1 x1) L) ∧
    (¬ x1 ≤ (xi w1 1) →
      B_X5_end_17 N post w1 L))
set_option maxHeartbeats 4000000 in
theorem k_X5_end_0 {Γ : gT} {K : gK} {N : Nat} {post : Int32 → Wd → va_W → Prop} (C : gC Γ K RX5 cX5_end 2 rm_X5_end) (ret : gRi Γ K cX5_end (some .boolean) (mPi K post) 0 0) (x1 : Int32) (w : Wd) (L : va_W) (h : B_X5_end_0 N post x1 w L) : gJ Γ K 0 0 (mL K w ++ L) 0 [(0, .ref (ma K 0)), (1, .int x1)] [] := by
  unfold B_X5_end_0 at h
  refine g_aload_n C 0 rfl dX5_end_0 ?_
  refine g_iconst C 0 (by decide) dX5_end_1 ?_
  refine mp_thrown C q996 dX5_end_2 ?_
  refine g_iload_n C 1 rfl dX5_end_5 ?_
  obtain ⟨w1, ew1⟩ : ∃ z, z = (xsi w 0 0) := ⟨_, rfl⟩
  replace h := h w1 ew1
  rw [← ew1]
  refine g_if_lt C 17 dX5_end_6 (by decide) (fun hc => ?_) (fun hc => ?_)
  · replace h := h.1 hc
    refine g_sub [] rfl ?_
    exact k_X5_end_17 C ret w1 L h
  · replace h := h.2 hc
    refine g_iload_n C 1 rfl dX5_end_9 ?_
    refine g_aload_n C 0 rfl dX5_end_10 ?_
    refine mg_length C q1002 (xi w1 1) rfl dX5_end_11 ?_
    refine g_icmp_le C 19 dX5_end_14 (by decide) (fun hc => ?_) (fun hc => ?_)
    · replace h := h.1 hc
      refine g_aload_n C 0 rfl dX5_end_19 ?_
      refine g_iload_n C 1 rfl dX5_end_20 ?_
      refine mp_length C q1002 dX5_end_21 ?_
      refine g_iconst C 1 (by decide) dX5_end_24 ?_
      exact ret _ _ _ _ _ rfl (gZ.n (Or.inr rfl)) dX5_end_25 ⟨_, _, rfl, h⟩
    · replace h := h.2 hc
      refine g_sub [] rfl ?_
      exact k_X5_end_17 C ret w1 L h
def B_X5_end (N : Nat) (x1 : Int32) (post : Int32 → Wd → va_W → Prop) (w : Wd) (L : va_W) : Prop := B_X5_end_0 N post x1 w L
theorem m_X5_end {l : Launch} {K : gK} {N : Nat} {post : Int32 → Wd → va_W → Prop} {x1 : Int32} {w : Wd} {L : va_W} (h : B_X5_end N x1 post w L) : gMi l K yX5_end cX5_end 2 (some .boolean) rm_X5_end [.ref (ma K 0), .int x1] (mL K w ++ L) (mPi K post) 0 0 := by
  refine g_inI (ls0 := [(0, .ref (ma K 0)), (1, .int x1)]) (by decide) (Nat.le_of_ble_eq_true rfl) rfl (fun Γ hl C hn ret => ?_)
  exact k_X5_end_0 C ret x1 w L h
def rm_X5_look : Room := { frames := 0, cells := 0, slots := 0, locals := 0 }
def B_X5_look_76 (N : Nat) (post : Int32 → Wd → va_W → Prop) (s0 : Int32) (w : Wd) (L : va_W) : Prop :=
  post s0 w L
set_option maxHeartbeats 4000000 in
theorem k_X5_look_76 {Γ : gT} {K : gK} {N : Nat} {post : Int32 → Wd → va_W → Prop} (C : gC Γ K RX5 cX5_look 1 rm_X5_look) (ret : gRi Γ K cX5_look (some .int) (mPi K post) 0 0) (s0 : Int32) (w : Wd) (L : va_W) (h : B_X5_look_76 N post s0 w L) : gJ Γ K 0 0 (mL K w ++ L) 76 [] [.int s0] := by
  unfold B_X5_look_76 at h
  exact ret _ _ _ _ _ rfl rfl dX5_look_76 ⟨_, _, rfl, h⟩
def B_X5_look_43 (N : Nat) (post : Int32 → Wd → va_W → Prop) (w : Wd) (L : va_W) : Prop :=
  ((xi w 4) ≤ (xi w 5) →
    B_X5_look_76 N post (-1) w L) ∧
  (¬ (xi w 4) ≤ (xi w 5) →
    vp_in ((xi w 3) + (xi w 5)) (mtl (xi w 27)) ∧ B_X5_look_76 N post ((mtx w (xi w 27) ((xi w 3) + (xi w 5)).toNatClampNeg) &&& 255) w L)
set_option maxHeartbeats 4000000 in
theorem k_X5_look_43 {Γ : gT} {K : gK} {N : Nat} {post : Int32 → Wd → va_W → Prop} (C : gC Γ K RX5 cX5_look 1 rm_X5_look) (ret : gRi Γ K cX5_look (some .int) (mPi K post) 0 0) (w : Wd) (L : va_W) (h : B_X5_look_43 N post w L) : gJ Γ K 0 0 (mL K w ++ L) 43 [(0, .ref (ma K 0))] [] := by
  unfold B_X5_look_43 at h
  refine g_aload_n C 0 rfl dX5_look_43 ?_
  refine mg_at C q1006 (xi w 5) rfl dX5_look_44 ?_
  refine g_aload_n C 0 rfl dX5_look_47 ?_
  refine mg_ends C q1005 (xi w 4) rfl dX5_look_48 ?_
  refine g_icmp_ge C 75 dX5_look_51 (by decide) (fun hc => ?_) (fun hc => ?_)
  · replace h := h.1 hc
    refine g_iconst C (-1) (by decide) dX5_look_75 ?_
    refine g_sub [] rfl ?_
    exact k_X5_look_76 C ret (-1) w L h
  · replace h := h.2 hc
    refine g_aload_n C 0 rfl dX5_look_54 ?_
    refine mg_text C q1001 (xi w 27) rfl dX5_look_55 ?_
    refine g_aload_n C 0 rfl dX5_look_58 ?_
    refine mg_begins C q1004 (xi w 3) rfl dX5_look_59 ?_
    refine g_aload_n C 0 rfl dX5_look_62 ?_
    refine mg_at C q1006 (xi w 5) rfl dX5_look_63 ?_
    refine g_iadd C dX5_look_66 ?_
    obtain ⟨hb, h⟩ := h
    refine mld_sel C hb (mtx w (xi w 27) ((xi w 3) + (xi w 5)).toNatClampNeg) rfl dX5_look_67 ?_
    refine g_sipush C 255 (by decide) dX5_look_68 ?_
    refine g_iand C dX5_look_71 ?_
    refine g_goto C 76 dX5_look_72 (by decide) ?_
    refine g_sub [] rfl ?_
    exact k_X5_look_76 C ret ((mtx w (xi w 27) ((xi w 3) + (xi w 5)).toNatClampNeg) &&& 255) w L h
def B_X5_look_0s (r0 : Wd → va_W → Prop) (N : Nat) (post : Int32 → Wd → va_W → Prop) (w : Wd) (L : va_W) : Prop :=
  ((xi w 4) ≤ (xi w 5) →
    B_X5_look_43 N post w L) ∧
  (¬ (xi w 4) ≤ (xi w 5) →
    vp_in ((xi w 3) + (xi w 5)) (mtl (xi w 27)) ∧ ((mtx w (xi w 27) ((xi w 3) + (xi w 5)).toNatClampNeg) = (32 : Int32) →
      r0 (xsi w 5 ((xi w 5) + 1)) L) ∧
    (¬ (mtx w (xi w 27) ((xi w 3) + (xi w 5)).toNatClampNeg) = (32 : Int32) →
      B_X5_look_43 N post w L))
def B_X5_look_0 (N : Nat) (post : Int32 → Wd → va_W → Prop) : Nat → Wd → va_W → Prop
  | 0, _, _ => False
  | n + 1, w, L => B_X5_look_0s (B_X5_look_0 N post n) N post w L
set_option maxHeartbeats 4000000 in
theorem k_X5_look_0s {Γ : gT} {K : gK} {N : Nat} {post : Int32 → Wd → va_W → Prop} (C : gC Γ K RX5 cX5_look 1 rm_X5_look) (ret : gRi Γ K cX5_look (some .int) (mPi K post) 0 0) {r0 : Wd → va_W → Prop} (hr0 : ∀ (w : Wd) (L : va_W), r0 w L → gJ Γ K 0 0 (mL K w ++ L) 0 [(0, .ref (ma K 0))] []) (w : Wd) (L : va_W) (h : B_X5_look_0s r0 N post w L) : gJ Γ K 0 0 (mL K w ++ L) 0 [(0, .ref (ma K 0))] [] := by
  unfold B_X5_look_0s at h
  refine g_aload_n C 0 rfl dX5_look_0 ?_
  refine mg_at C q1006 (xi w 5) rfl dX5_look_1 ?_
  refine g_aload_n C 0 rfl dX5_look_4 ?_
  refine mg_ends C q1005 (xi w 4) rfl dX5_look_5 ?_
  refine g_icmp_ge C 43 dX5_look_8 (by decide) (fun hc => ?_) (fun hc => ?_)
  · replace h := h.1 hc
    exact k_X5_look_43 C ret w L h
  · replace h := h.2 hc
    refine g_aload_n C 0 rfl dX5_look_11 ?_
    refine mg_text C q1001 (xi w 27) rfl dX5_look_12 ?_
    refine g_aload_n C 0 rfl dX5_look_15 ?_
    refine mg_begins C q1004 (xi w 3) rfl dX5_look_16 ?_
    refine g_aload_n C 0 rfl dX5_look_19 ?_
    refine mg_at C q1006 (xi w 5) rfl dX5_look_20 ?_
    refine g_iadd C dX5_look_23 ?_
    obtain ⟨hb, h⟩ := h
    refine mld_sel C hb (mtx w (xi w 27) ((xi w 3) + (xi w 5)).toNatClampNeg) rfl dX5_look_24 ?_
    refine g_bipush C 32 (by decide) dX5_look_25 ?_
    refine g_icmp_ne C 43 dX5_look_27 (by decide) (fun hc => ?_) (fun hc => ?_)
    · replace h := h.2 hc
      exact k_X5_look_43 C ret w L h
    · replace h := h.1 hc
      refine g_aload_n C 0 rfl dX5_look_30 ?_
      refine g_dup C rfl dX5_look_31 ?_
      refine mg_at C q1006 (xi w 5) rfl dX5_look_32 ?_
      refine g_iconst C 1 (by decide) dX5_look_35 ?_
      refine g_iadd C dX5_look_36 ?_
      refine mp_at C q1006 dX5_look_37 ?_
      refine g_goto C 0 dX5_look_40 (by decide) ?_
      exact hr0 (xsi w 5 ((xi w 5) + 1)) L h
theorem k_X5_look_0 {Γ : gT} {K : gK} {N : Nat} {post : Int32 → Wd → va_W → Prop} (C : gC Γ K RX5 cX5_look 1 rm_X5_look) (ret : gRi Γ K cX5_look (some .int) (mPi K post) 0 0) : ∀ (n : Nat) (w : Wd) (L : va_W) (h : B_X5_look_0 N post n w L), gJ Γ K 0 0 (mL K w ++ L) 0 [(0, .ref (ma K 0))] [] := by
  intro n
  induction n with
  | zero => intro w L h; exact h.elim
  | succ n ih => intro w L h; exact k_X5_look_0s C ret ih w L h
def B_X5_look (N : Nat) (post : Int32 → Wd → va_W → Prop) (w : Wd) (L : va_W) : Prop := B_X5_look_0 N post N w L
theorem m_X5_look {l : Launch} {K : gK} {N : Nat} {post : Int32 → Wd → va_W → Prop} {w : Wd} {L : va_W} (h : B_X5_look N post w L) : gMi l K yX5_look cX5_look 1 (some .int) rm_X5_look [.ref (ma K 0)] (mL K w ++ L) (mPi K post) 0 0 := by
  refine g_inI (ls0 := [(0, .ref (ma K 0))]) (by decide) (Nat.le_of_ble_eq_true rfl) rfl (fun Γ hl C hn ret => ?_)
  refine g_sub [0] rfl ?_
  exact k_X5_look_0 C ret N w L h
def rm_X5_fails : Room := { frames := 0, cells := 0, slots := 0, locals := 0 }
def B_X5_fails_16 (N : Nat) (post : Int32 → Wd → va_W → Prop) (w : Wd) (L : va_W) : Prop :=
  post 0 w L
set_option maxHeartbeats 4000000 in
theorem k_X5_fails_16 {Γ : gT} {K : gK} {N : Nat} {post : Int32 → Wd → va_W → Prop} (C : gC Γ K RX5 cX5_fails 1 rm_X5_fails) (ret : gRi Γ K cX5_fails (some .boolean) (mPi K post) 0 0) (w : Wd) (L : va_W) (h : B_X5_fails_16 N post w L) : gJ Γ K 0 0 (mL K w ++ L) 16 [] [] := by
  unfold B_X5_fails_16 at h
  refine g_iconst C 0 (by decide) dX5_fails_16 ?_
  exact ret _ _ _ _ _ rfl (gZ.n (Or.inl rfl)) dX5_fails_17 ⟨_, _, rfl, h⟩
def B_X5_fails_0 (N : Nat) (post : Int32 → Wd → va_W → Prop) (w : Wd) (L : va_W) : Prop :=
  ((xi w 6) = (-1 : Int32) →
    B_X5_fails_16 N post (xsi w 6 (xi w 5)) L) ∧
  (¬ (xi w 6) = (-1 : Int32) →
    B_X5_fails_16 N post w L)
set_option maxHeartbeats 4000000 in
theorem k_X5_fails_0 {Γ : gT} {K : gK} {N : Nat} {post : Int32 → Wd → va_W → Prop} (C : gC Γ K RX5 cX5_fails 1 rm_X5_fails) (ret : gRi Γ K cX5_fails (some .boolean) (mPi K post) 0 0) (w : Wd) (L : va_W) (h : B_X5_fails_0 N post w L) : gJ Γ K 0 0 (mL K w ++ L) 0 [(0, .ref (ma K 0))] [] := by
  unfold B_X5_fails_0 at h
  refine g_aload_n C 0 rfl dX5_fails_0 ?_
  refine mg_fault C q1007 (xi w 6) rfl dX5_fails_1 ?_
  refine g_iconst C (-1) (by decide) dX5_fails_4 ?_
  refine g_icmp_ne C 16 dX5_fails_5 (by decide) (fun hc => ?_) (fun hc => ?_)
  · replace h := h.2 hc
    refine g_sub [] rfl ?_
    exact k_X5_fails_16 C ret w L h
  · replace h := h.1 hc
    refine g_aload_n C 0 rfl dX5_fails_8 ?_
    refine g_aload_n C 0 rfl dX5_fails_9 ?_
    refine mg_at C q1006 (xi w 5) rfl dX5_fails_10 ?_
    refine mp_fault C q1007 dX5_fails_13 ?_
    refine g_sub [] rfl ?_
    exact k_X5_fails_16 C ret (xsi w 6 (xi w 5)) L h
def B_X5_fails (N : Nat) (post : Int32 → Wd → va_W → Prop) (w : Wd) (L : va_W) : Prop := B_X5_fails_0 N post w L
theorem m_X5_fails {l : Launch} {K : gK} {N : Nat} {post : Int32 → Wd → va_W → Prop} {w : Wd} {L : va_W} (h : B_X5_fails N post w L) : gMi l K yX5_fails cX5_fails 1 (some .boolean) rm_X5_fails [.ref (ma K 0)] (mL K w ++ L) (mPi K post) 0 0 := by
  refine g_inI (ls0 := [(0, .ref (ma K 0))]) (by decide) (Nat.le_of_ble_eq_true rfl) rfl (fun Γ hl C hn ret => ?_)
  exact k_X5_fails_0 C ret w L h
def rm_X5_goesIn : Room := { frames := 1, cells := 0, slots := 0, locals := 20 }
def B_X5_goesIn_0 (N : Nat) (post : Int32 → Wd → va_W → Prop) (w : Wd) (L : va_W) : Prop :=
  ((xi w 7) = (6 : Int32) →
    B_X5_fails N (fun (v3 : Int32) (w1 : Wd) (L2 : va_W) =>
  gZ v3 ∧ post v3 w1 L2) w L) ∧
  (¬ (xi w 7) = (6 : Int32) →
    post 1 (xsi (xsi w 7 ((xi w 7) + 1)) 5 ((xi w 5) + 1)) L)
set_option maxHeartbeats 4000000 in
theorem k_X5_goesIn_0 {Γ : gT} {K : gK} {N : Nat} {post : Int32 → Wd → va_W → Prop} (C : gC Γ K RX5 cX5_goesIn 1 rm_X5_goesIn) (ret : gRi Γ K cX5_goesIn (some .boolean) (mPi K post) 0 0) (w : Wd) (L : va_W) (h : B_X5_goesIn_0 N post w L) : gJ Γ K 0 0 (mL K w ++ L) 0 [(0, .ref (ma K 0))] [] := by
  unfold B_X5_goesIn_0 at h
  refine g_aload_n C 0 rfl dX5_goesIn_0 ?_
  refine mg_deep C q1008 (xi w 7) rfl dX5_goesIn_1 ?_
  refine g_bipush C 6 (by decide) dX5_goesIn_4 ?_
  refine g_icmp_ne C 14 dX5_goesIn_6 (by decide) (fun hc => ?_) (fun hc => ?_)
  · replace h := h.2 hc
    refine g_aload_n C 0 rfl dX5_goesIn_14 ?_
    refine g_dup C rfl dX5_goesIn_15 ?_
    refine mg_deep C q1008 (xi w 7) rfl dX5_goesIn_16 ?_
    refine g_iconst C 1 (by decide) dX5_goesIn_19 ?_
    refine g_iadd C dX5_goesIn_20 ?_
    refine mp_deep C q1008 dX5_goesIn_21 ?_
    refine g_aload_n C 0 rfl dX5_goesIn_24 ?_
    refine g_dup C rfl dX5_goesIn_25 ?_
    refine mg_at C q1006 (xi w 5) rfl dX5_goesIn_26 ?_
    refine g_iconst C 1 (by decide) dX5_goesIn_29 ?_
    refine g_iadd C dX5_goesIn_30 ?_
    refine mp_at C q1006 dX5_goesIn_31 ?_
    refine g_iconst C 1 (by decide) dX5_goesIn_34 ?_
    exact ret _ _ _ _ _ rfl (gZ.n (Or.inr rfl)) dX5_goesIn_35 ⟨_, _, rfl, h⟩
  · replace h := h.1 hc
    refine g_aload_n C 0 rfl dX5_goesIn_9 ?_
    refine g_callVi C (As := []) (rest := []) (m_X5_fails h) (lw_V q1208 q1210 qs37 q84 q1211) (ci := 12) (qi := 0) rfl rfl ⟨rfl, rfl⟩ ⟨Nat.le_of_ble_eq_true rfl, Nat.le_of_ble_eq_true rfl⟩ 0 rfl (by decide +kernel) rfl (Nat.le_of_ble_eq_true rfl) ⟨Nat.zero_le _, Nat.zero_le _⟩ dX5_goesIn_10 ?_
    rintro v3 _ ⟨w1, L2, rfl, h⟩
    obtain ⟨hz, h⟩ := h
    exact ret _ _ _ _ _ rfl hz.n dX5_goesIn_13 ⟨_, _, rfl, h⟩
def B_X5_goesIn (N : Nat) (post : Int32 → Wd → va_W → Prop) (w : Wd) (L : va_W) : Prop := B_X5_goesIn_0 N post w L
theorem m_X5_goesIn {l : Launch} {K : gK} {N : Nat} {post : Int32 → Wd → va_W → Prop} {w : Wd} {L : va_W} (h : B_X5_goesIn N post w L) : gMi l K yX5_goesIn cX5_goesIn 1 (some .boolean) rm_X5_goesIn [.ref (ma K 0)] (mL K w ++ L) (mPi K post) 0 0 := by
  refine g_inI (ls0 := [(0, .ref (ma K 0))]) (by decide) (Nat.le_of_ble_eq_true rfl) rfl (fun Γ hl C hn ret => ?_)
  exact k_X5_goesIn_0 C ret w L h
def rm_X5_takes : Room := { frames := 1, cells := 0, slots := 0, locals := 20 }
def B_X5_takes_16 (N : Nat) (post : Int32 → Wd → va_W → Prop) (w : Wd) (L : va_W) : Prop :=
  B_X5_fails N (fun (v3 : Int32) (w1 : Wd) (L2 : va_W) =>
  gZ v3 ∧ post v3 w1 L2) w L
set_option maxHeartbeats 4000000 in
theorem k_X5_takes_16 {Γ : gT} {K : gK} {N : Nat} {post : Int32 → Wd → va_W → Prop} (C : gC Γ K RX5 cX5_takes 2 rm_X5_takes) (ret : gRi Γ K cX5_takes (some .boolean) (mPi K post) 0 0) (w : Wd) (L : va_W) (h : B_X5_takes_16 N post w L) : gJ Γ K 0 0 (mL K w ++ L) 16 [(0, .ref (ma K 0))] [] := by
  unfold B_X5_takes_16 at h
  refine g_aload_n C 0 rfl dX5_takes_16 ?_
  refine g_callVi C (As := []) (rest := []) (m_X5_fails h) (lw_V q1208 q1210 qs37 q84 q1211) (ci := 12) (qi := 0) rfl rfl ⟨rfl, rfl⟩ ⟨Nat.le_of_ble_eq_true rfl, Nat.le_of_ble_eq_true rfl⟩ 0 rfl (by decide +kernel) rfl (Nat.le_of_ble_eq_true rfl) ⟨Nat.zero_le _, Nat.zero_le _⟩ dX5_takes_17 ?_
  rintro v3 _ ⟨w1, L2, rfl, h⟩
  obtain ⟨hz, h⟩ := h
  exact ret _ _ _ _ _ rfl hz.n dX5_takes_20 ⟨_, _, rfl, h⟩
def B_X5_takes_0 (N : Nat) (post : Int32 → Wd → va_W → Prop) (x1 : Int32) (w : Wd) (L : va_W) : Prop :=
  ((xi w 6) = (-1 : Int32) →
    B_X5_look N (fun (v3 : Int32) (w1 : Wd) (L2 : va_W) =>
  (v3 = x1 →
      post 1 (xsi w1 5 ((xi w1 5) + 1)) L2) ∧
    (¬ v3 = x1 →
      B_X5_takes_16 N post w1 L2)) w L) ∧
  (¬ (xi w 6) = (-1 : Int32) →
    B_X5_takes_16 N post w L)
set_option maxHeartbeats 4000000 in
theorem k_X5_takes_0 {Γ : gT} {K : gK} {N : Nat} {post : Int32 → Wd → va_W → Prop} (C : gC Γ K RX5 cX5_takes 2 rm_X5_takes) (ret : gRi Γ K cX5_takes (some .boolean) (mPi K post) 0 0) (x1 : Int32) (w : Wd) (L : va_W) (h : B_X5_takes_0 N post x1 w L) : gJ Γ K 0 0 (mL K w ++ L) 0 [(0, .ref (ma K 0)), (1, .int x1)] [] := by
  unfold B_X5_takes_0 at h
  refine g_aload_n C 0 rfl dX5_takes_0 ?_
  refine mg_fault C q1007 (xi w 6) rfl dX5_takes_1 ?_
  refine g_iconst C (-1) (by decide) dX5_takes_4 ?_
  refine g_icmp_ne C 16 dX5_takes_5 (by decide) (fun hc => ?_) (fun hc => ?_)
  · replace h := h.2 hc
    refine g_sub [0] rfl ?_
    exact k_X5_takes_16 C ret w L h
  · replace h := h.1 hc
    refine g_aload_n C 0 rfl dX5_takes_8 ?_
    refine g_callVi C (As := []) (rest := []) (m_X5_look h) (lw_V q1199 q1201 qs36 q84 q1202) (ci := 12) (qi := 0) rfl rfl ⟨rfl, rfl⟩ ⟨Nat.le_of_ble_eq_true rfl, Nat.le_of_ble_eq_true rfl⟩ 0 rfl (by decide +kernel) rfl (Nat.le_of_ble_eq_true rfl) ⟨Nat.zero_le _, Nat.zero_le _⟩ dX5_takes_9 ?_
    rintro v3 _ ⟨w1, L2, rfl, h⟩
    refine g_iload_n C 1 rfl dX5_takes_12 ?_
    refine g_icmp_eq C 21 dX5_takes_13 (by decide) (fun hc => ?_) (fun hc => ?_)
    · replace h := h.1 hc
      refine g_aload_n C 0 rfl dX5_takes_21 ?_
      refine g_dup C rfl dX5_takes_22 ?_
      refine mg_at C q1006 (xi w1 5) rfl dX5_takes_23 ?_
      refine g_iconst C 1 (by decide) dX5_takes_26 ?_
      refine g_iadd C dX5_takes_27 ?_
      refine mp_at C q1006 dX5_takes_28 ?_
      refine g_iconst C 1 (by decide) dX5_takes_31 ?_
      exact ret _ _ _ _ _ rfl (gZ.n (Or.inr rfl)) dX5_takes_32 ⟨_, _, rfl, h⟩
    · replace h := h.2 hc
      refine g_sub [0] rfl ?_
      exact k_X5_takes_16 C ret w1 L2 h
def B_X5_takes (N : Nat) (x1 : Int32) (post : Int32 → Wd → va_W → Prop) (w : Wd) (L : va_W) : Prop := B_X5_takes_0 N post x1 w L
theorem m_X5_takes {l : Launch} {K : gK} {N : Nat} {post : Int32 → Wd → va_W → Prop} {x1 : Int32} {w : Wd} {L : va_W} (h : B_X5_takes N x1 post w L) : gMi l K yX5_takes cX5_takes 2 (some .boolean) rm_X5_takes [.ref (ma K 0), .int x1] (mL K w ++ L) (mPi K post) 0 0 := by
  refine g_inI (ls0 := [(0, .ref (ma K 0)), (1, .int x1)]) (by decide) (Nat.le_of_ble_eq_true rfl) rfl (fun Γ hl C hn ret => ?_)
  exact k_X5_takes_0 C ret x1 w L h
def rm_X5_isDigit : Room := { frames := 0, cells := 0, slots := 0, locals := 0 }
def B_X5_isDigit_54 (N : Nat) (post : Int32 → Wd → va_W → Prop) (s0 : Int32) (w : Wd) (L : va_W) : Prop :=
  gZ s0 ∧ post s0 w L
set_option maxHeartbeats 4000000 in
theorem k_X5_isDigit_54 {Γ : gT} {K : gK} {N : Nat} {post : Int32 → Wd → va_W → Prop} (C : gC Γ K RX5 cX5_isDigit 1 rm_X5_isDigit) (ret : gRi Γ K cX5_isDigit (some .boolean) (mPi K post) 0 0) (s0 : Int32) (w : Wd) (L : va_W) (h : B_X5_isDigit_54 N post s0 w L) : gJ Γ K 0 0 (mL K w ++ L) 54 [] [.int s0] := by
  unfold B_X5_isDigit_54 at h
  obtain ⟨hz, h⟩ := h
  exact ret _ _ _ _ _ rfl hz.n dX5_isDigit_54 ⟨_, _, rfl, h⟩
def B_X5_isDigit_53 (N : Nat) (post : Int32 → Wd → va_W → Prop) (w : Wd) (L : va_W) : Prop :=
  B_X5_isDigit_54 N post 0 w L
set_option maxHeartbeats 4000000 in
theorem k_X5_isDigit_53 {Γ : gT} {K : gK} {N : Nat} {post : Int32 → Wd → va_W → Prop} (C : gC Γ K RX5 cX5_isDigit 1 rm_X5_isDigit) (ret : gRi Γ K cX5_isDigit (some .boolean) (mPi K post) 0 0) (w : Wd) (L : va_W) (h : B_X5_isDigit_53 N post w L) : gJ Γ K 0 0 (mL K w ++ L) 53 [] [] := by
  unfold B_X5_isDigit_53 at h
  refine g_iconst C 0 (by decide) dX5_isDigit_53 ?_
  exact k_X5_isDigit_54 C ret 0 w L h
def B_X5_isDigit_0 (N : Nat) (post : Int32 → Wd → va_W → Prop) (w : Wd) (L : va_W) : Prop :=
  ((xi w 4) ≤ (xi w 5) →
    B_X5_isDigit_53 N post w L) ∧
  (¬ (xi w 4) ≤ (xi w 5) →
    vp_in ((xi w 3) + (xi w 5)) (mtl (xi w 27)) ∧ ((mtx w (xi w 27) ((xi w 3) + (xi w 5)).toNatClampNeg) < (48 : Int32) →
      B_X5_isDigit_53 N post w L) ∧
    (¬ (mtx w (xi w 27) ((xi w 3) + (xi w 5)).toNatClampNeg) < (48 : Int32) →
      vp_in ((xi w 3) + (xi w 5)) (mtl (xi w 27)) ∧ ((57 : Int32) < (mtx w (xi w 27) ((xi w 3) + (xi w 5)).toNatClampNeg) →
        B_X5_isDigit_53 N post w L) ∧
      (¬ (57 : Int32) < (mtx w (xi w 27) ((xi w 3) + (xi w 5)).toNatClampNeg) →
        B_X5_isDigit_54 N post 1 w L)))
set_option maxHeartbeats 4000000 in
theorem k_X5_isDigit_0 {Γ : gT} {K : gK} {N : Nat} {post : Int32 → Wd → va_W → Prop} (C : gC Γ K RX5 cX5_isDigit 1 rm_X5_isDigit) (ret : gRi Γ K cX5_isDigit (some .boolean) (mPi K post) 0 0) (w : Wd) (L : va_W) (h : B_X5_isDigit_0 N post w L) : gJ Γ K 0 0 (mL K w ++ L) 0 [(0, .ref (ma K 0))] [] := by
  unfold B_X5_isDigit_0 at h
  refine g_aload_n C 0 rfl dX5_isDigit_0 ?_
  refine mg_at C q1006 (xi w 5) rfl dX5_isDigit_1 ?_
  refine g_aload_n C 0 rfl dX5_isDigit_4 ?_
  refine mg_ends C q1005 (xi w 4) rfl dX5_isDigit_5 ?_
  refine g_icmp_ge C 53 dX5_isDigit_8 (by decide) (fun hc => ?_) (fun hc => ?_)
  · replace h := h.1 hc
    refine g_sub [] rfl ?_
    exact k_X5_isDigit_53 C ret w L h
  · replace h := h.2 hc
    refine g_aload_n C 0 rfl dX5_isDigit_11 ?_
    refine mg_text C q1001 (xi w 27) rfl dX5_isDigit_12 ?_
    refine g_aload_n C 0 rfl dX5_isDigit_15 ?_
    refine mg_begins C q1004 (xi w 3) rfl dX5_isDigit_16 ?_
    refine g_aload_n C 0 rfl dX5_isDigit_19 ?_
    refine mg_at C q1006 (xi w 5) rfl dX5_isDigit_20 ?_
    refine g_iadd C dX5_isDigit_23 ?_
    obtain ⟨hb, h⟩ := h
    refine mld_sel C hb (mtx w (xi w 27) ((xi w 3) + (xi w 5)).toNatClampNeg) rfl dX5_isDigit_24 ?_
    refine g_bipush C 48 (by decide) dX5_isDigit_25 ?_
    refine g_icmp_lt C 53 dX5_isDigit_27 (by decide) (fun hc => ?_) (fun hc => ?_)
    · replace h := h.1 hc
      refine g_sub [] rfl ?_
      exact k_X5_isDigit_53 C ret w L h
    · replace h := h.2 hc
      refine g_aload_n C 0 rfl dX5_isDigit_30 ?_
      refine mg_text C q1001 (xi w 27) rfl dX5_isDigit_31 ?_
      refine g_aload_n C 0 rfl dX5_isDigit_34 ?_
      refine mg_begins C q1004 (xi w 3) rfl dX5_isDigit_35 ?_
      refine g_aload_n C 0 rfl dX5_isDigit_38 ?_
      refine mg_at C q1006 (xi w 5) rfl dX5_isDigit_39 ?_
      refine g_iadd C dX5_isDigit_42 ?_
      obtain ⟨hb, h⟩ := h
      refine mld_sel C hb (mtx w (xi w 27) ((xi w 3) + (xi w 5)).toNatClampNeg) rfl dX5_isDigit_43 ?_
      refine g_bipush C 57 (by decide) dX5_isDigit_44 ?_
      refine g_icmp_gt C 53 dX5_isDigit_46 (by decide) (fun hc => ?_) (fun hc => ?_)
      · replace h := h.1 hc
        refine g_sub [] rfl ?_
        exact k_X5_isDigit_53 C ret w L h
      · replace h := h.2 hc
        refine g_iconst C 1 (by decide) dX5_isDigit_49 ?_
        refine g_goto C 54 dX5_isDigit_50 (by decide) ?_
        refine g_sub [] rfl ?_
        exact k_X5_isDigit_54 C ret 1 w L h
def B_X5_isDigit (N : Nat) (post : Int32 → Wd → va_W → Prop) (w : Wd) (L : va_W) : Prop := B_X5_isDigit_0 N post w L
theorem m_X5_isDigit {l : Launch} {K : gK} {N : Nat} {post : Int32 → Wd → va_W → Prop} {w : Wd} {L : va_W} (h : B_X5_isDigit N post w L) : gMi l K yX5_isDigit cX5_isDigit 1 (some .boolean) rm_X5_isDigit [.ref (ma K 0)] (mL K w ++ L) (mPi K post) 0 0 := by
  refine g_inI (ls0 := [(0, .ref (ma K 0))]) (by decide) (Nat.le_of_ble_eq_true rfl) rfl (fun Γ hl C hn ret => ?_)
  exact k_X5_isDigit_0 C ret w L h
def rm_X5_isLaw : Room := { frames := 0, cells := 0, slots := 0, locals := 0 }
def B_X5_isLaw_17 (N : Nat) (post : Int32 → Wd → va_W → Prop) (s0 : Int32) (w : Wd) (L : va_W) : Prop :=
  gZ s0 ∧ post s0 w L
set_option maxHeartbeats 4000000 in
theorem k_X5_isLaw_17 {Γ : gT} {K : gK} {N : Nat} {post : Int32 → Wd → va_W → Prop} (C : gC Γ K RX5 cX5_isLaw 2 rm_X5_isLaw) (ret : gRi Γ K cX5_isLaw (some .boolean) (mPi K post) 0 0) (s0 : Int32) (w : Wd) (L : va_W) (h : B_X5_isLaw_17 N post s0 w L) : gJ Γ K 0 0 (mL K w ++ L) 17 [] [.int s0] := by
  unfold B_X5_isLaw_17 at h
  obtain ⟨hz, h⟩ := h
  exact ret _ _ _ _ _ rfl hz.n dX5_isLaw_17 ⟨_, _, rfl, h⟩
def B_X5_isLaw_16 (N : Nat) (post : Int32 → Wd → va_W → Prop) (w : Wd) (L : va_W) : Prop :=
  B_X5_isLaw_17 N post 0 w L
set_option maxHeartbeats 4000000 in
theorem k_X5_isLaw_16 {Γ : gT} {K : gK} {N : Nat} {post : Int32 → Wd → va_W → Prop} (C : gC Γ K RX5 cX5_isLaw 2 rm_X5_isLaw) (ret : gRi Γ K cX5_isLaw (some .boolean) (mPi K post) 0 0) (w : Wd) (L : va_W) (h : B_X5_isLaw_16 N post w L) : gJ Γ K 0 0 (mL K w ++ L) 16 [] [] := by
  unfold B_X5_isLaw_16 at h
  refine g_iconst C 0 (by decide) dX5_isLaw_16 ?_
  exact k_X5_isLaw_17 C ret 0 w L h
def B_X5_isLaw_0 (N : Nat) (post : Int32 → Wd → va_W → Prop) (x1 : Int32) (w : Wd) (L : va_W) : Prop :=
  (x1 < 0 →
    B_X5_isLaw_16 N post w L) ∧
  (¬ x1 < 0 →
    ((xi w 2) ≤ x1 →
      B_X5_isLaw_16 N post w L) ∧
    (¬ (xi w 2) ≤ x1 →
      B_X5_isLaw_17 N post 1 w L))
set_option maxHeartbeats 4000000 in
theorem k_X5_isLaw_0 {Γ : gT} {K : gK} {N : Nat} {post : Int32 → Wd → va_W → Prop} (C : gC Γ K RX5 cX5_isLaw 2 rm_X5_isLaw) (ret : gRi Γ K cX5_isLaw (some .boolean) (mPi K post) 0 0) (x1 : Int32) (w : Wd) (L : va_W) (h : B_X5_isLaw_0 N post x1 w L) : gJ Γ K 0 0 (mL K w ++ L) 0 [(0, .ref (ma K 0)), (1, .int x1)] [] := by
  unfold B_X5_isLaw_0 at h
  refine g_iload_n C 1 rfl dX5_isLaw_0 ?_
  refine g_if_lt C 16 dX5_isLaw_1 (by decide) (fun hc => ?_) (fun hc => ?_)
  · replace h := h.1 hc
    refine g_sub [] rfl ?_
    exact k_X5_isLaw_16 C ret w L h
  · replace h := h.2 hc
    refine g_iload_n C 1 rfl dX5_isLaw_4 ?_
    refine g_aload_n C 0 rfl dX5_isLaw_5 ?_
    refine mg_laws C q1003 (xi w 2) rfl dX5_isLaw_6 ?_
    refine g_icmp_ge C 16 dX5_isLaw_9 (by decide) (fun hc => ?_) (fun hc => ?_)
    · replace h := h.1 hc
      refine g_sub [] rfl ?_
      exact k_X5_isLaw_16 C ret w L h
    · replace h := h.2 hc
      refine g_iconst C 1 (by decide) dX5_isLaw_12 ?_
      refine g_goto C 17 dX5_isLaw_13 (by decide) ?_
      refine g_sub [] rfl ?_
      exact k_X5_isLaw_17 C ret 1 w L h
def B_X5_isLaw (N : Nat) (x1 : Int32) (post : Int32 → Wd → va_W → Prop) (w : Wd) (L : va_W) : Prop := B_X5_isLaw_0 N post x1 w L
theorem m_X5_isLaw {l : Launch} {K : gK} {N : Nat} {post : Int32 → Wd → va_W → Prop} {x1 : Int32} {w : Wd} {L : va_W} (h : B_X5_isLaw N x1 post w L) : gMi l K yX5_isLaw cX5_isLaw 2 (some .boolean) rm_X5_isLaw [.ref (ma K 0), .int x1] (mL K w ++ L) (mPi K post) 0 0 := by
  refine g_inI (ls0 := [(0, .ref (ma K 0)), (1, .int x1)]) (by decide) (Nat.le_of_ble_eq_true rfl) rfl (fun Γ hl C hn ret => ?_)
  exact k_X5_isLaw_0 C ret x1 w L h
def rm_X5_isAnimal : Room := { frames := 0, cells := 0, slots := 0, locals := 0 }
def B_X5_isAnimal_17 (N : Nat) (post : Int32 → Wd → va_W → Prop) (s0 : Int32) (w : Wd) (L : va_W) : Prop :=
  gZ s0 ∧ post s0 w L
set_option maxHeartbeats 4000000 in
theorem k_X5_isAnimal_17 {Γ : gT} {K : gK} {N : Nat} {post : Int32 → Wd → va_W → Prop} (C : gC Γ K RX5 cX5_isAnimal 2 rm_X5_isAnimal) (ret : gRi Γ K cX5_isAnimal (some .boolean) (mPi K post) 0 0) (s0 : Int32) (w : Wd) (L : va_W) (h : B_X5_isAnimal_17 N post s0 w L) : gJ Γ K 0 0 (mL K w ++ L) 17 [] [.int s0] := by
  unfold B_X5_isAnimal_17 at h
  obtain ⟨hz, h⟩ := h
  exact ret _ _ _ _ _ rfl hz.n dX5_isAnimal_17 ⟨_, _, rfl, h⟩
def B_X5_isAnimal_16 (N : Nat) (post : Int32 → Wd → va_W → Prop) (w : Wd) (L : va_W) : Prop :=
  B_X5_isAnimal_17 N post 0 w L
set_option maxHeartbeats 4000000 in
theorem k_X5_isAnimal_16 {Γ : gT} {K : gK} {N : Nat} {post : Int32 → Wd → va_W → Prop} (C : gC Γ K RX5 cX5_isAnimal 2 rm_X5_isAnimal) (ret : gRi Γ K cX5_isAnimal (some .boolean) (mPi K post) 0 0) (w : Wd) (L : va_W) (h : B_X5_isAnimal_16 N post w L) : gJ Γ K 0 0 (mL K w ++ L) 16 [] [] := by
  unfold B_X5_isAnimal_16 at h
  refine g_iconst C 0 (by decide) dX5_isAnimal_16 ?_
  exact k_X5_isAnimal_17 C ret 0 w L h
def B_X5_isAnimal_0 (N : Nat) (post : Int32 → Wd → va_W → Prop) (x1 : Int32) (w : Wd) (L : va_W) : Prop :=
  (x1 < 0 →
    B_X5_isAnimal_16 N post w L) ∧
  (¬ x1 < 0 →
    ((xi w 11) ≤ x1 →
      B_X5_isAnimal_16 N post w L) ∧
    (¬ (xi w 11) ≤ x1 →
      B_X5_isAnimal_17 N post 1 w L))
set_option maxHeartbeats 4000000 in
theorem k_X5_isAnimal_0 {Γ : gT} {K : gK} {N : Nat} {post : Int32 → Wd → va_W → Prop} (C : gC Γ K RX5 cX5_isAnimal 2 rm_X5_isAnimal) (ret : gRi Γ K cX5_isAnimal (some .boolean) (mPi K post) 0 0) (x1 : Int32) (w : Wd) (L : va_W) (h : B_X5_isAnimal_0 N post x1 w L) : gJ Γ K 0 0 (mL K w ++ L) 0 [(0, .ref (ma K 0)), (1, .int x1)] [] := by
  unfold B_X5_isAnimal_0 at h
  refine g_iload_n C 1 rfl dX5_isAnimal_0 ?_
  refine g_if_lt C 16 dX5_isAnimal_1 (by decide) (fun hc => ?_) (fun hc => ?_)
  · replace h := h.1 hc
    refine g_sub [] rfl ?_
    exact k_X5_isAnimal_16 C ret w L h
  · replace h := h.2 hc
    refine g_iload_n C 1 rfl dX5_isAnimal_4 ?_
    refine g_aload_n C 0 rfl dX5_isAnimal_5 ?_
    refine mg_animals C q1017 (xi w 11) rfl dX5_isAnimal_6 ?_
    refine g_icmp_ge C 16 dX5_isAnimal_9 (by decide) (fun hc => ?_) (fun hc => ?_)
    · replace h := h.1 hc
      refine g_sub [] rfl ?_
      exact k_X5_isAnimal_16 C ret w L h
    · replace h := h.2 hc
      refine g_iconst C 1 (by decide) dX5_isAnimal_12 ?_
      refine g_goto C 17 dX5_isAnimal_13 (by decide) ?_
      refine g_sub [] rfl ?_
      exact k_X5_isAnimal_17 C ret 1 w L h
def B_X5_isAnimal (N : Nat) (x1 : Int32) (post : Int32 → Wd → va_W → Prop) (w : Wd) (L : va_W) : Prop := B_X5_isAnimal_0 N post x1 w L
theorem m_X5_isAnimal {l : Launch} {K : gK} {N : Nat} {post : Int32 → Wd → va_W → Prop} {x1 : Int32} {w : Wd} {L : va_W} (h : B_X5_isAnimal N x1 post w L) : gMi l K yX5_isAnimal cX5_isAnimal 2 (some .boolean) rm_X5_isAnimal [.ref (ma K 0), .int x1] (mL K w ++ L) (mPi K post) 0 0 := by
  refine g_inI (ls0 := [(0, .ref (ma K 0)), (1, .int x1)]) (by decide) (Nat.le_of_ble_eq_true rfl) rfl (fun Γ hl C hn ret => ?_)
  exact k_X5_isAnimal_0 C ret x1 w L h
def rm_X5_animal : Room := { frames := 1, cells := 0, slots := 0, locals := 22 }
def B_X5_animal_67 (N : Nat) (post : Int32 → Wd → va_W → Prop) (w : Wd) (L : va_W) : Prop :=
  post (-1) w L
set_option maxHeartbeats 4000000 in
theorem k_X5_animal_67 {Γ : gT} {K : gK} {N : Nat} {post : Int32 → Wd → va_W → Prop} (C : gC Γ K RX5 cX5_animal 5 rm_X5_animal) (ret : gRi Γ K cX5_animal (some .int) (mPi K post) 0 0) (w : Wd) (L : va_W) (h : B_X5_animal_67 N post w L) : gJ Γ K 0 0 (mL K w ++ L) 67 [] [] := by
  unfold B_X5_animal_67 at h
  refine g_iconst C (-1) (by decide) dX5_animal_67 ?_
  exact ret _ _ _ _ _ rfl rfl dX5_animal_68 ⟨_, _, rfl, h⟩
def B_X5_animal_69 (N : Nat) (post : Int32 → Wd → va_W → Prop) (x1 : Int32) (x2 : Int32) (x3 : Int32) (w : Wd) (L : va_W) : Prop :=
  vp_in (xi w 11) 16 ∧ ∀ w1 : Wd, w1 = (xsA w 5 (xi w 11).toNatClampNeg x1) → vp_in (xi w1 11) 16 ∧ ∀ w2 : Wd, w2 = (xsA w1 6 (xi w1 11).toNatClampNeg x2) → vp_in (xi w2 11) 16 ∧ ∀ w3 : Wd, w3 = (xsA w2 7 (xi w2 11).toNatClampNeg x3) → post (((xi w3 11) + 1) - 1) (xsi w3 11 ((xi w3 11) + 1)) L
set_option maxHeartbeats 4000000 in
theorem k_X5_animal_69 {Γ : gT} {K : gK} {N : Nat} {post : Int32 → Wd → va_W → Prop} (C : gC Γ K RX5 cX5_animal 5 rm_X5_animal) (ret : gRi Γ K cX5_animal (some .int) (mPi K post) 0 0) (x1 : Int32) (x2 : Int32) (x3 : Int32) (w : Wd) (L : va_W) (h : B_X5_animal_69 N post x1 x2 x3 w L) : gJ Γ K 0 0 (mL K w ++ L) 69 [(0, .ref (ma K 0)), (1, .int x1), (2, .int x2), (3, .int x3)] [] := by
  unfold B_X5_animal_69 at h
  refine g_aload_n C 0 rfl dX5_animal_69 ?_
  refine mg_mother C q1014 dX5_animal_70 ?_
  refine g_aload_n C 0 rfl dX5_animal_73 ?_
  refine mg_animals C q1017 (xi w 11) rfl dX5_animal_74 ?_
  refine g_iload_n C 1 rfl dX5_animal_77 ?_
  obtain ⟨hb, h⟩ := h
  refine mst_5 C hb dX5_animal_78 ?_
  obtain ⟨w1, ew1⟩ : ∃ z, z = (xsA w 5 (xi w 11).toNatClampNeg x1) := ⟨_, rfl⟩
  replace h := h w1 ew1
  rw [← ew1]
  refine g_aload_n C 0 rfl dX5_animal_79 ?_
  refine mg_father C q1015 dX5_animal_80 ?_
  refine g_aload_n C 0 rfl dX5_animal_83 ?_
  refine mg_animals C q1017 (xi w1 11) rfl dX5_animal_84 ?_
  refine g_iload_n C 2 rfl dX5_animal_87 ?_
  obtain ⟨hb, h⟩ := h
  refine mst_6 C hb dX5_animal_88 ?_
  obtain ⟨w2, ew2⟩ : ∃ z, z = (xsA w1 6 (xi w1 11).toNatClampNeg x2) := ⟨_, rfl⟩
  replace h := h w2 ew2
  rw [← ew2]
  refine g_aload_n C 0 rfl dX5_animal_89 ?_
  refine mg_toldWeight C q1016 dX5_animal_90 ?_
  refine g_aload_n C 0 rfl dX5_animal_93 ?_
  refine mg_animals C q1017 (xi w2 11) rfl dX5_animal_94 ?_
  refine g_iload_n C 3 rfl dX5_animal_97 ?_
  obtain ⟨hb, h⟩ := h
  refine mst_7 C hb dX5_animal_98 ?_
  obtain ⟨w3, ew3⟩ : ∃ z, z = (xsA w2 7 (xi w2 11).toNatClampNeg x3) := ⟨_, rfl⟩
  replace h := h w3 ew3
  rw [← ew3]
  refine g_aload_n C 0 rfl dX5_animal_99 ?_
  refine g_dup C rfl dX5_animal_100 ?_
  refine mg_animals C q1017 (xi w3 11) rfl dX5_animal_101 ?_
  refine g_iconst C 1 (by decide) dX5_animal_104 ?_
  refine g_iadd C dX5_animal_105 ?_
  refine mp_animals C q1017 dX5_animal_106 ?_
  refine g_aload_n C 0 rfl dX5_animal_109 ?_
  refine mg_animals C q1017 (((xi w3 11) + 1)) rfl dX5_animal_110 ?_
  refine g_iconst C 1 (by decide) dX5_animal_113 ?_
  refine g_isub C dX5_animal_114 ?_
  exact ret _ _ _ _ _ rfl rfl dX5_animal_115 ⟨_, _, rfl, h⟩
def B_X5_animal_20 (N : Nat) (post : Int32 → Wd → va_W → Prop) (x1 : Int32) (x2 : Int32) (x3 : Int32) (s0 : Int32) (w : Wd) (L : va_W) : Prop :=
  ((xi w 11) = (16 : Int32) →
    B_X5_animal_67 N post w L) ∧
  (¬ (xi w 11) = (16 : Int32) →
    B_X5_isIn N x3 1 99 (fun (v3 : Int32) (w1 : Wd) (L2 : va_W) =>
  (v3 = 0 →
      B_X5_animal_67 N post w1 L2) ∧
    (¬ v3 = 0 →
      (s0 = 0 →
        B_X5_isAnimal N x1 (fun (v6 : Int32) (w4 : Wd) (L5 : va_W) =>
  (v6 = 0 →
          B_X5_animal_67 N post w4 L5) ∧
        (¬ v6 = 0 →
          B_X5_isAnimal N x2 (fun (v9 : Int32) (w7 : Wd) (L8 : va_W) =>
  (v9 = 0 →
            B_X5_animal_67 N post w7 L8) ∧
          (¬ v9 = 0 →
            (x1 = x2 →
              B_X5_animal_67 N post w7 L8) ∧
            (¬ x1 = x2 →
              B_X5_animal_69 N post x1 x2 x3 w7 L8))) w4 L5)) w1 L2) ∧
      (¬ s0 = 0 →
        B_X5_animal_69 N post x1 x2 x3 w1 L2))) w L)
set_option maxHeartbeats 4000000 in
theorem k_X5_animal_20 {Γ : gT} {K : gK} {N : Nat} {post : Int32 → Wd → va_W → Prop} (C : gC Γ K RX5 cX5_animal 5 rm_X5_animal) (ret : gRi Γ K cX5_animal (some .int) (mPi K post) 0 0) (x1 : Int32) (x2 : Int32) (x3 : Int32) (s0 : Int32) (w : Wd) (L : va_W) (h : B_X5_animal_20 N post x1 x2 x3 s0 w L) : gJ Γ K 0 0 (mL K w ++ L) 20 [(0, .ref (ma K 0)), (1, .int x1), (2, .int x2), (3, .int x3)] [.int s0] := by
  unfold B_X5_animal_20 at h
  refine g_istore C (lt := [(4, .int s0), (0, .ref (ma K 0)), (1, .int x1), (2, .int x2), (3, .int x3)]) dX5_animal_20 (by decide) rfl ?_
  refine g_aload_n C 1 rfl dX5_animal_22 ?_
  refine mg_animals C q1017 (xi w 11) rfl dX5_animal_23 ?_
  refine g_bipush C 16 (by decide) dX5_animal_26 ?_
  refine g_icmp_eq C 67 dX5_animal_28 (by decide) (fun hc => ?_) (fun hc => ?_)
  · replace h := h.1 hc
    refine g_sub [] rfl ?_
    exact k_X5_animal_67 C ret w L h
  · replace h := h.2 hc
    refine g_iload_n C 4 rfl dX5_animal_31 ?_
    refine g_iconst C 1 (by decide) dX5_animal_32 ?_
    refine g_bipush C 99 (by decide) dX5_animal_33 ?_
    refine g_callSi C (As := [.int x3, .int 1, .int 99]) (rest := []) (m_X5_isIn h) (Cn := "") (b := 0) (lw_S q1270 q1271 q84 q1272) ⟨rfl, rfl⟩ ⟨Nat.le_of_ble_eq_true rfl, Nat.le_of_ble_eq_true rfl⟩ 3 rfl (by decide +kernel) rfl (Nat.le_of_ble_eq_true rfl) ⟨Nat.zero_le _, Nat.zero_le _⟩ dX5_animal_35 ?_
    rintro v3 _ ⟨w1, L2, rfl, h⟩
    refine g_if_eq C 67 dX5_animal_38 (by decide) (fun hc => ?_) (fun hc => ?_)
    · replace h := h.1 hc
      refine g_sub [] rfl ?_
      exact k_X5_animal_67 C ret w1 L2 h
    · replace h := h.2 hc
      refine g_iload C 0 rfl dX5_animal_41 ?_
      refine g_if_ne C 69 dX5_animal_43 (by decide) (fun hc => ?_) (fun hc => ?_)
      · replace h := h.2 hc
        refine g_sub [1, 2, 3, 4] rfl ?_
        exact k_X5_animal_69 C ret x1 x2 x3 w1 L2 h
      · replace h := h.1 hc
        refine g_aload_n C 1 rfl dX5_animal_46 ?_
        refine g_iload_n C 2 rfl dX5_animal_47 ?_
        refine g_callVi C (As := [.int x1]) (rest := []) (m_X5_isAnimal h) (lw_V q1273 q1275 qs48 q84 q1276) (ci := 12) (qi := 0) rfl rfl ⟨rfl, rfl⟩ ⟨Nat.le_of_ble_eq_true rfl, Nat.le_of_ble_eq_true rfl⟩ 1 rfl (by decide +kernel) rfl (Nat.le_of_ble_eq_true rfl) ⟨Nat.zero_le _, Nat.zero_le _⟩ dX5_animal_48 ?_
        rintro v6 _ ⟨w4, L5, rfl, h⟩
        refine g_if_eq C 67 dX5_animal_51 (by decide) (fun hc => ?_) (fun hc => ?_)
        · replace h := h.1 hc
          refine g_sub [] rfl ?_
          exact k_X5_animal_67 C ret w4 L5 h
        · replace h := h.2 hc
          refine g_aload_n C 1 rfl dX5_animal_54 ?_
          refine g_iload_n C 3 rfl dX5_animal_55 ?_
          refine g_callVi C (As := [.int x2]) (rest := []) (m_X5_isAnimal h) (lw_V q1273 q1275 qs48 q84 q1276) (ci := 12) (qi := 0) rfl rfl ⟨rfl, rfl⟩ ⟨Nat.le_of_ble_eq_true rfl, Nat.le_of_ble_eq_true rfl⟩ 1 rfl (by decide +kernel) rfl (Nat.le_of_ble_eq_true rfl) ⟨Nat.zero_le _, Nat.zero_le _⟩ dX5_animal_56 ?_
          rintro v9 _ ⟨w7, L8, rfl, h⟩
          refine g_if_eq C 67 dX5_animal_59 (by decide) (fun hc => ?_) (fun hc => ?_)
          · replace h := h.1 hc
            refine g_sub [] rfl ?_
            exact k_X5_animal_67 C ret w7 L8 h
          · replace h := h.2 hc
            refine g_iload_n C 2 rfl dX5_animal_62 ?_
            refine g_iload_n C 3 rfl dX5_animal_63 ?_
            refine g_icmp_ne C 69 dX5_animal_64 (by decide) (fun hc => ?_) (fun hc => ?_)
            · replace h := h.2 hc
              refine g_sub [1, 2, 3, 4] rfl ?_
              exact k_X5_animal_69 C ret x1 x2 x3 w7 L8 h
            · replace h := h.1 hc
              refine g_sub [] rfl ?_
              exact k_X5_animal_67 C ret w7 L8 h
def B_X5_animal_19 (N : Nat) (post : Int32 → Wd → va_W → Prop) (x1 : Int32) (x2 : Int32) (x3 : Int32) (w : Wd) (L : va_W) : Prop :=
  B_X5_animal_20 N post x1 x2 x3 0 w L
set_option maxHeartbeats 4000000 in
theorem k_X5_animal_19 {Γ : gT} {K : gK} {N : Nat} {post : Int32 → Wd → va_W → Prop} (C : gC Γ K RX5 cX5_animal 5 rm_X5_animal) (ret : gRi Γ K cX5_animal (some .int) (mPi K post) 0 0) (x1 : Int32) (x2 : Int32) (x3 : Int32) (w : Wd) (L : va_W) (h : B_X5_animal_19 N post x1 x2 x3 w L) : gJ Γ K 0 0 (mL K w ++ L) 19 [(0, .ref (ma K 0)), (1, .int x1), (2, .int x2), (3, .int x3)] [] := by
  unfold B_X5_animal_19 at h
  refine g_iconst C 0 (by decide) dX5_animal_19 ?_
  exact k_X5_animal_20 C ret x1 x2 x3 0 w L h
def B_X5_animal_0 (N : Nat) (post : Int32 → Wd → va_W → Prop) (x1 : Int32) (x2 : Int32) (x3 : Int32) (w : Wd) (L : va_W) : Prop :=
  ∀ w1 : Wd, w1 = (xsi w 0 0) → (x1 = (-1 : Int32) →
    (x2 = (-1 : Int32) →
      B_X5_animal_20 N post x1 x2 x3 1 w1 L) ∧
    (¬ x2 = (-1 : Int32) →
      B_X5_animal_19 N post x1 x2 x3 w1 L)) ∧
  (¬ x1 = (-1 : Int32) →
    B_X5_animal_19 N post x1 x2 x3 w1 L)
set_option maxHeartbeats 4000000 in
theorem k_X5_animal_0 {Γ : gT} {K : gK} {N : Nat} {post : Int32 → Wd → va_W → Prop} (C : gC Γ K RX5 cX5_animal 5 rm_X5_animal) (ret : gRi Γ K cX5_animal (some .int) (mPi K post) 0 0) (x1 : Int32) (x2 : Int32) (x3 : Int32) (w : Wd) (L : va_W) (h : B_X5_animal_0 N post x1 x2 x3 w L) : gJ Γ K 0 0 (mL K w ++ L) 0 [(0, .ref (ma K 0)), (1, .int x1), (2, .int x2), (3, .int x3)] [] := by
  unfold B_X5_animal_0 at h
  refine g_aload_n C 0 rfl dX5_animal_0 ?_
  refine g_iconst C 0 (by decide) dX5_animal_1 ?_
  refine mp_thrown C q996 dX5_animal_2 ?_
  refine g_iload_n C 1 rfl dX5_animal_5 ?_
  refine g_iconst C (-1) (by decide) dX5_animal_6 ?_
  obtain ⟨w1, ew1⟩ : ∃ z, z = (xsi w 0 0) := ⟨_, rfl⟩
  replace h := h w1 ew1
  rw [← ew1]
  refine g_icmp_ne C 19 dX5_animal_7 (by decide) (fun hc => ?_) (fun hc => ?_)
  · replace h := h.2 hc
    exact k_X5_animal_19 C ret x1 x2 x3 w1 L h
  · replace h := h.1 hc
    refine g_iload_n C 2 rfl dX5_animal_10 ?_
    refine g_iconst C (-1) (by decide) dX5_animal_11 ?_
    refine g_icmp_ne C 19 dX5_animal_12 (by decide) (fun hc => ?_) (fun hc => ?_)
    · replace h := h.2 hc
      exact k_X5_animal_19 C ret x1 x2 x3 w1 L h
    · replace h := h.1 hc
      refine g_iconst C 1 (by decide) dX5_animal_15 ?_
      refine g_goto C 20 dX5_animal_16 (by decide) ?_
      exact k_X5_animal_20 C ret x1 x2 x3 1 w1 L h
def B_X5_animal (N : Nat) (x1 : Int32) (x2 : Int32) (x3 : Int32) (post : Int32 → Wd → va_W → Prop) (w : Wd) (L : va_W) : Prop := B_X5_animal_0 N post x1 x2 x3 w L
theorem m_X5_animal {l : Launch} {K : gK} {N : Nat} {post : Int32 → Wd → va_W → Prop} {x1 : Int32} {x2 : Int32} {x3 : Int32} {w : Wd} {L : va_W} (h : B_X5_animal N x1 x2 x3 post w L) : gMi l K yX5_animal cX5_animal 5 (some .int) rm_X5_animal [.ref (ma K 0), .int x1, .int x2, .int x3] (mL K w ++ L) (mPi K post) 0 0 := by
  refine g_inI (ls0 := [(0, .ref (ma K 0)), (1, .int x1), (2, .int x2), (3, .int x3)]) (by decide) (Nat.le_of_ble_eq_true rfl) rfl (fun Γ hl C hn ret => ?_)
  exact k_X5_animal_0 C ret x1 x2 x3 w L h
def rm_X5_reign : Room := { frames := 1, cells := 0, slots := 0, locals := 21 }
def B_X5_reign_26 (N : Nat) (post : Int32 → Wd → va_W → Prop) (w : Wd) (L : va_W) : Prop :=
  post 0 w L
set_option maxHeartbeats 4000000 in
theorem k_X5_reign_26 {Γ : gT} {K : gK} {N : Nat} {post : Int32 → Wd → va_W → Prop} (C : gC Γ K RX5 cX5_reign 3 rm_X5_reign) (ret : gRi Γ K cX5_reign (some .boolean) (mPi K post) 0 0) (w : Wd) (L : va_W) (h : B_X5_reign_26 N post w L) : gJ Γ K 0 0 (mL K w ++ L) 26 [] [] := by
  unfold B_X5_reign_26 at h
  refine g_iconst C 0 (by decide) dX5_reign_26 ?_
  exact ret _ _ _ _ _ rfl (gZ.n (Or.inl rfl)) dX5_reign_27 ⟨_, _, rfl, h⟩
def B_X5_reign_0 (N : Nat) (post : Int32 → Wd → va_W → Prop) (x1 : Int32) (x2 : Int32) (w : Wd) (L : va_W) : Prop :=
  B_X5_isAnimal N x1 (fun (v3 : Int32) (w1 : Wd) (L2 : va_W) =>
  (v3 = 0 →
    B_X5_reign_26 N post w1 L2) ∧
  (¬ v3 = 0 →
    B_X5_isAnimal N x2 (fun (v6 : Int32) (w4 : Wd) (L5 : va_W) =>
  (v6 = 0 →
      B_X5_reign_26 N post w4 L5) ∧
    (¬ v6 = 0 →
      (x1 = x2 →
        B_X5_reign_26 N post w4 L5) ∧
      (¬ x1 = x2 →
        post 1 (xsi (xsi w4 12 x1) 13 x2) L5))) w1 L2)) (xsi w 0 0) L
set_option maxHeartbeats 4000000 in
theorem k_X5_reign_0 {Γ : gT} {K : gK} {N : Nat} {post : Int32 → Wd → va_W → Prop} (C : gC Γ K RX5 cX5_reign 3 rm_X5_reign) (ret : gRi Γ K cX5_reign (some .boolean) (mPi K post) 0 0) (x1 : Int32) (x2 : Int32) (w : Wd) (L : va_W) (h : B_X5_reign_0 N post x1 x2 w L) : gJ Γ K 0 0 (mL K w ++ L) 0 [(0, .ref (ma K 0)), (1, .int x1), (2, .int x2)] [] := by
  unfold B_X5_reign_0 at h
  refine g_aload_n C 0 rfl dX5_reign_0 ?_
  refine g_iconst C 0 (by decide) dX5_reign_1 ?_
  refine mp_thrown C q996 dX5_reign_2 ?_
  refine g_aload_n C 0 rfl dX5_reign_5 ?_
  refine g_iload_n C 1 rfl dX5_reign_6 ?_
  refine g_callVi C (As := [.int x1]) (rest := []) (m_X5_isAnimal h) (lw_V q1273 q1275 qs48 q84 q1276) (ci := 12) (qi := 0) rfl rfl ⟨rfl, rfl⟩ ⟨Nat.le_of_ble_eq_true rfl, Nat.le_of_ble_eq_true rfl⟩ 1 rfl (by decide +kernel) rfl (Nat.le_of_ble_eq_true rfl) ⟨Nat.zero_le _, Nat.zero_le _⟩ dX5_reign_7 ?_
  rintro v3 _ ⟨w1, L2, rfl, h⟩
  refine g_if_eq C 26 dX5_reign_10 (by decide) (fun hc => ?_) (fun hc => ?_)
  · replace h := h.1 hc
    refine g_sub [] rfl ?_
    exact k_X5_reign_26 C ret w1 L2 h
  · replace h := h.2 hc
    refine g_aload_n C 0 rfl dX5_reign_13 ?_
    refine g_iload_n C 2 rfl dX5_reign_14 ?_
    refine g_callVi C (As := [.int x2]) (rest := []) (m_X5_isAnimal h) (lw_V q1273 q1275 qs48 q84 q1276) (ci := 12) (qi := 0) rfl rfl ⟨rfl, rfl⟩ ⟨Nat.le_of_ble_eq_true rfl, Nat.le_of_ble_eq_true rfl⟩ 1 rfl (by decide +kernel) rfl (Nat.le_of_ble_eq_true rfl) ⟨Nat.zero_le _, Nat.zero_le _⟩ dX5_reign_15 ?_
    rintro v6 _ ⟨w4, L5, rfl, h⟩
    refine g_if_eq C 26 dX5_reign_18 (by decide) (fun hc => ?_) (fun hc => ?_)
    · replace h := h.1 hc
      refine g_sub [] rfl ?_
      exact k_X5_reign_26 C ret w4 L5 h
    · replace h := h.2 hc
      refine g_iload_n C 1 rfl dX5_reign_21 ?_
      refine g_iload_n C 2 rfl dX5_reign_22 ?_
      refine g_icmp_ne C 28 dX5_reign_23 (by decide) (fun hc => ?_) (fun hc => ?_)
      · replace h := h.2 hc
        refine g_aload_n C 0 rfl dX5_reign_28 ?_
        refine g_iload_n C 1 rfl dX5_reign_29 ?_
        refine mp_toldQueen C q1021 dX5_reign_30 ?_
        refine g_aload_n C 0 rfl dX5_reign_33 ?_
        refine g_iload_n C 2 rfl dX5_reign_34 ?_
        refine mp_toldMate C q1022 dX5_reign_35 ?_
        refine g_iconst C 1 (by decide) dX5_reign_38 ?_
        exact ret _ _ _ _ _ rfl (gZ.n (Or.inr rfl)) dX5_reign_39 ⟨_, _, rfl, h⟩
      · replace h := h.1 hc
        refine g_sub [] rfl ?_
        exact k_X5_reign_26 C ret w4 L5 h
def B_X5_reign (N : Nat) (x1 : Int32) (x2 : Int32) (post : Int32 → Wd → va_W → Prop) (w : Wd) (L : va_W) : Prop := B_X5_reign_0 N post x1 x2 w L
theorem m_X5_reign {l : Launch} {K : gK} {N : Nat} {post : Int32 → Wd → va_W → Prop} {x1 : Int32} {x2 : Int32} {w : Wd} {L : va_W} (h : B_X5_reign N x1 x2 post w L) : gMi l K yX5_reign cX5_reign 3 (some .boolean) rm_X5_reign [.ref (ma K 0), .int x1, .int x2] (mL K w ++ L) (mPi K post) 0 0 := by
  refine g_inI (ls0 := [(0, .ref (ma K 0)), (1, .int x1), (2, .int x2)]) (by decide) (Nat.le_of_ble_eq_true rfl) rfl (fun Γ hl C hn ret => ?_)
  exact k_X5_reign_0 C ret x1 x2 w L h
def rm_X5_set : Room := { frames := 1, cells := 0, slots := 0, locals := 22 }
def B_X5_set_30 (N : Nat) (post : Int32 → Wd → va_W → Prop) (w : Wd) (L : va_W) : Prop :=
  post 0 w L
set_option maxHeartbeats 4000000 in
theorem k_X5_set_30 {Γ : gT} {K : gK} {N : Nat} {post : Int32 → Wd → va_W → Prop} (C : gC Γ K RX5 cX5_set 3 rm_X5_set) (ret : gRi Γ K cX5_set (some .boolean) (mPi K post) 0 0) (w : Wd) (L : va_W) (h : B_X5_set_30 N post w L) : gJ Γ K 0 0 (mL K w ++ L) 30 [] [] := by
  unfold B_X5_set_30 at h
  refine g_iconst C 0 (by decide) dX5_set_30 ?_
  exact ret _ _ _ _ _ rfl (gZ.n (Or.inl rfl)) dX5_set_31 ⟨_, _, rfl, h⟩
def B_X5_set_0 (N : Nat) (post : Int32 → Wd → va_W → Prop) (x1 : Int32) (x2 : Int32) (w : Wd) (L : va_W) : Prop :=
  B_X5_isIn N x1 0 8 (fun (v3 : Int32) (w1 : Wd) (L2 : va_W) =>
  (v3 = 0 →
    B_X5_set_30 N post w1 L2) ∧
  (¬ v3 = 0 →
    B_X5_leastOf N x1 (fun (v6 : Int32) (w4 : Wd) (L5 : va_W) =>
  B_X5_mostOf N x1 (fun (v9 : Int32) (w7 : Wd) (L8 : va_W) =>
  B_X5_isIn N x2 v6 v9 (fun (v12 : Int32) (w10 : Wd) (L11 : va_W) =>
  (v12 = 0 →
      B_X5_set_30 N post w10 L11) ∧
    (¬ v12 = 0 →
      vp_in x1 9 ∧ ∀ w13 : Wd, w13 = (xsA w10 11 x1.toNatClampNeg x2) → post 1 w13 L11)) w7 L8) w4 L5) w1 L2)) (xsi w 0 0) L
set_option maxHeartbeats 4000000 in
theorem k_X5_set_0 {Γ : gT} {K : gK} {N : Nat} {post : Int32 → Wd → va_W → Prop} (C : gC Γ K RX5 cX5_set 3 rm_X5_set) (ret : gRi Γ K cX5_set (some .boolean) (mPi K post) 0 0) (x1 : Int32) (x2 : Int32) (w : Wd) (L : va_W) (h : B_X5_set_0 N post x1 x2 w L) : gJ Γ K 0 0 (mL K w ++ L) 0 [(0, .ref (ma K 0)), (1, .int x1), (2, .int x2)] [] := by
  unfold B_X5_set_0 at h
  refine g_aload_n C 0 rfl dX5_set_0 ?_
  refine g_iconst C 0 (by decide) dX5_set_1 ?_
  refine mp_thrown C q996 dX5_set_2 ?_
  refine g_iload_n C 1 rfl dX5_set_5 ?_
  refine g_iconst C 0 (by decide) dX5_set_6 ?_
  refine g_bipush C 8 (by decide) dX5_set_7 ?_
  refine g_callSi C (As := [.int x1, .int 0, .int 8]) (rest := []) (m_X5_isIn h) (Cn := "") (b := 0) (lw_S q1270 q1271 q84 q1272) ⟨rfl, rfl⟩ ⟨Nat.le_of_ble_eq_true rfl, Nat.le_of_ble_eq_true rfl⟩ 3 rfl (by decide +kernel) rfl (Nat.le_of_ble_eq_true rfl) ⟨Nat.zero_le _, Nat.zero_le _⟩ dX5_set_9 ?_
  rintro v3 _ ⟨w1, L2, rfl, h⟩
  refine g_if_eq C 30 dX5_set_12 (by decide) (fun hc => ?_) (fun hc => ?_)
  · replace h := h.1 hc
    refine g_sub [] rfl ?_
    exact k_X5_set_30 C ret w1 L2 h
  · replace h := h.2 hc
    refine g_iload_n C 2 rfl dX5_set_15 ?_
    refine g_iload_n C 1 rfl dX5_set_16 ?_
    refine g_callSi C (As := [.int x1]) (rest := [.int x2]) (m_X5_leastOf h) (Cn := "") (b := 0) (lw_S q1320 q1321 q84 q1322) ⟨rfl, rfl⟩ ⟨Nat.le_of_ble_eq_true rfl, Nat.le_of_ble_eq_true rfl⟩ 1 rfl (by decide +kernel) rfl (Nat.le_of_ble_eq_true rfl) ⟨Nat.zero_le _, Nat.zero_le _⟩ dX5_set_17 ?_
    rintro v6 _ ⟨w4, L5, rfl, h⟩
    refine g_iload_n C 1 rfl dX5_set_20 ?_
    refine g_callSi C (As := [.int x1]) (rest := [.int v6, .int x2]) (m_X5_mostOf h) (Cn := "") (b := 0) (lw_S q1323 q1324 q84 q1325) ⟨rfl, rfl⟩ ⟨Nat.le_of_ble_eq_true rfl, Nat.le_of_ble_eq_true rfl⟩ 1 rfl (by decide +kernel) rfl (Nat.le_of_ble_eq_true rfl) ⟨Nat.zero_le _, Nat.zero_le _⟩ dX5_set_21 ?_
    rintro v9 _ ⟨w7, L8, rfl, h⟩
    refine g_callSi C (As := [.int x2, .int v6, .int v9]) (rest := []) (m_X5_isIn h) (Cn := "") (b := 0) (lw_S q1270 q1271 q84 q1272) ⟨rfl, rfl⟩ ⟨Nat.le_of_ble_eq_true rfl, Nat.le_of_ble_eq_true rfl⟩ 3 rfl (by decide +kernel) rfl (Nat.le_of_ble_eq_true rfl) ⟨Nat.zero_le _, Nat.zero_le _⟩ dX5_set_24 ?_
    rintro v12 _ ⟨w10, L11, rfl, h⟩
    refine g_if_ne C 32 dX5_set_27 (by decide) (fun hc => ?_) (fun hc => ?_)
    · replace h := h.2 hc
      refine g_aload_n C 0 rfl dX5_set_32 ?_
      refine mg_settings C q1023 dX5_set_33 ?_
      refine g_iload_n C 1 rfl dX5_set_36 ?_
      refine g_iload_n C 2 rfl dX5_set_37 ?_
      obtain ⟨hb, h⟩ := h
      refine mst_11 C hb dX5_set_38 ?_
      obtain ⟨w13, ew13⟩ : ∃ z, z = (xsA w10 11 x1.toNatClampNeg x2) := ⟨_, rfl⟩
      replace h := h w13 ew13
      rw [← ew13]
      refine g_iconst C 1 (by decide) dX5_set_39 ?_
      exact ret _ _ _ _ _ rfl (gZ.n (Or.inr rfl)) dX5_set_40 ⟨_, _, rfl, h⟩
    · replace h := h.1 hc
      refine g_sub [] rfl ?_
      exact k_X5_set_30 C ret w10 L11 h
def B_X5_set (N : Nat) (x1 : Int32) (x2 : Int32) (post : Int32 → Wd → va_W → Prop) (w : Wd) (L : va_W) : Prop := B_X5_set_0 N post x1 x2 w L
theorem m_X5_set {l : Launch} {K : gK} {N : Nat} {post : Int32 → Wd → va_W → Prop} {x1 : Int32} {x2 : Int32} {w : Wd} {L : va_W} (h : B_X5_set N x1 x2 post w L) : gMi l K yX5_set cX5_set 3 (some .boolean) rm_X5_set [.ref (ma K 0), .int x1, .int x2] (mL K w ++ L) (mPi K post) 0 0 := by
  refine g_inI (ls0 := [(0, .ref (ma K 0)), (1, .int x1), (2, .int x2)]) (by decide) (Nat.le_of_ble_eq_true rfl) rfl (fun Γ hl C hn ret => ?_)
  exact k_X5_set_0 C ret x1 x2 w L h
def rm_X5_told : Room := { frames := 1, cells := 0, slots := 0, locals := 22 }
def B_X5_told_27 (N : Nat) (post : Int32 → Wd → va_W → Prop) (s0 : Int32) (w : Wd) (L : va_W) : Prop :=
  post s0 w L
set_option maxHeartbeats 4000000 in
theorem k_X5_told_27 {Γ : gT} {K : gK} {N : Nat} {post : Int32 → Wd → va_W → Prop} (C : gC Γ K RX5 cX5_told 2 rm_X5_told) (ret : gRi Γ K cX5_told (some .int) (mPi K post) 0 0) (s0 : Int32) (w : Wd) (L : va_W) (h : B_X5_told_27 N post s0 w L) : gJ Γ K 0 0 (mL K w ++ L) 27 [] [.int s0] := by
  unfold B_X5_told_27 at h
  exact ret _ _ _ _ _ rfl rfl dX5_told_27 ⟨_, _, rfl, h⟩
def B_X5_told_0 (N : Nat) (post : Int32 → Wd → va_W → Prop) (x1 : Int32) (w : Wd) (L : va_W) : Prop :=
  B_X5_isIn N x1 0 8 (fun (v3 : Int32) (w1 : Wd) (L2 : va_W) =>
  (v3 = 0 →
    B_X5_told_27 N post (-1000) w1 L2) ∧
  (¬ v3 = 0 →
    vp_in x1 9 ∧ B_X5_told_27 N post (xA w1 11 x1.toNatClampNeg) w1 L2)) (xsi w 0 0) L
set_option maxHeartbeats 4000000 in
theorem k_X5_told_0 {Γ : gT} {K : gK} {N : Nat} {post : Int32 → Wd → va_W → Prop} (C : gC Γ K RX5 cX5_told 2 rm_X5_told) (ret : gRi Γ K cX5_told (some .int) (mPi K post) 0 0) (x1 : Int32) (w : Wd) (L : va_W) (h : B_X5_told_0 N post x1 w L) : gJ Γ K 0 0 (mL K w ++ L) 0 [(0, .ref (ma K 0)), (1, .int x1)] [] := by
  unfold B_X5_told_0 at h
  refine g_aload_n C 0 rfl dX5_told_0 ?_
  refine g_iconst C 0 (by decide) dX5_told_1 ?_
  refine mp_thrown C q996 dX5_told_2 ?_
  refine g_iload_n C 1 rfl dX5_told_5 ?_
  refine g_iconst C 0 (by decide) dX5_told_6 ?_
  refine g_bipush C 8 (by decide) dX5_told_7 ?_
  refine g_callSi C (As := [.int x1, .int 0, .int 8]) (rest := []) (m_X5_isIn h) (Cn := "") (b := 0) (lw_S q1270 q1271 q84 q1272) ⟨rfl, rfl⟩ ⟨Nat.le_of_ble_eq_true rfl, Nat.le_of_ble_eq_true rfl⟩ 3 rfl (by decide +kernel) rfl (Nat.le_of_ble_eq_true rfl) ⟨Nat.zero_le _, Nat.zero_le _⟩ dX5_told_9 ?_
  rintro v3 _ ⟨w1, L2, rfl, h⟩
  refine g_if_eq C 24 dX5_told_12 (by decide) (fun hc => ?_) (fun hc => ?_)
  · replace h := h.1 hc
    refine g_sipush C (-1000) (by decide) dX5_told_24 ?_
    refine g_sub [] rfl ?_
    exact k_X5_told_27 C ret (-1000) w1 L2 h
  · replace h := h.2 hc
    refine g_aload_n C 0 rfl dX5_told_15 ?_
    refine mg_settings C q1023 dX5_told_16 ?_
    refine g_iload_n C 1 rfl dX5_told_19 ?_
    obtain ⟨hb, h⟩ := h
    refine mld_11 C hb (xA w1 11 x1.toNatClampNeg) rfl dX5_told_20 ?_
    refine g_goto C 27 dX5_told_21 (by decide) ?_
    refine g_sub [] rfl ?_
    exact k_X5_told_27 C ret (xA w1 11 x1.toNatClampNeg) w1 L2 h
def B_X5_told (N : Nat) (x1 : Int32) (post : Int32 → Wd → va_W → Prop) (w : Wd) (L : va_W) : Prop := B_X5_told_0 N post x1 w L
theorem m_X5_told {l : Launch} {K : gK} {N : Nat} {post : Int32 → Wd → va_W → Prop} {x1 : Int32} {w : Wd} {L : va_W} (h : B_X5_told N x1 post w L) : gMi l K yX5_told cX5_told 2 (some .int) rm_X5_told [.ref (ma K 0), .int x1] (mL K w ++ L) (mPi K post) 0 0 := by
  refine g_inI (ls0 := [(0, .ref (ma K 0)), (1, .int x1)]) (by decide) (Nat.le_of_ble_eq_true rfl) rfl (fun Γ hl C hn ret => ?_)
  exact k_X5_told_0 C ret x1 w L h
def rm_X5_rain : Room := { frames := 1, cells := 0, slots := 0, locals := 22 }
def B_X5_rain_35 (N : Nat) (post : Int32 → Wd → va_W → Prop) (w : Wd) (L : va_W) : Prop :=
  post 0 w L
set_option maxHeartbeats 4000000 in
theorem k_X5_rain_35 {Γ : gT} {K : gK} {N : Nat} {post : Int32 → Wd → va_W → Prop} (C : gC Γ K RX5 cX5_rain 5 rm_X5_rain) (ret : gRi Γ K cX5_rain (some .boolean) (mPi K post) 0 0) (w : Wd) (L : va_W) (h : B_X5_rain_35 N post w L) : gJ Γ K 0 0 (mL K w ++ L) 35 [] [] := by
  unfold B_X5_rain_35 at h
  refine g_iconst C 0 (by decide) dX5_rain_35 ?_
  exact ret _ _ _ _ _ rfl (gZ.n (Or.inl rfl)) dX5_rain_36 ⟨_, _, rfl, h⟩
def B_X5_rain_40s (r40 : Int32 → Int32 → Int32 → Wd → va_W → Prop) (N : Nat) (post : Int32 → Wd → va_W → Prop) (x2 : Int32) (x3 : Int32) (x4 : Int32) (w : Wd) (L : va_W) : Prop :=
  (x2 < x4 →
    post 1 w L) ∧
  (¬ x2 < x4 →
    vp_in x4 24 ∧ ∀ w1 : Wd, w1 = (xsA w 12 x4.toNatClampNeg x3) → r40 x2 x3 (x4 + 1) w1 L)
def B_X5_rain_40 (N : Nat) (post : Int32 → Wd → va_W → Prop) : Nat → Int32 → Int32 → Int32 → Wd → va_W → Prop
  | 0, _, _, _, _, _ => False
  | n + 1, x2, x3, x4, w, L => B_X5_rain_40s (B_X5_rain_40 N post n) N post x2 x3 x4 w L
set_option maxHeartbeats 4000000 in
theorem k_X5_rain_40s {Γ : gT} {K : gK} {N : Nat} {post : Int32 → Wd → va_W → Prop} (C : gC Γ K RX5 cX5_rain 5 rm_X5_rain) (ret : gRi Γ K cX5_rain (some .boolean) (mPi K post) 0 0) {r40 : Int32 → Int32 → Int32 → Wd → va_W → Prop} (hr40 : ∀ (x2 : Int32) (x3 : Int32) (x4 : Int32) (w : Wd) (L : va_W), r40 x2 x3 x4 w L → gJ Γ K 0 0 (mL K w ++ L) 40 [(0, .ref (ma K 0)), (2, .int x2), (3, .int x3), (4, .int x4)] []) (x2 : Int32) (x3 : Int32) (x4 : Int32) (w : Wd) (L : va_W) (h : B_X5_rain_40s r40 N post x2 x3 x4 w L) : gJ Γ K 0 0 (mL K w ++ L) 40 [(0, .ref (ma K 0)), (2, .int x2), (3, .int x3), (4, .int x4)] [] := by
  unfold B_X5_rain_40s at h
  refine g_iload C 3 rfl dX5_rain_40 ?_
  refine g_iload_n C 1 rfl dX5_rain_42 ?_
  refine g_icmp_gt C 60 dX5_rain_43 (by decide) (fun hc => ?_) (fun hc => ?_)
  · replace h := h.1 hc
    refine g_iconst C 1 (by decide) dX5_rain_60 ?_
    exact ret _ _ _ _ _ rfl (gZ.n (Or.inr rfl)) dX5_rain_61 ⟨_, _, rfl, h⟩
  · replace h := h.2 hc
    refine g_aload_n C 0 rfl dX5_rain_46 ?_
    refine mg_rains C q1024 dX5_rain_47 ?_
    refine g_iload C 3 rfl dX5_rain_50 ?_
    refine g_iload_n C 2 rfl dX5_rain_52 ?_
    obtain ⟨hb, h⟩ := h
    refine mst_12 C hb dX5_rain_53 ?_
    obtain ⟨w1, ew1⟩ : ∃ z, z = (xsA w 12 x4.toNatClampNeg x3) := ⟨_, rfl⟩
    replace h := h w1 ew1
    rw [← ew1]
    refine g_iinc C 3 (x4 + 1) (lt := [(4, .int (x4 + 1)), (0, .ref (ma K 0)), (2, .int x2), (3, .int x3)]) rfl rfl dX5_rain_54 (by decide) rfl ?_
    refine g_goto C 40 dX5_rain_57 (by decide) ?_
    refine g_sub [1, 2, 3, 0] rfl ?_
    exact hr40 x2 x3 (x4 + 1) w1 L h
theorem k_X5_rain_40 {Γ : gT} {K : gK} {N : Nat} {post : Int32 → Wd → va_W → Prop} (C : gC Γ K RX5 cX5_rain 5 rm_X5_rain) (ret : gRi Γ K cX5_rain (some .boolean) (mPi K post) 0 0) : ∀ (n : Nat) (x2 : Int32) (x3 : Int32) (x4 : Int32) (w : Wd) (L : va_W) (h : B_X5_rain_40 N post n x2 x3 x4 w L), gJ Γ K 0 0 (mL K w ++ L) 40 [(0, .ref (ma K 0)), (2, .int x2), (3, .int x3), (4, .int x4)] [] := by
  intro n
  induction n with
  | zero => intro x2 x3 x4 w L h; exact h.elim
  | succ n ih => intro x2 x3 x4 w L h; exact k_X5_rain_40s C ret ih x2 x3 x4 w L h
def B_X5_rain_0 (N : Nat) (post : Int32 → Wd → va_W → Prop) (x1 : Int32) (x2 : Int32) (x3 : Int32) (w : Wd) (L : va_W) : Prop :=
  B_X5_isIn N x1 0 23 (fun (v3 : Int32) (w1 : Wd) (L2 : va_W) =>
  (v3 = 0 →
    B_X5_rain_35 N post w1 L2) ∧
  (¬ v3 = 0 →
    B_X5_isIn N x2 x1 23 (fun (v6 : Int32) (w4 : Wd) (L5 : va_W) =>
  (v6 = 0 →
      B_X5_rain_35 N post w4 L5) ∧
    (¬ v6 = 0 →
      B_X5_isIn N x3 0 99 (fun (v9 : Int32) (w7 : Wd) (L8 : va_W) =>
  (v9 = 0 →
        B_X5_rain_35 N post w7 L8) ∧
      (¬ v9 = 0 →
        B_X5_rain_40 N post N x2 x3 x1 w7 L8)) w4 L5)) w1 L2)) (xsi w 0 0) L
set_option maxHeartbeats 4000000 in
theorem k_X5_rain_0 {Γ : gT} {K : gK} {N : Nat} {post : Int32 → Wd → va_W → Prop} (C : gC Γ K RX5 cX5_rain 5 rm_X5_rain) (ret : gRi Γ K cX5_rain (some .boolean) (mPi K post) 0 0) (x1 : Int32) (x2 : Int32) (x3 : Int32) (w : Wd) (L : va_W) (h : B_X5_rain_0 N post x1 x2 x3 w L) : gJ Γ K 0 0 (mL K w ++ L) 0 [(0, .ref (ma K 0)), (1, .int x1), (2, .int x2), (3, .int x3)] [] := by
  unfold B_X5_rain_0 at h
  refine g_aload_n C 0 rfl dX5_rain_0 ?_
  refine g_iconst C 0 (by decide) dX5_rain_1 ?_
  refine mp_thrown C q996 dX5_rain_2 ?_
  refine g_iload_n C 1 rfl dX5_rain_5 ?_
  refine g_iconst C 0 (by decide) dX5_rain_6 ?_
  refine g_bipush C 23 (by decide) dX5_rain_7 ?_
  refine g_callSi C (As := [.int x1, .int 0, .int 23]) (rest := []) (m_X5_isIn h) (Cn := "") (b := 0) (lw_S q1270 q1271 q84 q1272) ⟨rfl, rfl⟩ ⟨Nat.le_of_ble_eq_true rfl, Nat.le_of_ble_eq_true rfl⟩ 3 rfl (by decide +kernel) rfl (Nat.le_of_ble_eq_true rfl) ⟨Nat.zero_le _, Nat.zero_le _⟩ dX5_rain_9 ?_
  rintro v3 _ ⟨w1, L2, rfl, h⟩
  refine g_if_eq C 35 dX5_rain_12 (by decide) (fun hc => ?_) (fun hc => ?_)
  · replace h := h.1 hc
    refine g_sub [] rfl ?_
    exact k_X5_rain_35 C ret w1 L2 h
  · replace h := h.2 hc
    refine g_iload_n C 2 rfl dX5_rain_15 ?_
    refine g_iload_n C 1 rfl dX5_rain_16 ?_
    refine g_bipush C 23 (by decide) dX5_rain_17 ?_
    refine g_callSi C (As := [.int x2, .int x1, .int 23]) (rest := []) (m_X5_isIn h) (Cn := "") (b := 0) (lw_S q1270 q1271 q84 q1272) ⟨rfl, rfl⟩ ⟨Nat.le_of_ble_eq_true rfl, Nat.le_of_ble_eq_true rfl⟩ 3 rfl (by decide +kernel) rfl (Nat.le_of_ble_eq_true rfl) ⟨Nat.zero_le _, Nat.zero_le _⟩ dX5_rain_19 ?_
    rintro v6 _ ⟨w4, L5, rfl, h⟩
    refine g_if_eq C 35 dX5_rain_22 (by decide) (fun hc => ?_) (fun hc => ?_)
    · replace h := h.1 hc
      refine g_sub [] rfl ?_
      exact k_X5_rain_35 C ret w4 L5 h
    · replace h := h.2 hc
      refine g_iload_n C 3 rfl dX5_rain_25 ?_
      refine g_iconst C 0 (by decide) dX5_rain_26 ?_
      refine g_bipush C 99 (by decide) dX5_rain_27 ?_
      refine g_callSi C (As := [.int x3, .int 0, .int 99]) (rest := []) (m_X5_isIn h) (Cn := "") (b := 0) (lw_S q1270 q1271 q84 q1272) ⟨rfl, rfl⟩ ⟨Nat.le_of_ble_eq_true rfl, Nat.le_of_ble_eq_true rfl⟩ 3 rfl (by decide +kernel) rfl (Nat.le_of_ble_eq_true rfl) ⟨Nat.zero_le _, Nat.zero_le _⟩ dX5_rain_29 ?_
      rintro v9 _ ⟨w7, L8, rfl, h⟩
      refine g_if_ne C 37 dX5_rain_32 (by decide) (fun hc => ?_) (fun hc => ?_)
      · replace h := h.2 hc
        refine g_iload_n C 1 rfl dX5_rain_37 ?_
        refine g_istore C (lt := [(4, .int x1), (0, .ref (ma K 0)), (1, .int x1), (2, .int x2), (3, .int x3)]) dX5_rain_38 (by decide) rfl ?_
        refine g_sub [1, 3, 4, 0] rfl ?_
        exact k_X5_rain_40 C ret N x2 x3 x1 w7 L8 h
      · replace h := h.1 hc
        refine g_sub [] rfl ?_
        exact k_X5_rain_35 C ret w7 L8 h
def B_X5_rain (N : Nat) (x1 : Int32) (x2 : Int32) (x3 : Int32) (post : Int32 → Wd → va_W → Prop) (w : Wd) (L : va_W) : Prop := B_X5_rain_0 N post x1 x2 x3 w L
theorem m_X5_rain {l : Launch} {K : gK} {N : Nat} {post : Int32 → Wd → va_W → Prop} {x1 : Int32} {x2 : Int32} {x3 : Int32} {w : Wd} {L : va_W} (h : B_X5_rain N x1 x2 x3 post w L) : gMi l K yX5_rain cX5_rain 5 (some .boolean) rm_X5_rain [.ref (ma K 0), .int x1, .int x2, .int x3] (mL K w ++ L) (mPi K post) 0 0 := by
  refine g_inI (ls0 := [(0, .ref (ma K 0)), (1, .int x1), (2, .int x2), (3, .int x3)]) (by decide) (Nat.le_of_ble_eq_true rfl) rfl (fun Γ hl C hn ret => ?_)
  exact k_X5_rain_0 C ret x1 x2 x3 w L h
def rm_X5_findOf : Room := { frames := 0, cells := 0, slots := 0, locals := 0 }
def B_X5_findOf_8s (r8 : Int32 → Int64 → Int64 → Int32 → Wd → va_W → Prop) (N : Nat) (post : Int64 → Wd → va_W → Prop) (x1 : Int32) (x2 : Int64) (x4 : Int64) (x6 : Int32) (w : Wd) (L : va_W) : Prop :=
  (x1 ≤ x6 →
    post (x2 - x4) w L) ∧
  (¬ x1 ≤ x6 →
    vp_in 1 9 ∧ r8 x1 (x2 * 100) (x4 * ((100 - (xA w 11 (1 : Int32).toNatClampNeg)).toInt64)) (x6 + 1) w L)
def B_X5_findOf_8 (N : Nat) (post : Int64 → Wd → va_W → Prop) : Nat → Int32 → Int64 → Int64 → Int32 → Wd → va_W → Prop
  | 0, _, _, _, _, _, _ => False
  | n + 1, x1, x2, x4, x6, w, L => B_X5_findOf_8s (B_X5_findOf_8 N post n) N post x1 x2 x4 x6 w L
set_option maxHeartbeats 4000000 in
theorem k_X5_findOf_8s {Γ : gT} {K : gK} {N : Nat} {post : Int64 → Wd → va_W → Prop} (C : gC Γ K RX5 cX5_findOf 7 rm_X5_findOf) (ret : gRl Γ K cX5_findOf (some .long) (mPl K post) 0 0) {r8 : Int32 → Int64 → Int64 → Int32 → Wd → va_W → Prop} (hr8 : ∀ (x1 : Int32) (x2 : Int64) (x4 : Int64) (x6 : Int32) (w : Wd) (L : va_W), r8 x1 x2 x4 x6 w L → gJ Γ K 0 0 (mL K w ++ L) 8 [(0, .ref (ma K 0)), (1, .int x1), (2, .long x2), (4, .long x4), (6, .int x6)] []) (x1 : Int32) (x2 : Int64) (x4 : Int64) (x6 : Int32) (w : Wd) (L : va_W) (h : B_X5_findOf_8s r8 N post x1 x2 x4 x6 w L) : gJ Γ K 0 0 (mL K w ++ L) 8 [(0, .ref (ma K 0)), (1, .int x1), (2, .long x2), (4, .long x4), (6, .int x6)] [] := by
  unfold B_X5_findOf_8s at h
  refine g_iload C 4 rfl dX5_findOf_8 ?_
  refine g_iload_n C 1 rfl dX5_findOf_10 ?_
  refine g_icmp_ge C 41 dX5_findOf_11 (by decide) (fun hc => ?_) (fun hc => ?_)
  · replace h := h.1 hc
    refine g_lload_n C 2 rfl dX5_findOf_41 ?_
    refine g_lload C 3 rfl dX5_findOf_42 ?_
    refine g_lsub C dX5_findOf_44 ?_
    exact ret rfl _ _ _ _ dX5_findOf_45 ⟨_, _, rfl, h⟩
  · replace h := h.2 hc
    refine g_lload_n C 2 rfl dX5_findOf_14 ?_
    refine g_ldc2 C (v := 100) q1394 dX5_findOf_15 ?_
    refine g_lmul C dX5_findOf_18 ?_
    refine g_lstore_n C rfl (lt := [(2, .long (x2 * 100)), (0, .ref (ma K 0)), (1, .int x1), (4, .long x4), (6, .int x6)]) dX5_findOf_19 (by decide) rfl ?_
    refine g_lload C 3 rfl dX5_findOf_20 ?_
    refine g_bipush C 100 (by decide) dX5_findOf_22 ?_
    refine g_aload_n C 1 rfl dX5_findOf_24 ?_
    refine mg_settings C q1023 dX5_findOf_25 ?_
    refine g_iconst C 1 (by decide) dX5_findOf_28 ?_
    obtain ⟨hb, h⟩ := h
    refine mld_11 C hb (xA w 11 (1 : Int32).toNatClampNeg) rfl dX5_findOf_29 ?_
    refine g_isub C dX5_findOf_30 ?_
    refine g_i2l C dX5_findOf_31 ?_
    refine g_lmul C dX5_findOf_32 ?_
    refine g_lstore C (lt := [(4, .long (x4 * ((100 - (xA w 11 (1 : Int32).toNatClampNeg)).toInt64))), (2, .long (x2 * 100)), (0, .ref (ma K 0)), (1, .int x1), (6, .int x6)]) dX5_findOf_33 (by decide) rfl ?_
    refine g_iinc C 4 (x6 + 1) (lt := [(6, .int (x6 + 1)), (4, .long (x4 * ((100 - (xA w 11 (1 : Int32).toNatClampNeg)).toInt64))), (2, .long (x2 * 100)), (0, .ref (ma K 0)), (1, .int x1)]) rfl rfl dX5_findOf_35 (by decide) rfl ?_
    refine g_goto C 8 dX5_findOf_38 (by decide) ?_
    refine g_sub [3, 4, 2, 1, 0] rfl ?_
    exact hr8 x1 (x2 * 100) (x4 * ((100 - (xA w 11 (1 : Int32).toNatClampNeg)).toInt64)) (x6 + 1) w L h
theorem k_X5_findOf_8 {Γ : gT} {K : gK} {N : Nat} {post : Int64 → Wd → va_W → Prop} (C : gC Γ K RX5 cX5_findOf 7 rm_X5_findOf) (ret : gRl Γ K cX5_findOf (some .long) (mPl K post) 0 0) : ∀ (n : Nat) (x1 : Int32) (x2 : Int64) (x4 : Int64) (x6 : Int32) (w : Wd) (L : va_W) (h : B_X5_findOf_8 N post n x1 x2 x4 x6 w L), gJ Γ K 0 0 (mL K w ++ L) 8 [(0, .ref (ma K 0)), (1, .int x1), (2, .long x2), (4, .long x4), (6, .int x6)] [] := by
  intro n
  induction n with
  | zero => intro x1 x2 x4 x6 w L h; exact h.elim
  | succ n ih => intro x1 x2 x4 x6 w L h; exact k_X5_findOf_8s C ret ih x1 x2 x4 x6 w L h
def B_X5_findOf_0 (N : Nat) (post : Int64 → Wd → va_W → Prop) (x1 : Int32) (w : Wd) (L : va_W) : Prop :=
  B_X5_findOf_8 N post N x1 1 1 0 w L
set_option maxHeartbeats 4000000 in
theorem k_X5_findOf_0 {Γ : gT} {K : gK} {N : Nat} {post : Int64 → Wd → va_W → Prop} (C : gC Γ K RX5 cX5_findOf 7 rm_X5_findOf) (ret : gRl Γ K cX5_findOf (some .long) (mPl K post) 0 0) (x1 : Int32) (w : Wd) (L : va_W) (h : B_X5_findOf_0 N post x1 w L) : gJ Γ K 0 0 (mL K w ++ L) 0 [(0, .ref (ma K 0)), (1, .int x1)] [] := by
  unfold B_X5_findOf_0 at h
  refine g_lconst C 1 (by decide) dX5_findOf_0 ?_
  refine g_lstore_n C rfl (lt := [(2, .long 1), (0, .ref (ma K 0)), (1, .int x1)]) dX5_findOf_1 (by decide) rfl ?_
  refine g_lconst C 1 (by decide) dX5_findOf_2 ?_
  refine g_lstore C (lt := [(4, .long 1), (2, .long 1), (0, .ref (ma K 0)), (1, .int x1)]) dX5_findOf_3 (by decide) rfl ?_
  refine g_iconst C 0 (by decide) dX5_findOf_5 ?_
  refine g_istore C (lt := [(6, .int 0), (4, .long 1), (2, .long 1), (0, .ref (ma K 0)), (1, .int x1)]) dX5_findOf_6 (by decide) rfl ?_
  refine g_sub [3, 4, 2, 1, 0] rfl ?_
  exact k_X5_findOf_8 C ret N x1 1 1 0 w L h
def B_X5_findOf (N : Nat) (x1 : Int32) (post : Int64 → Wd → va_W → Prop) (w : Wd) (L : va_W) : Prop := B_X5_findOf_0 N post x1 w L
theorem m_X5_findOf {l : Launch} {K : gK} {N : Nat} {post : Int64 → Wd → va_W → Prop} {x1 : Int32} {w : Wd} {L : va_W} (h : B_X5_findOf N x1 post w L) : gMl l K yX5_findOf cX5_findOf 7 (some .long) rm_X5_findOf [.ref (ma K 0), .int x1] (mL K w ++ L) (mPl K post) 0 0 := by
  refine g_inL (ls0 := [(0, .ref (ma K 0)), (1, .int x1)]) (by decide) (Nat.le_of_ble_eq_true rfl) rfl (fun Γ hl C hn ret => ?_)
  exact k_X5_findOf_0 C ret x1 w L h
def rm_X5_find : Room := { frames := 1, cells := 0, slots := 0, locals := 26 }
def B_X5_find_26 (N : Nat) (post : Int64 → Wd → va_W → Prop) (s0 : Int64) (w : Wd) (L : va_W) : Prop :=
  post s0 w L
set_option maxHeartbeats 4000000 in
theorem k_X5_find_26 {Γ : gT} {K : gK} {N : Nat} {post : Int64 → Wd → va_W → Prop} (C : gC Γ K RX5 cX5_find 2 rm_X5_find) (ret : gRl Γ K cX5_find (some .long) (mPl K post) 0 0) (s0 : Int64) (w : Wd) (L : va_W) (h : B_X5_find_26 N post s0 w L) : gJ Γ K 0 0 (mL K w ++ L) 26 [] [.long s0] := by
  unfold B_X5_find_26 at h
  exact ret rfl _ _ _ _ dX5_find_26 ⟨_, _, rfl, h⟩
def B_X5_find_0 (N : Nat) (post : Int64 → Wd → va_W → Prop) (x1 : Int32) (w : Wd) (L : va_W) : Prop :=
  B_X5_isIn N x1 0 9 (fun (v3 : Int32) (w1 : Wd) (L2 : va_W) =>
  (v3 = 0 →
    B_X5_find_26 N post (-1) w1 L2) ∧
  (¬ v3 = 0 →
    B_X5_findOf N x1 (fun (v6 : Int64) (w4 : Wd) (L5 : va_W) =>
  B_X5_find_26 N post v6 w4 L5) w1 L2)) (xsi w 0 0) L
set_option maxHeartbeats 4000000 in
theorem k_X5_find_0 {Γ : gT} {K : gK} {N : Nat} {post : Int64 → Wd → va_W → Prop} (C : gC Γ K RX5 cX5_find 2 rm_X5_find) (ret : gRl Γ K cX5_find (some .long) (mPl K post) 0 0) (x1 : Int32) (w : Wd) (L : va_W) (h : B_X5_find_0 N post x1 w L) : gJ Γ K 0 0 (mL K w ++ L) 0 [(0, .ref (ma K 0)), (1, .int x1)] [] := by
  unfold B_X5_find_0 at h
  refine g_aload_n C 0 rfl dX5_find_0 ?_
  refine g_iconst C 0 (by decide) dX5_find_1 ?_
  refine mp_thrown C q996 dX5_find_2 ?_
  refine g_iload_n C 1 rfl dX5_find_5 ?_
  refine g_iconst C 0 (by decide) dX5_find_6 ?_
  refine g_bipush C 9 (by decide) dX5_find_7 ?_
  refine g_callSi C (As := [.int x1, .int 0, .int 9]) (rest := []) (m_X5_isIn h) (Cn := "") (b := 0) (lw_S q1270 q1271 q84 q1272) ⟨rfl, rfl⟩ ⟨Nat.le_of_ble_eq_true rfl, Nat.le_of_ble_eq_true rfl⟩ 3 rfl (by decide +kernel) rfl (Nat.le_of_ble_eq_true rfl) ⟨Nat.zero_le _, Nat.zero_le _⟩ dX5_find_9 ?_
  rintro v3 _ ⟨w1, L2, rfl, h⟩
  refine g_if_eq C 23 dX5_find_12 (by decide) (fun hc => ?_) (fun hc => ?_)
  · replace h := h.1 hc
    refine g_ldc2 C (v := (-1)) q1427 dX5_find_23 ?_
    refine g_sub [] rfl ?_
    exact k_X5_find_26 C ret (-1) w1 L2 h
  · replace h := h.2 hc
    refine g_aload_n C 0 rfl dX5_find_15 ?_
    refine g_iload_n C 1 rfl dX5_find_16 ?_
    refine g_callVl C (As := [.int x1]) (rest := []) (m_X5_findOf h) (lw_V q1423 q1425 qs71 q84 q1426) (ci := 12) (qi := 0) rfl rfl ⟨rfl, rfl⟩ ⟨Nat.le_of_ble_eq_true rfl, Nat.le_of_ble_eq_true rfl⟩ 1 rfl (by decide +kernel) rfl (Nat.le_of_ble_eq_true rfl) ⟨Nat.zero_le _, Nat.zero_le _⟩ dX5_find_17 ?_
    rintro v6 _ ⟨w4, L5, rfl, h⟩
    refine g_goto C 26 dX5_find_20 (by decide) ?_
    refine g_sub [] rfl ?_
    exact k_X5_find_26 C ret v6 w4 L5 h
def B_X5_find (N : Nat) (x1 : Int32) (post : Int64 → Wd → va_W → Prop) (w : Wd) (L : va_W) : Prop := B_X5_find_0 N post x1 w L
theorem m_X5_find {l : Launch} {K : gK} {N : Nat} {post : Int64 → Wd → va_W → Prop} {x1 : Int32} {w : Wd} {L : va_W} (h : B_X5_find N x1 post w L) : gMl l K yX5_find cX5_find 2 (some .long) rm_X5_find [.ref (ma K 0), .int x1] (mL K w ++ L) (mPl K post) 0 0 := by
  refine g_inL (ls0 := [(0, .ref (ma K 0)), (1, .int x1)]) (by decide) (Nat.le_of_ble_eq_true rfl) rfl (fun Γ hl C hn ret => ?_)
  exact k_X5_find_0 C ret x1 w L h
def rm_X5_many : Room := { frames := 1, cells := 0, slots := 0, locals := 26 }
def B_X5_many_25 (N : Nat) (post : Int32 → Wd → va_W → Prop) (w : Wd) (L : va_W) : Prop :=
  post (-1) w L
set_option maxHeartbeats 4000000 in
theorem k_X5_many_25 {Γ : gT} {K : gK} {N : Nat} {post : Int32 → Wd → va_W → Prop} (C : gC Γ K RX5 cX5_many 7 rm_X5_many) (ret : gRi Γ K cX5_many (some .int) (mPi K post) 0 0) (w : Wd) (L : va_W) (h : B_X5_many_25 N post w L) : gJ Γ K 0 0 (mL K w ++ L) 25 [] [] := by
  unfold B_X5_many_25 at h
  refine g_iconst C (-1) (by decide) dX5_many_25 ?_
  exact ret _ _ _ _ _ rfl rfl dX5_many_26 ⟨_, _, rfl, h⟩
def B_X5_many_44s (r29 : Int32 → Int32 → Int32 → Wd → va_W → Prop) (r44 : Int32 → Int32 → Int32 → Int64 → Int32 → Wd → va_W → Prop) (N : Nat) (post : Int32 → Wd → va_W → Prop) (x1 : Int32) (x2 : Int32) (x3 : Int32) (x4 : Int64) (x6 : Int32) (w : Wd) (L : va_W) : Prop :=
  ((x3 * x1) ≤ x6 →
    B_X5_findOf N (x3 * x1) (fun (v3 : Int64) (w1 : Wd) (L2 : va_W) =>
  (v3 < x4 →
      r29 x1 x2 (x3 + 1) w1 L2) ∧
    (¬ v3 < x4 →
      post x3 w1 L2)) w L) ∧
  (¬ (x3 * x1) ≤ x6 →
    r44 x1 x2 x3 (x4 * 100) (x6 + 1) w L)
def B_X5_many_44 (r29 : Int32 → Int32 → Int32 → Wd → va_W → Prop) (N : Nat) (post : Int32 → Wd → va_W → Prop) : Nat → Int32 → Int32 → Int32 → Int64 → Int32 → Wd → va_W → Prop
  | 0, _, _, _, _, _, _, _ => False
  | n + 1, x1, x2, x3, x4, x6, w, L => B_X5_many_44s r29 (B_X5_many_44 r29 N post n) N post x1 x2 x3 x4 x6 w L
set_option maxHeartbeats 4000000 in
theorem k_X5_many_44s {Γ : gT} {K : gK} {N : Nat} {post : Int32 → Wd → va_W → Prop} (C : gC Γ K RX5 cX5_many 7 rm_X5_many) (ret : gRi Γ K cX5_many (some .int) (mPi K post) 0 0) {r29 : Int32 → Int32 → Int32 → Wd → va_W → Prop} (hr29 : ∀ (x1 : Int32) (x2 : Int32) (x3 : Int32) (w : Wd) (L : va_W), r29 x1 x2 x3 w L → gJ Γ K 0 0 (mL K w ++ L) 29 [(0, .ref (ma K 0)), (1, .int x1), (2, .int x2), (3, .int x3)] []) {r44 : Int32 → Int32 → Int32 → Int64 → Int32 → Wd → va_W → Prop} (hr44 : ∀ (x1 : Int32) (x2 : Int32) (x3 : Int32) (x4 : Int64) (x6 : Int32) (w : Wd) (L : va_W), r44 x1 x2 x3 x4 x6 w L → gJ Γ K 0 0 (mL K w ++ L) 44 [(0, .ref (ma K 0)), (1, .int x1), (2, .int x2), (3, .int x3), (4, .long x4), (6, .int x6)] []) (x1 : Int32) (x2 : Int32) (x3 : Int32) (x4 : Int64) (x6 : Int32) (w : Wd) (L : va_W) (h : B_X5_many_44s r29 r44 N post x1 x2 x3 x4 x6 w L) : gJ Γ K 0 0 (mL K w ++ L) 44 [(0, .ref (ma K 0)), (1, .int x1), (2, .int x2), (3, .int x3), (4, .long x4), (6, .int x6)] [] := by
  unfold B_X5_many_44s at h
  refine g_iload C 5 rfl dX5_many_44 ?_
  refine g_iload_n C 3 rfl dX5_many_46 ?_
  refine g_iload_n C 1 rfl dX5_many_47 ?_
  refine g_imul C dX5_many_48 ?_
  refine g_icmp_ge C 66 dX5_many_49 (by decide) (fun hc => ?_) (fun hc => ?_)
  · replace h := h.1 hc
    refine g_aload_n C 0 rfl dX5_many_66 ?_
    refine g_iload_n C 3 rfl dX5_many_67 ?_
    refine g_iload_n C 1 rfl dX5_many_68 ?_
    refine g_imul C dX5_many_69 ?_
    refine g_callVl C (As := [.int (x3 * x1)]) (rest := []) (m_X5_findOf h) (lw_V q1423 q1425 qs71 q84 q1426) (ci := 12) (qi := 0) rfl rfl ⟨rfl, rfl⟩ ⟨Nat.le_of_ble_eq_true rfl, Nat.le_of_ble_eq_true rfl⟩ 1 rfl (by decide +kernel) rfl (Nat.le_of_ble_eq_true rfl) ⟨Nat.zero_le _, Nat.zero_le _⟩ dX5_many_70 ?_
    rintro v3 _ ⟨w1, L2, rfl, h⟩
    refine g_lload C 4 rfl dX5_many_73 ?_
    refine g_lif_lt C 81 dX5_many_75 dX5_many_76 (by decide) (fun hc => ?_) (fun hc => ?_)
    · replace h := h.1 hc
      refine g_iinc C 3 (x3 + 1) (lt := [(3, .int (x3 + 1)), (0, .ref (ma K 0)), (1, .int x1), (2, .int x2), (4, .long x4), (6, .int x6)]) rfl rfl dX5_many_81 (by decide) rfl ?_
      refine g_goto C 29 dX5_many_84 (by decide) ?_
      refine g_sub [1, 2, 3, 0] rfl ?_
      exact hr29 x1 x2 (x3 + 1) w1 L2 h
    · replace h := h.2 hc
      refine g_iload_n C 3 rfl dX5_many_79 ?_
      exact ret _ _ _ _ _ rfl rfl dX5_many_80 ⟨_, _, rfl, h⟩
  · replace h := h.2 hc
    refine g_lload C 4 rfl dX5_many_52 ?_
    refine g_ldc2 C (v := 100) q1394 dX5_many_54 ?_
    refine g_lmul C dX5_many_57 ?_
    refine g_lstore C (lt := [(4, .long (x4 * 100)), (0, .ref (ma K 0)), (1, .int x1), (2, .int x2), (3, .int x3), (6, .int x6)]) dX5_many_58 (by decide) rfl ?_
    refine g_iinc C 5 (x6 + 1) (lt := [(6, .int (x6 + 1)), (4, .long (x4 * 100)), (0, .ref (ma K 0)), (1, .int x1), (2, .int x2), (3, .int x3)]) rfl rfl dX5_many_60 (by decide) rfl ?_
    refine g_goto C 44 dX5_many_63 (by decide) ?_
    refine g_sub [2, 3, 4, 5, 1, 0] rfl ?_
    exact hr44 x1 x2 x3 (x4 * 100) (x6 + 1) w L h
theorem k_X5_many_44 {Γ : gT} {K : gK} {N : Nat} {post : Int32 → Wd → va_W → Prop} (C : gC Γ K RX5 cX5_many 7 rm_X5_many) (ret : gRi Γ K cX5_many (some .int) (mPi K post) 0 0) {r29 : Int32 → Int32 → Int32 → Wd → va_W → Prop} (hr29 : ∀ (x1 : Int32) (x2 : Int32) (x3 : Int32) (w : Wd) (L : va_W), r29 x1 x2 x3 w L → gJ Γ K 0 0 (mL K w ++ L) 29 [(0, .ref (ma K 0)), (1, .int x1), (2, .int x2), (3, .int x3)] []) : ∀ (n : Nat) (x1 : Int32) (x2 : Int32) (x3 : Int32) (x4 : Int64) (x6 : Int32) (w : Wd) (L : va_W) (h : B_X5_many_44 r29 N post n x1 x2 x3 x4 x6 w L), gJ Γ K 0 0 (mL K w ++ L) 44 [(0, .ref (ma K 0)), (1, .int x1), (2, .int x2), (3, .int x3), (4, .long x4), (6, .int x6)] [] := by
  intro n
  induction n with
  | zero => intro x1 x2 x3 x4 x6 w L h; exact h.elim
  | succ n ih => intro x1 x2 x3 x4 x6 w L h; exact k_X5_many_44s C ret hr29 ih x1 x2 x3 x4 x6 w L h
def B_X5_many_29s (r29 : Int32 → Int32 → Int32 → Wd → va_W → Prop) (N : Nat) (post : Int32 → Wd → va_W → Prop) (x1 : Int32) (x2 : Int32) (x3 : Int32) (w : Wd) (L : va_W) : Prop :=
  ((9 : Int32) < (x3 * x1) →
    post (-1) w L) ∧
  (¬ (9 : Int32) < (x3 * x1) →
    B_X5_many_44 r29 N post N x1 x2 x3 x2.toInt64 1 w L)
def B_X5_many_29 (N : Nat) (post : Int32 → Wd → va_W → Prop) : Nat → Int32 → Int32 → Int32 → Wd → va_W → Prop
  | 0, _, _, _, _, _ => False
  | n + 1, x1, x2, x3, w, L => B_X5_many_29s (B_X5_many_29 N post n) N post x1 x2 x3 w L
set_option maxHeartbeats 4000000 in
theorem k_X5_many_29s {Γ : gT} {K : gK} {N : Nat} {post : Int32 → Wd → va_W → Prop} (C : gC Γ K RX5 cX5_many 7 rm_X5_many) (ret : gRi Γ K cX5_many (some .int) (mPi K post) 0 0) {r29 : Int32 → Int32 → Int32 → Wd → va_W → Prop} (hr29 : ∀ (x1 : Int32) (x2 : Int32) (x3 : Int32) (w : Wd) (L : va_W), r29 x1 x2 x3 w L → gJ Γ K 0 0 (mL K w ++ L) 29 [(0, .ref (ma K 0)), (1, .int x1), (2, .int x2), (3, .int x3)] []) (x1 : Int32) (x2 : Int32) (x3 : Int32) (w : Wd) (L : va_W) (h : B_X5_many_29s r29 N post x1 x2 x3 w L) : gJ Γ K 0 0 (mL K w ++ L) 29 [(0, .ref (ma K 0)), (1, .int x1), (2, .int x2), (3, .int x3)] [] := by
  unfold B_X5_many_29s at h
  refine g_iload_n C 3 rfl dX5_many_29 ?_
  refine g_iload_n C 1 rfl dX5_many_30 ?_
  refine g_imul C dX5_many_31 ?_
  refine g_bipush C 9 (by decide) dX5_many_32 ?_
  refine g_icmp_gt C 87 dX5_many_34 (by decide) (fun hc => ?_) (fun hc => ?_)
  · replace h := h.1 hc
    refine g_iconst C (-1) (by decide) dX5_many_87 ?_
    exact ret _ _ _ _ _ rfl rfl dX5_many_88 ⟨_, _, rfl, h⟩
  · replace h := h.2 hc
    refine g_iload_n C 2 rfl dX5_many_37 ?_
    refine g_i2l C dX5_many_38 ?_
    refine g_lstore C (lt := [(4, .long x2.toInt64), (0, .ref (ma K 0)), (1, .int x1), (2, .int x2), (3, .int x3)]) dX5_many_39 (by decide) rfl ?_
    refine g_iconst C 1 (by decide) dX5_many_41 ?_
    refine g_istore C (lt := [(6, .int 1), (4, .long x2.toInt64), (0, .ref (ma K 0)), (1, .int x1), (2, .int x2), (3, .int x3)]) dX5_many_42 (by decide) rfl ?_
    refine g_sub [2, 3, 4, 5, 1, 0] rfl ?_
    exact k_X5_many_44 C ret hr29 N x1 x2 x3 x2.toInt64 1 w L h
theorem k_X5_many_29 {Γ : gT} {K : gK} {N : Nat} {post : Int32 → Wd → va_W → Prop} (C : gC Γ K RX5 cX5_many 7 rm_X5_many) (ret : gRi Γ K cX5_many (some .int) (mPi K post) 0 0) : ∀ (n : Nat) (x1 : Int32) (x2 : Int32) (x3 : Int32) (w : Wd) (L : va_W) (h : B_X5_many_29 N post n x1 x2 x3 w L), gJ Γ K 0 0 (mL K w ++ L) 29 [(0, .ref (ma K 0)), (1, .int x1), (2, .int x2), (3, .int x3)] [] := by
  intro n
  induction n with
  | zero => intro x1 x2 x3 w L h; exact h.elim
  | succ n ih => intro x1 x2 x3 w L h; exact k_X5_many_29s C ret ih x1 x2 x3 w L h
def B_X5_many_0 (N : Nat) (post : Int32 → Wd → va_W → Prop) (x1 : Int32) (x2 : Int32) (w : Wd) (L : va_W) : Prop :=
  B_X5_isIn N x1 1 9 (fun (v3 : Int32) (w1 : Wd) (L2 : va_W) =>
  (v3 = 0 →
    B_X5_many_25 N post w1 L2) ∧
  (¬ v3 = 0 →
    B_X5_isIn N x2 0 100 (fun (v6 : Int32) (w4 : Wd) (L5 : va_W) =>
  (v6 = 0 →
      B_X5_many_25 N post w4 L5) ∧
    (¬ v6 = 0 →
      B_X5_many_29 N post N x1 x2 1 w4 L5)) w1 L2)) (xsi w 0 0) L
set_option maxHeartbeats 4000000 in
theorem k_X5_many_0 {Γ : gT} {K : gK} {N : Nat} {post : Int32 → Wd → va_W → Prop} (C : gC Γ K RX5 cX5_many 7 rm_X5_many) (ret : gRi Γ K cX5_many (some .int) (mPi K post) 0 0) (x1 : Int32) (x2 : Int32) (w : Wd) (L : va_W) (h : B_X5_many_0 N post x1 x2 w L) : gJ Γ K 0 0 (mL K w ++ L) 0 [(0, .ref (ma K 0)), (1, .int x1), (2, .int x2)] [] := by
  unfold B_X5_many_0 at h
  refine g_aload_n C 0 rfl dX5_many_0 ?_
  refine g_iconst C 0 (by decide) dX5_many_1 ?_
  refine mp_thrown C q996 dX5_many_2 ?_
  refine g_iload_n C 1 rfl dX5_many_5 ?_
  refine g_iconst C 1 (by decide) dX5_many_6 ?_
  refine g_bipush C 9 (by decide) dX5_many_7 ?_
  refine g_callSi C (As := [.int x1, .int 1, .int 9]) (rest := []) (m_X5_isIn h) (Cn := "") (b := 0) (lw_S q1270 q1271 q84 q1272) ⟨rfl, rfl⟩ ⟨Nat.le_of_ble_eq_true rfl, Nat.le_of_ble_eq_true rfl⟩ 3 rfl (by decide +kernel) rfl (Nat.le_of_ble_eq_true rfl) ⟨Nat.zero_le _, Nat.zero_le _⟩ dX5_many_9 ?_
  rintro v3 _ ⟨w1, L2, rfl, h⟩
  refine g_if_eq C 25 dX5_many_12 (by decide) (fun hc => ?_) (fun hc => ?_)
  · replace h := h.1 hc
    refine g_sub [] rfl ?_
    exact k_X5_many_25 C ret w1 L2 h
  · replace h := h.2 hc
    refine g_iload_n C 2 rfl dX5_many_15 ?_
    refine g_iconst C 0 (by decide) dX5_many_16 ?_
    refine g_bipush C 100 (by decide) dX5_many_17 ?_
    refine g_callSi C (As := [.int x2, .int 0, .int 100]) (rest := []) (m_X5_isIn h) (Cn := "") (b := 0) (lw_S q1270 q1271 q84 q1272) ⟨rfl, rfl⟩ ⟨Nat.le_of_ble_eq_true rfl, Nat.le_of_ble_eq_true rfl⟩ 3 rfl (by decide +kernel) rfl (Nat.le_of_ble_eq_true rfl) ⟨Nat.zero_le _, Nat.zero_le _⟩ dX5_many_19 ?_
    rintro v6 _ ⟨w4, L5, rfl, h⟩
    refine g_if_ne C 27 dX5_many_22 (by decide) (fun hc => ?_) (fun hc => ?_)
    · replace h := h.2 hc
      refine g_iconst C 1 (by decide) dX5_many_27 ?_
      refine g_istore_n C rfl (lt := [(3, .int 1), (0, .ref (ma K 0)), (1, .int x1), (2, .int x2)]) dX5_many_28 (by decide) rfl ?_
      refine g_sub [1, 2, 3, 0] rfl ?_
      exact k_X5_many_29 C ret N x1 x2 1 w4 L5 h
    · replace h := h.1 hc
      refine g_sub [] rfl ?_
      exact k_X5_many_25 C ret w4 L5 h
def B_X5_many (N : Nat) (x1 : Int32) (x2 : Int32) (post : Int32 → Wd → va_W → Prop) (w : Wd) (L : va_W) : Prop := B_X5_many_0 N post x1 x2 w L
theorem m_X5_many {l : Launch} {K : gK} {N : Nat} {post : Int32 → Wd → va_W → Prop} {x1 : Int32} {x2 : Int32} {w : Wd} {L : va_W} (h : B_X5_many N x1 x2 post w L) : gMi l K yX5_many cX5_many 7 (some .int) rm_X5_many [.ref (ma K 0), .int x1, .int x2] (mL K w ++ L) (mPi K post) 0 0 := by
  refine g_inI (ls0 := [(0, .ref (ma K 0)), (1, .int x1), (2, .int x2)]) (by decide) (Nat.le_of_ble_eq_true rfl) rfl (fun Γ hl C hn ret => ?_)
  exact k_X5_many_0 C ret x1 x2 w L h
def rm_X5_note : Room := { frames := 1, cells := 0, slots := 0, locals := 22 }
def B_X5_note_44 (N : Nat) (post : Int32 → Wd → va_W → Prop) (w : Wd) (L : va_W) : Prop :=
  post (-1) w L
set_option maxHeartbeats 4000000 in
theorem k_X5_note_44 {Γ : gT} {K : gK} {N : Nat} {post : Int32 → Wd → va_W → Prop} (C : gC Γ K RX5 cX5_note 4 rm_X5_note) (ret : gRi Γ K cX5_note (some .int) (mPi K post) 0 0) (w : Wd) (L : va_W) (h : B_X5_note_44 N post w L) : gJ Γ K 0 0 (mL K w ++ L) 44 [] [] := by
  unfold B_X5_note_44 at h
  refine g_iconst C (-1) (by decide) dX5_note_44 ?_
  exact ret _ _ _ _ _ rfl rfl dX5_note_45 ⟨_, _, rfl, h⟩
def B_X5_note_0 (N : Nat) (post : Int32 → Wd → va_W → Prop) (x1 : Int32) (x2 : Int32) (x3 : Int32) (w : Wd) (L : va_W) : Prop :=
  ∀ w1 : Wd, w1 = (xsi w 0 0) → ((xi w 25) = (12 : Int32) →
    B_X5_note_44 N post w1 L) ∧
  (¬ (xi w 25) = (12 : Int32) →
    B_X5_isIn N x1 0 24 (fun (v4 : Int32) (w2 : Wd) (L3 : va_W) =>
  (v4 = 0 →
      B_X5_note_44 N post w2 L3) ∧
    (¬ v4 = 0 →
      B_X5_isIn N x2 0 24 (fun (v7 : Int32) (w5 : Wd) (L6 : va_W) =>
  (v7 = 0 →
        B_X5_note_44 N post w5 L6) ∧
      (¬ v7 = 0 →
        B_X5_isIn N x3 0 24 (fun (v10 : Int32) (w8 : Wd) (L9 : va_W) =>
  (v10 = 0 →
          B_X5_note_44 N post w8 L9) ∧
        (¬ v10 = 0 →
          vp_in (xi w8 25) 12 ∧ ∀ w11 : Wd, w11 = (xsA w8 21 (xi w8 25).toNatClampNeg x1) → vp_in (xi w11 25) 12 ∧ ∀ w12 : Wd, w12 = (xsA w11 22 (xi w11 25).toNatClampNeg x2) → vp_in (xi w12 25) 12 ∧ ∀ w13 : Wd, w13 = (xsA w12 23 (xi w12 25).toNatClampNeg x3) → post ((xi w13 25) + 1) (xsi w13 25 ((xi w13 25) + 1)) L9)) w5 L6)) w2 L3)) w1 L)
set_option maxHeartbeats 4000000 in
theorem k_X5_note_0 {Γ : gT} {K : gK} {N : Nat} {post : Int32 → Wd → va_W → Prop} (C : gC Γ K RX5 cX5_note 4 rm_X5_note) (ret : gRi Γ K cX5_note (some .int) (mPi K post) 0 0) (x1 : Int32) (x2 : Int32) (x3 : Int32) (w : Wd) (L : va_W) (h : B_X5_note_0 N post x1 x2 x3 w L) : gJ Γ K 0 0 (mL K w ++ L) 0 [(0, .ref (ma K 0)), (1, .int x1), (2, .int x2), (3, .int x3)] [] := by
  unfold B_X5_note_0 at h
  refine g_aload_n C 0 rfl dX5_note_0 ?_
  refine g_iconst C 0 (by decide) dX5_note_1 ?_
  refine mp_thrown C q996 dX5_note_2 ?_
  refine g_aload_n C 0 rfl dX5_note_5 ?_
  refine mg_notes C q1050 (xi w 25) rfl dX5_note_6 ?_
  refine g_bipush C 12 (by decide) dX5_note_9 ?_
  obtain ⟨w1, ew1⟩ : ∃ z, z = (xsi w 0 0) := ⟨_, rfl⟩
  replace h := h w1 ew1
  rw [← ew1]
  refine g_icmp_eq C 44 dX5_note_11 (by decide) (fun hc => ?_) (fun hc => ?_)
  · replace h := h.1 hc
    refine g_sub [] rfl ?_
    exact k_X5_note_44 C ret w1 L h
  · replace h := h.2 hc
    refine g_iload_n C 1 rfl dX5_note_14 ?_
    refine g_iconst C 0 (by decide) dX5_note_15 ?_
    refine g_bipush C 24 (by decide) dX5_note_16 ?_
    refine g_callSi C (As := [.int x1, .int 0, .int 24]) (rest := []) (m_X5_isIn h) (Cn := "") (b := 0) (lw_S q1270 q1271 q84 q1272) ⟨rfl, rfl⟩ ⟨Nat.le_of_ble_eq_true rfl, Nat.le_of_ble_eq_true rfl⟩ 3 rfl (by decide +kernel) rfl (Nat.le_of_ble_eq_true rfl) ⟨Nat.zero_le _, Nat.zero_le _⟩ dX5_note_18 ?_
    rintro v4 _ ⟨w2, L3, rfl, h⟩
    refine g_if_eq C 44 dX5_note_21 (by decide) (fun hc => ?_) (fun hc => ?_)
    · replace h := h.1 hc
      refine g_sub [] rfl ?_
      exact k_X5_note_44 C ret w2 L3 h
    · replace h := h.2 hc
      refine g_iload_n C 2 rfl dX5_note_24 ?_
      refine g_iconst C 0 (by decide) dX5_note_25 ?_
      refine g_bipush C 24 (by decide) dX5_note_26 ?_
      refine g_callSi C (As := [.int x2, .int 0, .int 24]) (rest := []) (m_X5_isIn h) (Cn := "") (b := 0) (lw_S q1270 q1271 q84 q1272) ⟨rfl, rfl⟩ ⟨Nat.le_of_ble_eq_true rfl, Nat.le_of_ble_eq_true rfl⟩ 3 rfl (by decide +kernel) rfl (Nat.le_of_ble_eq_true rfl) ⟨Nat.zero_le _, Nat.zero_le _⟩ dX5_note_28 ?_
      rintro v7 _ ⟨w5, L6, rfl, h⟩
      refine g_if_eq C 44 dX5_note_31 (by decide) (fun hc => ?_) (fun hc => ?_)
      · replace h := h.1 hc
        refine g_sub [] rfl ?_
        exact k_X5_note_44 C ret w5 L6 h
      · replace h := h.2 hc
        refine g_iload_n C 3 rfl dX5_note_34 ?_
        refine g_iconst C 0 (by decide) dX5_note_35 ?_
        refine g_bipush C 24 (by decide) dX5_note_36 ?_
        refine g_callSi C (As := [.int x3, .int 0, .int 24]) (rest := []) (m_X5_isIn h) (Cn := "") (b := 0) (lw_S q1270 q1271 q84 q1272) ⟨rfl, rfl⟩ ⟨Nat.le_of_ble_eq_true rfl, Nat.le_of_ble_eq_true rfl⟩ 3 rfl (by decide +kernel) rfl (Nat.le_of_ble_eq_true rfl) ⟨Nat.zero_le _, Nat.zero_le _⟩ dX5_note_38 ?_
        rintro v10 _ ⟨w8, L9, rfl, h⟩
        refine g_if_ne C 46 dX5_note_41 (by decide) (fun hc => ?_) (fun hc => ?_)
        · replace h := h.2 hc
          refine g_aload_n C 0 rfl dX5_note_46 ?_
          refine mg_noteMonth C q1045 dX5_note_47 ?_
          refine g_aload_n C 0 rfl dX5_note_50 ?_
          refine mg_notes C q1050 (xi w8 25) rfl dX5_note_51 ?_
          refine g_iload_n C 1 rfl dX5_note_54 ?_
          obtain ⟨hb, h⟩ := h
          refine mst_21 C hb dX5_note_55 ?_
          obtain ⟨w11, ew11⟩ : ∃ z, z = (xsA w8 21 (xi w8 25).toNatClampNeg x1) := ⟨_, rfl⟩
          replace h := h w11 ew11
          rw [← ew11]
          refine g_aload_n C 0 rfl dX5_note_56 ?_
          refine mg_noteThere C q1046 dX5_note_57 ?_
          refine g_aload_n C 0 rfl dX5_note_60 ?_
          refine mg_notes C q1050 (xi w11 25) rfl dX5_note_61 ?_
          refine g_iload_n C 2 rfl dX5_note_64 ?_
          obtain ⟨hb, h⟩ := h
          refine mst_22 C hb dX5_note_65 ?_
          obtain ⟨w12, ew12⟩ : ∃ z, z = (xsA w11 22 (xi w11 25).toNatClampNeg x2) := ⟨_, rfl⟩
          replace h := h w12 ew12
          rw [← ew12]
          refine g_aload_n C 0 rfl dX5_note_66 ?_
          refine mg_noteOff C q1047 dX5_note_67 ?_
          refine g_aload_n C 0 rfl dX5_note_70 ?_
          refine mg_notes C q1050 (xi w12 25) rfl dX5_note_71 ?_
          refine g_iload_n C 3 rfl dX5_note_74 ?_
          obtain ⟨hb, h⟩ := h
          refine mst_23 C hb dX5_note_75 ?_
          obtain ⟨w13, ew13⟩ : ∃ z, z = (xsA w12 23 (xi w12 25).toNatClampNeg x3) := ⟨_, rfl⟩
          replace h := h w13 ew13
          rw [← ew13]
          refine g_aload_n C 0 rfl dX5_note_76 ?_
          refine g_dup C rfl dX5_note_77 ?_
          refine mg_notes C q1050 (xi w13 25) rfl dX5_note_78 ?_
          refine g_iconst C 1 (by decide) dX5_note_81 ?_
          refine g_iadd C dX5_note_82 ?_
          refine mp_notes C q1050 dX5_note_83 ?_
          refine g_aload_n C 0 rfl dX5_note_86 ?_
          refine mg_notes C q1050 (((xi w13 25) + 1)) rfl dX5_note_87 ?_
          exact ret _ _ _ _ _ rfl rfl dX5_note_90 ⟨_, _, rfl, h⟩
        · replace h := h.1 hc
          refine g_sub [] rfl ?_
          exact k_X5_note_44 C ret w8 L9 h
def B_X5_note (N : Nat) (x1 : Int32) (x2 : Int32) (x3 : Int32) (post : Int32 → Wd → va_W → Prop) (w : Wd) (L : va_W) : Prop := B_X5_note_0 N post x1 x2 x3 w L
theorem m_X5_note {l : Launch} {K : gK} {N : Nat} {post : Int32 → Wd → va_W → Prop} {x1 : Int32} {x2 : Int32} {x3 : Int32} {w : Wd} {L : va_W} (h : B_X5_note N x1 x2 x3 post w L) : gMi l K yX5_note cX5_note 4 (some .int) rm_X5_note [.ref (ma K 0), .int x1, .int x2, .int x3] (mL K w ++ L) (mPi K post) 0 0 := by
  refine g_inI (ls0 := [(0, .ref (ma K 0)), (1, .int x1), (2, .int x2), (3, .int x3)]) (by decide) (Nat.le_of_ble_eq_true rfl) rfl (fun Γ hl C hn ret => ?_)
  exact k_X5_note_0 C ret x1 x2 x3 w L h
def rm_X5_trial : Room := { frames := 1, cells := 0, slots := 0, locals := 22 }
def B_X5_trial_34 (N : Nat) (post : Int32 → Wd → va_W → Prop) (w : Wd) (L : va_W) : Prop :=
  post (-1) w L
set_option maxHeartbeats 4000000 in
theorem k_X5_trial_34 {Γ : gT} {K : gK} {N : Nat} {post : Int32 → Wd → va_W → Prop} (C : gC Γ K RX5 cX5_trial 3 rm_X5_trial) (ret : gRi Γ K cX5_trial (some .int) (mPi K post) 0 0) (w : Wd) (L : va_W) (h : B_X5_trial_34 N post w L) : gJ Γ K 0 0 (mL K w ++ L) 34 [] [] := by
  unfold B_X5_trial_34 at h
  refine g_iconst C (-1) (by decide) dX5_trial_34 ?_
  exact ret _ _ _ _ _ rfl rfl dX5_trial_35 ⟨_, _, rfl, h⟩
def B_X5_trial_0 (N : Nat) (post : Int32 → Wd → va_W → Prop) (x1 : Int32) (x2 : Int32) (w : Wd) (L : va_W) : Prop :=
  ∀ w1 : Wd, w1 = (xsi w 0 0) → ((xi w 26) = (6 : Int32) →
    B_X5_trial_34 N post w1 L) ∧
  (¬ (xi w 26) = (6 : Int32) →
    B_X5_isIn N x1 1 16 (fun (v4 : Int32) (w2 : Wd) (L3 : va_W) =>
  (v4 = 0 →
      B_X5_trial_34 N post w2 L3) ∧
    (¬ v4 = 0 →
      B_X5_isIn N x2 1 24 (fun (v7 : Int32) (w5 : Wd) (L6 : va_W) =>
  (v7 = 0 →
        B_X5_trial_34 N post w5 L6) ∧
      (¬ v7 = 0 →
        vp_in (xi w5 26) 6 ∧ ∀ w8 : Wd, w8 = (xsA w5 24 (xi w5 26).toNatClampNeg x1) → vp_in (xi w8 26) 6 ∧ ∀ w9 : Wd, w9 = (xsA w8 25 (xi w8 26).toNatClampNeg x2) → post (((xi w9 26) + 1) - 1) (xsi w9 26 ((xi w9 26) + 1)) L6)) w2 L3)) w1 L)
set_option maxHeartbeats 4000000 in
theorem k_X5_trial_0 {Γ : gT} {K : gK} {N : Nat} {post : Int32 → Wd → va_W → Prop} (C : gC Γ K RX5 cX5_trial 3 rm_X5_trial) (ret : gRi Γ K cX5_trial (some .int) (mPi K post) 0 0) (x1 : Int32) (x2 : Int32) (w : Wd) (L : va_W) (h : B_X5_trial_0 N post x1 x2 w L) : gJ Γ K 0 0 (mL K w ++ L) 0 [(0, .ref (ma K 0)), (1, .int x1), (2, .int x2)] [] := by
  unfold B_X5_trial_0 at h
  refine g_aload_n C 0 rfl dX5_trial_0 ?_
  refine g_iconst C 0 (by decide) dX5_trial_1 ?_
  refine mp_thrown C q996 dX5_trial_2 ?_
  refine g_aload_n C 0 rfl dX5_trial_5 ?_
  refine mg_trials C q1051 (xi w 26) rfl dX5_trial_6 ?_
  refine g_bipush C 6 (by decide) dX5_trial_9 ?_
  obtain ⟨w1, ew1⟩ : ∃ z, z = (xsi w 0 0) := ⟨_, rfl⟩
  replace h := h w1 ew1
  rw [← ew1]
  refine g_icmp_eq C 34 dX5_trial_11 (by decide) (fun hc => ?_) (fun hc => ?_)
  · replace h := h.1 hc
    refine g_sub [] rfl ?_
    exact k_X5_trial_34 C ret w1 L h
  · replace h := h.2 hc
    refine g_iload_n C 1 rfl dX5_trial_14 ?_
    refine g_iconst C 1 (by decide) dX5_trial_15 ?_
    refine g_bipush C 16 (by decide) dX5_trial_16 ?_
    refine g_callSi C (As := [.int x1, .int 1, .int 16]) (rest := []) (m_X5_isIn h) (Cn := "") (b := 0) (lw_S q1270 q1271 q84 q1272) ⟨rfl, rfl⟩ ⟨Nat.le_of_ble_eq_true rfl, Nat.le_of_ble_eq_true rfl⟩ 3 rfl (by decide +kernel) rfl (Nat.le_of_ble_eq_true rfl) ⟨Nat.zero_le _, Nat.zero_le _⟩ dX5_trial_18 ?_
    rintro v4 _ ⟨w2, L3, rfl, h⟩
    refine g_if_eq C 34 dX5_trial_21 (by decide) (fun hc => ?_) (fun hc => ?_)
    · replace h := h.1 hc
      refine g_sub [] rfl ?_
      exact k_X5_trial_34 C ret w2 L3 h
    · replace h := h.2 hc
      refine g_iload_n C 2 rfl dX5_trial_24 ?_
      refine g_iconst C 1 (by decide) dX5_trial_25 ?_
      refine g_bipush C 24 (by decide) dX5_trial_26 ?_
      refine g_callSi C (As := [.int x2, .int 1, .int 24]) (rest := []) (m_X5_isIn h) (Cn := "") (b := 0) (lw_S q1270 q1271 q84 q1272) ⟨rfl, rfl⟩ ⟨Nat.le_of_ble_eq_true rfl, Nat.le_of_ble_eq_true rfl⟩ 3 rfl (by decide +kernel) rfl (Nat.le_of_ble_eq_true rfl) ⟨Nat.zero_le _, Nat.zero_le _⟩ dX5_trial_28 ?_
      rintro v7 _ ⟨w5, L6, rfl, h⟩
      refine g_if_ne C 36 dX5_trial_31 (by decide) (fun hc => ?_) (fun hc => ?_)
      · replace h := h.2 hc
        refine g_aload_n C 0 rfl dX5_trial_36 ?_
        refine mg_trialFirst C q1048 dX5_trial_37 ?_
        refine g_aload_n C 0 rfl dX5_trial_40 ?_
        refine mg_trials C q1051 (xi w5 26) rfl dX5_trial_41 ?_
        refine g_iload_n C 1 rfl dX5_trial_44 ?_
        obtain ⟨hb, h⟩ := h
        refine mst_24 C hb dX5_trial_45 ?_
        obtain ⟨w8, ew8⟩ : ∃ z, z = (xsA w5 24 (xi w5 26).toNatClampNeg x1) := ⟨_, rfl⟩
        replace h := h w8 ew8
        rw [← ew8]
        refine g_aload_n C 0 rfl dX5_trial_46 ?_
        refine mg_trialMonths C q1049 dX5_trial_47 ?_
        refine g_aload_n C 0 rfl dX5_trial_50 ?_
        refine mg_trials C q1051 (xi w8 26) rfl dX5_trial_51 ?_
        refine g_iload_n C 2 rfl dX5_trial_54 ?_
        obtain ⟨hb, h⟩ := h
        refine mst_25 C hb dX5_trial_55 ?_
        obtain ⟨w9, ew9⟩ : ∃ z, z = (xsA w8 25 (xi w8 26).toNatClampNeg x2) := ⟨_, rfl⟩
        replace h := h w9 ew9
        rw [← ew9]
        refine g_aload_n C 0 rfl dX5_trial_56 ?_
        refine g_dup C rfl dX5_trial_57 ?_
        refine mg_trials C q1051 (xi w9 26) rfl dX5_trial_58 ?_
        refine g_iconst C 1 (by decide) dX5_trial_61 ?_
        refine g_iadd C dX5_trial_62 ?_
        refine mp_trials C q1051 dX5_trial_63 ?_
        refine g_aload_n C 0 rfl dX5_trial_66 ?_
        refine mg_trials C q1051 (((xi w9 26) + 1)) rfl dX5_trial_67 ?_
        refine g_iconst C 1 (by decide) dX5_trial_70 ?_
        refine g_isub C dX5_trial_71 ?_
        exact ret _ _ _ _ _ rfl rfl dX5_trial_72 ⟨_, _, rfl, h⟩
      · replace h := h.1 hc
        refine g_sub [] rfl ?_
        exact k_X5_trial_34 C ret w5 L6 h
def B_X5_trial (N : Nat) (x1 : Int32) (x2 : Int32) (post : Int32 → Wd → va_W → Prop) (w : Wd) (L : va_W) : Prop := B_X5_trial_0 N post x1 x2 w L
theorem m_X5_trial {l : Launch} {K : gK} {N : Nat} {post : Int32 → Wd → va_W → Prop} {x1 : Int32} {x2 : Int32} {w : Wd} {L : va_W} (h : B_X5_trial N x1 x2 post w L) : gMi l K yX5_trial cX5_trial 3 (some .int) rm_X5_trial [.ref (ma K 0), .int x1, .int x2] (mL K w ++ L) (mPi K post) 0 0 := by
  refine g_inI (ls0 := [(0, .ref (ma K 0)), (1, .int x1), (2, .int x2)]) (by decide) (Nat.le_of_ble_eq_true rfl) rfl (fun Γ hl C hn ret => ?_)
  exact k_X5_trial_0 C ret x1 x2 w L h
def rm_X5_isTrial : Room := { frames := 0, cells := 0, slots := 0, locals := 0 }
def B_X5_isTrial_17 (N : Nat) (post : Int32 → Wd → va_W → Prop) (s0 : Int32) (w : Wd) (L : va_W) : Prop :=
  gZ s0 ∧ post s0 w L
set_option maxHeartbeats 4000000 in
theorem k_X5_isTrial_17 {Γ : gT} {K : gK} {N : Nat} {post : Int32 → Wd → va_W → Prop} (C : gC Γ K RX5 cX5_isTrial 2 rm_X5_isTrial) (ret : gRi Γ K cX5_isTrial (some .boolean) (mPi K post) 0 0) (s0 : Int32) (w : Wd) (L : va_W) (h : B_X5_isTrial_17 N post s0 w L) : gJ Γ K 0 0 (mL K w ++ L) 17 [] [.int s0] := by
  unfold B_X5_isTrial_17 at h
  obtain ⟨hz, h⟩ := h
  exact ret _ _ _ _ _ rfl hz.n dX5_isTrial_17 ⟨_, _, rfl, h⟩
def B_X5_isTrial_16 (N : Nat) (post : Int32 → Wd → va_W → Prop) (w : Wd) (L : va_W) : Prop :=
  B_X5_isTrial_17 N post 0 w L
set_option maxHeartbeats 4000000 in
theorem k_X5_isTrial_16 {Γ : gT} {K : gK} {N : Nat} {post : Int32 → Wd → va_W → Prop} (C : gC Γ K RX5 cX5_isTrial 2 rm_X5_isTrial) (ret : gRi Γ K cX5_isTrial (some .boolean) (mPi K post) 0 0) (w : Wd) (L : va_W) (h : B_X5_isTrial_16 N post w L) : gJ Γ K 0 0 (mL K w ++ L) 16 [] [] := by
  unfold B_X5_isTrial_16 at h
  refine g_iconst C 0 (by decide) dX5_isTrial_16 ?_
  exact k_X5_isTrial_17 C ret 0 w L h
def B_X5_isTrial_0 (N : Nat) (post : Int32 → Wd → va_W → Prop) (x1 : Int32) (w : Wd) (L : va_W) : Prop :=
  (x1 < 0 →
    B_X5_isTrial_16 N post w L) ∧
  (¬ x1 < 0 →
    ((xi w 26) ≤ x1 →
      B_X5_isTrial_16 N post w L) ∧
    (¬ (xi w 26) ≤ x1 →
      B_X5_isTrial_17 N post 1 w L))
set_option maxHeartbeats 4000000 in
theorem k_X5_isTrial_0 {Γ : gT} {K : gK} {N : Nat} {post : Int32 → Wd → va_W → Prop} (C : gC Γ K RX5 cX5_isTrial 2 rm_X5_isTrial) (ret : gRi Γ K cX5_isTrial (some .boolean) (mPi K post) 0 0) (x1 : Int32) (w : Wd) (L : va_W) (h : B_X5_isTrial_0 N post x1 w L) : gJ Γ K 0 0 (mL K w ++ L) 0 [(0, .ref (ma K 0)), (1, .int x1)] [] := by
  unfold B_X5_isTrial_0 at h
  refine g_iload_n C 1 rfl dX5_isTrial_0 ?_
  refine g_if_lt C 16 dX5_isTrial_1 (by decide) (fun hc => ?_) (fun hc => ?_)
  · replace h := h.1 hc
    refine g_sub [] rfl ?_
    exact k_X5_isTrial_16 C ret w L h
  · replace h := h.2 hc
    refine g_iload_n C 1 rfl dX5_isTrial_4 ?_
    refine g_aload_n C 0 rfl dX5_isTrial_5 ?_
    refine mg_trials C q1051 (xi w 26) rfl dX5_isTrial_6 ?_
    refine g_icmp_ge C 16 dX5_isTrial_9 (by decide) (fun hc => ?_) (fun hc => ?_)
    · replace h := h.1 hc
      refine g_sub [] rfl ?_
      exact k_X5_isTrial_16 C ret w L h
    · replace h := h.2 hc
      refine g_iconst C 1 (by decide) dX5_isTrial_12 ?_
      refine g_goto C 17 dX5_isTrial_13 (by decide) ?_
      refine g_sub [] rfl ?_
      exact k_X5_isTrial_17 C ret 1 w L h
def B_X5_isTrial (N : Nat) (x1 : Int32) (post : Int32 → Wd → va_W → Prop) (w : Wd) (L : va_W) : Prop := B_X5_isTrial_0 N post x1 w L
theorem m_X5_isTrial {l : Launch} {K : gK} {N : Nat} {post : Int32 → Wd → va_W → Prop} {x1 : Int32} {w : Wd} {L : va_W} (h : B_X5_isTrial N x1 post w L) : gMi l K yX5_isTrial cX5_isTrial 2 (some .boolean) rm_X5_isTrial [.ref (ma K 0), .int x1] (mL K w ++ L) (mPi K post) 0 0 := by
  refine g_inI (ls0 := [(0, .ref (ma K 0)), (1, .int x1)]) (by decide) (Nat.le_of_ble_eq_true rfl) rfl (fun Γ hl C hn ret => ?_)
  exact k_X5_isTrial_0 C ret x1 w L h
def rm_X5_areLaws : Room := { frames := 0, cells := 0, slots := 0, locals := 0 }
def B_X5_areLaws_19 (N : Nat) (post : Int32 → Wd → va_W → Prop) (s0 : Int32) (w : Wd) (L : va_W) : Prop :=
  gZ s0 ∧ post s0 w L
set_option maxHeartbeats 4000000 in
theorem k_X5_areLaws_19 {Γ : gT} {K : gK} {N : Nat} {post : Int32 → Wd → va_W → Prop} (C : gC Γ K RX5 cX5_areLaws 2 rm_X5_areLaws) (ret : gRi Γ K cX5_areLaws (some .boolean) (mPi K post) 0 0) (s0 : Int32) (w : Wd) (L : va_W) (h : B_X5_areLaws_19 N post s0 w L) : gJ Γ K 0 0 (mL K w ++ L) 19 [] [.int s0] := by
  unfold B_X5_areLaws_19 at h
  obtain ⟨hz, h⟩ := h
  exact ret _ _ _ _ _ rfl hz.n dX5_areLaws_19 ⟨_, _, rfl, h⟩
def B_X5_areLaws_18 (N : Nat) (post : Int32 → Wd → va_W → Prop) (w : Wd) (L : va_W) : Prop :=
  B_X5_areLaws_19 N post 0 w L
set_option maxHeartbeats 4000000 in
theorem k_X5_areLaws_18 {Γ : gT} {K : gK} {N : Nat} {post : Int32 → Wd → va_W → Prop} (C : gC Γ K RX5 cX5_areLaws 2 rm_X5_areLaws) (ret : gRi Γ K cX5_areLaws (some .boolean) (mPi K post) 0 0) (w : Wd) (L : va_W) (h : B_X5_areLaws_18 N post w L) : gJ Γ K 0 0 (mL K w ++ L) 18 [] [] := by
  unfold B_X5_areLaws_18 at h
  refine g_iconst C 0 (by decide) dX5_areLaws_18 ?_
  exact k_X5_areLaws_19 C ret 0 w L h
def B_X5_areLaws_0 (N : Nat) (post : Int32 → Wd → va_W → Prop) (x1 : Int32) (w : Wd) (L : va_W) : Prop :=
  (x1 < 0 →
    B_X5_areLaws_18 N post w L) ∧
  (¬ x1 < 0 →
    ((1 <<< ((xi w 2) &&& 31)) ≤ x1 →
      B_X5_areLaws_18 N post w L) ∧
    (¬ (1 <<< ((xi w 2) &&& 31)) ≤ x1 →
      B_X5_areLaws_19 N post 1 w L))
set_option maxHeartbeats 4000000 in
theorem k_X5_areLaws_0 {Γ : gT} {K : gK} {N : Nat} {post : Int32 → Wd → va_W → Prop} (C : gC Γ K RX5 cX5_areLaws 2 rm_X5_areLaws) (ret : gRi Γ K cX5_areLaws (some .boolean) (mPi K post) 0 0) (x1 : Int32) (w : Wd) (L : va_W) (h : B_X5_areLaws_0 N post x1 w L) : gJ Γ K 0 0 (mL K w ++ L) 0 [(0, .ref (ma K 0)), (1, .int x1)] [] := by
  unfold B_X5_areLaws_0 at h
  refine g_iload_n C 1 rfl dX5_areLaws_0 ?_
  refine g_if_lt C 18 dX5_areLaws_1 (by decide) (fun hc => ?_) (fun hc => ?_)
  · replace h := h.1 hc
    refine g_sub [] rfl ?_
    exact k_X5_areLaws_18 C ret w L h
  · replace h := h.2 hc
    refine g_iload_n C 1 rfl dX5_areLaws_4 ?_
    refine g_iconst C 1 (by decide) dX5_areLaws_5 ?_
    refine g_aload_n C 0 rfl dX5_areLaws_6 ?_
    refine mg_laws C q1003 (xi w 2) rfl dX5_areLaws_7 ?_
    refine g_ishl C dX5_areLaws_10 ?_
    refine g_icmp_ge C 18 dX5_areLaws_11 (by decide) (fun hc => ?_) (fun hc => ?_)
    · replace h := h.1 hc
      refine g_sub [] rfl ?_
      exact k_X5_areLaws_18 C ret w L h
    · replace h := h.2 hc
      refine g_iconst C 1 (by decide) dX5_areLaws_14 ?_
      refine g_goto C 19 dX5_areLaws_15 (by decide) ?_
      refine g_sub [] rfl ?_
      exact k_X5_areLaws_19 C ret 1 w L h
def B_X5_areLaws (N : Nat) (x1 : Int32) (post : Int32 → Wd → va_W → Prop) (w : Wd) (L : va_W) : Prop := B_X5_areLaws_0 N post x1 w L
theorem m_X5_areLaws {l : Launch} {K : gK} {N : Nat} {post : Int32 → Wd → va_W → Prop} {x1 : Int32} {w : Wd} {L : va_W} (h : B_X5_areLaws N x1 post w L) : gMi l K yX5_areLaws cX5_areLaws 2 (some .boolean) rm_X5_areLaws [.ref (ma K 0), .int x1] (mL K w ++ L) (mPi K post) 0 0 := by
  refine g_inI (ls0 := [(0, .ref (ma K 0)), (1, .int x1)]) (by decide) (Nat.le_of_ble_eq_true rfl) rfl (fun Γ hl C hn ret => ?_)
  exact k_X5_areLaws_0 C ret x1 w L h
def rm_X5_count : Room := { frames := 0, cells := 0, slots := 0, locals := 0 }
def B_X5_count_0 (N : Nat) (post : Int32 → Wd → va_W → Prop) (x1 : Int32) (w : Wd) (L : va_W) : Prop :=
  ∀ w1 : Wd, w1 = (xsi w 0 0) → (x1 = 0 →
    post (xi w1 2) w1 L) ∧
  (¬ x1 = 0 →
  (x1 = 1 →
    post (xi w1 11) w1 L) ∧
  (¬ x1 = 1 →
  (x1 = 2 →
    post (xi w1 25) w1 L) ∧
  (¬ x1 = 2 →
  (x1 = 3 →
    post (xi w1 26) w1 L) ∧
  (¬ x1 = 3 →
  (x1 = 4 →
    post (xi w1 1) w1 L) ∧
  (¬ x1 = 4 →
  (x1 = 5 →
    post (xi w1 12) w1 L) ∧
  (¬ x1 = 5 →
  (x1 = 6 →
    post (xi w1 13) w1 L) ∧
  (¬ x1 = 6 →
  post (-1000) w1 L)))))))
set_option maxHeartbeats 4000000 in
theorem k_X5_count_0 {Γ : gT} {K : gK} {N : Nat} {post : Int32 → Wd → va_W → Prop} (C : gC Γ K RX5 cX5_count 2 rm_X5_count) (ret : gRi Γ K cX5_count (some .int) (mPi K post) 0 0) (x1 : Int32) (w : Wd) (L : va_W) (h : B_X5_count_0 N post x1 w L) : gJ Γ K 0 0 (mL K w ++ L) 0 [(0, .ref (ma K 0)), (1, .int x1)] [] := by
  unfold B_X5_count_0 at h
  refine g_aload_n C 0 rfl dX5_count_0 ?_
  refine g_iconst C 0 (by decide) dX5_count_1 ?_
  refine mp_thrown C q996 dX5_count_2 ?_
  refine g_iload_n C 1 rfl dX5_count_5 ?_
  obtain ⟨w1, ew1⟩ : ∃ z, z = (xsi w 0 0) := ⟨_, rfl⟩
  replace h := h w1 ew1
  rw [← ew1]
  by_cases hc0 : x1 = 0
  · replace h := h.1 hc0
    refine g_tableIn C 48 dX5_count_6 (n := 0) (by rw [hc0]; decide) (by decide) (by decide) rfl (by decide) ?_
    refine g_aload_n C 0 rfl dX5_count_48 ?_
    refine mg_laws C q1003 (xi w1 2) rfl dX5_count_49 ?_
    exact ret _ _ _ _ _ rfl rfl dX5_count_52 ⟨_, _, rfl, h⟩
  · replace h := h.2 hc0
    by_cases hc1 : x1 = 1
    · replace h := h.1 hc1
      refine g_tableIn C 53 dX5_count_6 (n := 1) (by rw [hc1]; decide) (by decide) (by decide) rfl (by decide) ?_
      refine g_aload_n C 0 rfl dX5_count_53 ?_
      refine mg_animals C q1017 (xi w1 11) rfl dX5_count_54 ?_
      exact ret _ _ _ _ _ rfl rfl dX5_count_57 ⟨_, _, rfl, h⟩
    · replace h := h.2 hc1
      by_cases hc2 : x1 = 2
      · replace h := h.1 hc2
        refine g_tableIn C 58 dX5_count_6 (n := 2) (by rw [hc2]; decide) (by decide) (by decide) rfl (by decide) ?_
        refine g_aload_n C 0 rfl dX5_count_58 ?_
        refine mg_notes C q1050 (xi w1 25) rfl dX5_count_59 ?_
        exact ret _ _ _ _ _ rfl rfl dX5_count_62 ⟨_, _, rfl, h⟩
      · replace h := h.2 hc2
        by_cases hc3 : x1 = 3
        · replace h := h.1 hc3
          refine g_tableIn C 63 dX5_count_6 (n := 3) (by rw [hc3]; decide) (by decide) (by decide) rfl (by decide) ?_
          refine g_aload_n C 0 rfl dX5_count_63 ?_
          refine mg_trials C q1051 (xi w1 26) rfl dX5_count_64 ?_
          exact ret _ _ _ _ _ rfl rfl dX5_count_67 ⟨_, _, rfl, h⟩
        · replace h := h.2 hc3
          by_cases hc4 : x1 = 4
          · replace h := h.1 hc4
            refine g_tableIn C 68 dX5_count_6 (n := 4) (by rw [hc4]; decide) (by decide) (by decide) rfl (by decide) ?_
            refine g_aload_n C 0 rfl dX5_count_68 ?_
            refine mg_length C q1002 (xi w1 1) rfl dX5_count_69 ?_
            exact ret _ _ _ _ _ rfl rfl dX5_count_72 ⟨_, _, rfl, h⟩
          · replace h := h.2 hc4
            by_cases hc5 : x1 = 5
            · replace h := h.1 hc5
              refine g_tableIn C 73 dX5_count_6 (n := 5) (by rw [hc5]; decide) (by decide) (by decide) rfl (by decide) ?_
              refine g_aload_n C 0 rfl dX5_count_73 ?_
              refine mg_toldQueen C q1021 (xi w1 12) rfl dX5_count_74 ?_
              exact ret _ _ _ _ _ rfl rfl dX5_count_77 ⟨_, _, rfl, h⟩
            · replace h := h.2 hc5
              by_cases hc6 : x1 = 6
              · replace h := h.1 hc6
                refine g_tableIn C 78 dX5_count_6 (n := 6) (by rw [hc6]; decide) (by decide) (by decide) rfl (by decide) ?_
                refine g_aload_n C 0 rfl dX5_count_78 ?_
                refine mg_toldMate C q1022 (xi w1 13) rfl dX5_count_79 ?_
                exact ret _ _ _ _ _ rfl rfl dX5_count_82 ⟨_, _, rfl, h⟩
              · replace h := h.2 hc6
                have n0 := lv_neT hc0 (a := 0) (by decide)
                have n1 := lv_neT hc1 (a := 1) (by decide)
                have n2 := lv_neT hc2 (a := 2) (by decide)
                have n3 := lv_neT hc3 (a := 3) (by decide)
                have n4 := lv_neT hc4 (a := 4) (by decide)
                have n5 := lv_neT hc5 (a := 5) (by decide)
                have n6 := lv_neT hc6 (a := 6) (by decide)
                refine g_tableOut C 83 dX5_count_6 (by omega) (by decide) ?_
                refine g_sipush C (-1000) (by decide) dX5_count_83 ?_
                exact ret _ _ _ _ _ rfl rfl dX5_count_86 ⟨_, _, rfl, h⟩
def B_X5_count (N : Nat) (x1 : Int32) (post : Int32 → Wd → va_W → Prop) (w : Wd) (L : va_W) : Prop := B_X5_count_0 N post x1 w L
theorem m_X5_count {l : Launch} {K : gK} {N : Nat} {post : Int32 → Wd → va_W → Prop} {x1 : Int32} {w : Wd} {L : va_W} (h : B_X5_count N x1 post w L) : gMi l K yX5_count cX5_count 2 (some .int) rm_X5_count [.ref (ma K 0), .int x1] (mL K w ++ L) (mPi K post) 0 0 := by
  refine g_inI (ls0 := [(0, .ref (ma K 0)), (1, .int x1)]) (by decide) (Nat.le_of_ble_eq_true rfl) rfl (fun Γ hl C hn ret => ?_)
  exact k_X5_count_0 C ret x1 w L h
