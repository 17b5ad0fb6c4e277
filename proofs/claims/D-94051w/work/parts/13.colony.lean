set_option maxRecDepth 100000
def rm_X4_isThere : Room := { frames := 0, cells := 0, slots := 0, locals := 0 }
def B_X4_isThere_19 (N : Nat) (post : Int32 → Wd → va_W → Prop) (s0 : Int32) (w : Wd) (L : va_W) : Prop :=
  gZ s0 ∧ post s0 w L
set_option maxHeartbeats 4000000 in
theorem k_X4_isThere_19 {Γ : gT} {K : gK} {N : Nat} {post : Int32 → Wd → va_W → Prop} (C : gC Γ K RX4 cX4_isThere 2 rm_X4_isThere) (ret : gRi Γ K cX4_isThere (some .boolean) (xPi K post) 0 0) (s0 : Int32) (w : Wd) (L : va_W) (h : B_X4_isThere_19 N post s0 w L) : gJ Γ K 0 0 (xL K w ++ L) 19 [] [.int s0] := by
  unfold B_X4_isThere_19 at h
  obtain ⟨hz, h⟩ := h
  exact ret _ _ _ _ _ rfl hz.n dX4_isThere_19 ⟨_, _, rfl, h⟩
def B_X4_isThere_18 (N : Nat) (post : Int32 → Wd → va_W → Prop) (w : Wd) (L : va_W) : Prop :=
  B_X4_isThere_19 N post 0 w L
set_option maxHeartbeats 4000000 in
theorem k_X4_isThere_18 {Γ : gT} {K : gK} {N : Nat} {post : Int32 → Wd → va_W → Prop} (C : gC Γ K RX4 cX4_isThere 2 rm_X4_isThere) (ret : gRi Γ K cX4_isThere (some .boolean) (xPi K post) 0 0) (w : Wd) (L : va_W) (h : B_X4_isThere_18 N post w L) : gJ Γ K 0 0 (xL K w ++ L) 18 [] [] := by
  unfold B_X4_isThere_18 at h
  refine g_iconst C 0 (by decide) dX4_isThere_18 ?_
  exact k_X4_isThere_19 C ret 0 w L h
def B_X4_isThere_0 (N : Nat) (post : Int32 → Wd → va_W → Prop) (x1 : Int32) (w : Wd) (L : va_W) : Prop :=
  (x1 = (-1 : Int32) →
    B_X4_isThere_18 N post w L) ∧
  (¬ x1 = (-1 : Int32) →
    vp_in x1 24 ∧ ((xA w 23 x1.toNatClampNeg) = 0 →
      B_X4_isThere_19 N post 1 w L) ∧
    (¬ (xA w 23 x1.toNatClampNeg) = 0 →
      B_X4_isThere_18 N post w L))
set_option maxHeartbeats 4000000 in
theorem k_X4_isThere_0 {Γ : gT} {K : gK} {N : Nat} {post : Int32 → Wd → va_W → Prop} (C : gC Γ K RX4 cX4_isThere 2 rm_X4_isThere) (ret : gRi Γ K cX4_isThere (some .boolean) (xPi K post) 0 0) (x1 : Int32) (w : Wd) (L : va_W) (h : B_X4_isThere_0 N post x1 w L) : gJ Γ K 0 0 (xL K w ++ L) 0 [(0, .ref (xa K 1)), (1, .int x1)] [] := by
  unfold B_X4_isThere_0 at h
  refine g_iload_n C 1 rfl dX4_isThere_0 ?_
  refine g_iconst C (-1) (by decide) dX4_isThere_1 ?_
  refine g_icmp_eq C 18 dX4_isThere_2 (by decide) (fun hc => ?_) (fun hc => ?_)
  · replace h := h.1 hc
    refine g_sub [] rfl ?_
    exact k_X4_isThere_18 C ret w L h
  · replace h := h.2 hc
    refine g_aload_n C 0 rfl dX4_isThere_5 ?_
    refine xg_c_state C q214 dX4_isThere_6 ?_
    refine g_iload_n C 1 rfl dX4_isThere_9 ?_
    obtain ⟨hb, h⟩ := h
    refine xld_23 C hb (xA w 23 x1.toNatClampNeg) rfl dX4_isThere_10 ?_
    refine g_if_ne C 18 dX4_isThere_11 (by decide) (fun hc => ?_) (fun hc => ?_)
    · replace h := h.2 hc
      refine g_sub [] rfl ?_
      exact k_X4_isThere_18 C ret w L h
    · replace h := h.1 hc
      refine g_iconst C 1 (by decide) dX4_isThere_14 ?_
      refine g_goto C 19 dX4_isThere_15 (by decide) ?_
      refine g_sub [] rfl ?_
      exact k_X4_isThere_19 C ret 1 w L h
def B_X4_isThere (N : Nat) (x1 : Int32) (post : Int32 → Wd → va_W → Prop) (w : Wd) (L : va_W) : Prop := B_X4_isThere_0 N post x1 w L
theorem m_X4_isThere {l : Launch} {K : gK} {N : Nat} {post : Int32 → Wd → va_W → Prop} {x1 : Int32} {w : Wd} {L : va_W} (h : B_X4_isThere N x1 post w L) : gMi l K yX4_isThere cX4_isThere 2 (some .boolean) rm_X4_isThere [.ref (xa K 1), .int x1] (xL K w ++ L) (xPi K post) 0 0 := by
  refine g_inI (ls0 := [(0, .ref (xa K 1)), (1, .int x1)]) (by decide) (Nat.le_of_ble_eq_true rfl) rfl (fun Γ hl C hn ret => ?_)
  exact k_X4_isThere_0 C ret x1 w L h
def rm_X4_hasQueen : Room := { frames := 1, cells := 0, slots := 0, locals := 21 }
def B_X4_hasQueen_0 (N : Nat) (post : Int32 → Wd → va_W → Prop) (w : Wd) (L : va_W) : Prop :=
  B_X4_isThere N (xi w 15) (fun (v3 : Int32) (w1 : Wd) (L2 : va_W) =>
  gZ v3 ∧ post v3 w1 L2) w L
set_option maxHeartbeats 4000000 in
theorem k_X4_hasQueen_0 {Γ : gT} {K : gK} {N : Nat} {post : Int32 → Wd → va_W → Prop} (C : gC Γ K RX4 cX4_hasQueen 1 rm_X4_hasQueen) (ret : gRi Γ K cX4_hasQueen (some .boolean) (xPi K post) 0 0) (w : Wd) (L : va_W) (h : B_X4_hasQueen_0 N post w L) : gJ Γ K 0 0 (xL K w ++ L) 0 [(0, .ref (xa K 1))] [] := by
  unfold B_X4_hasQueen_0 at h
  refine g_aload_n C 0 rfl dX4_hasQueen_0 ?_
  refine g_aload_n C 0 rfl dX4_hasQueen_1 ?_
  refine xg_c_reigns C q208 (xi w 15) rfl dX4_hasQueen_2 ?_
  refine g_callVi C (As := [.int (xi w 15)]) (rest := []) (m_X4_isThere h) (lw_V q754 q755 q756 q83 q757) (ci := 1) (qi := 1) rfl rfl ⟨rfl, rfl⟩ ⟨Nat.le_of_ble_eq_true rfl, Nat.le_of_ble_eq_true rfl⟩ 1 rfl (by decide +kernel) rfl (Nat.le_of_ble_eq_true rfl) ⟨Nat.zero_le _, Nat.zero_le _⟩ dX4_hasQueen_5 ?_
  rintro v3 _ ⟨w1, L2, rfl, h⟩
  obtain ⟨hz, h⟩ := h
  exact ret _ _ _ _ _ rfl hz.n dX4_hasQueen_8 ⟨_, _, rfl, h⟩
def B_X4_hasQueen (N : Nat) (post : Int32 → Wd → va_W → Prop) (w : Wd) (L : va_W) : Prop := B_X4_hasQueen_0 N post w L
theorem m_X4_hasQueen {l : Launch} {K : gK} {N : Nat} {post : Int32 → Wd → va_W → Prop} {w : Wd} {L : va_W} (h : B_X4_hasQueen N post w L) : gMi l K yX4_hasQueen cX4_hasQueen 1 (some .boolean) rm_X4_hasQueen [.ref (xa K 1)] (xL K w ++ L) (xPi K post) 0 0 := by
  refine g_inI (ls0 := [(0, .ref (xa K 1))]) (by decide) (Nat.le_of_ble_eq_true rfl) rfl (fun Γ hl C hn ret => ?_)
  exact k_X4_hasQueen_0 C ret w L h
def rm_X4_there : Room := { frames := 1, cells := 0, slots := 0, locals := 21 }
def B_X4_there_26 (r4 : Int32 → Int32 → Wd → va_W → Prop) (N : Nat) (post : Int32 → Wd → va_W → Prop) (x2 : Int32) (s0 : Int32) (s1 : Int32) (w : Wd) (L : va_W) : Prop :=
  r4 (s1 + s0) (x2 + 1) w L
set_option maxHeartbeats 4000000 in
theorem k_X4_there_26 {Γ : gT} {K : gK} {N : Nat} {post : Int32 → Wd → va_W → Prop} (C : gC Γ K RX4 cX4_there 3 rm_X4_there) (ret : gRi Γ K cX4_there (some .int) (xPi K post) 0 0) {r4 : Int32 → Int32 → Wd → va_W → Prop} (hr4 : ∀ (x1 : Int32) (x2 : Int32) (w : Wd) (L : va_W), r4 x1 x2 w L → gJ Γ K 0 0 (xL K w ++ L) 4 [(0, .ref (xa K 1)), (1, .int x1), (2, .int x2)] []) (x2 : Int32) (s0 : Int32) (s1 : Int32) (w : Wd) (L : va_W) (h : B_X4_there_26 r4 N post x2 s0 s1 w L) : gJ Γ K 0 0 (xL K w ++ L) 26 [(0, .ref (xa K 1)), (2, .int x2)] [.int s0, .int s1] := by
  unfold B_X4_there_26 at h
  refine g_iadd C dX4_there_26 ?_
  refine g_istore_n C rfl (lt := [(1, .int (s1 + s0)), (0, .ref (xa K 1)), (2, .int x2)]) dX4_there_27 (by decide) rfl ?_
  refine g_iinc C 2 (x2 + 1) (lt := [(2, .int (x2 + 1)), (1, .int (s1 + s0)), (0, .ref (xa K 1))]) rfl rfl dX4_there_28 (by decide) rfl ?_
  refine g_goto C 4 dX4_there_31 (by decide) ?_
  refine g_sub [2, 1, 0] rfl ?_
  exact hr4 (s1 + s0) (x2 + 1) w L h
def B_X4_there_4s (r4 : Int32 → Int32 → Wd → va_W → Prop) (N : Nat) (post : Int32 → Wd → va_W → Prop) (x1 : Int32) (x2 : Int32) (w : Wd) (L : va_W) : Prop :=
  ((xi w 11) ≤ x2 →
    post x1 w L) ∧
  (¬ (xi w 11) ≤ x2 →
    B_X4_isThere N x2 (fun (v3 : Int32) (w1 : Wd) (L2 : va_W) =>
  (v3 = 0 →
      B_X4_there_26 r4 N post x2 0 x1 w1 L2) ∧
    (¬ v3 = 0 →
      B_X4_there_26 r4 N post x2 1 x1 w1 L2)) w L)
def B_X4_there_4 (N : Nat) (post : Int32 → Wd → va_W → Prop) : Nat → Int32 → Int32 → Wd → va_W → Prop
  | 0, _, _, _, _ => False
  | n + 1, x1, x2, w, L => B_X4_there_4s (B_X4_there_4 N post n) N post x1 x2 w L
set_option maxHeartbeats 4000000 in
theorem k_X4_there_4s {Γ : gT} {K : gK} {N : Nat} {post : Int32 → Wd → va_W → Prop} (C : gC Γ K RX4 cX4_there 3 rm_X4_there) (ret : gRi Γ K cX4_there (some .int) (xPi K post) 0 0) {r4 : Int32 → Int32 → Wd → va_W → Prop} (hr4 : ∀ (x1 : Int32) (x2 : Int32) (w : Wd) (L : va_W), r4 x1 x2 w L → gJ Γ K 0 0 (xL K w ++ L) 4 [(0, .ref (xa K 1)), (1, .int x1), (2, .int x2)] []) (x1 : Int32) (x2 : Int32) (w : Wd) (L : va_W) (h : B_X4_there_4s r4 N post x1 x2 w L) : gJ Γ K 0 0 (xL K w ++ L) 4 [(0, .ref (xa K 1)), (1, .int x1), (2, .int x2)] [] := by
  unfold B_X4_there_4s at h
  refine g_iload_n C 2 rfl dX4_there_4 ?_
  refine g_aload_n C 0 rfl dX4_there_5 ?_
  refine xg_c_many C q201 (xi w 11) rfl dX4_there_6 ?_
  refine g_icmp_ge C 34 dX4_there_9 (by decide) (fun hc => ?_) (fun hc => ?_)
  · replace h := h.1 hc
    refine g_iload_n C 1 rfl dX4_there_34 ?_
    exact ret _ _ _ _ _ rfl rfl dX4_there_35 ⟨_, _, rfl, h⟩
  · replace h := h.2 hc
    refine g_iload_n C 1 rfl dX4_there_12 ?_
    refine g_aload_n C 0 rfl dX4_there_13 ?_
    refine g_iload_n C 2 rfl dX4_there_14 ?_
    refine g_callVi C (As := [.int x2]) (rest := [.int x1]) (m_X4_isThere h) (lw_V q754 q755 q756 q83 q757) (ci := 1) (qi := 1) rfl rfl ⟨rfl, rfl⟩ ⟨Nat.le_of_ble_eq_true rfl, Nat.le_of_ble_eq_true rfl⟩ 1 rfl (by decide +kernel) rfl (Nat.le_of_ble_eq_true rfl) ⟨Nat.zero_le _, Nat.zero_le _⟩ dX4_there_15 ?_
    rintro v3 _ ⟨w1, L2, rfl, h⟩
    refine g_if_eq C 25 dX4_there_18 (by decide) (fun hc => ?_) (fun hc => ?_)
    · replace h := h.1 hc
      refine g_iconst C 0 (by decide) dX4_there_25 ?_
      refine g_sub [0, 2] rfl ?_
      exact k_X4_there_26 C ret hr4 x2 0 x1 w1 L2 h
    · replace h := h.2 hc
      refine g_iconst C 1 (by decide) dX4_there_21 ?_
      refine g_goto C 26 dX4_there_22 (by decide) ?_
      refine g_sub [0, 2] rfl ?_
      exact k_X4_there_26 C ret hr4 x2 1 x1 w1 L2 h
theorem k_X4_there_4 {Γ : gT} {K : gK} {N : Nat} {post : Int32 → Wd → va_W → Prop} (C : gC Γ K RX4 cX4_there 3 rm_X4_there) (ret : gRi Γ K cX4_there (some .int) (xPi K post) 0 0) : ∀ (n : Nat) (x1 : Int32) (x2 : Int32) (w : Wd) (L : va_W) (h : B_X4_there_4 N post n x1 x2 w L), gJ Γ K 0 0 (xL K w ++ L) 4 [(0, .ref (xa K 1)), (1, .int x1), (2, .int x2)] [] := by
  intro n
  induction n with
  | zero => intro x1 x2 w L h; exact h.elim
  | succ n ih => intro x1 x2 w L h; exact k_X4_there_4s C ret ih x1 x2 w L h
def B_X4_there_0 (N : Nat) (post : Int32 → Wd → va_W → Prop) (w : Wd) (L : va_W) : Prop :=
  B_X4_there_4 N post N 0 0 w L
set_option maxHeartbeats 4000000 in
theorem k_X4_there_0 {Γ : gT} {K : gK} {N : Nat} {post : Int32 → Wd → va_W → Prop} (C : gC Γ K RX4 cX4_there 3 rm_X4_there) (ret : gRi Γ K cX4_there (some .int) (xPi K post) 0 0) (w : Wd) (L : va_W) (h : B_X4_there_0 N post w L) : gJ Γ K 0 0 (xL K w ++ L) 0 [(0, .ref (xa K 1))] [] := by
  unfold B_X4_there_0 at h
  refine g_iconst C 0 (by decide) dX4_there_0 ?_
  refine g_istore_n C rfl (lt := [(1, .int 0), (0, .ref (xa K 1))]) dX4_there_1 (by decide) rfl ?_
  refine g_iconst C 0 (by decide) dX4_there_2 ?_
  refine g_istore_n C rfl (lt := [(2, .int 0), (1, .int 0), (0, .ref (xa K 1))]) dX4_there_3 (by decide) rfl ?_
  refine g_sub [2, 1, 0] rfl ?_
  exact k_X4_there_4 C ret N 0 0 w L h
def B_X4_there (N : Nat) (post : Int32 → Wd → va_W → Prop) (w : Wd) (L : va_W) : Prop := B_X4_there_0 N post w L
theorem m_X4_there {l : Launch} {K : gK} {N : Nat} {post : Int32 → Wd → va_W → Prop} {w : Wd} {L : va_W} (h : B_X4_there N post w L) : gMi l K yX4_there cX4_there 3 (some .int) rm_X4_there [.ref (xa K 1)] (xL K w ++ L) (xPi K post) 0 0 := by
  refine g_inI (ls0 := [(0, .ref (xa K 1))]) (by decide) (Nat.le_of_ble_eq_true rfl) rfl (fun Γ hl C hn ret => ?_)
  exact k_X4_there_0 C ret w L h
def rm_X4_isPaired : Room := { frames := 2, cells := 0, slots := 0, locals := 41 }
def B_X4_isPaired_34 (N : Nat) (post : Int32 → Wd → va_W → Prop) (s0 : Int32) (w : Wd) (L : va_W) : Prop :=
  gZ s0 ∧ post s0 w L
set_option maxHeartbeats 4000000 in
theorem k_X4_isPaired_34 {Γ : gT} {K : gK} {N : Nat} {post : Int32 → Wd → va_W → Prop} (C : gC Γ K RX4 cX4_isPaired 1 rm_X4_isPaired) (ret : gRi Γ K cX4_isPaired (some .boolean) (xPi K post) 0 0) (s0 : Int32) (w : Wd) (L : va_W) (h : B_X4_isPaired_34 N post s0 w L) : gJ Γ K 0 0 (xL K w ++ L) 34 [] [.int s0] := by
  unfold B_X4_isPaired_34 at h
  obtain ⟨hz, h⟩ := h
  exact ret _ _ _ _ _ rfl hz.n dX4_isPaired_34 ⟨_, _, rfl, h⟩
def B_X4_isPaired_33 (N : Nat) (post : Int32 → Wd → va_W → Prop) (w : Wd) (L : va_W) : Prop :=
  B_X4_isPaired_34 N post 0 w L
set_option maxHeartbeats 4000000 in
theorem k_X4_isPaired_33 {Γ : gT} {K : gK} {N : Nat} {post : Int32 → Wd → va_W → Prop} (C : gC Γ K RX4 cX4_isPaired 1 rm_X4_isPaired) (ret : gRi Γ K cX4_isPaired (some .boolean) (xPi K post) 0 0) (w : Wd) (L : va_W) (h : B_X4_isPaired_33 N post w L) : gJ Γ K 0 0 (xL K w ++ L) 33 [] [] := by
  unfold B_X4_isPaired_33 at h
  refine g_iconst C 0 (by decide) dX4_isPaired_33 ?_
  exact k_X4_isPaired_34 C ret 0 w L h
def B_X4_isPaired_0 (N : Nat) (post : Int32 → Wd → va_W → Prop) (w : Wd) (L : va_W) : Prop :=
  B_X4_hasQueen N (fun (v3 : Int32) (w1 : Wd) (L2 : va_W) =>
  (v3 = 0 →
    B_X4_isPaired_33 N post w1 L2) ∧
  (¬ v3 = 0 →
    ((xi w1 16) = (xi w1 15) →
      B_X4_isPaired_33 N post w1 L2) ∧
    (¬ (xi w1 16) = (xi w1 15) →
      B_X4_isThere N (xi w1 16) (fun (v6 : Int32) (w4 : Wd) (L5 : va_W) =>
  (v6 = 0 →
        B_X4_isPaired_33 N post w4 L5) ∧
      (¬ v6 = 0 →
        B_X4_isPaired_34 N post 1 w4 L5)) w1 L2))) w L
set_option maxHeartbeats 4000000 in
theorem k_X4_isPaired_0 {Γ : gT} {K : gK} {N : Nat} {post : Int32 → Wd → va_W → Prop} (C : gC Γ K RX4 cX4_isPaired 1 rm_X4_isPaired) (ret : gRi Γ K cX4_isPaired (some .boolean) (xPi K post) 0 0) (w : Wd) (L : va_W) (h : B_X4_isPaired_0 N post w L) : gJ Γ K 0 0 (xL K w ++ L) 0 [(0, .ref (xa K 1))] [] := by
  unfold B_X4_isPaired_0 at h
  refine g_aload_n C 0 rfl dX4_isPaired_0 ?_
  refine g_callVi C (As := []) (rest := []) (m_X4_hasQueen h) (lw_V q750 q751 q752 q83 q753) (ci := 1) (qi := 1) rfl rfl ⟨rfl, rfl⟩ ⟨Nat.le_of_ble_eq_true rfl, Nat.le_of_ble_eq_true rfl⟩ 0 rfl (by decide +kernel) rfl (Nat.le_of_ble_eq_true rfl) ⟨Nat.zero_le _, Nat.zero_le _⟩ dX4_isPaired_1 ?_
  rintro v3 _ ⟨w1, L2, rfl, h⟩
  refine g_if_eq C 33 dX4_isPaired_4 (by decide) (fun hc => ?_) (fun hc => ?_)
  · replace h := h.1 hc
    refine g_sub [] rfl ?_
    exact k_X4_isPaired_33 C ret w1 L2 h
  · replace h := h.2 hc
    refine g_aload_n C 0 rfl dX4_isPaired_7 ?_
    refine xg_c_partner C q210 (xi w1 16) rfl dX4_isPaired_8 ?_
    refine g_aload_n C 0 rfl dX4_isPaired_11 ?_
    refine xg_c_reigns C q208 (xi w1 15) rfl dX4_isPaired_12 ?_
    refine g_icmp_eq C 33 dX4_isPaired_15 (by decide) (fun hc => ?_) (fun hc => ?_)
    · replace h := h.1 hc
      refine g_sub [] rfl ?_
      exact k_X4_isPaired_33 C ret w1 L2 h
    · replace h := h.2 hc
      refine g_aload_n C 0 rfl dX4_isPaired_18 ?_
      refine g_aload_n C 0 rfl dX4_isPaired_19 ?_
      refine xg_c_partner C q210 (xi w1 16) rfl dX4_isPaired_20 ?_
      refine g_callVi C (As := [.int (xi w1 16)]) (rest := []) (m_X4_isThere h) (lw_V q754 q755 q756 q83 q757) (ci := 1) (qi := 1) rfl rfl ⟨rfl, rfl⟩ ⟨Nat.le_of_ble_eq_true rfl, Nat.le_of_ble_eq_true rfl⟩ 1 rfl (by decide +kernel) rfl (Nat.le_of_ble_eq_true rfl) ⟨Nat.zero_le _, Nat.zero_le _⟩ dX4_isPaired_23 ?_
      rintro v6 _ ⟨w4, L5, rfl, h⟩
      refine g_if_eq C 33 dX4_isPaired_26 (by decide) (fun hc => ?_) (fun hc => ?_)
      · replace h := h.1 hc
        refine g_sub [] rfl ?_
        exact k_X4_isPaired_33 C ret w4 L5 h
      · replace h := h.2 hc
        refine g_iconst C 1 (by decide) dX4_isPaired_29 ?_
        refine g_goto C 34 dX4_isPaired_30 (by decide) ?_
        refine g_sub [] rfl ?_
        exact k_X4_isPaired_34 C ret 1 w4 L5 h
def B_X4_isPaired (N : Nat) (post : Int32 → Wd → va_W → Prop) (w : Wd) (L : va_W) : Prop := B_X4_isPaired_0 N post w L
theorem m_X4_isPaired {l : Launch} {K : gK} {N : Nat} {post : Int32 → Wd → va_W → Prop} {w : Wd} {L : va_W} (h : B_X4_isPaired N post w L) : gMi l K yX4_isPaired cX4_isPaired 1 (some .boolean) rm_X4_isPaired [.ref (xa K 1)] (xL K w ++ L) (xPi K post) 0 0 := by
  refine g_inI (ls0 := [(0, .ref (xa K 1))]) (by decide) (Nat.le_of_ble_eq_true rfl) rfl (fun Γ hl C hn ret => ?_)
  exact k_X4_isPaired_0 C ret w L h
def rm_X4_rain : Room := { frames := 0, cells := 0, slots := 0, locals := 0 }
def B_X4_rain_34 (N : Nat) (post : Int32 → Wd → va_W → Prop) (s0 : Int32) (w : Wd) (L : va_W) : Prop :=
  post s0 w L
set_option maxHeartbeats 4000000 in
theorem k_X4_rain_34 {Γ : gT} {K : gK} {N : Nat} {post : Int32 → Wd → va_W → Prop} (C : gC Γ K RX4 cX4_rain 1 rm_X4_rain) (ret : gRi Γ K cX4_rain (some .int) (xPi K post) 0 0) (s0 : Int32) (w : Wd) (L : va_W) (h : B_X4_rain_34 N post s0 w L) : gJ Γ K 0 0 (xL K w ++ L) 34 [] [.int s0] := by
  unfold B_X4_rain_34 at h
  exact ret _ _ _ _ _ rfl rfl dX4_rain_34 ⟨_, _, rfl, h⟩
def B_X4_rain_33 (N : Nat) (post : Int32 → Wd → va_W → Prop) (w : Wd) (L : va_W) : Prop :=
  B_X4_rain_34 N post 0 w L
set_option maxHeartbeats 4000000 in
theorem k_X4_rain_33 {Γ : gT} {K : gK} {N : Nat} {post : Int32 → Wd → va_W → Prop} (C : gC Γ K RX4 cX4_rain 1 rm_X4_rain) (ret : gRi Γ K cX4_rain (some .int) (xPi K post) 0 0) (w : Wd) (L : va_W) (h : B_X4_rain_33 N post w L) : gJ Γ K 0 0 (xL K w ++ L) 33 [] [] := by
  unfold B_X4_rain_33 at h
  refine g_iconst C 0 (by decide) dX4_rain_33 ?_
  exact k_X4_rain_34 C ret 0 w L h
def B_X4_rain_0 (N : Nat) (post : Int32 → Wd → va_W → Prop) (w : Wd) (L : va_W) : Prop :=
  (((xi w 10) &&& 1) = 0 →
    ((24 : Int32) ≤ (xi w 9) →
      B_X4_rain_33 N post w L) ∧
    (¬ (24 : Int32) ≤ (xi w 9) →
      vp_in (xi w 9) 24 ∧ B_X4_rain_34 N post (xA w 10 (xi w 9).toNatClampNeg) w L)) ∧
  (¬ ((xi w 10) &&& 1) = 0 →
    B_X4_rain_33 N post w L)
set_option maxHeartbeats 4000000 in
theorem k_X4_rain_0 {Γ : gT} {K : gK} {N : Nat} {post : Int32 → Wd → va_W → Prop} (C : gC Γ K RX4 cX4_rain 1 rm_X4_rain) (ret : gRi Γ K cX4_rain (some .int) (xPi K post) 0 0) (w : Wd) (L : va_W) (h : B_X4_rain_0 N post w L) : gJ Γ K 0 0 (xL K w ++ L) 0 [(0, .ref (xa K 1))] [] := by
  unfold B_X4_rain_0 at h
  refine g_aload_n C 0 rfl dX4_rain_0 ?_
  refine xg_c_change C q200 (xi w 10) rfl dX4_rain_1 ?_
  refine g_iconst C 1 (by decide) dX4_rain_4 ?_
  refine g_iand C dX4_rain_5 ?_
  refine g_if_ne C 33 dX4_rain_6 (by decide) (fun hc => ?_) (fun hc => ?_)
  · replace h := h.2 hc
    refine g_sub [] rfl ?_
    exact k_X4_rain_33 C ret w L h
  · replace h := h.1 hc
    refine g_aload_n C 0 rfl dX4_rain_9 ?_
    refine xg_c_month C q199 (xi w 9) rfl dX4_rain_10 ?_
    refine g_bipush C 24 (by decide) dX4_rain_13 ?_
    refine g_icmp_ge C 33 dX4_rain_15 (by decide) (fun hc => ?_) (fun hc => ?_)
    · replace h := h.1 hc
      refine g_sub [] rfl ?_
      exact k_X4_rain_33 C ret w L h
    · replace h := h.2 hc
      refine g_aload_n C 0 rfl dX4_rain_18 ?_
      refine xg_c_this_0 C q226 dX4_rain_19 ?_
      refine xgN_rains C nf_X4_110 dX4_rain_22 ?_
      refine g_aload_n C 0 rfl dX4_rain_25 ?_
      refine xg_c_month C q199 (xi w 9) rfl dX4_rain_26 ?_
      obtain ⟨hb, h⟩ := h
      refine xld_10 C hb (xA w 10 (xi w 9).toNatClampNeg) rfl dX4_rain_29 ?_
      refine g_goto C 34 dX4_rain_30 (by decide) ?_
      refine g_sub [] rfl ?_
      exact k_X4_rain_34 C ret (xA w 10 (xi w 9).toNatClampNeg) w L h
def B_X4_rain (N : Nat) (post : Int32 → Wd → va_W → Prop) (w : Wd) (L : va_W) : Prop := B_X4_rain_0 N post w L
theorem m_X4_rain {l : Launch} {K : gK} {N : Nat} {post : Int32 → Wd → va_W → Prop} {w : Wd} {L : va_W} (h : B_X4_rain N post w L) : gMi l K yX4_rain cX4_rain 1 (some .int) rm_X4_rain [.ref (xa K 1)] (xL K w ++ L) (xPi K post) 0 0 := by
  refine g_inI (ls0 := [(0, .ref (xa K 1))]) (by decide) (Nat.le_of_ble_eq_true rfl) rfl (fun Γ hl C hn ret => ?_)
  exact k_X4_rain_0 C ret w L h
def rm_X4_begin : Room := { frames := 2, cells := 0, slots := 0, locals := 47 }
def B_X4_begin_139s (r139 : Int32 → Int32 → Wd → va_W → Prop) (N : Nat) (post : Wd → va_W → Prop) (x4 : Int32) (x6 : Int32) (w : Wd) (L : va_W) : Prop :=
  (x4 ≤ x6 →
    post w L) ∧
  (¬ x4 ≤ x6 →
    vp_in x6 24 ∧ ∀ w1 : Wd, w1 = (xsA w 23 x6.toNatClampNeg 0) → vp_in x6 16 ∧ vp_in x6 24 ∧ ∀ w2 : Wd, w2 = (xsA w1 24 x6.toNatClampNeg (xA w1 9 x6.toNatClampNeg)) → vp_in x6 24 ∧ ∀ w3 : Wd, w3 = (xsA w2 25 x6.toNatClampNeg (-1)) → vp_in x6 24 ∧ ∀ w4 : Wd, w4 = (xsA w3 26 x6.toNatClampNeg (-1)) → r139 x4 (x6 + 1) w4 L)
def B_X4_begin_139 (N : Nat) (post : Wd → va_W → Prop) : Nat → Int32 → Int32 → Wd → va_W → Prop
  | 0, _, _, _, _ => False
  | n + 1, x4, x6, w, L => B_X4_begin_139s (B_X4_begin_139 N post n) N post x4 x6 w L
set_option maxHeartbeats 4000000 in
theorem k_X4_begin_139s {Γ : gT} {K : gK} {N : Nat} {post : Wd → va_W → Prop} (C : gC Γ K RX4 cX4_begin 7 rm_X4_begin) (ret : gRv Γ K cX4_begin (none) (xPv K post) 0 0) {r139 : Int32 → Int32 → Wd → va_W → Prop} (hr139 : ∀ (x4 : Int32) (x6 : Int32) (w : Wd) (L : va_W), r139 x4 x6 w L → gJ Γ K 0 0 (xL K w ++ L) 139 [(0, .ref (xa K 1)), (4, .int x4), (6, .int x6)] []) (x4 : Int32) (x6 : Int32) (w : Wd) (L : va_W) (h : B_X4_begin_139s r139 N post x4 x6 w L) : gJ Γ K 0 0 (xL K w ++ L) 139 [(0, .ref (xa K 1)), (4, .int x4), (6, .int x6)] [] := by
  unfold B_X4_begin_139s at h
  refine g_iload C 2 rfl dX4_begin_139 ?_
  refine g_iload C 1 rfl dX4_begin_141 ?_
  refine g_icmp_ge C 193 dX4_begin_143 (by decide) (fun hc => ?_) (fun hc => ?_)
  · replace h := h.1 hc
    exact ret rfl _ _ _ dX4_begin_193 ⟨_, _, rfl, h⟩
  · replace h := h.2 hc
    refine g_aload_n C 0 rfl dX4_begin_146 ?_
    refine xg_c_state C q214 dX4_begin_147 ?_
    refine g_iload C 2 rfl dX4_begin_150 ?_
    refine g_iconst C 0 (by decide) dX4_begin_152 ?_
    obtain ⟨hb, h⟩ := h
    refine xst_23 C hb dX4_begin_153 ?_
    obtain ⟨w1, ew1⟩ : ∃ z, z = (xsA w 23 x6.toNatClampNeg 0) := ⟨_, rfl⟩
    replace h := h w1 ew1
    rw [← ew1]
    refine g_aload_n C 0 rfl dX4_begin_154 ?_
    refine xg_c_weight C q216 dX4_begin_155 ?_
    refine g_iload C 2 rfl dX4_begin_158 ?_
    refine g_aload_n C 0 rfl dX4_begin_160 ?_
    refine xg_c_this_0 C q226 dX4_begin_161 ?_
    refine xgN_weights C nf_X4_99 dX4_begin_164 ?_
    refine g_iload C 2 rfl dX4_begin_167 ?_
    obtain ⟨hb, h⟩ := h
    refine xld_9 C hb (xA w1 9 x6.toNatClampNeg) rfl dX4_begin_169 ?_
    obtain ⟨hb, h⟩ := h
    refine xst_24 C hb dX4_begin_170 ?_
    obtain ⟨w2, ew2⟩ : ∃ z, z = (xsA w1 24 x6.toNatClampNeg (xA w1 9 x6.toNatClampNeg)) := ⟨_, rfl⟩
    replace h := h w2 ew2
    rw [← ew2]
    refine g_aload_n C 0 rfl dX4_begin_171 ?_
    refine xg_c_when C q218 dX4_begin_172 ?_
    refine g_iload C 2 rfl dX4_begin_175 ?_
    refine g_iconst C (-1) (by decide) dX4_begin_177 ?_
    obtain ⟨hb, h⟩ := h
    refine xst_25 C hb dX4_begin_178 ?_
    obtain ⟨w3, ew3⟩ : ∃ z, z = (xsA w2 25 x6.toNatClampNeg (-1)) := ⟨_, rfl⟩
    replace h := h w3 ew3
    rw [← ew3]
    refine g_aload_n C 0 rfl dX4_begin_179 ?_
    refine xg_c_born C q220 dX4_begin_180 ?_
    refine g_iload C 2 rfl dX4_begin_183 ?_
    refine g_iconst C (-1) (by decide) dX4_begin_185 ?_
    obtain ⟨hb, h⟩ := h
    refine xst_26 C hb dX4_begin_186 ?_
    obtain ⟨w4, ew4⟩ : ∃ z, z = (xsA w3 26 x6.toNatClampNeg (-1)) := ⟨_, rfl⟩
    replace h := h w4 ew4
    rw [← ew4]
    refine g_iinc C 2 (x6 + 1) (lt := [(6, .int (x6 + 1)), (0, .ref (xa K 1)), (4, .int x4)]) rfl rfl dX4_begin_187 (by decide) rfl ?_
    refine g_goto C 139 dX4_begin_190 (by decide) ?_
    refine g_sub [1, 2, 0] rfl ?_
    exact hr139 x4 (x6 + 1) w4 L h
theorem k_X4_begin_139 {Γ : gT} {K : gK} {N : Nat} {post : Wd → va_W → Prop} (C : gC Γ K RX4 cX4_begin 7 rm_X4_begin) (ret : gRv Γ K cX4_begin (none) (xPv K post) 0 0) : ∀ (n : Nat) (x4 : Int32) (x6 : Int32) (w : Wd) (L : va_W) (h : B_X4_begin_139 N post n x4 x6 w L), gJ Γ K 0 0 (xL K w ++ L) 139 [(0, .ref (xa K 1)), (4, .int x4), (6, .int x6)] [] := by
  intro n
  induction n with
  | zero => intro x4 x6 w L h; exact h.elim
  | succ n ih => intro x4 x6 w L h; exact k_X4_begin_139s C ret ih x4 x6 w L h
def B_X4_begin_117 (N : Nat) (post : Wd → va_W → Prop) (x4 : Int32) (s0 : Int32) (w : Wd) (L : va_W) : Prop :=
  B_X3_become N x4 (fun (w1 : Wd) (L2 : va_W) =>
  B_X4_begin_139 N post N x4 0 w1 L2) (xsi w 16 s0) L
set_option maxHeartbeats 4000000 in
theorem k_X4_begin_117 {Γ : gT} {K : gK} {N : Nat} {post : Wd → va_W → Prop} (C : gC Γ K RX4 cX4_begin 7 rm_X4_begin) (ret : gRv Γ K cX4_begin (none) (xPv K post) 0 0) (x4 : Int32) (s0 : Int32) (w : Wd) (L : va_W) (h : B_X4_begin_117 N post x4 s0 w L) : gJ Γ K 0 0 (xL K w ++ L) 117 [(0, .ref (xa K 1)), (4, .int x4)] [.int s0, .ref (xa K 1)] := by
  unfold B_X4_begin_117 at h
  refine xp_c_partner C q210 dX4_begin_117 ?_
  refine g_aload_n C 0 rfl dX4_begin_120 ?_
  refine xg_c_family C q213 dX4_begin_121 ?_
  refine g_aload_n C 0 rfl dX4_begin_124 ?_
  refine xg_c_this_0 C q226 dX4_begin_125 ?_
  refine xgN_tree C nf_X4_92 dX4_begin_128 ?_
  refine g_iload C 1 rfl dX4_begin_131 ?_
  refine g_callVv C (As := [.ref (xa K 2), .int x4]) (rest := []) (m_X3_become h) (lw_V q733 q734 q735 q82 q736) (ci := 2) (qi := 3) rfl rfl ⟨rfl, rfl⟩ ⟨Nat.le_of_ble_eq_true rfl, Nat.le_of_ble_eq_true rfl⟩ 2 rfl (by decide +kernel) rfl (Nat.le_of_ble_eq_true rfl) ⟨Nat.zero_le _, Nat.zero_le _⟩ dX4_begin_133 ?_
  rintro _ ⟨w1, L2, rfl, h⟩
  refine g_iconst C 0 (by decide) dX4_begin_136 ?_
  refine g_istore C (lt := [(6, .int 0), (0, .ref (xa K 1)), (4, .int x4)]) dX4_begin_137 (by decide) rfl ?_
  refine g_sub [1, 2, 0] rfl ?_
  exact k_X4_begin_139 C ret N x4 0 w1 L2 h
def B_X4_begin_82 (N : Nat) (post : Wd → va_W → Prop) (x4 : Int32) (s0 : Int32) (w : Wd) (L : va_W) : Prop :=
  ∀ w1 : Wd, w1 = (xsi (xsi w 14 s0) 15 s0) → (x4 ≤ (xi w 6) →
    B_X4_begin_117 N post x4 (-1) w1 L) ∧
  (¬ x4 ≤ (xi w 6) →
    B_X4_begin_117 N post x4 (xi w1 6) w1 L)
set_option maxHeartbeats 4000000 in
theorem k_X4_begin_82 {Γ : gT} {K : gK} {N : Nat} {post : Wd → va_W → Prop} (C : gC Γ K RX4 cX4_begin 7 rm_X4_begin) (ret : gRv Γ K cX4_begin (none) (xPv K post) 0 0) (x4 : Int32) (s0 : Int32) (w : Wd) (L : va_W) (h : B_X4_begin_82 N post x4 s0 w L) : gJ Γ K 0 0 (xL K w ++ L) 82 [(0, .ref (xa K 1)), (4, .int x4)] [.int s0, .ref (xa K 1)] := by
  unfold B_X4_begin_82 at h
  refine xp_c_first C q207 dX4_begin_82 ?_
  refine g_aload_n C 0 rfl dX4_begin_85 ?_
  refine g_aload_n C 0 rfl dX4_begin_86 ?_
  refine xg_c_first C q207 (s0) rfl dX4_begin_87 ?_
  refine xp_c_reigns C q208 dX4_begin_90 ?_
  refine g_aload_n C 0 rfl dX4_begin_93 ?_
  refine g_aload_n C 0 rfl dX4_begin_94 ?_
  refine xg_c_this_0 C q226 dX4_begin_95 ?_
  refine xgN_mate C nf_X4_86 (xi w 6) rfl dX4_begin_98 ?_
  refine g_iload C 1 rfl dX4_begin_101 ?_
  obtain ⟨w1, ew1⟩ : ∃ z, z = (xsi (xsi w 14 s0) 15 s0) := ⟨_, rfl⟩
  replace h := h w1 ew1
  rw [← ew1]
  refine g_icmp_ge C 116 dX4_begin_103 (by decide) (fun hc => ?_) (fun hc => ?_)
  · replace h := h.1 hc
    refine g_iconst C (-1) (by decide) dX4_begin_116 ?_
    exact k_X4_begin_117 C ret x4 (-1) w1 L h
  · replace h := h.2 hc
    refine g_aload_n C 0 rfl dX4_begin_106 ?_
    refine xg_c_this_0 C q226 dX4_begin_107 ?_
    refine xgN_mate C nf_X4_86 (xi w1 6) rfl dX4_begin_110 ?_
    refine g_goto C 117 dX4_begin_113 (by decide) ?_
    exact k_X4_begin_117 C ret x4 (xi w1 6) w1 L h
def B_X4_begin_0 (N : Nat) (post : Wd → va_W → Prop) (x1 : Option Nat) (x2 : Int64) (x4 : Int32) (x5 : Int32) (w : Wd) (L : va_W) : Prop :=
  vp_in 0 9 ∧ vp_in 1 9 ∧ ∀ w1 : Wd, w1 = (xsi (xsi (xsi (xsi (xsi (xsi (xsl (xsq w x1) 0 x2) 10 x5) 11 x4) 9 0) 17 0) 12 (xA w 7 (0 : Int32).toNatClampNeg)) 13 (xA w 7 (1 : Int32).toNatClampNeg)) → (x4 ≤ (xi w 5) →
    B_X4_begin_82 N post x4 (-1) w1 L) ∧
  (¬ x4 ≤ (xi w 5) →
    B_X4_begin_82 N post x4 (xi w1 5) w1 L)
set_option maxHeartbeats 4000000 in
theorem k_X4_begin_0 {Γ : gT} {K : gK} {N : Nat} {post : Wd → va_W → Prop} (C : gC Γ K RX4 cX4_begin 7 rm_X4_begin) (ret : gRv Γ K cX4_begin (none) (xPv K post) 0 0) (x1 : Option Nat) (x2 : Int64) (x4 : Int32) (x5 : Int32) (w : Wd) (L : va_W) (h : B_X4_begin_0 N post x1 x2 x4 x5 w L) : gJ Γ K 0 0 (xL K w ++ L) 0 [(0, .ref (xa K 1)), (1, va_rf x1), (2, .long x2), (4, .int x4), (5, .int x5)] [] := by
  unfold B_X4_begin_0 at h
  refine g_aload_n C 0 rfl dX4_begin_0 ?_
  refine g_aload_nq C 1 rfl dX4_begin_1 ?_
  refine xp_c_law (v := x1) C q197 dX4_begin_2 ?_
  refine g_aload_n C 0 rfl dX4_begin_5 ?_
  refine g_lload_n C 2 rfl dX4_begin_6 ?_
  refine xp_c_draws C q198 dX4_begin_7 ?_
  refine g_aload_n C 0 rfl dX4_begin_10 ?_
  refine g_iload C 4 rfl dX4_begin_11 ?_
  refine xp_c_change C q200 dX4_begin_13 ?_
  refine g_aload_n C 0 rfl dX4_begin_16 ?_
  refine g_iload C 3 rfl dX4_begin_17 ?_
  refine xp_c_many C q201 dX4_begin_19 ?_
  refine g_aload_n C 0 rfl dX4_begin_22 ?_
  refine g_iconst C 0 (by decide) dX4_begin_23 ?_
  refine xp_c_month C q199 dX4_begin_24 ?_
  refine g_aload_n C 0 rfl dX4_begin_27 ?_
  refine g_iconst C 0 (by decide) dX4_begin_28 ?_
  refine xp_c_wars C q211 dX4_begin_29 ?_
  refine g_aload_n C 0 rfl dX4_begin_32 ?_
  refine g_aload_n C 0 rfl dX4_begin_33 ?_
  refine xg_c_this_0 C q226 dX4_begin_34 ?_
  refine xgN_things C nf_X4_68 dX4_begin_37 ?_
  refine g_iconst C 0 (by decide) dX4_begin_40 ?_
  obtain ⟨hb, h⟩ := h
  refine xld_7 C hb (xA w 7 (0 : Int32).toNatClampNeg) rfl dX4_begin_41 ?_
  refine xp_c_store C q203 dX4_begin_42 ?_
  refine g_aload_n C 0 rfl dX4_begin_45 ?_
  refine g_aload_n C 0 rfl dX4_begin_46 ?_
  refine xg_c_this_0 C q226 dX4_begin_47 ?_
  refine xgN_things C nf_X4_68 dX4_begin_50 ?_
  refine g_iconst C 1 (by decide) dX4_begin_53 ?_
  obtain ⟨hb, h⟩ := h
  refine xld_7 C hb (xA w 7 (1 : Int32).toNatClampNeg) rfl dX4_begin_54 ?_
  refine xp_c_chance C q205 dX4_begin_55 ?_
  refine g_aload_n C 0 rfl dX4_begin_58 ?_
  refine g_aload_n C 0 rfl dX4_begin_59 ?_
  refine xg_c_this_0 C q226 dX4_begin_60 ?_
  refine xgN_queen C nf_X4_77 (xi w 5) rfl dX4_begin_63 ?_
  refine g_iload C 3 rfl dX4_begin_66 ?_
  obtain ⟨w1, ew1⟩ : ∃ z, z = (xsi (xsi (xsi (xsi (xsi (xsi (xsl (xsq w x1) 0 x2) 10 x5) 11 x4) 9 0) 17 0) 12 (xA w 7 (0 : Int32).toNatClampNeg)) 13 (xA w 7 (1 : Int32).toNatClampNeg)) := ⟨_, rfl⟩
  replace h := h w1 ew1
  rw [← ew1]
  refine g_icmp_ge C 81 dX4_begin_68 (by decide) (fun hc => ?_) (fun hc => ?_)
  · replace h := h.1 hc
    refine g_iconst C (-1) (by decide) dX4_begin_81 ?_
    refine g_sub [0, 3] rfl ?_
    exact k_X4_begin_82 C ret x4 (-1) w1 L h
  · replace h := h.2 hc
    refine g_aload_n C 0 rfl dX4_begin_71 ?_
    refine xg_c_this_0 C q226 dX4_begin_72 ?_
    refine xgN_queen C nf_X4_77 (xi w1 5) rfl dX4_begin_75 ?_
    refine g_goto C 82 dX4_begin_78 (by decide) ?_
    refine g_sub [0, 3] rfl ?_
    exact k_X4_begin_82 C ret x4 (xi w1 5) w1 L h
def B_X4_begin (N : Nat) (x1 : Option Nat) (x2 : Int64) (x4 : Int32) (x5 : Int32) (post : Wd → va_W → Prop) (w : Wd) (L : va_W) : Prop := B_X4_begin_0 N post x1 x2 x4 x5 w L
theorem m_X4_begin {l : Launch} {K : gK} {N : Nat} {post : Wd → va_W → Prop} {x1 : Option Nat} {x2 : Int64} {x4 : Int32} {x5 : Int32} {w : Wd} {L : va_W} (h : B_X4_begin N x1 x2 x4 x5 post w L) : gMv l K yX4_begin cX4_begin 7 (none) rm_X4_begin [.ref (xa K 1), va_rf x1, .long x2, .int x4, .int x5] (xL K w ++ L) (xPv K post) 0 0 := by
  refine g_inV (ls0 := [(0, .ref (xa K 1)), (1, va_rf x1), (2, .long x2), (4, .int x4), (5, .int x5)]) (by decide) (by cases x1 <;> exact Nat.le_of_ble_eq_true rfl) (by cases x1 <;> rfl) (fun Γ hl C hn ret => ?_)
  exact k_X4_begin_0 C ret x1 x2 x4 x5 w L h
def rm_X4_draw : Room := { frames := 0, cells := 0, slots := 0, locals := 0 }
def B_X4_draw_0 (N : Nat) (post : Int32 → Wd → va_W → Prop) (w : Wd) (L : va_W) : Prop :=
  post (((((((xl w 0) * 6364136223846793005) + 1442695040888963407).toUInt64 >>> ((33 : Int32).toInt64.toUInt64 &&& Int64.toUInt64 63)).toInt64) - (((((xl w 0) * 6364136223846793005) + 1442695040888963407).toUInt64 >>> ((33 : Int32).toInt64.toUInt64 &&& Int64.toUInt64 63)).toInt64) / 100 * 100).toInt32) (xsl w 0 (((xl w 0) * 6364136223846793005) + 1442695040888963407)) L
set_option maxHeartbeats 4000000 in
theorem k_X4_draw_0 {Γ : gT} {K : gK} {N : Nat} {post : Int32 → Wd → va_W → Prop} (C : gC Γ K RX4 cX4_draw 1 rm_X4_draw) (ret : gRi Γ K cX4_draw (some .int) (xPi K post) 0 0) (w : Wd) (L : va_W) (h : B_X4_draw_0 N post w L) : gJ Γ K 0 0 (xL K w ++ L) 0 [(0, .ref (xa K 1))] [] := by
  unfold B_X4_draw_0 at h
  refine g_aload_n C 0 rfl dX4_draw_0 ?_
  refine g_aload_n C 0 rfl dX4_draw_1 ?_
  refine xg_c_draws C q198 (xl w 0) rfl dX4_draw_2 ?_
  refine g_ldc2 C (v := 6364136223846793005) q858 dX4_draw_5 ?_
  refine g_lmul C dX4_draw_8 ?_
  refine g_ldc2 C (v := 1442695040888963407) q859 dX4_draw_9 ?_
  refine g_ladd C dX4_draw_12 ?_
  refine xp_c_draws C q198 dX4_draw_13 ?_
  refine g_aload_n C 0 rfl dX4_draw_16 ?_
  refine xg_c_draws C q198 ((((xl w 0) * 6364136223846793005) + 1442695040888963407)) rfl dX4_draw_17 ?_
  refine g_bipush C 33 (by decide) dX4_draw_20 ?_
  refine g_lushr C dX4_draw_22 ?_
  refine g_ldc2 C (v := 100) q860 dX4_draw_23 ?_
  refine g_lrem C (by decide) dX4_draw_26 ?_
  refine g_l2i C dX4_draw_27 ?_
  exact ret _ _ _ _ _ rfl rfl dX4_draw_28 ⟨_, _, rfl, h⟩
def B_X4_draw (N : Nat) (post : Int32 → Wd → va_W → Prop) (w : Wd) (L : va_W) : Prop := B_X4_draw_0 N post w L
theorem m_X4_draw {l : Launch} {K : gK} {N : Nat} {post : Int32 → Wd → va_W → Prop} {w : Wd} {L : va_W} (h : B_X4_draw N post w L) : gMi l K yX4_draw cX4_draw 1 (some .int) rm_X4_draw [.ref (xa K 1)] (xL K w ++ L) (xPi K post) 0 0 := by
  refine g_inI (ls0 := [(0, .ref (xa K 1))]) (by decide) (Nat.le_of_ble_eq_true rfl) rfl (fun Γ hl C hn ret => ?_)
  exact k_X4_draw_0 C ret w L h
def rm_X4_ends : Room := { frames := 0, cells := 0, slots := 0, locals := 0 }
def B_X4_ends_0 (N : Nat) (post : Wd → va_W → Prop) (x1 : Int32) (x2 : Int32) (w : Wd) (L : va_W) : Prop :=
  vp_in x1 24 ∧ ∀ w1 : Wd, w1 = (xsA w 23 x1.toNatClampNeg x2) → vp_in x1 24 ∧ ∀ w2 : Wd, w2 = (xsA w1 25 x1.toNatClampNeg (xi w1 9)) → post w2 L
set_option maxHeartbeats 4000000 in
theorem k_X4_ends_0 {Γ : gT} {K : gK} {N : Nat} {post : Wd → va_W → Prop} (C : gC Γ K RX4 cX4_ends 3 rm_X4_ends) (ret : gRv Γ K cX4_ends (none) (xPv K post) 0 0) (x1 : Int32) (x2 : Int32) (w : Wd) (L : va_W) (h : B_X4_ends_0 N post x1 x2 w L) : gJ Γ K 0 0 (xL K w ++ L) 0 [(0, .ref (xa K 1)), (1, .int x1), (2, .int x2)] [] := by
  unfold B_X4_ends_0 at h
  refine g_aload_n C 0 rfl dX4_ends_0 ?_
  refine xg_c_state C q214 dX4_ends_1 ?_
  refine g_iload_n C 1 rfl dX4_ends_4 ?_
  refine g_iload_n C 2 rfl dX4_ends_5 ?_
  obtain ⟨hb, h⟩ := h
  refine xst_23 C hb dX4_ends_6 ?_
  obtain ⟨w1, ew1⟩ : ∃ z, z = (xsA w 23 x1.toNatClampNeg x2) := ⟨_, rfl⟩
  replace h := h w1 ew1
  rw [← ew1]
  refine g_aload_n C 0 rfl dX4_ends_7 ?_
  refine xg_c_when C q218 dX4_ends_8 ?_
  refine g_iload_n C 1 rfl dX4_ends_11 ?_
  refine g_aload_n C 0 rfl dX4_ends_12 ?_
  refine xg_c_month C q199 (xi w1 9) rfl dX4_ends_13 ?_
  obtain ⟨hb, h⟩ := h
  refine xst_25 C hb dX4_ends_16 ?_
  obtain ⟨w2, ew2⟩ : ∃ z, z = (xsA w1 25 x1.toNatClampNeg (xi w1 9)) := ⟨_, rfl⟩
  replace h := h w2 ew2
  rw [← ew2]
  exact ret rfl _ _ _ dX4_ends_17 ⟨_, _, rfl, h⟩
def B_X4_ends (N : Nat) (x1 : Int32) (x2 : Int32) (post : Wd → va_W → Prop) (w : Wd) (L : va_W) : Prop := B_X4_ends_0 N post x1 x2 w L
theorem m_X4_ends {l : Launch} {K : gK} {N : Nat} {post : Wd → va_W → Prop} {x1 : Int32} {x2 : Int32} {w : Wd} {L : va_W} (h : B_X4_ends N x1 x2 post w L) : gMv l K yX4_ends cX4_ends 3 (none) rm_X4_ends [.ref (xa K 1), .int x1, .int x2] (xL K w ++ L) (xPv K post) 0 0 := by
  refine g_inV (ls0 := [(0, .ref (xa K 1)), (1, .int x1), (2, .int x2)]) (by decide) (Nat.le_of_ble_eq_true rfl) rfl (fun Γ hl C hn ret => ?_)
  exact k_X4_ends_0 C ret x1 x2 w L h
def rm_X4_opens : Room := { frames := 2, cells := 0, slots := 0, locals := 41 }
def B_X4_opens_52 (N : Nat) (post : Wd → va_W → Prop) (w : Wd) (L : va_W) : Prop :=
  post w L
set_option maxHeartbeats 4000000 in
theorem k_X4_opens_52 {Γ : gT} {K : gK} {N : Nat} {post : Wd → va_W → Prop} (C : gC Γ K RX4 cX4_opens 1 rm_X4_opens) (ret : gRv Γ K cX4_opens (none) (xPv K post) 0 0) (w : Wd) (L : va_W) (h : B_X4_opens_52 N post w L) : gJ Γ K 0 0 (xL K w ++ L) 52 [] [] := by
  unfold B_X4_opens_52 at h
  exact ret rfl _ _ _ dX4_opens_52 ⟨_, _, rfl, h⟩
def B_X4_opens_0 (N : Nat) (post : Wd → va_W → Prop) (w : Wd) (L : va_W) : Prop :=
  vp_in 8 9 ∧ ((xi w 9) = (xA w 7 (8 : Int32).toNatClampNeg) →
    ((xi w 14) = (-1 : Int32) →
      B_X4_opens_52 N post w L) ∧
    (¬ (xi w 14) = (-1 : Int32) →
      ((xi w 15) = (xi w 14) →
        B_X4_hasQueen N (fun (v3 : Int32) (w1 : Wd) (L2 : va_W) =>
  (v3 = 0 →
          B_X4_opens_52 N post w1 L2) ∧
        (¬ v3 = 0 →
          B_X4_ends N (xi w1 15) 1 (fun (w4 : Wd) (L5 : va_W) =>
  B_X4_opens_52 N post w4 L5) w1 L2)) w L) ∧
      (¬ (xi w 15) = (xi w 14) →
        B_X4_opens_52 N post w L))) ∧
  (¬ (xi w 9) = (xA w 7 (8 : Int32).toNatClampNeg) →
    B_X4_opens_52 N post w L)
set_option maxHeartbeats 4000000 in
theorem k_X4_opens_0 {Γ : gT} {K : gK} {N : Nat} {post : Wd → va_W → Prop} (C : gC Γ K RX4 cX4_opens 1 rm_X4_opens) (ret : gRv Γ K cX4_opens (none) (xPv K post) 0 0) (w : Wd) (L : va_W) (h : B_X4_opens_0 N post w L) : gJ Γ K 0 0 (xL K w ++ L) 0 [(0, .ref (xa K 1))] [] := by
  unfold B_X4_opens_0 at h
  refine g_aload_n C 0 rfl dX4_opens_0 ?_
  refine xg_c_month C q199 (xi w 9) rfl dX4_opens_1 ?_
  refine g_aload_n C 0 rfl dX4_opens_4 ?_
  refine xg_c_this_0 C q226 dX4_opens_5 ?_
  refine xgN_things C nf_X4_68 dX4_opens_8 ?_
  refine g_bipush C 8 (by decide) dX4_opens_11 ?_
  obtain ⟨hb, h⟩ := h
  refine xld_7 C hb (xA w 7 (8 : Int32).toNatClampNeg) rfl dX4_opens_13 ?_
  refine g_icmp_ne C 52 dX4_opens_14 (by decide) (fun hc => ?_) (fun hc => ?_)
  · replace h := h.2 hc
    refine g_sub [] rfl ?_
    exact k_X4_opens_52 C ret w L h
  · replace h := h.1 hc
    refine g_aload_n C 0 rfl dX4_opens_17 ?_
    refine xg_c_first C q207 (xi w 14) rfl dX4_opens_18 ?_
    refine g_iconst C (-1) (by decide) dX4_opens_21 ?_
    refine g_icmp_eq C 52 dX4_opens_22 (by decide) (fun hc => ?_) (fun hc => ?_)
    · replace h := h.1 hc
      refine g_sub [] rfl ?_
      exact k_X4_opens_52 C ret w L h
    · replace h := h.2 hc
      refine g_aload_n C 0 rfl dX4_opens_25 ?_
      refine xg_c_reigns C q208 (xi w 15) rfl dX4_opens_26 ?_
      refine g_aload_n C 0 rfl dX4_opens_29 ?_
      refine xg_c_first C q207 (xi w 14) rfl dX4_opens_30 ?_
      refine g_icmp_ne C 52 dX4_opens_33 (by decide) (fun hc => ?_) (fun hc => ?_)
      · replace h := h.2 hc
        refine g_sub [] rfl ?_
        exact k_X4_opens_52 C ret w L h
      · replace h := h.1 hc
        refine g_aload_n C 0 rfl dX4_opens_36 ?_
        refine g_callVi C (As := []) (rest := []) (m_X4_hasQueen h) (lw_V q750 q751 q752 q83 q753) (ci := 1) (qi := 1) rfl rfl ⟨rfl, rfl⟩ ⟨Nat.le_of_ble_eq_true rfl, Nat.le_of_ble_eq_true rfl⟩ 0 rfl (by decide +kernel) rfl (Nat.le_of_ble_eq_true rfl) ⟨Nat.zero_le _, Nat.zero_le _⟩ dX4_opens_37 ?_
        rintro v3 _ ⟨w1, L2, rfl, h⟩
        refine g_if_eq C 52 dX4_opens_40 (by decide) (fun hc => ?_) (fun hc => ?_)
        · replace h := h.1 hc
          refine g_sub [] rfl ?_
          exact k_X4_opens_52 C ret w1 L2 h
        · replace h := h.2 hc
          refine g_aload_n C 0 rfl dX4_opens_43 ?_
          refine g_aload_n C 0 rfl dX4_opens_44 ?_
          refine xg_c_reigns C q208 (xi w1 15) rfl dX4_opens_45 ?_
          refine g_iconst C 1 (by decide) dX4_opens_48 ?_
          refine g_callVv C (As := [.int (xi w1 15), .int 1]) (rest := []) (m_X4_ends h) (lw_V q758 q760 qs18 q83 q761) (ci := 1) (qi := 1) rfl rfl ⟨rfl, rfl⟩ ⟨Nat.le_of_ble_eq_true rfl, Nat.le_of_ble_eq_true rfl⟩ 2 rfl (by decide +kernel) rfl (Nat.le_of_ble_eq_true rfl) ⟨Nat.zero_le _, Nat.zero_le _⟩ dX4_opens_49 ?_
          rintro _ ⟨w4, L5, rfl, h⟩
          refine g_sub [] rfl ?_
          exact k_X4_opens_52 C ret w4 L5 h
def B_X4_opens (N : Nat) (post : Wd → va_W → Prop) (w : Wd) (L : va_W) : Prop := B_X4_opens_0 N post w L
theorem m_X4_opens {l : Launch} {K : gK} {N : Nat} {post : Wd → va_W → Prop} {w : Wd} {L : va_W} (h : B_X4_opens N post w L) : gMv l K yX4_opens cX4_opens 1 (none) rm_X4_opens [.ref (xa K 1)] (xL K w ++ L) (xPv K post) 0 0 := by
  refine g_inV (ls0 := [(0, .ref (xa K 1))]) (by decide) (Nat.le_of_ble_eq_true rfl) rfl (fun Γ hl C hn ret => ?_)
  exact k_X4_opens_0 C ret w L h
def rm_X4_eat : Room := { frames := 1, cells := 0, slots := 0, locals := 23 }
def B_X4_eat_81 (N : Nat) (post : Wd → va_W → Prop) (w : Wd) (L : va_W) : Prop :=
  post w L
set_option maxHeartbeats 4000000 in
theorem k_X4_eat_81 {Γ : gT} {K : gK} {N : Nat} {post : Wd → va_W → Prop} (C : gC Γ K RX4 cX4_eat 2 rm_X4_eat) (ret : gRv Γ K cX4_eat (none) (xPv K post) 0 0) (w : Wd) (L : va_W) (h : B_X4_eat_81 N post w L) : gJ Γ K 0 0 (xL K w ++ L) 81 [] [] := by
  unfold B_X4_eat_81 at h
  exact ret rfl _ _ _ dX4_eat_81 ⟨_, _, rfl, h⟩
def B_X4_eat_0 (N : Nat) (post : Wd → va_W → Prop) (x1 : Int32) (w : Wd) (L : va_W) : Prop :=
  vp_in x1 24 ∧ ((xi w 12) < (xA w 28 x1.toNatClampNeg) →
    vp_in x1 24 ∧ vp_in x1 24 ∧ ∀ w1 : Wd, w1 = (xsA w 24 x1.toNatClampNeg (if 0 < ((xA w 24 x1.toNatClampNeg) - 3) then ((xA w 24 x1.toNatClampNeg) - 3) else 0)) → vp_in x1 24 ∧ ((xA w1 24 x1.toNatClampNeg) = 0 →
      B_X4_ends N x1 1 (fun (w2 : Wd) (L3 : va_W) =>
  B_X4_eat_81 N post w2 L3) w1 L) ∧
    (¬ (xA w1 24 x1.toNatClampNeg) = 0 →
      B_X4_eat_81 N post w1 L)) ∧
  (¬ (xi w 12) < (xA w 28 x1.toNatClampNeg) →
    vp_in x1 24 ∧ vp_in x1 24 ∧ vp_in x1 24 ∧ ∀ w4 : Wd, w4 = (xsA (xsi w 12 ((xi w 12) - (xA w 28 x1.toNatClampNeg))) 24 x1.toNatClampNeg (if ((xA w 24 x1.toNatClampNeg) + 1) < 99 then ((xA w 24 x1.toNatClampNeg) + 1) else 99)) → post w4 L)
set_option maxHeartbeats 4000000 in
theorem k_X4_eat_0 {Γ : gT} {K : gK} {N : Nat} {post : Wd → va_W → Prop} (C : gC Γ K RX4 cX4_eat 2 rm_X4_eat) (ret : gRv Γ K cX4_eat (none) (xPv K post) 0 0) (x1 : Int32) (w : Wd) (L : va_W) (h : B_X4_eat_0 N post x1 w L) : gJ Γ K 0 0 (xL K w ++ L) 0 [(0, .ref (xa K 1)), (1, .int x1)] [] := by
  unfold B_X4_eat_0 at h
  refine g_aload_n C 0 rfl dX4_eat_0 ?_
  refine xg_c_store C q203 (xi w 12) rfl dX4_eat_1 ?_
  refine g_aload_n C 0 rfl dX4_eat_4 ?_
  refine xg_c_eats C q223 dX4_eat_5 ?_
  refine g_iload_n C 1 rfl dX4_eat_8 ?_
  obtain ⟨hb, h⟩ := h
  refine xld_28 C hb (xA w 28 x1.toNatClampNeg) rfl dX4_eat_9 ?_
  refine g_icmp_lt C 48 dX4_eat_10 (by decide) (fun hc => ?_) (fun hc => ?_)
  · replace h := h.1 hc
    refine g_aload_n C 0 rfl dX4_eat_48 ?_
    refine xg_c_weight C q216 dX4_eat_49 ?_
    refine g_iload_n C 1 rfl dX4_eat_52 ?_
    refine g_iconst C 0 (by decide) dX4_eat_53 ?_
    refine g_aload_n C 0 rfl dX4_eat_54 ?_
    refine xg_c_weight C q216 dX4_eat_55 ?_
    refine g_iload_n C 1 rfl dX4_eat_58 ?_
    obtain ⟨hb, h⟩ := h
    refine xld_24 C hb (xA w 24 x1.toNatClampNeg) rfl dX4_eat_59 ?_
    refine g_iconst C 3 (by decide) dX4_eat_60 ?_
    refine g_isub C dX4_eat_61 ?_
    refine g_mmax C q853 q407 q87 q408 ⟨Nat.le_of_ble_eq_true rfl, (Nat.le_of_ble_eq_true rfl)⟩ ⟨Nat.zero_le _, Nat.zero_le _⟩ dX4_eat_62 ?_
    obtain ⟨hb, h⟩ := h
    refine xst_24 C hb dX4_eat_65 ?_
    obtain ⟨w1, ew1⟩ : ∃ z, z = (xsA w 24 x1.toNatClampNeg (if 0 < ((xA w 24 x1.toNatClampNeg) - 3) then ((xA w 24 x1.toNatClampNeg) - 3) else 0)) := ⟨_, rfl⟩
    replace h := h w1 ew1
    rw [← ew1]
    refine g_aload_n C 0 rfl dX4_eat_66 ?_
    refine xg_c_weight C q216 dX4_eat_67 ?_
    refine g_iload_n C 1 rfl dX4_eat_70 ?_
    obtain ⟨hb, h⟩ := h
    refine xld_24 C hb (xA w1 24 x1.toNatClampNeg) rfl dX4_eat_71 ?_
    refine g_if_ne C 81 dX4_eat_72 (by decide) (fun hc => ?_) (fun hc => ?_)
    · replace h := h.2 hc
      refine g_sub [] rfl ?_
      exact k_X4_eat_81 C ret w1 L h
    · replace h := h.1 hc
      refine g_aload_n C 0 rfl dX4_eat_75 ?_
      refine g_iload_n C 1 rfl dX4_eat_76 ?_
      refine g_iconst C 1 (by decide) dX4_eat_77 ?_
      refine g_callVv C (As := [.int x1, .int 1]) (rest := []) (m_X4_ends h) (lw_V q758 q760 qs18 q83 q761) (ci := 1) (qi := 1) rfl rfl ⟨rfl, rfl⟩ ⟨Nat.le_of_ble_eq_true rfl, Nat.le_of_ble_eq_true rfl⟩ 2 rfl (by decide +kernel) rfl (Nat.le_of_ble_eq_true rfl) ⟨Nat.zero_le _, Nat.zero_le _⟩ dX4_eat_78 ?_
      rintro _ ⟨w2, L3, rfl, h⟩
      refine g_sub [] rfl ?_
      exact k_X4_eat_81 C ret w2 L3 h
  · replace h := h.2 hc
    refine g_aload_n C 0 rfl dX4_eat_13 ?_
    refine g_dup C rfl dX4_eat_14 ?_
    refine xg_c_store C q203 (xi w 12) rfl dX4_eat_15 ?_
    refine g_aload_n C 0 rfl dX4_eat_18 ?_
    refine xg_c_eats C q223 dX4_eat_19 ?_
    refine g_iload_n C 1 rfl dX4_eat_22 ?_
    obtain ⟨hb, h⟩ := h
    refine xld_28 C hb (xA w 28 x1.toNatClampNeg) rfl dX4_eat_23 ?_
    refine g_isub C dX4_eat_24 ?_
    refine xp_c_store C q203 dX4_eat_25 ?_
    refine g_aload_n C 0 rfl dX4_eat_28 ?_
    refine xg_c_weight C q216 dX4_eat_29 ?_
    refine g_iload_n C 1 rfl dX4_eat_32 ?_
    refine g_bipush C 99 (by decide) dX4_eat_33 ?_
    refine g_aload_n C 0 rfl dX4_eat_35 ?_
    refine xg_c_weight C q216 dX4_eat_36 ?_
    refine g_iload_n C 1 rfl dX4_eat_39 ?_
    obtain ⟨hb, h⟩ := h
    refine xld_24 C hb (xA w 24 x1.toNatClampNeg) rfl dX4_eat_40 ?_
    refine g_iconst C 1 (by decide) dX4_eat_41 ?_
    refine g_iadd C dX4_eat_42 ?_
    refine g_mmin C q852 q410 q87 q411 ⟨Nat.le_of_ble_eq_true rfl, (Nat.le_of_ble_eq_true rfl)⟩ ⟨Nat.zero_le _, Nat.zero_le _⟩ dX4_eat_43 ?_
    obtain ⟨hb, h⟩ := h
    refine xst_24 C hb dX4_eat_46 ?_
    obtain ⟨w4, ew4⟩ : ∃ z, z = (xsA (xsi w 12 ((xi w 12) - (xA w 28 x1.toNatClampNeg))) 24 x1.toNatClampNeg (if ((xA w 24 x1.toNatClampNeg) + 1) < 99 then ((xA w 24 x1.toNatClampNeg) + 1) else 99)) := ⟨_, rfl⟩
    replace h := h w4 ew4
    rw [← ew4]
    exact ret rfl _ _ _ dX4_eat_47 ⟨_, _, rfl, h⟩
def B_X4_eat (N : Nat) (x1 : Int32) (post : Wd → va_W → Prop) (w : Wd) (L : va_W) : Prop := B_X4_eat_0 N post x1 w L
theorem m_X4_eat {l : Launch} {K : gK} {N : Nat} {post : Wd → va_W → Prop} {x1 : Int32} {w : Wd} {L : va_W} (h : B_X4_eat N x1 post w L) : gMv l K yX4_eat cX4_eat 2 (none) rm_X4_eat [.ref (xa K 1), .int x1] (xL K w ++ L) (xPv K post) 0 0 := by
  refine g_inV (ls0 := [(0, .ref (xa K 1)), (1, .int x1)]) (by decide) (Nat.le_of_ble_eq_true rfl) rfl (fun Γ hl C hn ret => ?_)
  exact k_X4_eat_0 C ret x1 w L h
def rm_X4_bear : Room := { frames := 1, cells := 0, slots := 0, locals := 24 }
def B_X4_bear_102 (N : Nat) (post : Wd → va_W → Prop) (w : Wd) (L : va_W) : Prop :=
  post w L
set_option maxHeartbeats 4000000 in
theorem k_X4_bear_102 {Γ : gT} {K : gK} {N : Nat} {post : Wd → va_W → Prop} (C : gC Γ K RX4 cX4_bear 2 rm_X4_bear) (ret : gRv Γ K cX4_bear (none) (xPv K post) 0 0) (w : Wd) (L : va_W) (h : B_X4_bear_102 N post w L) : gJ Γ K 0 0 (xL K w ++ L) 102 [] [] := by
  unfold B_X4_bear_102 at h
  exact ret rfl _ _ _ dX4_bear_102 ⟨_, _, rfl, h⟩
def B_X4_bear_2s (r2 : Int32 → Wd → va_W → Prop) (N : Nat) (post : Wd → va_W → Prop) (x1 : Int32) (w : Wd) (L : va_W) : Prop :=
  vp_in 5 9 ∧ ((xA w 7 (5 : Int32).toNatClampNeg) ≤ x1 →
    B_X4_bear_102 N post w L) ∧
  (¬ (xA w 7 (5 : Int32).toNatClampNeg) ≤ x1 →
    ((24 : Int32) ≤ (xi w 11) →
      B_X4_bear_102 N post w L) ∧
    (¬ (24 : Int32) ≤ (xi w 11) →
      B_X3_add_t3 N (xi w 11) (xi w 15) (xi w 16) (fun (w1 : Wd) (L2 : va_W) =>
  vp_in (xi w1 11) 24 ∧ ∀ w3 : Wd, w3 = (xsA w1 23 (xi w1 11).toNatClampNeg 0) → vp_in (xi w3 11) 24 ∧ ∀ w4 : Wd, w4 = (xsA w3 24 (xi w3 11).toNatClampNeg 5) → vp_in (xi w4 11) 24 ∧ ∀ w5 : Wd, w5 = (xsA w4 25 (xi w4 11).toNatClampNeg (-1)) → vp_in (xi w5 11) 24 ∧ ∀ w6 : Wd, w6 = (xsA w5 26 (xi w5 11).toNatClampNeg (xi w5 9)) → r2 (x1 + 1) (xsi w6 11 ((xi w6 11) + 1)) L2) w L))
def B_X4_bear_2 (N : Nat) (post : Wd → va_W → Prop) : Nat → Int32 → Wd → va_W → Prop
  | 0, _, _, _ => False
  | n + 1, x1, w, L => B_X4_bear_2s (B_X4_bear_2 N post n) N post x1 w L
set_option maxHeartbeats 4000000 in
theorem k_X4_bear_2s {Γ : gT} {K : gK} {N : Nat} {post : Wd → va_W → Prop} (C : gC Γ K RX4 cX4_bear 2 rm_X4_bear) (ret : gRv Γ K cX4_bear (none) (xPv K post) 0 0) {r2 : Int32 → Wd → va_W → Prop} (hr2 : ∀ (x1 : Int32) (w : Wd) (L : va_W), r2 x1 w L → gJ Γ K 0 0 (xL K w ++ L) 2 [(0, .ref (xa K 1)), (1, .int x1)] []) (x1 : Int32) (w : Wd) (L : va_W) (h : B_X4_bear_2s r2 N post x1 w L) : gJ Γ K 0 0 (xL K w ++ L) 2 [(0, .ref (xa K 1)), (1, .int x1)] [] := by
  unfold B_X4_bear_2s at h
  refine g_iload_n C 1 rfl dX4_bear_2 ?_
  refine g_aload_n C 0 rfl dX4_bear_3 ?_
  refine xg_c_this_0 C q226 dX4_bear_4 ?_
  refine xgN_things C nf_X4_68 dX4_bear_7 ?_
  refine g_iconst C 5 (by decide) dX4_bear_10 ?_
  obtain ⟨hb, h⟩ := h
  refine xld_7 C hb (xA w 7 (5 : Int32).toNatClampNeg) rfl dX4_bear_11 ?_
  refine g_icmp_ge C 102 dX4_bear_12 (by decide) (fun hc => ?_) (fun hc => ?_)
  · replace h := h.1 hc
    refine g_sub [] rfl ?_
    exact k_X4_bear_102 C ret w L h
  · replace h := h.2 hc
    refine g_aload_n C 0 rfl dX4_bear_15 ?_
    refine xg_c_many C q201 (xi w 11) rfl dX4_bear_16 ?_
    refine g_bipush C 24 (by decide) dX4_bear_19 ?_
    refine g_icmp_ge C 102 dX4_bear_21 (by decide) (fun hc => ?_) (fun hc => ?_)
    · replace h := h.1 hc
      refine g_sub [] rfl ?_
      exact k_X4_bear_102 C ret w L h
    · replace h := h.2 hc
      refine g_aload_n C 0 rfl dX4_bear_24 ?_
      refine xg_c_family C q213 dX4_bear_25 ?_
      refine g_aload_n C 0 rfl dX4_bear_28 ?_
      refine xg_c_many C q201 (xi w 11) rfl dX4_bear_29 ?_
      refine g_aload_n C 0 rfl dX4_bear_32 ?_
      refine xg_c_reigns C q208 (xi w 15) rfl dX4_bear_33 ?_
      refine g_aload_n C 0 rfl dX4_bear_36 ?_
      refine xg_c_partner C q210 (xi w 16) rfl dX4_bear_37 ?_
      refine g_callVv C (As := [.int (xi w 11), .int (xi w 15), .int (xi w 16)]) (rest := []) (m_X3_add_t3 h) (lw_V q869 q661 q662 q82 q663) (ci := 2) (qi := 3) rfl rfl ⟨rfl, rfl⟩ ⟨Nat.le_of_ble_eq_true rfl, Nat.le_of_ble_eq_true rfl⟩ 3 rfl (by decide +kernel) rfl (Nat.le_of_ble_eq_true rfl) ⟨Nat.zero_le _, Nat.zero_le _⟩ dX4_bear_40 ?_
      rintro _ ⟨w1, L2, rfl, h⟩
      refine g_aload_n C 0 rfl dX4_bear_43 ?_
      refine xg_c_state C q214 dX4_bear_44 ?_
      refine g_aload_n C 0 rfl dX4_bear_47 ?_
      refine xg_c_many C q201 (xi w1 11) rfl dX4_bear_48 ?_
      refine g_iconst C 0 (by decide) dX4_bear_51 ?_
      obtain ⟨hb, h⟩ := h
      refine xst_23 C hb dX4_bear_52 ?_
      obtain ⟨w3, ew3⟩ : ∃ z, z = (xsA w1 23 (xi w1 11).toNatClampNeg 0) := ⟨_, rfl⟩
      replace h := h w3 ew3
      rw [← ew3]
      refine g_aload_n C 0 rfl dX4_bear_53 ?_
      refine xg_c_weight C q216 dX4_bear_54 ?_
      refine g_aload_n C 0 rfl dX4_bear_57 ?_
      refine xg_c_many C q201 (xi w3 11) rfl dX4_bear_58 ?_
      refine g_iconst C 5 (by decide) dX4_bear_61 ?_
      obtain ⟨hb, h⟩ := h
      refine xst_24 C hb dX4_bear_62 ?_
      obtain ⟨w4, ew4⟩ : ∃ z, z = (xsA w3 24 (xi w3 11).toNatClampNeg 5) := ⟨_, rfl⟩
      replace h := h w4 ew4
      rw [← ew4]
      refine g_aload_n C 0 rfl dX4_bear_63 ?_
      refine xg_c_when C q218 dX4_bear_64 ?_
      refine g_aload_n C 0 rfl dX4_bear_67 ?_
      refine xg_c_many C q201 (xi w4 11) rfl dX4_bear_68 ?_
      refine g_iconst C (-1) (by decide) dX4_bear_71 ?_
      obtain ⟨hb, h⟩ := h
      refine xst_25 C hb dX4_bear_72 ?_
      obtain ⟨w5, ew5⟩ : ∃ z, z = (xsA w4 25 (xi w4 11).toNatClampNeg (-1)) := ⟨_, rfl⟩
      replace h := h w5 ew5
      rw [← ew5]
      refine g_aload_n C 0 rfl dX4_bear_73 ?_
      refine xg_c_born C q220 dX4_bear_74 ?_
      refine g_aload_n C 0 rfl dX4_bear_77 ?_
      refine xg_c_many C q201 (xi w5 11) rfl dX4_bear_78 ?_
      refine g_aload_n C 0 rfl dX4_bear_81 ?_
      refine xg_c_month C q199 (xi w5 9) rfl dX4_bear_82 ?_
      obtain ⟨hb, h⟩ := h
      refine xst_26 C hb dX4_bear_85 ?_
      obtain ⟨w6, ew6⟩ : ∃ z, z = (xsA w5 26 (xi w5 11).toNatClampNeg (xi w5 9)) := ⟨_, rfl⟩
      replace h := h w6 ew6
      rw [← ew6]
      refine g_aload_n C 0 rfl dX4_bear_86 ?_
      refine g_dup C rfl dX4_bear_87 ?_
      refine xg_c_many C q201 (xi w6 11) rfl dX4_bear_88 ?_
      refine g_iconst C 1 (by decide) dX4_bear_91 ?_
      refine g_iadd C dX4_bear_92 ?_
      refine xp_c_many C q201 dX4_bear_93 ?_
      refine g_iinc C 1 (x1 + 1) (lt := [(1, .int (x1 + 1)), (0, .ref (xa K 1))]) rfl rfl dX4_bear_96 (by decide) rfl ?_
      refine g_goto C 2 dX4_bear_99 (by decide) ?_
      refine g_sub [1, 0] rfl ?_
      exact hr2 (x1 + 1) (xsi w6 11 ((xi w6 11) + 1)) L2 h
theorem k_X4_bear_2 {Γ : gT} {K : gK} {N : Nat} {post : Wd → va_W → Prop} (C : gC Γ K RX4 cX4_bear 2 rm_X4_bear) (ret : gRv Γ K cX4_bear (none) (xPv K post) 0 0) : ∀ (n : Nat) (x1 : Int32) (w : Wd) (L : va_W) (h : B_X4_bear_2 N post n x1 w L), gJ Γ K 0 0 (xL K w ++ L) 2 [(0, .ref (xa K 1)), (1, .int x1)] [] := by
  intro n
  induction n with
  | zero => intro x1 w L h; exact h.elim
  | succ n ih => intro x1 w L h; exact k_X4_bear_2s C ret ih x1 w L h
def B_X4_bear_0 (N : Nat) (post : Wd → va_W → Prop) (w : Wd) (L : va_W) : Prop :=
  B_X4_bear_2 N post N 0 w L
set_option maxHeartbeats 4000000 in
theorem k_X4_bear_0 {Γ : gT} {K : gK} {N : Nat} {post : Wd → va_W → Prop} (C : gC Γ K RX4 cX4_bear 2 rm_X4_bear) (ret : gRv Γ K cX4_bear (none) (xPv K post) 0 0) (w : Wd) (L : va_W) (h : B_X4_bear_0 N post w L) : gJ Γ K 0 0 (xL K w ++ L) 0 [(0, .ref (xa K 1))] [] := by
  unfold B_X4_bear_0 at h
  refine g_iconst C 0 (by decide) dX4_bear_0 ?_
  refine g_istore_n C rfl (lt := [(1, .int 0), (0, .ref (xa K 1))]) dX4_bear_1 (by decide) rfl ?_
  refine g_sub [1, 0] rfl ?_
  exact k_X4_bear_2 C ret N 0 w L h
def B_X4_bear (N : Nat) (post : Wd → va_W → Prop) (w : Wd) (L : va_W) : Prop := B_X4_bear_0 N post w L
theorem m_X4_bear {l : Launch} {K : gK} {N : Nat} {post : Wd → va_W → Prop} {w : Wd} {L : va_W} (h : B_X4_bear N post w L) : gMv l K yX4_bear cX4_bear 2 (none) rm_X4_bear [.ref (xa K 1)] (xL K w ++ L) (xPv K post) 0 0 := by
  refine g_inV (ls0 := [(0, .ref (xa K 1))]) (by decide) (Nat.le_of_ble_eq_true rfl) rfl (fun Γ hl C hn ret => ?_)
  exact k_X4_bear_0 C ret w L h
def rm_X4_isBetter : Room := { frames := 0, cells := 0, slots := 0, locals := 0 }
def B_X4_isBetter_55 (N : Nat) (post : Int32 → Wd → va_W → Prop) (s0 : Int32) (w : Wd) (L : va_W) : Prop :=
  gZ s0 ∧ post s0 w L
set_option maxHeartbeats 4000000 in
theorem k_X4_isBetter_55 {Γ : gT} {K : gK} {N : Nat} {post : Int32 → Wd → va_W → Prop} (C : gC Γ K RX4 cX4_isBetter 3 rm_X4_isBetter) (ret : gRi Γ K cX4_isBetter (some .boolean) (xPi K post) 0 0) (s0 : Int32) (w : Wd) (L : va_W) (h : B_X4_isBetter_55 N post s0 w L) : gJ Γ K 0 0 (xL K w ++ L) 55 [] [.int s0] := by
  unfold B_X4_isBetter_55 at h
  obtain ⟨hz, h⟩ := h
  exact ret _ _ _ _ _ rfl hz.n dX4_isBetter_55 ⟨_, _, rfl, h⟩
def B_X4_isBetter_50 (N : Nat) (post : Int32 → Wd → va_W → Prop) (w : Wd) (L : va_W) : Prop :=
  B_X4_isBetter_55 N post 1 w L
set_option maxHeartbeats 4000000 in
theorem k_X4_isBetter_50 {Γ : gT} {K : gK} {N : Nat} {post : Int32 → Wd → va_W → Prop} (C : gC Γ K RX4 cX4_isBetter 3 rm_X4_isBetter) (ret : gRi Γ K cX4_isBetter (some .boolean) (xPi K post) 0 0) (w : Wd) (L : va_W) (h : B_X4_isBetter_50 N post w L) : gJ Γ K 0 0 (xL K w ++ L) 50 [] [] := by
  unfold B_X4_isBetter_50 at h
  refine g_iconst C 1 (by decide) dX4_isBetter_50 ?_
  refine g_goto C 55 dX4_isBetter_51 (by decide) ?_
  exact k_X4_isBetter_55 C ret 1 w L h
def B_X4_isBetter_54 (N : Nat) (post : Int32 → Wd → va_W → Prop) (w : Wd) (L : va_W) : Prop :=
  B_X4_isBetter_55 N post 0 w L
set_option maxHeartbeats 4000000 in
theorem k_X4_isBetter_54 {Γ : gT} {K : gK} {N : Nat} {post : Int32 → Wd → va_W → Prop} (C : gC Γ K RX4 cX4_isBetter 3 rm_X4_isBetter) (ret : gRi Γ K cX4_isBetter (some .boolean) (xPi K post) 0 0) (w : Wd) (L : va_W) (h : B_X4_isBetter_54 N post w L) : gJ Γ K 0 0 (xL K w ++ L) 54 [] [] := by
  unfold B_X4_isBetter_54 at h
  refine g_iconst C 0 (by decide) dX4_isBetter_54 ?_
  exact k_X4_isBetter_55 C ret 0 w L h
def B_X4_isBetter_0 (N : Nat) (post : Int32 → Wd → va_W → Prop) (x1 : Int32) (x2 : Int32) (w : Wd) (L : va_W) : Prop :=
  (x2 = (-1 : Int32) →
    B_X4_isBetter_50 N post w L) ∧
  (¬ x2 = (-1 : Int32) →
    vp_in x1 24 ∧ vp_in x2 24 ∧ ((xA w 30 x2.toNatClampNeg) < (xA w 30 x1.toNatClampNeg) →
      B_X4_isBetter_50 N post w L) ∧
    (¬ (xA w 30 x2.toNatClampNeg) < (xA w 30 x1.toNatClampNeg) →
      vp_in x1 24 ∧ vp_in x2 24 ∧ ((xA w 30 x1.toNatClampNeg) = (xA w 30 x2.toNatClampNeg) →
        vp_in x1 24 ∧ vp_in x2 24 ∧ ((xA w 24 x1.toNatClampNeg) ≤ (xA w 24 x2.toNatClampNeg) →
          B_X4_isBetter_54 N post w L) ∧
        (¬ (xA w 24 x1.toNatClampNeg) ≤ (xA w 24 x2.toNatClampNeg) →
          B_X4_isBetter_50 N post w L)) ∧
      (¬ (xA w 30 x1.toNatClampNeg) = (xA w 30 x2.toNatClampNeg) →
        B_X4_isBetter_54 N post w L)))
set_option maxHeartbeats 4000000 in
theorem k_X4_isBetter_0 {Γ : gT} {K : gK} {N : Nat} {post : Int32 → Wd → va_W → Prop} (C : gC Γ K RX4 cX4_isBetter 3 rm_X4_isBetter) (ret : gRi Γ K cX4_isBetter (some .boolean) (xPi K post) 0 0) (x1 : Int32) (x2 : Int32) (w : Wd) (L : va_W) (h : B_X4_isBetter_0 N post x1 x2 w L) : gJ Γ K 0 0 (xL K w ++ L) 0 [(0, .ref (xa K 1)), (1, .int x1), (2, .int x2)] [] := by
  unfold B_X4_isBetter_0 at h
  refine g_iload_n C 2 rfl dX4_isBetter_0 ?_
  refine g_iconst C (-1) (by decide) dX4_isBetter_1 ?_
  refine g_icmp_eq C 50 dX4_isBetter_2 (by decide) (fun hc => ?_) (fun hc => ?_)
  · replace h := h.1 hc
    refine g_sub [] rfl ?_
    exact k_X4_isBetter_50 C ret w L h
  · replace h := h.2 hc
    refine g_aload_n C 0 rfl dX4_isBetter_5 ?_
    refine xg_c_fights C q225 dX4_isBetter_6 ?_
    refine g_iload_n C 1 rfl dX4_isBetter_9 ?_
    obtain ⟨hb, h⟩ := h
    refine xld_30 C hb (xA w 30 x1.toNatClampNeg) rfl dX4_isBetter_10 ?_
    refine g_aload_n C 0 rfl dX4_isBetter_11 ?_
    refine xg_c_fights C q225 dX4_isBetter_12 ?_
    refine g_iload_n C 2 rfl dX4_isBetter_15 ?_
    obtain ⟨hb, h⟩ := h
    refine xld_30 C hb (xA w 30 x2.toNatClampNeg) rfl dX4_isBetter_16 ?_
    refine g_icmp_gt C 50 dX4_isBetter_17 (by decide) (fun hc => ?_) (fun hc => ?_)
    · replace h := h.1 hc
      refine g_sub [] rfl ?_
      exact k_X4_isBetter_50 C ret w L h
    · replace h := h.2 hc
      refine g_aload_n C 0 rfl dX4_isBetter_20 ?_
      refine xg_c_fights C q225 dX4_isBetter_21 ?_
      refine g_iload_n C 1 rfl dX4_isBetter_24 ?_
      obtain ⟨hb, h⟩ := h
      refine xld_30 C hb (xA w 30 x1.toNatClampNeg) rfl dX4_isBetter_25 ?_
      refine g_aload_n C 0 rfl dX4_isBetter_26 ?_
      refine xg_c_fights C q225 dX4_isBetter_27 ?_
      refine g_iload_n C 2 rfl dX4_isBetter_30 ?_
      obtain ⟨hb, h⟩ := h
      refine xld_30 C hb (xA w 30 x2.toNatClampNeg) rfl dX4_isBetter_31 ?_
      refine g_icmp_ne C 54 dX4_isBetter_32 (by decide) (fun hc => ?_) (fun hc => ?_)
      · replace h := h.2 hc
        refine g_sub [] rfl ?_
        exact k_X4_isBetter_54 C ret w L h
      · replace h := h.1 hc
        refine g_aload_n C 0 rfl dX4_isBetter_35 ?_
        refine xg_c_weight C q216 dX4_isBetter_36 ?_
        refine g_iload_n C 1 rfl dX4_isBetter_39 ?_
        obtain ⟨hb, h⟩ := h
        refine xld_24 C hb (xA w 24 x1.toNatClampNeg) rfl dX4_isBetter_40 ?_
        refine g_aload_n C 0 rfl dX4_isBetter_41 ?_
        refine xg_c_weight C q216 dX4_isBetter_42 ?_
        refine g_iload_n C 2 rfl dX4_isBetter_45 ?_
        obtain ⟨hb, h⟩ := h
        refine xld_24 C hb (xA w 24 x2.toNatClampNeg) rfl dX4_isBetter_46 ?_
        refine g_icmp_le C 54 dX4_isBetter_47 (by decide) (fun hc => ?_) (fun hc => ?_)
        · replace h := h.1 hc
          refine g_sub [] rfl ?_
          exact k_X4_isBetter_54 C ret w L h
        · replace h := h.2 hc
          refine g_sub [] rfl ?_
          exact k_X4_isBetter_50 C ret w L h
def B_X4_isBetter (N : Nat) (x1 : Int32) (x2 : Int32) (post : Int32 → Wd → va_W → Prop) (w : Wd) (L : va_W) : Prop := B_X4_isBetter_0 N post x1 x2 w L
theorem m_X4_isBetter {l : Launch} {K : gK} {N : Nat} {post : Int32 → Wd → va_W → Prop} {x1 : Int32} {x2 : Int32} {w : Wd} {L : va_W} (h : B_X4_isBetter N x1 x2 post w L) : gMi l K yX4_isBetter cX4_isBetter 3 (some .boolean) rm_X4_isBetter [.ref (xa K 1), .int x1, .int x2] (xL K w ++ L) (xPi K post) 0 0 := by
  refine g_inI (ls0 := [(0, .ref (xa K 1)), (1, .int x1), (2, .int x2)]) (by decide) (Nat.le_of_ble_eq_true rfl) rfl (fun Γ hl C hn ret => ?_)
  exact k_X4_isBetter_0 C ret x1 x2 w L h
def rm_X4_war : Room := { frames := 1, cells := 0, slots := 0, locals := 22 }
def B_X4_war_37 (r4 : Int32 → Int32 → Int32 → Wd → va_W → Prop) (N : Nat) (post : Wd → va_W → Prop) (x1 : Int32) (x2 : Int32) (x3 : Int32) (w : Wd) (L : va_W) : Prop :=
  r4 x1 x2 (x3 + 1) w L
set_option maxHeartbeats 4000000 in
theorem k_X4_war_37 {Γ : gT} {K : gK} {N : Nat} {post : Wd → va_W → Prop} (C : gC Γ K RX4 cX4_war 4 rm_X4_war) (ret : gRv Γ K cX4_war (none) (xPv K post) 0 0) {r4 : Int32 → Int32 → Int32 → Wd → va_W → Prop} (hr4 : ∀ (x1 : Int32) (x2 : Int32) (x3 : Int32) (w : Wd) (L : va_W), r4 x1 x2 x3 w L → gJ Γ K 0 0 (xL K w ++ L) 4 [(0, .ref (xa K 1)), (1, .int x1), (2, .int x2), (3, .int x3)] []) (x1 : Int32) (x2 : Int32) (x3 : Int32) (w : Wd) (L : va_W) (h : B_X4_war_37 r4 N post x1 x2 x3 w L) : gJ Γ K 0 0 (xL K w ++ L) 37 [(0, .ref (xa K 1)), (1, .int x1), (2, .int x2), (3, .int x3)] [] := by
  unfold B_X4_war_37 at h
  refine g_iinc C 3 (x3 + 1) (lt := [(3, .int (x3 + 1)), (0, .ref (xa K 1)), (1, .int x1), (2, .int x2)]) rfl rfl dX4_war_37 (by decide) rfl ?_
  refine g_goto C 4 dX4_war_40 (by decide) ?_
  refine g_sub [1, 2, 3, 0] rfl ?_
  exact hr4 x1 x2 (x3 + 1) w L h
def B_X4_war_101 (r51 : Int32 → Int32 → Int32 → Wd → va_W → Prop) (N : Nat) (post : Wd → va_W → Prop) (x1 : Int32) (x2 : Int32) (x3 : Int32) (w : Wd) (L : va_W) : Prop :=
  r51 x1 x2 (x3 + 1) w L
set_option maxHeartbeats 4000000 in
theorem k_X4_war_101 {Γ : gT} {K : gK} {N : Nat} {post : Wd → va_W → Prop} (C : gC Γ K RX4 cX4_war 4 rm_X4_war) (ret : gRv Γ K cX4_war (none) (xPv K post) 0 0) {r51 : Int32 → Int32 → Int32 → Wd → va_W → Prop} (hr51 : ∀ (x1 : Int32) (x2 : Int32) (x3 : Int32) (w : Wd) (L : va_W), r51 x1 x2 x3 w L → gJ Γ K 0 0 (xL K w ++ L) 51 [(0, .ref (xa K 1)), (1, .int x1), (2, .int x2), (3, .int x3)] []) (x1 : Int32) (x2 : Int32) (x3 : Int32) (w : Wd) (L : va_W) (h : B_X4_war_101 r51 N post x1 x2 x3 w L) : gJ Γ K 0 0 (xL K w ++ L) 101 [(0, .ref (xa K 1)), (1, .int x1), (2, .int x2), (3, .int x3)] [] := by
  unfold B_X4_war_101 at h
  refine g_iinc C 3 (x3 + 1) (lt := [(3, .int (x3 + 1)), (0, .ref (xa K 1)), (1, .int x1), (2, .int x2)]) rfl rfl dX4_war_101 (by decide) rfl ?_
  refine g_goto C 51 dX4_war_104 (by decide) ?_
  refine g_sub [1, 2, 3, 0] rfl ?_
  exact hr51 x1 x2 (x3 + 1) w L h
def B_X4_war_51s (r51 : Int32 → Int32 → Int32 → Wd → va_W → Prop) (N : Nat) (post : Wd → va_W → Prop) (x1 : Int32) (x2 : Int32) (x3 : Int32) (w : Wd) (L : va_W) : Prop :=
  (x1 ≤ x3 →
    post (xsi (xsi w 15 x2) 17 ((xi w 17) + 1)) L) ∧
  (¬ x1 ≤ x3 →
    (x3 = x2 →
      B_X4_war_101 r51 N post x1 x2 x3 w L) ∧
    (¬ x3 = x2 →
      B_X4_isThere N x3 (fun (v3 : Int32) (w1 : Wd) (L2 : va_W) =>
  (v3 = 0 →
        B_X4_war_101 r51 N post x1 x2 x3 w1 L2) ∧
      (¬ v3 = 0 →
        vp_in x3 24 ∧ ((xA w1 30 x3.toNatClampNeg) ≤ 0 →
          B_X4_war_101 r51 N post x1 x2 x3 w1 L2) ∧
        (¬ (xA w1 30 x3.toNatClampNeg) ≤ 0 →
          B_X4_draw N (fun (v6 : Int32) (w4 : Wd) (L5 : va_W) =>
  vp_in 7 9 ∧ ((xA w4 7 (7 : Int32).toNatClampNeg) ≤ v6 →
            B_X4_war_101 r51 N post x1 x2 x3 w4 L5) ∧
          (¬ (xA w4 7 (7 : Int32).toNatClampNeg) ≤ v6 →
            B_X4_ends N x3 1 (fun (w7 : Wd) (L8 : va_W) =>
  B_X4_war_101 r51 N post x1 x2 x3 w7 L8) w4 L5)) w1 L2))) w L))
def B_X4_war_51 (N : Nat) (post : Wd → va_W → Prop) : Nat → Int32 → Int32 → Int32 → Wd → va_W → Prop
  | 0, _, _, _, _, _ => False
  | n + 1, x1, x2, x3, w, L => B_X4_war_51s (B_X4_war_51 N post n) N post x1 x2 x3 w L
set_option maxHeartbeats 4000000 in
theorem k_X4_war_51s {Γ : gT} {K : gK} {N : Nat} {post : Wd → va_W → Prop} (C : gC Γ K RX4 cX4_war 4 rm_X4_war) (ret : gRv Γ K cX4_war (none) (xPv K post) 0 0) {r51 : Int32 → Int32 → Int32 → Wd → va_W → Prop} (hr51 : ∀ (x1 : Int32) (x2 : Int32) (x3 : Int32) (w : Wd) (L : va_W), r51 x1 x2 x3 w L → gJ Γ K 0 0 (xL K w ++ L) 51 [(0, .ref (xa K 1)), (1, .int x1), (2, .int x2), (3, .int x3)] []) (x1 : Int32) (x2 : Int32) (x3 : Int32) (w : Wd) (L : va_W) (h : B_X4_war_51s r51 N post x1 x2 x3 w L) : gJ Γ K 0 0 (xL K w ++ L) 51 [(0, .ref (xa K 1)), (1, .int x1), (2, .int x2), (3, .int x3)] [] := by
  unfold B_X4_war_51s at h
  refine g_iload_n C 3 rfl dX4_war_51 ?_
  refine g_iload_n C 1 rfl dX4_war_52 ?_
  refine g_icmp_ge C 107 dX4_war_53 (by decide) (fun hc => ?_) (fun hc => ?_)
  · replace h := h.1 hc
    refine g_aload_n C 0 rfl dX4_war_107 ?_
    refine g_iload_n C 2 rfl dX4_war_108 ?_
    refine xp_c_reigns C q208 dX4_war_109 ?_
    refine g_aload_n C 0 rfl dX4_war_112 ?_
    refine g_dup C rfl dX4_war_113 ?_
    refine xg_c_wars C q211 (xi w 17) rfl dX4_war_114 ?_
    refine g_iconst C 1 (by decide) dX4_war_117 ?_
    refine g_iadd C dX4_war_118 ?_
    refine xp_c_wars C q211 dX4_war_119 ?_
    exact ret rfl _ _ _ dX4_war_122 ⟨_, _, rfl, h⟩
  · replace h := h.2 hc
    refine g_iload_n C 3 rfl dX4_war_56 ?_
    refine g_iload_n C 2 rfl dX4_war_57 ?_
    refine g_icmp_eq C 101 dX4_war_58 (by decide) (fun hc => ?_) (fun hc => ?_)
    · replace h := h.1 hc
      exact k_X4_war_101 C ret hr51 x1 x2 x3 w L h
    · replace h := h.2 hc
      refine g_aload_n C 0 rfl dX4_war_61 ?_
      refine g_iload_n C 3 rfl dX4_war_62 ?_
      refine g_callVi C (As := [.int x3]) (rest := []) (m_X4_isThere h) (lw_V q754 q755 q756 q83 q757) (ci := 1) (qi := 1) rfl rfl ⟨rfl, rfl⟩ ⟨Nat.le_of_ble_eq_true rfl, Nat.le_of_ble_eq_true rfl⟩ 1 rfl (by decide +kernel) rfl (Nat.le_of_ble_eq_true rfl) ⟨Nat.zero_le _, Nat.zero_le _⟩ dX4_war_63 ?_
      rintro v3 _ ⟨w1, L2, rfl, h⟩
      refine g_if_eq C 101 dX4_war_66 (by decide) (fun hc => ?_) (fun hc => ?_)
      · replace h := h.1 hc
        exact k_X4_war_101 C ret hr51 x1 x2 x3 w1 L2 h
      · replace h := h.2 hc
        refine g_aload_n C 0 rfl dX4_war_69 ?_
        refine xg_c_fights C q225 dX4_war_70 ?_
        refine g_iload_n C 3 rfl dX4_war_73 ?_
        obtain ⟨hb, h⟩ := h
        refine xld_30 C hb (xA w1 30 x3.toNatClampNeg) rfl dX4_war_74 ?_
        refine g_if_le C 101 dX4_war_75 (by decide) (fun hc => ?_) (fun hc => ?_)
        · replace h := h.1 hc
          exact k_X4_war_101 C ret hr51 x1 x2 x3 w1 L2 h
        · replace h := h.2 hc
          refine g_aload_n C 0 rfl dX4_war_78 ?_
          refine g_callVi C (As := []) (rest := []) (m_X4_draw h) (lw_V q854 q856 qs23 q83 q857) (ci := 1) (qi := 1) rfl rfl ⟨rfl, rfl⟩ ⟨Nat.le_of_ble_eq_true rfl, Nat.le_of_ble_eq_true rfl⟩ 0 rfl (by decide +kernel) rfl (Nat.le_of_ble_eq_true rfl) ⟨Nat.zero_le _, Nat.zero_le _⟩ dX4_war_79 ?_
          rintro v6 _ ⟨w4, L5, rfl, h⟩
          refine g_aload_n C 0 rfl dX4_war_82 ?_
          refine xg_c_this_0 C q226 dX4_war_83 ?_
          refine xgN_things C nf_X4_68 dX4_war_86 ?_
          refine g_bipush C 7 (by decide) dX4_war_89 ?_
          obtain ⟨hb, h⟩ := h
          refine xld_7 C hb (xA w4 7 (7 : Int32).toNatClampNeg) rfl dX4_war_91 ?_
          refine g_icmp_ge C 101 dX4_war_92 (by decide) (fun hc => ?_) (fun hc => ?_)
          · replace h := h.1 hc
            exact k_X4_war_101 C ret hr51 x1 x2 x3 w4 L5 h
          · replace h := h.2 hc
            refine g_aload_n C 0 rfl dX4_war_95 ?_
            refine g_iload_n C 3 rfl dX4_war_96 ?_
            refine g_iconst C 1 (by decide) dX4_war_97 ?_
            refine g_callVv C (As := [.int x3, .int 1]) (rest := []) (m_X4_ends h) (lw_V q758 q760 qs18 q83 q761) (ci := 1) (qi := 1) rfl rfl ⟨rfl, rfl⟩ ⟨Nat.le_of_ble_eq_true rfl, Nat.le_of_ble_eq_true rfl⟩ 2 rfl (by decide +kernel) rfl (Nat.le_of_ble_eq_true rfl) ⟨Nat.zero_le _, Nat.zero_le _⟩ dX4_war_98 ?_
            rintro _ ⟨w7, L8, rfl, h⟩
            exact k_X4_war_101 C ret hr51 x1 x2 x3 w7 L8 h
theorem k_X4_war_51 {Γ : gT} {K : gK} {N : Nat} {post : Wd → va_W → Prop} (C : gC Γ K RX4 cX4_war 4 rm_X4_war) (ret : gRv Γ K cX4_war (none) (xPv K post) 0 0) : ∀ (n : Nat) (x1 : Int32) (x2 : Int32) (x3 : Int32) (w : Wd) (L : va_W) (h : B_X4_war_51 N post n x1 x2 x3 w L), gJ Γ K 0 0 (xL K w ++ L) 51 [(0, .ref (xa K 1)), (1, .int x1), (2, .int x2), (3, .int x3)] [] := by
  intro n
  induction n with
  | zero => intro x1 x2 x3 w L h; exact h.elim
  | succ n ih => intro x1 x2 x3 w L h; exact k_X4_war_51s C ret ih x1 x2 x3 w L h
def B_X4_war_4s (r4 : Int32 → Int32 → Int32 → Wd → va_W → Prop) (N : Nat) (post : Wd → va_W → Prop) (x1 : Int32) (x2 : Int32) (x3 : Int32) (w : Wd) (L : va_W) : Prop :=
  (x1 ≤ x3 →
    (x2 = (-1 : Int32) →
      post w L) ∧
    (¬ x2 = (-1 : Int32) →
      B_X4_war_51 N post N x1 x2 0 w L)) ∧
  (¬ x1 ≤ x3 →
    B_X4_isThere N x3 (fun (v3 : Int32) (w1 : Wd) (L2 : va_W) =>
  (v3 = 0 →
      B_X4_war_37 r4 N post x1 x2 x3 w1 L2) ∧
    (¬ v3 = 0 →
      vp_in x3 24 ∧ ((xA w1 30 x3.toNatClampNeg) ≤ 0 →
        B_X4_war_37 r4 N post x1 x2 x3 w1 L2) ∧
      (¬ (xA w1 30 x3.toNatClampNeg) ≤ 0 →
        B_X4_isBetter N x3 x2 (fun (v6 : Int32) (w4 : Wd) (L5 : va_W) =>
  (v6 = 0 →
          B_X4_war_37 r4 N post x1 x2 x3 w4 L5) ∧
        (¬ v6 = 0 →
          B_X4_war_37 r4 N post x1 x3 x3 w4 L5)) w1 L2))) w L)
def B_X4_war_4 (N : Nat) (post : Wd → va_W → Prop) : Nat → Int32 → Int32 → Int32 → Wd → va_W → Prop
  | 0, _, _, _, _, _ => False
  | n + 1, x1, x2, x3, w, L => B_X4_war_4s (B_X4_war_4 N post n) N post x1 x2 x3 w L
set_option maxHeartbeats 4000000 in
theorem k_X4_war_4s {Γ : gT} {K : gK} {N : Nat} {post : Wd → va_W → Prop} (C : gC Γ K RX4 cX4_war 4 rm_X4_war) (ret : gRv Γ K cX4_war (none) (xPv K post) 0 0) {r4 : Int32 → Int32 → Int32 → Wd → va_W → Prop} (hr4 : ∀ (x1 : Int32) (x2 : Int32) (x3 : Int32) (w : Wd) (L : va_W), r4 x1 x2 x3 w L → gJ Γ K 0 0 (xL K w ++ L) 4 [(0, .ref (xa K 1)), (1, .int x1), (2, .int x2), (3, .int x3)] []) (x1 : Int32) (x2 : Int32) (x3 : Int32) (w : Wd) (L : va_W) (h : B_X4_war_4s r4 N post x1 x2 x3 w L) : gJ Γ K 0 0 (xL K w ++ L) 4 [(0, .ref (xa K 1)), (1, .int x1), (2, .int x2), (3, .int x3)] [] := by
  unfold B_X4_war_4s at h
  refine g_iload_n C 3 rfl dX4_war_4 ?_
  refine g_iload_n C 1 rfl dX4_war_5 ?_
  refine g_icmp_ge C 43 dX4_war_6 (by decide) (fun hc => ?_) (fun hc => ?_)
  · replace h := h.1 hc
    refine g_iload_n C 2 rfl dX4_war_43 ?_
    refine g_iconst C (-1) (by decide) dX4_war_44 ?_
    refine g_icmp_ne C 49 dX4_war_45 (by decide) (fun hc => ?_) (fun hc => ?_)
    · replace h := h.2 hc
      refine g_iconst C 0 (by decide) dX4_war_49 ?_
      refine g_istore_n C rfl (lt := [(3, .int 0), (0, .ref (xa K 1)), (1, .int x1), (2, .int x2)]) dX4_war_50 (by decide) rfl ?_
      refine g_sub [1, 2, 3, 0] rfl ?_
      exact k_X4_war_51 C ret N x1 x2 0 w L h
    · replace h := h.1 hc
      exact ret rfl _ _ _ dX4_war_48 ⟨_, _, rfl, h⟩
  · replace h := h.2 hc
    refine g_aload_n C 0 rfl dX4_war_9 ?_
    refine g_iload_n C 3 rfl dX4_war_10 ?_
    refine g_callVi C (As := [.int x3]) (rest := []) (m_X4_isThere h) (lw_V q754 q755 q756 q83 q757) (ci := 1) (qi := 1) rfl rfl ⟨rfl, rfl⟩ ⟨Nat.le_of_ble_eq_true rfl, Nat.le_of_ble_eq_true rfl⟩ 1 rfl (by decide +kernel) rfl (Nat.le_of_ble_eq_true rfl) ⟨Nat.zero_le _, Nat.zero_le _⟩ dX4_war_11 ?_
    rintro v3 _ ⟨w1, L2, rfl, h⟩
    refine g_if_eq C 37 dX4_war_14 (by decide) (fun hc => ?_) (fun hc => ?_)
    · replace h := h.1 hc
      exact k_X4_war_37 C ret hr4 x1 x2 x3 w1 L2 h
    · replace h := h.2 hc
      refine g_aload_n C 0 rfl dX4_war_17 ?_
      refine xg_c_fights C q225 dX4_war_18 ?_
      refine g_iload_n C 3 rfl dX4_war_21 ?_
      obtain ⟨hb, h⟩ := h
      refine xld_30 C hb (xA w1 30 x3.toNatClampNeg) rfl dX4_war_22 ?_
      refine g_if_le C 37 dX4_war_23 (by decide) (fun hc => ?_) (fun hc => ?_)
      · replace h := h.1 hc
        exact k_X4_war_37 C ret hr4 x1 x2 x3 w1 L2 h
      · replace h := h.2 hc
        refine g_aload_n C 0 rfl dX4_war_26 ?_
        refine g_iload_n C 3 rfl dX4_war_27 ?_
        refine g_iload_n C 2 rfl dX4_war_28 ?_
        refine g_callVi C (As := [.int x3, .int x2]) (rest := []) (m_X4_isBetter h) (lw_V q874 q876 qs27 q83 q877) (ci := 1) (qi := 1) rfl rfl ⟨rfl, rfl⟩ ⟨Nat.le_of_ble_eq_true rfl, Nat.le_of_ble_eq_true rfl⟩ 2 rfl (by decide +kernel) rfl (Nat.le_of_ble_eq_true rfl) ⟨Nat.zero_le _, Nat.zero_le _⟩ dX4_war_29 ?_
        rintro v6 _ ⟨w4, L5, rfl, h⟩
        refine g_if_eq C 37 dX4_war_32 (by decide) (fun hc => ?_) (fun hc => ?_)
        · replace h := h.1 hc
          exact k_X4_war_37 C ret hr4 x1 x2 x3 w4 L5 h
        · replace h := h.2 hc
          refine g_iload_n C 3 rfl dX4_war_35 ?_
          refine g_istore_n C rfl (lt := [(2, .int x3), (0, .ref (xa K 1)), (1, .int x1), (3, .int x3)]) dX4_war_36 (by decide) rfl ?_
          refine g_sub [1, 2, 0, 3] rfl ?_
          exact k_X4_war_37 C ret hr4 x1 x3 x3 w4 L5 h
theorem k_X4_war_4 {Γ : gT} {K : gK} {N : Nat} {post : Wd → va_W → Prop} (C : gC Γ K RX4 cX4_war 4 rm_X4_war) (ret : gRv Γ K cX4_war (none) (xPv K post) 0 0) : ∀ (n : Nat) (x1 : Int32) (x2 : Int32) (x3 : Int32) (w : Wd) (L : va_W) (h : B_X4_war_4 N post n x1 x2 x3 w L), gJ Γ K 0 0 (xL K w ++ L) 4 [(0, .ref (xa K 1)), (1, .int x1), (2, .int x2), (3, .int x3)] [] := by
  intro n
  induction n with
  | zero => intro x1 x2 x3 w L h; exact h.elim
  | succ n ih => intro x1 x2 x3 w L h; exact k_X4_war_4s C ret ih x1 x2 x3 w L h
def B_X4_war_0 (N : Nat) (post : Wd → va_W → Prop) (x1 : Int32) (w : Wd) (L : va_W) : Prop :=
  B_X4_war_4 N post N x1 (-1) 0 w L
set_option maxHeartbeats 4000000 in
theorem k_X4_war_0 {Γ : gT} {K : gK} {N : Nat} {post : Wd → va_W → Prop} (C : gC Γ K RX4 cX4_war 4 rm_X4_war) (ret : gRv Γ K cX4_war (none) (xPv K post) 0 0) (x1 : Int32) (w : Wd) (L : va_W) (h : B_X4_war_0 N post x1 w L) : gJ Γ K 0 0 (xL K w ++ L) 0 [(0, .ref (xa K 1)), (1, .int x1)] [] := by
  unfold B_X4_war_0 at h
  refine g_iconst C (-1) (by decide) dX4_war_0 ?_
  refine g_istore_n C rfl (lt := [(2, .int (-1)), (0, .ref (xa K 1)), (1, .int x1)]) dX4_war_1 (by decide) rfl ?_
  refine g_iconst C 0 (by decide) dX4_war_2 ?_
  refine g_istore_n C rfl (lt := [(3, .int 0), (2, .int (-1)), (0, .ref (xa K 1)), (1, .int x1)]) dX4_war_3 (by decide) rfl ?_
  refine g_sub [2, 3, 1, 0] rfl ?_
  exact k_X4_war_4 C ret N x1 (-1) 0 w L h
def B_X4_war (N : Nat) (x1 : Int32) (post : Wd → va_W → Prop) (w : Wd) (L : va_W) : Prop := B_X4_war_0 N post x1 w L
theorem m_X4_war {l : Launch} {K : gK} {N : Nat} {post : Wd → va_W → Prop} {x1 : Int32} {w : Wd} {L : va_W} (h : B_X4_war N x1 post w L) : gMv l K yX4_war cX4_war 4 (none) rm_X4_war [.ref (xa K 1), .int x1] (xL K w ++ L) (xPv K post) 0 0 := by
  refine g_inV (ls0 := [(0, .ref (xa K 1)), (1, .int x1)]) (by decide) (Nat.le_of_ble_eq_true rfl) rfl (fun Γ hl C hn ret => ?_)
  exact k_X4_war_0 C ret x1 w L h
def rm_X4_ended : Room := { frames := 0, cells := 0, slots := 0, locals := 0 }
def B_X4_ended_28 (r4 : Int32 → Int32 → Int32 → Wd → va_W → Prop) (N : Nat) (post : Int32 → Wd → va_W → Prop) (x1 : Int32) (x3 : Int32) (s0 : Int32) (s1 : Int32) (w : Wd) (L : va_W) : Prop :=
  r4 x1 (s1 + s0) (x3 + 1) w L
set_option maxHeartbeats 4000000 in
theorem k_X4_ended_28 {Γ : gT} {K : gK} {N : Nat} {post : Int32 → Wd → va_W → Prop} (C : gC Γ K RX4 cX4_ended 4 rm_X4_ended) (ret : gRi Γ K cX4_ended (some .int) (xPi K post) 0 0) {r4 : Int32 → Int32 → Int32 → Wd → va_W → Prop} (hr4 : ∀ (x1 : Int32) (x2 : Int32) (x3 : Int32) (w : Wd) (L : va_W), r4 x1 x2 x3 w L → gJ Γ K 0 0 (xL K w ++ L) 4 [(0, .ref (xa K 1)), (1, .int x1), (2, .int x2), (3, .int x3)] []) (x1 : Int32) (x3 : Int32) (s0 : Int32) (s1 : Int32) (w : Wd) (L : va_W) (h : B_X4_ended_28 r4 N post x1 x3 s0 s1 w L) : gJ Γ K 0 0 (xL K w ++ L) 28 [(0, .ref (xa K 1)), (1, .int x1), (3, .int x3)] [.int s0, .int s1] := by
  unfold B_X4_ended_28 at h
  refine g_iadd C dX4_ended_28 ?_
  refine g_istore_n C rfl (lt := [(2, .int (s1 + s0)), (0, .ref (xa K 1)), (1, .int x1), (3, .int x3)]) dX4_ended_29 (by decide) rfl ?_
  refine g_iinc C 3 (x3 + 1) (lt := [(3, .int (x3 + 1)), (2, .int (s1 + s0)), (0, .ref (xa K 1)), (1, .int x1)]) rfl rfl dX4_ended_30 (by decide) rfl ?_
  refine g_goto C 4 dX4_ended_33 (by decide) ?_
  refine g_sub [2, 3, 1, 0] rfl ?_
  exact hr4 x1 (s1 + s0) (x3 + 1) w L h
def B_X4_ended_4s (r4 : Int32 → Int32 → Int32 → Wd → va_W → Prop) (N : Nat) (post : Int32 → Wd → va_W → Prop) (x1 : Int32) (x2 : Int32) (x3 : Int32) (w : Wd) (L : va_W) : Prop :=
  ((xi w 11) ≤ x3 →
    post x2 w L) ∧
  (¬ (xi w 11) ≤ x3 →
    vp_in x3 24 ∧ ((xA w 23 x3.toNatClampNeg) = x1 →
      B_X4_ended_28 r4 N post x1 x3 1 x2 w L) ∧
    (¬ (xA w 23 x3.toNatClampNeg) = x1 →
      B_X4_ended_28 r4 N post x1 x3 0 x2 w L))
def B_X4_ended_4 (N : Nat) (post : Int32 → Wd → va_W → Prop) : Nat → Int32 → Int32 → Int32 → Wd → va_W → Prop
  | 0, _, _, _, _, _ => False
  | n + 1, x1, x2, x3, w, L => B_X4_ended_4s (B_X4_ended_4 N post n) N post x1 x2 x3 w L
set_option maxHeartbeats 4000000 in
theorem k_X4_ended_4s {Γ : gT} {K : gK} {N : Nat} {post : Int32 → Wd → va_W → Prop} (C : gC Γ K RX4 cX4_ended 4 rm_X4_ended) (ret : gRi Γ K cX4_ended (some .int) (xPi K post) 0 0) {r4 : Int32 → Int32 → Int32 → Wd → va_W → Prop} (hr4 : ∀ (x1 : Int32) (x2 : Int32) (x3 : Int32) (w : Wd) (L : va_W), r4 x1 x2 x3 w L → gJ Γ K 0 0 (xL K w ++ L) 4 [(0, .ref (xa K 1)), (1, .int x1), (2, .int x2), (3, .int x3)] []) (x1 : Int32) (x2 : Int32) (x3 : Int32) (w : Wd) (L : va_W) (h : B_X4_ended_4s r4 N post x1 x2 x3 w L) : gJ Γ K 0 0 (xL K w ++ L) 4 [(0, .ref (xa K 1)), (1, .int x1), (2, .int x2), (3, .int x3)] [] := by
  unfold B_X4_ended_4s at h
  refine g_iload_n C 3 rfl dX4_ended_4 ?_
  refine g_aload_n C 0 rfl dX4_ended_5 ?_
  refine xg_c_many C q201 (xi w 11) rfl dX4_ended_6 ?_
  refine g_icmp_ge C 36 dX4_ended_9 (by decide) (fun hc => ?_) (fun hc => ?_)
  · replace h := h.1 hc
    refine g_iload_n C 2 rfl dX4_ended_36 ?_
    exact ret _ _ _ _ _ rfl rfl dX4_ended_37 ⟨_, _, rfl, h⟩
  · replace h := h.2 hc
    refine g_iload_n C 2 rfl dX4_ended_12 ?_
    refine g_aload_n C 0 rfl dX4_ended_13 ?_
    refine xg_c_state C q214 dX4_ended_14 ?_
    refine g_iload_n C 3 rfl dX4_ended_17 ?_
    obtain ⟨hb, h⟩ := h
    refine xld_23 C hb (xA w 23 x3.toNatClampNeg) rfl dX4_ended_18 ?_
    refine g_iload_n C 1 rfl dX4_ended_19 ?_
    refine g_icmp_ne C 27 dX4_ended_20 (by decide) (fun hc => ?_) (fun hc => ?_)
    · replace h := h.2 hc
      refine g_iconst C 0 (by decide) dX4_ended_27 ?_
      refine g_sub [0, 1, 3] rfl ?_
      exact k_X4_ended_28 C ret hr4 x1 x3 0 x2 w L h
    · replace h := h.1 hc
      refine g_iconst C 1 (by decide) dX4_ended_23 ?_
      refine g_goto C 28 dX4_ended_24 (by decide) ?_
      refine g_sub [0, 1, 3] rfl ?_
      exact k_X4_ended_28 C ret hr4 x1 x3 1 x2 w L h
theorem k_X4_ended_4 {Γ : gT} {K : gK} {N : Nat} {post : Int32 → Wd → va_W → Prop} (C : gC Γ K RX4 cX4_ended 4 rm_X4_ended) (ret : gRi Γ K cX4_ended (some .int) (xPi K post) 0 0) : ∀ (n : Nat) (x1 : Int32) (x2 : Int32) (x3 : Int32) (w : Wd) (L : va_W) (h : B_X4_ended_4 N post n x1 x2 x3 w L), gJ Γ K 0 0 (xL K w ++ L) 4 [(0, .ref (xa K 1)), (1, .int x1), (2, .int x2), (3, .int x3)] [] := by
  intro n
  induction n with
  | zero => intro x1 x2 x3 w L h; exact h.elim
  | succ n ih => intro x1 x2 x3 w L h; exact k_X4_ended_4s C ret ih x1 x2 x3 w L h
def B_X4_ended_0 (N : Nat) (post : Int32 → Wd → va_W → Prop) (x1 : Int32) (w : Wd) (L : va_W) : Prop :=
  B_X4_ended_4 N post N x1 0 0 w L
set_option maxHeartbeats 4000000 in
theorem k_X4_ended_0 {Γ : gT} {K : gK} {N : Nat} {post : Int32 → Wd → va_W → Prop} (C : gC Γ K RX4 cX4_ended 4 rm_X4_ended) (ret : gRi Γ K cX4_ended (some .int) (xPi K post) 0 0) (x1 : Int32) (w : Wd) (L : va_W) (h : B_X4_ended_0 N post x1 w L) : gJ Γ K 0 0 (xL K w ++ L) 0 [(0, .ref (xa K 1)), (1, .int x1)] [] := by
  unfold B_X4_ended_0 at h
  refine g_iconst C 0 (by decide) dX4_ended_0 ?_
  refine g_istore_n C rfl (lt := [(2, .int 0), (0, .ref (xa K 1)), (1, .int x1)]) dX4_ended_1 (by decide) rfl ?_
  refine g_iconst C 0 (by decide) dX4_ended_2 ?_
  refine g_istore_n C rfl (lt := [(3, .int 0), (2, .int 0), (0, .ref (xa K 1)), (1, .int x1)]) dX4_ended_3 (by decide) rfl ?_
  refine g_sub [2, 3, 1, 0] rfl ?_
  exact k_X4_ended_4 C ret N x1 0 0 w L h
def B_X4_ended (N : Nat) (x1 : Int32) (post : Int32 → Wd → va_W → Prop) (w : Wd) (L : va_W) : Prop := B_X4_ended_0 N post x1 w L
theorem m_X4_ended {l : Launch} {K : gK} {N : Nat} {post : Int32 → Wd → va_W → Prop} {x1 : Int32} {w : Wd} {L : va_W} (h : B_X4_ended N x1 post w L) : gMi l K yX4_ended cX4_ended 4 (some .int) rm_X4_ended [.ref (xa K 1), .int x1] (xL K w ++ L) (xPi K post) 0 0 := by
  refine g_inI (ls0 := [(0, .ref (xa K 1)), (1, .int x1)]) (by decide) (Nat.le_of_ble_eq_true rfl) rfl (fun Γ hl C hn ret => ?_)
  exact k_X4_ended_0 C ret x1 w L h
