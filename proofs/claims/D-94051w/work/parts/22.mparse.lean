set_option maxRecDepth 100000
def rm_X5_isAmong_s0 : Room := { frames := 4, cells := 0, slots := 0, locals := 85 }
def B_X5_isAmong_s0_2s (r2 : Int32 → Int32 → Wd → va_W → Prop) (N : Nat) (post : Int32 → Wd → va_W → Prop) (x1 : Int32) (x2 : Int32) (w : Wd) (L : va_W) : Prop :=
  B_J2_length_s0 N (fun (v3 : Int32) (w1 : Wd) (L2 : va_W) =>
  (v3 ≤ x2 →
    post 0 w1 L2) ∧
  (¬ v3 ≤ x2 →
    B_J2_charAt_s0 N x2 (fun (v6 : Int32) (w4 : Wd) (L5 : va_W) =>
  (v6 = x1 →
      post 1 w4 L5) ∧
    (¬ v6 = x1 →
      r2 x1 (x2 + 1) w4 L5)) w1 L2)) w L
def B_X5_isAmong_s0_2 (N : Nat) (post : Int32 → Wd → va_W → Prop) : Nat → Int32 → Int32 → Wd → va_W → Prop
  | 0, _, _, _, _ => False
  | n + 1, x1, x2, w, L => B_X5_isAmong_s0_2s (B_X5_isAmong_s0_2 N post n) N post x1 x2 w L
set_option maxHeartbeats 4000000 in
theorem k_X5_isAmong_s0_2s {Γ : gT} {K : gK} {N : Nat} {post : Int32 → Wd → va_W → Prop} (C : gC Γ K RX5 cX5_isAmong 3 rm_X5_isAmong_s0) (ret : gRi Γ K cX5_isAmong (some .boolean) (mPi K post) 0 0) {r2 : Int32 → Int32 → Wd → va_W → Prop} (hr2 : ∀ (x1 : Int32) (x2 : Int32) (w : Wd) (L : va_W), r2 x1 x2 w L → gJ Γ K 0 0 (mL K w ++ L) 2 [(0, .ref (kS K 0)), (1, .int x1), (2, .int x2)] []) (x1 : Int32) (x2 : Int32) (w : Wd) (L : va_W) (h : B_X5_isAmong_s0_2s r2 N post x1 x2 w L) : gJ Γ K 0 0 (mL K w ++ L) 2 [(0, .ref (kS K 0)), (1, .int x1), (2, .int x2)] [] := by
  unfold B_X5_isAmong_s0_2s at h
  refine g_iload_n C 2 rfl dX5_isAmong_2 ?_
  refine g_aload_n C 0 rfl dX5_isAmong_3 ?_
  refine g_callVKi C (As := []) (rest := [.int x2]) (m_J2_length_s0_m h) (lw_V q1206 q393 q394 q85 q395) (i0 := 0) (by decide) ⟨rfl, rfl⟩ ⟨Nat.le_of_ble_eq_true rfl, Nat.le_of_ble_eq_true rfl⟩ 0 rfl (by decide +kernel) rfl (Nat.le_of_ble_eq_true rfl) ⟨Nat.zero_le _, Nat.zero_le _⟩ dX5_isAmong_4 ?_
  rintro v3 _ ⟨w1, L2, rfl, h⟩
  refine g_icmp_ge C 27 dX5_isAmong_7 (by decide) (fun hc => ?_) (fun hc => ?_)
  · replace h := h.1 hc
    refine g_iconst C 0 (by decide) dX5_isAmong_27 ?_
    exact ret _ _ _ _ _ rfl (gZ.n (Or.inl rfl)) dX5_isAmong_28 ⟨_, _, rfl, h⟩
  · replace h := h.2 hc
    refine g_aload_n C 0 rfl dX5_isAmong_10 ?_
    refine g_iload_n C 2 rfl dX5_isAmong_11 ?_
    refine g_callVKi C (As := [.int x2]) (rest := []) (m_J2_charAt_s0_m h) (lw_V q1207 q776 q777 q85 q778) (i0 := 0) (by decide) ⟨rfl, rfl⟩ ⟨Nat.le_of_ble_eq_true rfl, Nat.le_of_ble_eq_true rfl⟩ 1 rfl (by decide +kernel) rfl (Nat.le_of_ble_eq_true rfl) ⟨Nat.zero_le _, Nat.zero_le _⟩ dX5_isAmong_12 ?_
    rintro v6 _ ⟨w4, L5, rfl, h⟩
    refine g_iload_n C 1 rfl dX5_isAmong_15 ?_
    refine g_icmp_ne C 21 dX5_isAmong_16 (by decide) (fun hc => ?_) (fun hc => ?_)
    · replace h := h.2 hc
      refine g_iinc C 2 (x2 + 1) (lt := [(2, .int (x2 + 1)), (0, .ref (kS K 0)), (1, .int x1)]) rfl rfl dX5_isAmong_21 (by decide) rfl ?_
      refine g_goto C 2 dX5_isAmong_24 (by decide) ?_
      refine g_sub [1, 2, 0] rfl ?_
      exact hr2 x1 (x2 + 1) w4 L5 h
    · replace h := h.1 hc
      refine g_iconst C 1 (by decide) dX5_isAmong_19 ?_
      exact ret _ _ _ _ _ rfl (gZ.n (Or.inr rfl)) dX5_isAmong_20 ⟨_, _, rfl, h⟩
theorem k_X5_isAmong_s0_2 {Γ : gT} {K : gK} {N : Nat} {post : Int32 → Wd → va_W → Prop} (C : gC Γ K RX5 cX5_isAmong 3 rm_X5_isAmong_s0) (ret : gRi Γ K cX5_isAmong (some .boolean) (mPi K post) 0 0) : ∀ (n : Nat) (x1 : Int32) (x2 : Int32) (w : Wd) (L : va_W) (h : B_X5_isAmong_s0_2 N post n x1 x2 w L), gJ Γ K 0 0 (mL K w ++ L) 2 [(0, .ref (kS K 0)), (1, .int x1), (2, .int x2)] [] := by
  intro n
  induction n with
  | zero => intro x1 x2 w L h; exact h.elim
  | succ n ih => intro x1 x2 w L h; exact k_X5_isAmong_s0_2s C ret ih x1 x2 w L h
def B_X5_isAmong_s0_0 (N : Nat) (post : Int32 → Wd → va_W → Prop) (x1 : Int32) (w : Wd) (L : va_W) : Prop :=
  B_X5_isAmong_s0_2 N post N x1 0 w L
set_option maxHeartbeats 4000000 in
theorem k_X5_isAmong_s0_0 {Γ : gT} {K : gK} {N : Nat} {post : Int32 → Wd → va_W → Prop} (C : gC Γ K RX5 cX5_isAmong 3 rm_X5_isAmong_s0) (ret : gRi Γ K cX5_isAmong (some .boolean) (mPi K post) 0 0) (x1 : Int32) (w : Wd) (L : va_W) (h : B_X5_isAmong_s0_0 N post x1 w L) : gJ Γ K 0 0 (mL K w ++ L) 0 [(0, .ref (kS K 0)), (1, .int x1)] [] := by
  unfold B_X5_isAmong_s0_0 at h
  refine g_iconst C 0 (by decide) dX5_isAmong_0 ?_
  refine g_istore_n C rfl (lt := [(2, .int 0), (0, .ref (kS K 0)), (1, .int x1)]) dX5_isAmong_1 (by decide) rfl ?_
  refine g_sub [1, 2, 0] rfl ?_
  exact k_X5_isAmong_s0_2 C ret N x1 0 w L h
def B_X5_isAmong_s0 (N : Nat) (x1 : Int32) (post : Int32 → Wd → va_W → Prop) (w : Wd) (L : va_W) : Prop := B_X5_isAmong_s0_0 N post x1 w L
theorem m_X5_isAmong_s0 {l : Launch} {K : gK} {N : Nat} {post : Int32 → Wd → va_W → Prop} {x1 : Int32} {w : Wd} {L : va_W} (h : B_X5_isAmong_s0 N x1 post w L) : gMi l K yX5_isAmong cX5_isAmong 3 (some .boolean) rm_X5_isAmong_s0 [.ref (kS K 0), .int x1] (mL K w ++ L) (mPi K post) 0 0 := by
  refine g_inI (ls0 := [(0, .ref (kS K 0)), (1, .int x1)]) (by decide) (Nat.le_of_ble_eq_true rfl) rfl (fun Γ hl C hn ret => ?_)
  exact k_X5_isAmong_s0_0 C ret x1 w L h
def rm_X5_isAmong_s1 : Room := { frames := 4, cells := 0, slots := 0, locals := 85 }
def B_X5_isAmong_s1_2s (r2 : Int32 → Int32 → Wd → va_W → Prop) (N : Nat) (post : Int32 → Wd → va_W → Prop) (x1 : Int32) (x2 : Int32) (w : Wd) (L : va_W) : Prop :=
  B_J2_length_s1 N (fun (v3 : Int32) (w1 : Wd) (L2 : va_W) =>
  (v3 ≤ x2 →
    post 0 w1 L2) ∧
  (¬ v3 ≤ x2 →
    B_J2_charAt_s1 N x2 (fun (v6 : Int32) (w4 : Wd) (L5 : va_W) =>
  (v6 = x1 →
      post 1 w4 L5) ∧
    (¬ v6 = x1 →
      r2 x1 (x2 + 1) w4 L5)) w1 L2)) w L
def B_X5_isAmong_s1_2 (N : Nat) (post : Int32 → Wd → va_W → Prop) : Nat → Int32 → Int32 → Wd → va_W → Prop
  | 0, _, _, _, _ => False
  | n + 1, x1, x2, w, L => B_X5_isAmong_s1_2s (B_X5_isAmong_s1_2 N post n) N post x1 x2 w L
set_option maxHeartbeats 4000000 in
theorem k_X5_isAmong_s1_2s {Γ : gT} {K : gK} {N : Nat} {post : Int32 → Wd → va_W → Prop} (C : gC Γ K RX5 cX5_isAmong 3 rm_X5_isAmong_s1) (ret : gRi Γ K cX5_isAmong (some .boolean) (mPi K post) 0 0) {r2 : Int32 → Int32 → Wd → va_W → Prop} (hr2 : ∀ (x1 : Int32) (x2 : Int32) (w : Wd) (L : va_W), r2 x1 x2 w L → gJ Γ K 0 0 (mL K w ++ L) 2 [(0, .ref (kS K 1)), (1, .int x1), (2, .int x2)] []) (x1 : Int32) (x2 : Int32) (w : Wd) (L : va_W) (h : B_X5_isAmong_s1_2s r2 N post x1 x2 w L) : gJ Γ K 0 0 (mL K w ++ L) 2 [(0, .ref (kS K 1)), (1, .int x1), (2, .int x2)] [] := by
  unfold B_X5_isAmong_s1_2s at h
  refine g_iload_n C 2 rfl dX5_isAmong_2 ?_
  refine g_aload_n C 0 rfl dX5_isAmong_3 ?_
  refine g_callVKi C (As := []) (rest := [.int x2]) (m_J2_length_s1_m h) (lw_V q1206 q393 q394 q85 q395) (i0 := 1) (by decide) ⟨rfl, rfl⟩ ⟨Nat.le_of_ble_eq_true rfl, Nat.le_of_ble_eq_true rfl⟩ 0 rfl (by decide +kernel) rfl (Nat.le_of_ble_eq_true rfl) ⟨Nat.zero_le _, Nat.zero_le _⟩ dX5_isAmong_4 ?_
  rintro v3 _ ⟨w1, L2, rfl, h⟩
  refine g_icmp_ge C 27 dX5_isAmong_7 (by decide) (fun hc => ?_) (fun hc => ?_)
  · replace h := h.1 hc
    refine g_iconst C 0 (by decide) dX5_isAmong_27 ?_
    exact ret _ _ _ _ _ rfl (gZ.n (Or.inl rfl)) dX5_isAmong_28 ⟨_, _, rfl, h⟩
  · replace h := h.2 hc
    refine g_aload_n C 0 rfl dX5_isAmong_10 ?_
    refine g_iload_n C 2 rfl dX5_isAmong_11 ?_
    refine g_callVKi C (As := [.int x2]) (rest := []) (m_J2_charAt_s1_m h) (lw_V q1207 q776 q777 q85 q778) (i0 := 1) (by decide) ⟨rfl, rfl⟩ ⟨Nat.le_of_ble_eq_true rfl, Nat.le_of_ble_eq_true rfl⟩ 1 rfl (by decide +kernel) rfl (Nat.le_of_ble_eq_true rfl) ⟨Nat.zero_le _, Nat.zero_le _⟩ dX5_isAmong_12 ?_
    rintro v6 _ ⟨w4, L5, rfl, h⟩
    refine g_iload_n C 1 rfl dX5_isAmong_15 ?_
    refine g_icmp_ne C 21 dX5_isAmong_16 (by decide) (fun hc => ?_) (fun hc => ?_)
    · replace h := h.2 hc
      refine g_iinc C 2 (x2 + 1) (lt := [(2, .int (x2 + 1)), (0, .ref (kS K 1)), (1, .int x1)]) rfl rfl dX5_isAmong_21 (by decide) rfl ?_
      refine g_goto C 2 dX5_isAmong_24 (by decide) ?_
      refine g_sub [1, 2, 0] rfl ?_
      exact hr2 x1 (x2 + 1) w4 L5 h
    · replace h := h.1 hc
      refine g_iconst C 1 (by decide) dX5_isAmong_19 ?_
      exact ret _ _ _ _ _ rfl (gZ.n (Or.inr rfl)) dX5_isAmong_20 ⟨_, _, rfl, h⟩
theorem k_X5_isAmong_s1_2 {Γ : gT} {K : gK} {N : Nat} {post : Int32 → Wd → va_W → Prop} (C : gC Γ K RX5 cX5_isAmong 3 rm_X5_isAmong_s1) (ret : gRi Γ K cX5_isAmong (some .boolean) (mPi K post) 0 0) : ∀ (n : Nat) (x1 : Int32) (x2 : Int32) (w : Wd) (L : va_W) (h : B_X5_isAmong_s1_2 N post n x1 x2 w L), gJ Γ K 0 0 (mL K w ++ L) 2 [(0, .ref (kS K 1)), (1, .int x1), (2, .int x2)] [] := by
  intro n
  induction n with
  | zero => intro x1 x2 w L h; exact h.elim
  | succ n ih => intro x1 x2 w L h; exact k_X5_isAmong_s1_2s C ret ih x1 x2 w L h
def B_X5_isAmong_s1_0 (N : Nat) (post : Int32 → Wd → va_W → Prop) (x1 : Int32) (w : Wd) (L : va_W) : Prop :=
  B_X5_isAmong_s1_2 N post N x1 0 w L
set_option maxHeartbeats 4000000 in
theorem k_X5_isAmong_s1_0 {Γ : gT} {K : gK} {N : Nat} {post : Int32 → Wd → va_W → Prop} (C : gC Γ K RX5 cX5_isAmong 3 rm_X5_isAmong_s1) (ret : gRi Γ K cX5_isAmong (some .boolean) (mPi K post) 0 0) (x1 : Int32) (w : Wd) (L : va_W) (h : B_X5_isAmong_s1_0 N post x1 w L) : gJ Γ K 0 0 (mL K w ++ L) 0 [(0, .ref (kS K 1)), (1, .int x1)] [] := by
  unfold B_X5_isAmong_s1_0 at h
  refine g_iconst C 0 (by decide) dX5_isAmong_0 ?_
  refine g_istore_n C rfl (lt := [(2, .int 0), (0, .ref (kS K 1)), (1, .int x1)]) dX5_isAmong_1 (by decide) rfl ?_
  refine g_sub [1, 2, 0] rfl ?_
  exact k_X5_isAmong_s1_2 C ret N x1 0 w L h
def B_X5_isAmong_s1 (N : Nat) (x1 : Int32) (post : Int32 → Wd → va_W → Prop) (w : Wd) (L : va_W) : Prop := B_X5_isAmong_s1_0 N post x1 w L
theorem m_X5_isAmong_s1 {l : Launch} {K : gK} {N : Nat} {post : Int32 → Wd → va_W → Prop} {x1 : Int32} {w : Wd} {L : va_W} (h : B_X5_isAmong_s1 N x1 post w L) : gMi l K yX5_isAmong cX5_isAmong 3 (some .boolean) rm_X5_isAmong_s1 [.ref (kS K 1), .int x1] (mL K w ++ L) (mPi K post) 0 0 := by
  refine g_inI (ls0 := [(0, .ref (kS K 1)), (1, .int x1)]) (by decide) (Nat.le_of_ble_eq_true rfl) rfl (fun Γ hl C hn ret => ?_)
  exact k_X5_isAmong_s1_0 C ret x1 w L h
def rm_X5_atom (d : Nat) : Room := { frames := 3 * d + 6, cells := 0, slots := 0, locals := 72 * d + 131 }
def rm_X5_term (d : Nat) : Room := { frames := 3 * d + 7, cells := 0, slots := 0, locals := 72 * d + 155 }
def rm_X5_sum (d : Nat) : Room := { frames := 3 * d + 5, cells := 0, slots := 0, locals := 72 * d + 107 }
def B_X5_atom_156 (Bk : (Int32 → Wd → va_W → Prop) → Wd → va_W → Prop) (N : Nat) (post : Int32 → Wd → va_W → Prop) (x2 : Int32) (w : Wd) (L : va_W) : Prop :=
  post x2 w L
set_option maxHeartbeats 4000000 in
theorem k_X5_atom_156 {Γ : gT} {K : gK} {N : Nat} {post : Int32 → Wd → va_W → Prop} {d : Nat} {Bk : (Int32 → Wd → va_W → Prop) → Wd → va_W → Prop} (C : gC Γ K RX5 cX5_atom 4 (rm_X5_atom d)) (ret : gRi Γ K cX5_atom (some .int) (mPi K post) 0 0) (hk : ∀ {p0 : Int32 → Wd → va_W → Prop} {w0 : Wd} {L0 : va_W}, Bk p0 w0 L0 → gMi Γ.l K yX5_sum cX5_sum 5 (some .int) (rm_X5_sum d) [.ref (ma K 0)] (mL K w0 ++ L0) (mPi K p0) 0 0) (x2 : Int32) (w : Wd) (L : va_W) (h : B_X5_atom_156 Bk N post x2 w L) : gJ Γ K 0 0 (mL K w ++ L) 156 [(2, .int x2)] [] := by
  unfold B_X5_atom_156 at h
  refine g_iload_n C 0 rfl dX5_atom_156 ?_
  exact ret _ _ _ _ _ rfl rfl dX5_atom_157 ⟨_, _, rfl, h⟩
def B_X5_atom_90s (Bk : (Int32 → Wd → va_W → Prop) → Wd → va_W → Prop) (r90 : Int32 → Int32 → Wd → va_W → Prop) (N : Nat) (post : Int32 → Wd → va_W → Prop) (x2 : Int32) (x3 : Int32) (w : Wd) (L : va_W) : Prop :=
  B_X5_isDigit N (fun (v3 : Int32) (w1 : Wd) (L2 : va_W) =>
  (v3 = 0 →
    B_X5_atom_156 Bk N post x2 w1 L2) ∧
  (¬ v3 = 0 →
    ((xi w1 6) = (-1 : Int32) →
      (x3 = (4 : Int32) →
        B_X5_fails N (fun (v6 : Int32) (w4 : Wd) (L5 : va_W) =>
  post 0 w4 L5) w1 L2) ∧
      (¬ x3 = (4 : Int32) →
        vp_in ((xi w1 3) + (xi w1 5)) (mtl (xi w1 27)) ∧ r90 (((10 * x2) + (mtx w1 (xi w1 27) ((xi w1 3) + (xi w1 5)).toNatClampNeg)) - 48) (x3 + 1) (xsi w1 5 ((xi w1 5) + 1)) L2)) ∧
    (¬ (xi w1 6) = (-1 : Int32) →
      B_X5_atom_156 Bk N post x2 w1 L2))) w L
def B_X5_atom_90 (Bk : (Int32 → Wd → va_W → Prop) → Wd → va_W → Prop) (N : Nat) (post : Int32 → Wd → va_W → Prop) : Nat → Int32 → Int32 → Wd → va_W → Prop
  | 0, _, _, _, _ => False
  | n + 1, x2, x3, w, L => B_X5_atom_90s Bk (B_X5_atom_90 Bk N post n) N post x2 x3 w L
set_option maxHeartbeats 4000000 in
theorem k_X5_atom_90s {Γ : gT} {K : gK} {N : Nat} {post : Int32 → Wd → va_W → Prop} {d : Nat} {Bk : (Int32 → Wd → va_W → Prop) → Wd → va_W → Prop} (C : gC Γ K RX5 cX5_atom 4 (rm_X5_atom d)) (ret : gRi Γ K cX5_atom (some .int) (mPi K post) 0 0) (hk : ∀ {p0 : Int32 → Wd → va_W → Prop} {w0 : Wd} {L0 : va_W}, Bk p0 w0 L0 → gMi Γ.l K yX5_sum cX5_sum 5 (some .int) (rm_X5_sum d) [.ref (ma K 0)] (mL K w0 ++ L0) (mPi K p0) 0 0) {r90 : Int32 → Int32 → Wd → va_W → Prop} (hr90 : ∀ (x2 : Int32) (x3 : Int32) (w : Wd) (L : va_W), r90 x2 x3 w L → gJ Γ K 0 0 (mL K w ++ L) 90 [(0, .ref (ma K 0)), (2, .int x2), (3, .int x3)] []) (x2 : Int32) (x3 : Int32) (w : Wd) (L : va_W) (h : B_X5_atom_90s Bk r90 N post x2 x3 w L) : gJ Γ K 0 0 (mL K w ++ L) 90 [(0, .ref (ma K 0)), (2, .int x2), (3, .int x3)] [] := by
  unfold B_X5_atom_90s at h
  refine g_aload_n C 0 rfl dX5_atom_90 ?_
  refine g_callVi C (As := []) (rest := []) (m_X5_isDigit h) (lw_V q1244 q1246 qs46 q84 q1247) (ci := 12) (qi := 0) rfl rfl ⟨rfl, rfl⟩ (by dsimp only [rm_X5_atom, rm_X5_isDigit]; omega) 0 rfl (by decide +kernel) rfl (Nat.le_of_ble_eq_true rfl) ⟨Nat.zero_le _, Nat.zero_le _⟩ dX5_atom_91 ?_
  rintro v3 _ ⟨w1, L2, rfl, h⟩
  refine g_if_eq C 156 dX5_atom_94 (by decide) (fun hc => ?_) (fun hc => ?_)
  · replace h := h.1 hc
    refine g_sub [1] rfl ?_
    exact k_X5_atom_156 C ret hk x2 w1 L2 h
  · replace h := h.2 hc
    refine g_aload_n C 0 rfl dX5_atom_97 ?_
    refine mg_fault C q1007 (xi w1 6) rfl dX5_atom_98 ?_
    refine g_iconst C (-1) (by decide) dX5_atom_101 ?_
    refine g_icmp_ne C 156 dX5_atom_102 (by decide) (fun hc => ?_) (fun hc => ?_)
    · replace h := h.2 hc
      refine g_sub [1] rfl ?_
      exact k_X5_atom_156 C ret hk x2 w1 L2 h
    · replace h := h.1 hc
      refine g_iload_n C 2 rfl dX5_atom_105 ?_
      refine g_iconst C 4 (by decide) dX5_atom_106 ?_
      refine g_icmp_ne C 117 dX5_atom_107 (by decide) (fun hc => ?_) (fun hc => ?_)
      · replace h := h.2 hc
        refine g_bipush C 10 (by decide) dX5_atom_117 ?_
        refine g_iload_n C 1 rfl dX5_atom_119 ?_
        refine g_imul C dX5_atom_120 ?_
        refine g_aload_n C 0 rfl dX5_atom_121 ?_
        refine mg_text C q1001 (xi w1 27) rfl dX5_atom_122 ?_
        refine g_aload_n C 0 rfl dX5_atom_125 ?_
        refine mg_begins C q1004 (xi w1 3) rfl dX5_atom_126 ?_
        refine g_aload_n C 0 rfl dX5_atom_129 ?_
        refine mg_at C q1006 (xi w1 5) rfl dX5_atom_130 ?_
        refine g_iadd C dX5_atom_133 ?_
        obtain ⟨hb, h⟩ := h
        refine mld_sel C hb (mtx w1 (xi w1 27) ((xi w1 3) + (xi w1 5)).toNatClampNeg) rfl dX5_atom_134 ?_
        refine g_iadd C dX5_atom_135 ?_
        refine g_bipush C 48 (by decide) dX5_atom_136 ?_
        refine g_isub C dX5_atom_138 ?_
        refine g_istore_n C rfl (lt := [(2, .int (((10 * x2) + (mtx w1 (xi w1 27) ((xi w1 3) + (xi w1 5)).toNatClampNeg)) - 48)), (0, .ref (ma K 0)), (3, .int x3)]) dX5_atom_139 (by decide) rfl ?_
        refine g_aload_n C 1 rfl dX5_atom_140 ?_
        refine g_dup C rfl dX5_atom_141 ?_
        refine mg_at C q1006 (xi w1 5) rfl dX5_atom_142 ?_
        refine g_iconst C 1 (by decide) dX5_atom_145 ?_
        refine g_iadd C dX5_atom_146 ?_
        refine mp_at C q1006 dX5_atom_147 ?_
        refine g_iinc C 2 (x3 + 1) (lt := [(3, .int (x3 + 1)), (2, .int (((10 * x2) + (mtx w1 (xi w1 27) ((xi w1 3) + (xi w1 5)).toNatClampNeg)) - 48)), (0, .ref (ma K 0))]) rfl rfl dX5_atom_150 (by decide) rfl ?_
        refine g_goto C 90 dX5_atom_153 (by decide) ?_
        refine g_sub [2, 1, 0] rfl ?_
        exact hr90 (((10 * x2) + (mtx w1 (xi w1 27) ((xi w1 3) + (xi w1 5)).toNatClampNeg)) - 48) (x3 + 1) (xsi w1 5 ((xi w1 5) + 1)) L2 h
      · replace h := h.1 hc
        refine g_aload_n C 0 rfl dX5_atom_110 ?_
        refine g_callVi C (As := []) (rest := []) (m_X5_fails h) (lw_V q1208 q1210 qs37 q84 q1211) (ci := 12) (qi := 0) rfl rfl ⟨rfl, rfl⟩ (by dsimp only [rm_X5_atom, rm_X5_fails]; omega) 0 rfl (by decide +kernel) rfl (Nat.le_of_ble_eq_true rfl) ⟨Nat.zero_le _, Nat.zero_le _⟩ dX5_atom_111 ?_
        rintro v6 _ ⟨w4, L5, rfl, h⟩
        refine g_pop C rfl dX5_atom_114 ?_
        refine g_iconst C 0 (by decide) dX5_atom_115 ?_
        exact ret _ _ _ _ _ rfl rfl dX5_atom_116 ⟨_, _, rfl, h⟩
theorem k_X5_atom_90 {Γ : gT} {K : gK} {N : Nat} {post : Int32 → Wd → va_W → Prop} {d : Nat} {Bk : (Int32 → Wd → va_W → Prop) → Wd → va_W → Prop} (C : gC Γ K RX5 cX5_atom 4 (rm_X5_atom d)) (ret : gRi Γ K cX5_atom (some .int) (mPi K post) 0 0) (hk : ∀ {p0 : Int32 → Wd → va_W → Prop} {w0 : Wd} {L0 : va_W}, Bk p0 w0 L0 → gMi Γ.l K yX5_sum cX5_sum 5 (some .int) (rm_X5_sum d) [.ref (ma K 0)] (mL K w0 ++ L0) (mPi K p0) 0 0) : ∀ (n : Nat) (x2 : Int32) (x3 : Int32) (w : Wd) (L : va_W) (h : B_X5_atom_90 Bk N post n x2 x3 w L), gJ Γ K 0 0 (mL K w ++ L) 90 [(0, .ref (ma K 0)), (2, .int x2), (3, .int x3)] [] := by
  intro n
  induction n with
  | zero => intro x2 x3 w L h; exact h.elim
  | succ n ih => intro x2 x3 w L h; exact k_X5_atom_90s C ret hk ih x2 x3 w L h
def B_X5_atom_86 (Bk : (Int32 → Wd → va_W → Prop) → Wd → va_W → Prop) (N : Nat) (post : Int32 → Wd → va_W → Prop) (w : Wd) (L : va_W) : Prop :=
  B_X5_atom_90 Bk N post N 0 0 w L
set_option maxHeartbeats 4000000 in
theorem k_X5_atom_86 {Γ : gT} {K : gK} {N : Nat} {post : Int32 → Wd → va_W → Prop} {d : Nat} {Bk : (Int32 → Wd → va_W → Prop) → Wd → va_W → Prop} (C : gC Γ K RX5 cX5_atom 4 (rm_X5_atom d)) (ret : gRi Γ K cX5_atom (some .int) (mPi K post) 0 0) (hk : ∀ {p0 : Int32 → Wd → va_W → Prop} {w0 : Wd} {L0 : va_W}, Bk p0 w0 L0 → gMi Γ.l K yX5_sum cX5_sum 5 (some .int) (rm_X5_sum d) [.ref (ma K 0)] (mL K w0 ++ L0) (mPi K p0) 0 0) (w : Wd) (L : va_W) (h : B_X5_atom_86 Bk N post w L) : gJ Γ K 0 0 (mL K w ++ L) 86 [(0, .ref (ma K 0))] [] := by
  unfold B_X5_atom_86 at h
  refine g_iconst C 0 (by decide) dX5_atom_86 ?_
  refine g_istore_n C rfl (lt := [(2, .int 0), (0, .ref (ma K 0))]) dX5_atom_87 (by decide) rfl ?_
  refine g_iconst C 0 (by decide) dX5_atom_88 ?_
  refine g_istore_n C rfl (lt := [(3, .int 0), (2, .int 0), (0, .ref (ma K 0))]) dX5_atom_89 (by decide) rfl ?_
  refine g_sub [2, 1, 0] rfl ?_
  exact k_X5_atom_90 C ret hk N 0 0 w L h
def B_X5_atom_0 (Bk : (Int32 → Wd → va_W → Prop) → Wd → va_W → Prop) (N : Nat) (post : Int32 → Wd → va_W → Prop) (w : Wd) (L : va_W) : Prop :=
  B_X5_look N (fun (v3 : Int32) (w1 : Wd) (L2 : va_W) =>
  B_X5_isAmong_s1 N v3 (fun (v6 : Int32) (w4 : Wd) (L5 : va_W) =>
  (v6 = 0 →
    (v3 = (91 : Int32) →
      B_X5_goesIn N (fun (v15 : Int32) (w13 : Wd) (L14 : va_W) =>
  (v15 = 0 →
        post 0 w13 L14) ∧
      (¬ v15 = 0 →
        Bk (fun (v18 : Int32) (w16 : Wd) (L17 : va_W) =>
  B_X5_takes N 93 (fun (v21 : Int32) (w19 : Wd) (L20 : va_W) =>
  (v21 = 0 →
          post 0 w19 L20) ∧
        (¬ v21 = 0 →
          post v18 (xsi w19 7 ((xi w19 7) - 1)) L20)) w16 L17) w13 L14)) w4 L5) ∧
    (¬ v3 = (91 : Int32) →
      B_X5_isDigit N (fun (v9 : Int32) (w7 : Wd) (L8 : va_W) =>
  (v9 = 0 →
        B_X5_fails N (fun (v12 : Int32) (w10 : Wd) (L11 : va_W) =>
  B_X5_atom_86 Bk N post w10 L11) w7 L8) ∧
      (¬ v9 = 0 →
        B_X5_atom_86 Bk N post w7 L8)) w4 L5)) ∧
  (¬ v6 = 0 →
    vp_in v3 128 ∧ post (xA w4 4 v3.toNatClampNeg) (xsi w4 5 ((xi w4 5) + 1)) L5)) w1 L2) w L
set_option maxHeartbeats 4000000 in
theorem k_X5_atom_0 {Γ : gT} {K : gK} {N : Nat} {post : Int32 → Wd → va_W → Prop} {d : Nat} {Bk : (Int32 → Wd → va_W → Prop) → Wd → va_W → Prop} (C : gC Γ K RX5 cX5_atom 4 (rm_X5_atom d)) (ret : gRi Γ K cX5_atom (some .int) (mPi K post) 0 0) (hk : ∀ {p0 : Int32 → Wd → va_W → Prop} {w0 : Wd} {L0 : va_W}, Bk p0 w0 L0 → gMi Γ.l K yX5_sum cX5_sum 5 (some .int) (rm_X5_sum d) [.ref (ma K 0)] (mL K w0 ++ L0) (mPi K p0) 0 0) (w : Wd) (L : va_W) (h : B_X5_atom_0 Bk N post w L) : gJ Γ K 0 0 (mL K w ++ L) 0 [(0, .ref (ma K 0))] [] := by
  unfold B_X5_atom_0 at h
  refine g_aload_n C 0 rfl dX5_atom_0 ?_
  refine g_callVi C (As := []) (rest := []) (m_X5_look h) (lw_V q1199 q1201 qs36 q84 q1202) (ci := 12) (qi := 0) rfl rfl ⟨rfl, rfl⟩ (by dsimp only [rm_X5_atom, rm_X5_look]; omega) 0 rfl (by decide +kernel) rfl (Nat.le_of_ble_eq_true rfl) ⟨Nat.zero_le _, Nat.zero_le _⟩ dX5_atom_1 ?_
  rintro v3 _ ⟨w1, L2, rfl, h⟩
  refine g_istore_n C rfl (lt := [(1, .int v3), (0, .ref (ma K 0))]) dX5_atom_4 (by decide) rfl ?_
  refine g_ldcS_OneBearsModel_32 C dX5_atom_5 ?_
  refine g_iload_n C 0 rfl dX5_atom_7 ?_
  refine g_callSi C (As := [.ref (kS K 1), .int v3]) (rest := []) (m_X5_isAmong_s1 h) (Cn := "") (b := 0) (lw_S q1203 q1204 q84 q1205) ⟨rfl, rfl⟩ (by dsimp only [rm_X5_atom, rm_X5_isAmong_s1]; omega) 2 rfl (by decide +kernel) rfl (Nat.le_of_ble_eq_true rfl) ⟨Nat.zero_le _, Nat.zero_le _⟩ dX5_atom_8 ?_
  rintro v6 _ ⟨w4, L5, rfl, h⟩
  refine g_if_eq C 31 dX5_atom_11 (by decide) (fun hc => ?_) (fun hc => ?_)
  · replace h := h.1 hc
    refine g_iload_n C 0 rfl dX5_atom_31 ?_
    refine g_bipush C 91 (by decide) dX5_atom_32 ?_
    refine g_icmp_ne C 74 dX5_atom_34 (by decide) (fun hc => ?_) (fun hc => ?_)
    · replace h := h.2 hc
      refine g_aload_n C 1 rfl dX5_atom_74 ?_
      refine g_callVi C (As := []) (rest := []) (m_X5_isDigit h) (lw_V q1244 q1246 qs46 q84 q1247) (ci := 12) (qi := 0) rfl rfl ⟨rfl, rfl⟩ (by dsimp only [rm_X5_atom, rm_X5_isDigit]; omega) 0 rfl (by decide +kernel) rfl (Nat.le_of_ble_eq_true rfl) ⟨Nat.zero_le _, Nat.zero_le _⟩ dX5_atom_75 ?_
      rintro v9 _ ⟨w7, L8, rfl, h⟩
      refine g_if_ne C 86 dX5_atom_78 (by decide) (fun hc => ?_) (fun hc => ?_)
      · replace h := h.2 hc
        refine g_sub [1] rfl ?_
        exact k_X5_atom_86 C ret hk w7 L8 h
      · replace h := h.1 hc
        refine g_aload_n C 1 rfl dX5_atom_81 ?_
        refine g_callVi C (As := []) (rest := []) (m_X5_fails h) (lw_V q1208 q1210 qs37 q84 q1211) (ci := 12) (qi := 0) rfl rfl ⟨rfl, rfl⟩ (by dsimp only [rm_X5_atom, rm_X5_fails]; omega) 0 rfl (by decide +kernel) rfl (Nat.le_of_ble_eq_true rfl) ⟨Nat.zero_le _, Nat.zero_le _⟩ dX5_atom_82 ?_
        rintro v12 _ ⟨w10, L11, rfl, h⟩
        refine g_pop C rfl dX5_atom_85 ?_
        refine g_sub [1] rfl ?_
        exact k_X5_atom_86 C ret hk w10 L11 h
    · replace h := h.1 hc
      refine g_aload_n C 1 rfl dX5_atom_37 ?_
      refine g_callVi C (As := []) (rest := []) (m_X5_goesIn h) (lw_V q1240 q1242 qs45 q84 q1243) (ci := 12) (qi := 0) rfl rfl ⟨rfl, rfl⟩ (by dsimp only [rm_X5_atom, rm_X5_goesIn]; omega) 0 rfl (by decide +kernel) rfl (Nat.le_of_ble_eq_true rfl) ⟨Nat.zero_le _, Nat.zero_le _⟩ dX5_atom_38 ?_
      rintro v15 _ ⟨w13, L14, rfl, h⟩
      refine g_if_ne C 46 dX5_atom_41 (by decide) (fun hc => ?_) (fun hc => ?_)
      · replace h := h.2 hc
        refine g_aload_n C 1 rfl dX5_atom_46 ?_
        refine g_callVi C (As := []) (rest := []) (hk h) (lw_V q1228 q1230 qs42 q84 q1231) (ci := 12) (qi := 0) rfl rfl ⟨rfl, rfl⟩ (by dsimp only [rm_X5_atom, rm_X5_sum]; omega) 0 rfl (by decide +kernel) rfl (Nat.le_of_ble_eq_true rfl) ⟨Nat.zero_le _, Nat.zero_le _⟩ dX5_atom_47 ?_
        rintro v18 _ ⟨w16, L17, rfl, h⟩
        refine g_istore_n C rfl (lt := [(2, .int v18), (1, .int v3), (0, .ref (ma K 0))]) dX5_atom_50 (by decide) rfl ?_
        refine g_aload_n C 2 rfl dX5_atom_51 ?_
        refine g_bipush C 93 (by decide) dX5_atom_52 ?_
        refine g_callVi C (As := [.int 93]) (rest := []) (m_X5_takes h) (lw_V q1212 q1214 qs38 q84 q1215) (ci := 12) (qi := 0) rfl rfl ⟨rfl, rfl⟩ (by dsimp only [rm_X5_atom, rm_X5_takes]; omega) 1 rfl (by decide +kernel) rfl (Nat.le_of_ble_eq_true rfl) ⟨Nat.zero_le _, Nat.zero_le _⟩ dX5_atom_54 ?_
        rintro v21 _ ⟨w19, L20, rfl, h⟩
        refine g_if_ne C 62 dX5_atom_57 (by decide) (fun hc => ?_) (fun hc => ?_)
        · replace h := h.2 hc
          refine g_aload_n C 2 rfl dX5_atom_62 ?_
          refine g_dup C rfl dX5_atom_63 ?_
          refine mg_deep C q1008 (xi w19 7) rfl dX5_atom_64 ?_
          refine g_iconst C 1 (by decide) dX5_atom_67 ?_
          refine g_isub C dX5_atom_68 ?_
          refine mp_deep C q1008 dX5_atom_69 ?_
          refine g_iload_n C 0 rfl dX5_atom_72 ?_
          exact ret _ _ _ _ _ rfl rfl dX5_atom_73 ⟨_, _, rfl, h⟩
        · replace h := h.1 hc
          refine g_iconst C 0 (by decide) dX5_atom_60 ?_
          exact ret _ _ _ _ _ rfl rfl dX5_atom_61 ⟨_, _, rfl, h⟩
      · replace h := h.1 hc
        refine g_iconst C 0 (by decide) dX5_atom_44 ?_
        exact ret _ _ _ _ _ rfl rfl dX5_atom_45 ⟨_, _, rfl, h⟩
  · replace h := h.2 hc
    refine g_aload_n C 1 rfl dX5_atom_14 ?_
    refine g_dup C rfl dX5_atom_15 ?_
    refine mg_at C q1006 (xi w4 5) rfl dX5_atom_16 ?_
    refine g_iconst C 1 (by decide) dX5_atom_19 ?_
    refine g_iadd C dX5_atom_20 ?_
    refine mp_at C q1006 dX5_atom_21 ?_
    refine g_aload_n C 1 rfl dX5_atom_24 ?_
    refine mg_letters C q1000 dX5_atom_25 ?_
    refine g_iload_n C 0 rfl dX5_atom_28 ?_
    obtain ⟨hb, h⟩ := h
    refine mld_4 C hb (xA w4 4 v3.toNatClampNeg) rfl dX5_atom_29 ?_
    exact ret _ _ _ _ _ rfl rfl dX5_atom_30 ⟨_, _, rfl, h⟩
def B_X5_atom (Bk : (Int32 → Wd → va_W → Prop) → Wd → va_W → Prop) (N : Nat) (post : Int32 → Wd → va_W → Prop) (w : Wd) (L : va_W) : Prop := B_X5_atom_0 Bk N post w L
theorem m_X5_atom {l : Launch} {K : gK} {N : Nat} {post : Int32 → Wd → va_W → Prop} {d : Nat} {Bk : (Int32 → Wd → va_W → Prop) → Wd → va_W → Prop} {w : Wd} {L : va_W} (hk : ∀ {p0 : Int32 → Wd → va_W → Prop} {w0 : Wd} {L0 : va_W}, Bk p0 w0 L0 → gMi l K yX5_sum cX5_sum 5 (some .int) (rm_X5_sum d) [.ref (ma K 0)] (mL K w0 ++ L0) (mPi K p0) 0 0) (h : B_X5_atom Bk N post w L) : gMi l K yX5_atom cX5_atom 4 (some .int) (rm_X5_atom d) [.ref (ma K 0)] (mL K w ++ L) (mPi K post) 0 0 := by
  refine g_inI (ls0 := [(0, .ref (ma K 0))]) (by decide) (Nat.le_of_ble_eq_true rfl) rfl (fun Γ hl C hn ret => ?_)
  subst hl
  exact k_X5_atom_0 C ret hk w L h
def B_X5_term_87 (Bk : (Int32 → Wd → va_W → Prop) → Wd → va_W → Prop) (r5 : Int32 → Wd → va_W → Prop) (N : Nat) (post : Int32 → Wd → va_W → Prop) (s0 : Int64) (w : Wd) (L : va_W) : Prop :=
  B_X5_within N s0 (fun (v3 : Int32) (w1 : Wd) (L2 : va_W) =>
  r5 v3 w1 L2) w L
set_option maxHeartbeats 4000000 in
theorem k_X5_term_87 {Γ : gT} {K : gK} {N : Nat} {post : Int32 → Wd → va_W → Prop} {d : Nat} {Bk : (Int32 → Wd → va_W → Prop) → Wd → va_W → Prop} (C : gC Γ K RX5 cX5_term 5 (rm_X5_term d)) (ret : gRi Γ K cX5_term (some .int) (mPi K post) 0 0) (hk : ∀ {p0 : Int32 → Wd → va_W → Prop} {w0 : Wd} {L0 : va_W}, Bk p0 w0 L0 → gMi Γ.l K yX5_sum cX5_sum 5 (some .int) (rm_X5_sum d) [.ref (ma K 0)] (mL K w0 ++ L0) (mPi K p0) 0 0) {r5 : Int32 → Wd → va_W → Prop} (hr5 : ∀ (x1 : Int32) (w : Wd) (L : va_W), r5 x1 w L → gJ Γ K 0 0 (mL K w ++ L) 5 [(0, .ref (ma K 0)), (1, .int x1)] []) (s0 : Int64) (w : Wd) (L : va_W) (h : B_X5_term_87 Bk r5 N post s0 w L) : gJ Γ K 0 0 (mL K w ++ L) 87 [(0, .ref (ma K 0))] [.long s0] := by
  unfold B_X5_term_87 at h
  refine g_callSi C (As := [.long s0]) (rest := []) (m_X5_within h) (Cn := "") (b := 0) (lw_S q1248 q1249 q84 q1250) ⟨rfl, rfl⟩ (by dsimp only [rm_X5_term, rm_X5_within]; omega) 1 rfl (by decide +kernel) rfl (Nat.le_of_ble_eq_true rfl) ⟨Nat.zero_le _, Nat.zero_le _⟩ dX5_term_87 ?_
  rintro v3 _ ⟨w1, L2, rfl, h⟩
  refine g_istore_n C rfl (lt := [(1, .int v3), (0, .ref (ma K 0))]) dX5_term_90 (by decide) rfl ?_
  refine g_goto C 5 dX5_term_91 (by decide) ?_
  refine g_sub [1, 0] rfl ?_
  exact hr5 v3 w1 L2 h
def B_X5_term_45 (Bk : (Int32 → Wd → va_W → Prop) → Wd → va_W → Prop) (r5 : Int32 → Wd → va_W → Prop) (N : Nat) (post : Int32 → Wd → va_W → Prop) (x1 : Int32) (s0 : Int32) (w : Wd) (L : va_W) : Prop :=
  B_X5_atom Bk N (fun (v3 : Int32) (w1 : Wd) (L2 : va_W) =>
  (s0 = 0 →
    (v3.toInt64 = (0 : Int64) →
      B_X5_term_87 Bk r5 N post 0 w1 L2) ∧
    (¬ v3.toInt64 = (0 : Int64) →
      ¬ v3.toInt64 = 0 ∧ B_X5_term_87 Bk r5 N post (x1.toInt64 / v3.toInt64) w1 L2)) ∧
  (¬ s0 = 0 →
    B_X5_term_87 Bk r5 N post (x1.toInt64 * v3.toInt64) w1 L2)) (xsi w 5 ((xi w 5) + 1)) L
set_option maxHeartbeats 4000000 in
theorem k_X5_term_45 {Γ : gT} {K : gK} {N : Nat} {post : Int32 → Wd → va_W → Prop} {d : Nat} {Bk : (Int32 → Wd → va_W → Prop) → Wd → va_W → Prop} (C : gC Γ K RX5 cX5_term 5 (rm_X5_term d)) (ret : gRi Γ K cX5_term (some .int) (mPi K post) 0 0) (hk : ∀ {p0 : Int32 → Wd → va_W → Prop} {w0 : Wd} {L0 : va_W}, Bk p0 w0 L0 → gMi Γ.l K yX5_sum cX5_sum 5 (some .int) (rm_X5_sum d) [.ref (ma K 0)] (mL K w0 ++ L0) (mPi K p0) 0 0) {r5 : Int32 → Wd → va_W → Prop} (hr5 : ∀ (x1 : Int32) (w : Wd) (L : va_W), r5 x1 w L → gJ Γ K 0 0 (mL K w ++ L) 5 [(0, .ref (ma K 0)), (1, .int x1)] []) (x1 : Int32) (s0 : Int32) (w : Wd) (L : va_W) (h : B_X5_term_45 Bk r5 N post x1 s0 w L) : gJ Γ K 0 0 (mL K w ++ L) 45 [(0, .ref (ma K 0)), (1, .int x1)] [.int s0] := by
  unfold B_X5_term_45 at h
  refine g_istore_n C rfl (lt := [(2, .int s0), (0, .ref (ma K 0)), (1, .int x1)]) dX5_term_45 (by decide) rfl ?_
  refine g_aload_n C 1 rfl dX5_term_46 ?_
  refine g_dup C rfl dX5_term_47 ?_
  refine mg_at C q1006 (xi w 5) rfl dX5_term_48 ?_
  refine g_iconst C 1 (by decide) dX5_term_51 ?_
  refine g_iadd C dX5_term_52 ?_
  refine mp_at C q1006 dX5_term_53 ?_
  refine g_aload_n C 1 rfl dX5_term_56 ?_
  refine g_callVi C (As := []) (rest := []) (m_X5_atom hk h) (lw_V q1236 q1238 qs44 q84 q1239) (ci := 12) (qi := 0) rfl rfl ⟨rfl, rfl⟩ (by dsimp only [rm_X5_term, rm_X5_atom]; omega) 0 rfl (by decide +kernel) rfl (Nat.le_of_ble_eq_true rfl) ⟨Nat.zero_le _, Nat.zero_le _⟩ dX5_term_57 ?_
  rintro v3 _ ⟨w1, L2, rfl, h⟩
  refine g_i2l C dX5_term_60 ?_
  refine g_lstore_n C rfl (lt := [(3, .long v3.toInt64), (2, .int s0), (0, .ref (ma K 0)), (1, .int x1)]) dX5_term_61 (by decide) rfl ?_
  refine g_iload_n C 1 rfl dX5_term_62 ?_
  refine g_if_eq C 73 dX5_term_63 (by decide) (fun hc => ?_) (fun hc => ?_)
  · replace h := h.1 hc
    refine g_lload_n C 0 rfl dX5_term_73 ?_
    refine g_lconst C 0 (by decide) dX5_term_74 ?_
    refine g_lif_ne C 83 dX5_term_75 dX5_term_76 (by decide) (fun hc => ?_) (fun hc => ?_)
    · replace h := h.2 hc
      refine g_iload_n C 3 rfl dX5_term_83 ?_
      refine g_i2l C dX5_term_84 ?_
      refine g_lload_n C 0 rfl dX5_term_85 ?_
      obtain ⟨h0, h⟩ := h
      refine g_ldiv C h0 dX5_term_86 ?_
      refine g_sub [2] rfl ?_
      exact k_X5_term_87 C ret hk hr5 (x1.toInt64 / v3.toInt64) w1 L2 h
    · replace h := h.1 hc
      refine g_lconst C 0 (by decide) dX5_term_79 ?_
      refine g_goto C 87 dX5_term_80 (by decide) ?_
      refine g_sub [2] rfl ?_
      exact k_X5_term_87 C ret hk hr5 0 w1 L2 h
  · replace h := h.2 hc
    refine g_iload_n C 3 rfl dX5_term_66 ?_
    refine g_i2l C dX5_term_67 ?_
    refine g_lload_n C 0 rfl dX5_term_68 ?_
    refine g_lmul C dX5_term_69 ?_
    refine g_goto C 87 dX5_term_70 (by decide) ?_
    refine g_sub [2] rfl ?_
    exact k_X5_term_87 C ret hk hr5 (x1.toInt64 * v3.toInt64) w1 L2 h
def B_X5_term_31 (Bk : (Int32 → Wd → va_W → Prop) → Wd → va_W → Prop) (r5 : Int32 → Wd → va_W → Prop) (N : Nat) (post : Int32 → Wd → va_W → Prop) (x1 : Int32) (w : Wd) (L : va_W) : Prop :=
  B_X5_look N (fun (v3 : Int32) (w1 : Wd) (L2 : va_W) =>
  (v3 = (42 : Int32) →
    B_X5_term_45 Bk r5 N post x1 1 w1 L2) ∧
  (¬ v3 = (42 : Int32) →
    B_X5_term_45 Bk r5 N post x1 0 w1 L2)) w L
set_option maxHeartbeats 4000000 in
theorem k_X5_term_31 {Γ : gT} {K : gK} {N : Nat} {post : Int32 → Wd → va_W → Prop} {d : Nat} {Bk : (Int32 → Wd → va_W → Prop) → Wd → va_W → Prop} (C : gC Γ K RX5 cX5_term 5 (rm_X5_term d)) (ret : gRi Γ K cX5_term (some .int) (mPi K post) 0 0) (hk : ∀ {p0 : Int32 → Wd → va_W → Prop} {w0 : Wd} {L0 : va_W}, Bk p0 w0 L0 → gMi Γ.l K yX5_sum cX5_sum 5 (some .int) (rm_X5_sum d) [.ref (ma K 0)] (mL K w0 ++ L0) (mPi K p0) 0 0) {r5 : Int32 → Wd → va_W → Prop} (hr5 : ∀ (x1 : Int32) (w : Wd) (L : va_W), r5 x1 w L → gJ Γ K 0 0 (mL K w ++ L) 5 [(0, .ref (ma K 0)), (1, .int x1)] []) (x1 : Int32) (w : Wd) (L : va_W) (h : B_X5_term_31 Bk r5 N post x1 w L) : gJ Γ K 0 0 (mL K w ++ L) 31 [(0, .ref (ma K 0)), (1, .int x1)] [] := by
  unfold B_X5_term_31 at h
  refine g_aload_n C 0 rfl dX5_term_31 ?_
  refine g_callVi C (As := []) (rest := []) (m_X5_look h) (lw_V q1199 q1201 qs36 q84 q1202) (ci := 12) (qi := 0) rfl rfl ⟨rfl, rfl⟩ (by dsimp only [rm_X5_term, rm_X5_look]; omega) 0 rfl (by decide +kernel) rfl (Nat.le_of_ble_eq_true rfl) ⟨Nat.zero_le _, Nat.zero_le _⟩ dX5_term_32 ?_
  rintro v3 _ ⟨w1, L2, rfl, h⟩
  refine g_bipush C 42 (by decide) dX5_term_35 ?_
  refine g_icmp_ne C 44 dX5_term_37 (by decide) (fun hc => ?_) (fun hc => ?_)
  · replace h := h.2 hc
    refine g_iconst C 0 (by decide) dX5_term_44 ?_
    exact k_X5_term_45 C ret hk hr5 x1 0 w1 L2 h
  · replace h := h.1 hc
    refine g_iconst C 1 (by decide) dX5_term_40 ?_
    refine g_goto C 45 dX5_term_41 (by decide) ?_
    exact k_X5_term_45 C ret hk hr5 x1 1 w1 L2 h
def B_X5_term_94 (Bk : (Int32 → Wd → va_W → Prop) → Wd → va_W → Prop) (N : Nat) (post : Int32 → Wd → va_W → Prop) (x1 : Int32) (w : Wd) (L : va_W) : Prop :=
  post x1 w L
set_option maxHeartbeats 4000000 in
theorem k_X5_term_94 {Γ : gT} {K : gK} {N : Nat} {post : Int32 → Wd → va_W → Prop} {d : Nat} {Bk : (Int32 → Wd → va_W → Prop) → Wd → va_W → Prop} (C : gC Γ K RX5 cX5_term 5 (rm_X5_term d)) (ret : gRi Γ K cX5_term (some .int) (mPi K post) 0 0) (hk : ∀ {p0 : Int32 → Wd → va_W → Prop} {w0 : Wd} {L0 : va_W}, Bk p0 w0 L0 → gMi Γ.l K yX5_sum cX5_sum 5 (some .int) (rm_X5_sum d) [.ref (ma K 0)] (mL K w0 ++ L0) (mPi K p0) 0 0) (x1 : Int32) (w : Wd) (L : va_W) (h : B_X5_term_94 Bk N post x1 w L) : gJ Γ K 0 0 (mL K w ++ L) 94 [(1, .int x1)] [] := by
  unfold B_X5_term_94 at h
  refine g_iload_n C 0 rfl dX5_term_94 ?_
  exact ret _ _ _ _ _ rfl rfl dX5_term_95 ⟨_, _, rfl, h⟩
def B_X5_term_5s (Bk : (Int32 → Wd → va_W → Prop) → Wd → va_W → Prop) (r5 : Int32 → Wd → va_W → Prop) (N : Nat) (post : Int32 → Wd → va_W → Prop) (x1 : Int32) (w : Wd) (L : va_W) : Prop :=
  ((xi w 6) = (-1 : Int32) →
    B_X5_look N (fun (v3 : Int32) (w1 : Wd) (L2 : va_W) =>
  (v3 = (42 : Int32) →
      B_X5_term_31 Bk r5 N post x1 w1 L2) ∧
    (¬ v3 = (42 : Int32) →
      B_X5_look N (fun (v6 : Int32) (w4 : Wd) (L5 : va_W) =>
  (v6 = (47 : Int32) →
        B_X5_term_31 Bk r5 N post x1 w4 L5) ∧
      (¬ v6 = (47 : Int32) →
        B_X5_term_94 Bk N post x1 w4 L5)) w1 L2)) w L) ∧
  (¬ (xi w 6) = (-1 : Int32) →
    B_X5_term_94 Bk N post x1 w L)
def B_X5_term_5 (Bk : (Int32 → Wd → va_W → Prop) → Wd → va_W → Prop) (N : Nat) (post : Int32 → Wd → va_W → Prop) : Nat → Int32 → Wd → va_W → Prop
  | 0, _, _, _ => False
  | n + 1, x1, w, L => B_X5_term_5s Bk (B_X5_term_5 Bk N post n) N post x1 w L
set_option maxHeartbeats 4000000 in
theorem k_X5_term_5s {Γ : gT} {K : gK} {N : Nat} {post : Int32 → Wd → va_W → Prop} {d : Nat} {Bk : (Int32 → Wd → va_W → Prop) → Wd → va_W → Prop} (C : gC Γ K RX5 cX5_term 5 (rm_X5_term d)) (ret : gRi Γ K cX5_term (some .int) (mPi K post) 0 0) (hk : ∀ {p0 : Int32 → Wd → va_W → Prop} {w0 : Wd} {L0 : va_W}, Bk p0 w0 L0 → gMi Γ.l K yX5_sum cX5_sum 5 (some .int) (rm_X5_sum d) [.ref (ma K 0)] (mL K w0 ++ L0) (mPi K p0) 0 0) {r5 : Int32 → Wd → va_W → Prop} (hr5 : ∀ (x1 : Int32) (w : Wd) (L : va_W), r5 x1 w L → gJ Γ K 0 0 (mL K w ++ L) 5 [(0, .ref (ma K 0)), (1, .int x1)] []) (x1 : Int32) (w : Wd) (L : va_W) (h : B_X5_term_5s Bk r5 N post x1 w L) : gJ Γ K 0 0 (mL K w ++ L) 5 [(0, .ref (ma K 0)), (1, .int x1)] [] := by
  unfold B_X5_term_5s at h
  refine g_aload_n C 0 rfl dX5_term_5 ?_
  refine mg_fault C q1007 (xi w 6) rfl dX5_term_6 ?_
  refine g_iconst C (-1) (by decide) dX5_term_9 ?_
  refine g_icmp_ne C 94 dX5_term_10 (by decide) (fun hc => ?_) (fun hc => ?_)
  · replace h := h.2 hc
    refine g_sub [1] rfl ?_
    exact k_X5_term_94 C ret hk x1 w L h
  · replace h := h.1 hc
    refine g_aload_n C 0 rfl dX5_term_13 ?_
    refine g_callVi C (As := []) (rest := []) (m_X5_look h) (lw_V q1199 q1201 qs36 q84 q1202) (ci := 12) (qi := 0) rfl rfl ⟨rfl, rfl⟩ (by dsimp only [rm_X5_term, rm_X5_look]; omega) 0 rfl (by decide +kernel) rfl (Nat.le_of_ble_eq_true rfl) ⟨Nat.zero_le _, Nat.zero_le _⟩ dX5_term_14 ?_
    rintro v3 _ ⟨w1, L2, rfl, h⟩
    refine g_bipush C 42 (by decide) dX5_term_17 ?_
    refine g_icmp_eq C 31 dX5_term_19 (by decide) (fun hc => ?_) (fun hc => ?_)
    · replace h := h.1 hc
      exact k_X5_term_31 C ret hk hr5 x1 w1 L2 h
    · replace h := h.2 hc
      refine g_aload_n C 0 rfl dX5_term_22 ?_
      refine g_callVi C (As := []) (rest := []) (m_X5_look h) (lw_V q1199 q1201 qs36 q84 q1202) (ci := 12) (qi := 0) rfl rfl ⟨rfl, rfl⟩ (by dsimp only [rm_X5_term, rm_X5_look]; omega) 0 rfl (by decide +kernel) rfl (Nat.le_of_ble_eq_true rfl) ⟨Nat.zero_le _, Nat.zero_le _⟩ dX5_term_23 ?_
      rintro v6 _ ⟨w4, L5, rfl, h⟩
      refine g_bipush C 47 (by decide) dX5_term_26 ?_
      refine g_icmp_ne C 94 dX5_term_28 (by decide) (fun hc => ?_) (fun hc => ?_)
      · replace h := h.2 hc
        refine g_sub [1] rfl ?_
        exact k_X5_term_94 C ret hk x1 w4 L5 h
      · replace h := h.1 hc
        exact k_X5_term_31 C ret hk hr5 x1 w4 L5 h
theorem k_X5_term_5 {Γ : gT} {K : gK} {N : Nat} {post : Int32 → Wd → va_W → Prop} {d : Nat} {Bk : (Int32 → Wd → va_W → Prop) → Wd → va_W → Prop} (C : gC Γ K RX5 cX5_term 5 (rm_X5_term d)) (ret : gRi Γ K cX5_term (some .int) (mPi K post) 0 0) (hk : ∀ {p0 : Int32 → Wd → va_W → Prop} {w0 : Wd} {L0 : va_W}, Bk p0 w0 L0 → gMi Γ.l K yX5_sum cX5_sum 5 (some .int) (rm_X5_sum d) [.ref (ma K 0)] (mL K w0 ++ L0) (mPi K p0) 0 0) : ∀ (n : Nat) (x1 : Int32) (w : Wd) (L : va_W) (h : B_X5_term_5 Bk N post n x1 w L), gJ Γ K 0 0 (mL K w ++ L) 5 [(0, .ref (ma K 0)), (1, .int x1)] [] := by
  intro n
  induction n with
  | zero => intro x1 w L h; exact h.elim
  | succ n ih => intro x1 w L h; exact k_X5_term_5s C ret hk ih x1 w L h
def B_X5_term_0 (Bk : (Int32 → Wd → va_W → Prop) → Wd → va_W → Prop) (N : Nat) (post : Int32 → Wd → va_W → Prop) (w : Wd) (L : va_W) : Prop :=
  B_X5_atom Bk N (fun (v3 : Int32) (w1 : Wd) (L2 : va_W) =>
  B_X5_term_5 Bk N post N v3 w1 L2) w L
set_option maxHeartbeats 4000000 in
theorem k_X5_term_0 {Γ : gT} {K : gK} {N : Nat} {post : Int32 → Wd → va_W → Prop} {d : Nat} {Bk : (Int32 → Wd → va_W → Prop) → Wd → va_W → Prop} (C : gC Γ K RX5 cX5_term 5 (rm_X5_term d)) (ret : gRi Γ K cX5_term (some .int) (mPi K post) 0 0) (hk : ∀ {p0 : Int32 → Wd → va_W → Prop} {w0 : Wd} {L0 : va_W}, Bk p0 w0 L0 → gMi Γ.l K yX5_sum cX5_sum 5 (some .int) (rm_X5_sum d) [.ref (ma K 0)] (mL K w0 ++ L0) (mPi K p0) 0 0) (w : Wd) (L : va_W) (h : B_X5_term_0 Bk N post w L) : gJ Γ K 0 0 (mL K w ++ L) 0 [(0, .ref (ma K 0))] [] := by
  unfold B_X5_term_0 at h
  refine g_aload_n C 0 rfl dX5_term_0 ?_
  refine g_callVi C (As := []) (rest := []) (m_X5_atom hk h) (lw_V q1236 q1238 qs44 q84 q1239) (ci := 12) (qi := 0) rfl rfl ⟨rfl, rfl⟩ (by dsimp only [rm_X5_term, rm_X5_atom]; omega) 0 rfl (by decide +kernel) rfl (Nat.le_of_ble_eq_true rfl) ⟨Nat.zero_le _, Nat.zero_le _⟩ dX5_term_1 ?_
  rintro v3 _ ⟨w1, L2, rfl, h⟩
  refine g_istore_n C rfl (lt := [(1, .int v3), (0, .ref (ma K 0))]) dX5_term_4 (by decide) rfl ?_
  refine g_sub [1, 0] rfl ?_
  exact k_X5_term_5 C ret hk N v3 w1 L2 h
def B_X5_term (Bk : (Int32 → Wd → va_W → Prop) → Wd → va_W → Prop) (N : Nat) (post : Int32 → Wd → va_W → Prop) (w : Wd) (L : va_W) : Prop := B_X5_term_0 Bk N post w L
theorem m_X5_term {l : Launch} {K : gK} {N : Nat} {post : Int32 → Wd → va_W → Prop} {d : Nat} {Bk : (Int32 → Wd → va_W → Prop) → Wd → va_W → Prop} {w : Wd} {L : va_W} (hk : ∀ {p0 : Int32 → Wd → va_W → Prop} {w0 : Wd} {L0 : va_W}, Bk p0 w0 L0 → gMi l K yX5_sum cX5_sum 5 (some .int) (rm_X5_sum d) [.ref (ma K 0)] (mL K w0 ++ L0) (mPi K p0) 0 0) (h : B_X5_term Bk N post w L) : gMi l K yX5_term cX5_term 5 (some .int) (rm_X5_term d) [.ref (ma K 0)] (mL K w ++ L) (mPi K post) 0 0 := by
  refine g_inI (ls0 := [(0, .ref (ma K 0))]) (by decide) (Nat.le_of_ble_eq_true rfl) rfl (fun Γ hl C hn ret => ?_)
  subst hl
  exact k_X5_term_0 C ret hk w L h
def B_X5_sum_77 (Bk : (Int32 → Wd → va_W → Prop) → Wd → va_W → Prop) (r5 : Int32 → Wd → va_W → Prop) (N : Nat) (post : Int32 → Wd → va_W → Prop) (s0 : Int64) (w : Wd) (L : va_W) : Prop :=
  B_X5_within N s0 (fun (v3 : Int32) (w1 : Wd) (L2 : va_W) =>
  r5 v3 w1 L2) w L
set_option maxHeartbeats 4000000 in
theorem k_X5_sum_77 {Γ : gT} {K : gK} {N : Nat} {post : Int32 → Wd → va_W → Prop} {d : Nat} {Bk : (Int32 → Wd → va_W → Prop) → Wd → va_W → Prop} (C : gC Γ K RX5 cX5_sum 5 (rm_X5_sum (d + 1))) (ret : gRi Γ K cX5_sum (some .int) (mPi K post) 0 0) (hk : ∀ {p0 : Int32 → Wd → va_W → Prop} {w0 : Wd} {L0 : va_W}, Bk p0 w0 L0 → gMi Γ.l K yX5_sum cX5_sum 5 (some .int) (rm_X5_sum d) [.ref (ma K 0)] (mL K w0 ++ L0) (mPi K p0) 0 0) {r5 : Int32 → Wd → va_W → Prop} (hr5 : ∀ (x1 : Int32) (w : Wd) (L : va_W), r5 x1 w L → gJ Γ K 0 0 (mL K w ++ L) 5 [(0, .ref (ma K 0)), (1, .int x1)] []) (s0 : Int64) (w : Wd) (L : va_W) (h : B_X5_sum_77 Bk r5 N post s0 w L) : gJ Γ K 0 0 (mL K w ++ L) 77 [(0, .ref (ma K 0))] [.long s0] := by
  unfold B_X5_sum_77 at h
  refine g_callSi C (As := [.long s0]) (rest := []) (m_X5_within h) (Cn := "") (b := 0) (lw_S q1248 q1249 q84 q1250) ⟨rfl, rfl⟩ (by dsimp only [rm_X5_sum, rm_X5_within]; omega) 1 rfl (by decide +kernel) rfl (Nat.le_of_ble_eq_true rfl) ⟨Nat.zero_le _, Nat.zero_le _⟩ dX5_sum_77 ?_
  rintro v3 _ ⟨w1, L2, rfl, h⟩
  refine g_istore_n C rfl (lt := [(1, .int v3), (0, .ref (ma K 0))]) dX5_sum_80 (by decide) rfl ?_
  refine g_goto C 5 dX5_sum_81 (by decide) ?_
  refine g_sub [1, 0] rfl ?_
  exact hr5 v3 w1 L2 h
def B_X5_sum_45 (Bk : (Int32 → Wd → va_W → Prop) → Wd → va_W → Prop) (r5 : Int32 → Wd → va_W → Prop) (N : Nat) (post : Int32 → Wd → va_W → Prop) (x1 : Int32) (s0 : Int32) (w : Wd) (L : va_W) : Prop :=
  B_X5_term Bk N (fun (v3 : Int32) (w1 : Wd) (L2 : va_W) =>
  (s0 = 0 →
    B_X5_sum_77 Bk r5 N post (x1.toInt64 - v3.toInt64) w1 L2) ∧
  (¬ s0 = 0 →
    B_X5_sum_77 Bk r5 N post (x1.toInt64 + v3.toInt64) w1 L2)) (xsi w 5 ((xi w 5) + 1)) L
set_option maxHeartbeats 4000000 in
theorem k_X5_sum_45 {Γ : gT} {K : gK} {N : Nat} {post : Int32 → Wd → va_W → Prop} {d : Nat} {Bk : (Int32 → Wd → va_W → Prop) → Wd → va_W → Prop} (C : gC Γ K RX5 cX5_sum 5 (rm_X5_sum (d + 1))) (ret : gRi Γ K cX5_sum (some .int) (mPi K post) 0 0) (hk : ∀ {p0 : Int32 → Wd → va_W → Prop} {w0 : Wd} {L0 : va_W}, Bk p0 w0 L0 → gMi Γ.l K yX5_sum cX5_sum 5 (some .int) (rm_X5_sum d) [.ref (ma K 0)] (mL K w0 ++ L0) (mPi K p0) 0 0) {r5 : Int32 → Wd → va_W → Prop} (hr5 : ∀ (x1 : Int32) (w : Wd) (L : va_W), r5 x1 w L → gJ Γ K 0 0 (mL K w ++ L) 5 [(0, .ref (ma K 0)), (1, .int x1)] []) (x1 : Int32) (s0 : Int32) (w : Wd) (L : va_W) (h : B_X5_sum_45 Bk r5 N post x1 s0 w L) : gJ Γ K 0 0 (mL K w ++ L) 45 [(0, .ref (ma K 0)), (1, .int x1)] [.int s0] := by
  unfold B_X5_sum_45 at h
  refine g_istore_n C rfl (lt := [(2, .int s0), (0, .ref (ma K 0)), (1, .int x1)]) dX5_sum_45 (by decide) rfl ?_
  refine g_aload_n C 1 rfl dX5_sum_46 ?_
  refine g_dup C rfl dX5_sum_47 ?_
  refine mg_at C q1006 (xi w 5) rfl dX5_sum_48 ?_
  refine g_iconst C 1 (by decide) dX5_sum_51 ?_
  refine g_iadd C dX5_sum_52 ?_
  refine mp_at C q1006 dX5_sum_53 ?_
  refine g_aload_n C 1 rfl dX5_sum_56 ?_
  refine g_callVi C (As := []) (rest := []) (m_X5_term hk h) (lw_V q1232 q1234 qs43 q84 q1235) (ci := 12) (qi := 0) rfl rfl ⟨rfl, rfl⟩ (by dsimp only [rm_X5_sum, rm_X5_term]; omega) 0 rfl (by decide +kernel) rfl (Nat.le_of_ble_eq_true rfl) ⟨Nat.zero_le _, Nat.zero_le _⟩ dX5_sum_57 ?_
  rintro v3 _ ⟨w1, L2, rfl, h⟩
  refine g_i2l C dX5_sum_60 ?_
  refine g_lstore_n C rfl (lt := [(3, .long v3.toInt64), (2, .int s0), (0, .ref (ma K 0)), (1, .int x1)]) dX5_sum_61 (by decide) rfl ?_
  refine g_iload_n C 1 rfl dX5_sum_62 ?_
  refine g_if_eq C 73 dX5_sum_63 (by decide) (fun hc => ?_) (fun hc => ?_)
  · replace h := h.1 hc
    refine g_iload_n C 3 rfl dX5_sum_73 ?_
    refine g_i2l C dX5_sum_74 ?_
    refine g_lload_n C 0 rfl dX5_sum_75 ?_
    refine g_lsub C dX5_sum_76 ?_
    refine g_sub [2] rfl ?_
    exact k_X5_sum_77 C ret hk hr5 (x1.toInt64 - v3.toInt64) w1 L2 h
  · replace h := h.2 hc
    refine g_iload_n C 3 rfl dX5_sum_66 ?_
    refine g_i2l C dX5_sum_67 ?_
    refine g_lload_n C 0 rfl dX5_sum_68 ?_
    refine g_ladd C dX5_sum_69 ?_
    refine g_goto C 77 dX5_sum_70 (by decide) ?_
    refine g_sub [2] rfl ?_
    exact k_X5_sum_77 C ret hk hr5 (x1.toInt64 + v3.toInt64) w1 L2 h
def B_X5_sum_31 (Bk : (Int32 → Wd → va_W → Prop) → Wd → va_W → Prop) (r5 : Int32 → Wd → va_W → Prop) (N : Nat) (post : Int32 → Wd → va_W → Prop) (x1 : Int32) (w : Wd) (L : va_W) : Prop :=
  B_X5_look N (fun (v3 : Int32) (w1 : Wd) (L2 : va_W) =>
  (v3 = (43 : Int32) →
    B_X5_sum_45 Bk r5 N post x1 1 w1 L2) ∧
  (¬ v3 = (43 : Int32) →
    B_X5_sum_45 Bk r5 N post x1 0 w1 L2)) w L
set_option maxHeartbeats 4000000 in
theorem k_X5_sum_31 {Γ : gT} {K : gK} {N : Nat} {post : Int32 → Wd → va_W → Prop} {d : Nat} {Bk : (Int32 → Wd → va_W → Prop) → Wd → va_W → Prop} (C : gC Γ K RX5 cX5_sum 5 (rm_X5_sum (d + 1))) (ret : gRi Γ K cX5_sum (some .int) (mPi K post) 0 0) (hk : ∀ {p0 : Int32 → Wd → va_W → Prop} {w0 : Wd} {L0 : va_W}, Bk p0 w0 L0 → gMi Γ.l K yX5_sum cX5_sum 5 (some .int) (rm_X5_sum d) [.ref (ma K 0)] (mL K w0 ++ L0) (mPi K p0) 0 0) {r5 : Int32 → Wd → va_W → Prop} (hr5 : ∀ (x1 : Int32) (w : Wd) (L : va_W), r5 x1 w L → gJ Γ K 0 0 (mL K w ++ L) 5 [(0, .ref (ma K 0)), (1, .int x1)] []) (x1 : Int32) (w : Wd) (L : va_W) (h : B_X5_sum_31 Bk r5 N post x1 w L) : gJ Γ K 0 0 (mL K w ++ L) 31 [(0, .ref (ma K 0)), (1, .int x1)] [] := by
  unfold B_X5_sum_31 at h
  refine g_aload_n C 0 rfl dX5_sum_31 ?_
  refine g_callVi C (As := []) (rest := []) (m_X5_look h) (lw_V q1199 q1201 qs36 q84 q1202) (ci := 12) (qi := 0) rfl rfl ⟨rfl, rfl⟩ (by dsimp only [rm_X5_sum, rm_X5_look]; omega) 0 rfl (by decide +kernel) rfl (Nat.le_of_ble_eq_true rfl) ⟨Nat.zero_le _, Nat.zero_le _⟩ dX5_sum_32 ?_
  rintro v3 _ ⟨w1, L2, rfl, h⟩
  refine g_bipush C 43 (by decide) dX5_sum_35 ?_
  refine g_icmp_ne C 44 dX5_sum_37 (by decide) (fun hc => ?_) (fun hc => ?_)
  · replace h := h.2 hc
    refine g_iconst C 0 (by decide) dX5_sum_44 ?_
    exact k_X5_sum_45 C ret hk hr5 x1 0 w1 L2 h
  · replace h := h.1 hc
    refine g_iconst C 1 (by decide) dX5_sum_40 ?_
    refine g_goto C 45 dX5_sum_41 (by decide) ?_
    exact k_X5_sum_45 C ret hk hr5 x1 1 w1 L2 h
def B_X5_sum_84 (Bk : (Int32 → Wd → va_W → Prop) → Wd → va_W → Prop) (N : Nat) (post : Int32 → Wd → va_W → Prop) (x1 : Int32) (w : Wd) (L : va_W) : Prop :=
  post x1 w L
set_option maxHeartbeats 4000000 in
theorem k_X5_sum_84 {Γ : gT} {K : gK} {N : Nat} {post : Int32 → Wd → va_W → Prop} {d : Nat} {Bk : (Int32 → Wd → va_W → Prop) → Wd → va_W → Prop} (C : gC Γ K RX5 cX5_sum 5 (rm_X5_sum (d + 1))) (ret : gRi Γ K cX5_sum (some .int) (mPi K post) 0 0) (hk : ∀ {p0 : Int32 → Wd → va_W → Prop} {w0 : Wd} {L0 : va_W}, Bk p0 w0 L0 → gMi Γ.l K yX5_sum cX5_sum 5 (some .int) (rm_X5_sum d) [.ref (ma K 0)] (mL K w0 ++ L0) (mPi K p0) 0 0) (x1 : Int32) (w : Wd) (L : va_W) (h : B_X5_sum_84 Bk N post x1 w L) : gJ Γ K 0 0 (mL K w ++ L) 84 [(1, .int x1)] [] := by
  unfold B_X5_sum_84 at h
  refine g_iload_n C 0 rfl dX5_sum_84 ?_
  exact ret _ _ _ _ _ rfl rfl dX5_sum_85 ⟨_, _, rfl, h⟩
def B_X5_sum_5s (Bk : (Int32 → Wd → va_W → Prop) → Wd → va_W → Prop) (r5 : Int32 → Wd → va_W → Prop) (N : Nat) (post : Int32 → Wd → va_W → Prop) (x1 : Int32) (w : Wd) (L : va_W) : Prop :=
  ((xi w 6) = (-1 : Int32) →
    B_X5_look N (fun (v3 : Int32) (w1 : Wd) (L2 : va_W) =>
  (v3 = (43 : Int32) →
      B_X5_sum_31 Bk r5 N post x1 w1 L2) ∧
    (¬ v3 = (43 : Int32) →
      B_X5_look N (fun (v6 : Int32) (w4 : Wd) (L5 : va_W) =>
  (v6 = (45 : Int32) →
        B_X5_sum_31 Bk r5 N post x1 w4 L5) ∧
      (¬ v6 = (45 : Int32) →
        B_X5_sum_84 Bk N post x1 w4 L5)) w1 L2)) w L) ∧
  (¬ (xi w 6) = (-1 : Int32) →
    B_X5_sum_84 Bk N post x1 w L)
def B_X5_sum_5 (Bk : (Int32 → Wd → va_W → Prop) → Wd → va_W → Prop) (N : Nat) (post : Int32 → Wd → va_W → Prop) : Nat → Int32 → Wd → va_W → Prop
  | 0, _, _, _ => False
  | n + 1, x1, w, L => B_X5_sum_5s Bk (B_X5_sum_5 Bk N post n) N post x1 w L
set_option maxHeartbeats 4000000 in
theorem k_X5_sum_5s {Γ : gT} {K : gK} {N : Nat} {post : Int32 → Wd → va_W → Prop} {d : Nat} {Bk : (Int32 → Wd → va_W → Prop) → Wd → va_W → Prop} (C : gC Γ K RX5 cX5_sum 5 (rm_X5_sum (d + 1))) (ret : gRi Γ K cX5_sum (some .int) (mPi K post) 0 0) (hk : ∀ {p0 : Int32 → Wd → va_W → Prop} {w0 : Wd} {L0 : va_W}, Bk p0 w0 L0 → gMi Γ.l K yX5_sum cX5_sum 5 (some .int) (rm_X5_sum d) [.ref (ma K 0)] (mL K w0 ++ L0) (mPi K p0) 0 0) {r5 : Int32 → Wd → va_W → Prop} (hr5 : ∀ (x1 : Int32) (w : Wd) (L : va_W), r5 x1 w L → gJ Γ K 0 0 (mL K w ++ L) 5 [(0, .ref (ma K 0)), (1, .int x1)] []) (x1 : Int32) (w : Wd) (L : va_W) (h : B_X5_sum_5s Bk r5 N post x1 w L) : gJ Γ K 0 0 (mL K w ++ L) 5 [(0, .ref (ma K 0)), (1, .int x1)] [] := by
  unfold B_X5_sum_5s at h
  refine g_aload_n C 0 rfl dX5_sum_5 ?_
  refine mg_fault C q1007 (xi w 6) rfl dX5_sum_6 ?_
  refine g_iconst C (-1) (by decide) dX5_sum_9 ?_
  refine g_icmp_ne C 84 dX5_sum_10 (by decide) (fun hc => ?_) (fun hc => ?_)
  · replace h := h.2 hc
    refine g_sub [1] rfl ?_
    exact k_X5_sum_84 C ret hk x1 w L h
  · replace h := h.1 hc
    refine g_aload_n C 0 rfl dX5_sum_13 ?_
    refine g_callVi C (As := []) (rest := []) (m_X5_look h) (lw_V q1199 q1201 qs36 q84 q1202) (ci := 12) (qi := 0) rfl rfl ⟨rfl, rfl⟩ (by dsimp only [rm_X5_sum, rm_X5_look]; omega) 0 rfl (by decide +kernel) rfl (Nat.le_of_ble_eq_true rfl) ⟨Nat.zero_le _, Nat.zero_le _⟩ dX5_sum_14 ?_
    rintro v3 _ ⟨w1, L2, rfl, h⟩
    refine g_bipush C 43 (by decide) dX5_sum_17 ?_
    refine g_icmp_eq C 31 dX5_sum_19 (by decide) (fun hc => ?_) (fun hc => ?_)
    · replace h := h.1 hc
      exact k_X5_sum_31 C ret hk hr5 x1 w1 L2 h
    · replace h := h.2 hc
      refine g_aload_n C 0 rfl dX5_sum_22 ?_
      refine g_callVi C (As := []) (rest := []) (m_X5_look h) (lw_V q1199 q1201 qs36 q84 q1202) (ci := 12) (qi := 0) rfl rfl ⟨rfl, rfl⟩ (by dsimp only [rm_X5_sum, rm_X5_look]; omega) 0 rfl (by decide +kernel) rfl (Nat.le_of_ble_eq_true rfl) ⟨Nat.zero_le _, Nat.zero_le _⟩ dX5_sum_23 ?_
      rintro v6 _ ⟨w4, L5, rfl, h⟩
      refine g_bipush C 45 (by decide) dX5_sum_26 ?_
      refine g_icmp_ne C 84 dX5_sum_28 (by decide) (fun hc => ?_) (fun hc => ?_)
      · replace h := h.2 hc
        refine g_sub [1] rfl ?_
        exact k_X5_sum_84 C ret hk x1 w4 L5 h
      · replace h := h.1 hc
        exact k_X5_sum_31 C ret hk hr5 x1 w4 L5 h
theorem k_X5_sum_5 {Γ : gT} {K : gK} {N : Nat} {post : Int32 → Wd → va_W → Prop} {d : Nat} {Bk : (Int32 → Wd → va_W → Prop) → Wd → va_W → Prop} (C : gC Γ K RX5 cX5_sum 5 (rm_X5_sum (d + 1))) (ret : gRi Γ K cX5_sum (some .int) (mPi K post) 0 0) (hk : ∀ {p0 : Int32 → Wd → va_W → Prop} {w0 : Wd} {L0 : va_W}, Bk p0 w0 L0 → gMi Γ.l K yX5_sum cX5_sum 5 (some .int) (rm_X5_sum d) [.ref (ma K 0)] (mL K w0 ++ L0) (mPi K p0) 0 0) : ∀ (n : Nat) (x1 : Int32) (w : Wd) (L : va_W) (h : B_X5_sum_5 Bk N post n x1 w L), gJ Γ K 0 0 (mL K w ++ L) 5 [(0, .ref (ma K 0)), (1, .int x1)] [] := by
  intro n
  induction n with
  | zero => intro x1 w L h; exact h.elim
  | succ n ih => intro x1 w L h; exact k_X5_sum_5s C ret hk ih x1 w L h
def B_X5_sum_0 (Bk : (Int32 → Wd → va_W → Prop) → Wd → va_W → Prop) (N : Nat) (post : Int32 → Wd → va_W → Prop) (w : Wd) (L : va_W) : Prop :=
  B_X5_term Bk N (fun (v3 : Int32) (w1 : Wd) (L2 : va_W) =>
  B_X5_sum_5 Bk N post N v3 w1 L2) w L
set_option maxHeartbeats 4000000 in
theorem k_X5_sum_0 {Γ : gT} {K : gK} {N : Nat} {post : Int32 → Wd → va_W → Prop} {d : Nat} {Bk : (Int32 → Wd → va_W → Prop) → Wd → va_W → Prop} (C : gC Γ K RX5 cX5_sum 5 (rm_X5_sum (d + 1))) (ret : gRi Γ K cX5_sum (some .int) (mPi K post) 0 0) (hk : ∀ {p0 : Int32 → Wd → va_W → Prop} {w0 : Wd} {L0 : va_W}, Bk p0 w0 L0 → gMi Γ.l K yX5_sum cX5_sum 5 (some .int) (rm_X5_sum d) [.ref (ma K 0)] (mL K w0 ++ L0) (mPi K p0) 0 0) (w : Wd) (L : va_W) (h : B_X5_sum_0 Bk N post w L) : gJ Γ K 0 0 (mL K w ++ L) 0 [(0, .ref (ma K 0))] [] := by
  unfold B_X5_sum_0 at h
  refine g_aload_n C 0 rfl dX5_sum_0 ?_
  refine g_callVi C (As := []) (rest := []) (m_X5_term hk h) (lw_V q1232 q1234 qs43 q84 q1235) (ci := 12) (qi := 0) rfl rfl ⟨rfl, rfl⟩ (by dsimp only [rm_X5_sum, rm_X5_term]; omega) 0 rfl (by decide +kernel) rfl (Nat.le_of_ble_eq_true rfl) ⟨Nat.zero_le _, Nat.zero_le _⟩ dX5_sum_1 ?_
  rintro v3 _ ⟨w1, L2, rfl, h⟩
  refine g_istore_n C rfl (lt := [(1, .int v3), (0, .ref (ma K 0))]) dX5_sum_4 (by decide) rfl ?_
  refine g_sub [1, 0] rfl ?_
  exact k_X5_sum_5 C ret hk N v3 w1 L2 h
def B_X5_sum1 (Bk : (Int32 → Wd → va_W → Prop) → Wd → va_W → Prop) (N : Nat) (post : Int32 → Wd → va_W → Prop) (w : Wd) (L : va_W) : Prop := B_X5_sum_0 Bk N post w L
theorem m_X5_sum1 {l : Launch} {K : gK} {N : Nat} {post : Int32 → Wd → va_W → Prop} {d : Nat} {Bk : (Int32 → Wd → va_W → Prop) → Wd → va_W → Prop} {w : Wd} {L : va_W} (hk : ∀ {p0 : Int32 → Wd → va_W → Prop} {w0 : Wd} {L0 : va_W}, Bk p0 w0 L0 → gMi l K yX5_sum cX5_sum 5 (some .int) (rm_X5_sum d) [.ref (ma K 0)] (mL K w0 ++ L0) (mPi K p0) 0 0) (h : B_X5_sum1 Bk N post w L) : gMi l K yX5_sum cX5_sum 5 (some .int) (rm_X5_sum (d + 1)) [.ref (ma K 0)] (mL K w ++ L) (mPi K post) 0 0 := by
  refine g_inI (ls0 := [(0, .ref (ma K 0))]) (by decide) (Nat.le_of_ble_eq_true rfl) rfl (fun Γ hl C hn ret => ?_)
  subst hl
  exact k_X5_sum_0 C ret hk w L h
def B_X5_sumd (N : Nat) : Nat → (Int32 → Wd → va_W → Prop) → Wd → va_W → Prop
  | 0, _, _, _ => False
  | d + 1, p0, w0, L0 => B_X5_sum1 (B_X5_sumd N d) N p0 w0 L0
theorem m_X5_sumd {l : Launch} {K : gK} {N : Nat} : ∀ (d : Nat) {p0 : Int32 → Wd → va_W → Prop} {w0 : Wd} {L0 : va_W}, B_X5_sumd N d p0 w0 L0 → gMi l K yX5_sum cX5_sum 5 (some .int) (rm_X5_sum d) [.ref (ma K 0)] (mL K w0 ++ L0) (mPi K p0) 0 0 := by
  intro d
  induction d with
  | zero => intro  p0 w0 L0 h; exact h.elim
  | succ d ih => intro  p0 w0 L0 h; exact m_X5_sum1 (d := d) (Bk := B_X5_sumd N d) (N := N) (post := p0) (w := w0) (L := L0) (hk := ih) h
def B_X5_sum (N : Nat) (p0 : Int32 → Wd → va_W → Prop) (w0 : Wd) (L0 : va_W) : Prop := B_X5_sumd N 8 p0 w0 L0
theorem m_X5_sum {l : Launch} {K : gK} {N : Nat} {p0 : Int32 → Wd → va_W → Prop} {w0 : Wd} {L0 : va_W} (h : B_X5_sum N p0 w0 L0) : gMi l K yX5_sum cX5_sum 5 (some .int) (rm_X5_sum 8) [.ref (ma K 0)] (mL K w0 ++ L0) (mPi K p0) 0 0 := m_X5_sumd 8 h
def B_X5_atom_out (N : Nat) (p0 : Int32 → Wd → va_W → Prop) (w0 : Wd) (L0 : va_W) : Prop := B_X5_atom (B_X5_sumd N 8) N p0 w0 L0
theorem m_X5_atom_out {l : Launch} {K : gK} {N : Nat} {p0 : Int32 → Wd → va_W → Prop} {w0 : Wd} {L0 : va_W} (h : B_X5_atom_out N p0 w0 L0) : gMi l K yX5_atom cX5_atom 4 (some .int) (rm_X5_atom 8) [.ref (ma K 0)] (mL K w0 ++ L0) (mPi K p0) 0 0 := m_X5_atom (d := 8) (hk := m_X5_sumd 8) h
def B_X5_term_out (N : Nat) (p0 : Int32 → Wd → va_W → Prop) (w0 : Wd) (L0 : va_W) : Prop := B_X5_term (B_X5_sumd N 8) N p0 w0 L0
theorem m_X5_term_out {l : Launch} {K : gK} {N : Nat} {p0 : Int32 → Wd → va_W → Prop} {w0 : Wd} {L0 : va_W} (h : B_X5_term_out N p0 w0 L0) : gMi l K yX5_term cX5_term 5 (some .int) (rm_X5_term 8) [.ref (ma K 0)] (mL K w0 ++ L0) (mPi K p0) 0 0 := m_X5_term (d := 8) (hk := m_X5_sumd 8) h
def rm_X5_compares : Room := { frames := 30, cells := 0, slots := 0, locals := 707 }
def B_X5_compares_111 (N : Nat) (post : Int32 → Wd → va_W → Prop) (s0 : Int32) (w : Wd) (L : va_W) : Prop :=
  gZ s0 ∧ post s0 w L
set_option maxHeartbeats 4000000 in
theorem k_X5_compares_111 {Γ : gT} {K : gK} {N : Nat} {post : Int32 → Wd → va_W → Prop} (C : gC Γ K RX5 cX5_compares 6 rm_X5_compares) (ret : gRi Γ K cX5_compares (some .boolean) (mPi K post) 0 0) (s0 : Int32) (w : Wd) (L : va_W) (h : B_X5_compares_111 N post s0 w L) : gJ Γ K 0 0 (mL K w ++ L) 111 [] [.int s0] := by
  unfold B_X5_compares_111 at h
  obtain ⟨hz, h⟩ := h
  exact ret _ _ _ _ _ rfl hz.n dX5_compares_111 ⟨_, _, rfl, h⟩
def B_X5_compares_12 (N : Nat) (post : Int32 → Wd → va_W → Prop) (s0 : Int32) (w : Wd) (L : va_W) : Prop :=
  ((xi w 6) = (-1 : Int32) →
    B_X5_look N (fun (v3 : Int32) (w1 : Wd) (L2 : va_W) =>
  B_X5_isSign N v3 (fun (v6 : Int32) (w4 : Wd) (L5 : va_W) =>
  (v6 = 0 →
      B_X5_fails N (fun (v12 : Int32) (w10 : Wd) (L11 : va_W) =>
  gZ v12 ∧ post v12 w10 L11) w4 L5) ∧
    (¬ v6 = 0 →
      B_X5_sum N (fun (v9 : Int32) (w7 : Wd) (L8 : va_W) =>
  (v3 = (61 : Int32) →
        (s0 = v9 →
          B_X5_compares_111 N post 1 w7 L8) ∧
        (¬ s0 = v9 →
          B_X5_compares_111 N post 0 w7 L8)) ∧
      (¬ v3 = (61 : Int32) →
        (v3 = (60 : Int32) →
          (v9 ≤ s0 →
            B_X5_compares_111 N post 0 w7 L8) ∧
          (¬ v9 ≤ s0 →
            B_X5_compares_111 N post 1 w7 L8)) ∧
        (¬ v3 = (60 : Int32) →
          (s0 ≤ v9 →
            B_X5_compares_111 N post 0 w7 L8) ∧
          (¬ s0 ≤ v9 →
            B_X5_compares_111 N post 1 w7 L8)))) (xsi w4 5 ((xi w4 5) + 1)) L5)) w1 L2) w L) ∧
  (¬ (xi w 6) = (-1 : Int32) →
    post 0 w L)
set_option maxHeartbeats 4000000 in
theorem k_X5_compares_12 {Γ : gT} {K : gK} {N : Nat} {post : Int32 → Wd → va_W → Prop} (C : gC Γ K RX5 cX5_compares 6 rm_X5_compares) (ret : gRi Γ K cX5_compares (some .boolean) (mPi K post) 0 0) (s0 : Int32) (w : Wd) (L : va_W) (h : B_X5_compares_12 N post s0 w L) : gJ Γ K 0 0 (mL K w ++ L) 12 [(0, .ref (ma K 0))] [.int s0] := by
  unfold B_X5_compares_12 at h
  refine g_istore_n C rfl (lt := [(3, .int s0), (0, .ref (ma K 0))]) dX5_compares_12 (by decide) rfl ?_
  refine g_aload_n C 1 rfl dX5_compares_13 ?_
  refine mg_fault C q1007 (xi w 6) rfl dX5_compares_14 ?_
  refine g_iconst C (-1) (by decide) dX5_compares_17 ?_
  refine g_icmp_eq C 23 dX5_compares_18 (by decide) (fun hc => ?_) (fun hc => ?_)
  · replace h := h.1 hc
    refine g_aload_n C 1 rfl dX5_compares_23 ?_
    refine g_callVi C (As := []) (rest := []) (m_X5_look h) (lw_V q1199 q1201 qs36 q84 q1202) (ci := 12) (qi := 0) rfl rfl ⟨rfl, rfl⟩ ⟨Nat.le_of_ble_eq_true rfl, Nat.le_of_ble_eq_true rfl⟩ 0 rfl (by decide +kernel) rfl (Nat.le_of_ble_eq_true rfl) ⟨Nat.zero_le _, Nat.zero_le _⟩ dX5_compares_24 ?_
    rintro v3 _ ⟨w1, L2, rfl, h⟩
    refine g_istore C (lt := [(4, .int v3), (3, .int s0), (0, .ref (ma K 0))]) dX5_compares_27 (by decide) rfl ?_
    refine g_iload C 0 rfl dX5_compares_29 ?_
    refine g_callSi C (As := [.int v3]) (rest := []) (m_X5_isSign h) (Cn := "") (b := 0) (lw_S q1255 q1256 q84 q1257) ⟨rfl, rfl⟩ ⟨Nat.le_of_ble_eq_true rfl, Nat.le_of_ble_eq_true rfl⟩ 1 rfl (by decide +kernel) rfl (Nat.le_of_ble_eq_true rfl) ⟨Nat.zero_le _, Nat.zero_le _⟩ dX5_compares_31 ?_
    rintro v6 _ ⟨w4, L5, rfl, h⟩
    refine g_if_ne C 42 dX5_compares_34 (by decide) (fun hc => ?_) (fun hc => ?_)
    · replace h := h.2 hc
      refine g_aload_n C 2 rfl dX5_compares_42 ?_
      refine g_dup C rfl dX5_compares_43 ?_
      refine mg_at C q1006 (xi w4 5) rfl dX5_compares_44 ?_
      refine g_iconst C 1 (by decide) dX5_compares_47 ?_
      refine g_iadd C dX5_compares_48 ?_
      refine mp_at C q1006 dX5_compares_49 ?_
      refine g_aload_n C 2 rfl dX5_compares_52 ?_
      refine g_callVi C (As := []) (rest := []) (m_X5_sum h) (lw_V q1228 q1230 qs42 q84 q1231) (ci := 12) (qi := 0) rfl rfl ⟨rfl, rfl⟩ ⟨Nat.le_of_ble_eq_true rfl, Nat.le_of_ble_eq_true rfl⟩ 0 rfl (by decide +kernel) rfl (Nat.le_of_ble_eq_true rfl) ⟨Nat.zero_le _, Nat.zero_le _⟩ dX5_compares_53 ?_
      rintro v9 _ ⟨w7, L8, rfl, h⟩
      refine g_istore C (lt := [(5, .int v9), (4, .int v3), (3, .int s0), (0, .ref (ma K 0))]) dX5_compares_56 (by decide) rfl ?_
      refine g_iload C 1 rfl dX5_compares_58 ?_
      refine g_bipush C 61 (by decide) dX5_compares_60 ?_
      refine g_icmp_ne C 79 dX5_compares_62 (by decide) (fun hc => ?_) (fun hc => ?_)
      · replace h := h.2 hc
        refine g_iload C 1 rfl dX5_compares_79 ?_
        refine g_bipush C 60 (by decide) dX5_compares_81 ?_
        refine g_icmp_ne C 100 dX5_compares_83 (by decide) (fun hc => ?_) (fun hc => ?_)
        · replace h := h.2 hc
          refine g_iload_n C 2 rfl dX5_compares_100 ?_
          refine g_iload C 0 rfl dX5_compares_101 ?_
          refine g_icmp_le C 110 dX5_compares_103 (by decide) (fun hc => ?_) (fun hc => ?_)
          · replace h := h.1 hc
            refine g_iconst C 0 (by decide) dX5_compares_110 ?_
            refine g_sub [] rfl ?_
            exact k_X5_compares_111 C ret 0 w7 L8 h
          · replace h := h.2 hc
            refine g_iconst C 1 (by decide) dX5_compares_106 ?_
            refine g_goto C 111 dX5_compares_107 (by decide) ?_
            refine g_sub [] rfl ?_
            exact k_X5_compares_111 C ret 1 w7 L8 h
        · replace h := h.1 hc
          refine g_iload_n C 2 rfl dX5_compares_86 ?_
          refine g_iload C 0 rfl dX5_compares_87 ?_
          refine g_icmp_ge C 96 dX5_compares_89 (by decide) (fun hc => ?_) (fun hc => ?_)
          · replace h := h.1 hc
            refine g_iconst C 0 (by decide) dX5_compares_96 ?_
            refine g_goto C 111 dX5_compares_97 (by decide) ?_
            refine g_sub [] rfl ?_
            exact k_X5_compares_111 C ret 0 w7 L8 h
          · replace h := h.2 hc
            refine g_iconst C 1 (by decide) dX5_compares_92 ?_
            refine g_goto C 111 dX5_compares_93 (by decide) ?_
            refine g_sub [] rfl ?_
            exact k_X5_compares_111 C ret 1 w7 L8 h
      · replace h := h.1 hc
        refine g_iload_n C 2 rfl dX5_compares_65 ?_
        refine g_iload C 0 rfl dX5_compares_66 ?_
        refine g_icmp_ne C 75 dX5_compares_68 (by decide) (fun hc => ?_) (fun hc => ?_)
        · replace h := h.2 hc
          refine g_iconst C 0 (by decide) dX5_compares_75 ?_
          refine g_goto C 111 dX5_compares_76 (by decide) ?_
          refine g_sub [] rfl ?_
          exact k_X5_compares_111 C ret 0 w7 L8 h
        · replace h := h.1 hc
          refine g_iconst C 1 (by decide) dX5_compares_71 ?_
          refine g_goto C 111 dX5_compares_72 (by decide) ?_
          refine g_sub [] rfl ?_
          exact k_X5_compares_111 C ret 1 w7 L8 h
    · replace h := h.1 hc
      refine g_aload_n C 2 rfl dX5_compares_37 ?_
      refine g_callVi C (As := []) (rest := []) (m_X5_fails h) (lw_V q1208 q1210 qs37 q84 q1211) (ci := 12) (qi := 0) rfl rfl ⟨rfl, rfl⟩ ⟨Nat.le_of_ble_eq_true rfl, Nat.le_of_ble_eq_true rfl⟩ 0 rfl (by decide +kernel) rfl (Nat.le_of_ble_eq_true rfl) ⟨Nat.zero_le _, Nat.zero_le _⟩ dX5_compares_38 ?_
      rintro v12 _ ⟨w10, L11, rfl, h⟩
      obtain ⟨hz, h⟩ := h
      exact ret _ _ _ _ _ rfl hz.n dX5_compares_41 ⟨_, _, rfl, h⟩
  · replace h := h.2 hc
    refine g_iconst C 0 (by decide) dX5_compares_21 ?_
    exact ret _ _ _ _ _ rfl (gZ.n (Or.inl rfl)) dX5_compares_22 ⟨_, _, rfl, h⟩
def B_X5_compares_0 (N : Nat) (post : Int32 → Wd → va_W → Prop) (x1 : Int32) (x2 : Int32) (w : Wd) (L : va_W) : Prop :=
  (x1 = 0 →
    B_X5_sum N (fun (v3 : Int32) (w1 : Wd) (L2 : va_W) =>
  B_X5_compares_12 N post v3 w1 L2) w L) ∧
  (¬ x1 = 0 →
    B_X5_compares_12 N post x2 w L)
set_option maxHeartbeats 4000000 in
theorem k_X5_compares_0 {Γ : gT} {K : gK} {N : Nat} {post : Int32 → Wd → va_W → Prop} (C : gC Γ K RX5 cX5_compares 6 rm_X5_compares) (ret : gRi Γ K cX5_compares (some .boolean) (mPi K post) 0 0) (x1 : Int32) (x2 : Int32) (w : Wd) (L : va_W) (h : B_X5_compares_0 N post x1 x2 w L) : gJ Γ K 0 0 (mL K w ++ L) 0 [(0, .ref (ma K 0)), (1, .int x1), (2, .int x2)] [] := by
  unfold B_X5_compares_0 at h
  refine g_iload_n C 1 rfl dX5_compares_0 ?_
  refine g_if_eq C 8 dX5_compares_1 (by decide) (fun hc => ?_) (fun hc => ?_)
  · replace h := h.1 hc
    refine g_aload_n C 0 rfl dX5_compares_8 ?_
    refine g_callVi C (As := []) (rest := []) (m_X5_sum h) (lw_V q1228 q1230 qs42 q84 q1231) (ci := 12) (qi := 0) rfl rfl ⟨rfl, rfl⟩ ⟨Nat.le_of_ble_eq_true rfl, Nat.le_of_ble_eq_true rfl⟩ 0 rfl (by decide +kernel) rfl (Nat.le_of_ble_eq_true rfl) ⟨Nat.zero_le _, Nat.zero_le _⟩ dX5_compares_9 ?_
    rintro v3 _ ⟨w1, L2, rfl, h⟩
    refine g_sub [0] rfl ?_
    exact k_X5_compares_12 C ret v3 w1 L2 h
  · replace h := h.2 hc
    refine g_iload_n C 2 rfl dX5_compares_4 ?_
    refine g_goto C 12 dX5_compares_5 (by decide) ?_
    refine g_sub [0] rfl ?_
    exact k_X5_compares_12 C ret x2 w L h
def B_X5_compares (N : Nat) (x1 : Int32) (x2 : Int32) (post : Int32 → Wd → va_W → Prop) (w : Wd) (L : va_W) : Prop := B_X5_compares_0 N post x1 x2 w L
theorem m_X5_compares {l : Launch} {K : gK} {N : Nat} {post : Int32 → Wd → va_W → Prop} {x1 : Int32} {x2 : Int32} {w : Wd} {L : va_W} (h : B_X5_compares N x1 x2 post w L) : gMi l K yX5_compares cX5_compares 6 (some .boolean) rm_X5_compares [.ref (ma K 0), .int x1, .int x2] (mL K w ++ L) (mPi K post) 0 0 := by
  refine g_inI (ls0 := [(0, .ref (ma K 0)), (1, .int x1), (2, .int x2)]) (by decide) (Nat.le_of_ble_eq_true rfl) rfl (fun Γ hl C hn ret => ?_)
  exact k_X5_compares_0 C ret x1 x2 w L h
def rm_X5_part (d : Nat) : Room := { frames := 3 * d + 32, cells := 0, slots := 0, locals := 72 * d + 756 }
def rm_X5_condition (d : Nat) : Room := { frames := 3 * d + 33, cells := 0, slots := 0, locals := 72 * d + 780 }
def rm_X5_unit (d : Nat) : Room := { frames := 3 * d + 31, cells := 0, slots := 0, locals := 72 * d + 732 }
def B_X5_part_65 (Bk : (Int32 → Wd → va_W → Prop) → Wd → va_W → Prop) (r18 : Int32 → Wd → va_W → Prop) (N : Nat) (post : Int32 → Wd → va_W → Prop) (s0 : Int32) (w : Wd) (L : va_W) : Prop :=
  r18 s0 w L
set_option maxHeartbeats 4000000 in
theorem k_X5_part_65 {Γ : gT} {K : gK} {N : Nat} {post : Int32 → Wd → va_W → Prop} {d : Nat} {Bk : (Int32 → Wd → va_W → Prop) → Wd → va_W → Prop} (C : gC Γ K RX5 cX5_part 5 (rm_X5_part d)) (ret : gRi Γ K cX5_part (some .boolean) (mPi K post) 0 0) (hk : ∀ {p0 : Int32 → Wd → va_W → Prop} {w0 : Wd} {L0 : va_W}, Bk p0 w0 L0 → gMi Γ.l K yX5_unit cX5_unit 3 (some .boolean) (rm_X5_unit d) [.ref (ma K 0)] (mL K w0 ++ L0) (mPi K p0) 0 0) {r18 : Int32 → Wd → va_W → Prop} (hr18 : ∀ (x3 : Int32) (w : Wd) (L : va_W), r18 x3 w L → gJ Γ K 0 0 (mL K w ++ L) 18 [(0, .ref (ma K 0)), (3, .int x3)] []) (s0 : Int32) (w : Wd) (L : va_W) (h : B_X5_part_65 Bk r18 N post s0 w L) : gJ Γ K 0 0 (mL K w ++ L) 65 [(0, .ref (ma K 0))] [.int s0] := by
  unfold B_X5_part_65 at h
  refine g_istore_n C rfl (lt := [(3, .int s0), (0, .ref (ma K 0))]) dX5_part_65 (by decide) rfl ?_
  refine g_goto C 18 dX5_part_66 (by decide) ?_
  refine g_sub [1, 0] rfl ?_
  exact hr18 s0 w L h
def B_X5_part_64 (Bk : (Int32 → Wd → va_W → Prop) → Wd → va_W → Prop) (r18 : Int32 → Wd → va_W → Prop) (N : Nat) (post : Int32 → Wd → va_W → Prop) (w : Wd) (L : va_W) : Prop :=
  B_X5_part_65 Bk r18 N post 0 w L
set_option maxHeartbeats 4000000 in
theorem k_X5_part_64 {Γ : gT} {K : gK} {N : Nat} {post : Int32 → Wd → va_W → Prop} {d : Nat} {Bk : (Int32 → Wd → va_W → Prop) → Wd → va_W → Prop} (C : gC Γ K RX5 cX5_part 5 (rm_X5_part d)) (ret : gRi Γ K cX5_part (some .boolean) (mPi K post) 0 0) (hk : ∀ {p0 : Int32 → Wd → va_W → Prop} {w0 : Wd} {L0 : va_W}, Bk p0 w0 L0 → gMi Γ.l K yX5_unit cX5_unit 3 (some .boolean) (rm_X5_unit d) [.ref (ma K 0)] (mL K w0 ++ L0) (mPi K p0) 0 0) {r18 : Int32 → Wd → va_W → Prop} (hr18 : ∀ (x3 : Int32) (w : Wd) (L : va_W), r18 x3 w L → gJ Γ K 0 0 (mL K w ++ L) 18 [(0, .ref (ma K 0)), (3, .int x3)] []) (w : Wd) (L : va_W) (h : B_X5_part_64 Bk r18 N post w L) : gJ Γ K 0 0 (mL K w ++ L) 64 [(0, .ref (ma K 0))] [] := by
  unfold B_X5_part_64 at h
  refine g_iconst C 0 (by decide) dX5_part_64 ?_
  exact k_X5_part_65 C ret hk hr18 0 w L h
def B_X5_part_69 (Bk : (Int32 → Wd → va_W → Prop) → Wd → va_W → Prop) (N : Nat) (post : Int32 → Wd → va_W → Prop) (x3 : Int32) (w : Wd) (L : va_W) : Prop :=
  gZ x3 ∧ post x3 w L
set_option maxHeartbeats 4000000 in
theorem k_X5_part_69 {Γ : gT} {K : gK} {N : Nat} {post : Int32 → Wd → va_W → Prop} {d : Nat} {Bk : (Int32 → Wd → va_W → Prop) → Wd → va_W → Prop} (C : gC Γ K RX5 cX5_part 5 (rm_X5_part d)) (ret : gRi Γ K cX5_part (some .boolean) (mPi K post) 0 0) (hk : ∀ {p0 : Int32 → Wd → va_W → Prop} {w0 : Wd} {L0 : va_W}, Bk p0 w0 L0 → gMi Γ.l K yX5_unit cX5_unit 3 (some .boolean) (rm_X5_unit d) [.ref (ma K 0)] (mL K w0 ++ L0) (mPi K p0) 0 0) (x3 : Int32) (w : Wd) (L : va_W) (h : B_X5_part_69 Bk N post x3 w L) : gJ Γ K 0 0 (mL K w ++ L) 69 [(3, .int x3)] [] := by
  unfold B_X5_part_69 at h
  refine g_iload_n C 0 rfl dX5_part_69 ?_
  obtain ⟨hz, h⟩ := h
  exact ret _ _ _ _ _ rfl hz.n dX5_part_70 ⟨_, _, rfl, h⟩
def B_X5_part_18s (Bk : (Int32 → Wd → va_W → Prop) → Wd → va_W → Prop) (r18 : Int32 → Wd → va_W → Prop) (N : Nat) (post : Int32 → Wd → va_W → Prop) (x3 : Int32) (w : Wd) (L : va_W) : Prop :=
  ((xi w 6) = (-1 : Int32) →
    B_X5_look N (fun (v3 : Int32) (w1 : Wd) (L2 : va_W) =>
  (v3 = (38 : Int32) →
      Bk (fun (v6 : Int32) (w4 : Wd) (L5 : va_W) =>
  (x3 = 0 →
        B_X5_part_64 Bk r18 N post w4 L5) ∧
      (¬ x3 = 0 →
        (v6 = 0 →
          B_X5_part_64 Bk r18 N post w4 L5) ∧
        (¬ v6 = 0 →
          B_X5_part_65 Bk r18 N post 1 w4 L5))) (xsi w1 5 ((xi w1 5) + 1)) L2) ∧
    (¬ v3 = (38 : Int32) →
      B_X5_part_69 Bk N post x3 w1 L2)) w L) ∧
  (¬ (xi w 6) = (-1 : Int32) →
    B_X5_part_69 Bk N post x3 w L)
def B_X5_part_18 (Bk : (Int32 → Wd → va_W → Prop) → Wd → va_W → Prop) (N : Nat) (post : Int32 → Wd → va_W → Prop) : Nat → Int32 → Wd → va_W → Prop
  | 0, _, _, _ => False
  | n + 1, x3, w, L => B_X5_part_18s Bk (B_X5_part_18 Bk N post n) N post x3 w L
set_option maxHeartbeats 4000000 in
theorem k_X5_part_18s {Γ : gT} {K : gK} {N : Nat} {post : Int32 → Wd → va_W → Prop} {d : Nat} {Bk : (Int32 → Wd → va_W → Prop) → Wd → va_W → Prop} (C : gC Γ K RX5 cX5_part 5 (rm_X5_part d)) (ret : gRi Γ K cX5_part (some .boolean) (mPi K post) 0 0) (hk : ∀ {p0 : Int32 → Wd → va_W → Prop} {w0 : Wd} {L0 : va_W}, Bk p0 w0 L0 → gMi Γ.l K yX5_unit cX5_unit 3 (some .boolean) (rm_X5_unit d) [.ref (ma K 0)] (mL K w0 ++ L0) (mPi K p0) 0 0) {r18 : Int32 → Wd → va_W → Prop} (hr18 : ∀ (x3 : Int32) (w : Wd) (L : va_W), r18 x3 w L → gJ Γ K 0 0 (mL K w ++ L) 18 [(0, .ref (ma K 0)), (3, .int x3)] []) (x3 : Int32) (w : Wd) (L : va_W) (h : B_X5_part_18s Bk r18 N post x3 w L) : gJ Γ K 0 0 (mL K w ++ L) 18 [(0, .ref (ma K 0)), (3, .int x3)] [] := by
  unfold B_X5_part_18s at h
  refine g_aload_n C 0 rfl dX5_part_18 ?_
  refine mg_fault C q1007 (xi w 6) rfl dX5_part_19 ?_
  refine g_iconst C (-1) (by decide) dX5_part_22 ?_
  refine g_icmp_ne C 69 dX5_part_23 (by decide) (fun hc => ?_) (fun hc => ?_)
  · replace h := h.2 hc
    refine g_sub [1] rfl ?_
    exact k_X5_part_69 C ret hk x3 w L h
  · replace h := h.1 hc
    refine g_aload_n C 0 rfl dX5_part_26 ?_
    refine g_callVi C (As := []) (rest := []) (m_X5_look h) (lw_V q1199 q1201 qs36 q84 q1202) (ci := 12) (qi := 0) rfl rfl ⟨rfl, rfl⟩ (by dsimp only [rm_X5_part, rm_X5_look]; omega) 0 rfl (by decide +kernel) rfl (Nat.le_of_ble_eq_true rfl) ⟨Nat.zero_le _, Nat.zero_le _⟩ dX5_part_27 ?_
    rintro v3 _ ⟨w1, L2, rfl, h⟩
    refine g_bipush C 38 (by decide) dX5_part_30 ?_
    refine g_icmp_ne C 69 dX5_part_32 (by decide) (fun hc => ?_) (fun hc => ?_)
    · replace h := h.2 hc
      refine g_sub [1] rfl ?_
      exact k_X5_part_69 C ret hk x3 w1 L2 h
    · replace h := h.1 hc
      refine g_aload_n C 0 rfl dX5_part_35 ?_
      refine g_dup C rfl dX5_part_36 ?_
      refine mg_at C q1006 (xi w1 5) rfl dX5_part_37 ?_
      refine g_iconst C 1 (by decide) dX5_part_40 ?_
      refine g_iadd C dX5_part_41 ?_
      refine mp_at C q1006 dX5_part_42 ?_
      refine g_aload_n C 0 rfl dX5_part_45 ?_
      refine g_callVi C (As := []) (rest := []) (hk h) (lw_V q1258 q1260 qs47 q84 q1261) (ci := 12) (qi := 0) rfl rfl ⟨rfl, rfl⟩ (by dsimp only [rm_X5_part, rm_X5_unit]; omega) 0 rfl (by decide +kernel) rfl (Nat.le_of_ble_eq_true rfl) ⟨Nat.zero_le _, Nat.zero_le _⟩ dX5_part_46 ?_
      rintro v6 _ ⟨w4, L5, rfl, h⟩
      refine g_istore C (lt := [(4, .int v6), (0, .ref (ma K 0)), (3, .int x3)]) dX5_part_49 (by decide) rfl ?_
      refine g_iload_n C 2 rfl dX5_part_51 ?_
      refine g_if_eq C 64 dX5_part_52 (by decide) (fun hc => ?_) (fun hc => ?_)
      · replace h := h.1 hc
        refine g_sub [1] rfl ?_
        exact k_X5_part_64 C ret hk hr18 w4 L5 h
      · replace h := h.2 hc
        refine g_iload C 0 rfl dX5_part_55 ?_
        refine g_if_eq C 64 dX5_part_57 (by decide) (fun hc => ?_) (fun hc => ?_)
        · replace h := h.1 hc
          refine g_sub [1] rfl ?_
          exact k_X5_part_64 C ret hk hr18 w4 L5 h
        · replace h := h.2 hc
          refine g_iconst C 1 (by decide) dX5_part_60 ?_
          refine g_goto C 65 dX5_part_61 (by decide) ?_
          refine g_sub [1] rfl ?_
          exact k_X5_part_65 C ret hk hr18 1 w4 L5 h
theorem k_X5_part_18 {Γ : gT} {K : gK} {N : Nat} {post : Int32 → Wd → va_W → Prop} {d : Nat} {Bk : (Int32 → Wd → va_W → Prop) → Wd → va_W → Prop} (C : gC Γ K RX5 cX5_part 5 (rm_X5_part d)) (ret : gRi Γ K cX5_part (some .boolean) (mPi K post) 0 0) (hk : ∀ {p0 : Int32 → Wd → va_W → Prop} {w0 : Wd} {L0 : va_W}, Bk p0 w0 L0 → gMi Γ.l K yX5_unit cX5_unit 3 (some .boolean) (rm_X5_unit d) [.ref (ma K 0)] (mL K w0 ++ L0) (mPi K p0) 0 0) : ∀ (n : Nat) (x3 : Int32) (w : Wd) (L : va_W) (h : B_X5_part_18 Bk N post n x3 w L), gJ Γ K 0 0 (mL K w ++ L) 18 [(0, .ref (ma K 0)), (3, .int x3)] [] := by
  intro n
  induction n with
  | zero => intro x3 w L h; exact h.elim
  | succ n ih => intro x3 w L h; exact k_X5_part_18s C ret hk ih x3 w L h
def B_X5_part_17 (Bk : (Int32 → Wd → va_W → Prop) → Wd → va_W → Prop) (N : Nat) (post : Int32 → Wd → va_W → Prop) (s0 : Int32) (w : Wd) (L : va_W) : Prop :=
  B_X5_part_18 Bk N post N s0 w L
set_option maxHeartbeats 4000000 in
theorem k_X5_part_17 {Γ : gT} {K : gK} {N : Nat} {post : Int32 → Wd → va_W → Prop} {d : Nat} {Bk : (Int32 → Wd → va_W → Prop) → Wd → va_W → Prop} (C : gC Γ K RX5 cX5_part 5 (rm_X5_part d)) (ret : gRi Γ K cX5_part (some .boolean) (mPi K post) 0 0) (hk : ∀ {p0 : Int32 → Wd → va_W → Prop} {w0 : Wd} {L0 : va_W}, Bk p0 w0 L0 → gMi Γ.l K yX5_unit cX5_unit 3 (some .boolean) (rm_X5_unit d) [.ref (ma K 0)] (mL K w0 ++ L0) (mPi K p0) 0 0) (s0 : Int32) (w : Wd) (L : va_W) (h : B_X5_part_17 Bk N post s0 w L) : gJ Γ K 0 0 (mL K w ++ L) 17 [(0, .ref (ma K 0))] [.int s0] := by
  unfold B_X5_part_17 at h
  refine g_istore_n C rfl (lt := [(3, .int s0), (0, .ref (ma K 0))]) dX5_part_17 (by decide) rfl ?_
  refine g_sub [1, 0] rfl ?_
  exact k_X5_part_18 C ret hk N s0 w L h
def B_X5_part_0 (Bk : (Int32 → Wd → va_W → Prop) → Wd → va_W → Prop) (N : Nat) (post : Int32 → Wd → va_W → Prop) (x1 : Int32) (x2 : Int32) (w : Wd) (L : va_W) : Prop :=
  (x1 = 0 →
    Bk (fun (v3 : Int32) (w1 : Wd) (L2 : va_W) =>
  B_X5_part_17 Bk N post v3 w1 L2) w L) ∧
  (¬ x1 = 0 →
    B_X5_compares N 1 x2 (fun (v6 : Int32) (w4 : Wd) (L5 : va_W) =>
  B_X5_part_17 Bk N post v6 w4 L5) w L)
set_option maxHeartbeats 4000000 in
theorem k_X5_part_0 {Γ : gT} {K : gK} {N : Nat} {post : Int32 → Wd → va_W → Prop} {d : Nat} {Bk : (Int32 → Wd → va_W → Prop) → Wd → va_W → Prop} (C : gC Γ K RX5 cX5_part 5 (rm_X5_part d)) (ret : gRi Γ K cX5_part (some .boolean) (mPi K post) 0 0) (hk : ∀ {p0 : Int32 → Wd → va_W → Prop} {w0 : Wd} {L0 : va_W}, Bk p0 w0 L0 → gMi Γ.l K yX5_unit cX5_unit 3 (some .boolean) (rm_X5_unit d) [.ref (ma K 0)] (mL K w0 ++ L0) (mPi K p0) 0 0) (x1 : Int32) (x2 : Int32) (w : Wd) (L : va_W) (h : B_X5_part_0 Bk N post x1 x2 w L) : gJ Γ K 0 0 (mL K w ++ L) 0 [(0, .ref (ma K 0)), (1, .int x1), (2, .int x2)] [] := by
  unfold B_X5_part_0 at h
  refine g_iload_n C 1 rfl dX5_part_0 ?_
  refine g_if_eq C 13 dX5_part_1 (by decide) (fun hc => ?_) (fun hc => ?_)
  · replace h := h.1 hc
    refine g_aload_n C 0 rfl dX5_part_13 ?_
    refine g_callVi C (As := []) (rest := []) (hk h) (lw_V q1258 q1260 qs47 q84 q1261) (ci := 12) (qi := 0) rfl rfl ⟨rfl, rfl⟩ (by dsimp only [rm_X5_part, rm_X5_unit]; omega) 0 rfl (by decide +kernel) rfl (Nat.le_of_ble_eq_true rfl) ⟨Nat.zero_le _, Nat.zero_le _⟩ dX5_part_14 ?_
    rintro v3 _ ⟨w1, L2, rfl, h⟩
    refine g_sub [0] rfl ?_
    exact k_X5_part_17 C ret hk v3 w1 L2 h
  · replace h := h.2 hc
    refine g_aload_n C 0 rfl dX5_part_4 ?_
    refine g_iconst C 1 (by decide) dX5_part_5 ?_
    refine g_iload_n C 2 rfl dX5_part_6 ?_
    refine g_callVi C (As := [.int 1, .int x2]) (rest := []) (m_X5_compares h) (lw_V q1224 q1226 qs41 q84 q1227) (ci := 12) (qi := 0) rfl rfl ⟨rfl, rfl⟩ (by dsimp only [rm_X5_part, rm_X5_compares]; omega) 2 rfl (by decide +kernel) rfl (Nat.le_of_ble_eq_true rfl) ⟨Nat.zero_le _, Nat.zero_le _⟩ dX5_part_7 ?_
    rintro v6 _ ⟨w4, L5, rfl, h⟩
    refine g_goto C 17 dX5_part_10 (by decide) ?_
    refine g_sub [0] rfl ?_
    exact k_X5_part_17 C ret hk v6 w4 L5 h
def B_X5_part (Bk : (Int32 → Wd → va_W → Prop) → Wd → va_W → Prop) (N : Nat) (x1 : Int32) (x2 : Int32) (post : Int32 → Wd → va_W → Prop) (w : Wd) (L : va_W) : Prop := B_X5_part_0 Bk N post x1 x2 w L
theorem m_X5_part {l : Launch} {K : gK} {N : Nat} {post : Int32 → Wd → va_W → Prop} {d : Nat} {Bk : (Int32 → Wd → va_W → Prop) → Wd → va_W → Prop} {x1 : Int32} {x2 : Int32} {w : Wd} {L : va_W} (hk : ∀ {p0 : Int32 → Wd → va_W → Prop} {w0 : Wd} {L0 : va_W}, Bk p0 w0 L0 → gMi l K yX5_unit cX5_unit 3 (some .boolean) (rm_X5_unit d) [.ref (ma K 0)] (mL K w0 ++ L0) (mPi K p0) 0 0) (h : B_X5_part Bk N x1 x2 post w L) : gMi l K yX5_part cX5_part 5 (some .boolean) (rm_X5_part d) [.ref (ma K 0), .int x1, .int x2] (mL K w ++ L) (mPi K post) 0 0 := by
  refine g_inI (ls0 := [(0, .ref (ma K 0)), (1, .int x1), (2, .int x2)]) (by decide) (Nat.le_of_ble_eq_true rfl) rfl (fun Γ hl C hn ret => ?_)
  subst hl
  exact k_X5_part_0 C ret hk x1 x2 w L h
def B_X5_condition_56 (Bk : (Int32 → Wd → va_W → Prop) → Wd → va_W → Prop) (r7 : Int32 → Wd → va_W → Prop) (N : Nat) (post : Int32 → Wd → va_W → Prop) (s0 : Int32) (w : Wd) (L : va_W) : Prop :=
  r7 s0 w L
set_option maxHeartbeats 4000000 in
theorem k_X5_condition_56 {Γ : gT} {K : gK} {N : Nat} {post : Int32 → Wd → va_W → Prop} {d : Nat} {Bk : (Int32 → Wd → va_W → Prop) → Wd → va_W → Prop} (C : gC Γ K RX5 cX5_condition 5 (rm_X5_condition d)) (ret : gRi Γ K cX5_condition (some .boolean) (mPi K post) 0 0) (hk : ∀ {p0 : Int32 → Wd → va_W → Prop} {w0 : Wd} {L0 : va_W}, Bk p0 w0 L0 → gMi Γ.l K yX5_unit cX5_unit 3 (some .boolean) (rm_X5_unit d) [.ref (ma K 0)] (mL K w0 ++ L0) (mPi K p0) 0 0) {r7 : Int32 → Wd → va_W → Prop} (hr7 : ∀ (x3 : Int32) (w : Wd) (L : va_W), r7 x3 w L → gJ Γ K 0 0 (mL K w ++ L) 7 [(0, .ref (ma K 0)), (3, .int x3)] []) (s0 : Int32) (w : Wd) (L : va_W) (h : B_X5_condition_56 Bk r7 N post s0 w L) : gJ Γ K 0 0 (mL K w ++ L) 56 [(0, .ref (ma K 0))] [.int s0] := by
  unfold B_X5_condition_56 at h
  refine g_istore_n C rfl (lt := [(3, .int s0), (0, .ref (ma K 0))]) dX5_condition_56 (by decide) rfl ?_
  refine g_goto C 7 dX5_condition_57 (by decide) ?_
  refine g_sub [1, 0] rfl ?_
  exact hr7 s0 w L h
def B_X5_condition_51 (Bk : (Int32 → Wd → va_W → Prop) → Wd → va_W → Prop) (r7 : Int32 → Wd → va_W → Prop) (N : Nat) (post : Int32 → Wd → va_W → Prop) (w : Wd) (L : va_W) : Prop :=
  B_X5_condition_56 Bk r7 N post 1 w L
set_option maxHeartbeats 4000000 in
theorem k_X5_condition_51 {Γ : gT} {K : gK} {N : Nat} {post : Int32 → Wd → va_W → Prop} {d : Nat} {Bk : (Int32 → Wd → va_W → Prop) → Wd → va_W → Prop} (C : gC Γ K RX5 cX5_condition 5 (rm_X5_condition d)) (ret : gRi Γ K cX5_condition (some .boolean) (mPi K post) 0 0) (hk : ∀ {p0 : Int32 → Wd → va_W → Prop} {w0 : Wd} {L0 : va_W}, Bk p0 w0 L0 → gMi Γ.l K yX5_unit cX5_unit 3 (some .boolean) (rm_X5_unit d) [.ref (ma K 0)] (mL K w0 ++ L0) (mPi K p0) 0 0) {r7 : Int32 → Wd → va_W → Prop} (hr7 : ∀ (x3 : Int32) (w : Wd) (L : va_W), r7 x3 w L → gJ Γ K 0 0 (mL K w ++ L) 7 [(0, .ref (ma K 0)), (3, .int x3)] []) (w : Wd) (L : va_W) (h : B_X5_condition_51 Bk r7 N post w L) : gJ Γ K 0 0 (mL K w ++ L) 51 [(0, .ref (ma K 0))] [] := by
  unfold B_X5_condition_51 at h
  refine g_iconst C 1 (by decide) dX5_condition_51 ?_
  refine g_goto C 56 dX5_condition_52 (by decide) ?_
  exact k_X5_condition_56 C ret hk hr7 1 w L h
def B_X5_condition_60 (Bk : (Int32 → Wd → va_W → Prop) → Wd → va_W → Prop) (N : Nat) (post : Int32 → Wd → va_W → Prop) (x3 : Int32) (w : Wd) (L : va_W) : Prop :=
  gZ x3 ∧ post x3 w L
set_option maxHeartbeats 4000000 in
theorem k_X5_condition_60 {Γ : gT} {K : gK} {N : Nat} {post : Int32 → Wd → va_W → Prop} {d : Nat} {Bk : (Int32 → Wd → va_W → Prop) → Wd → va_W → Prop} (C : gC Γ K RX5 cX5_condition 5 (rm_X5_condition d)) (ret : gRi Γ K cX5_condition (some .boolean) (mPi K post) 0 0) (hk : ∀ {p0 : Int32 → Wd → va_W → Prop} {w0 : Wd} {L0 : va_W}, Bk p0 w0 L0 → gMi Γ.l K yX5_unit cX5_unit 3 (some .boolean) (rm_X5_unit d) [.ref (ma K 0)] (mL K w0 ++ L0) (mPi K p0) 0 0) (x3 : Int32) (w : Wd) (L : va_W) (h : B_X5_condition_60 Bk N post x3 w L) : gJ Γ K 0 0 (mL K w ++ L) 60 [(3, .int x3)] [] := by
  unfold B_X5_condition_60 at h
  refine g_iload_n C 0 rfl dX5_condition_60 ?_
  obtain ⟨hz, h⟩ := h
  exact ret _ _ _ _ _ rfl hz.n dX5_condition_61 ⟨_, _, rfl, h⟩
def B_X5_condition_7s (Bk : (Int32 → Wd → va_W → Prop) → Wd → va_W → Prop) (r7 : Int32 → Wd → va_W → Prop) (N : Nat) (post : Int32 → Wd → va_W → Prop) (x3 : Int32) (w : Wd) (L : va_W) : Prop :=
  ((xi w 6) = (-1 : Int32) →
    B_X5_look N (fun (v3 : Int32) (w1 : Wd) (L2 : va_W) =>
  (v3 = (124 : Int32) →
      B_X5_part Bk N 0 0 (fun (v6 : Int32) (w4 : Wd) (L5 : va_W) =>
  (x3 = 0 →
        (v6 = 0 →
          B_X5_condition_56 Bk r7 N post 0 w4 L5) ∧
        (¬ v6 = 0 →
          B_X5_condition_51 Bk r7 N post w4 L5)) ∧
      (¬ x3 = 0 →
        B_X5_condition_51 Bk r7 N post w4 L5)) (xsi w1 5 ((xi w1 5) + 1)) L2) ∧
    (¬ v3 = (124 : Int32) →
      B_X5_condition_60 Bk N post x3 w1 L2)) w L) ∧
  (¬ (xi w 6) = (-1 : Int32) →
    B_X5_condition_60 Bk N post x3 w L)
def B_X5_condition_7 (Bk : (Int32 → Wd → va_W → Prop) → Wd → va_W → Prop) (N : Nat) (post : Int32 → Wd → va_W → Prop) : Nat → Int32 → Wd → va_W → Prop
  | 0, _, _, _ => False
  | n + 1, x3, w, L => B_X5_condition_7s Bk (B_X5_condition_7 Bk N post n) N post x3 w L
set_option maxHeartbeats 4000000 in
theorem k_X5_condition_7s {Γ : gT} {K : gK} {N : Nat} {post : Int32 → Wd → va_W → Prop} {d : Nat} {Bk : (Int32 → Wd → va_W → Prop) → Wd → va_W → Prop} (C : gC Γ K RX5 cX5_condition 5 (rm_X5_condition d)) (ret : gRi Γ K cX5_condition (some .boolean) (mPi K post) 0 0) (hk : ∀ {p0 : Int32 → Wd → va_W → Prop} {w0 : Wd} {L0 : va_W}, Bk p0 w0 L0 → gMi Γ.l K yX5_unit cX5_unit 3 (some .boolean) (rm_X5_unit d) [.ref (ma K 0)] (mL K w0 ++ L0) (mPi K p0) 0 0) {r7 : Int32 → Wd → va_W → Prop} (hr7 : ∀ (x3 : Int32) (w : Wd) (L : va_W), r7 x3 w L → gJ Γ K 0 0 (mL K w ++ L) 7 [(0, .ref (ma K 0)), (3, .int x3)] []) (x3 : Int32) (w : Wd) (L : va_W) (h : B_X5_condition_7s Bk r7 N post x3 w L) : gJ Γ K 0 0 (mL K w ++ L) 7 [(0, .ref (ma K 0)), (3, .int x3)] [] := by
  unfold B_X5_condition_7s at h
  refine g_aload_n C 0 rfl dX5_condition_7 ?_
  refine mg_fault C q1007 (xi w 6) rfl dX5_condition_8 ?_
  refine g_iconst C (-1) (by decide) dX5_condition_11 ?_
  refine g_icmp_ne C 60 dX5_condition_12 (by decide) (fun hc => ?_) (fun hc => ?_)
  · replace h := h.2 hc
    refine g_sub [1] rfl ?_
    exact k_X5_condition_60 C ret hk x3 w L h
  · replace h := h.1 hc
    refine g_aload_n C 0 rfl dX5_condition_15 ?_
    refine g_callVi C (As := []) (rest := []) (m_X5_look h) (lw_V q1199 q1201 qs36 q84 q1202) (ci := 12) (qi := 0) rfl rfl ⟨rfl, rfl⟩ (by dsimp only [rm_X5_condition, rm_X5_look]; omega) 0 rfl (by decide +kernel) rfl (Nat.le_of_ble_eq_true rfl) ⟨Nat.zero_le _, Nat.zero_le _⟩ dX5_condition_16 ?_
    rintro v3 _ ⟨w1, L2, rfl, h⟩
    refine g_bipush C 124 (by decide) dX5_condition_19 ?_
    refine g_icmp_ne C 60 dX5_condition_21 (by decide) (fun hc => ?_) (fun hc => ?_)
    · replace h := h.2 hc
      refine g_sub [1] rfl ?_
      exact k_X5_condition_60 C ret hk x3 w1 L2 h
    · replace h := h.1 hc
      refine g_aload_n C 0 rfl dX5_condition_24 ?_
      refine g_dup C rfl dX5_condition_25 ?_
      refine mg_at C q1006 (xi w1 5) rfl dX5_condition_26 ?_
      refine g_iconst C 1 (by decide) dX5_condition_29 ?_
      refine g_iadd C dX5_condition_30 ?_
      refine mp_at C q1006 dX5_condition_31 ?_
      refine g_aload_n C 0 rfl dX5_condition_34 ?_
      refine g_iconst C 0 (by decide) dX5_condition_35 ?_
      refine g_iconst C 0 (by decide) dX5_condition_36 ?_
      refine g_callVi C (As := [.int 0, .int 0]) (rest := []) (m_X5_part hk h) (lw_V q1220 q1222 qs40 q84 q1223) (ci := 12) (qi := 0) rfl rfl ⟨rfl, rfl⟩ (by dsimp only [rm_X5_condition, rm_X5_part]; omega) 2 rfl (by decide +kernel) rfl (Nat.le_of_ble_eq_true rfl) ⟨Nat.zero_le _, Nat.zero_le _⟩ dX5_condition_37 ?_
      rintro v6 _ ⟨w4, L5, rfl, h⟩
      refine g_istore C (lt := [(4, .int v6), (0, .ref (ma K 0)), (3, .int x3)]) dX5_condition_40 (by decide) rfl ?_
      refine g_iload_n C 2 rfl dX5_condition_42 ?_
      refine g_if_ne C 51 dX5_condition_43 (by decide) (fun hc => ?_) (fun hc => ?_)
      · replace h := h.2 hc
        refine g_sub [1] rfl ?_
        exact k_X5_condition_51 C ret hk hr7 w4 L5 h
      · replace h := h.1 hc
        refine g_iload C 0 rfl dX5_condition_46 ?_
        refine g_if_eq C 55 dX5_condition_48 (by decide) (fun hc => ?_) (fun hc => ?_)
        · replace h := h.1 hc
          refine g_iconst C 0 (by decide) dX5_condition_55 ?_
          refine g_sub [1] rfl ?_
          exact k_X5_condition_56 C ret hk hr7 0 w4 L5 h
        · replace h := h.2 hc
          refine g_sub [1] rfl ?_
          exact k_X5_condition_51 C ret hk hr7 w4 L5 h
theorem k_X5_condition_7 {Γ : gT} {K : gK} {N : Nat} {post : Int32 → Wd → va_W → Prop} {d : Nat} {Bk : (Int32 → Wd → va_W → Prop) → Wd → va_W → Prop} (C : gC Γ K RX5 cX5_condition 5 (rm_X5_condition d)) (ret : gRi Γ K cX5_condition (some .boolean) (mPi K post) 0 0) (hk : ∀ {p0 : Int32 → Wd → va_W → Prop} {w0 : Wd} {L0 : va_W}, Bk p0 w0 L0 → gMi Γ.l K yX5_unit cX5_unit 3 (some .boolean) (rm_X5_unit d) [.ref (ma K 0)] (mL K w0 ++ L0) (mPi K p0) 0 0) : ∀ (n : Nat) (x3 : Int32) (w : Wd) (L : va_W) (h : B_X5_condition_7 Bk N post n x3 w L), gJ Γ K 0 0 (mL K w ++ L) 7 [(0, .ref (ma K 0)), (3, .int x3)] [] := by
  intro n
  induction n with
  | zero => intro x3 w L h; exact h.elim
  | succ n ih => intro x3 w L h; exact k_X5_condition_7s C ret hk ih x3 w L h
def B_X5_condition_0 (Bk : (Int32 → Wd → va_W → Prop) → Wd → va_W → Prop) (N : Nat) (post : Int32 → Wd → va_W → Prop) (x1 : Int32) (x2 : Int32) (w : Wd) (L : va_W) : Prop :=
  B_X5_part Bk N x1 x2 (fun (v3 : Int32) (w1 : Wd) (L2 : va_W) =>
  B_X5_condition_7 Bk N post N v3 w1 L2) w L
set_option maxHeartbeats 4000000 in
theorem k_X5_condition_0 {Γ : gT} {K : gK} {N : Nat} {post : Int32 → Wd → va_W → Prop} {d : Nat} {Bk : (Int32 → Wd → va_W → Prop) → Wd → va_W → Prop} (C : gC Γ K RX5 cX5_condition 5 (rm_X5_condition d)) (ret : gRi Γ K cX5_condition (some .boolean) (mPi K post) 0 0) (hk : ∀ {p0 : Int32 → Wd → va_W → Prop} {w0 : Wd} {L0 : va_W}, Bk p0 w0 L0 → gMi Γ.l K yX5_unit cX5_unit 3 (some .boolean) (rm_X5_unit d) [.ref (ma K 0)] (mL K w0 ++ L0) (mPi K p0) 0 0) (x1 : Int32) (x2 : Int32) (w : Wd) (L : va_W) (h : B_X5_condition_0 Bk N post x1 x2 w L) : gJ Γ K 0 0 (mL K w ++ L) 0 [(0, .ref (ma K 0)), (1, .int x1), (2, .int x2)] [] := by
  unfold B_X5_condition_0 at h
  refine g_aload_n C 0 rfl dX5_condition_0 ?_
  refine g_iload_n C 1 rfl dX5_condition_1 ?_
  refine g_iload_n C 2 rfl dX5_condition_2 ?_
  refine g_callVi C (As := [.int x1, .int x2]) (rest := []) (m_X5_part hk h) (lw_V q1220 q1222 qs40 q84 q1223) (ci := 12) (qi := 0) rfl rfl ⟨rfl, rfl⟩ (by dsimp only [rm_X5_condition, rm_X5_part]; omega) 2 rfl (by decide +kernel) rfl (Nat.le_of_ble_eq_true rfl) ⟨Nat.zero_le _, Nat.zero_le _⟩ dX5_condition_3 ?_
  rintro v3 _ ⟨w1, L2, rfl, h⟩
  refine g_istore_n C rfl (lt := [(3, .int v3), (0, .ref (ma K 0)), (1, .int x1), (2, .int x2)]) dX5_condition_6 (by decide) rfl ?_
  refine g_sub [1, 0] rfl ?_
  exact k_X5_condition_7 C ret hk N v3 w1 L2 h
def B_X5_condition (Bk : (Int32 → Wd → va_W → Prop) → Wd → va_W → Prop) (N : Nat) (x1 : Int32) (x2 : Int32) (post : Int32 → Wd → va_W → Prop) (w : Wd) (L : va_W) : Prop := B_X5_condition_0 Bk N post x1 x2 w L
theorem m_X5_condition {l : Launch} {K : gK} {N : Nat} {post : Int32 → Wd → va_W → Prop} {d : Nat} {Bk : (Int32 → Wd → va_W → Prop) → Wd → va_W → Prop} {x1 : Int32} {x2 : Int32} {w : Wd} {L : va_W} (hk : ∀ {p0 : Int32 → Wd → va_W → Prop} {w0 : Wd} {L0 : va_W}, Bk p0 w0 L0 → gMi l K yX5_unit cX5_unit 3 (some .boolean) (rm_X5_unit d) [.ref (ma K 0)] (mL K w0 ++ L0) (mPi K p0) 0 0) (h : B_X5_condition Bk N x1 x2 post w L) : gMi l K yX5_condition cX5_condition 5 (some .boolean) (rm_X5_condition d) [.ref (ma K 0), .int x1, .int x2] (mL K w ++ L) (mPi K post) 0 0 := by
  refine g_inI (ls0 := [(0, .ref (ma K 0)), (1, .int x1), (2, .int x2)]) (by decide) (Nat.le_of_ble_eq_true rfl) rfl (fun Γ hl C hn ret => ?_)
  subst hl
  exact k_X5_condition_0 C ret hk x1 x2 w L h
def B_X5_unit_44 (Bk : (Int32 → Wd → va_W → Prop) → Wd → va_W → Prop) (N : Nat) (post : Int32 → Wd → va_W → Prop) (s0 : Int32) (w : Wd) (L : va_W) : Prop :=
  gZ s0 ∧ post s0 w L
set_option maxHeartbeats 4000000 in
theorem k_X5_unit_44 {Γ : gT} {K : gK} {N : Nat} {post : Int32 → Wd → va_W → Prop} {d : Nat} {Bk : (Int32 → Wd → va_W → Prop) → Wd → va_W → Prop} (C : gC Γ K RX5 cX5_unit 3 (rm_X5_unit (d + 1))) (ret : gRi Γ K cX5_unit (some .boolean) (mPi K post) 0 0) (hk : ∀ {p0 : Int32 → Wd → va_W → Prop} {w0 : Wd} {L0 : va_W}, Bk p0 w0 L0 → gMi Γ.l K yX5_unit cX5_unit 3 (some .boolean) (rm_X5_unit d) [.ref (ma K 0)] (mL K w0 ++ L0) (mPi K p0) 0 0) (s0 : Int32) (w : Wd) (L : va_W) (h : B_X5_unit_44 Bk N post s0 w L) : gJ Γ K 0 0 (mL K w ++ L) 44 [] [.int s0] := by
  unfold B_X5_unit_44 at h
  obtain ⟨hz, h⟩ := h
  exact ret _ _ _ _ _ rfl hz.n dX5_unit_44 ⟨_, _, rfl, h⟩
def B_X5_unit_0 (Bk : (Int32 → Wd → va_W → Prop) → Wd → va_W → Prop) (N : Nat) (post : Int32 → Wd → va_W → Prop) (w : Wd) (L : va_W) : Prop :=
  B_X5_look N (fun (v3 : Int32) (w1 : Wd) (L2 : va_W) =>
  (v3 = (33 : Int32) →
    B_X5_goesIn N (fun (v18 : Int32) (w16 : Wd) (L17 : va_W) =>
  (v18 = 0 →
      post 0 w16 L17) ∧
    (¬ v18 = 0 →
      Bk (fun (v21 : Int32) (w19 : Wd) (L20 : va_W) =>
  ∀ w22 : Wd, w22 = (xsi w19 7 ((xi w19 7) - 1)) → (v21 = 0 →
        B_X5_unit_44 Bk N post 1 w22 L20) ∧
      (¬ v21 = 0 →
        B_X5_unit_44 Bk N post 0 w22 L20)) w16 L17)) w1 L2) ∧
  (¬ v3 = (33 : Int32) →
    (v3 = (40 : Int32) →
      B_X5_goesIn N (fun (v9 : Int32) (w7 : Wd) (L8 : va_W) =>
  (v9 = 0 →
        post 0 w7 L8) ∧
      (¬ v9 = 0 →
        B_X5_condition Bk N 0 0 (fun (v12 : Int32) (w10 : Wd) (L11 : va_W) =>
  B_X5_takes N 41 (fun (v15 : Int32) (w13 : Wd) (L14 : va_W) =>
  (v15 = 0 →
          post 0 w13 L14) ∧
        (¬ v15 = 0 →
          gZ v12 ∧ post v12 (xsi w13 7 ((xi w13 7) - 1)) L14)) w10 L11) w7 L8)) w1 L2) ∧
    (¬ v3 = (40 : Int32) →
      B_X5_compares N 0 0 (fun (v6 : Int32) (w4 : Wd) (L5 : va_W) =>
  gZ v6 ∧ post v6 w4 L5) w1 L2))) w L
set_option maxHeartbeats 4000000 in
theorem k_X5_unit_0 {Γ : gT} {K : gK} {N : Nat} {post : Int32 → Wd → va_W → Prop} {d : Nat} {Bk : (Int32 → Wd → va_W → Prop) → Wd → va_W → Prop} (C : gC Γ K RX5 cX5_unit 3 (rm_X5_unit (d + 1))) (ret : gRi Γ K cX5_unit (some .boolean) (mPi K post) 0 0) (hk : ∀ {p0 : Int32 → Wd → va_W → Prop} {w0 : Wd} {L0 : va_W}, Bk p0 w0 L0 → gMi Γ.l K yX5_unit cX5_unit 3 (some .boolean) (rm_X5_unit d) [.ref (ma K 0)] (mL K w0 ++ L0) (mPi K p0) 0 0) (w : Wd) (L : va_W) (h : B_X5_unit_0 Bk N post w L) : gJ Γ K 0 0 (mL K w ++ L) 0 [(0, .ref (ma K 0))] [] := by
  unfold B_X5_unit_0 at h
  refine g_aload_n C 0 rfl dX5_unit_0 ?_
  refine g_callVi C (As := []) (rest := []) (m_X5_look h) (lw_V q1199 q1201 qs36 q84 q1202) (ci := 12) (qi := 0) rfl rfl ⟨rfl, rfl⟩ (by dsimp only [rm_X5_unit, rm_X5_look]; omega) 0 rfl (by decide +kernel) rfl (Nat.le_of_ble_eq_true rfl) ⟨Nat.zero_le _, Nat.zero_le _⟩ dX5_unit_1 ?_
  rintro v3 _ ⟨w1, L2, rfl, h⟩
  refine g_istore_n C rfl (lt := [(1, .int v3), (0, .ref (ma K 0))]) dX5_unit_4 (by decide) rfl ?_
  refine g_iload_n C 0 rfl dX5_unit_5 ?_
  refine g_bipush C 33 (by decide) dX5_unit_6 ?_
  refine g_icmp_ne C 45 dX5_unit_8 (by decide) (fun hc => ?_) (fun hc => ?_)
  · replace h := h.2 hc
    refine g_iload_n C 0 rfl dX5_unit_45 ?_
    refine g_bipush C 40 (by decide) dX5_unit_46 ?_
    refine g_icmp_ne C 90 dX5_unit_48 (by decide) (fun hc => ?_) (fun hc => ?_)
    · replace h := h.2 hc
      refine g_aload_n C 1 rfl dX5_unit_90 ?_
      refine g_iconst C 0 (by decide) dX5_unit_91 ?_
      refine g_iconst C 0 (by decide) dX5_unit_92 ?_
      refine g_callVi C (As := [.int 0, .int 0]) (rest := []) (m_X5_compares h) (lw_V q1224 q1226 qs41 q84 q1227) (ci := 12) (qi := 0) rfl rfl ⟨rfl, rfl⟩ (by dsimp only [rm_X5_unit, rm_X5_compares]; omega) 2 rfl (by decide +kernel) rfl (Nat.le_of_ble_eq_true rfl) ⟨Nat.zero_le _, Nat.zero_le _⟩ dX5_unit_93 ?_
      rintro v6 _ ⟨w4, L5, rfl, h⟩
      obtain ⟨hz, h⟩ := h
      exact ret _ _ _ _ _ rfl hz.n dX5_unit_96 ⟨_, _, rfl, h⟩
    · replace h := h.1 hc
      refine g_aload_n C 1 rfl dX5_unit_51 ?_
      refine g_callVi C (As := []) (rest := []) (m_X5_goesIn h) (lw_V q1240 q1242 qs45 q84 q1243) (ci := 12) (qi := 0) rfl rfl ⟨rfl, rfl⟩ (by dsimp only [rm_X5_unit, rm_X5_goesIn]; omega) 0 rfl (by decide +kernel) rfl (Nat.le_of_ble_eq_true rfl) ⟨Nat.zero_le _, Nat.zero_le _⟩ dX5_unit_52 ?_
      rintro v9 _ ⟨w7, L8, rfl, h⟩
      refine g_if_ne C 60 dX5_unit_55 (by decide) (fun hc => ?_) (fun hc => ?_)
      · replace h := h.2 hc
        refine g_aload_n C 1 rfl dX5_unit_60 ?_
        refine g_iconst C 0 (by decide) dX5_unit_61 ?_
        refine g_iconst C 0 (by decide) dX5_unit_62 ?_
        refine g_callVi C (As := [.int 0, .int 0]) (rest := []) (m_X5_condition hk h) (lw_V q1216 q1218 qs39 q84 q1219) (ci := 12) (qi := 0) rfl rfl ⟨rfl, rfl⟩ (by dsimp only [rm_X5_unit, rm_X5_condition]; omega) 2 rfl (by decide +kernel) rfl (Nat.le_of_ble_eq_true rfl) ⟨Nat.zero_le _, Nat.zero_le _⟩ dX5_unit_63 ?_
        rintro v12 _ ⟨w10, L11, rfl, h⟩
        refine g_istore_n C rfl (lt := [(2, .int v12), (1, .int v3), (0, .ref (ma K 0))]) dX5_unit_66 (by decide) rfl ?_
        refine g_aload_n C 2 rfl dX5_unit_67 ?_
        refine g_bipush C 41 (by decide) dX5_unit_68 ?_
        refine g_callVi C (As := [.int 41]) (rest := []) (m_X5_takes h) (lw_V q1212 q1214 qs38 q84 q1215) (ci := 12) (qi := 0) rfl rfl ⟨rfl, rfl⟩ (by dsimp only [rm_X5_unit, rm_X5_takes]; omega) 1 rfl (by decide +kernel) rfl (Nat.le_of_ble_eq_true rfl) ⟨Nat.zero_le _, Nat.zero_le _⟩ dX5_unit_70 ?_
        rintro v15 _ ⟨w13, L14, rfl, h⟩
        refine g_if_ne C 78 dX5_unit_73 (by decide) (fun hc => ?_) (fun hc => ?_)
        · replace h := h.2 hc
          refine g_aload_n C 2 rfl dX5_unit_78 ?_
          refine g_dup C rfl dX5_unit_79 ?_
          refine mg_deep C q1008 (xi w13 7) rfl dX5_unit_80 ?_
          refine g_iconst C 1 (by decide) dX5_unit_83 ?_
          refine g_isub C dX5_unit_84 ?_
          refine mp_deep C q1008 dX5_unit_85 ?_
          refine g_iload_n C 0 rfl dX5_unit_88 ?_
          obtain ⟨hz, h⟩ := h
          exact ret _ _ _ _ _ rfl hz.n dX5_unit_89 ⟨_, _, rfl, h⟩
        · replace h := h.1 hc
          refine g_iconst C 0 (by decide) dX5_unit_76 ?_
          exact ret _ _ _ _ _ rfl (gZ.n (Or.inl rfl)) dX5_unit_77 ⟨_, _, rfl, h⟩
      · replace h := h.1 hc
        refine g_iconst C 0 (by decide) dX5_unit_58 ?_
        exact ret _ _ _ _ _ rfl (gZ.n (Or.inl rfl)) dX5_unit_59 ⟨_, _, rfl, h⟩
  · replace h := h.1 hc
    refine g_aload_n C 1 rfl dX5_unit_11 ?_
    refine g_callVi C (As := []) (rest := []) (m_X5_goesIn h) (lw_V q1240 q1242 qs45 q84 q1243) (ci := 12) (qi := 0) rfl rfl ⟨rfl, rfl⟩ (by dsimp only [rm_X5_unit, rm_X5_goesIn]; omega) 0 rfl (by decide +kernel) rfl (Nat.le_of_ble_eq_true rfl) ⟨Nat.zero_le _, Nat.zero_le _⟩ dX5_unit_12 ?_
    rintro v18 _ ⟨w16, L17, rfl, h⟩
    refine g_if_ne C 20 dX5_unit_15 (by decide) (fun hc => ?_) (fun hc => ?_)
    · replace h := h.2 hc
      refine g_aload_n C 1 rfl dX5_unit_20 ?_
      refine g_callVi C (As := []) (rest := []) (hk h) (lw_V q1258 q1260 qs47 q84 q1261) (ci := 12) (qi := 0) rfl rfl ⟨rfl, rfl⟩ (by dsimp only [rm_X5_unit, rm_X5_unit]; omega) 0 rfl (by decide +kernel) rfl (Nat.le_of_ble_eq_true rfl) ⟨Nat.zero_le _, Nat.zero_le _⟩ dX5_unit_21 ?_
      rintro v21 _ ⟨w19, L20, rfl, h⟩
      refine g_istore_n C rfl (lt := [(2, .int v21), (1, .int v3), (0, .ref (ma K 0))]) dX5_unit_24 (by decide) rfl ?_
      refine g_aload_n C 2 rfl dX5_unit_25 ?_
      refine g_dup C rfl dX5_unit_26 ?_
      refine mg_deep C q1008 (xi w19 7) rfl dX5_unit_27 ?_
      refine g_iconst C 1 (by decide) dX5_unit_30 ?_
      refine g_isub C dX5_unit_31 ?_
      refine mp_deep C q1008 dX5_unit_32 ?_
      refine g_iload_n C 0 rfl dX5_unit_35 ?_
      obtain ⟨w22, ew22⟩ : ∃ z, z = (xsi w19 7 ((xi w19 7) - 1)) := ⟨_, rfl⟩
      replace h := h w22 ew22
      rw [← ew22]
      refine g_if_ne C 43 dX5_unit_36 (by decide) (fun hc => ?_) (fun hc => ?_)
      · replace h := h.2 hc
        refine g_iconst C 0 (by decide) dX5_unit_43 ?_
        refine g_sub [] rfl ?_
        exact k_X5_unit_44 C ret hk 0 w22 L20 h
      · replace h := h.1 hc
        refine g_iconst C 1 (by decide) dX5_unit_39 ?_
        refine g_goto C 44 dX5_unit_40 (by decide) ?_
        refine g_sub [] rfl ?_
        exact k_X5_unit_44 C ret hk 1 w22 L20 h
    · replace h := h.1 hc
      refine g_iconst C 0 (by decide) dX5_unit_18 ?_
      exact ret _ _ _ _ _ rfl (gZ.n (Or.inl rfl)) dX5_unit_19 ⟨_, _, rfl, h⟩
def B_X5_unit1 (Bk : (Int32 → Wd → va_W → Prop) → Wd → va_W → Prop) (N : Nat) (post : Int32 → Wd → va_W → Prop) (w : Wd) (L : va_W) : Prop := B_X5_unit_0 Bk N post w L
theorem m_X5_unit1 {l : Launch} {K : gK} {N : Nat} {post : Int32 → Wd → va_W → Prop} {d : Nat} {Bk : (Int32 → Wd → va_W → Prop) → Wd → va_W → Prop} {w : Wd} {L : va_W} (hk : ∀ {p0 : Int32 → Wd → va_W → Prop} {w0 : Wd} {L0 : va_W}, Bk p0 w0 L0 → gMi l K yX5_unit cX5_unit 3 (some .boolean) (rm_X5_unit d) [.ref (ma K 0)] (mL K w0 ++ L0) (mPi K p0) 0 0) (h : B_X5_unit1 Bk N post w L) : gMi l K yX5_unit cX5_unit 3 (some .boolean) (rm_X5_unit (d + 1)) [.ref (ma K 0)] (mL K w ++ L) (mPi K post) 0 0 := by
  refine g_inI (ls0 := [(0, .ref (ma K 0))]) (by decide) (Nat.le_of_ble_eq_true rfl) rfl (fun Γ hl C hn ret => ?_)
  subst hl
  exact k_X5_unit_0 C ret hk w L h
def B_X5_unitd (N : Nat) : Nat → (Int32 → Wd → va_W → Prop) → Wd → va_W → Prop
  | 0, _, _, _ => False
  | d + 1, p0, w0, L0 => B_X5_unit1 (B_X5_unitd N d) N p0 w0 L0
theorem m_X5_unitd {l : Launch} {K : gK} {N : Nat} : ∀ (d : Nat) {p0 : Int32 → Wd → va_W → Prop} {w0 : Wd} {L0 : va_W}, B_X5_unitd N d p0 w0 L0 → gMi l K yX5_unit cX5_unit 3 (some .boolean) (rm_X5_unit d) [.ref (ma K 0)] (mL K w0 ++ L0) (mPi K p0) 0 0 := by
  intro d
  induction d with
  | zero => intro  p0 w0 L0 h; exact h.elim
  | succ d ih => intro  p0 w0 L0 h; exact m_X5_unit1 (d := d) (Bk := B_X5_unitd N d) (N := N) (post := p0) (w := w0) (L := L0) (hk := ih) h
def B_X5_unit (N : Nat) (p0 : Int32 → Wd → va_W → Prop) (w0 : Wd) (L0 : va_W) : Prop := B_X5_unitd N 8 p0 w0 L0
theorem m_X5_unit {l : Launch} {K : gK} {N : Nat} {p0 : Int32 → Wd → va_W → Prop} {w0 : Wd} {L0 : va_W} (h : B_X5_unit N p0 w0 L0) : gMi l K yX5_unit cX5_unit 3 (some .boolean) (rm_X5_unit 8) [.ref (ma K 0)] (mL K w0 ++ L0) (mPi K p0) 0 0 := m_X5_unitd 8 h
def B_X5_part_out (N : Nat) (x1 : Int32) (x2 : Int32) (p0 : Int32 → Wd → va_W → Prop) (w0 : Wd) (L0 : va_W) : Prop := B_X5_part (B_X5_unitd N 8) N x1 x2 p0 w0 L0
theorem m_X5_part_out {l : Launch} {K : gK} {N : Nat} {x1 : Int32} {x2 : Int32} {p0 : Int32 → Wd → va_W → Prop} {w0 : Wd} {L0 : va_W} (h : B_X5_part_out N x1 x2 p0 w0 L0) : gMi l K yX5_part cX5_part 5 (some .boolean) (rm_X5_part 8) [.ref (ma K 0), .int x1, .int x2] (mL K w0 ++ L0) (mPi K p0) 0 0 := m_X5_part (d := 8) (hk := m_X5_unitd 8) h
def B_X5_condition_out (N : Nat) (x1 : Int32) (x2 : Int32) (p0 : Int32 → Wd → va_W → Prop) (w0 : Wd) (L0 : va_W) : Prop := B_X5_condition (B_X5_unitd N 8) N x1 x2 p0 w0 L0
theorem m_X5_condition_out {l : Launch} {K : gK} {N : Nat} {x1 : Int32} {x2 : Int32} {p0 : Int32 → Wd → va_W → Prop} {w0 : Wd} {L0 : va_W} (h : B_X5_condition_out N x1 x2 p0 w0 L0) : gMi l K yX5_condition cX5_condition 5 (some .boolean) (rm_X5_condition 8) [.ref (ma K 0), .int x1, .int x2] (mL K w0 ++ L0) (mPi K p0) 0 0 := m_X5_condition (d := 8) (hk := m_X5_unitd 8) h
