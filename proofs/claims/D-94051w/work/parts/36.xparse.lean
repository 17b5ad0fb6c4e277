set_option maxRecDepth 100000
def rm_X6_init : Room := { frames := 1, cells := 0, slots := 0, locals := 20 }
def B_X6_init_0 (N : Nat) (post : Wd → va_W → Prop) (x0 : Nat) (w : Wd) (L : va_W) : Prop :=
  post w L
set_option maxHeartbeats 4000000 in
theorem k_X6_init_0 {Γ : gT} {K : gK} {N : Nat} {post : Wd → va_W → Prop} (C : gC Γ K RX6 cX6_init 1 rm_X6_init) (ret : gRv Γ K cX6_init (none) (xPv K post) 0 0) (hn : Γ.h.name = "<init>") (x0 : Nat) (w : Wd) (L : va_W) (h : B_X6_init_0 N post x0 w L) : gJ Γ K 0 0 (xL K w ++ L) 0 [(0, .ref x0)] [] := by
  unfold B_X6_init_0 at h
  refine g_aload_n C 0 rfl dX6_init_0 ?_
  refine g_objInit C q497 q109 q110 dX6_init_1 ⟨Nat.le_of_ble_eq_true rfl, Nat.le_of_ble_eq_true rfl⟩ ?_
  exact ret rfl _ _ _ dX6_init_4 ⟨_, _, rfl, h⟩
def B_X6_init (N : Nat) (x0 : Nat) (post : Wd → va_W → Prop) (w : Wd) (L : va_W) : Prop := B_X6_init_0 N post x0 w L
theorem m_X6_init {l : Launch} {K : gK} {N : Nat} {post : Wd → va_W → Prop} {x0 : Nat} {w : Wd} {L : va_W} (h : B_X6_init N x0 post w L) : gMv l K yX6_init cX6_init 1 (none) rm_X6_init [.ref x0] (xL K w ++ L) (xPv K post) 0 0 := by
  refine g_inV (ls0 := [(0, .ref x0)]) (by decide) (Nat.le_of_ble_eq_true rfl) rfl (fun Γ hl C hn ret => ?_)
  exact k_X6_init_0 C ret hn x0 w L h
def rm_X12_init : Room := { frames := 1, cells := 0, slots := 0, locals := 20 }
def B_X12_init_0 (N : Nat) (post : Wd → va_W → Prop) (x0 : Nat) (w : Wd) (L : va_W) : Prop :=
  post w L
set_option maxHeartbeats 4000000 in
theorem k_X12_init_0 {Γ : gT} {K : gK} {N : Nat} {post : Wd → va_W → Prop} (C : gC Γ K RX12 cX12_init 1 rm_X12_init) (ret : gRv Γ K cX12_init (none) (xPv K post) 0 0) (hn : Γ.h.name = "<init>") (x0 : Nat) (w : Wd) (L : va_W) (h : B_X12_init_0 N post x0 w L) : gJ Γ K 0 0 (xL K w ++ L) 0 [(0, .ref x0)] [] := by
  unfold B_X12_init_0 at h
  refine g_aload_n C 0 rfl dX12_init_0 ?_
  refine g_objInit C q595 q109 q110 dX12_init_1 ⟨Nat.le_of_ble_eq_true rfl, Nat.le_of_ble_eq_true rfl⟩ ?_
  exact ret rfl _ _ _ dX12_init_4 ⟨_, _, rfl, h⟩
def B_X12_init (N : Nat) (x0 : Nat) (post : Wd → va_W → Prop) (w : Wd) (L : va_W) : Prop := B_X12_init_0 N post x0 w L
theorem m_X12_init {l : Launch} {K : gK} {N : Nat} {post : Wd → va_W → Prop} {x0 : Nat} {w : Wd} {L : va_W} (h : B_X12_init N x0 post w L) : gMv l K yX12_init cX12_init 1 (none) rm_X12_init [.ref x0] (xL K w ++ L) (xPv K post) 0 0 := by
  refine g_inV (ls0 := [(0, .ref x0)]) (by decide) (Nat.le_of_ble_eq_true rfl) rfl (fun Γ hl C hn ret => ?_)
  exact k_X12_init_0 C ret hn x0 w L h
def rm_X8_init : Room := { frames := 2, cells := 0, slots := 0, locals := 40 }
def B_X8_init_0 (N : Nat) (post : Wd → va_W → Prop) (x0 : Nat) (x1 : Int32) (w : Wd) (L : va_W) : Prop :=
  B_X6_init N x0 (fun (w2 : Wd) (L3 : va_W) =>
  ∃ (k4 : Nat) (f4 : List Value), L3[k4]? = some (x0, .inr (4, f4)) ∧ 0 < f4.length ∧ ∀ L4 : va_W, L4 = L3.set k4 (x0, .inr (4, f4.set 0 (.int x1))) → post w2 L4) w L
set_option maxHeartbeats 4000000 in
theorem k_X8_init_0 {Γ : gT} {K : gK} {N : Nat} {post : Wd → va_W → Prop} (C : gC Γ K RX8 cX8_init 2 rm_X8_init) (ret : gRv Γ K cX8_init (none) (xPv K post) 0 0) (hn : Γ.h.name = "<init>") (x0 : Nat) (x1 : Int32) (w : Wd) (L : va_W) (h : B_X8_init_0 N post x0 x1 w L) : gJ Γ K 0 0 (xL K w ++ L) 0 [(0, .ref x0), (1, .int x1)] [] := by
  unfold B_X8_init_0 at h
  refine g_aload_n C 0 rfl dX8_init_0 ?_
  refine g_callIN C (As := []) (rest := []) (m_X6_init h) nm_X8_1 (lw_meth q496) q91 q495 rfl ⟨rfl, rfl⟩ ⟨Nat.le_of_ble_eq_true rfl, Nat.le_of_ble_eq_true rfl⟩ 0 rfl (by decide +kernel) rfl (Nat.le_of_ble_eq_true rfl) ⟨Nat.zero_le _, Nat.zero_le _⟩ dX8_init_1 ?_
  rintro _ ⟨w2, L3, rfl, h⟩
  refine g_aload_n C 0 rfl dX8_init_4 ?_
  refine g_iload_n C 1 rfl dX8_init_5 ?_
  obtain ⟨k4, f4, e4, g4, h⟩ := h
  refine xdp_Constant_v C hn rfl q511 e4 g4 dX8_init_6 ?_
  obtain ⟨L4, eL4⟩ : ∃ z, z = L3.set k4 (x0, .inr (4, f4.set 0 (.int x1))) := ⟨_, rfl⟩
  replace h := h L4 eL4
  rw [← eL4]
  exact ret rfl _ _ _ dX8_init_9 ⟨_, _, rfl, h⟩
def B_X8_init (N : Nat) (x0 : Nat) (x1 : Int32) (post : Wd → va_W → Prop) (w : Wd) (L : va_W) : Prop := B_X8_init_0 N post x0 x1 w L
theorem m_X8_init {l : Launch} {K : gK} {N : Nat} {post : Wd → va_W → Prop} {x0 : Nat} {x1 : Int32} {w : Wd} {L : va_W} (h : B_X8_init N x0 x1 post w L) : gMv l K yX8_init cX8_init 2 (none) rm_X8_init [.ref x0, .int x1] (xL K w ++ L) (xPv K post) 0 0 := by
  refine g_inV (ls0 := [(0, .ref x0), (1, .int x1)]) (by decide) (Nat.le_of_ble_eq_true rfl) rfl (fun Γ hl C hn ret => ?_)
  exact k_X8_init_0 C ret hn x0 x1 w L h
def rm_X7_init : Room := { frames := 2, cells := 0, slots := 0, locals := 40 }
def B_X7_init_0 (N : Nat) (post : Wd → va_W → Prop) (x0 : Nat) (x1 : Int32) (w : Wd) (L : va_W) : Prop :=
  B_X6_init N x0 (fun (w2 : Wd) (L3 : va_W) =>
  ∃ (k4 : Nat) (f4 : List Value), L3[k4]? = some (x0, .inr (5, f4)) ∧ 0 < f4.length ∧ ∀ L4 : va_W, L4 = L3.set k4 (x0, .inr (5, f4.set 0 (.int x1))) → post w2 L4) w L
set_option maxHeartbeats 4000000 in
theorem k_X7_init_0 {Γ : gT} {K : gK} {N : Nat} {post : Wd → va_W → Prop} (C : gC Γ K RX7 cX7_init 2 rm_X7_init) (ret : gRv Γ K cX7_init (none) (xPv K post) 0 0) (hn : Γ.h.name = "<init>") (x0 : Nat) (x1 : Int32) (w : Wd) (L : va_W) (h : B_X7_init_0 N post x0 x1 w L) : gJ Γ K 0 0 (xL K w ++ L) 0 [(0, .ref x0), (1, .int x1)] [] := by
  unfold B_X7_init_0 at h
  refine g_aload_n C 0 rfl dX7_init_0 ?_
  refine g_callIN C (As := []) (rest := []) (m_X6_init h) nm_X7_1 (lw_meth q496) q91 q495 rfl ⟨rfl, rfl⟩ ⟨Nat.le_of_ble_eq_true rfl, Nat.le_of_ble_eq_true rfl⟩ 0 rfl (by decide +kernel) rfl (Nat.le_of_ble_eq_true rfl) ⟨Nat.zero_le _, Nat.zero_le _⟩ dX7_init_1 ?_
  rintro _ ⟨w2, L3, rfl, h⟩
  refine g_aload_n C 0 rfl dX7_init_4 ?_
  refine g_iload_n C 1 rfl dX7_init_5 ?_
  obtain ⟨k4, f4, e4, g4, h⟩ := h
  refine xdp_Letter_c C hn rfl q498 e4 g4 dX7_init_6 ?_
  obtain ⟨L4, eL4⟩ : ∃ z, z = L3.set k4 (x0, .inr (5, f4.set 0 (.int x1))) := ⟨_, rfl⟩
  replace h := h L4 eL4
  rw [← eL4]
  exact ret rfl _ _ _ dX7_init_9 ⟨_, _, rfl, h⟩
def B_X7_init (N : Nat) (x0 : Nat) (x1 : Int32) (post : Wd → va_W → Prop) (w : Wd) (L : va_W) : Prop := B_X7_init_0 N post x0 x1 w L
theorem m_X7_init {l : Launch} {K : gK} {N : Nat} {post : Wd → va_W → Prop} {x0 : Nat} {x1 : Int32} {w : Wd} {L : va_W} (h : B_X7_init N x0 x1 post w L) : gMv l K yX7_init cX7_init 2 (none) rm_X7_init [.ref x0, .int x1] (xL K w ++ L) (xPv K post) 0 0 := by
  refine g_inV (ls0 := [(0, .ref x0), (1, .int x1)]) (by decide) (Nat.le_of_ble_eq_true rfl) rfl (fun Γ hl C hn ret => ?_)
  exact k_X7_init_0 C ret hn x0 x1 w L h
def rm_X9_init : Room := { frames := 2, cells := 0, slots := 0, locals := 40 }
def B_X9_init_0 (N : Nat) (post : Wd → va_W → Prop) (x0 : Nat) (x1 : Option Nat) (w : Wd) (L : va_W) : Prop :=
  B_X6_init N x0 (fun (w2 : Wd) (L3 : va_W) =>
  ∃ (k4 : Nat) (f4 : List Value), L3[k4]? = some (x0, .inr (6, f4)) ∧ 0 < f4.length ∧ ∀ L4 : va_W, L4 = L3.set k4 (x0, .inr (6, f4.set 0 (va_rf x1))) → post w2 L4) w L
set_option maxHeartbeats 4000000 in
theorem k_X9_init_0 {Γ : gT} {K : gK} {N : Nat} {post : Wd → va_W → Prop} (C : gC Γ K RX9 cX9_init 2 rm_X9_init) (ret : gRv Γ K cX9_init (none) (xPv K post) 0 0) (hn : Γ.h.name = "<init>") (x0 : Nat) (x1 : Option Nat) (w : Wd) (L : va_W) (h : B_X9_init_0 N post x0 x1 w L) : gJ Γ K 0 0 (xL K w ++ L) 0 [(0, .ref x0), (1, va_rf x1)] [] := by
  unfold B_X9_init_0 at h
  refine g_aload_n C 0 rfl dX9_init_0 ?_
  refine g_callIN C (As := []) (rest := []) (m_X6_init h) nm_X9_3 (lw_meth q496) q91 q495 rfl ⟨rfl, rfl⟩ ⟨Nat.le_of_ble_eq_true rfl, Nat.le_of_ble_eq_true rfl⟩ 0 rfl (by decide +kernel) rfl (Nat.le_of_ble_eq_true rfl) ⟨Nat.zero_le _, Nat.zero_le _⟩ dX9_init_1 ?_
  rintro _ ⟨w2, L3, rfl, h⟩
  refine g_aload_n C 0 rfl dX9_init_4 ?_
  refine g_aload_nq C 1 rfl dX9_init_5 ?_
  obtain ⟨k4, f4, e4, g4, h⟩ := h
  refine xdp_Chain_first C hn rfl q521 e4 g4 dX9_init_6 ?_
  obtain ⟨L4, eL4⟩ : ∃ z, z = L3.set k4 (x0, .inr (6, f4.set 0 (va_rf x1))) := ⟨_, rfl⟩
  replace h := h L4 eL4
  rw [← eL4]
  exact ret rfl _ _ _ dX9_init_9 ⟨_, _, rfl, h⟩
def B_X9_init (N : Nat) (x0 : Nat) (x1 : Option Nat) (post : Wd → va_W → Prop) (w : Wd) (L : va_W) : Prop := B_X9_init_0 N post x0 x1 w L
theorem m_X9_init {l : Launch} {K : gK} {N : Nat} {post : Wd → va_W → Prop} {x0 : Nat} {x1 : Option Nat} {w : Wd} {L : va_W} (h : B_X9_init N x0 x1 post w L) : gMv l K yX9_init cX9_init 2 (none) rm_X9_init [.ref x0, va_rf x1] (xL K w ++ L) (xPv K post) 0 0 := by
  refine g_inV (ls0 := [(0, .ref x0), (1, va_rf x1)]) (by decide) (by cases x1 <;> exact Nat.le_of_ble_eq_true rfl) (by cases x1 <;> rfl) (fun Γ hl C hn ret => ?_)
  exact k_X9_init_0 C ret hn x0 x1 w L h
def rm_X10_init : Room := { frames := 1, cells := 0, slots := 0, locals := 20 }
def B_X10_init_0 (N : Nat) (post : Wd → va_W → Prop) (x0 : Nat) (x1 : Int32) (x2 : Option Nat) (w : Wd) (L : va_W) : Prop :=
  ∃ (k1 : Nat) (f1 : List Value), L[k1]? = some (x0, .inr (7, f1)) ∧ 0 < f1.length ∧ ∀ L1 : va_W, L1 = L.set k1 (x0, .inr (7, f1.set 0 (.int x1))) → ∃ (k2 : Nat) (f2 : List Value), L1[k2]? = some (x0, .inr (7, f2)) ∧ 1 < f2.length ∧ ∀ L2 : va_W, L2 = L1.set k2 (x0, .inr (7, f2.set 1 (va_rf x2))) → post w L2
set_option maxHeartbeats 4000000 in
theorem k_X10_init_0 {Γ : gT} {K : gK} {N : Nat} {post : Wd → va_W → Prop} (C : gC Γ K RX10 cX10_init 3 rm_X10_init) (ret : gRv Γ K cX10_init (none) (xPv K post) 0 0) (hn : Γ.h.name = "<init>") (x0 : Nat) (x1 : Int32) (x2 : Option Nat) (w : Wd) (L : va_W) (h : B_X10_init_0 N post x0 x1 x2 w L) : gJ Γ K 0 0 (xL K w ++ L) 0 [(0, .ref x0), (1, .int x1), (2, va_rf x2)] [] := by
  unfold B_X10_init_0 at h
  refine g_aload_n C 0 rfl dX10_init_0 ?_
  refine g_objInit C q540 q109 q110 dX10_init_1 ⟨Nat.le_of_ble_eq_true rfl, Nat.le_of_ble_eq_true rfl⟩ ?_
  refine g_aload_n C 0 rfl dX10_init_4 ?_
  refine g_iload_n C 1 rfl dX10_init_5 ?_
  obtain ⟨k1, f1, e1, g1, h⟩ := h
  refine xdp_Link_sign C hn rfl q541 e1 g1 dX10_init_6 ?_
  obtain ⟨L1, eL1⟩ : ∃ z, z = L.set k1 (x0, .inr (7, f1.set 0 (.int x1))) := ⟨_, rfl⟩
  replace h := h L1 eL1
  rw [← eL1]
  refine g_aload_n C 0 rfl dX10_init_9 ?_
  refine g_aload_nq C 2 rfl dX10_init_10 ?_
  obtain ⟨k2, f2, e2, g2, h⟩ := h
  refine xdp_Link_sum C hn rfl q542 e2 g2 dX10_init_11 ?_
  obtain ⟨L2, eL2⟩ : ∃ z, z = L1.set k2 (x0, .inr (7, f2.set 1 (va_rf x2))) := ⟨_, rfl⟩
  replace h := h L2 eL2
  rw [← eL2]
  exact ret rfl _ _ _ dX10_init_14 ⟨_, _, rfl, h⟩
def B_X10_init (N : Nat) (x0 : Nat) (x1 : Int32) (x2 : Option Nat) (post : Wd → va_W → Prop) (w : Wd) (L : va_W) : Prop := B_X10_init_0 N post x0 x1 x2 w L
theorem m_X10_init {l : Launch} {K : gK} {N : Nat} {post : Wd → va_W → Prop} {x0 : Nat} {x1 : Int32} {x2 : Option Nat} {w : Wd} {L : va_W} (h : B_X10_init N x0 x1 x2 post w L) : gMv l K yX10_init cX10_init 3 (none) rm_X10_init [.ref x0, .int x1, va_rf x2] (xL K w ++ L) (xPv K post) 0 0 := by
  refine g_inV (ls0 := [(0, .ref x0), (1, .int x1), (2, va_rf x2)]) (by decide) (by cases x2 <;> exact Nat.le_of_ble_eq_true rfl) (by cases x2 <;> rfl) (fun Γ hl C hn ret => ?_)
  exact k_X10_init_0 C ret hn x0 x1 x2 w L h
def rm_X14_init : Room := { frames := 2, cells := 0, slots := 0, locals := 40 }
def B_X14_init_0 (N : Nat) (post : Wd → va_W → Prop) (x0 : Nat) (x1 : Int32) (x2 : Option Nat) (x3 : Option Nat) (w : Wd) (L : va_W) : Prop :=
  B_X12_init N x0 (fun (w2 : Wd) (L3 : va_W) =>
  ∃ (k4 : Nat) (f4 : List Value), L3[k4]? = some (x0, .inr (8, f4)) ∧ 1 < f4.length ∧ ∀ L4 : va_W, L4 = L3.set k4 (x0, .inr (8, f4.set 1 (.int x1))) → ∃ (k5 : Nat) (f5 : List Value), L4[k5]? = some (x0, .inr (8, f5)) ∧ 2 < f5.length ∧ ∀ L5 : va_W, L5 = L4.set k5 (x0, .inr (8, f5.set 2 (va_rf x2))) → ∃ (k6 : Nat) (f6 : List Value), L5[k6]? = some (x0, .inr (8, f6)) ∧ 3 < f6.length ∧ ∀ L6 : va_W, L6 = L5.set k6 (x0, .inr (8, f6.set 3 (va_rf x3))) → post w2 L6) w L
set_option maxHeartbeats 4000000 in
theorem k_X14_init_0 {Γ : gT} {K : gK} {N : Nat} {post : Wd → va_W → Prop} (C : gC Γ K RX14 cX14_init 4 rm_X14_init) (ret : gRv Γ K cX14_init (none) (xPv K post) 0 0) (hn : Γ.h.name = "<init>") (x0 : Nat) (x1 : Int32) (x2 : Option Nat) (x3 : Option Nat) (w : Wd) (L : va_W) (h : B_X14_init_0 N post x0 x1 x2 x3 w L) : gJ Γ K 0 0 (xL K w ++ L) 0 [(0, .ref x0), (1, .int x1), (2, va_rf x2), (3, va_rf x3)] [] := by
  unfold B_X14_init_0 at h
  refine g_aload_n C 0 rfl dX14_init_0 ?_
  refine g_callIN C (As := []) (rest := []) (m_X12_init h) nm_X14_1 (lw_meth q594) q97 q593 rfl ⟨rfl, rfl⟩ ⟨Nat.le_of_ble_eq_true rfl, Nat.le_of_ble_eq_true rfl⟩ 0 rfl (by decide +kernel) rfl (Nat.le_of_ble_eq_true rfl) ⟨Nat.zero_le _, Nat.zero_le _⟩ dX14_init_1 ?_
  rintro _ ⟨w2, L3, rfl, h⟩
  refine g_aload_n C 0 rfl dX14_init_4 ?_
  refine g_iload_n C 1 rfl dX14_init_5 ?_
  obtain ⟨k4, f4, e4, g4, h⟩ := h
  refine xdp_Compare_sign C hn rfl q613 e4 g4 dX14_init_6 ?_
  obtain ⟨L4, eL4⟩ : ∃ z, z = L3.set k4 (x0, .inr (8, f4.set 1 (.int x1))) := ⟨_, rfl⟩
  replace h := h L4 eL4
  rw [← eL4]
  refine g_aload_n C 0 rfl dX14_init_9 ?_
  refine g_aload_nq C 2 rfl dX14_init_10 ?_
  obtain ⟨k5, f5, e5, g5, h⟩ := h
  refine xdp_Compare_one C hn rfl q614 e5 g5 dX14_init_11 ?_
  obtain ⟨L5, eL5⟩ : ∃ z, z = L4.set k5 (x0, .inr (8, f5.set 2 (va_rf x2))) := ⟨_, rfl⟩
  replace h := h L5 eL5
  rw [← eL5]
  refine g_aload_n C 0 rfl dX14_init_14 ?_
  refine g_aload_nq C 3 rfl dX14_init_15 ?_
  obtain ⟨k6, f6, e6, g6, h⟩ := h
  refine xdp_Compare_other C hn rfl q615 e6 g6 dX14_init_16 ?_
  obtain ⟨L6, eL6⟩ : ∃ z, z = L5.set k6 (x0, .inr (8, f6.set 3 (va_rf x3))) := ⟨_, rfl⟩
  replace h := h L6 eL6
  rw [← eL6]
  exact ret rfl _ _ _ dX14_init_19 ⟨_, _, rfl, h⟩
def B_X14_init (N : Nat) (x0 : Nat) (x1 : Int32) (x2 : Option Nat) (x3 : Option Nat) (post : Wd → va_W → Prop) (w : Wd) (L : va_W) : Prop := B_X14_init_0 N post x0 x1 x2 x3 w L
theorem m_X14_init {l : Launch} {K : gK} {N : Nat} {post : Wd → va_W → Prop} {x0 : Nat} {x1 : Int32} {x2 : Option Nat} {x3 : Option Nat} {w : Wd} {L : va_W} (h : B_X14_init N x0 x1 x2 x3 post w L) : gMv l K yX14_init cX14_init 4 (none) rm_X14_init [.ref x0, .int x1, va_rf x2, va_rf x3] (xL K w ++ L) (xPv K post) 0 0 := by
  refine g_inV (ls0 := [(0, .ref x0), (1, .int x1), (2, va_rf x2), (3, va_rf x3)]) (by decide) (by cases x2 <;> cases x3 <;> exact Nat.le_of_ble_eq_true rfl) (by cases x2 <;> cases x3 <;> rfl) (fun Γ hl C hn ret => ?_)
  exact k_X14_init_0 C ret hn x0 x1 x2 x3 w L h
def rm_X13_init : Room := { frames := 2, cells := 0, slots := 0, locals := 40 }
def B_X13_init_0 (N : Nat) (post : Wd → va_W → Prop) (x0 : Nat) (x1 : Option Nat) (w : Wd) (L : va_W) : Prop :=
  B_X12_init N x0 (fun (w2 : Wd) (L3 : va_W) =>
  ∃ (k4 : Nat) (f4 : List Value), L3[k4]? = some (x0, .inr (9, f4)) ∧ 1 < f4.length ∧ ∀ L4 : va_W, L4 = L3.set k4 (x0, .inr (9, f4.set 1 (va_rf x1))) → post w2 L4) w L
set_option maxHeartbeats 4000000 in
theorem k_X13_init_0 {Γ : gT} {K : gK} {N : Nat} {post : Wd → va_W → Prop} (C : gC Γ K RX13 cX13_init 2 rm_X13_init) (ret : gRv Γ K cX13_init (none) (xPv K post) 0 0) (hn : Γ.h.name = "<init>") (x0 : Nat) (x1 : Option Nat) (w : Wd) (L : va_W) (h : B_X13_init_0 N post x0 x1 w L) : gJ Γ K 0 0 (xL K w ++ L) 0 [(0, .ref x0), (1, va_rf x1)] [] := by
  unfold B_X13_init_0 at h
  refine g_aload_n C 0 rfl dX13_init_0 ?_
  refine g_callIN C (As := []) (rest := []) (m_X12_init h) nm_X13_1 (lw_meth q594) q97 q593 rfl ⟨rfl, rfl⟩ ⟨Nat.le_of_ble_eq_true rfl, Nat.le_of_ble_eq_true rfl⟩ 0 rfl (by decide +kernel) rfl (Nat.le_of_ble_eq_true rfl) ⟨Nat.zero_le _, Nat.zero_le _⟩ dX13_init_1 ?_
  rintro _ ⟨w2, L3, rfl, h⟩
  refine g_aload_n C 0 rfl dX13_init_4 ?_
  refine g_aload_nq C 1 rfl dX13_init_5 ?_
  obtain ⟨k4, f4, e4, g4, h⟩ := h
  refine xdp_Not_test C hn rfl q596 e4 g4 dX13_init_6 ?_
  obtain ⟨L4, eL4⟩ : ∃ z, z = L3.set k4 (x0, .inr (9, f4.set 1 (va_rf x1))) := ⟨_, rfl⟩
  replace h := h L4 eL4
  rw [← eL4]
  exact ret rfl _ _ _ dX13_init_9 ⟨_, _, rfl, h⟩
def B_X13_init (N : Nat) (x0 : Nat) (x1 : Option Nat) (post : Wd → va_W → Prop) (w : Wd) (L : va_W) : Prop := B_X13_init_0 N post x0 x1 w L
theorem m_X13_init {l : Launch} {K : gK} {N : Nat} {post : Wd → va_W → Prop} {x0 : Nat} {x1 : Option Nat} {w : Wd} {L : va_W} (h : B_X13_init N x0 x1 post w L) : gMv l K yX13_init cX13_init 2 (none) rm_X13_init [.ref x0, va_rf x1] (xL K w ++ L) (xPv K post) 0 0 := by
  refine g_inV (ls0 := [(0, .ref x0), (1, va_rf x1)]) (by decide) (by cases x1 <;> exact Nat.le_of_ble_eq_true rfl) (by cases x1 <;> rfl) (fun Γ hl C hn ret => ?_)
  exact k_X13_init_0 C ret hn x0 x1 w L h
def rm_X15_init : Room := { frames := 2, cells := 0, slots := 0, locals := 40 }
def B_X15_init_0 (N : Nat) (post : Wd → va_W → Prop) (x0 : Nat) (x1 : Int32) (x2 : Option Nat) (w : Wd) (L : va_W) : Prop :=
  B_X12_init N x0 (fun (w2 : Wd) (L3 : va_W) =>
  gZ x1 ∧ ∃ (k4 : Nat) (f4 : List Value), L3[k4]? = some (x0, .inr (10, f4)) ∧ 1 < f4.length ∧ ∀ L4 : va_W, L4 = L3.set k4 (x0, .inr (10, f4.set 1 (.int x1))) → ∃ (k5 : Nat) (f5 : List Value), L4[k5]? = some (x0, .inr (10, f5)) ∧ 2 < f5.length ∧ ∀ L5 : va_W, L5 = L4.set k5 (x0, .inr (10, f5.set 2 (va_rf x2))) → ∃ (k6 : Nat) (f6 : List Value), L5[k6]? = some (x0, .inr (10, f6)) ∧ 3 < f6.length ∧ ∀ L6 : va_W, L6 = L5.set k6 (x0, .inr (10, f6.set 3 (va_rf x2))) → post w2 L6) w L
set_option maxHeartbeats 4000000 in
theorem k_X15_init_0 {Γ : gT} {K : gK} {N : Nat} {post : Wd → va_W → Prop} (C : gC Γ K RX15 cX15_init 3 rm_X15_init) (ret : gRv Γ K cX15_init (none) (xPv K post) 0 0) (hn : Γ.h.name = "<init>") (x0 : Nat) (x1 : Int32) (x2 : Option Nat) (w : Wd) (L : va_W) (h : B_X15_init_0 N post x0 x1 x2 w L) : gJ Γ K 0 0 (xL K w ++ L) 0 [(0, .ref x0), (1, .int x1), (2, va_rf x2)] [] := by
  unfold B_X15_init_0 at h
  refine g_aload_n C 0 rfl dX15_init_0 ?_
  refine g_callIN C (As := []) (rest := []) (m_X12_init h) nm_X15_1 (lw_meth q594) q97 q593 rfl ⟨rfl, rfl⟩ ⟨Nat.le_of_ble_eq_true rfl, Nat.le_of_ble_eq_true rfl⟩ 0 rfl (by decide +kernel) rfl (Nat.le_of_ble_eq_true rfl) ⟨Nat.zero_le _, Nat.zero_le _⟩ dX15_init_1 ?_
  rintro _ ⟨w2, L3, rfl, h⟩
  refine g_aload_n C 0 rfl dX15_init_4 ?_
  refine g_iload_n C 1 rfl dX15_init_5 ?_
  obtain ⟨hz, h⟩ := h
  obtain ⟨k4, f4, e4, g4, h⟩ := h
  refine xdp_Several_isAll C hn rfl q630 hz e4 g4 dX15_init_6 ?_
  obtain ⟨L4, eL4⟩ : ∃ z, z = L3.set k4 (x0, .inr (10, f4.set 1 (.int x1))) := ⟨_, rfl⟩
  replace h := h L4 eL4
  rw [← eL4]
  refine g_aload_n C 0 rfl dX15_init_9 ?_
  refine g_aload_nq C 2 rfl dX15_init_10 ?_
  obtain ⟨k5, f5, e5, g5, h⟩ := h
  refine xdp_Several_first C q631 e5 g5 dX15_init_11 ?_
  obtain ⟨L5, eL5⟩ : ∃ z, z = L4.set k5 (x0, .inr (10, f5.set 2 (va_rf x2))) := ⟨_, rfl⟩
  replace h := h L5 eL5
  rw [← eL5]
  refine g_aload_n C 0 rfl dX15_init_14 ?_
  refine g_aload_nq C 2 rfl dX15_init_15 ?_
  obtain ⟨k6, f6, e6, g6, h⟩ := h
  refine xdp_Several_last C q632 e6 g6 dX15_init_16 ?_
  obtain ⟨L6, eL6⟩ : ∃ z, z = L5.set k6 (x0, .inr (10, f6.set 3 (va_rf x2))) := ⟨_, rfl⟩
  replace h := h L6 eL6
  rw [← eL6]
  exact ret rfl _ _ _ dX15_init_19 ⟨_, _, rfl, h⟩
def B_X15_init (N : Nat) (x0 : Nat) (x1 : Int32) (x2 : Option Nat) (post : Wd → va_W → Prop) (w : Wd) (L : va_W) : Prop := B_X15_init_0 N post x0 x1 x2 w L
theorem m_X15_init {l : Launch} {K : gK} {N : Nat} {post : Wd → va_W → Prop} {x0 : Nat} {x1 : Int32} {x2 : Option Nat} {w : Wd} {L : va_W} (h : B_X15_init N x0 x1 x2 post w L) : gMv l K yX15_init cX15_init 3 (none) rm_X15_init [.ref x0, .int x1, va_rf x2] (xL K w ++ L) (xPv K post) 0 0 := by
  refine g_inV (ls0 := [(0, .ref x0), (1, .int x1), (2, va_rf x2)]) (by decide) (by cases x2 <;> exact Nat.le_of_ble_eq_true rfl) (by cases x2 <;> rfl) (fun Γ hl C hn ret => ?_)
  exact k_X15_init_0 C ret hn x0 x1 x2 w L h
def rm_X11_init : Room := { frames := 1, cells := 0, slots := 0, locals := 20 }
def B_X11_init_0 (N : Nat) (post : Wd → va_W → Prop) (x0 : Nat) (x1 : Int32) (x2 : Option Nat) (x3 : Option Nat) (w : Wd) (L : va_W) : Prop :=
  ∃ (k1 : Nat) (f1 : List Value), L[k1]? = some (x0, .inr (11, f1)) ∧ 0 < f1.length ∧ ∀ L1 : va_W, L1 = L.set k1 (x0, .inr (11, f1.set 0 (.int x1))) → ∃ (k2 : Nat) (f2 : List Value), L1[k2]? = some (x0, .inr (11, f2)) ∧ 1 < f2.length ∧ ∀ L2 : va_W, L2 = L1.set k2 (x0, .inr (11, f2.set 1 (va_rf x2))) → ∃ (k3 : Nat) (f3 : List Value), L2[k3]? = some (x0, .inr (11, f3)) ∧ 2 < f3.length ∧ ∀ L3 : va_W, L3 = L2.set k3 (x0, .inr (11, f3.set 2 (va_rf x3))) → post w L3
set_option maxHeartbeats 4000000 in
theorem k_X11_init_0 {Γ : gT} {K : gK} {N : Nat} {post : Wd → va_W → Prop} (C : gC Γ K RX11 cX11_init 4 rm_X11_init) (ret : gRv Γ K cX11_init (none) (xPv K post) 0 0) (hn : Γ.h.name = "<init>") (x0 : Nat) (x1 : Int32) (x2 : Option Nat) (x3 : Option Nat) (w : Wd) (L : va_W) (h : B_X11_init_0 N post x0 x1 x2 x3 w L) : gJ Γ K 0 0 (xL K w ++ L) 0 [(0, .ref x0), (1, .int x1), (2, va_rf x2), (3, va_rf x3)] [] := by
  unfold B_X11_init_0 at h
  refine g_aload_n C 0 rfl dX11_init_0 ?_
  refine g_objInit C q558 q109 q110 dX11_init_1 ⟨Nat.le_of_ble_eq_true rfl, Nat.le_of_ble_eq_true rfl⟩ ?_
  refine g_aload_n C 0 rfl dX11_init_4 ?_
  refine g_iload_n C 1 rfl dX11_init_5 ?_
  obtain ⟨k1, f1, e1, g1, h⟩ := h
  refine xdp_Clause_label C hn rfl q559 e1 g1 dX11_init_6 ?_
  obtain ⟨L1, eL1⟩ : ∃ z, z = L.set k1 (x0, .inr (11, f1.set 0 (.int x1))) := ⟨_, rfl⟩
  replace h := h L1 eL1
  rw [← eL1]
  refine g_aload_n C 0 rfl dX11_init_9 ?_
  refine g_aload_nq C 2 rfl dX11_init_10 ?_
  obtain ⟨k2, f2, e2, g2, h⟩ := h
  refine xdp_Clause_test C hn rfl q561 e2 g2 dX11_init_11 ?_
  obtain ⟨L2, eL2⟩ : ∃ z, z = L1.set k2 (x0, .inr (11, f2.set 1 (va_rf x2))) := ⟨_, rfl⟩
  replace h := h L2 eL2
  rw [← eL2]
  refine g_aload_n C 0 rfl dX11_init_14 ?_
  refine g_aload_nq C 3 rfl dX11_init_15 ?_
  obtain ⟨k3, f3, e3, g3, h⟩ := h
  refine xdp_Clause_sum C hn rfl q563 e3 g3 dX11_init_16 ?_
  obtain ⟨L3, eL3⟩ : ∃ z, z = L2.set k3 (x0, .inr (11, f3.set 2 (va_rf x3))) := ⟨_, rfl⟩
  replace h := h L3 eL3
  rw [← eL3]
  exact ret rfl _ _ _ dX11_init_19 ⟨_, _, rfl, h⟩
def B_X11_init (N : Nat) (x0 : Nat) (x1 : Int32) (x2 : Option Nat) (x3 : Option Nat) (post : Wd → va_W → Prop) (w : Wd) (L : va_W) : Prop := B_X11_init_0 N post x0 x1 x2 x3 w L
theorem m_X11_init {l : Launch} {K : gK} {N : Nat} {post : Wd → va_W → Prop} {x0 : Nat} {x1 : Int32} {x2 : Option Nat} {x3 : Option Nat} {w : Wd} {L : va_W} (h : B_X11_init N x0 x1 x2 x3 post w L) : gMv l K yX11_init cX11_init 4 (none) rm_X11_init [.ref x0, .int x1, va_rf x2, va_rf x3] (xL K w ++ L) (xPv K post) 0 0 := by
  refine g_inV (ls0 := [(0, .ref x0), (1, .int x1), (2, va_rf x2), (3, va_rf x3)]) (by decide) (by cases x2 <;> cases x3 <;> exact Nat.le_of_ble_eq_true rfl) (by cases x2 <;> cases x3 <;> rfl) (fun Γ hl C hn ret => ?_)
  exact k_X11_init_0 C ret hn x0 x1 x2 x3 w L h
def rm_X15_add : Room := { frames := 0, cells := 0, slots := 0, locals := 0 }
def B_X15_add_0 (N : Nat) (post : Wd → va_W → Prop) (x0 : Nat) (x1 : Option Nat) (w : Wd) (L : va_W) : Prop :=
  ∃ (k1 : Nat) (f1 : List Value) (v1 : Option Nat), L[k1]? = some (x0, .inr (10, f1)) ∧ f1[3]? = some (va_rf v1) ∧ ∃ (y2 k2 c2 : Nat) (f2 : List Value), v1 = some y2 ∧ (c2 = 8 ∨ c2 = 9 ∨ c2 = 10) ∧ L[k2]? = some (y2, .inr (c2, f2)) ∧ 0 < f2.length ∧ ∀ L2 : va_W, L2 = L.set k2 (y2, .inr (c2, f2.set 0 (va_rf x1))) → ∃ (k3 : Nat) (f3 : List Value), L2[k3]? = some (x0, .inr (10, f3)) ∧ 3 < f3.length ∧ ∀ L3 : va_W, L3 = L2.set k3 (x0, .inr (10, f3.set 3 (va_rf x1))) → post w L3
set_option maxHeartbeats 4000000 in
theorem k_X15_add_0 {Γ : gT} {K : gK} {N : Nat} {post : Wd → va_W → Prop} (C : gC Γ K RX15 cX15_add 2 rm_X15_add) (ret : gRv Γ K cX15_add (none) (xPv K post) 0 0) (x0 : Nat) (x1 : Option Nat) (w : Wd) (L : va_W) (h : B_X15_add_0 N post x0 x1 w L) : gJ Γ K 0 0 (xL K w ++ L) 0 [(0, .ref x0), (1, va_rf x1)] [] := by
  unfold B_X15_add_0 at h
  refine g_aload_n C 0 rfl dX15_add_0 ?_
  obtain ⟨k1, f1, v1, e1, g1, h⟩ := h
  refine xd_Several_last C q632 e1 g1 dX15_add_1 ?_
  refine g_aload_nq C 1 rfl dX15_add_4 ?_
  obtain ⟨y2, k2, c2, f2, ey2, hc2, e2, g2, h⟩ := h
  refine g_stk (st' := [va_rf x1, .ref y2]) (by rw [ey2]; rfl) ?_
  refine xdpN_Test_next C nf_X15_20 hc2 e2 g2 dX15_add_5 ?_
  obtain ⟨L2, eL2⟩ : ∃ z, z = L.set k2 (y2, .inr (c2, f2.set 0 (va_rf x1))) := ⟨_, rfl⟩
  replace h := h L2 eL2
  rw [← eL2]
  refine g_aload_n C 0 rfl dX15_add_8 ?_
  refine g_aload_nq C 1 rfl dX15_add_9 ?_
  obtain ⟨k3, f3, e3, g3, h⟩ := h
  refine xdp_Several_last C q632 e3 g3 dX15_add_10 ?_
  obtain ⟨L3, eL3⟩ : ∃ z, z = L2.set k3 (x0, .inr (10, f3.set 3 (va_rf x1))) := ⟨_, rfl⟩
  replace h := h L3 eL3
  rw [← eL3]
  exact ret rfl _ _ _ dX15_add_13 ⟨_, _, rfl, h⟩
def B_X15_add (N : Nat) (x0 : Nat) (x1 : Option Nat) (post : Wd → va_W → Prop) (w : Wd) (L : va_W) : Prop := B_X15_add_0 N post x0 x1 w L
theorem m_X15_add {l : Launch} {K : gK} {N : Nat} {post : Wd → va_W → Prop} {x0 : Nat} {x1 : Option Nat} {w : Wd} {L : va_W} (h : B_X15_add N x0 x1 post w L) : gMv l K yX15_add cX15_add 2 (none) rm_X15_add [.ref x0, va_rf x1] (xL K w ++ L) (xPv K post) 0 0 := by
  refine g_inV (ls0 := [(0, .ref x0), (1, va_rf x1)]) (by decide) (by cases x1 <;> exact Nat.le_of_ble_eq_true rfl) (by cases x1 <;> rfl) (fun Γ hl C hn ret => ?_)
  exact k_X15_add_0 C ret x0 x1 w L h
def rm_X9_add (mc : Nat) : Room := { frames := 2, cells := mc, slots := 4 * mc, locals := 42 }
def B_X9_add_33 (N : Nat) (mc : Nat) (post : Wd → va_W → Prop) (postX : Wd → va_W → Prop) (i : Nat) (x0 : Nat) (x3 : Nat) (w : Wd) (L : va_W) : Prop :=
  ∃ (k1 : Nat) (f1 : List Value), L[k1]? = some (x0, .inr (6, f1)) ∧ 2 < f1.length ∧ ∀ L1 : va_W, L1 = L.set k1 (x0, .inr (6, f1.set 2 (va_rf (some x3)))) → post w L1
set_option maxHeartbeats 4000000 in
theorem k_X9_add_33 {Γ : gT} {K : gK} {N : Nat} {mc : Nat} {post : Wd → va_W → Prop} {postX : Wd → va_W → Prop} (C : gC Γ K RX9 cX9_add 4 (rm_X9_add mc)) (ret : gXvR Γ K cX9_add (none) (xPv K post) mc) (thr : gXT Γ K (xPv K postX) mc) (i : Nat) (x0 : Nat) (x3 : Nat) (w : Wd) (L : va_W) (hi : i ≤ mc) (h : B_X9_add_33 N mc post postX i x0 x3 w L) : gJ Γ K i (4 * i) (xL K w ++ L) 33 [(0, .ref x0), (3, .ref x3)] [] := by
  unfold B_X9_add_33 at h
  refine g_aload_n C 0 rfl dX9_add_33 ?_
  refine g_aload_n C 1 rfl dX9_add_34 ?_
  obtain ⟨k1, f1, e1, g1, h⟩ := h
  refine g_stk (st' := [va_rf (some x3), .ref x0]) (by rfl) ?_
  refine xdp_Chain_last C q523 e1 g1 dX9_add_35 ?_
  obtain ⟨L1, eL1⟩ : ∃ z, z = L.set k1 (x0, .inr (6, f1.set 2 (va_rf (some x3)))) := ⟨_, rfl⟩
  replace h := h L1 eL1
  rw [← eL1]
  exact ret _ hi rfl _ _ _ dX9_add_38 ⟨_, _, rfl, h⟩
def B_X9_add_0 (N : Nat) (mc : Nat) (post : Wd → va_W → Prop) (postX : Wd → va_W → Prop) (i : Nat) (x0 : Nat) (x1 : Int32) (x2 : Option Nat) (w : Wd) (L : va_W) : Prop :=
  i + 1 ≤ mc ∧ ∀ q1 : Nat, ∀ L2 : va_W, L2 = L ++ [(q1, .inr (7, [.int 0, va_rf none, va_rf none]))] → B_X10_init N q1 x1 x2 (fun (w4 : Wd) (L5 : va_W) =>
  ∃ (k6 : Nat) (f6 : List Value) (v6 : Option Nat), L5[k6]? = some (x0, .inr (6, f6)) ∧ f6[2]? = some (va_rf v6) ∧ (v6 = none →
    ∃ (k8 : Nat) (f8 : List Value), L5[k8]? = some (x0, .inr (6, f8)) ∧ 1 < f8.length ∧ ∀ L8 : va_W, L8 = L5.set k8 (x0, .inr (6, f8.set 1 (va_rf (some q1)))) → B_X9_add_33 N mc post postX (i + 1) x0 q1 w4 L8) ∧
  (∀ y7 : Nat, v6 = some y7 →
    ∃ (k9 : Nat) (f9 : List Value) (v9 : Option Nat), L5[k9]? = some (x0, .inr (6, f9)) ∧ f9[2]? = some (va_rf v9) ∧ ∃ (y10 k10 : Nat) (f10 : List Value), v9 = some y10 ∧ L5[k10]? = some (y10, .inr (7, f10)) ∧ 2 < f10.length ∧ ∀ L10 : va_W, L10 = L5.set k10 (y10, .inr (7, f10.set 2 (va_rf (some q1)))) → B_X9_add_33 N mc post postX (i + 1) x0 q1 w4 L10)) w L2
set_option maxHeartbeats 4000000 in
theorem k_X9_add_0 {Γ : gT} {K : gK} {N : Nat} {mc : Nat} {post : Wd → va_W → Prop} {postX : Wd → va_W → Prop} (C : gC Γ K RX9 cX9_add 4 (rm_X9_add mc)) (ret : gXvR Γ K cX9_add (none) (xPv K post) mc) (thr : gXT Γ K (xPv K postX) mc) (i : Nat) (x0 : Nat) (x1 : Int32) (x2 : Option Nat) (w : Wd) (L : va_W) (hi : i ≤ mc) (h : B_X9_add_0 N mc post postX i x0 x1 x2 w L) : gJ Γ K i (4 * i) (xL K w ++ L) 0 [(0, .ref x0), (1, .int x1), (2, va_rf x2)] [] := by
  unfold B_X9_add_0 at h
  obtain ⟨hq1, h⟩ := h
  refine g_new C (ci := 7) (fs := [.int 0, va_rf none, va_rf none]) tyX10 tyX10_ok rfl in_X10 q535 q536 q95 (by decide) (by decide) ⟨rfl, rfl⟩ hq1 dX9_add_0 (fun q1 => ?_)
  replace h := h q1
  obtain ⟨L2, eL2⟩ : ∃ z, z = L ++ [(q1, .inr (7, [.int 0, va_rf none, va_rf none]))] := ⟨_, rfl⟩
  replace h := h L2 eL2
  rw [List.append_assoc, ← eL2]
  refine g_dup C rfl dX9_add_3 ?_
  refine g_iload_n C 1 rfl dX9_add_4 ?_
  refine g_aload_nq C 2 rfl dX9_add_5 ?_
  refine g_callI C (As := [.int x1, va_rf x2]) (rest := [.ref q1]) (m_X10_init h) q537 (lw_meth q539) q95 q538 rfl ⟨rfl, rfl⟩ ⟨Nat.le_of_ble_eq_true rfl, Nat.le_of_ble_eq_true rfl⟩ 2 rfl (by decide +kernel) rfl (Nat.le_of_ble_eq_true rfl) ⟨hq1, Nat.mul_le_mul_left 4 hq1⟩ dX9_add_6 ?_
  rintro _ ⟨w4, L5, rfl, h⟩
  refine g_astore_n C rfl (lt := [(3, .ref q1), (0, .ref x0), (1, .int x1), (2, va_rf x2)]) dX9_add_9 (by decide) (by generalize x2 = zq; cases zq <;> rfl) ?_
  refine g_aload_n C 1 rfl dX9_add_10 ?_
  obtain ⟨k6, f6, v6, e6, g6, h⟩ := h
  refine xd_Chain_last C q523 e6 g6 dX9_add_11 ?_
  refine g_ifnonnull C 25 dX9_add_14 (by decide) (fun y7 hc => ?_) (fun hc => ?_)
  · replace h := h.2 y7 hc
    refine g_aload_n C 1 rfl dX9_add_25 ?_
    obtain ⟨k9, f9, v9, e9, g9, h⟩ := h
    refine xd_Chain_last C q523 e9 g9 dX9_add_26 ?_
    refine g_aload_n C 0 rfl dX9_add_29 ?_
    obtain ⟨y10, k10, f10, ey10, e10, g10, h⟩ := h
    refine g_stk (st' := [va_rf (some q1), .ref y10]) (by rw [ey10]; rfl) ?_
    refine xdpN_Link_next C nf_X9_27 e10 g10 dX9_add_30 ?_
    obtain ⟨L10, eL10⟩ : ∃ z, z = L5.set k10 (y10, .inr (7, f10.set 2 (va_rf (some q1)))) := ⟨_, rfl⟩
    replace h := h L10 eL10
    rw [← eL10]
    refine g_sub [1, 0] rfl ?_
    exact k_X9_add_33 C ret thr (i + 1) x0 q1 w4 L10 hq1 h
  · replace h := h.1 hc
    refine g_aload_n C 1 rfl dX9_add_17 ?_
    refine g_aload_n C 0 rfl dX9_add_18 ?_
    obtain ⟨k8, f8, e8, g8, h⟩ := h
    refine g_stk (st' := [va_rf (some q1), .ref x0]) (by rfl) ?_
    refine xdp_Chain_links C q522 e8 g8 dX9_add_19 ?_
    obtain ⟨L8, eL8⟩ : ∃ z, z = L5.set k8 (x0, .inr (6, f8.set 1 (va_rf (some q1)))) := ⟨_, rfl⟩
    replace h := h L8 eL8
    rw [← eL8]
    refine g_goto C 33 dX9_add_22 (by decide) ?_
    refine g_sub [1, 0] rfl ?_
    exact k_X9_add_33 C ret thr (i + 1) x0 q1 w4 L8 hq1 h
def B_X9_add (N : Nat) (x0 : Nat) (x1 : Int32) (x2 : Option Nat) (mc : Nat) (post : Wd → va_W → Prop) (postX : Wd → va_W → Prop) (w : Wd) (L : va_W) : Prop := B_X9_add_0 N mc post postX 0 x0 x1 x2 w L
theorem m_X9_add {l : Launch} {K : gK} {N : Nat} {mc : Nat} {post : Wd → va_W → Prop} {postX : Wd → va_W → Prop} {x0 : Nat} {x1 : Int32} {x2 : Option Nat} {w : Wd} {L : va_W} (h : B_X9_add N x0 x1 x2 mc post postX w L) : gXv l K yX9_add cX9_add 4 (none) (rm_X9_add mc) [.ref x0, .int x1, va_rf x2] (xL K w ++ L) (xPv K post) (xPv K postX) mc := by
  refine g_inXV (ls0 := [(0, .ref x0), (1, .int x1), (2, va_rf x2)]) (by decide) (by cases x2 <;> exact Nat.le_of_ble_eq_true rfl) (by cases x2 <;> rfl) rfl rfl (fun Γ hl C hn ret thr => ?_)
  exact k_X9_add_0 C ret thr 0 x0 x1 x2 w L (Nat.zero_le _) h
def rm_X1_need (mc : Nat) : Room := { frames := 0, cells := mc, slots := 4 * mc, locals := 0 }
def B_X1_need_0 (N : Nat) (mc : Nat) (post : Wd → va_W → Prop) (postX : Wd → va_W → Prop) (i : Nat) (x1 : Int32) (w : Wd) (L : va_W) : Prop :=
  (x1 = 0 →
    postX w L) ∧
  (¬ x1 = 0 →
    post w L)
set_option maxHeartbeats 4000000 in
theorem k_X1_need_0 {Γ : gT} {K : gK} {N : Nat} {mc : Nat} {post : Wd → va_W → Prop} {postX : Wd → va_W → Prop} (C : gC Γ K RX1 cX1_need 2 (rm_X1_need mc)) (ret : gXvR Γ K cX1_need (none) (xPv K post) mc) (thr : gXT Γ K (xPv K postX) mc) (i : Nat) (x1 : Int32) (w : Wd) (L : va_W) (hi : i ≤ mc) (h : B_X1_need_0 N mc post postX i x1 w L) : gJ Γ K i (4 * i) (xL K w ++ L) 0 [(0, .ref (xa K 0)), (1, .int x1)] [] := by
  unfold B_X1_need_0 at h
  refine g_iload_n C 1 rfl dX1_need_0 ?_
  refine g_if_ne C 9 dX1_need_1 (by decide) (fun hc => ?_) (fun hc => ?_)
  · replace h := h.2 hc
    exact ret _ hi rfl _ _ _ dX1_need_9 ⟨_, _, rfl, h⟩
  · replace h := h.1 hc
    refine g_aload_n C 0 rfl dX1_need_4 ?_
    refine xg_fault C q270 dX1_need_5 ?_
    exact g_athrow C (E := "OneBears$Fault") (ci := 3) (qi := 4) rfl rfl dX1_need_8 rfl (thr _ _ _ _ _ _ hi ⟨_, _, rfl, h⟩)
def B_X1_need (N : Nat) (x1 : Int32) (mc : Nat) (post : Wd → va_W → Prop) (postX : Wd → va_W → Prop) (w : Wd) (L : va_W) : Prop := B_X1_need_0 N mc post postX 0 x1 w L
theorem m_X1_need {l : Launch} {K : gK} {N : Nat} {mc : Nat} {post : Wd → va_W → Prop} {postX : Wd → va_W → Prop} {x1 : Int32} {w : Wd} {L : va_W} (h : B_X1_need N x1 mc post postX w L) : gXv l K yX1_need cX1_need 2 (none) (rm_X1_need mc) [.ref (xa K 0), .int x1] (xL K w ++ L) (xPv K post) (xPv K postX) mc := by
  refine g_inXV (ls0 := [(0, .ref (xa K 0)), (1, .int x1)]) (by decide) (Nat.le_of_ble_eq_true rfl) rfl rfl rfl (fun Γ hl C hn ret thr => ?_)
  exact k_X1_need_0 C ret thr 0 x1 w L (Nat.zero_le _) h
def rm_X1_opens (mc : Nat) : Room := { frames := 1, cells := mc, slots := 4 * mc, locals := 21 }
def B_X1_opens_15 (N : Nat) (mc : Nat) (post : Wd → va_W → Prop) (postX : Wd → va_W → Prop) (i : Nat) (s0 : Int32) (w : Wd) (L : va_W) : Prop :=
  B_X1_need N s0 0 (fun (w1 : Wd) (L2 : va_W) =>
  post (xsi (xsi w1 2 ((xi w1 2) + 1)) 1 ((xi w1 1) + 1)) L2) postX w L
set_option maxHeartbeats 4000000 in
theorem k_X1_opens_15 {Γ : gT} {K : gK} {N : Nat} {mc : Nat} {post : Wd → va_W → Prop} {postX : Wd → va_W → Prop} (C : gC Γ K RX1 cX1_opens 1 (rm_X1_opens mc)) (ret : gXvR Γ K cX1_opens (none) (xPv K post) mc) (thr : gXT Γ K (xPv K postX) mc) (i : Nat) (s0 : Int32) (w : Wd) (L : va_W) (hi : i ≤ mc) (h : B_X1_opens_15 N mc post postX i s0 w L) : gJ Γ K i (4 * i) (xL K w ++ L) 15 [(0, .ref (xa K 0))] [.int s0, .ref (xa K 0)] := by
  unfold B_X1_opens_15 at h
  refine g_callXVv C (As := [.int s0]) (rest := []) (m_X1_need h) (lw_V q464 q466 qs4 q78 q467) (ci := 0) (qi := 0) rfl rfl ⟨rfl, rfl⟩ ⟨Nat.le_of_ble_eq_true rfl, Nat.le_of_ble_eq_true rfl⟩ 1 rfl (by decide +kernel) rfl (Nat.le_of_ble_eq_true rfl) ⟨rfl, rfl⟩ hi dX1_opens_15 (fun V9 q9 hx => thr _ _ _ _ _ q9 hi hx) ?_
  rintro _ ⟨w1, L2, rfl, h⟩
  refine g_aload_n C 0 rfl dX1_opens_18 ?_
  refine g_dup C rfl dX1_opens_19 ?_
  refine xg_deep C q274 (xi w1 2) rfl dX1_opens_20 ?_
  refine g_iconst C 1 (by decide) dX1_opens_23 ?_
  refine g_iadd C dX1_opens_24 ?_
  refine xp_deep C q274 dX1_opens_25 ?_
  refine g_aload_n C 0 rfl dX1_opens_28 ?_
  refine g_dup C rfl dX1_opens_29 ?_
  refine xg_place C q273 (xi w1 1) rfl dX1_opens_30 ?_
  refine g_iconst C 1 (by decide) dX1_opens_33 ?_
  refine g_iadd C dX1_opens_34 ?_
  refine xp_place C q273 dX1_opens_35 ?_
  exact ret _ hi rfl _ _ _ dX1_opens_38 ⟨_, _, rfl, h⟩
def B_X1_opens_0 (N : Nat) (mc : Nat) (post : Wd → va_W → Prop) (postX : Wd → va_W → Prop) (i : Nat) (w : Wd) (L : va_W) : Prop :=
  ((6 : Int32) ≤ (xi w 2) →
    B_X1_opens_15 N mc post postX i 0 w L) ∧
  (¬ (6 : Int32) ≤ (xi w 2) →
    B_X1_opens_15 N mc post postX i 1 w L)
set_option maxHeartbeats 4000000 in
theorem k_X1_opens_0 {Γ : gT} {K : gK} {N : Nat} {mc : Nat} {post : Wd → va_W → Prop} {postX : Wd → va_W → Prop} (C : gC Γ K RX1 cX1_opens 1 (rm_X1_opens mc)) (ret : gXvR Γ K cX1_opens (none) (xPv K post) mc) (thr : gXT Γ K (xPv K postX) mc) (i : Nat) (w : Wd) (L : va_W) (hi : i ≤ mc) (h : B_X1_opens_0 N mc post postX i w L) : gJ Γ K i (4 * i) (xL K w ++ L) 0 [(0, .ref (xa K 0))] [] := by
  unfold B_X1_opens_0 at h
  refine g_aload_n C 0 rfl dX1_opens_0 ?_
  refine g_aload_n C 0 rfl dX1_opens_1 ?_
  refine xg_deep C q274 (xi w 2) rfl dX1_opens_2 ?_
  refine g_bipush C 6 (by decide) dX1_opens_5 ?_
  refine g_icmp_ge C 14 dX1_opens_7 (by decide) (fun hc => ?_) (fun hc => ?_)
  · replace h := h.1 hc
    refine g_iconst C 0 (by decide) dX1_opens_14 ?_
    exact k_X1_opens_15 C ret thr i 0 w L hi h
  · replace h := h.2 hc
    refine g_iconst C 1 (by decide) dX1_opens_10 ?_
    refine g_goto C 15 dX1_opens_11 (by decide) ?_
    exact k_X1_opens_15 C ret thr i 1 w L hi h
def B_X1_opens (N : Nat) (mc : Nat) (post : Wd → va_W → Prop) (postX : Wd → va_W → Prop) (w : Wd) (L : va_W) : Prop := B_X1_opens_0 N mc post postX 0 w L
theorem m_X1_opens {l : Launch} {K : gK} {N : Nat} {mc : Nat} {post : Wd → va_W → Prop} {postX : Wd → va_W → Prop} {w : Wd} {L : va_W} (h : B_X1_opens N mc post postX w L) : gXv l K yX1_opens cX1_opens 1 (none) (rm_X1_opens mc) [.ref (xa K 0)] (xL K w ++ L) (xPv K post) (xPv K postX) mc := by
  refine g_inXV (ls0 := [(0, .ref (xa K 0))]) (by decide) (Nat.le_of_ble_eq_true rfl) rfl rfl rfl (fun Γ hl C hn ret thr => ?_)
  exact k_X1_opens_0 C ret thr 0 w L (Nat.zero_le _) h
def rm_X1_closes (mc : Nat) : Room := { frames := 1, cells := mc, slots := 4 * mc, locals := 21 }
def B_X1_closes_14 (N : Nat) (mc : Nat) (post : Wd → va_W → Prop) (postX : Wd → va_W → Prop) (i : Nat) (s0 : Int32) (w : Wd) (L : va_W) : Prop :=
  B_X1_need N s0 0 (fun (w1 : Wd) (L2 : va_W) =>
  post (xsi (xsi w1 1 ((xi w1 1) + 1)) 2 ((xi w1 2) - 1)) L2) postX w L
set_option maxHeartbeats 4000000 in
theorem k_X1_closes_14 {Γ : gT} {K : gK} {N : Nat} {mc : Nat} {post : Wd → va_W → Prop} {postX : Wd → va_W → Prop} (C : gC Γ K RX1 cX1_closes 2 (rm_X1_closes mc)) (ret : gXvR Γ K cX1_closes (none) (xPv K post) mc) (thr : gXT Γ K (xPv K postX) mc) (i : Nat) (s0 : Int32) (w : Wd) (L : va_W) (hi : i ≤ mc) (h : B_X1_closes_14 N mc post postX i s0 w L) : gJ Γ K i (4 * i) (xL K w ++ L) 14 [(0, .ref (xa K 0))] [.int s0, .ref (xa K 0)] := by
  unfold B_X1_closes_14 at h
  refine g_callXVv C (As := [.int s0]) (rest := []) (m_X1_need h) (lw_V q464 q466 qs4 q78 q467) (ci := 0) (qi := 0) rfl rfl ⟨rfl, rfl⟩ ⟨Nat.le_of_ble_eq_true rfl, Nat.le_of_ble_eq_true rfl⟩ 1 rfl (by decide +kernel) rfl (Nat.le_of_ble_eq_true rfl) ⟨rfl, rfl⟩ hi dX1_closes_14 (fun V9 q9 hx => thr _ _ _ _ _ q9 hi hx) ?_
  rintro _ ⟨w1, L2, rfl, h⟩
  refine g_aload_n C 0 rfl dX1_closes_17 ?_
  refine g_dup C rfl dX1_closes_18 ?_
  refine xg_place C q273 (xi w1 1) rfl dX1_closes_19 ?_
  refine g_iconst C 1 (by decide) dX1_closes_22 ?_
  refine g_iadd C dX1_closes_23 ?_
  refine xp_place C q273 dX1_closes_24 ?_
  refine g_aload_n C 0 rfl dX1_closes_27 ?_
  refine g_dup C rfl dX1_closes_28 ?_
  refine xg_deep C q274 (xi w1 2) rfl dX1_closes_29 ?_
  refine g_iconst C 1 (by decide) dX1_closes_32 ?_
  refine g_isub C dX1_closes_33 ?_
  refine xp_deep C q274 dX1_closes_34 ?_
  exact ret _ hi rfl _ _ _ dX1_closes_37 ⟨_, _, rfl, h⟩
def B_X1_closes_0 (N : Nat) (mc : Nat) (post : Wd → va_W → Prop) (postX : Wd → va_W → Prop) (i : Nat) (x1 : Int32) (w : Wd) (L : va_W) : Prop :=
  B_X1_look N (fun (v3 : Int32) (w1 : Wd) (L2 : va_W) =>
  (v3 = x1 →
    B_X1_closes_14 N mc post postX i 1 w1 L2) ∧
  (¬ v3 = x1 →
    B_X1_closes_14 N mc post postX i 0 w1 L2)) w L
set_option maxHeartbeats 4000000 in
theorem k_X1_closes_0 {Γ : gT} {K : gK} {N : Nat} {mc : Nat} {post : Wd → va_W → Prop} {postX : Wd → va_W → Prop} (C : gC Γ K RX1 cX1_closes 2 (rm_X1_closes mc)) (ret : gXvR Γ K cX1_closes (none) (xPv K post) mc) (thr : gXT Γ K (xPv K postX) mc) (i : Nat) (x1 : Int32) (w : Wd) (L : va_W) (hi : i ≤ mc) (h : B_X1_closes_0 N mc post postX i x1 w L) : gJ Γ K i (4 * i) (xL K w ++ L) 0 [(0, .ref (xa K 0)), (1, .int x1)] [] := by
  unfold B_X1_closes_0 at h
  refine g_aload_n C 0 rfl dX1_closes_0 ?_
  refine g_aload_n C 0 rfl dX1_closes_1 ?_
  refine g_callVi C (As := []) (rest := [.ref (xa K 0)]) (m_X1_look h) (lw_V q373 q375 qs3 q78 q376) (ci := 0) (qi := 0) rfl rfl ⟨rfl, rfl⟩ ⟨Nat.le_of_ble_eq_true rfl, Nat.le_of_ble_eq_true rfl⟩ 0 rfl (by decide +kernel) rfl (Nat.le_of_ble_eq_true rfl) ⟨hi, Nat.mul_le_mul_left 4 hi⟩ dX1_closes_2 ?_
  rintro v3 _ ⟨w1, L2, rfl, h⟩
  refine g_iload_n C 1 rfl dX1_closes_5 ?_
  refine g_icmp_ne C 13 dX1_closes_6 (by decide) (fun hc => ?_) (fun hc => ?_)
  · replace h := h.2 hc
    refine g_iconst C 0 (by decide) dX1_closes_13 ?_
    refine g_sub [0] rfl ?_
    exact k_X1_closes_14 C ret thr i 0 w1 L2 hi h
  · replace h := h.1 hc
    refine g_iconst C 1 (by decide) dX1_closes_9 ?_
    refine g_goto C 14 dX1_closes_10 (by decide) ?_
    refine g_sub [0] rfl ?_
    exact k_X1_closes_14 C ret thr i 1 w1 L2 hi h
def B_X1_closes (N : Nat) (x1 : Int32) (mc : Nat) (post : Wd → va_W → Prop) (postX : Wd → va_W → Prop) (w : Wd) (L : va_W) : Prop := B_X1_closes_0 N mc post postX 0 x1 w L
theorem m_X1_closes {l : Launch} {K : gK} {N : Nat} {mc : Nat} {post : Wd → va_W → Prop} {postX : Wd → va_W → Prop} {x1 : Int32} {w : Wd} {L : va_W} (h : B_X1_closes N x1 mc post postX w L) : gXv l K yX1_closes cX1_closes 2 (none) (rm_X1_closes mc) [.ref (xa K 0), .int x1] (xL K w ++ L) (xPv K post) (xPv K postX) mc := by
  refine g_inXV (ls0 := [(0, .ref (xa K 0)), (1, .int x1)]) (by decide) (Nat.le_of_ble_eq_true rfl) rfl rfl rfl (fun Γ hl C hn ret thr => ?_)
  exact k_X1_closes_0 C ret thr 0 x1 w L (Nat.zero_le _) h
def rm_X1_atom (d : Nat) (mc : Nat) : Room := { frames := 3 * d + 5, cells := mc, slots := 4 * mc, locals := 69 * d + 114 }
def rm_X1_term (d : Nat) (mc : Nat) : Room := { frames := 3 * d + 6, cells := mc, slots := 4 * mc, locals := 69 * d + 137 }
def rm_X1_sum (d : Nat) (mc : Nat) : Room := { frames := 3 * d + 4, cells := mc, slots := 4 * mc, locals := 69 * d + 91 }
def B_X1_atom_109 (Bk : Nat → (Option Nat → Wd → va_W → Prop) → (Wd → va_W → Prop) → Wd → va_W → Prop) (r72 : Nat → Int32 → Int32 → Wd → va_W → Prop) (N : Nat) (mc : Nat) (post : Option Nat → Wd → va_W → Prop) (postX : Wd → va_W → Prop) (i : Nat) (x2 : Int32) (x3 : Int32) (s0 : Int32) (w : Wd) (L : va_W) : Prop :=
  B_X1_need N s0 0 (fun (w1 : Wd) (L2 : va_W) =>
  vp_in (xi w1 1) 120 ∧ r72 i (((10 * x2) + (xA w1 6 (xi w1 1).toNatClampNeg)) - 48) (x3 + 1) (xsi w1 1 ((xi w1 1) + 1)) L2) postX w L
set_option maxHeartbeats 4000000 in
theorem k_X1_atom_109 {Γ : gT} {K : gK} {N : Nat} {mc : Nat} {post : Option Nat → Wd → va_W → Prop} {postX : Wd → va_W → Prop} {d : Nat} {Bk : Nat → (Option Nat → Wd → va_W → Prop) → (Wd → va_W → Prop) → Wd → va_W → Prop} (C : gC Γ K RX1 cX1_atom 4 (rm_X1_atom d mc)) (ret : gXqR Γ K cX1_atom (some (.object "OneBears$Sum")) (xPq K post) mc) (thr : gXT Γ K (xPv K postX) mc) (hk : ∀ {m0 : Nat} {p0 : Option Nat → Wd → va_W → Prop} {pX : Wd → va_W → Prop} {w0 : Wd} {L0 : va_W}, Bk m0 p0 pX w0 L0 → gXq Γ.l K yX1_sum cX1_sum 4 (some (.object "OneBears$Sum")) (rm_X1_sum d m0) [.ref (xa K 0)] (xL K w0 ++ L0) (xPq K p0) (xPv K pX) m0) {r72 : Nat → Int32 → Int32 → Wd → va_W → Prop} (hr72 : ∀ (i : Nat) (x2 : Int32) (x3 : Int32) (w : Wd) (L : va_W) (hi : i ≤ mc), r72 i x2 x3 w L → gJ Γ K i (4 * i) (xL K w ++ L) 72 [(0, .ref (xa K 0)), (2, .int x2), (3, .int x3)] []) (i : Nat) (x2 : Int32) (x3 : Int32) (s0 : Int32) (w : Wd) (L : va_W) (hi : i ≤ mc) (h : B_X1_atom_109 Bk r72 N mc post postX i x2 x3 s0 w L) : gJ Γ K i (4 * i) (xL K w ++ L) 109 [(0, .ref (xa K 0)), (2, .int x2), (3, .int x3)] [.int s0, .ref (xa K 0)] := by
  unfold B_X1_atom_109 at h
  refine g_callXVv C (As := [.int s0]) (rest := []) (m_X1_need h) (lw_V q464 q466 qs4 q78 q467) (ci := 0) (qi := 0) rfl rfl ⟨rfl, rfl⟩ (by dsimp only [rm_X1_atom, rm_X1_need]; omega) 1 rfl (by decide +kernel) rfl (Nat.le_of_ble_eq_true rfl) ⟨rfl, rfl⟩ hi dX1_atom_109 (fun V9 q9 hx => thr _ _ _ _ _ q9 hi hx) ?_
  rintro _ ⟨w1, L2, rfl, h⟩
  refine g_bipush C 10 (by decide) dX1_atom_112 ?_
  refine g_iload_n C 1 rfl dX1_atom_114 ?_
  refine g_imul C dX1_atom_115 ?_
  refine g_aload_n C 0 rfl dX1_atom_116 ?_
  refine xg_tape C q271 dX1_atom_117 ?_
  refine g_aload_n C 0 rfl dX1_atom_120 ?_
  refine xg_place C q273 (xi w1 1) rfl dX1_atom_121 ?_
  obtain ⟨hb, h⟩ := h
  refine xld_6 C hb (xA w1 6 (xi w1 1).toNatClampNeg) rfl dX1_atom_124 ?_
  refine g_iadd C dX1_atom_125 ?_
  refine g_bipush C 48 (by decide) dX1_atom_126 ?_
  refine g_isub C dX1_atom_128 ?_
  refine g_istore_n C rfl (lt := [(2, .int (((10 * x2) + (xA w1 6 (xi w1 1).toNatClampNeg)) - 48)), (0, .ref (xa K 0)), (3, .int x3)]) dX1_atom_129 (by decide) rfl ?_
  refine g_aload_n C 1 rfl dX1_atom_130 ?_
  refine g_dup C rfl dX1_atom_131 ?_
  refine xg_place C q273 (xi w1 1) rfl dX1_atom_132 ?_
  refine g_iconst C 1 (by decide) dX1_atom_135 ?_
  refine g_iadd C dX1_atom_136 ?_
  refine xp_place C q273 dX1_atom_137 ?_
  refine g_iinc C 2 (x3 + 1) (lt := [(3, .int (x3 + 1)), (2, .int (((10 * x2) + (xA w1 6 (xi w1 1).toNatClampNeg)) - 48)), (0, .ref (xa K 0))]) rfl rfl dX1_atom_140 (by decide) rfl ?_
  refine g_goto C 72 dX1_atom_143 (by decide) ?_
  refine g_sub [2, 1, 0] rfl ?_
  exact hr72 i (((10 * x2) + (xA w1 6 (xi w1 1).toNatClampNeg)) - 48) (x3 + 1) (xsi w1 1 ((xi w1 1) + 1)) L2 hi h
def B_X1_atom_146 (Bk : Nat → (Option Nat → Wd → va_W → Prop) → (Wd → va_W → Prop) → Wd → va_W → Prop) (N : Nat) (mc : Nat) (post : Option Nat → Wd → va_W → Prop) (postX : Wd → va_W → Prop) (i : Nat) (x2 : Int32) (w : Wd) (L : va_W) : Prop :=
  i + 1 ≤ mc ∧ ∀ q1 : Nat, ∀ L2 : va_W, L2 = L ++ [(q1, .inr (4, [.int 0]))] → B_X8_init N q1 x2 (fun (w4 : Wd) (L5 : va_W) =>
  post (some q1) w4 L5) w L2
set_option maxHeartbeats 4000000 in
theorem k_X1_atom_146 {Γ : gT} {K : gK} {N : Nat} {mc : Nat} {post : Option Nat → Wd → va_W → Prop} {postX : Wd → va_W → Prop} {d : Nat} {Bk : Nat → (Option Nat → Wd → va_W → Prop) → (Wd → va_W → Prop) → Wd → va_W → Prop} (C : gC Γ K RX1 cX1_atom 4 (rm_X1_atom d mc)) (ret : gXqR Γ K cX1_atom (some (.object "OneBears$Sum")) (xPq K post) mc) (thr : gXT Γ K (xPv K postX) mc) (hk : ∀ {m0 : Nat} {p0 : Option Nat → Wd → va_W → Prop} {pX : Wd → va_W → Prop} {w0 : Wd} {L0 : va_W}, Bk m0 p0 pX w0 L0 → gXq Γ.l K yX1_sum cX1_sum 4 (some (.object "OneBears$Sum")) (rm_X1_sum d m0) [.ref (xa K 0)] (xL K w0 ++ L0) (xPq K p0) (xPv K pX) m0) (i : Nat) (x2 : Int32) (w : Wd) (L : va_W) (hi : i ≤ mc) (h : B_X1_atom_146 Bk N mc post postX i x2 w L) : gJ Γ K i (4 * i) (xL K w ++ L) 146 [(2, .int x2)] [] := by
  unfold B_X1_atom_146 at h
  obtain ⟨hq1, h⟩ := h
  refine g_new C (ci := 4) (fs := [.int 0]) tyX8 tyX8_ok rfl in_X8 q505 q506 q93 (by decide) (by decide) ⟨rfl, rfl⟩ hq1 dX1_atom_146 (fun q1 => ?_)
  replace h := h q1
  obtain ⟨L2, eL2⟩ : ∃ z, z = L ++ [(q1, .inr (4, [.int 0]))] := ⟨_, rfl⟩
  replace h := h L2 eL2
  rw [List.append_assoc, ← eL2]
  refine g_dup C rfl dX1_atom_149 ?_
  refine g_iload_n C 0 rfl dX1_atom_150 ?_
  refine g_callI C (As := [.int x2]) (rest := [.ref q1]) (m_X8_init h) q507 (lw_meth q509) q93 q508 rfl ⟨rfl, rfl⟩ (by dsimp only [rm_X1_atom, rm_X8_init]; omega) 1 rfl (by decide +kernel) rfl (Nat.le_of_ble_eq_true rfl) ⟨hq1, Nat.mul_le_mul_left 4 hq1⟩ dX1_atom_151 ?_
  rintro _ ⟨w4, L5, rfl, h⟩
  exact ret _ (some q1) _ _ _ _ hq1 rfl dX1_atom_154 ⟨_, _, rfl, h⟩
def B_X1_atom_72s (Bk : Nat → (Option Nat → Wd → va_W → Prop) → (Wd → va_W → Prop) → Wd → va_W → Prop) (r72 : Nat → Int32 → Int32 → Wd → va_W → Prop) (N : Nat) (mc : Nat) (post : Option Nat → Wd → va_W → Prop) (postX : Wd → va_W → Prop) (i : Nat) (x2 : Int32) (x3 : Int32) (w : Wd) (L : va_W) : Prop :=
  ((xi w 0) ≤ (xi w 1) →
    B_X1_atom_146 Bk N mc post postX i x2 w L) ∧
  (¬ (xi w 0) ≤ (xi w 1) →
    vp_in (xi w 1) 120 ∧ B_X1_isDigit N (xA w 6 (xi w 1).toNatClampNeg) (fun (v3 : Int32) (w1 : Wd) (L2 : va_W) =>
  (v3 = 0 →
      B_X1_atom_146 Bk N mc post postX i x2 w1 L2) ∧
    (¬ v3 = 0 →
      ((4 : Int32) ≤ x3 →
        B_X1_atom_109 Bk r72 N mc post postX i x2 x3 0 w1 L2) ∧
      (¬ (4 : Int32) ≤ x3 →
        B_X1_atom_109 Bk r72 N mc post postX i x2 x3 1 w1 L2))) w L)
def B_X1_atom_72 (Bk : Nat → (Option Nat → Wd → va_W → Prop) → (Wd → va_W → Prop) → Wd → va_W → Prop) (N : Nat) (mc : Nat) (post : Option Nat → Wd → va_W → Prop) (postX : Wd → va_W → Prop) : Nat → Nat → Int32 → Int32 → Wd → va_W → Prop
  | 0, _, _, _, _, _ => False
  | n + 1, i, x2, x3, w, L => B_X1_atom_72s Bk (B_X1_atom_72 Bk N mc post postX n) N mc post postX i x2 x3 w L
set_option maxHeartbeats 4000000 in
theorem k_X1_atom_72s {Γ : gT} {K : gK} {N : Nat} {mc : Nat} {post : Option Nat → Wd → va_W → Prop} {postX : Wd → va_W → Prop} {d : Nat} {Bk : Nat → (Option Nat → Wd → va_W → Prop) → (Wd → va_W → Prop) → Wd → va_W → Prop} (C : gC Γ K RX1 cX1_atom 4 (rm_X1_atom d mc)) (ret : gXqR Γ K cX1_atom (some (.object "OneBears$Sum")) (xPq K post) mc) (thr : gXT Γ K (xPv K postX) mc) (hk : ∀ {m0 : Nat} {p0 : Option Nat → Wd → va_W → Prop} {pX : Wd → va_W → Prop} {w0 : Wd} {L0 : va_W}, Bk m0 p0 pX w0 L0 → gXq Γ.l K yX1_sum cX1_sum 4 (some (.object "OneBears$Sum")) (rm_X1_sum d m0) [.ref (xa K 0)] (xL K w0 ++ L0) (xPq K p0) (xPv K pX) m0) {r72 : Nat → Int32 → Int32 → Wd → va_W → Prop} (hr72 : ∀ (i : Nat) (x2 : Int32) (x3 : Int32) (w : Wd) (L : va_W) (hi : i ≤ mc), r72 i x2 x3 w L → gJ Γ K i (4 * i) (xL K w ++ L) 72 [(0, .ref (xa K 0)), (2, .int x2), (3, .int x3)] []) (i : Nat) (x2 : Int32) (x3 : Int32) (w : Wd) (L : va_W) (hi : i ≤ mc) (h : B_X1_atom_72s Bk r72 N mc post postX i x2 x3 w L) : gJ Γ K i (4 * i) (xL K w ++ L) 72 [(0, .ref (xa K 0)), (2, .int x2), (3, .int x3)] [] := by
  unfold B_X1_atom_72s at h
  refine g_aload_n C 0 rfl dX1_atom_72 ?_
  refine xg_place C q273 (xi w 1) rfl dX1_atom_73 ?_
  refine g_aload_n C 0 rfl dX1_atom_76 ?_
  refine xg_taped C q272 (xi w 0) rfl dX1_atom_77 ?_
  refine g_icmp_ge C 146 dX1_atom_80 (by decide) (fun hc => ?_) (fun hc => ?_)
  · replace h := h.1 hc
    refine g_sub [1] rfl ?_
    exact k_X1_atom_146 C ret thr hk i x2 w L hi h
  · replace h := h.2 hc
    refine g_aload_n C 0 rfl dX1_atom_83 ?_
    refine xg_tape C q271 dX1_atom_84 ?_
    refine g_aload_n C 0 rfl dX1_atom_87 ?_
    refine xg_place C q273 (xi w 1) rfl dX1_atom_88 ?_
    obtain ⟨hb, h⟩ := h
    refine xld_6 C hb (xA w 6 (xi w 1).toNatClampNeg) rfl dX1_atom_91 ?_
    refine g_callSi C (As := [.int (xA w 6 (xi w 1).toNatClampNeg)]) (rest := []) (m_X1_isDigit h) (Cn := "") (b := 0) (lw_S q502 q503 q78 q504) ⟨rfl, rfl⟩ (by dsimp only [rm_X1_atom, rm_X1_isDigit]; omega) 1 rfl (by decide +kernel) rfl (Nat.le_of_ble_eq_true rfl) ⟨hi, Nat.mul_le_mul_left 4 hi⟩ dX1_atom_92 ?_
    rintro v3 _ ⟨w1, L2, rfl, h⟩
    refine g_if_eq C 146 dX1_atom_95 (by decide) (fun hc => ?_) (fun hc => ?_)
    · replace h := h.1 hc
      refine g_sub [1] rfl ?_
      exact k_X1_atom_146 C ret thr hk i x2 w1 L2 hi h
    · replace h := h.2 hc
      refine g_aload_n C 0 rfl dX1_atom_98 ?_
      refine g_iload_n C 2 rfl dX1_atom_99 ?_
      refine g_iconst C 4 (by decide) dX1_atom_100 ?_
      refine g_icmp_ge C 108 dX1_atom_101 (by decide) (fun hc => ?_) (fun hc => ?_)
      · replace h := h.1 hc
        refine g_iconst C 0 (by decide) dX1_atom_108 ?_
        exact k_X1_atom_109 C ret thr hk hr72 i x2 x3 0 w1 L2 hi h
      · replace h := h.2 hc
        refine g_iconst C 1 (by decide) dX1_atom_104 ?_
        refine g_goto C 109 dX1_atom_105 (by decide) ?_
        exact k_X1_atom_109 C ret thr hk hr72 i x2 x3 1 w1 L2 hi h
theorem k_X1_atom_72 {Γ : gT} {K : gK} {N : Nat} {mc : Nat} {post : Option Nat → Wd → va_W → Prop} {postX : Wd → va_W → Prop} {d : Nat} {Bk : Nat → (Option Nat → Wd → va_W → Prop) → (Wd → va_W → Prop) → Wd → va_W → Prop} (C : gC Γ K RX1 cX1_atom 4 (rm_X1_atom d mc)) (ret : gXqR Γ K cX1_atom (some (.object "OneBears$Sum")) (xPq K post) mc) (thr : gXT Γ K (xPv K postX) mc) (hk : ∀ {m0 : Nat} {p0 : Option Nat → Wd → va_W → Prop} {pX : Wd → va_W → Prop} {w0 : Wd} {L0 : va_W}, Bk m0 p0 pX w0 L0 → gXq Γ.l K yX1_sum cX1_sum 4 (some (.object "OneBears$Sum")) (rm_X1_sum d m0) [.ref (xa K 0)] (xL K w0 ++ L0) (xPq K p0) (xPv K pX) m0) : ∀ (n : Nat) (i : Nat) (x2 : Int32) (x3 : Int32) (w : Wd) (L : va_W) (hi : i ≤ mc) (h : B_X1_atom_72 Bk N mc post postX n i x2 x3 w L), gJ Γ K i (4 * i) (xL K w ++ L) 72 [(0, .ref (xa K 0)), (2, .int x2), (3, .int x3)] [] := by
  intro n
  induction n with
  | zero => intro i x2 x3 w L hi h; exact h.elim
  | succ n ih => intro i x2 x3 w L hi h; exact k_X1_atom_72s C ret thr hk ih i x2 x3 w L hi h
def B_X1_atom_60 (Bk : Nat → (Option Nat → Wd → va_W → Prop) → (Wd → va_W → Prop) → Wd → va_W → Prop) (N : Nat) (mc : Nat) (post : Option Nat → Wd → va_W → Prop) (postX : Wd → va_W → Prop) (i : Nat) (x1 : Int32) (w : Wd) (L : va_W) : Prop :=
  B_X1_isDigit N x1 (fun (v3 : Int32) (w1 : Wd) (L2 : va_W) =>
  B_X1_need N v3 0 (fun (w4 : Wd) (L5 : va_W) =>
  B_X1_atom_72 Bk N mc post postX N i 0 0 w4 L5) postX w1 L2) w L
set_option maxHeartbeats 4000000 in
theorem k_X1_atom_60 {Γ : gT} {K : gK} {N : Nat} {mc : Nat} {post : Option Nat → Wd → va_W → Prop} {postX : Wd → va_W → Prop} {d : Nat} {Bk : Nat → (Option Nat → Wd → va_W → Prop) → (Wd → va_W → Prop) → Wd → va_W → Prop} (C : gC Γ K RX1 cX1_atom 4 (rm_X1_atom d mc)) (ret : gXqR Γ K cX1_atom (some (.object "OneBears$Sum")) (xPq K post) mc) (thr : gXT Γ K (xPv K postX) mc) (hk : ∀ {m0 : Nat} {p0 : Option Nat → Wd → va_W → Prop} {pX : Wd → va_W → Prop} {w0 : Wd} {L0 : va_W}, Bk m0 p0 pX w0 L0 → gXq Γ.l K yX1_sum cX1_sum 4 (some (.object "OneBears$Sum")) (rm_X1_sum d m0) [.ref (xa K 0)] (xL K w0 ++ L0) (xPq K p0) (xPv K pX) m0) (i : Nat) (x1 : Int32) (w : Wd) (L : va_W) (hi : i ≤ mc) (h : B_X1_atom_60 Bk N mc post postX i x1 w L) : gJ Γ K i (4 * i) (xL K w ++ L) 60 [(0, .ref (xa K 0)), (1, .int x1)] [] := by
  unfold B_X1_atom_60 at h
  refine g_aload_n C 0 rfl dX1_atom_60 ?_
  refine g_iload_n C 1 rfl dX1_atom_61 ?_
  refine g_callSi C (As := [.int x1]) (rest := [.ref (xa K 0)]) (m_X1_isDigit h) (Cn := "") (b := 0) (lw_S q502 q503 q78 q504) ⟨rfl, rfl⟩ (by dsimp only [rm_X1_atom, rm_X1_isDigit]; omega) 1 rfl (by decide +kernel) rfl (Nat.le_of_ble_eq_true rfl) ⟨hi, Nat.mul_le_mul_left 4 hi⟩ dX1_atom_62 ?_
  rintro v3 _ ⟨w1, L2, rfl, h⟩
  refine g_callXVv C (As := [.int v3]) (rest := []) (m_X1_need h) (lw_V q464 q466 qs4 q78 q467) (ci := 0) (qi := 0) rfl rfl ⟨rfl, rfl⟩ (by dsimp only [rm_X1_atom, rm_X1_need]; omega) 1 rfl (by decide +kernel) rfl (Nat.le_of_ble_eq_true rfl) ⟨rfl, rfl⟩ hi dX1_atom_65 (fun V9 q9 hx => thr _ _ _ _ _ q9 hi hx) ?_
  rintro _ ⟨w4, L5, rfl, h⟩
  refine g_iconst C 0 (by decide) dX1_atom_68 ?_
  refine g_istore_n C rfl (lt := [(2, .int 0), (0, .ref (xa K 0)), (1, .int x1)]) dX1_atom_69 (by decide) rfl ?_
  refine g_iconst C 0 (by decide) dX1_atom_70 ?_
  refine g_istore_n C rfl (lt := [(3, .int 0), (2, .int 0), (0, .ref (xa K 0)), (1, .int x1)]) dX1_atom_71 (by decide) rfl ?_
  refine g_sub [2, 1, 0] rfl ?_
  exact k_X1_atom_72 C ret thr hk N i 0 0 w4 L5 hi h
def B_X1_atom_0 (Bk : Nat → (Option Nat → Wd → va_W → Prop) → (Wd → va_W → Prop) → Wd → va_W → Prop) (N : Nat) (mc : Nat) (post : Option Nat → Wd → va_W → Prop) (postX : Wd → va_W → Prop) (i : Nat) (w : Wd) (L : va_W) : Prop :=
  B_X1_look N (fun (v3 : Int32) (w1 : Wd) (L2 : va_W) =>
  (v3 = (91 : Int32) →
    B_X1_opens N 0 (fun (w12 : Wd) (L13 : va_W) =>
  ∃ m14 : Nat, i + m14 ≤ mc ∧ Bk m14 (fun (v17 : Option Nat) (w15 : Wd) (L16 : va_W) =>
  B_X1_closes N 93 0 (fun (w18 : Wd) (L19 : va_W) =>
  post v17 w18 L19) postX w15 L16) postX w12 L13) postX w1 L2) ∧
  (¬ v3 = (91 : Int32) →
    (v3 ≤ 0 →
      B_X1_atom_60 Bk N mc post postX i v3 w1 L2) ∧
    (¬ v3 ≤ 0 →
      B_J2_indexOf_s1 N v3 (fun (v6 : Int32) (w4 : Wd) (L5 : va_W) =>
  (v6 < 0 →
        B_X1_atom_60 Bk N mc post postX i v3 w4 L5) ∧
      (¬ v6 < 0 →
        i + 1 ≤ mc ∧ ∀ q7 : Nat, ∀ L8 : va_W, L8 = L5 ++ [(q7, .inr (5, [.int 0]))] → B_X7_init N q7 v3 (fun (w10 : Wd) (L11 : va_W) =>
  post (some q7) w10 L11) (xsi w4 1 ((xi w4 1) + 1)) L8)) w1 L2))) w L
set_option maxHeartbeats 4000000 in
theorem k_X1_atom_0 {Γ : gT} {K : gK} {N : Nat} {mc : Nat} {post : Option Nat → Wd → va_W → Prop} {postX : Wd → va_W → Prop} {d : Nat} {Bk : Nat → (Option Nat → Wd → va_W → Prop) → (Wd → va_W → Prop) → Wd → va_W → Prop} (C : gC Γ K RX1 cX1_atom 4 (rm_X1_atom d mc)) (ret : gXqR Γ K cX1_atom (some (.object "OneBears$Sum")) (xPq K post) mc) (thr : gXT Γ K (xPv K postX) mc) (hk : ∀ {m0 : Nat} {p0 : Option Nat → Wd → va_W → Prop} {pX : Wd → va_W → Prop} {w0 : Wd} {L0 : va_W}, Bk m0 p0 pX w0 L0 → gXq Γ.l K yX1_sum cX1_sum 4 (some (.object "OneBears$Sum")) (rm_X1_sum d m0) [.ref (xa K 0)] (xL K w0 ++ L0) (xPq K p0) (xPv K pX) m0) (i : Nat) (w : Wd) (L : va_W) (hi : i ≤ mc) (h : B_X1_atom_0 Bk N mc post postX i w L) : gJ Γ K i (4 * i) (xL K w ++ L) 0 [(0, .ref (xa K 0))] [] := by
  unfold B_X1_atom_0 at h
  refine g_aload_n C 0 rfl dX1_atom_0 ?_
  refine g_callVi C (As := []) (rest := []) (m_X1_look h) (lw_V q373 q375 qs3 q78 q376) (ci := 0) (qi := 0) rfl rfl ⟨rfl, rfl⟩ (by dsimp only [rm_X1_atom, rm_X1_look]; omega) 0 rfl (by decide +kernel) rfl (Nat.le_of_ble_eq_true rfl) ⟨hi, Nat.mul_le_mul_left 4 hi⟩ dX1_atom_1 ?_
  rintro v3 _ ⟨w1, L2, rfl, h⟩
  refine g_istore_n C rfl (lt := [(1, .int v3), (0, .ref (xa K 0))]) dX1_atom_4 (by decide) rfl ?_
  refine g_iload_n C 0 rfl dX1_atom_5 ?_
  refine g_bipush C 91 (by decide) dX1_atom_6 ?_
  refine g_icmp_ne C 28 dX1_atom_8 (by decide) (fun hc => ?_) (fun hc => ?_)
  · replace h := h.2 hc
    refine g_iload_n C 0 rfl dX1_atom_28 ?_
    refine g_if_le C 60 dX1_atom_29 (by decide) (fun hc => ?_) (fun hc => ?_)
    · replace h := h.1 hc
      refine g_sub [1, 0] rfl ?_
      exact k_X1_atom_60 C ret thr hk i v3 w1 L2 hi h
    · replace h := h.2 hc
      refine g_ldcS_OneBears_112 C dX1_atom_32 ?_
      refine g_iload_n C 0 rfl dX1_atom_34 ?_
      refine g_callVKi C (As := [.int v3]) (rest := []) (m_J2_indexOf_s1_x h) (lw_V q378 q379 q380 q85 q381) (i0 := 1) (by decide) ⟨rfl, rfl⟩ (by dsimp only [rm_X1_atom, rm_J2_indexOf_s1]; omega) 1 rfl (by decide +kernel) rfl (Nat.le_of_ble_eq_true rfl) ⟨hi, Nat.mul_le_mul_left 4 hi⟩ dX1_atom_35 ?_
      rintro v6 _ ⟨w4, L5, rfl, h⟩
      refine g_if_lt C 60 dX1_atom_38 (by decide) (fun hc => ?_) (fun hc => ?_)
      · replace h := h.1 hc
        refine g_sub [1, 0] rfl ?_
        exact k_X1_atom_60 C ret thr hk i v3 w4 L5 hi h
      · replace h := h.2 hc
        refine g_aload_n C 1 rfl dX1_atom_41 ?_
        refine g_dup C rfl dX1_atom_42 ?_
        refine xg_place C q273 (xi w4 1) rfl dX1_atom_43 ?_
        refine g_iconst C 1 (by decide) dX1_atom_46 ?_
        refine g_iadd C dX1_atom_47 ?_
        refine xp_place C q273 dX1_atom_48 ?_
        obtain ⟨hq7, h⟩ := h
        refine g_new C (ci := 5) (fs := [.int 0]) tyX7 tyX7_ok rfl in_X7 q489 q490 q92 (by decide) (by decide) ⟨rfl, rfl⟩ hq7 dX1_atom_51 (fun q7 => ?_)
        replace h := h q7
        obtain ⟨L8, eL8⟩ : ∃ z, z = L5 ++ [(q7, .inr (5, [.int 0]))] := ⟨_, rfl⟩
        replace h := h L8 eL8
        rw [List.append_assoc, ← eL8]
        refine g_dup C rfl dX1_atom_54 ?_
        refine g_iload_n C 0 rfl dX1_atom_55 ?_
        refine g_callI C (As := [.int v3]) (rest := [.ref q7]) (m_X7_init h) q491 (lw_meth q493) q92 q492 rfl ⟨rfl, rfl⟩ (by dsimp only [rm_X1_atom, rm_X7_init]; omega) 1 rfl (by decide +kernel) rfl (Nat.le_of_ble_eq_true rfl) ⟨hq7, Nat.mul_le_mul_left 4 hq7⟩ dX1_atom_56 ?_
        rintro _ ⟨w10, L11, rfl, h⟩
        exact ret _ (some q7) _ _ _ _ hq7 rfl dX1_atom_59 ⟨_, _, rfl, h⟩
  · replace h := h.1 hc
    refine g_aload_n C 1 rfl dX1_atom_11 ?_
    refine g_callXVv C (As := []) (rest := []) (m_X1_opens h) (lw_V q480 q482 qs8 q78 q483) (ci := 0) (qi := 0) rfl rfl ⟨rfl, rfl⟩ (by dsimp only [rm_X1_atom, rm_X1_opens]; omega) 0 rfl (by decide +kernel) rfl (Nat.le_of_ble_eq_true rfl) ⟨rfl, rfl⟩ hi dX1_atom_12 (fun V9 q9 hx => thr _ _ _ _ _ q9 hi hx) ?_
    rintro _ ⟨w12, L13, rfl, h⟩
    refine g_aload_n C 1 rfl dX1_atom_15 ?_
    obtain ⟨m14, hm14, h⟩ := h
    refine g_callXVq C (As := []) (rest := []) (hk h) (lw_V q468 q470 qs5 q78 q471) (ci := 0) (qi := 0) rfl rfl ⟨rfl, rfl⟩ (by dsimp only [rm_X1_atom, rm_X1_sum]; omega) 0 rfl (by decide +kernel) rfl (Nat.le_of_ble_eq_true rfl) ⟨rfl, rfl⟩ hm14 dX1_atom_16 (fun V9 q9 hx => thr _ _ _ _ _ q9 hm14 hx) ?_
    rintro v17 _ ⟨w15, L16, rfl, h⟩
    refine g_astore_nq C rfl (lt := [(2, va_rf v17), (1, .int v3), (0, .ref (xa K 0))]) dX1_atom_19 (by decide) rfl ?_
    refine g_aload_n C 2 rfl dX1_atom_20 ?_
    refine g_bipush C 93 (by decide) dX1_atom_21 ?_
    refine g_callXVv C (As := [.int 93]) (rest := []) (m_X1_closes h) (lw_V q484 q486 qs9 q78 q487) (ci := 0) (qi := 0) rfl rfl ⟨rfl, rfl⟩ (by dsimp only [rm_X1_atom, rm_X1_closes]; omega) 1 rfl (by decide +kernel) rfl (Nat.le_of_ble_eq_true rfl) ⟨rfl, rfl⟩ hm14 dX1_atom_23 (fun V9 q9 hx => thr _ _ _ _ _ q9 hm14 hx) ?_
    rintro _ ⟨w18, L19, rfl, h⟩
    refine g_aload_nq C 0 rfl dX1_atom_26 ?_
    exact ret _ v17 _ _ _ _ hm14 rfl dX1_atom_27 ⟨_, _, rfl, h⟩
def B_X1_atom (Bk : Nat → (Option Nat → Wd → va_W → Prop) → (Wd → va_W → Prop) → Wd → va_W → Prop) (N : Nat) (mc : Nat) (post : Option Nat → Wd → va_W → Prop) (postX : Wd → va_W → Prop) (w : Wd) (L : va_W) : Prop := B_X1_atom_0 Bk N mc post postX 0 w L
theorem m_X1_atom {l : Launch} {K : gK} {N : Nat} {mc : Nat} {post : Option Nat → Wd → va_W → Prop} {postX : Wd → va_W → Prop} {d : Nat} {Bk : Nat → (Option Nat → Wd → va_W → Prop) → (Wd → va_W → Prop) → Wd → va_W → Prop} {w : Wd} {L : va_W} (hk : ∀ {m0 : Nat} {p0 : Option Nat → Wd → va_W → Prop} {pX : Wd → va_W → Prop} {w0 : Wd} {L0 : va_W}, Bk m0 p0 pX w0 L0 → gXq l K yX1_sum cX1_sum 4 (some (.object "OneBears$Sum")) (rm_X1_sum d m0) [.ref (xa K 0)] (xL K w0 ++ L0) (xPq K p0) (xPv K pX) m0) (h : B_X1_atom Bk N mc post postX w L) : gXq l K yX1_atom cX1_atom 4 (some (.object "OneBears$Sum")) (rm_X1_atom d mc) [.ref (xa K 0)] (xL K w ++ L) (xPq K post) (xPv K postX) mc := by
  refine g_inXQ (ls0 := [(0, .ref (xa K 0))]) (by decide) (Nat.le_of_ble_eq_true rfl) rfl rfl rfl (fun Γ hl C hn ret thr => ?_)
  subst hl
  exact k_X1_atom_0 C ret thr hk 0 w L (Nat.zero_le _) h
def B_X1_term_47 (Bk : Nat → (Option Nat → Wd → va_W → Prop) → (Wd → va_W → Prop) → Wd → va_W → Prop) (r12 : Nat → Option Nat → Option Nat → Int32 → Wd → va_W → Prop) (N : Nat) (mc : Nat) (post : Option Nat → Wd → va_W → Prop) (postX : Wd → va_W → Prop) (i : Nat) (x1 : Option Nat) (x2 : Option Nat) (x3 : Int32) (w : Wd) (L : va_W) : Prop :=
  ∃ m1 : Nat, i + m1 ≤ mc ∧ B_X1_atom Bk N m1 (fun (v4 : Option Nat) (w2 : Wd) (L3 : va_W) =>
  ∃ y5 : Nat, x2 = some y5 ∧ ∃ (k5 : Nat) (f5 : List Value), L3[k5]? = some (y5, .inr (6, f5)) ∧ ∃ m6 : Nat, (i + m1) + m6 ≤ mc ∧ B_X9_add N y5 x3 v4 m6 (fun (w7 : Wd) (L8 : va_W) =>
  B_X1_look N (fun (v11 : Int32) (w9 : Wd) (L10 : va_W) =>
  r12 ((i + m1) + m6) x1 x2 v11 w9 L10) w7 L8) postX w2 L3) postX w L
set_option maxHeartbeats 4000000 in
theorem k_X1_term_47 {Γ : gT} {K : gK} {N : Nat} {mc : Nat} {post : Option Nat → Wd → va_W → Prop} {postX : Wd → va_W → Prop} {d : Nat} {Bk : Nat → (Option Nat → Wd → va_W → Prop) → (Wd → va_W → Prop) → Wd → va_W → Prop} (C : gC Γ K RX1 cX1_term 4 (rm_X1_term d mc)) (ret : gXqR Γ K cX1_term (some (.object "OneBears$Sum")) (xPq K post) mc) (thr : gXT Γ K (xPv K postX) mc) (hk : ∀ {m0 : Nat} {p0 : Option Nat → Wd → va_W → Prop} {pX : Wd → va_W → Prop} {w0 : Wd} {L0 : va_W}, Bk m0 p0 pX w0 L0 → gXq Γ.l K yX1_sum cX1_sum 4 (some (.object "OneBears$Sum")) (rm_X1_sum d m0) [.ref (xa K 0)] (xL K w0 ++ L0) (xPq K p0) (xPv K pX) m0) {r12 : Nat → Option Nat → Option Nat → Int32 → Wd → va_W → Prop} (hr12 : ∀ (i : Nat) (x1 : Option Nat) (x2 : Option Nat) (x3 : Int32) (w : Wd) (L : va_W) (hi : i ≤ mc), r12 i x1 x2 x3 w L → gJ Γ K i (4 * i) (xL K w ++ L) 12 [(0, .ref (xa K 0)), (1, va_rf x1), (2, va_rf x2), (3, .int x3)] []) (i : Nat) (x1 : Option Nat) (x2 : Option Nat) (x3 : Int32) (w : Wd) (L : va_W) (hi : i ≤ mc) (h : B_X1_term_47 Bk r12 N mc post postX i x1 x2 x3 w L) : gJ Γ K i (4 * i) (xL K w ++ L) 47 [(0, .ref (xa K 0)), (1, va_rf x1), (2, va_rf x2), (3, .int x3)] [] := by
  unfold B_X1_term_47 at h
  refine g_aload_nq C 2 rfl dX1_term_47 ?_
  refine g_iload_n C 3 rfl dX1_term_48 ?_
  refine g_aload_n C 0 rfl dX1_term_49 ?_
  obtain ⟨m1, hm1, h⟩ := h
  refine g_callXVq C (As := []) (rest := [.int x3, va_rf x2]) (m_X1_atom hk h) (lw_V q476 q478 qs7 q78 q479) (ci := 0) (qi := 0) rfl rfl ⟨rfl, rfl⟩ (by dsimp only [rm_X1_term, rm_X1_atom]; omega) 0 rfl (by decide +kernel) rfl (by cases x2 <;> exact Nat.le_of_ble_eq_true rfl) ⟨rfl, rfl⟩ hm1 dX1_term_50 (fun V9 q9 hx => thr _ _ _ _ _ q9 hm1 hx) ?_
  rintro v4 _ ⟨w2, L3, rfl, h⟩
  obtain ⟨y5, ey5, h⟩ := h
  refine g_stk (st' := [va_rf v4, .int x3, .ref y5]) (by rw [ey5]; rfl) ?_
  obtain ⟨k5, f5, e5, h⟩ := h
  obtain ⟨m6, hm6, h⟩ := h
  refine g_callXVv C (As := [.int x3, va_rf v4]) (rest := []) (m_X9_add h) (lw_V q531 q532 q533 q94 q534) (ci := 6) (qi := 31 + k5) rfl (x_at e5) ⟨rfl, rfl⟩ (by dsimp only [rm_X1_term, rm_X9_add]; omega) 2 rfl (by decide +kernel) rfl (Nat.le_of_ble_eq_true rfl) ⟨rfl, rfl⟩ hm6 dX1_term_53 (fun V9 q9 hx => thr _ _ _ _ _ q9 hm6 hx) ?_
  rintro _ ⟨w7, L8, rfl, h⟩
  refine g_aload_n C 0 rfl dX1_term_56 ?_
  refine g_callVi C (As := []) (rest := []) (m_X1_look h) (lw_V q373 q375 qs3 q78 q376) (ci := 0) (qi := 0) rfl rfl ⟨rfl, rfl⟩ (by dsimp only [rm_X1_term, rm_X1_look]; omega) 0 rfl (by decide +kernel) rfl (Nat.le_of_ble_eq_true rfl) ⟨hm6, Nat.mul_le_mul_left 4 hm6⟩ dX1_term_57 ?_
  rintro v11 _ ⟨w9, L10, rfl, h⟩
  refine g_istore_n C rfl (lt := [(3, .int v11), (0, .ref (xa K 0)), (1, va_rf x1), (2, va_rf x2)]) dX1_term_60 (by decide) (by generalize x2 = zq; cases zq <;> rfl) ?_
  refine g_goto C 12 dX1_term_61 (by decide) ?_
  refine g_sub [1, 2, 3, 0] rfl ?_
  exact hr12 ((i + m1) + m6) x1 x2 v11 w9 L10 hm6 h
def B_X1_term_24 (Bk : Nat → (Option Nat → Wd → va_W → Prop) → (Wd → va_W → Prop) → Wd → va_W → Prop) (r12 : Nat → Option Nat → Option Nat → Int32 → Wd → va_W → Prop) (N : Nat) (mc : Nat) (post : Option Nat → Wd → va_W → Prop) (postX : Wd → va_W → Prop) (i : Nat) (x1 : Option Nat) (x2 : Option Nat) (x3 : Int32) (w : Wd) (L : va_W) : Prop :=
  ∀ w1 : Wd, w1 = (xsi w 1 ((xi w 1) + 1)) → (x2 = none →
    i + 1 ≤ mc ∧ ∀ q3 : Nat, ∀ L4 : va_W, L4 = L ++ [(q3, .inr (6, [va_rf none, va_rf none, va_rf none]))] → B_X9_init N q3 x1 (fun (w6 : Wd) (L7 : va_W) =>
  B_X1_term_47 Bk r12 N mc post postX (i + 1) x1 (some q3) x3 w6 L7) w1 L4) ∧
  (∀ y2 : Nat, x2 = some y2 →
    B_X1_term_47 Bk r12 N mc post postX i x1 x2 x3 w1 L)
set_option maxHeartbeats 4000000 in
theorem k_X1_term_24 {Γ : gT} {K : gK} {N : Nat} {mc : Nat} {post : Option Nat → Wd → va_W → Prop} {postX : Wd → va_W → Prop} {d : Nat} {Bk : Nat → (Option Nat → Wd → va_W → Prop) → (Wd → va_W → Prop) → Wd → va_W → Prop} (C : gC Γ K RX1 cX1_term 4 (rm_X1_term d mc)) (ret : gXqR Γ K cX1_term (some (.object "OneBears$Sum")) (xPq K post) mc) (thr : gXT Γ K (xPv K postX) mc) (hk : ∀ {m0 : Nat} {p0 : Option Nat → Wd → va_W → Prop} {pX : Wd → va_W → Prop} {w0 : Wd} {L0 : va_W}, Bk m0 p0 pX w0 L0 → gXq Γ.l K yX1_sum cX1_sum 4 (some (.object "OneBears$Sum")) (rm_X1_sum d m0) [.ref (xa K 0)] (xL K w0 ++ L0) (xPq K p0) (xPv K pX) m0) {r12 : Nat → Option Nat → Option Nat → Int32 → Wd → va_W → Prop} (hr12 : ∀ (i : Nat) (x1 : Option Nat) (x2 : Option Nat) (x3 : Int32) (w : Wd) (L : va_W) (hi : i ≤ mc), r12 i x1 x2 x3 w L → gJ Γ K i (4 * i) (xL K w ++ L) 12 [(0, .ref (xa K 0)), (1, va_rf x1), (2, va_rf x2), (3, .int x3)] []) (i : Nat) (x1 : Option Nat) (x2 : Option Nat) (x3 : Int32) (w : Wd) (L : va_W) (hi : i ≤ mc) (h : B_X1_term_24 Bk r12 N mc post postX i x1 x2 x3 w L) : gJ Γ K i (4 * i) (xL K w ++ L) 24 [(0, .ref (xa K 0)), (1, va_rf x1), (2, va_rf x2), (3, .int x3)] [] := by
  unfold B_X1_term_24 at h
  refine g_aload_n C 0 rfl dX1_term_24 ?_
  refine g_dup C rfl dX1_term_25 ?_
  refine xg_place C q273 (xi w 1) rfl dX1_term_26 ?_
  refine g_iconst C 1 (by decide) dX1_term_29 ?_
  refine g_iadd C dX1_term_30 ?_
  refine xp_place C q273 dX1_term_31 ?_
  refine g_aload_nq C 2 rfl dX1_term_34 ?_
  obtain ⟨w1, ew1⟩ : ∃ z, z = (xsi w 1 ((xi w 1) + 1)) := ⟨_, rfl⟩
  replace h := h w1 ew1
  rw [← ew1]
  refine g_ifnonnull C 47 dX1_term_35 (by decide) (fun y2 hc => ?_) (fun hc => ?_)
  · replace h := h.2 y2 hc
    exact k_X1_term_47 C ret thr hk hr12 i x1 x2 x3 w1 L hi h
  · replace h := h.1 hc
    obtain ⟨hq3, h⟩ := h
    refine g_new C (ci := 6) (fs := [va_rf none, va_rf none, va_rf none]) tyX9 tyX9_ok rfl in_X9 q515 q516 q94 (by decide) (by decide) ⟨rfl, rfl⟩ hq3 dX1_term_38 (fun q3 => ?_)
    replace h := h q3
    obtain ⟨L4, eL4⟩ : ∃ z, z = L ++ [(q3, .inr (6, [va_rf none, va_rf none, va_rf none]))] := ⟨_, rfl⟩
    replace h := h L4 eL4
    rw [List.append_assoc, ← eL4]
    refine g_dup C rfl dX1_term_41 ?_
    refine g_aload_nq C 1 rfl dX1_term_42 ?_
    refine g_callI C (As := [va_rf x1]) (rest := [.ref q3]) (m_X9_init h) q517 (lw_meth q519) q94 q518 rfl ⟨rfl, rfl⟩ (by dsimp only [rm_X1_term, rm_X9_init]; omega) 1 rfl (by decide +kernel) rfl (Nat.le_of_ble_eq_true rfl) ⟨hq3, Nat.mul_le_mul_left 4 hq3⟩ dX1_term_43 ?_
    rintro _ ⟨w6, L7, rfl, h⟩
    refine g_astore_n C rfl (lt := [(2, .ref q3), (0, .ref (xa K 0)), (1, va_rf x1), (3, .int x3)]) dX1_term_46 (by decide) (by generalize x1 = zq; cases zq <;> rfl) ?_
    refine g_sub [1, 2, 0, 3] rfl ?_
    exact k_X1_term_47 C ret thr hk hr12 (i + 1) x1 (some q3) x3 w6 L7 hq3 h
def B_X1_term_73 (Bk : Nat → (Option Nat → Wd → va_W → Prop) → (Wd → va_W → Prop) → Wd → va_W → Prop) (N : Nat) (mc : Nat) (post : Option Nat → Wd → va_W → Prop) (postX : Wd → va_W → Prop) (i : Nat) (s0 : Option Nat) (w : Wd) (L : va_W) : Prop :=
  post s0 w L
set_option maxHeartbeats 4000000 in
theorem k_X1_term_73 {Γ : gT} {K : gK} {N : Nat} {mc : Nat} {post : Option Nat → Wd → va_W → Prop} {postX : Wd → va_W → Prop} {d : Nat} {Bk : Nat → (Option Nat → Wd → va_W → Prop) → (Wd → va_W → Prop) → Wd → va_W → Prop} (C : gC Γ K RX1 cX1_term 4 (rm_X1_term d mc)) (ret : gXqR Γ K cX1_term (some (.object "OneBears$Sum")) (xPq K post) mc) (thr : gXT Γ K (xPv K postX) mc) (hk : ∀ {m0 : Nat} {p0 : Option Nat → Wd → va_W → Prop} {pX : Wd → va_W → Prop} {w0 : Wd} {L0 : va_W}, Bk m0 p0 pX w0 L0 → gXq Γ.l K yX1_sum cX1_sum 4 (some (.object "OneBears$Sum")) (rm_X1_sum d m0) [.ref (xa K 0)] (xL K w0 ++ L0) (xPq K p0) (xPv K pX) m0) (i : Nat) (s0 : Option Nat) (w : Wd) (L : va_W) (hi : i ≤ mc) (h : B_X1_term_73 Bk N mc post postX i s0 w L) : gJ Γ K i (4 * i) (xL K w ++ L) 73 [] [va_rf s0] := by
  unfold B_X1_term_73 at h
  exact ret _ s0 _ _ _ _ hi rfl dX1_term_73 ⟨_, _, rfl, h⟩
def B_X1_term_12s (Bk : Nat → (Option Nat → Wd → va_W → Prop) → (Wd → va_W → Prop) → Wd → va_W → Prop) (r12 : Nat → Option Nat → Option Nat → Int32 → Wd → va_W → Prop) (N : Nat) (mc : Nat) (post : Option Nat → Wd → va_W → Prop) (postX : Wd → va_W → Prop) (i : Nat) (x1 : Option Nat) (x2 : Option Nat) (x3 : Int32) (w : Wd) (L : va_W) : Prop :=
  (x3 = (42 : Int32) →
    B_X1_term_24 Bk r12 N mc post postX i x1 x2 x3 w L) ∧
  (¬ x3 = (42 : Int32) →
    (x3 = (47 : Int32) →
      B_X1_term_24 Bk r12 N mc post postX i x1 x2 x3 w L) ∧
    (¬ x3 = (47 : Int32) →
      (x2 = none →
        B_X1_term_73 Bk N mc post postX i x1 w L) ∧
      (∀ y1 : Nat, x2 = some y1 →
        B_X1_term_73 Bk N mc post postX i x2 w L)))
def B_X1_term_12 (Bk : Nat → (Option Nat → Wd → va_W → Prop) → (Wd → va_W → Prop) → Wd → va_W → Prop) (N : Nat) (mc : Nat) (post : Option Nat → Wd → va_W → Prop) (postX : Wd → va_W → Prop) : Nat → Nat → Option Nat → Option Nat → Int32 → Wd → va_W → Prop
  | 0, _, _, _, _, _, _ => False
  | n + 1, i, x1, x2, x3, w, L => B_X1_term_12s Bk (B_X1_term_12 Bk N mc post postX n) N mc post postX i x1 x2 x3 w L
set_option maxHeartbeats 4000000 in
theorem k_X1_term_12s {Γ : gT} {K : gK} {N : Nat} {mc : Nat} {post : Option Nat → Wd → va_W → Prop} {postX : Wd → va_W → Prop} {d : Nat} {Bk : Nat → (Option Nat → Wd → va_W → Prop) → (Wd → va_W → Prop) → Wd → va_W → Prop} (C : gC Γ K RX1 cX1_term 4 (rm_X1_term d mc)) (ret : gXqR Γ K cX1_term (some (.object "OneBears$Sum")) (xPq K post) mc) (thr : gXT Γ K (xPv K postX) mc) (hk : ∀ {m0 : Nat} {p0 : Option Nat → Wd → va_W → Prop} {pX : Wd → va_W → Prop} {w0 : Wd} {L0 : va_W}, Bk m0 p0 pX w0 L0 → gXq Γ.l K yX1_sum cX1_sum 4 (some (.object "OneBears$Sum")) (rm_X1_sum d m0) [.ref (xa K 0)] (xL K w0 ++ L0) (xPq K p0) (xPv K pX) m0) {r12 : Nat → Option Nat → Option Nat → Int32 → Wd → va_W → Prop} (hr12 : ∀ (i : Nat) (x1 : Option Nat) (x2 : Option Nat) (x3 : Int32) (w : Wd) (L : va_W) (hi : i ≤ mc), r12 i x1 x2 x3 w L → gJ Γ K i (4 * i) (xL K w ++ L) 12 [(0, .ref (xa K 0)), (1, va_rf x1), (2, va_rf x2), (3, .int x3)] []) (i : Nat) (x1 : Option Nat) (x2 : Option Nat) (x3 : Int32) (w : Wd) (L : va_W) (hi : i ≤ mc) (h : B_X1_term_12s Bk r12 N mc post postX i x1 x2 x3 w L) : gJ Γ K i (4 * i) (xL K w ++ L) 12 [(0, .ref (xa K 0)), (1, va_rf x1), (2, va_rf x2), (3, .int x3)] [] := by
  unfold B_X1_term_12s at h
  refine g_iload_n C 3 rfl dX1_term_12 ?_
  refine g_bipush C 42 (by decide) dX1_term_13 ?_
  refine g_icmp_eq C 24 dX1_term_15 (by decide) (fun hc => ?_) (fun hc => ?_)
  · replace h := h.1 hc
    exact k_X1_term_24 C ret thr hk hr12 i x1 x2 x3 w L hi h
  · replace h := h.2 hc
    refine g_iload_n C 3 rfl dX1_term_18 ?_
    refine g_bipush C 47 (by decide) dX1_term_19 ?_
    refine g_icmp_ne C 64 dX1_term_21 (by decide) (fun hc => ?_) (fun hc => ?_)
    · replace h := h.2 hc
      refine g_aload_nq C 2 rfl dX1_term_64 ?_
      refine g_ifnonnull C 72 dX1_term_65 (by decide) (fun y1 hc => ?_) (fun hc => ?_)
      · replace h := h.2 y1 hc
        refine g_aload_nq C 2 rfl dX1_term_72 ?_
        refine g_sub [] rfl ?_
        exact k_X1_term_73 C ret thr hk i x2 w L hi h
      · replace h := h.1 hc
        refine g_aload_nq C 1 rfl dX1_term_68 ?_
        refine g_goto C 73 dX1_term_69 (by decide) ?_
        refine g_sub [] rfl ?_
        exact k_X1_term_73 C ret thr hk i x1 w L hi h
    · replace h := h.1 hc
      exact k_X1_term_24 C ret thr hk hr12 i x1 x2 x3 w L hi h
theorem k_X1_term_12 {Γ : gT} {K : gK} {N : Nat} {mc : Nat} {post : Option Nat → Wd → va_W → Prop} {postX : Wd → va_W → Prop} {d : Nat} {Bk : Nat → (Option Nat → Wd → va_W → Prop) → (Wd → va_W → Prop) → Wd → va_W → Prop} (C : gC Γ K RX1 cX1_term 4 (rm_X1_term d mc)) (ret : gXqR Γ K cX1_term (some (.object "OneBears$Sum")) (xPq K post) mc) (thr : gXT Γ K (xPv K postX) mc) (hk : ∀ {m0 : Nat} {p0 : Option Nat → Wd → va_W → Prop} {pX : Wd → va_W → Prop} {w0 : Wd} {L0 : va_W}, Bk m0 p0 pX w0 L0 → gXq Γ.l K yX1_sum cX1_sum 4 (some (.object "OneBears$Sum")) (rm_X1_sum d m0) [.ref (xa K 0)] (xL K w0 ++ L0) (xPq K p0) (xPv K pX) m0) : ∀ (n : Nat) (i : Nat) (x1 : Option Nat) (x2 : Option Nat) (x3 : Int32) (w : Wd) (L : va_W) (hi : i ≤ mc) (h : B_X1_term_12 Bk N mc post postX n i x1 x2 x3 w L), gJ Γ K i (4 * i) (xL K w ++ L) 12 [(0, .ref (xa K 0)), (1, va_rf x1), (2, va_rf x2), (3, .int x3)] [] := by
  intro n
  induction n with
  | zero => intro i x1 x2 x3 w L hi h; exact h.elim
  | succ n ih => intro i x1 x2 x3 w L hi h; exact k_X1_term_12s C ret thr hk ih i x1 x2 x3 w L hi h
def B_X1_term_0 (Bk : Nat → (Option Nat → Wd → va_W → Prop) → (Wd → va_W → Prop) → Wd → va_W → Prop) (N : Nat) (mc : Nat) (post : Option Nat → Wd → va_W → Prop) (postX : Wd → va_W → Prop) (i : Nat) (w : Wd) (L : va_W) : Prop :=
  ∃ m1 : Nat, i + m1 ≤ mc ∧ B_X1_atom Bk N m1 (fun (v4 : Option Nat) (w2 : Wd) (L3 : va_W) =>
  B_X1_look N (fun (v7 : Int32) (w5 : Wd) (L6 : va_W) =>
  B_X1_term_12 Bk N mc post postX N (i + m1) v4 none v7 w5 L6) w2 L3) postX w L
set_option maxHeartbeats 4000000 in
theorem k_X1_term_0 {Γ : gT} {K : gK} {N : Nat} {mc : Nat} {post : Option Nat → Wd → va_W → Prop} {postX : Wd → va_W → Prop} {d : Nat} {Bk : Nat → (Option Nat → Wd → va_W → Prop) → (Wd → va_W → Prop) → Wd → va_W → Prop} (C : gC Γ K RX1 cX1_term 4 (rm_X1_term d mc)) (ret : gXqR Γ K cX1_term (some (.object "OneBears$Sum")) (xPq K post) mc) (thr : gXT Γ K (xPv K postX) mc) (hk : ∀ {m0 : Nat} {p0 : Option Nat → Wd → va_W → Prop} {pX : Wd → va_W → Prop} {w0 : Wd} {L0 : va_W}, Bk m0 p0 pX w0 L0 → gXq Γ.l K yX1_sum cX1_sum 4 (some (.object "OneBears$Sum")) (rm_X1_sum d m0) [.ref (xa K 0)] (xL K w0 ++ L0) (xPq K p0) (xPv K pX) m0) (i : Nat) (w : Wd) (L : va_W) (hi : i ≤ mc) (h : B_X1_term_0 Bk N mc post postX i w L) : gJ Γ K i (4 * i) (xL K w ++ L) 0 [(0, .ref (xa K 0))] [] := by
  unfold B_X1_term_0 at h
  refine g_aload_n C 0 rfl dX1_term_0 ?_
  obtain ⟨m1, hm1, h⟩ := h
  refine g_callXVq C (As := []) (rest := []) (m_X1_atom hk h) (lw_V q476 q478 qs7 q78 q479) (ci := 0) (qi := 0) rfl rfl ⟨rfl, rfl⟩ (by dsimp only [rm_X1_term, rm_X1_atom]; omega) 0 rfl (by decide +kernel) rfl (Nat.le_of_ble_eq_true rfl) ⟨rfl, rfl⟩ hm1 dX1_term_1 (fun V9 q9 hx => thr _ _ _ _ _ q9 hm1 hx) ?_
  rintro v4 _ ⟨w2, L3, rfl, h⟩
  refine g_astore_nq C rfl (lt := [(1, va_rf v4), (0, .ref (xa K 0))]) dX1_term_4 (by decide) rfl ?_
  refine g_null C dX1_term_5 ?_
  refine g_astore_nN C rfl (lt := [(2, .null), (1, va_rf v4), (0, .ref (xa K 0))]) dX1_term_6 (by decide) (by generalize v4 = zq; cases zq <;> rfl) ?_
  refine g_aload_n C 2 rfl dX1_term_7 ?_
  refine g_callVi C (As := []) (rest := []) (m_X1_look h) (lw_V q373 q375 qs3 q78 q376) (ci := 0) (qi := 0) rfl rfl ⟨rfl, rfl⟩ (by dsimp only [rm_X1_term, rm_X1_look]; omega) 0 rfl (by decide +kernel) rfl (Nat.le_of_ble_eq_true rfl) ⟨hm1, Nat.mul_le_mul_left 4 hm1⟩ dX1_term_8 ?_
  rintro v7 _ ⟨w5, L6, rfl, h⟩
  refine g_istore_n C rfl (lt := [(3, .int v7), (2, .null), (1, va_rf v4), (0, .ref (xa K 0))]) dX1_term_11 (by decide) rfl ?_
  refine g_sub [3, 2, 1, 0] rfl ?_
  exact k_X1_term_12 C ret thr hk N (i + m1) v4 none v7 w5 L6 hm1 h
def B_X1_term (Bk : Nat → (Option Nat → Wd → va_W → Prop) → (Wd → va_W → Prop) → Wd → va_W → Prop) (N : Nat) (mc : Nat) (post : Option Nat → Wd → va_W → Prop) (postX : Wd → va_W → Prop) (w : Wd) (L : va_W) : Prop := B_X1_term_0 Bk N mc post postX 0 w L
theorem m_X1_term {l : Launch} {K : gK} {N : Nat} {mc : Nat} {post : Option Nat → Wd → va_W → Prop} {postX : Wd → va_W → Prop} {d : Nat} {Bk : Nat → (Option Nat → Wd → va_W → Prop) → (Wd → va_W → Prop) → Wd → va_W → Prop} {w : Wd} {L : va_W} (hk : ∀ {m0 : Nat} {p0 : Option Nat → Wd → va_W → Prop} {pX : Wd → va_W → Prop} {w0 : Wd} {L0 : va_W}, Bk m0 p0 pX w0 L0 → gXq l K yX1_sum cX1_sum 4 (some (.object "OneBears$Sum")) (rm_X1_sum d m0) [.ref (xa K 0)] (xL K w0 ++ L0) (xPq K p0) (xPv K pX) m0) (h : B_X1_term Bk N mc post postX w L) : gXq l K yX1_term cX1_term 4 (some (.object "OneBears$Sum")) (rm_X1_term d mc) [.ref (xa K 0)] (xL K w ++ L) (xPq K post) (xPv K postX) mc := by
  refine g_inXQ (ls0 := [(0, .ref (xa K 0))]) (by decide) (Nat.le_of_ble_eq_true rfl) rfl rfl rfl (fun Γ hl C hn ret thr => ?_)
  subst hl
  exact k_X1_term_0 C ret thr hk 0 w L (Nat.zero_le _) h
def B_X1_sum_47 (Bk : Nat → (Option Nat → Wd → va_W → Prop) → (Wd → va_W → Prop) → Wd → va_W → Prop) (r12 : Nat → Option Nat → Option Nat → Int32 → Wd → va_W → Prop) (N : Nat) (mc : Nat) (post : Option Nat → Wd → va_W → Prop) (postX : Wd → va_W → Prop) (i : Nat) (x1 : Option Nat) (x2 : Option Nat) (x3 : Int32) (w : Wd) (L : va_W) : Prop :=
  ∃ m1 : Nat, i + m1 ≤ mc ∧ B_X1_term Bk N m1 (fun (v4 : Option Nat) (w2 : Wd) (L3 : va_W) =>
  ∃ y5 : Nat, x2 = some y5 ∧ ∃ (k5 : Nat) (f5 : List Value), L3[k5]? = some (y5, .inr (6, f5)) ∧ ∃ m6 : Nat, (i + m1) + m6 ≤ mc ∧ B_X9_add N y5 x3 v4 m6 (fun (w7 : Wd) (L8 : va_W) =>
  B_X1_look N (fun (v11 : Int32) (w9 : Wd) (L10 : va_W) =>
  r12 ((i + m1) + m6) x1 x2 v11 w9 L10) w7 L8) postX w2 L3) postX w L
set_option maxHeartbeats 4000000 in
theorem k_X1_sum_47 {Γ : gT} {K : gK} {N : Nat} {mc : Nat} {post : Option Nat → Wd → va_W → Prop} {postX : Wd → va_W → Prop} {d : Nat} {Bk : Nat → (Option Nat → Wd → va_W → Prop) → (Wd → va_W → Prop) → Wd → va_W → Prop} (C : gC Γ K RX1 cX1_sum 4 (rm_X1_sum (d + 1) mc)) (ret : gXqR Γ K cX1_sum (some (.object "OneBears$Sum")) (xPq K post) mc) (thr : gXT Γ K (xPv K postX) mc) (hk : ∀ {m0 : Nat} {p0 : Option Nat → Wd → va_W → Prop} {pX : Wd → va_W → Prop} {w0 : Wd} {L0 : va_W}, Bk m0 p0 pX w0 L0 → gXq Γ.l K yX1_sum cX1_sum 4 (some (.object "OneBears$Sum")) (rm_X1_sum d m0) [.ref (xa K 0)] (xL K w0 ++ L0) (xPq K p0) (xPv K pX) m0) {r12 : Nat → Option Nat → Option Nat → Int32 → Wd → va_W → Prop} (hr12 : ∀ (i : Nat) (x1 : Option Nat) (x2 : Option Nat) (x3 : Int32) (w : Wd) (L : va_W) (hi : i ≤ mc), r12 i x1 x2 x3 w L → gJ Γ K i (4 * i) (xL K w ++ L) 12 [(0, .ref (xa K 0)), (1, va_rf x1), (2, va_rf x2), (3, .int x3)] []) (i : Nat) (x1 : Option Nat) (x2 : Option Nat) (x3 : Int32) (w : Wd) (L : va_W) (hi : i ≤ mc) (h : B_X1_sum_47 Bk r12 N mc post postX i x1 x2 x3 w L) : gJ Γ K i (4 * i) (xL K w ++ L) 47 [(0, .ref (xa K 0)), (1, va_rf x1), (2, va_rf x2), (3, .int x3)] [] := by
  unfold B_X1_sum_47 at h
  refine g_aload_nq C 2 rfl dX1_sum_47 ?_
  refine g_iload_n C 3 rfl dX1_sum_48 ?_
  refine g_aload_n C 0 rfl dX1_sum_49 ?_
  obtain ⟨m1, hm1, h⟩ := h
  refine g_callXVq C (As := []) (rest := [.int x3, va_rf x2]) (m_X1_term hk h) (lw_V q472 q474 qs6 q78 q475) (ci := 0) (qi := 0) rfl rfl ⟨rfl, rfl⟩ (by dsimp only [rm_X1_sum, rm_X1_term]; omega) 0 rfl (by decide +kernel) rfl (by cases x2 <;> exact Nat.le_of_ble_eq_true rfl) ⟨rfl, rfl⟩ hm1 dX1_sum_50 (fun V9 q9 hx => thr _ _ _ _ _ q9 hm1 hx) ?_
  rintro v4 _ ⟨w2, L3, rfl, h⟩
  obtain ⟨y5, ey5, h⟩ := h
  refine g_stk (st' := [va_rf v4, .int x3, .ref y5]) (by rw [ey5]; rfl) ?_
  obtain ⟨k5, f5, e5, h⟩ := h
  obtain ⟨m6, hm6, h⟩ := h
  refine g_callXVv C (As := [.int x3, va_rf v4]) (rest := []) (m_X9_add h) (lw_V q531 q532 q533 q94 q534) (ci := 6) (qi := 31 + k5) rfl (x_at e5) ⟨rfl, rfl⟩ (by dsimp only [rm_X1_sum, rm_X9_add]; omega) 2 rfl (by decide +kernel) rfl (Nat.le_of_ble_eq_true rfl) ⟨rfl, rfl⟩ hm6 dX1_sum_53 (fun V9 q9 hx => thr _ _ _ _ _ q9 hm6 hx) ?_
  rintro _ ⟨w7, L8, rfl, h⟩
  refine g_aload_n C 0 rfl dX1_sum_56 ?_
  refine g_callVi C (As := []) (rest := []) (m_X1_look h) (lw_V q373 q375 qs3 q78 q376) (ci := 0) (qi := 0) rfl rfl ⟨rfl, rfl⟩ (by dsimp only [rm_X1_sum, rm_X1_look]; omega) 0 rfl (by decide +kernel) rfl (Nat.le_of_ble_eq_true rfl) ⟨hm6, Nat.mul_le_mul_left 4 hm6⟩ dX1_sum_57 ?_
  rintro v11 _ ⟨w9, L10, rfl, h⟩
  refine g_istore_n C rfl (lt := [(3, .int v11), (0, .ref (xa K 0)), (1, va_rf x1), (2, va_rf x2)]) dX1_sum_60 (by decide) (by generalize x2 = zq; cases zq <;> rfl) ?_
  refine g_goto C 12 dX1_sum_61 (by decide) ?_
  refine g_sub [1, 2, 3, 0] rfl ?_
  exact hr12 ((i + m1) + m6) x1 x2 v11 w9 L10 hm6 h
def B_X1_sum_24 (Bk : Nat → (Option Nat → Wd → va_W → Prop) → (Wd → va_W → Prop) → Wd → va_W → Prop) (r12 : Nat → Option Nat → Option Nat → Int32 → Wd → va_W → Prop) (N : Nat) (mc : Nat) (post : Option Nat → Wd → va_W → Prop) (postX : Wd → va_W → Prop) (i : Nat) (x1 : Option Nat) (x2 : Option Nat) (x3 : Int32) (w : Wd) (L : va_W) : Prop :=
  ∀ w1 : Wd, w1 = (xsi w 1 ((xi w 1) + 1)) → (x2 = none →
    i + 1 ≤ mc ∧ ∀ q3 : Nat, ∀ L4 : va_W, L4 = L ++ [(q3, .inr (6, [va_rf none, va_rf none, va_rf none]))] → B_X9_init N q3 x1 (fun (w6 : Wd) (L7 : va_W) =>
  B_X1_sum_47 Bk r12 N mc post postX (i + 1) x1 (some q3) x3 w6 L7) w1 L4) ∧
  (∀ y2 : Nat, x2 = some y2 →
    B_X1_sum_47 Bk r12 N mc post postX i x1 x2 x3 w1 L)
set_option maxHeartbeats 4000000 in
theorem k_X1_sum_24 {Γ : gT} {K : gK} {N : Nat} {mc : Nat} {post : Option Nat → Wd → va_W → Prop} {postX : Wd → va_W → Prop} {d : Nat} {Bk : Nat → (Option Nat → Wd → va_W → Prop) → (Wd → va_W → Prop) → Wd → va_W → Prop} (C : gC Γ K RX1 cX1_sum 4 (rm_X1_sum (d + 1) mc)) (ret : gXqR Γ K cX1_sum (some (.object "OneBears$Sum")) (xPq K post) mc) (thr : gXT Γ K (xPv K postX) mc) (hk : ∀ {m0 : Nat} {p0 : Option Nat → Wd → va_W → Prop} {pX : Wd → va_W → Prop} {w0 : Wd} {L0 : va_W}, Bk m0 p0 pX w0 L0 → gXq Γ.l K yX1_sum cX1_sum 4 (some (.object "OneBears$Sum")) (rm_X1_sum d m0) [.ref (xa K 0)] (xL K w0 ++ L0) (xPq K p0) (xPv K pX) m0) {r12 : Nat → Option Nat → Option Nat → Int32 → Wd → va_W → Prop} (hr12 : ∀ (i : Nat) (x1 : Option Nat) (x2 : Option Nat) (x3 : Int32) (w : Wd) (L : va_W) (hi : i ≤ mc), r12 i x1 x2 x3 w L → gJ Γ K i (4 * i) (xL K w ++ L) 12 [(0, .ref (xa K 0)), (1, va_rf x1), (2, va_rf x2), (3, .int x3)] []) (i : Nat) (x1 : Option Nat) (x2 : Option Nat) (x3 : Int32) (w : Wd) (L : va_W) (hi : i ≤ mc) (h : B_X1_sum_24 Bk r12 N mc post postX i x1 x2 x3 w L) : gJ Γ K i (4 * i) (xL K w ++ L) 24 [(0, .ref (xa K 0)), (1, va_rf x1), (2, va_rf x2), (3, .int x3)] [] := by
  unfold B_X1_sum_24 at h
  refine g_aload_n C 0 rfl dX1_sum_24 ?_
  refine g_dup C rfl dX1_sum_25 ?_
  refine xg_place C q273 (xi w 1) rfl dX1_sum_26 ?_
  refine g_iconst C 1 (by decide) dX1_sum_29 ?_
  refine g_iadd C dX1_sum_30 ?_
  refine xp_place C q273 dX1_sum_31 ?_
  refine g_aload_nq C 2 rfl dX1_sum_34 ?_
  obtain ⟨w1, ew1⟩ : ∃ z, z = (xsi w 1 ((xi w 1) + 1)) := ⟨_, rfl⟩
  replace h := h w1 ew1
  rw [← ew1]
  refine g_ifnonnull C 47 dX1_sum_35 (by decide) (fun y2 hc => ?_) (fun hc => ?_)
  · replace h := h.2 y2 hc
    exact k_X1_sum_47 C ret thr hk hr12 i x1 x2 x3 w1 L hi h
  · replace h := h.1 hc
    obtain ⟨hq3, h⟩ := h
    refine g_new C (ci := 6) (fs := [va_rf none, va_rf none, va_rf none]) tyX9 tyX9_ok rfl in_X9 q515 q516 q94 (by decide) (by decide) ⟨rfl, rfl⟩ hq3 dX1_sum_38 (fun q3 => ?_)
    replace h := h q3
    obtain ⟨L4, eL4⟩ : ∃ z, z = L ++ [(q3, .inr (6, [va_rf none, va_rf none, va_rf none]))] := ⟨_, rfl⟩
    replace h := h L4 eL4
    rw [List.append_assoc, ← eL4]
    refine g_dup C rfl dX1_sum_41 ?_
    refine g_aload_nq C 1 rfl dX1_sum_42 ?_
    refine g_callI C (As := [va_rf x1]) (rest := [.ref q3]) (m_X9_init h) q517 (lw_meth q519) q94 q518 rfl ⟨rfl, rfl⟩ (by dsimp only [rm_X1_sum, rm_X9_init]; omega) 1 rfl (by decide +kernel) rfl (Nat.le_of_ble_eq_true rfl) ⟨hq3, Nat.mul_le_mul_left 4 hq3⟩ dX1_sum_43 ?_
    rintro _ ⟨w6, L7, rfl, h⟩
    refine g_astore_n C rfl (lt := [(2, .ref q3), (0, .ref (xa K 0)), (1, va_rf x1), (3, .int x3)]) dX1_sum_46 (by decide) (by generalize x1 = zq; cases zq <;> rfl) ?_
    refine g_sub [1, 2, 0, 3] rfl ?_
    exact k_X1_sum_47 C ret thr hk hr12 (i + 1) x1 (some q3) x3 w6 L7 hq3 h
def B_X1_sum_73 (Bk : Nat → (Option Nat → Wd → va_W → Prop) → (Wd → va_W → Prop) → Wd → va_W → Prop) (N : Nat) (mc : Nat) (post : Option Nat → Wd → va_W → Prop) (postX : Wd → va_W → Prop) (i : Nat) (s0 : Option Nat) (w : Wd) (L : va_W) : Prop :=
  post s0 w L
set_option maxHeartbeats 4000000 in
theorem k_X1_sum_73 {Γ : gT} {K : gK} {N : Nat} {mc : Nat} {post : Option Nat → Wd → va_W → Prop} {postX : Wd → va_W → Prop} {d : Nat} {Bk : Nat → (Option Nat → Wd → va_W → Prop) → (Wd → va_W → Prop) → Wd → va_W → Prop} (C : gC Γ K RX1 cX1_sum 4 (rm_X1_sum (d + 1) mc)) (ret : gXqR Γ K cX1_sum (some (.object "OneBears$Sum")) (xPq K post) mc) (thr : gXT Γ K (xPv K postX) mc) (hk : ∀ {m0 : Nat} {p0 : Option Nat → Wd → va_W → Prop} {pX : Wd → va_W → Prop} {w0 : Wd} {L0 : va_W}, Bk m0 p0 pX w0 L0 → gXq Γ.l K yX1_sum cX1_sum 4 (some (.object "OneBears$Sum")) (rm_X1_sum d m0) [.ref (xa K 0)] (xL K w0 ++ L0) (xPq K p0) (xPv K pX) m0) (i : Nat) (s0 : Option Nat) (w : Wd) (L : va_W) (hi : i ≤ mc) (h : B_X1_sum_73 Bk N mc post postX i s0 w L) : gJ Γ K i (4 * i) (xL K w ++ L) 73 [] [va_rf s0] := by
  unfold B_X1_sum_73 at h
  exact ret _ s0 _ _ _ _ hi rfl dX1_sum_73 ⟨_, _, rfl, h⟩
def B_X1_sum_12s (Bk : Nat → (Option Nat → Wd → va_W → Prop) → (Wd → va_W → Prop) → Wd → va_W → Prop) (r12 : Nat → Option Nat → Option Nat → Int32 → Wd → va_W → Prop) (N : Nat) (mc : Nat) (post : Option Nat → Wd → va_W → Prop) (postX : Wd → va_W → Prop) (i : Nat) (x1 : Option Nat) (x2 : Option Nat) (x3 : Int32) (w : Wd) (L : va_W) : Prop :=
  (x3 = (43 : Int32) →
    B_X1_sum_24 Bk r12 N mc post postX i x1 x2 x3 w L) ∧
  (¬ x3 = (43 : Int32) →
    (x3 = (45 : Int32) →
      B_X1_sum_24 Bk r12 N mc post postX i x1 x2 x3 w L) ∧
    (¬ x3 = (45 : Int32) →
      (x2 = none →
        B_X1_sum_73 Bk N mc post postX i x1 w L) ∧
      (∀ y1 : Nat, x2 = some y1 →
        B_X1_sum_73 Bk N mc post postX i x2 w L)))
def B_X1_sum_12 (Bk : Nat → (Option Nat → Wd → va_W → Prop) → (Wd → va_W → Prop) → Wd → va_W → Prop) (N : Nat) (mc : Nat) (post : Option Nat → Wd → va_W → Prop) (postX : Wd → va_W → Prop) : Nat → Nat → Option Nat → Option Nat → Int32 → Wd → va_W → Prop
  | 0, _, _, _, _, _, _ => False
  | n + 1, i, x1, x2, x3, w, L => B_X1_sum_12s Bk (B_X1_sum_12 Bk N mc post postX n) N mc post postX i x1 x2 x3 w L
set_option maxHeartbeats 4000000 in
theorem k_X1_sum_12s {Γ : gT} {K : gK} {N : Nat} {mc : Nat} {post : Option Nat → Wd → va_W → Prop} {postX : Wd → va_W → Prop} {d : Nat} {Bk : Nat → (Option Nat → Wd → va_W → Prop) → (Wd → va_W → Prop) → Wd → va_W → Prop} (C : gC Γ K RX1 cX1_sum 4 (rm_X1_sum (d + 1) mc)) (ret : gXqR Γ K cX1_sum (some (.object "OneBears$Sum")) (xPq K post) mc) (thr : gXT Γ K (xPv K postX) mc) (hk : ∀ {m0 : Nat} {p0 : Option Nat → Wd → va_W → Prop} {pX : Wd → va_W → Prop} {w0 : Wd} {L0 : va_W}, Bk m0 p0 pX w0 L0 → gXq Γ.l K yX1_sum cX1_sum 4 (some (.object "OneBears$Sum")) (rm_X1_sum d m0) [.ref (xa K 0)] (xL K w0 ++ L0) (xPq K p0) (xPv K pX) m0) {r12 : Nat → Option Nat → Option Nat → Int32 → Wd → va_W → Prop} (hr12 : ∀ (i : Nat) (x1 : Option Nat) (x2 : Option Nat) (x3 : Int32) (w : Wd) (L : va_W) (hi : i ≤ mc), r12 i x1 x2 x3 w L → gJ Γ K i (4 * i) (xL K w ++ L) 12 [(0, .ref (xa K 0)), (1, va_rf x1), (2, va_rf x2), (3, .int x3)] []) (i : Nat) (x1 : Option Nat) (x2 : Option Nat) (x3 : Int32) (w : Wd) (L : va_W) (hi : i ≤ mc) (h : B_X1_sum_12s Bk r12 N mc post postX i x1 x2 x3 w L) : gJ Γ K i (4 * i) (xL K w ++ L) 12 [(0, .ref (xa K 0)), (1, va_rf x1), (2, va_rf x2), (3, .int x3)] [] := by
  unfold B_X1_sum_12s at h
  refine g_iload_n C 3 rfl dX1_sum_12 ?_
  refine g_bipush C 43 (by decide) dX1_sum_13 ?_
  refine g_icmp_eq C 24 dX1_sum_15 (by decide) (fun hc => ?_) (fun hc => ?_)
  · replace h := h.1 hc
    exact k_X1_sum_24 C ret thr hk hr12 i x1 x2 x3 w L hi h
  · replace h := h.2 hc
    refine g_iload_n C 3 rfl dX1_sum_18 ?_
    refine g_bipush C 45 (by decide) dX1_sum_19 ?_
    refine g_icmp_ne C 64 dX1_sum_21 (by decide) (fun hc => ?_) (fun hc => ?_)
    · replace h := h.2 hc
      refine g_aload_nq C 2 rfl dX1_sum_64 ?_
      refine g_ifnonnull C 72 dX1_sum_65 (by decide) (fun y1 hc => ?_) (fun hc => ?_)
      · replace h := h.2 y1 hc
        refine g_aload_nq C 2 rfl dX1_sum_72 ?_
        refine g_sub [] rfl ?_
        exact k_X1_sum_73 C ret thr hk i x2 w L hi h
      · replace h := h.1 hc
        refine g_aload_nq C 1 rfl dX1_sum_68 ?_
        refine g_goto C 73 dX1_sum_69 (by decide) ?_
        refine g_sub [] rfl ?_
        exact k_X1_sum_73 C ret thr hk i x1 w L hi h
    · replace h := h.1 hc
      exact k_X1_sum_24 C ret thr hk hr12 i x1 x2 x3 w L hi h
theorem k_X1_sum_12 {Γ : gT} {K : gK} {N : Nat} {mc : Nat} {post : Option Nat → Wd → va_W → Prop} {postX : Wd → va_W → Prop} {d : Nat} {Bk : Nat → (Option Nat → Wd → va_W → Prop) → (Wd → va_W → Prop) → Wd → va_W → Prop} (C : gC Γ K RX1 cX1_sum 4 (rm_X1_sum (d + 1) mc)) (ret : gXqR Γ K cX1_sum (some (.object "OneBears$Sum")) (xPq K post) mc) (thr : gXT Γ K (xPv K postX) mc) (hk : ∀ {m0 : Nat} {p0 : Option Nat → Wd → va_W → Prop} {pX : Wd → va_W → Prop} {w0 : Wd} {L0 : va_W}, Bk m0 p0 pX w0 L0 → gXq Γ.l K yX1_sum cX1_sum 4 (some (.object "OneBears$Sum")) (rm_X1_sum d m0) [.ref (xa K 0)] (xL K w0 ++ L0) (xPq K p0) (xPv K pX) m0) : ∀ (n : Nat) (i : Nat) (x1 : Option Nat) (x2 : Option Nat) (x3 : Int32) (w : Wd) (L : va_W) (hi : i ≤ mc) (h : B_X1_sum_12 Bk N mc post postX n i x1 x2 x3 w L), gJ Γ K i (4 * i) (xL K w ++ L) 12 [(0, .ref (xa K 0)), (1, va_rf x1), (2, va_rf x2), (3, .int x3)] [] := by
  intro n
  induction n with
  | zero => intro i x1 x2 x3 w L hi h; exact h.elim
  | succ n ih => intro i x1 x2 x3 w L hi h; exact k_X1_sum_12s C ret thr hk ih i x1 x2 x3 w L hi h
def B_X1_sum_0 (Bk : Nat → (Option Nat → Wd → va_W → Prop) → (Wd → va_W → Prop) → Wd → va_W → Prop) (N : Nat) (mc : Nat) (post : Option Nat → Wd → va_W → Prop) (postX : Wd → va_W → Prop) (i : Nat) (w : Wd) (L : va_W) : Prop :=
  ∃ m1 : Nat, i + m1 ≤ mc ∧ B_X1_term Bk N m1 (fun (v4 : Option Nat) (w2 : Wd) (L3 : va_W) =>
  B_X1_look N (fun (v7 : Int32) (w5 : Wd) (L6 : va_W) =>
  B_X1_sum_12 Bk N mc post postX N (i + m1) v4 none v7 w5 L6) w2 L3) postX w L
set_option maxHeartbeats 4000000 in
theorem k_X1_sum_0 {Γ : gT} {K : gK} {N : Nat} {mc : Nat} {post : Option Nat → Wd → va_W → Prop} {postX : Wd → va_W → Prop} {d : Nat} {Bk : Nat → (Option Nat → Wd → va_W → Prop) → (Wd → va_W → Prop) → Wd → va_W → Prop} (C : gC Γ K RX1 cX1_sum 4 (rm_X1_sum (d + 1) mc)) (ret : gXqR Γ K cX1_sum (some (.object "OneBears$Sum")) (xPq K post) mc) (thr : gXT Γ K (xPv K postX) mc) (hk : ∀ {m0 : Nat} {p0 : Option Nat → Wd → va_W → Prop} {pX : Wd → va_W → Prop} {w0 : Wd} {L0 : va_W}, Bk m0 p0 pX w0 L0 → gXq Γ.l K yX1_sum cX1_sum 4 (some (.object "OneBears$Sum")) (rm_X1_sum d m0) [.ref (xa K 0)] (xL K w0 ++ L0) (xPq K p0) (xPv K pX) m0) (i : Nat) (w : Wd) (L : va_W) (hi : i ≤ mc) (h : B_X1_sum_0 Bk N mc post postX i w L) : gJ Γ K i (4 * i) (xL K w ++ L) 0 [(0, .ref (xa K 0))] [] := by
  unfold B_X1_sum_0 at h
  refine g_aload_n C 0 rfl dX1_sum_0 ?_
  obtain ⟨m1, hm1, h⟩ := h
  refine g_callXVq C (As := []) (rest := []) (m_X1_term hk h) (lw_V q472 q474 qs6 q78 q475) (ci := 0) (qi := 0) rfl rfl ⟨rfl, rfl⟩ (by dsimp only [rm_X1_sum, rm_X1_term]; omega) 0 rfl (by decide +kernel) rfl (Nat.le_of_ble_eq_true rfl) ⟨rfl, rfl⟩ hm1 dX1_sum_1 (fun V9 q9 hx => thr _ _ _ _ _ q9 hm1 hx) ?_
  rintro v4 _ ⟨w2, L3, rfl, h⟩
  refine g_astore_nq C rfl (lt := [(1, va_rf v4), (0, .ref (xa K 0))]) dX1_sum_4 (by decide) rfl ?_
  refine g_null C dX1_sum_5 ?_
  refine g_astore_nN C rfl (lt := [(2, .null), (1, va_rf v4), (0, .ref (xa K 0))]) dX1_sum_6 (by decide) (by generalize v4 = zq; cases zq <;> rfl) ?_
  refine g_aload_n C 2 rfl dX1_sum_7 ?_
  refine g_callVi C (As := []) (rest := []) (m_X1_look h) (lw_V q373 q375 qs3 q78 q376) (ci := 0) (qi := 0) rfl rfl ⟨rfl, rfl⟩ (by dsimp only [rm_X1_sum, rm_X1_look]; omega) 0 rfl (by decide +kernel) rfl (Nat.le_of_ble_eq_true rfl) ⟨hm1, Nat.mul_le_mul_left 4 hm1⟩ dX1_sum_8 ?_
  rintro v7 _ ⟨w5, L6, rfl, h⟩
  refine g_istore_n C rfl (lt := [(3, .int v7), (2, .null), (1, va_rf v4), (0, .ref (xa K 0))]) dX1_sum_11 (by decide) rfl ?_
  refine g_sub [3, 2, 1, 0] rfl ?_
  exact k_X1_sum_12 C ret thr hk N (i + m1) v4 none v7 w5 L6 hm1 h
def B_X1_sum1 (Bk : Nat → (Option Nat → Wd → va_W → Prop) → (Wd → va_W → Prop) → Wd → va_W → Prop) (N : Nat) (mc : Nat) (post : Option Nat → Wd → va_W → Prop) (postX : Wd → va_W → Prop) (w : Wd) (L : va_W) : Prop := B_X1_sum_0 Bk N mc post postX 0 w L
theorem m_X1_sum1 {l : Launch} {K : gK} {N : Nat} {mc : Nat} {post : Option Nat → Wd → va_W → Prop} {postX : Wd → va_W → Prop} {d : Nat} {Bk : Nat → (Option Nat → Wd → va_W → Prop) → (Wd → va_W → Prop) → Wd → va_W → Prop} {w : Wd} {L : va_W} (hk : ∀ {m0 : Nat} {p0 : Option Nat → Wd → va_W → Prop} {pX : Wd → va_W → Prop} {w0 : Wd} {L0 : va_W}, Bk m0 p0 pX w0 L0 → gXq l K yX1_sum cX1_sum 4 (some (.object "OneBears$Sum")) (rm_X1_sum d m0) [.ref (xa K 0)] (xL K w0 ++ L0) (xPq K p0) (xPv K pX) m0) (h : B_X1_sum1 Bk N mc post postX w L) : gXq l K yX1_sum cX1_sum 4 (some (.object "OneBears$Sum")) (rm_X1_sum (d + 1) mc) [.ref (xa K 0)] (xL K w ++ L) (xPq K post) (xPv K postX) mc := by
  refine g_inXQ (ls0 := [(0, .ref (xa K 0))]) (by decide) (Nat.le_of_ble_eq_true rfl) rfl rfl rfl (fun Γ hl C hn ret thr => ?_)
  subst hl
  exact k_X1_sum_0 C ret thr hk 0 w L (Nat.zero_le _) h
def B_X1_sumd (N : Nat) : Nat → Nat → (Option Nat → Wd → va_W → Prop) → (Wd → va_W → Prop) → Wd → va_W → Prop
  | 0, _, _, _, _, _ => False
  | d + 1, m0, p0, pX, w0, L0 => B_X1_sum1 (B_X1_sumd N d) N m0 p0 pX w0 L0
theorem m_X1_sumd {l : Launch} {K : gK} {N : Nat} : ∀ (d : Nat) {m0 : Nat} {p0 : Option Nat → Wd → va_W → Prop} {pX : Wd → va_W → Prop} {w0 : Wd} {L0 : va_W}, B_X1_sumd N d m0 p0 pX w0 L0 → gXq l K yX1_sum cX1_sum 4 (some (.object "OneBears$Sum")) (rm_X1_sum d m0) [.ref (xa K 0)] (xL K w0 ++ L0) (xPq K p0) (xPv K pX) m0 := by
  intro d
  induction d with
  | zero => intro  m0 p0 pX w0 L0 h; exact h.elim
  | succ d ih => intro  m0 p0 pX w0 L0 h; exact m_X1_sum1 (d := d) (Bk := B_X1_sumd N d) (N := N) (mc := m0) (post := p0) (postX := pX) (w := w0) (L := L0) (hk := ih) h
def B_X1_sum (N : Nat) (m0 : Nat) (p0 : Option Nat → Wd → va_W → Prop) (pX : Wd → va_W → Prop) (w0 : Wd) (L0 : va_W) : Prop := B_X1_sumd N 8 m0 p0 pX w0 L0
theorem m_X1_sum {l : Launch} {K : gK} {N : Nat} {m0 : Nat} {p0 : Option Nat → Wd → va_W → Prop} {pX : Wd → va_W → Prop} {w0 : Wd} {L0 : va_W} (h : B_X1_sum N m0 p0 pX w0 L0) : gXq l K yX1_sum cX1_sum 4 (some (.object "OneBears$Sum")) (rm_X1_sum 8 m0) [.ref (xa K 0)] (xL K w0 ++ L0) (xPq K p0) (xPv K pX) m0 := m_X1_sumd 8 h
def B_X1_atom_out (N : Nat) (m0 : Nat) (p0 : Option Nat → Wd → va_W → Prop) (pX : Wd → va_W → Prop) (w0 : Wd) (L0 : va_W) : Prop := B_X1_atom (B_X1_sumd N 8) N m0 p0 pX w0 L0
theorem m_X1_atom_out {l : Launch} {K : gK} {N : Nat} {m0 : Nat} {p0 : Option Nat → Wd → va_W → Prop} {pX : Wd → va_W → Prop} {w0 : Wd} {L0 : va_W} (h : B_X1_atom_out N m0 p0 pX w0 L0) : gXq l K yX1_atom cX1_atom 4 (some (.object "OneBears$Sum")) (rm_X1_atom 8 m0) [.ref (xa K 0)] (xL K w0 ++ L0) (xPq K p0) (xPv K pX) m0 := m_X1_atom (d := 8) (hk := m_X1_sumd 8) h
def B_X1_term_out (N : Nat) (m0 : Nat) (p0 : Option Nat → Wd → va_W → Prop) (pX : Wd → va_W → Prop) (w0 : Wd) (L0 : va_W) : Prop := B_X1_term (B_X1_sumd N 8) N m0 p0 pX w0 L0
theorem m_X1_term_out {l : Launch} {K : gK} {N : Nat} {m0 : Nat} {p0 : Option Nat → Wd → va_W → Prop} {pX : Wd → va_W → Prop} {w0 : Wd} {L0 : va_W} (h : B_X1_term_out N m0 p0 pX w0 L0) : gXq l K yX1_term cX1_term 4 (some (.object "OneBears$Sum")) (rm_X1_term 8 m0) [.ref (xa K 0)] (xL K w0 ++ L0) (xPq K p0) (xPv K pX) m0 := m_X1_term (d := 8) (hk := m_X1_sumd 8) h
def rm_X1_compare (mc : Nat) : Room := { frames := 29, cells := mc, slots := 4 * mc, locals := 666 }
def B_X1_compare_0 (N : Nat) (mc : Nat) (post : Option Nat → Wd → va_W → Prop) (postX : Wd → va_W → Prop) (i : Nat) (x1 : Option Nat) (w : Wd) (L : va_W) : Prop :=
  B_X1_look N (fun (v3 : Int32) (w1 : Wd) (L2 : va_W) =>
  B_X1_isSign N v3 (fun (v6 : Int32) (w4 : Wd) (L5 : va_W) =>
  B_X1_need N v6 0 (fun (w7 : Wd) (L8 : va_W) =>
  i + 1 ≤ mc ∧ ∀ q9 : Nat, ∀ L10 : va_W, L10 = L8 ++ [(q9, .inr (8, [va_rf none, .int 0, va_rf none, va_rf none]))] → ∃ m11 : Nat, (i + 1) + m11 ≤ mc ∧ B_X1_sum N m11 (fun (v14 : Option Nat) (w12 : Wd) (L13 : va_W) =>
  B_X14_init N q9 v3 x1 v14 (fun (w16 : Wd) (L17 : va_W) =>
  post (some q9) w16 L17) w12 L13) postX (xsi w7 1 ((xi w7 1) + 1)) L10) postX w4 L5) w1 L2) w L
set_option maxHeartbeats 4000000 in
theorem k_X1_compare_0 {Γ : gT} {K : gK} {N : Nat} {mc : Nat} {post : Option Nat → Wd → va_W → Prop} {postX : Wd → va_W → Prop} (C : gC Γ K RX1 cX1_compare 3 (rm_X1_compare mc)) (ret : gXqR Γ K cX1_compare (some (.object "OneBears$Test")) (xPq K post) mc) (thr : gXT Γ K (xPv K postX) mc) (i : Nat) (x1 : Option Nat) (w : Wd) (L : va_W) (hi : i ≤ mc) (h : B_X1_compare_0 N mc post postX i x1 w L) : gJ Γ K i (4 * i) (xL K w ++ L) 0 [(0, .ref (xa K 0)), (1, va_rf x1)] [] := by
  unfold B_X1_compare_0 at h
  refine g_aload_n C 0 rfl dX1_compare_0 ?_
  refine g_callVi C (As := []) (rest := []) (m_X1_look h) (lw_V q373 q375 qs3 q78 q376) (ci := 0) (qi := 0) rfl rfl ⟨rfl, rfl⟩ ⟨Nat.le_of_ble_eq_true rfl, Nat.le_of_ble_eq_true rfl⟩ 0 rfl (by decide +kernel) rfl (Nat.le_of_ble_eq_true rfl) ⟨hi, Nat.mul_le_mul_left 4 hi⟩ dX1_compare_1 ?_
  rintro v3 _ ⟨w1, L2, rfl, h⟩
  refine g_istore_n C rfl (lt := [(2, .int v3), (0, .ref (xa K 0)), (1, va_rf x1)]) dX1_compare_4 (by decide) (by generalize x1 = zq; cases zq <;> rfl) ?_
  refine g_aload_n C 1 rfl dX1_compare_5 ?_
  refine g_iload_n C 0 rfl dX1_compare_6 ?_
  refine g_callSi C (As := [.int v3]) (rest := [.ref (xa K 0)]) (m_X1_isSign h) (Cn := "") (b := 0) (lw_S q551 q552 q78 q553) ⟨rfl, rfl⟩ ⟨Nat.le_of_ble_eq_true rfl, Nat.le_of_ble_eq_true rfl⟩ 1 rfl (by decide +kernel) rfl (Nat.le_of_ble_eq_true rfl) ⟨hi, Nat.mul_le_mul_left 4 hi⟩ dX1_compare_7 ?_
  rintro v6 _ ⟨w4, L5, rfl, h⟩
  refine g_callXVv C (As := [.int v6]) (rest := []) (m_X1_need h) (lw_V q464 q466 qs4 q78 q467) (ci := 0) (qi := 0) rfl rfl ⟨rfl, rfl⟩ ⟨Nat.le_of_ble_eq_true rfl, Nat.le_of_ble_eq_true rfl⟩ 1 rfl (by decide +kernel) rfl (Nat.le_of_ble_eq_true rfl) ⟨rfl, rfl⟩ hi dX1_compare_10 (fun V9 q9 hx => thr _ _ _ _ _ q9 hi hx) ?_
  rintro _ ⟨w7, L8, rfl, h⟩
  refine g_aload_n C 1 rfl dX1_compare_13 ?_
  refine g_dup C rfl dX1_compare_14 ?_
  refine xg_place C q273 (xi w7 1) rfl dX1_compare_15 ?_
  refine g_iconst C 1 (by decide) dX1_compare_18 ?_
  refine g_iadd C dX1_compare_19 ?_
  refine xp_place C q273 dX1_compare_20 ?_
  obtain ⟨hq9, h⟩ := h
  refine g_new C (ci := 8) (fs := [va_rf none, .int 0, va_rf none, va_rf none]) tyX14 tyX14_ok rfl in_X14 q607 q608 q99 (by decide) (by decide) ⟨rfl, rfl⟩ hq9 dX1_compare_23 (fun q9 => ?_)
  replace h := h q9
  obtain ⟨L10, eL10⟩ : ∃ z, z = L8 ++ [(q9, .inr (8, [va_rf none, .int 0, va_rf none, va_rf none]))] := ⟨_, rfl⟩
  replace h := h L10 eL10
  rw [List.append_assoc, ← eL10]
  refine g_dup C rfl dX1_compare_26 ?_
  refine g_iload_n C 0 rfl dX1_compare_27 ?_
  refine g_aload_nq C 2 rfl dX1_compare_28 ?_
  refine g_aload_n C 1 rfl dX1_compare_29 ?_
  obtain ⟨m11, hm11, h⟩ := h
  refine g_callXVq C (As := []) (rest := [va_rf x1, .int v3, .ref q9, .ref q9]) (m_X1_sum h) (lw_V q468 q470 qs5 q78 q471) (ci := 0) (qi := 0) rfl rfl ⟨rfl, rfl⟩ ⟨Nat.le_of_ble_eq_true rfl, Nat.le_of_ble_eq_true rfl⟩ 0 rfl (by decide +kernel) rfl (by cases x1 <;> exact Nat.le_of_ble_eq_true rfl) ⟨rfl, rfl⟩ hm11 dX1_compare_30 (fun V9 q9 hx => thr _ _ _ _ _ q9 hm11 hx) ?_
  rintro v14 _ ⟨w12, L13, rfl, h⟩
  refine g_callI C (As := [.int v3, va_rf x1, va_rf v14]) (rest := [.ref q9]) (m_X14_init h) q609 (lw_meth q611) q99 q610 rfl ⟨rfl, rfl⟩ ⟨Nat.le_of_ble_eq_true rfl, Nat.le_of_ble_eq_true rfl⟩ 3 rfl (by decide +kernel) rfl (Nat.le_of_ble_eq_true rfl) ⟨hm11, Nat.mul_le_mul_left 4 hm11⟩ dX1_compare_33 ?_
  rintro _ ⟨w16, L17, rfl, h⟩
  exact ret _ (some q9) _ _ _ _ hm11 rfl dX1_compare_36 ⟨_, _, rfl, h⟩
def B_X1_compare (N : Nat) (x1 : Option Nat) (mc : Nat) (post : Option Nat → Wd → va_W → Prop) (postX : Wd → va_W → Prop) (w : Wd) (L : va_W) : Prop := B_X1_compare_0 N mc post postX 0 x1 w L
theorem m_X1_compare {l : Launch} {K : gK} {N : Nat} {mc : Nat} {post : Option Nat → Wd → va_W → Prop} {postX : Wd → va_W → Prop} {x1 : Option Nat} {w : Wd} {L : va_W} (h : B_X1_compare N x1 mc post postX w L) : gXq l K yX1_compare cX1_compare 3 (some (.object "OneBears$Test")) (rm_X1_compare mc) [.ref (xa K 0), va_rf x1] (xL K w ++ L) (xPq K post) (xPv K postX) mc := by
  refine g_inXQ (ls0 := [(0, .ref (xa K 0)), (1, va_rf x1)]) (by decide) (by cases x1 <;> exact Nat.le_of_ble_eq_true rfl) (by cases x1 <;> rfl) rfl rfl (fun Γ hl C hn ret thr => ?_)
  exact k_X1_compare_0 C ret thr 0 x1 w L (Nat.zero_le _) h
def rm_X1_part (d : Nat) (mc : Nat) : Room := { frames := 3 * d + 31, cells := mc, slots := 4 * mc, locals := 69 * d + 711 }
def rm_X1_condition (d : Nat) (mc : Nat) : Room := { frames := 3 * d + 32, cells := mc, slots := 4 * mc, locals := 69 * d + 734 }
def rm_X1_unit (d : Nat) (mc : Nat) : Room := { frames := 3 * d + 30, cells := mc, slots := 4 * mc, locals := 69 * d + 688 }
def B_X1_part_52 (Bk : Nat → (Option Nat → Wd → va_W → Prop) → (Wd → va_W → Prop) → Wd → va_W → Prop) (r19 : Nat → Option Nat → Option Nat → Wd → va_W → Prop) (N : Nat) (mc : Nat) (post : Option Nat → Wd → va_W → Prop) (postX : Wd → va_W → Prop) (i : Nat) (x2 : Option Nat) (x3 : Option Nat) (w : Wd) (L : va_W) : Prop :=
  ∃ m1 : Nat, i + m1 ≤ mc ∧ Bk m1 (fun (v4 : Option Nat) (w2 : Wd) (L3 : va_W) =>
  ∃ y5 : Nat, x3 = some y5 ∧ ∃ (k5 : Nat) (f5 : List Value), L3[k5]? = some (y5, .inr (10, f5)) ∧ B_X15_add N y5 v4 (fun (w6 : Wd) (L7 : va_W) =>
  r19 (i + m1) x2 x3 w6 L7) w2 L3) postX w L
set_option maxHeartbeats 4000000 in
theorem k_X1_part_52 {Γ : gT} {K : gK} {N : Nat} {mc : Nat} {post : Option Nat → Wd → va_W → Prop} {postX : Wd → va_W → Prop} {d : Nat} {Bk : Nat → (Option Nat → Wd → va_W → Prop) → (Wd → va_W → Prop) → Wd → va_W → Prop} (C : gC Γ K RX1 cX1_part 4 (rm_X1_part d mc)) (ret : gXqR Γ K cX1_part (some (.object "OneBears$Test")) (xPq K post) mc) (thr : gXT Γ K (xPv K postX) mc) (hk : ∀ {m0 : Nat} {p0 : Option Nat → Wd → va_W → Prop} {pX : Wd → va_W → Prop} {w0 : Wd} {L0 : va_W}, Bk m0 p0 pX w0 L0 → gXq Γ.l K yX1_unit cX1_unit 3 (some (.object "OneBears$Test")) (rm_X1_unit d m0) [.ref (xa K 0)] (xL K w0 ++ L0) (xPq K p0) (xPv K pX) m0) {r19 : Nat → Option Nat → Option Nat → Wd → va_W → Prop} (hr19 : ∀ (i : Nat) (x2 : Option Nat) (x3 : Option Nat) (w : Wd) (L : va_W) (hi : i ≤ mc), r19 i x2 x3 w L → gJ Γ K i (4 * i) (xL K w ++ L) 19 [(0, .ref (xa K 0)), (2, va_rf x2), (3, va_rf x3)] []) (i : Nat) (x2 : Option Nat) (x3 : Option Nat) (w : Wd) (L : va_W) (hi : i ≤ mc) (h : B_X1_part_52 Bk r19 N mc post postX i x2 x3 w L) : gJ Γ K i (4 * i) (xL K w ++ L) 52 [(0, .ref (xa K 0)), (2, va_rf x2), (3, va_rf x3)] [] := by
  unfold B_X1_part_52 at h
  refine g_aload_nq C 2 rfl dX1_part_52 ?_
  refine g_aload_n C 0 rfl dX1_part_53 ?_
  obtain ⟨m1, hm1, h⟩ := h
  refine g_callXVq C (As := []) (rest := [va_rf x3]) (hk h) (lw_V q583 q585 qs12 q78 q586) (ci := 0) (qi := 0) rfl rfl ⟨rfl, rfl⟩ (by dsimp only [rm_X1_part, rm_X1_unit]; omega) 0 rfl (by decide +kernel) rfl (by cases x3 <;> exact Nat.le_of_ble_eq_true rfl) ⟨rfl, rfl⟩ hm1 dX1_part_54 (fun V9 q9 hx => thr _ _ _ _ _ q9 hm1 hx) ?_
  rintro v4 _ ⟨w2, L3, rfl, h⟩
  obtain ⟨y5, ey5, h⟩ := h
  refine g_stk (st' := [va_rf v4, .ref y5]) (by rw [ey5]; rfl) ?_
  obtain ⟨k5, f5, e5, h⟩ := h
  refine g_callVv C (As := [va_rf v4]) (rest := []) (m_X15_add h) (lw_V q641 q642 q643 q100 q644) (ci := 10) (qi := 31 + k5) rfl (x_at e5) ⟨rfl, rfl⟩ (by dsimp only [rm_X1_part, rm_X15_add]; omega) 1 rfl (by decide +kernel) rfl (Nat.le_of_ble_eq_true rfl) ⟨hm1, Nat.mul_le_mul_left 4 hm1⟩ dX1_part_57 ?_
  rintro _ ⟨w6, L7, rfl, h⟩
  refine g_goto C 19 dX1_part_60 (by decide) ?_
  exact hr19 (i + m1) x2 x3 w6 L7 hm1 h
def B_X1_part_72 (Bk : Nat → (Option Nat → Wd → va_W → Prop) → (Wd → va_W → Prop) → Wd → va_W → Prop) (N : Nat) (mc : Nat) (post : Option Nat → Wd → va_W → Prop) (postX : Wd → va_W → Prop) (i : Nat) (s0 : Option Nat) (w : Wd) (L : va_W) : Prop :=
  post s0 w L
set_option maxHeartbeats 4000000 in
theorem k_X1_part_72 {Γ : gT} {K : gK} {N : Nat} {mc : Nat} {post : Option Nat → Wd → va_W → Prop} {postX : Wd → va_W → Prop} {d : Nat} {Bk : Nat → (Option Nat → Wd → va_W → Prop) → (Wd → va_W → Prop) → Wd → va_W → Prop} (C : gC Γ K RX1 cX1_part 4 (rm_X1_part d mc)) (ret : gXqR Γ K cX1_part (some (.object "OneBears$Test")) (xPq K post) mc) (thr : gXT Γ K (xPv K postX) mc) (hk : ∀ {m0 : Nat} {p0 : Option Nat → Wd → va_W → Prop} {pX : Wd → va_W → Prop} {w0 : Wd} {L0 : va_W}, Bk m0 p0 pX w0 L0 → gXq Γ.l K yX1_unit cX1_unit 3 (some (.object "OneBears$Test")) (rm_X1_unit d m0) [.ref (xa K 0)] (xL K w0 ++ L0) (xPq K p0) (xPv K pX) m0) (i : Nat) (s0 : Option Nat) (w : Wd) (L : va_W) (hi : i ≤ mc) (h : B_X1_part_72 Bk N mc post postX i s0 w L) : gJ Γ K i (4 * i) (xL K w ++ L) 72 [] [va_rf s0] := by
  unfold B_X1_part_72 at h
  exact ret _ s0 _ _ _ _ hi rfl dX1_part_72 ⟨_, _, rfl, h⟩
def B_X1_part_19s (Bk : Nat → (Option Nat → Wd → va_W → Prop) → (Wd → va_W → Prop) → Wd → va_W → Prop) (r19 : Nat → Option Nat → Option Nat → Wd → va_W → Prop) (N : Nat) (mc : Nat) (post : Option Nat → Wd → va_W → Prop) (postX : Wd → va_W → Prop) (i : Nat) (x2 : Option Nat) (x3 : Option Nat) (w : Wd) (L : va_W) : Prop :=
  B_X1_look N (fun (v3 : Int32) (w1 : Wd) (L2 : va_W) =>
  (v3 = (38 : Int32) →
    ∀ w5 : Wd, w5 = (xsi w1 1 ((xi w1 1) + 1)) → (x3 = none →
      i + 1 ≤ mc ∧ ∀ q7 : Nat, ∀ L8 : va_W, L8 = L2 ++ [(q7, .inr (10, [va_rf none, .int 0, va_rf none, va_rf none]))] → B_X15_init N q7 1 x2 (fun (w10 : Wd) (L11 : va_W) =>
  B_X1_part_52 Bk r19 N mc post postX (i + 1) x2 (some q7) w10 L11) w5 L8) ∧
    (∀ y6 : Nat, x3 = some y6 →
      B_X1_part_52 Bk r19 N mc post postX i x2 x3 w5 L2)) ∧
  (¬ v3 = (38 : Int32) →
    (x3 = none →
      B_X1_part_72 Bk N mc post postX i x2 w1 L2) ∧
    (∀ y4 : Nat, x3 = some y4 →
      B_X1_part_72 Bk N mc post postX i x3 w1 L2))) w L
def B_X1_part_19 (Bk : Nat → (Option Nat → Wd → va_W → Prop) → (Wd → va_W → Prop) → Wd → va_W → Prop) (N : Nat) (mc : Nat) (post : Option Nat → Wd → va_W → Prop) (postX : Wd → va_W → Prop) : Nat → Nat → Option Nat → Option Nat → Wd → va_W → Prop
  | 0, _, _, _, _, _ => False
  | n + 1, i, x2, x3, w, L => B_X1_part_19s Bk (B_X1_part_19 Bk N mc post postX n) N mc post postX i x2 x3 w L
set_option maxHeartbeats 4000000 in
theorem k_X1_part_19s {Γ : gT} {K : gK} {N : Nat} {mc : Nat} {post : Option Nat → Wd → va_W → Prop} {postX : Wd → va_W → Prop} {d : Nat} {Bk : Nat → (Option Nat → Wd → va_W → Prop) → (Wd → va_W → Prop) → Wd → va_W → Prop} (C : gC Γ K RX1 cX1_part 4 (rm_X1_part d mc)) (ret : gXqR Γ K cX1_part (some (.object "OneBears$Test")) (xPq K post) mc) (thr : gXT Γ K (xPv K postX) mc) (hk : ∀ {m0 : Nat} {p0 : Option Nat → Wd → va_W → Prop} {pX : Wd → va_W → Prop} {w0 : Wd} {L0 : va_W}, Bk m0 p0 pX w0 L0 → gXq Γ.l K yX1_unit cX1_unit 3 (some (.object "OneBears$Test")) (rm_X1_unit d m0) [.ref (xa K 0)] (xL K w0 ++ L0) (xPq K p0) (xPv K pX) m0) {r19 : Nat → Option Nat → Option Nat → Wd → va_W → Prop} (hr19 : ∀ (i : Nat) (x2 : Option Nat) (x3 : Option Nat) (w : Wd) (L : va_W) (hi : i ≤ mc), r19 i x2 x3 w L → gJ Γ K i (4 * i) (xL K w ++ L) 19 [(0, .ref (xa K 0)), (2, va_rf x2), (3, va_rf x3)] []) (i : Nat) (x2 : Option Nat) (x3 : Option Nat) (w : Wd) (L : va_W) (hi : i ≤ mc) (h : B_X1_part_19s Bk r19 N mc post postX i x2 x3 w L) : gJ Γ K i (4 * i) (xL K w ++ L) 19 [(0, .ref (xa K 0)), (2, va_rf x2), (3, va_rf x3)] [] := by
  unfold B_X1_part_19s at h
  refine g_aload_n C 0 rfl dX1_part_19 ?_
  refine g_callVi C (As := []) (rest := []) (m_X1_look h) (lw_V q373 q375 qs3 q78 q376) (ci := 0) (qi := 0) rfl rfl ⟨rfl, rfl⟩ (by dsimp only [rm_X1_part, rm_X1_look]; omega) 0 rfl (by decide +kernel) rfl (Nat.le_of_ble_eq_true rfl) ⟨hi, Nat.mul_le_mul_left 4 hi⟩ dX1_part_20 ?_
  rintro v3 _ ⟨w1, L2, rfl, h⟩
  refine g_bipush C 38 (by decide) dX1_part_23 ?_
  refine g_icmp_ne C 63 dX1_part_25 (by decide) (fun hc => ?_) (fun hc => ?_)
  · replace h := h.2 hc
    refine g_aload_nq C 2 rfl dX1_part_63 ?_
    refine g_ifnonnull C 71 dX1_part_64 (by decide) (fun y4 hc => ?_) (fun hc => ?_)
    · replace h := h.2 y4 hc
      refine g_aload_nq C 2 rfl dX1_part_71 ?_
      refine g_sub [] rfl ?_
      exact k_X1_part_72 C ret thr hk i x3 w1 L2 hi h
    · replace h := h.1 hc
      refine g_aload_nq C 1 rfl dX1_part_67 ?_
      refine g_goto C 72 dX1_part_68 (by decide) ?_
      refine g_sub [] rfl ?_
      exact k_X1_part_72 C ret thr hk i x2 w1 L2 hi h
  · replace h := h.1 hc
    refine g_aload_n C 0 rfl dX1_part_28 ?_
    refine g_dup C rfl dX1_part_29 ?_
    refine xg_place C q273 (xi w1 1) rfl dX1_part_30 ?_
    refine g_iconst C 1 (by decide) dX1_part_33 ?_
    refine g_iadd C dX1_part_34 ?_
    refine xp_place C q273 dX1_part_35 ?_
    refine g_aload_nq C 2 rfl dX1_part_38 ?_
    obtain ⟨w5, ew5⟩ : ∃ z, z = (xsi w1 1 ((xi w1 1) + 1)) := ⟨_, rfl⟩
    replace h := h w5 ew5
    rw [← ew5]
    refine g_ifnonnull C 52 dX1_part_39 (by decide) (fun y6 hc => ?_) (fun hc => ?_)
    · replace h := h.2 y6 hc
      exact k_X1_part_52 C ret thr hk hr19 i x2 x3 w5 L2 hi h
    · replace h := h.1 hc
      obtain ⟨hq7, h⟩ := h
      refine g_new C (ci := 10) (fs := [va_rf none, .int 0, va_rf none, va_rf none]) tyX15 tyX15_ok rfl in_X15 q624 q625 q100 (by decide) (by decide) ⟨rfl, rfl⟩ hq7 dX1_part_42 (fun q7 => ?_)
      replace h := h q7
      obtain ⟨L8, eL8⟩ : ∃ z, z = L2 ++ [(q7, .inr (10, [va_rf none, .int 0, va_rf none, va_rf none]))] := ⟨_, rfl⟩
      replace h := h L8 eL8
      rw [List.append_assoc, ← eL8]
      refine g_dup C rfl dX1_part_45 ?_
      refine g_iconst C 1 (by decide) dX1_part_46 ?_
      refine g_aload_nq C 1 rfl dX1_part_47 ?_
      refine g_callI C (As := [.int 1, va_rf x2]) (rest := [.ref q7]) (m_X15_init h) q626 (lw_meth q628) q100 q627 rfl ⟨rfl, rfl⟩ (by dsimp only [rm_X1_part, rm_X15_init]; omega) 2 rfl (by decide +kernel) rfl (Nat.le_of_ble_eq_true rfl) ⟨hq7, Nat.mul_le_mul_left 4 hq7⟩ dX1_part_48 ?_
      rintro _ ⟨w10, L11, rfl, h⟩
      refine g_astore_n C rfl (lt := [(3, .ref q7), (0, .ref (xa K 0)), (2, va_rf x2)]) dX1_part_51 (by decide) (by generalize x2 = zq; cases zq <;> rfl) ?_
      refine g_sub [1, 2, 0] rfl ?_
      exact k_X1_part_52 C ret thr hk hr19 (i + 1) x2 (some q7) w10 L11 hq7 h
theorem k_X1_part_19 {Γ : gT} {K : gK} {N : Nat} {mc : Nat} {post : Option Nat → Wd → va_W → Prop} {postX : Wd → va_W → Prop} {d : Nat} {Bk : Nat → (Option Nat → Wd → va_W → Prop) → (Wd → va_W → Prop) → Wd → va_W → Prop} (C : gC Γ K RX1 cX1_part 4 (rm_X1_part d mc)) (ret : gXqR Γ K cX1_part (some (.object "OneBears$Test")) (xPq K post) mc) (thr : gXT Γ K (xPv K postX) mc) (hk : ∀ {m0 : Nat} {p0 : Option Nat → Wd → va_W → Prop} {pX : Wd → va_W → Prop} {w0 : Wd} {L0 : va_W}, Bk m0 p0 pX w0 L0 → gXq Γ.l K yX1_unit cX1_unit 3 (some (.object "OneBears$Test")) (rm_X1_unit d m0) [.ref (xa K 0)] (xL K w0 ++ L0) (xPq K p0) (xPv K pX) m0) : ∀ (n : Nat) (i : Nat) (x2 : Option Nat) (x3 : Option Nat) (w : Wd) (L : va_W) (hi : i ≤ mc) (h : B_X1_part_19 Bk N mc post postX n i x2 x3 w L), gJ Γ K i (4 * i) (xL K w ++ L) 19 [(0, .ref (xa K 0)), (2, va_rf x2), (3, va_rf x3)] [] := by
  intro n
  induction n with
  | zero => intro i x2 x3 w L hi h; exact h.elim
  | succ n ih => intro i x2 x3 w L hi h; exact k_X1_part_19s C ret thr hk ih i x2 x3 w L hi h
def B_X1_part_16 (Bk : Nat → (Option Nat → Wd → va_W → Prop) → (Wd → va_W → Prop) → Wd → va_W → Prop) (N : Nat) (mc : Nat) (post : Option Nat → Wd → va_W → Prop) (postX : Wd → va_W → Prop) (i : Nat) (s0 : Option Nat) (w : Wd) (L : va_W) : Prop :=
  B_X1_part_19 Bk N mc post postX N i s0 none w L
set_option maxHeartbeats 4000000 in
theorem k_X1_part_16 {Γ : gT} {K : gK} {N : Nat} {mc : Nat} {post : Option Nat → Wd → va_W → Prop} {postX : Wd → va_W → Prop} {d : Nat} {Bk : Nat → (Option Nat → Wd → va_W → Prop) → (Wd → va_W → Prop) → Wd → va_W → Prop} (C : gC Γ K RX1 cX1_part 4 (rm_X1_part d mc)) (ret : gXqR Γ K cX1_part (some (.object "OneBears$Test")) (xPq K post) mc) (thr : gXT Γ K (xPv K postX) mc) (hk : ∀ {m0 : Nat} {p0 : Option Nat → Wd → va_W → Prop} {pX : Wd → va_W → Prop} {w0 : Wd} {L0 : va_W}, Bk m0 p0 pX w0 L0 → gXq Γ.l K yX1_unit cX1_unit 3 (some (.object "OneBears$Test")) (rm_X1_unit d m0) [.ref (xa K 0)] (xL K w0 ++ L0) (xPq K p0) (xPv K pX) m0) (i : Nat) (s0 : Option Nat) (w : Wd) (L : va_W) (hi : i ≤ mc) (h : B_X1_part_16 Bk N mc post postX i s0 w L) : gJ Γ K i (4 * i) (xL K w ++ L) 16 [(0, .ref (xa K 0))] [va_rf s0] := by
  unfold B_X1_part_16 at h
  refine g_astore_nq C rfl (lt := [(2, va_rf s0), (0, .ref (xa K 0))]) dX1_part_16 (by decide) rfl ?_
  refine g_null C dX1_part_17 ?_
  refine g_astore_nN C rfl (lt := [(3, .null), (2, va_rf s0), (0, .ref (xa K 0))]) dX1_part_18 (by decide) (by generalize s0 = zq; cases zq <;> rfl) ?_
  refine g_sub [2, 1, 0] rfl ?_
  exact k_X1_part_19 C ret thr hk N i s0 none w L hi h
def B_X1_part_0 (Bk : Nat → (Option Nat → Wd → va_W → Prop) → (Wd → va_W → Prop) → Wd → va_W → Prop) (N : Nat) (mc : Nat) (post : Option Nat → Wd → va_W → Prop) (postX : Wd → va_W → Prop) (i : Nat) (x1 : Option Nat) (w : Wd) (L : va_W) : Prop :=
  (x1 = none →
    ∃ m2 : Nat, i + m2 ≤ mc ∧ Bk m2 (fun (v5 : Option Nat) (w3 : Wd) (L4 : va_W) =>
  B_X1_part_16 Bk N mc post postX (i + m2) v5 w3 L4) postX w L) ∧
  (∀ y1 : Nat, x1 = some y1 →
    ∃ m6 : Nat, i + m6 ≤ mc ∧ B_X1_compare N x1 m6 (fun (v9 : Option Nat) (w7 : Wd) (L8 : va_W) =>
  B_X1_part_16 Bk N mc post postX (i + m6) v9 w7 L8) postX w L)
set_option maxHeartbeats 4000000 in
theorem k_X1_part_0 {Γ : gT} {K : gK} {N : Nat} {mc : Nat} {post : Option Nat → Wd → va_W → Prop} {postX : Wd → va_W → Prop} {d : Nat} {Bk : Nat → (Option Nat → Wd → va_W → Prop) → (Wd → va_W → Prop) → Wd → va_W → Prop} (C : gC Γ K RX1 cX1_part 4 (rm_X1_part d mc)) (ret : gXqR Γ K cX1_part (some (.object "OneBears$Test")) (xPq K post) mc) (thr : gXT Γ K (xPv K postX) mc) (hk : ∀ {m0 : Nat} {p0 : Option Nat → Wd → va_W → Prop} {pX : Wd → va_W → Prop} {w0 : Wd} {L0 : va_W}, Bk m0 p0 pX w0 L0 → gXq Γ.l K yX1_unit cX1_unit 3 (some (.object "OneBears$Test")) (rm_X1_unit d m0) [.ref (xa K 0)] (xL K w0 ++ L0) (xPq K p0) (xPv K pX) m0) (i : Nat) (x1 : Option Nat) (w : Wd) (L : va_W) (hi : i ≤ mc) (h : B_X1_part_0 Bk N mc post postX i x1 w L) : gJ Γ K i (4 * i) (xL K w ++ L) 0 [(0, .ref (xa K 0)), (1, va_rf x1)] [] := by
  unfold B_X1_part_0 at h
  refine g_aload_nq C 1 rfl dX1_part_0 ?_
  refine g_ifnonnull C 11 dX1_part_1 (by decide) (fun y1 hc => ?_) (fun hc => ?_)
  · replace h := h.2 y1 hc
    refine g_aload_n C 0 rfl dX1_part_11 ?_
    refine g_aload_nq C 1 rfl dX1_part_12 ?_
    obtain ⟨m6, hm6, h⟩ := h
    refine g_callXVq C (As := [va_rf x1]) (rest := []) (m_X1_compare h) (lw_V q603 q605 qs13 q78 q606) (ci := 0) (qi := 0) rfl rfl ⟨rfl, rfl⟩ (by dsimp only [rm_X1_part, rm_X1_compare]; omega) 1 rfl (by decide +kernel) rfl (Nat.le_of_ble_eq_true rfl) ⟨rfl, rfl⟩ hm6 dX1_part_13 (fun V9 q9 hx => thr _ _ _ _ _ q9 hm6 hx) ?_
    rintro v9 _ ⟨w7, L8, rfl, h⟩
    refine g_sub [0] rfl ?_
    exact k_X1_part_16 C ret thr hk (i + m6) v9 w7 L8 hm6 h
  · replace h := h.1 hc
    refine g_aload_n C 0 rfl dX1_part_4 ?_
    obtain ⟨m2, hm2, h⟩ := h
    refine g_callXVq C (As := []) (rest := []) (hk h) (lw_V q583 q585 qs12 q78 q586) (ci := 0) (qi := 0) rfl rfl ⟨rfl, rfl⟩ (by dsimp only [rm_X1_part, rm_X1_unit]; omega) 0 rfl (by decide +kernel) rfl (Nat.le_of_ble_eq_true rfl) ⟨rfl, rfl⟩ hm2 dX1_part_5 (fun V9 q9 hx => thr _ _ _ _ _ q9 hm2 hx) ?_
    rintro v5 _ ⟨w3, L4, rfl, h⟩
    refine g_goto C 16 dX1_part_8 (by decide) ?_
    refine g_sub [0] rfl ?_
    exact k_X1_part_16 C ret thr hk (i + m2) v5 w3 L4 hm2 h
def B_X1_part (Bk : Nat → (Option Nat → Wd → va_W → Prop) → (Wd → va_W → Prop) → Wd → va_W → Prop) (N : Nat) (x1 : Option Nat) (mc : Nat) (post : Option Nat → Wd → va_W → Prop) (postX : Wd → va_W → Prop) (w : Wd) (L : va_W) : Prop := B_X1_part_0 Bk N mc post postX 0 x1 w L
theorem m_X1_part {l : Launch} {K : gK} {N : Nat} {mc : Nat} {post : Option Nat → Wd → va_W → Prop} {postX : Wd → va_W → Prop} {d : Nat} {Bk : Nat → (Option Nat → Wd → va_W → Prop) → (Wd → va_W → Prop) → Wd → va_W → Prop} {x1 : Option Nat} {w : Wd} {L : va_W} (hk : ∀ {m0 : Nat} {p0 : Option Nat → Wd → va_W → Prop} {pX : Wd → va_W → Prop} {w0 : Wd} {L0 : va_W}, Bk m0 p0 pX w0 L0 → gXq l K yX1_unit cX1_unit 3 (some (.object "OneBears$Test")) (rm_X1_unit d m0) [.ref (xa K 0)] (xL K w0 ++ L0) (xPq K p0) (xPv K pX) m0) (h : B_X1_part Bk N x1 mc post postX w L) : gXq l K yX1_part cX1_part 4 (some (.object "OneBears$Test")) (rm_X1_part d mc) [.ref (xa K 0), va_rf x1] (xL K w ++ L) (xPq K post) (xPv K postX) mc := by
  refine g_inXQ (ls0 := [(0, .ref (xa K 0)), (1, va_rf x1)]) (by decide) (by cases x1 <;> exact Nat.le_of_ble_eq_true rfl) (by cases x1 <;> rfl) rfl rfl (fun Γ hl C hn ret thr => ?_)
  subst hl
  exact k_X1_part_0 C ret thr hk 0 x1 w L (Nat.zero_le _) h
def B_X1_condition_41 (Bk : Nat → (Option Nat → Wd → va_W → Prop) → (Wd → va_W → Prop) → Wd → va_W → Prop) (r8 : Nat → Option Nat → Option Nat → Wd → va_W → Prop) (N : Nat) (mc : Nat) (post : Option Nat → Wd → va_W → Prop) (postX : Wd → va_W → Prop) (i : Nat) (x2 : Option Nat) (x3 : Option Nat) (w : Wd) (L : va_W) : Prop :=
  ∃ m1 : Nat, i + m1 ≤ mc ∧ B_X1_part Bk N none m1 (fun (v4 : Option Nat) (w2 : Wd) (L3 : va_W) =>
  ∃ y5 : Nat, x3 = some y5 ∧ ∃ (k5 : Nat) (f5 : List Value), L3[k5]? = some (y5, .inr (10, f5)) ∧ B_X15_add N y5 v4 (fun (w6 : Wd) (L7 : va_W) =>
  r8 (i + m1) x2 x3 w6 L7) w2 L3) postX w L
set_option maxHeartbeats 4000000 in
theorem k_X1_condition_41 {Γ : gT} {K : gK} {N : Nat} {mc : Nat} {post : Option Nat → Wd → va_W → Prop} {postX : Wd → va_W → Prop} {d : Nat} {Bk : Nat → (Option Nat → Wd → va_W → Prop) → (Wd → va_W → Prop) → Wd → va_W → Prop} (C : gC Γ K RX1 cX1_condition 4 (rm_X1_condition d mc)) (ret : gXqR Γ K cX1_condition (some (.object "OneBears$Test")) (xPq K post) mc) (thr : gXT Γ K (xPv K postX) mc) (hk : ∀ {m0 : Nat} {p0 : Option Nat → Wd → va_W → Prop} {pX : Wd → va_W → Prop} {w0 : Wd} {L0 : va_W}, Bk m0 p0 pX w0 L0 → gXq Γ.l K yX1_unit cX1_unit 3 (some (.object "OneBears$Test")) (rm_X1_unit d m0) [.ref (xa K 0)] (xL K w0 ++ L0) (xPq K p0) (xPv K pX) m0) {r8 : Nat → Option Nat → Option Nat → Wd → va_W → Prop} (hr8 : ∀ (i : Nat) (x2 : Option Nat) (x3 : Option Nat) (w : Wd) (L : va_W) (hi : i ≤ mc), r8 i x2 x3 w L → gJ Γ K i (4 * i) (xL K w ++ L) 8 [(0, .ref (xa K 0)), (2, va_rf x2), (3, va_rf x3)] []) (i : Nat) (x2 : Option Nat) (x3 : Option Nat) (w : Wd) (L : va_W) (hi : i ≤ mc) (h : B_X1_condition_41 Bk r8 N mc post postX i x2 x3 w L) : gJ Γ K i (4 * i) (xL K w ++ L) 41 [(0, .ref (xa K 0)), (2, va_rf x2), (3, va_rf x3)] [] := by
  unfold B_X1_condition_41 at h
  refine g_aload_nq C 2 rfl dX1_condition_41 ?_
  refine g_aload_n C 0 rfl dX1_condition_42 ?_
  refine g_null C dX1_condition_43 ?_
  obtain ⟨m1, hm1, h⟩ := h
  refine g_callXVq C (As := [va_rf none]) (rest := [va_rf x3]) (m_X1_part hk h) (lw_V q579 q581 qs11 q78 q582) (ci := 0) (qi := 0) rfl rfl ⟨rfl, rfl⟩ (by dsimp only [rm_X1_condition, rm_X1_part]; omega) 1 rfl (by decide +kernel) rfl (by cases x3 <;> exact Nat.le_of_ble_eq_true rfl) ⟨rfl, rfl⟩ hm1 dX1_condition_44 (fun V9 q9 hx => thr _ _ _ _ _ q9 hm1 hx) ?_
  rintro v4 _ ⟨w2, L3, rfl, h⟩
  obtain ⟨y5, ey5, h⟩ := h
  refine g_stk (st' := [va_rf v4, .ref y5]) (by rw [ey5]; rfl) ?_
  obtain ⟨k5, f5, e5, h⟩ := h
  refine g_callVv C (As := [va_rf v4]) (rest := []) (m_X15_add h) (lw_V q641 q642 q643 q100 q644) (ci := 10) (qi := 31 + k5) rfl (x_at e5) ⟨rfl, rfl⟩ (by dsimp only [rm_X1_condition, rm_X15_add]; omega) 1 rfl (by decide +kernel) rfl (Nat.le_of_ble_eq_true rfl) ⟨hm1, Nat.mul_le_mul_left 4 hm1⟩ dX1_condition_47 ?_
  rintro _ ⟨w6, L7, rfl, h⟩
  refine g_goto C 8 dX1_condition_50 (by decide) ?_
  exact hr8 (i + m1) x2 x3 w6 L7 hm1 h
def B_X1_condition_62 (Bk : Nat → (Option Nat → Wd → va_W → Prop) → (Wd → va_W → Prop) → Wd → va_W → Prop) (N : Nat) (mc : Nat) (post : Option Nat → Wd → va_W → Prop) (postX : Wd → va_W → Prop) (i : Nat) (s0 : Option Nat) (w : Wd) (L : va_W) : Prop :=
  post s0 w L
set_option maxHeartbeats 4000000 in
theorem k_X1_condition_62 {Γ : gT} {K : gK} {N : Nat} {mc : Nat} {post : Option Nat → Wd → va_W → Prop} {postX : Wd → va_W → Prop} {d : Nat} {Bk : Nat → (Option Nat → Wd → va_W → Prop) → (Wd → va_W → Prop) → Wd → va_W → Prop} (C : gC Γ K RX1 cX1_condition 4 (rm_X1_condition d mc)) (ret : gXqR Γ K cX1_condition (some (.object "OneBears$Test")) (xPq K post) mc) (thr : gXT Γ K (xPv K postX) mc) (hk : ∀ {m0 : Nat} {p0 : Option Nat → Wd → va_W → Prop} {pX : Wd → va_W → Prop} {w0 : Wd} {L0 : va_W}, Bk m0 p0 pX w0 L0 → gXq Γ.l K yX1_unit cX1_unit 3 (some (.object "OneBears$Test")) (rm_X1_unit d m0) [.ref (xa K 0)] (xL K w0 ++ L0) (xPq K p0) (xPv K pX) m0) (i : Nat) (s0 : Option Nat) (w : Wd) (L : va_W) (hi : i ≤ mc) (h : B_X1_condition_62 Bk N mc post postX i s0 w L) : gJ Γ K i (4 * i) (xL K w ++ L) 62 [] [va_rf s0] := by
  unfold B_X1_condition_62 at h
  exact ret _ s0 _ _ _ _ hi rfl dX1_condition_62 ⟨_, _, rfl, h⟩
def B_X1_condition_8s (Bk : Nat → (Option Nat → Wd → va_W → Prop) → (Wd → va_W → Prop) → Wd → va_W → Prop) (r8 : Nat → Option Nat → Option Nat → Wd → va_W → Prop) (N : Nat) (mc : Nat) (post : Option Nat → Wd → va_W → Prop) (postX : Wd → va_W → Prop) (i : Nat) (x2 : Option Nat) (x3 : Option Nat) (w : Wd) (L : va_W) : Prop :=
  B_X1_look N (fun (v3 : Int32) (w1 : Wd) (L2 : va_W) =>
  (v3 = (124 : Int32) →
    ∀ w5 : Wd, w5 = (xsi w1 1 ((xi w1 1) + 1)) → (x3 = none →
      i + 1 ≤ mc ∧ ∀ q7 : Nat, ∀ L8 : va_W, L8 = L2 ++ [(q7, .inr (10, [va_rf none, .int 0, va_rf none, va_rf none]))] → B_X15_init N q7 0 x2 (fun (w10 : Wd) (L11 : va_W) =>
  B_X1_condition_41 Bk r8 N mc post postX (i + 1) x2 (some q7) w10 L11) w5 L8) ∧
    (∀ y6 : Nat, x3 = some y6 →
      B_X1_condition_41 Bk r8 N mc post postX i x2 x3 w5 L2)) ∧
  (¬ v3 = (124 : Int32) →
    (x3 = none →
      B_X1_condition_62 Bk N mc post postX i x2 w1 L2) ∧
    (∀ y4 : Nat, x3 = some y4 →
      B_X1_condition_62 Bk N mc post postX i x3 w1 L2))) w L
def B_X1_condition_8 (Bk : Nat → (Option Nat → Wd → va_W → Prop) → (Wd → va_W → Prop) → Wd → va_W → Prop) (N : Nat) (mc : Nat) (post : Option Nat → Wd → va_W → Prop) (postX : Wd → va_W → Prop) : Nat → Nat → Option Nat → Option Nat → Wd → va_W → Prop
  | 0, _, _, _, _, _ => False
  | n + 1, i, x2, x3, w, L => B_X1_condition_8s Bk (B_X1_condition_8 Bk N mc post postX n) N mc post postX i x2 x3 w L
set_option maxHeartbeats 4000000 in
theorem k_X1_condition_8s {Γ : gT} {K : gK} {N : Nat} {mc : Nat} {post : Option Nat → Wd → va_W → Prop} {postX : Wd → va_W → Prop} {d : Nat} {Bk : Nat → (Option Nat → Wd → va_W → Prop) → (Wd → va_W → Prop) → Wd → va_W → Prop} (C : gC Γ K RX1 cX1_condition 4 (rm_X1_condition d mc)) (ret : gXqR Γ K cX1_condition (some (.object "OneBears$Test")) (xPq K post) mc) (thr : gXT Γ K (xPv K postX) mc) (hk : ∀ {m0 : Nat} {p0 : Option Nat → Wd → va_W → Prop} {pX : Wd → va_W → Prop} {w0 : Wd} {L0 : va_W}, Bk m0 p0 pX w0 L0 → gXq Γ.l K yX1_unit cX1_unit 3 (some (.object "OneBears$Test")) (rm_X1_unit d m0) [.ref (xa K 0)] (xL K w0 ++ L0) (xPq K p0) (xPv K pX) m0) {r8 : Nat → Option Nat → Option Nat → Wd → va_W → Prop} (hr8 : ∀ (i : Nat) (x2 : Option Nat) (x3 : Option Nat) (w : Wd) (L : va_W) (hi : i ≤ mc), r8 i x2 x3 w L → gJ Γ K i (4 * i) (xL K w ++ L) 8 [(0, .ref (xa K 0)), (2, va_rf x2), (3, va_rf x3)] []) (i : Nat) (x2 : Option Nat) (x3 : Option Nat) (w : Wd) (L : va_W) (hi : i ≤ mc) (h : B_X1_condition_8s Bk r8 N mc post postX i x2 x3 w L) : gJ Γ K i (4 * i) (xL K w ++ L) 8 [(0, .ref (xa K 0)), (2, va_rf x2), (3, va_rf x3)] [] := by
  unfold B_X1_condition_8s at h
  refine g_aload_n C 0 rfl dX1_condition_8 ?_
  refine g_callVi C (As := []) (rest := []) (m_X1_look h) (lw_V q373 q375 qs3 q78 q376) (ci := 0) (qi := 0) rfl rfl ⟨rfl, rfl⟩ (by dsimp only [rm_X1_condition, rm_X1_look]; omega) 0 rfl (by decide +kernel) rfl (Nat.le_of_ble_eq_true rfl) ⟨hi, Nat.mul_le_mul_left 4 hi⟩ dX1_condition_9 ?_
  rintro v3 _ ⟨w1, L2, rfl, h⟩
  refine g_bipush C 124 (by decide) dX1_condition_12 ?_
  refine g_icmp_ne C 53 dX1_condition_14 (by decide) (fun hc => ?_) (fun hc => ?_)
  · replace h := h.2 hc
    refine g_aload_nq C 2 rfl dX1_condition_53 ?_
    refine g_ifnonnull C 61 dX1_condition_54 (by decide) (fun y4 hc => ?_) (fun hc => ?_)
    · replace h := h.2 y4 hc
      refine g_aload_nq C 2 rfl dX1_condition_61 ?_
      refine g_sub [] rfl ?_
      exact k_X1_condition_62 C ret thr hk i x3 w1 L2 hi h
    · replace h := h.1 hc
      refine g_aload_nq C 1 rfl dX1_condition_57 ?_
      refine g_goto C 62 dX1_condition_58 (by decide) ?_
      refine g_sub [] rfl ?_
      exact k_X1_condition_62 C ret thr hk i x2 w1 L2 hi h
  · replace h := h.1 hc
    refine g_aload_n C 0 rfl dX1_condition_17 ?_
    refine g_dup C rfl dX1_condition_18 ?_
    refine xg_place C q273 (xi w1 1) rfl dX1_condition_19 ?_
    refine g_iconst C 1 (by decide) dX1_condition_22 ?_
    refine g_iadd C dX1_condition_23 ?_
    refine xp_place C q273 dX1_condition_24 ?_
    refine g_aload_nq C 2 rfl dX1_condition_27 ?_
    obtain ⟨w5, ew5⟩ : ∃ z, z = (xsi w1 1 ((xi w1 1) + 1)) := ⟨_, rfl⟩
    replace h := h w5 ew5
    rw [← ew5]
    refine g_ifnonnull C 41 dX1_condition_28 (by decide) (fun y6 hc => ?_) (fun hc => ?_)
    · replace h := h.2 y6 hc
      exact k_X1_condition_41 C ret thr hk hr8 i x2 x3 w5 L2 hi h
    · replace h := h.1 hc
      obtain ⟨hq7, h⟩ := h
      refine g_new C (ci := 10) (fs := [va_rf none, .int 0, va_rf none, va_rf none]) tyX15 tyX15_ok rfl in_X15 q624 q625 q100 (by decide) (by decide) ⟨rfl, rfl⟩ hq7 dX1_condition_31 (fun q7 => ?_)
      replace h := h q7
      obtain ⟨L8, eL8⟩ : ∃ z, z = L2 ++ [(q7, .inr (10, [va_rf none, .int 0, va_rf none, va_rf none]))] := ⟨_, rfl⟩
      replace h := h L8 eL8
      rw [List.append_assoc, ← eL8]
      refine g_dup C rfl dX1_condition_34 ?_
      refine g_iconst C 0 (by decide) dX1_condition_35 ?_
      refine g_aload_nq C 1 rfl dX1_condition_36 ?_
      refine g_callI C (As := [.int 0, va_rf x2]) (rest := [.ref q7]) (m_X15_init h) q626 (lw_meth q628) q100 q627 rfl ⟨rfl, rfl⟩ (by dsimp only [rm_X1_condition, rm_X15_init]; omega) 2 rfl (by decide +kernel) rfl (Nat.le_of_ble_eq_true rfl) ⟨hq7, Nat.mul_le_mul_left 4 hq7⟩ dX1_condition_37 ?_
      rintro _ ⟨w10, L11, rfl, h⟩
      refine g_astore_n C rfl (lt := [(3, .ref q7), (0, .ref (xa K 0)), (2, va_rf x2)]) dX1_condition_40 (by decide) (by generalize x2 = zq; cases zq <;> rfl) ?_
      refine g_sub [1, 2, 0] rfl ?_
      exact k_X1_condition_41 C ret thr hk hr8 (i + 1) x2 (some q7) w10 L11 hq7 h
theorem k_X1_condition_8 {Γ : gT} {K : gK} {N : Nat} {mc : Nat} {post : Option Nat → Wd → va_W → Prop} {postX : Wd → va_W → Prop} {d : Nat} {Bk : Nat → (Option Nat → Wd → va_W → Prop) → (Wd → va_W → Prop) → Wd → va_W → Prop} (C : gC Γ K RX1 cX1_condition 4 (rm_X1_condition d mc)) (ret : gXqR Γ K cX1_condition (some (.object "OneBears$Test")) (xPq K post) mc) (thr : gXT Γ K (xPv K postX) mc) (hk : ∀ {m0 : Nat} {p0 : Option Nat → Wd → va_W → Prop} {pX : Wd → va_W → Prop} {w0 : Wd} {L0 : va_W}, Bk m0 p0 pX w0 L0 → gXq Γ.l K yX1_unit cX1_unit 3 (some (.object "OneBears$Test")) (rm_X1_unit d m0) [.ref (xa K 0)] (xL K w0 ++ L0) (xPq K p0) (xPv K pX) m0) : ∀ (n : Nat) (i : Nat) (x2 : Option Nat) (x3 : Option Nat) (w : Wd) (L : va_W) (hi : i ≤ mc) (h : B_X1_condition_8 Bk N mc post postX n i x2 x3 w L), gJ Γ K i (4 * i) (xL K w ++ L) 8 [(0, .ref (xa K 0)), (2, va_rf x2), (3, va_rf x3)] [] := by
  intro n
  induction n with
  | zero => intro i x2 x3 w L hi h; exact h.elim
  | succ n ih => intro i x2 x3 w L hi h; exact k_X1_condition_8s C ret thr hk ih i x2 x3 w L hi h
def B_X1_condition_0 (Bk : Nat → (Option Nat → Wd → va_W → Prop) → (Wd → va_W → Prop) → Wd → va_W → Prop) (N : Nat) (mc : Nat) (post : Option Nat → Wd → va_W → Prop) (postX : Wd → va_W → Prop) (i : Nat) (x1 : Option Nat) (w : Wd) (L : va_W) : Prop :=
  ∃ m1 : Nat, i + m1 ≤ mc ∧ B_X1_part Bk N x1 m1 (fun (v4 : Option Nat) (w2 : Wd) (L3 : va_W) =>
  B_X1_condition_8 Bk N mc post postX N (i + m1) v4 none w2 L3) postX w L
set_option maxHeartbeats 4000000 in
theorem k_X1_condition_0 {Γ : gT} {K : gK} {N : Nat} {mc : Nat} {post : Option Nat → Wd → va_W → Prop} {postX : Wd → va_W → Prop} {d : Nat} {Bk : Nat → (Option Nat → Wd → va_W → Prop) → (Wd → va_W → Prop) → Wd → va_W → Prop} (C : gC Γ K RX1 cX1_condition 4 (rm_X1_condition d mc)) (ret : gXqR Γ K cX1_condition (some (.object "OneBears$Test")) (xPq K post) mc) (thr : gXT Γ K (xPv K postX) mc) (hk : ∀ {m0 : Nat} {p0 : Option Nat → Wd → va_W → Prop} {pX : Wd → va_W → Prop} {w0 : Wd} {L0 : va_W}, Bk m0 p0 pX w0 L0 → gXq Γ.l K yX1_unit cX1_unit 3 (some (.object "OneBears$Test")) (rm_X1_unit d m0) [.ref (xa K 0)] (xL K w0 ++ L0) (xPq K p0) (xPv K pX) m0) (i : Nat) (x1 : Option Nat) (w : Wd) (L : va_W) (hi : i ≤ mc) (h : B_X1_condition_0 Bk N mc post postX i x1 w L) : gJ Γ K i (4 * i) (xL K w ++ L) 0 [(0, .ref (xa K 0)), (1, va_rf x1)] [] := by
  unfold B_X1_condition_0 at h
  refine g_aload_n C 0 rfl dX1_condition_0 ?_
  refine g_aload_nq C 1 rfl dX1_condition_1 ?_
  obtain ⟨m1, hm1, h⟩ := h
  refine g_callXVq C (As := [va_rf x1]) (rest := []) (m_X1_part hk h) (lw_V q579 q581 qs11 q78 q582) (ci := 0) (qi := 0) rfl rfl ⟨rfl, rfl⟩ (by dsimp only [rm_X1_condition, rm_X1_part]; omega) 1 rfl (by decide +kernel) rfl (Nat.le_of_ble_eq_true rfl) ⟨rfl, rfl⟩ hm1 dX1_condition_2 (fun V9 q9 hx => thr _ _ _ _ _ q9 hm1 hx) ?_
  rintro v4 _ ⟨w2, L3, rfl, h⟩
  refine g_astore_nq C rfl (lt := [(2, va_rf v4), (0, .ref (xa K 0)), (1, va_rf x1)]) dX1_condition_5 (by decide) (by generalize x1 = zq; cases zq <;> rfl) ?_
  refine g_null C dX1_condition_6 ?_
  refine g_astore_nN C rfl (lt := [(3, .null), (2, va_rf v4), (0, .ref (xa K 0)), (1, va_rf x1)]) dX1_condition_7 (by decide) (by generalize v4 = zq; cases zq <;> rfl) ?_
  refine g_sub [2, 1, 0] rfl ?_
  exact k_X1_condition_8 C ret thr hk N (i + m1) v4 none w2 L3 hm1 h
def B_X1_condition (Bk : Nat → (Option Nat → Wd → va_W → Prop) → (Wd → va_W → Prop) → Wd → va_W → Prop) (N : Nat) (x1 : Option Nat) (mc : Nat) (post : Option Nat → Wd → va_W → Prop) (postX : Wd → va_W → Prop) (w : Wd) (L : va_W) : Prop := B_X1_condition_0 Bk N mc post postX 0 x1 w L
theorem m_X1_condition {l : Launch} {K : gK} {N : Nat} {mc : Nat} {post : Option Nat → Wd → va_W → Prop} {postX : Wd → va_W → Prop} {d : Nat} {Bk : Nat → (Option Nat → Wd → va_W → Prop) → (Wd → va_W → Prop) → Wd → va_W → Prop} {x1 : Option Nat} {w : Wd} {L : va_W} (hk : ∀ {m0 : Nat} {p0 : Option Nat → Wd → va_W → Prop} {pX : Wd → va_W → Prop} {w0 : Wd} {L0 : va_W}, Bk m0 p0 pX w0 L0 → gXq l K yX1_unit cX1_unit 3 (some (.object "OneBears$Test")) (rm_X1_unit d m0) [.ref (xa K 0)] (xL K w0 ++ L0) (xPq K p0) (xPv K pX) m0) (h : B_X1_condition Bk N x1 mc post postX w L) : gXq l K yX1_condition cX1_condition 4 (some (.object "OneBears$Test")) (rm_X1_condition d mc) [.ref (xa K 0), va_rf x1] (xL K w ++ L) (xPq K post) (xPv K postX) mc := by
  refine g_inXQ (ls0 := [(0, .ref (xa K 0)), (1, va_rf x1)]) (by decide) (by cases x1 <;> exact Nat.le_of_ble_eq_true rfl) (by cases x1 <;> rfl) rfl rfl (fun Γ hl C hn ret thr => ?_)
  subst hl
  exact k_X1_condition_0 C ret thr hk 0 x1 w L (Nat.zero_le _) h
def B_X1_unit_0 (Bk : Nat → (Option Nat → Wd → va_W → Prop) → (Wd → va_W → Prop) → Wd → va_W → Prop) (N : Nat) (mc : Nat) (post : Option Nat → Wd → va_W → Prop) (postX : Wd → va_W → Prop) (i : Nat) (w : Wd) (L : va_W) : Prop :=
  B_X1_look N (fun (v3 : Int32) (w1 : Wd) (L2 : va_W) =>
  (v3 = (33 : Int32) →
    B_X1_opens N 0 (fun (w20 : Wd) (L21 : va_W) =>
  ∃ m22 : Nat, i + m22 ≤ mc ∧ Bk m22 (fun (v25 : Option Nat) (w23 : Wd) (L24 : va_W) =>
  (i + m22) + 1 ≤ mc ∧ ∀ q26 : Nat, ∀ L27 : va_W, L27 = L24 ++ [(q26, .inr (9, [va_rf none, va_rf none]))] → B_X13_init N q26 v25 (fun (w29 : Wd) (L30 : va_W) =>
  post (some q26) w29 L30) (xsi w23 2 ((xi w23 2) - 1)) L27) postX w20 L21) postX w1 L2) ∧
  (¬ v3 = (33 : Int32) →
    (v3 = (40 : Int32) →
      B_X1_opens N 0 (fun (w12 : Wd) (L13 : va_W) =>
  ∃ m14 : Nat, i + m14 ≤ mc ∧ B_X1_condition Bk N none m14 (fun (v17 : Option Nat) (w15 : Wd) (L16 : va_W) =>
  B_X1_closes N 41 0 (fun (w18 : Wd) (L19 : va_W) =>
  post v17 w18 L19) postX w15 L16) postX w12 L13) postX w1 L2) ∧
    (¬ v3 = (40 : Int32) →
      ∃ m4 : Nat, i + m4 ≤ mc ∧ B_X1_sum N m4 (fun (v7 : Option Nat) (w5 : Wd) (L6 : va_W) =>
  ∃ m8 : Nat, (i + m4) + m8 ≤ mc ∧ B_X1_compare N v7 m8 (fun (v11 : Option Nat) (w9 : Wd) (L10 : va_W) =>
  post v11 w9 L10) postX w5 L6) postX w1 L2))) w L
set_option maxHeartbeats 4000000 in
theorem k_X1_unit_0 {Γ : gT} {K : gK} {N : Nat} {mc : Nat} {post : Option Nat → Wd → va_W → Prop} {postX : Wd → va_W → Prop} {d : Nat} {Bk : Nat → (Option Nat → Wd → va_W → Prop) → (Wd → va_W → Prop) → Wd → va_W → Prop} (C : gC Γ K RX1 cX1_unit 3 (rm_X1_unit (d + 1) mc)) (ret : gXqR Γ K cX1_unit (some (.object "OneBears$Test")) (xPq K post) mc) (thr : gXT Γ K (xPv K postX) mc) (hk : ∀ {m0 : Nat} {p0 : Option Nat → Wd → va_W → Prop} {pX : Wd → va_W → Prop} {w0 : Wd} {L0 : va_W}, Bk m0 p0 pX w0 L0 → gXq Γ.l K yX1_unit cX1_unit 3 (some (.object "OneBears$Test")) (rm_X1_unit d m0) [.ref (xa K 0)] (xL K w0 ++ L0) (xPq K p0) (xPv K pX) m0) (i : Nat) (w : Wd) (L : va_W) (hi : i ≤ mc) (h : B_X1_unit_0 Bk N mc post postX i w L) : gJ Γ K i (4 * i) (xL K w ++ L) 0 [(0, .ref (xa K 0))] [] := by
  unfold B_X1_unit_0 at h
  refine g_aload_n C 0 rfl dX1_unit_0 ?_
  refine g_callVi C (As := []) (rest := []) (m_X1_look h) (lw_V q373 q375 qs3 q78 q376) (ci := 0) (qi := 0) rfl rfl ⟨rfl, rfl⟩ (by dsimp only [rm_X1_unit, rm_X1_look]; omega) 0 rfl (by decide +kernel) rfl (Nat.le_of_ble_eq_true rfl) ⟨hi, Nat.mul_le_mul_left 4 hi⟩ dX1_unit_1 ?_
  rintro v3 _ ⟨w1, L2, rfl, h⟩
  refine g_istore_n C rfl (lt := [(1, .int v3), (0, .ref (xa K 0))]) dX1_unit_4 (by decide) rfl ?_
  refine g_iload_n C 0 rfl dX1_unit_5 ?_
  refine g_bipush C 33 (by decide) dX1_unit_6 ?_
  refine g_icmp_ne C 39 dX1_unit_8 (by decide) (fun hc => ?_) (fun hc => ?_)
  · replace h := h.2 hc
    refine g_iload_n C 0 rfl dX1_unit_39 ?_
    refine g_bipush C 40 (by decide) dX1_unit_40 ?_
    refine g_icmp_ne C 63 dX1_unit_42 (by decide) (fun hc => ?_) (fun hc => ?_)
    · replace h := h.2 hc
      refine g_aload_n C 1 rfl dX1_unit_63 ?_
      refine g_aload_n C 1 rfl dX1_unit_64 ?_
      obtain ⟨m4, hm4, h⟩ := h
      refine g_callXVq C (As := []) (rest := [.ref (xa K 0)]) (m_X1_sum h) (lw_V q468 q470 qs5 q78 q471) (ci := 0) (qi := 0) rfl rfl ⟨rfl, rfl⟩ (by dsimp only [rm_X1_unit, rm_X1_sum]; omega) 0 rfl (by decide +kernel) rfl (Nat.le_of_ble_eq_true rfl) ⟨rfl, rfl⟩ hm4 dX1_unit_65 (fun V9 q9 hx => thr _ _ _ _ _ q9 hm4 hx) ?_
      rintro v7 _ ⟨w5, L6, rfl, h⟩
      obtain ⟨m8, hm8, h⟩ := h
      refine g_callXVq C (As := [va_rf v7]) (rest := []) (m_X1_compare h) (lw_V q603 q605 qs13 q78 q606) (ci := 0) (qi := 0) rfl rfl ⟨rfl, rfl⟩ (by dsimp only [rm_X1_unit, rm_X1_compare]; omega) 1 rfl (by decide +kernel) rfl (Nat.le_of_ble_eq_true rfl) ⟨rfl, rfl⟩ hm8 dX1_unit_68 (fun V9 q9 hx => thr _ _ _ _ _ q9 hm8 hx) ?_
      rintro v11 _ ⟨w9, L10, rfl, h⟩
      exact ret _ v11 _ _ _ _ hm8 rfl dX1_unit_71 ⟨_, _, rfl, h⟩
    · replace h := h.1 hc
      refine g_aload_n C 1 rfl dX1_unit_45 ?_
      refine g_callXVv C (As := []) (rest := []) (m_X1_opens h) (lw_V q480 q482 qs8 q78 q483) (ci := 0) (qi := 0) rfl rfl ⟨rfl, rfl⟩ (by dsimp only [rm_X1_unit, rm_X1_opens]; omega) 0 rfl (by decide +kernel) rfl (Nat.le_of_ble_eq_true rfl) ⟨rfl, rfl⟩ hi dX1_unit_46 (fun V9 q9 hx => thr _ _ _ _ _ q9 hi hx) ?_
      rintro _ ⟨w12, L13, rfl, h⟩
      refine g_aload_n C 1 rfl dX1_unit_49 ?_
      refine g_null C dX1_unit_50 ?_
      obtain ⟨m14, hm14, h⟩ := h
      refine g_callXVq C (As := [va_rf none]) (rest := []) (m_X1_condition hk h) (lw_V q575 q577 qs10 q78 q578) (ci := 0) (qi := 0) rfl rfl ⟨rfl, rfl⟩ (by dsimp only [rm_X1_unit, rm_X1_condition]; omega) 1 rfl (by decide +kernel) rfl (Nat.le_of_ble_eq_true rfl) ⟨rfl, rfl⟩ hm14 dX1_unit_51 (fun V9 q9 hx => thr _ _ _ _ _ q9 hm14 hx) ?_
      rintro v17 _ ⟨w15, L16, rfl, h⟩
      refine g_astore_nq C rfl (lt := [(2, va_rf v17), (1, .int v3), (0, .ref (xa K 0))]) dX1_unit_54 (by decide) rfl ?_
      refine g_aload_n C 2 rfl dX1_unit_55 ?_
      refine g_bipush C 41 (by decide) dX1_unit_56 ?_
      refine g_callXVv C (As := [.int 41]) (rest := []) (m_X1_closes h) (lw_V q484 q486 qs9 q78 q487) (ci := 0) (qi := 0) rfl rfl ⟨rfl, rfl⟩ (by dsimp only [rm_X1_unit, rm_X1_closes]; omega) 1 rfl (by decide +kernel) rfl (Nat.le_of_ble_eq_true rfl) ⟨rfl, rfl⟩ hm14 dX1_unit_58 (fun V9 q9 hx => thr _ _ _ _ _ q9 hm14 hx) ?_
      rintro _ ⟨w18, L19, rfl, h⟩
      refine g_aload_nq C 0 rfl dX1_unit_61 ?_
      exact ret _ v17 _ _ _ _ hm14 rfl dX1_unit_62 ⟨_, _, rfl, h⟩
  · replace h := h.1 hc
    refine g_aload_n C 1 rfl dX1_unit_11 ?_
    refine g_callXVv C (As := []) (rest := []) (m_X1_opens h) (lw_V q480 q482 qs8 q78 q483) (ci := 0) (qi := 0) rfl rfl ⟨rfl, rfl⟩ (by dsimp only [rm_X1_unit, rm_X1_opens]; omega) 0 rfl (by decide +kernel) rfl (Nat.le_of_ble_eq_true rfl) ⟨rfl, rfl⟩ hi dX1_unit_12 (fun V9 q9 hx => thr _ _ _ _ _ q9 hi hx) ?_
    rintro _ ⟨w20, L21, rfl, h⟩
    refine g_aload_n C 1 rfl dX1_unit_15 ?_
    obtain ⟨m22, hm22, h⟩ := h
    refine g_callXVq C (As := []) (rest := []) (hk h) (lw_V q583 q585 qs12 q78 q586) (ci := 0) (qi := 0) rfl rfl ⟨rfl, rfl⟩ (by dsimp only [rm_X1_unit, rm_X1_unit]; omega) 0 rfl (by decide +kernel) rfl (Nat.le_of_ble_eq_true rfl) ⟨rfl, rfl⟩ hm22 dX1_unit_16 (fun V9 q9 hx => thr _ _ _ _ _ q9 hm22 hx) ?_
    rintro v25 _ ⟨w23, L24, rfl, h⟩
    refine g_astore_nq C rfl (lt := [(2, va_rf v25), (1, .int v3), (0, .ref (xa K 0))]) dX1_unit_19 (by decide) rfl ?_
    refine g_aload_n C 2 rfl dX1_unit_20 ?_
    refine g_dup C rfl dX1_unit_21 ?_
    refine xg_deep C q274 (xi w23 2) rfl dX1_unit_22 ?_
    refine g_iconst C 1 (by decide) dX1_unit_25 ?_
    refine g_isub C dX1_unit_26 ?_
    refine xp_deep C q274 dX1_unit_27 ?_
    obtain ⟨hq26, h⟩ := h
    refine g_new C (ci := 9) (fs := [va_rf none, va_rf none]) tyX13 tyX13_ok rfl in_X13 q587 q588 q98 (by decide) (by decide) ⟨rfl, rfl⟩ hq26 dX1_unit_30 (fun q26 => ?_)
    replace h := h q26
    obtain ⟨L27, eL27⟩ : ∃ z, z = L24 ++ [(q26, .inr (9, [va_rf none, va_rf none]))] := ⟨_, rfl⟩
    replace h := h L27 eL27
    rw [List.append_assoc, ← eL27]
    refine g_dup C rfl dX1_unit_33 ?_
    refine g_aload_nq C 0 rfl dX1_unit_34 ?_
    refine g_callI C (As := [va_rf v25]) (rest := [.ref q26]) (m_X13_init h) q589 (lw_meth q591) q98 q590 rfl ⟨rfl, rfl⟩ (by dsimp only [rm_X1_unit, rm_X13_init]; omega) 1 rfl (by decide +kernel) rfl (Nat.le_of_ble_eq_true rfl) ⟨hq26, Nat.mul_le_mul_left 4 hq26⟩ dX1_unit_35 ?_
    rintro _ ⟨w29, L30, rfl, h⟩
    exact ret _ (some q26) _ _ _ _ hq26 rfl dX1_unit_38 ⟨_, _, rfl, h⟩
def B_X1_unit1 (Bk : Nat → (Option Nat → Wd → va_W → Prop) → (Wd → va_W → Prop) → Wd → va_W → Prop) (N : Nat) (mc : Nat) (post : Option Nat → Wd → va_W → Prop) (postX : Wd → va_W → Prop) (w : Wd) (L : va_W) : Prop := B_X1_unit_0 Bk N mc post postX 0 w L
theorem m_X1_unit1 {l : Launch} {K : gK} {N : Nat} {mc : Nat} {post : Option Nat → Wd → va_W → Prop} {postX : Wd → va_W → Prop} {d : Nat} {Bk : Nat → (Option Nat → Wd → va_W → Prop) → (Wd → va_W → Prop) → Wd → va_W → Prop} {w : Wd} {L : va_W} (hk : ∀ {m0 : Nat} {p0 : Option Nat → Wd → va_W → Prop} {pX : Wd → va_W → Prop} {w0 : Wd} {L0 : va_W}, Bk m0 p0 pX w0 L0 → gXq l K yX1_unit cX1_unit 3 (some (.object "OneBears$Test")) (rm_X1_unit d m0) [.ref (xa K 0)] (xL K w0 ++ L0) (xPq K p0) (xPv K pX) m0) (h : B_X1_unit1 Bk N mc post postX w L) : gXq l K yX1_unit cX1_unit 3 (some (.object "OneBears$Test")) (rm_X1_unit (d + 1) mc) [.ref (xa K 0)] (xL K w ++ L) (xPq K post) (xPv K postX) mc := by
  refine g_inXQ (ls0 := [(0, .ref (xa K 0))]) (by decide) (Nat.le_of_ble_eq_true rfl) rfl rfl rfl (fun Γ hl C hn ret thr => ?_)
  subst hl
  exact k_X1_unit_0 C ret thr hk 0 w L (Nat.zero_le _) h
def B_X1_unitd (N : Nat) : Nat → Nat → (Option Nat → Wd → va_W → Prop) → (Wd → va_W → Prop) → Wd → va_W → Prop
  | 0, _, _, _, _, _ => False
  | d + 1, m0, p0, pX, w0, L0 => B_X1_unit1 (B_X1_unitd N d) N m0 p0 pX w0 L0
theorem m_X1_unitd {l : Launch} {K : gK} {N : Nat} : ∀ (d : Nat) {m0 : Nat} {p0 : Option Nat → Wd → va_W → Prop} {pX : Wd → va_W → Prop} {w0 : Wd} {L0 : va_W}, B_X1_unitd N d m0 p0 pX w0 L0 → gXq l K yX1_unit cX1_unit 3 (some (.object "OneBears$Test")) (rm_X1_unit d m0) [.ref (xa K 0)] (xL K w0 ++ L0) (xPq K p0) (xPv K pX) m0 := by
  intro d
  induction d with
  | zero => intro  m0 p0 pX w0 L0 h; exact h.elim
  | succ d ih => intro  m0 p0 pX w0 L0 h; exact m_X1_unit1 (d := d) (Bk := B_X1_unitd N d) (N := N) (mc := m0) (post := p0) (postX := pX) (w := w0) (L := L0) (hk := ih) h
def B_X1_unit (N : Nat) (m0 : Nat) (p0 : Option Nat → Wd → va_W → Prop) (pX : Wd → va_W → Prop) (w0 : Wd) (L0 : va_W) : Prop := B_X1_unitd N 8 m0 p0 pX w0 L0
theorem m_X1_unit {l : Launch} {K : gK} {N : Nat} {m0 : Nat} {p0 : Option Nat → Wd → va_W → Prop} {pX : Wd → va_W → Prop} {w0 : Wd} {L0 : va_W} (h : B_X1_unit N m0 p0 pX w0 L0) : gXq l K yX1_unit cX1_unit 3 (some (.object "OneBears$Test")) (rm_X1_unit 8 m0) [.ref (xa K 0)] (xL K w0 ++ L0) (xPq K p0) (xPv K pX) m0 := m_X1_unitd 8 h
def B_X1_part_out (N : Nat) (x1 : Option Nat) (m0 : Nat) (p0 : Option Nat → Wd → va_W → Prop) (pX : Wd → va_W → Prop) (w0 : Wd) (L0 : va_W) : Prop := B_X1_part (B_X1_unitd N 8) N x1 m0 p0 pX w0 L0
theorem m_X1_part_out {l : Launch} {K : gK} {N : Nat} {x1 : Option Nat} {m0 : Nat} {p0 : Option Nat → Wd → va_W → Prop} {pX : Wd → va_W → Prop} {w0 : Wd} {L0 : va_W} (h : B_X1_part_out N x1 m0 p0 pX w0 L0) : gXq l K yX1_part cX1_part 4 (some (.object "OneBears$Test")) (rm_X1_part 8 m0) [.ref (xa K 0), va_rf x1] (xL K w0 ++ L0) (xPq K p0) (xPv K pX) m0 := m_X1_part (d := 8) (hk := m_X1_unitd 8) h
def B_X1_condition_out (N : Nat) (x1 : Option Nat) (m0 : Nat) (p0 : Option Nat → Wd → va_W → Prop) (pX : Wd → va_W → Prop) (w0 : Wd) (L0 : va_W) : Prop := B_X1_condition (B_X1_unitd N 8) N x1 m0 p0 pX w0 L0
theorem m_X1_condition_out {l : Launch} {K : gK} {N : Nat} {x1 : Option Nat} {m0 : Nat} {p0 : Option Nat → Wd → va_W → Prop} {pX : Wd → va_W → Prop} {w0 : Wd} {L0 : va_W} (h : B_X1_condition_out N x1 m0 p0 pX w0 L0) : gXq l K yX1_condition cX1_condition 4 (some (.object "OneBears$Test")) (rm_X1_condition 8 m0) [.ref (xa K 0), va_rf x1] (xL K w0 ++ L0) (xPq K p0) (xPv K pX) m0 := m_X1_condition (d := 8) (hk := m_X1_unitd 8) h
def rm_X1_clause (mc : Nat) : Room := { frames := 57, cells := mc, slots := 4 * mc, locals := 1309 }
def B_X1_clause_138 (N : Nat) (mc : Nat) (post : Option Nat → Wd → va_W → Prop) (postX : Wd → va_W → Prop) (i : Nat) (x1 : Int32) (x4 : Option Nat) (s0 : Int32) (w : Wd) (L : va_W) : Prop :=
  B_X1_need N s0 0 (fun (w1 : Wd) (L2 : va_W) =>
  i + 1 ≤ mc ∧ ∀ q3 : Nat, ∀ L4 : va_W, L4 = L2 ++ [(q3, .inr (11, [.int 0, va_rf none, va_rf none, va_rf none]))] → ∃ m5 : Nat, (i + 1) + m5 ≤ mc ∧ B_X1_sum N m5 (fun (v8 : Option Nat) (w6 : Wd) (L7 : va_W) =>
  B_X11_init N q3 x1 x4 v8 (fun (w10 : Wd) (L11 : va_W) =>
  post (some q3) w10 L11) w6 L7) postX (xsi w1 1 ((xi w1 1) + 1)) L4) postX w L
set_option maxHeartbeats 4000000 in
theorem k_X1_clause_138 {Γ : gT} {K : gK} {N : Nat} {mc : Nat} {post : Option Nat → Wd → va_W → Prop} {postX : Wd → va_W → Prop} (C : gC Γ K RX1 cX1_clause 5 (rm_X1_clause mc)) (ret : gXqR Γ K cX1_clause (some (.object "OneBears$Clause")) (xPq K post) mc) (thr : gXT Γ K (xPv K postX) mc) (i : Nat) (x1 : Int32) (x4 : Option Nat) (s0 : Int32) (w : Wd) (L : va_W) (hi : i ≤ mc) (h : B_X1_clause_138 N mc post postX i x1 x4 s0 w L) : gJ Γ K i (4 * i) (xL K w ++ L) 138 [(0, .ref (xa K 0)), (1, .int x1), (4, va_rf x4)] [.int s0, .ref (xa K 0)] := by
  unfold B_X1_clause_138 at h
  refine g_callXVv C (As := [.int s0]) (rest := []) (m_X1_need h) (lw_V q464 q466 qs4 q78 q467) (ci := 0) (qi := 0) rfl rfl ⟨rfl, rfl⟩ ⟨Nat.le_of_ble_eq_true rfl, Nat.le_of_ble_eq_true rfl⟩ 1 rfl (by decide +kernel) rfl (Nat.le_of_ble_eq_true rfl) ⟨rfl, rfl⟩ hi dX1_clause_138 (fun V9 q9 hx => thr _ _ _ _ _ q9 hi hx) ?_
  rintro _ ⟨w1, L2, rfl, h⟩
  refine g_aload_n C 0 rfl dX1_clause_141 ?_
  refine g_dup C rfl dX1_clause_142 ?_
  refine xg_place C q273 (xi w1 1) rfl dX1_clause_143 ?_
  refine g_iconst C 1 (by decide) dX1_clause_146 ?_
  refine g_iadd C dX1_clause_147 ?_
  refine xp_place C q273 dX1_clause_148 ?_
  obtain ⟨hq3, h⟩ := h
  refine g_new C (ci := 11) (fs := [.int 0, va_rf none, va_rf none, va_rf none]) tyX11 tyX11_ok rfl in_X11 q168 q554 q96 (by decide) (by decide) ⟨rfl, rfl⟩ hq3 dX1_clause_151 (fun q3 => ?_)
  replace h := h q3
  obtain ⟨L4, eL4⟩ : ∃ z, z = L2 ++ [(q3, .inr (11, [.int 0, va_rf none, va_rf none, va_rf none]))] := ⟨_, rfl⟩
  replace h := h L4 eL4
  rw [List.append_assoc, ← eL4]
  refine g_dup C rfl dX1_clause_154 ?_
  refine g_iload_n C 1 rfl dX1_clause_155 ?_
  refine g_aloadq C 2 rfl dX1_clause_156 ?_
  refine g_aload_n C 0 rfl dX1_clause_158 ?_
  obtain ⟨m5, hm5, h⟩ := h
  refine g_callXVq C (As := []) (rest := [va_rf x4, .int x1, .ref q3, .ref q3]) (m_X1_sum h) (lw_V q468 q470 qs5 q78 q471) (ci := 0) (qi := 0) rfl rfl ⟨rfl, rfl⟩ ⟨Nat.le_of_ble_eq_true rfl, Nat.le_of_ble_eq_true rfl⟩ 0 rfl (by decide +kernel) rfl (by cases x4 <;> exact Nat.le_of_ble_eq_true rfl) ⟨rfl, rfl⟩ hm5 dX1_clause_159 (fun V9 q9 hx => thr _ _ _ _ _ q9 hm5 hx) ?_
  rintro v8 _ ⟨w6, L7, rfl, h⟩
  refine g_callI C (As := [.int x1, va_rf x4, va_rf v8]) (rest := [.ref q3]) (m_X11_init h) q555 (lw_meth q557) q96 q556 rfl ⟨rfl, rfl⟩ ⟨Nat.le_of_ble_eq_true rfl, Nat.le_of_ble_eq_true rfl⟩ 3 rfl (by decide +kernel) rfl (Nat.le_of_ble_eq_true rfl) ⟨hm5, Nat.mul_le_mul_left 4 hm5⟩ dX1_clause_162 ?_
  rintro _ ⟨w10, L11, rfl, h⟩
  exact ret _ (some q3) _ _ _ _ hm5 rfl dX1_clause_165 ⟨_, _, rfl, h⟩
def B_X1_clause_116 (N : Nat) (mc : Nat) (post : Option Nat → Wd → va_W → Prop) (postX : Wd → va_W → Prop) (i : Nat) (x1 : Int32) (x3 : Option Nat) (w : Wd) (L : va_W) : Prop :=
  ∃ m1 : Nat, i + m1 ≤ mc ∧ B_X1_condition_out N x3 m1 (fun (v4 : Option Nat) (w2 : Wd) (L3 : va_W) =>
  B_X1_look N (fun (v7 : Int32) (w5 : Wd) (L6 : va_W) =>
  (v7 = (63 : Int32) →
    B_X1_clause_138 N mc post postX (i + m1) x1 v4 1 w5 L6) ∧
  (¬ v7 = (63 : Int32) →
    B_X1_clause_138 N mc post postX (i + m1) x1 v4 0 w5 L6)) w2 L3) postX w L
set_option maxHeartbeats 4000000 in
theorem k_X1_clause_116 {Γ : gT} {K : gK} {N : Nat} {mc : Nat} {post : Option Nat → Wd → va_W → Prop} {postX : Wd → va_W → Prop} (C : gC Γ K RX1 cX1_clause 5 (rm_X1_clause mc)) (ret : gXqR Γ K cX1_clause (some (.object "OneBears$Clause")) (xPq K post) mc) (thr : gXT Γ K (xPv K postX) mc) (i : Nat) (x1 : Int32) (x3 : Option Nat) (w : Wd) (L : va_W) (hi : i ≤ mc) (h : B_X1_clause_116 N mc post postX i x1 x3 w L) : gJ Γ K i (4 * i) (xL K w ++ L) 116 [(0, .ref (xa K 0)), (1, .int x1), (3, va_rf x3)] [] := by
  unfold B_X1_clause_116 at h
  refine g_aload_n C 0 rfl dX1_clause_116 ?_
  refine g_aload_nq C 2 rfl dX1_clause_117 ?_
  obtain ⟨m1, hm1, h⟩ := h
  refine g_callXVq C (As := [va_rf x3]) (rest := []) (m_X1_condition_out h) (lw_V q575 q577 qs10 q78 q578) (ci := 0) (qi := 0) rfl rfl ⟨rfl, rfl⟩ ⟨Nat.le_of_ble_eq_true rfl, Nat.le_of_ble_eq_true rfl⟩ 1 rfl (by decide +kernel) rfl (Nat.le_of_ble_eq_true rfl) ⟨rfl, rfl⟩ hm1 dX1_clause_118 (fun V9 q9 hx => thr _ _ _ _ _ q9 hm1 hx) ?_
  rintro v4 _ ⟨w2, L3, rfl, h⟩
  refine g_astoreq C (lt := [(4, va_rf v4), (0, .ref (xa K 0)), (1, .int x1), (3, va_rf x3)]) dX1_clause_121 (by decide) (by generalize x3 = zq; cases zq <;> rfl) ?_
  refine g_aload_n C 1 rfl dX1_clause_123 ?_
  refine g_aload_n C 1 rfl dX1_clause_124 ?_
  refine g_callVi C (As := []) (rest := [.ref (xa K 0)]) (m_X1_look h) (lw_V q373 q375 qs3 q78 q376) (ci := 0) (qi := 0) rfl rfl ⟨rfl, rfl⟩ ⟨Nat.le_of_ble_eq_true rfl, Nat.le_of_ble_eq_true rfl⟩ 0 rfl (by decide +kernel) rfl (Nat.le_of_ble_eq_true rfl) ⟨hm1, Nat.mul_le_mul_left 4 hm1⟩ dX1_clause_125 ?_
  rintro v7 _ ⟨w5, L6, rfl, h⟩
  refine g_bipush C 63 (by decide) dX1_clause_128 ?_
  refine g_icmp_ne C 137 dX1_clause_130 (by decide) (fun hc => ?_) (fun hc => ?_)
  · replace h := h.2 hc
    refine g_iconst C 0 (by decide) dX1_clause_137 ?_
    refine g_sub [1, 2, 0] rfl ?_
    exact k_X1_clause_138 C ret thr (i + m1) x1 v4 0 w5 L6 hm1 h
  · replace h := h.1 hc
    refine g_iconst C 1 (by decide) dX1_clause_133 ?_
    refine g_goto C 138 dX1_clause_134 (by decide) ?_
    refine g_sub [1, 2, 0] rfl ?_
    exact k_X1_clause_138 C ret thr (i + m1) x1 v4 1 w5 L6 hm1 h
def B_X1_clause_90 (N : Nat) (mc : Nat) (post : Option Nat → Wd → va_W → Prop) (postX : Wd → va_W → Prop) (i : Nat) (x1 : Int32) (s0 : Option Nat) (w : Wd) (L : va_W) : Prop :=
  (s0 = none →
    B_X1_clause_116 N mc post postX i x1 s0 w L) ∧
  (∀ y1 : Nat, s0 = some y1 →
    B_X1_look N (fun (v4 : Int32) (w2 : Wd) (L3 : va_W) =>
  B_X1_isSign N v4 (fun (v7 : Int32) (w5 : Wd) (L6 : va_W) =>
  (v7 = 0 →
      i + 1 ≤ mc ∧ ∀ q8 : Nat, ∀ L9 : va_W, L9 = L6 ++ [(q8, .inr (11, [.int 0, va_rf none, va_rf none, va_rf none]))] → B_X11_init N q8 x1 none s0 (fun (w11 : Wd) (L12 : va_W) =>
  post (some q8) w11 L12) w5 L9) ∧
    (¬ v7 = 0 →
      B_X1_clause_116 N mc post postX i x1 s0 w5 L6)) w2 L3) w L)
set_option maxHeartbeats 4000000 in
theorem k_X1_clause_90 {Γ : gT} {K : gK} {N : Nat} {mc : Nat} {post : Option Nat → Wd → va_W → Prop} {postX : Wd → va_W → Prop} (C : gC Γ K RX1 cX1_clause 5 (rm_X1_clause mc)) (ret : gXqR Γ K cX1_clause (some (.object "OneBears$Clause")) (xPq K post) mc) (thr : gXT Γ K (xPv K postX) mc) (i : Nat) (x1 : Int32) (s0 : Option Nat) (w : Wd) (L : va_W) (hi : i ≤ mc) (h : B_X1_clause_90 N mc post postX i x1 s0 w L) : gJ Γ K i (4 * i) (xL K w ++ L) 90 [(0, .ref (xa K 0)), (1, .int x1)] [va_rf s0] := by
  unfold B_X1_clause_90 at h
  refine g_astore_nq C rfl (lt := [(3, va_rf s0), (0, .ref (xa K 0)), (1, .int x1)]) dX1_clause_90 (by decide) rfl ?_
  refine g_aload_nq C 0 rfl dX1_clause_91 ?_
  refine g_ifnull C 116 dX1_clause_92 (by decide) (fun hc => ?_) (fun y1 hc => ?_)
  · replace h := h.1 hc
    refine g_sub [1, 2, 0] rfl ?_
    exact k_X1_clause_116 C ret thr i x1 s0 w L hi h
  · replace h := h.2 y1 hc
    refine g_aload_n C 1 rfl dX1_clause_95 ?_
    refine g_callVi C (As := []) (rest := []) (m_X1_look h) (lw_V q373 q375 qs3 q78 q376) (ci := 0) (qi := 0) rfl rfl ⟨rfl, rfl⟩ ⟨Nat.le_of_ble_eq_true rfl, Nat.le_of_ble_eq_true rfl⟩ 0 rfl (by decide +kernel) rfl (Nat.le_of_ble_eq_true rfl) ⟨hi, Nat.mul_le_mul_left 4 hi⟩ dX1_clause_96 ?_
    rintro v4 _ ⟨w2, L3, rfl, h⟩
    refine g_callSi C (As := [.int v4]) (rest := []) (m_X1_isSign h) (Cn := "") (b := 0) (lw_S q551 q552 q78 q553) ⟨rfl, rfl⟩ ⟨Nat.le_of_ble_eq_true rfl, Nat.le_of_ble_eq_true rfl⟩ 1 rfl (by decide +kernel) rfl (Nat.le_of_ble_eq_true rfl) ⟨hi, Nat.mul_le_mul_left 4 hi⟩ dX1_clause_99 ?_
    rintro v7 _ ⟨w5, L6, rfl, h⟩
    refine g_if_ne C 116 dX1_clause_102 (by decide) (fun hc => ?_) (fun hc => ?_)
    · replace h := h.2 hc
      refine g_sub [1, 2, 0] rfl ?_
      exact k_X1_clause_116 C ret thr i x1 s0 w5 L6 hi h
    · replace h := h.1 hc
      obtain ⟨hq8, h⟩ := h
      refine g_new C (ci := 11) (fs := [.int 0, va_rf none, va_rf none, va_rf none]) tyX11 tyX11_ok rfl in_X11 q168 q554 q96 (by decide) (by decide) ⟨rfl, rfl⟩ hq8 dX1_clause_105 (fun q8 => ?_)
      replace h := h q8
      obtain ⟨L9, eL9⟩ : ∃ z, z = L6 ++ [(q8, .inr (11, [.int 0, va_rf none, va_rf none, va_rf none]))] := ⟨_, rfl⟩
      replace h := h L9 eL9
      rw [List.append_assoc, ← eL9]
      refine g_dup C rfl dX1_clause_108 ?_
      refine g_iload_n C 2 rfl dX1_clause_109 ?_
      refine g_null C dX1_clause_110 ?_
      refine g_aload_nq C 0 rfl dX1_clause_111 ?_
      refine g_callI C (As := [.int x1, va_rf none, va_rf s0]) (rest := [.ref q8]) (m_X11_init h) q555 (lw_meth q557) q96 q556 rfl ⟨rfl, rfl⟩ ⟨Nat.le_of_ble_eq_true rfl, Nat.le_of_ble_eq_true rfl⟩ 3 rfl (by decide +kernel) rfl (Nat.le_of_ble_eq_true rfl) ⟨hq8, Nat.mul_le_mul_left 4 hq8⟩ dX1_clause_112 ?_
      rintro _ ⟨w11, L12, rfl, h⟩
      exact ret _ (some q8) _ _ _ _ hq8 rfl dX1_clause_115 ⟨_, _, rfl, h⟩
def B_X1_clause_82 (N : Nat) (mc : Nat) (post : Option Nat → Wd → va_W → Prop) (postX : Wd → va_W → Prop) (i : Nat) (x1 : Int32) (w : Wd) (L : va_W) : Prop :=
  B_X1_clause_90 N mc post postX i x1 none w L
set_option maxHeartbeats 4000000 in
theorem k_X1_clause_82 {Γ : gT} {K : gK} {N : Nat} {mc : Nat} {post : Option Nat → Wd → va_W → Prop} {postX : Wd → va_W → Prop} (C : gC Γ K RX1 cX1_clause 5 (rm_X1_clause mc)) (ret : gXqR Γ K cX1_clause (some (.object "OneBears$Clause")) (xPq K post) mc) (thr : gXT Γ K (xPv K postX) mc) (i : Nat) (x1 : Int32) (w : Wd) (L : va_W) (hi : i ≤ mc) (h : B_X1_clause_82 N mc post postX i x1 w L) : gJ Γ K i (4 * i) (xL K w ++ L) 82 [(0, .ref (xa K 0)), (1, .int x1)] [] := by
  unfold B_X1_clause_82 at h
  refine g_null C dX1_clause_82 ?_
  refine g_goto C 90 dX1_clause_83 (by decide) ?_
  exact k_X1_clause_90 C ret thr i x1 none w L hi h
def B_X1_clause_52 (N : Nat) (mc : Nat) (post : Option Nat → Wd → va_W → Prop) (postX : Wd → va_W → Prop) (i : Nat) (x1 : Int32) (s0 : Int32) (w : Wd) (L : va_W) : Prop :=
  B_X1_need N s0 0 (fun (w1 : Wd) (L2 : va_W) =>
  B_X1_look N (fun (v5 : Int32) (w3 : Wd) (L4 : va_W) =>
  (v5 = (33 : Int32) →
    B_X1_clause_82 N mc post postX i x1 w3 L4) ∧
  (¬ v5 = (33 : Int32) →
    (v5 = (40 : Int32) →
      B_X1_clause_82 N mc post postX i x1 w3 L4) ∧
    (¬ v5 = (40 : Int32) →
      ∃ m6 : Nat, i + m6 ≤ mc ∧ B_X1_sum N m6 (fun (v9 : Option Nat) (w7 : Wd) (L8 : va_W) =>
  B_X1_clause_90 N mc post postX (i + m6) x1 v9 w7 L8) postX w3 L4))) (xsi w1 1 ((xi w1 1) + 1)) L2) postX w L
set_option maxHeartbeats 4000000 in
theorem k_X1_clause_52 {Γ : gT} {K : gK} {N : Nat} {mc : Nat} {post : Option Nat → Wd → va_W → Prop} {postX : Wd → va_W → Prop} (C : gC Γ K RX1 cX1_clause 5 (rm_X1_clause mc)) (ret : gXqR Γ K cX1_clause (some (.object "OneBears$Clause")) (xPq K post) mc) (thr : gXT Γ K (xPv K postX) mc) (i : Nat) (x1 : Int32) (s0 : Int32) (w : Wd) (L : va_W) (hi : i ≤ mc) (h : B_X1_clause_52 N mc post postX i x1 s0 w L) : gJ Γ K i (4 * i) (xL K w ++ L) 52 [(0, .ref (xa K 0)), (1, .int x1)] [.int s0, .ref (xa K 0)] := by
  unfold B_X1_clause_52 at h
  refine g_callXVv C (As := [.int s0]) (rest := []) (m_X1_need h) (lw_V q464 q466 qs4 q78 q467) (ci := 0) (qi := 0) rfl rfl ⟨rfl, rfl⟩ ⟨Nat.le_of_ble_eq_true rfl, Nat.le_of_ble_eq_true rfl⟩ 1 rfl (by decide +kernel) rfl (Nat.le_of_ble_eq_true rfl) ⟨rfl, rfl⟩ hi dX1_clause_52 (fun V9 q9 hx => thr _ _ _ _ _ q9 hi hx) ?_
  rintro _ ⟨w1, L2, rfl, h⟩
  refine g_aload_n C 0 rfl dX1_clause_55 ?_
  refine g_dup C rfl dX1_clause_56 ?_
  refine xg_place C q273 (xi w1 1) rfl dX1_clause_57 ?_
  refine g_iconst C 1 (by decide) dX1_clause_60 ?_
  refine g_iadd C dX1_clause_61 ?_
  refine xp_place C q273 dX1_clause_62 ?_
  refine g_aload_n C 0 rfl dX1_clause_65 ?_
  refine g_callVi C (As := []) (rest := []) (m_X1_look h) (lw_V q373 q375 qs3 q78 q376) (ci := 0) (qi := 0) rfl rfl ⟨rfl, rfl⟩ ⟨Nat.le_of_ble_eq_true rfl, Nat.le_of_ble_eq_true rfl⟩ 0 rfl (by decide +kernel) rfl (Nat.le_of_ble_eq_true rfl) ⟨hi, Nat.mul_le_mul_left 4 hi⟩ dX1_clause_66 ?_
  rintro v5 _ ⟨w3, L4, rfl, h⟩
  refine g_istore_n C rfl (lt := [(2, .int v5), (0, .ref (xa K 0)), (1, .int x1)]) dX1_clause_69 (by decide) rfl ?_
  refine g_iload_n C 0 rfl dX1_clause_70 ?_
  refine g_bipush C 33 (by decide) dX1_clause_71 ?_
  refine g_icmp_eq C 82 dX1_clause_73 (by decide) (fun hc => ?_) (fun hc => ?_)
  · replace h := h.1 hc
    refine g_sub [1, 2] rfl ?_
    exact k_X1_clause_82 C ret thr i x1 w3 L4 hi h
  · replace h := h.2 hc
    refine g_iload_n C 0 rfl dX1_clause_76 ?_
    refine g_bipush C 40 (by decide) dX1_clause_77 ?_
    refine g_icmp_ne C 86 dX1_clause_79 (by decide) (fun hc => ?_) (fun hc => ?_)
    · replace h := h.2 hc
      refine g_aload_n C 1 rfl dX1_clause_86 ?_
      obtain ⟨m6, hm6, h⟩ := h
      refine g_callXVq C (As := []) (rest := []) (m_X1_sum h) (lw_V q468 q470 qs5 q78 q471) (ci := 0) (qi := 0) rfl rfl ⟨rfl, rfl⟩ ⟨Nat.le_of_ble_eq_true rfl, Nat.le_of_ble_eq_true rfl⟩ 0 rfl (by decide +kernel) rfl (Nat.le_of_ble_eq_true rfl) ⟨rfl, rfl⟩ hm6 dX1_clause_87 (fun V9 q9 hx => thr _ _ _ _ _ q9 hm6 hx) ?_
      rintro v9 _ ⟨w7, L8, rfl, h⟩
      refine g_sub [1, 2] rfl ?_
      exact k_X1_clause_90 C ret thr (i + m6) x1 v9 w7 L8 hm6 h
    · replace h := h.1 hc
      refine g_sub [1, 2] rfl ?_
      exact k_X1_clause_82 C ret thr i x1 w3 L4 hi h
def B_X1_clause_24 (N : Nat) (mc : Nat) (post : Option Nat → Wd → va_W → Prop) (postX : Wd → va_W → Prop) (i : Nat) (x1 : Int32) (s0 : Int32) (w : Wd) (L : va_W) : Prop :=
  B_X1_need N s0 0 (fun (w1 : Wd) (L2 : va_W) =>
  B_X1_look N (fun (v5 : Int32) (w3 : Wd) (L4 : va_W) =>
  (v5 = (58 : Int32) →
    B_X1_clause_52 N mc post postX i x1 1 w3 L4) ∧
  (¬ v5 = (58 : Int32) →
    B_X1_clause_52 N mc post postX i x1 0 w3 L4)) (xsi w1 1 ((xi w1 1) + 1)) L2) postX w L
set_option maxHeartbeats 4000000 in
theorem k_X1_clause_24 {Γ : gT} {K : gK} {N : Nat} {mc : Nat} {post : Option Nat → Wd → va_W → Prop} {postX : Wd → va_W → Prop} (C : gC Γ K RX1 cX1_clause 5 (rm_X1_clause mc)) (ret : gXqR Γ K cX1_clause (some (.object "OneBears$Clause")) (xPq K post) mc) (thr : gXT Γ K (xPv K postX) mc) (i : Nat) (x1 : Int32) (s0 : Int32) (w : Wd) (L : va_W) (hi : i ≤ mc) (h : B_X1_clause_24 N mc post postX i x1 s0 w L) : gJ Γ K i (4 * i) (xL K w ++ L) 24 [(0, .ref (xa K 0)), (1, .int x1)] [.int s0, .ref (xa K 0)] := by
  unfold B_X1_clause_24 at h
  refine g_callXVv C (As := [.int s0]) (rest := []) (m_X1_need h) (lw_V q464 q466 qs4 q78 q467) (ci := 0) (qi := 0) rfl rfl ⟨rfl, rfl⟩ ⟨Nat.le_of_ble_eq_true rfl, Nat.le_of_ble_eq_true rfl⟩ 1 rfl (by decide +kernel) rfl (Nat.le_of_ble_eq_true rfl) ⟨rfl, rfl⟩ hi dX1_clause_24 (fun V9 q9 hx => thr _ _ _ _ _ q9 hi hx) ?_
  rintro _ ⟨w1, L2, rfl, h⟩
  refine g_aload_n C 0 rfl dX1_clause_27 ?_
  refine g_dup C rfl dX1_clause_28 ?_
  refine xg_place C q273 (xi w1 1) rfl dX1_clause_29 ?_
  refine g_iconst C 1 (by decide) dX1_clause_32 ?_
  refine g_iadd C dX1_clause_33 ?_
  refine xp_place C q273 dX1_clause_34 ?_
  refine g_aload_n C 0 rfl dX1_clause_37 ?_
  refine g_aload_n C 0 rfl dX1_clause_38 ?_
  refine g_callVi C (As := []) (rest := [.ref (xa K 0)]) (m_X1_look h) (lw_V q373 q375 qs3 q78 q376) (ci := 0) (qi := 0) rfl rfl ⟨rfl, rfl⟩ ⟨Nat.le_of_ble_eq_true rfl, Nat.le_of_ble_eq_true rfl⟩ 0 rfl (by decide +kernel) rfl (Nat.le_of_ble_eq_true rfl) ⟨hi, Nat.mul_le_mul_left 4 hi⟩ dX1_clause_39 ?_
  rintro v5 _ ⟨w3, L4, rfl, h⟩
  refine g_bipush C 58 (by decide) dX1_clause_42 ?_
  refine g_icmp_ne C 51 dX1_clause_44 (by decide) (fun hc => ?_) (fun hc => ?_)
  · replace h := h.2 hc
    refine g_iconst C 0 (by decide) dX1_clause_51 ?_
    exact k_X1_clause_52 C ret thr i x1 0 w3 L4 hi h
  · replace h := h.1 hc
    refine g_iconst C 1 (by decide) dX1_clause_47 ?_
    refine g_goto C 52 dX1_clause_48 (by decide) ?_
    exact k_X1_clause_52 C ret thr i x1 1 w3 L4 hi h
def B_X1_clause_23 (N : Nat) (mc : Nat) (post : Option Nat → Wd → va_W → Prop) (postX : Wd → va_W → Prop) (i : Nat) (x1 : Int32) (w : Wd) (L : va_W) : Prop :=
  B_X1_clause_24 N mc post postX i x1 0 w L
set_option maxHeartbeats 4000000 in
theorem k_X1_clause_23 {Γ : gT} {K : gK} {N : Nat} {mc : Nat} {post : Option Nat → Wd → va_W → Prop} {postX : Wd → va_W → Prop} (C : gC Γ K RX1 cX1_clause 5 (rm_X1_clause mc)) (ret : gXqR Γ K cX1_clause (some (.object "OneBears$Clause")) (xPq K post) mc) (thr : gXT Γ K (xPv K postX) mc) (i : Nat) (x1 : Int32) (w : Wd) (L : va_W) (hi : i ≤ mc) (h : B_X1_clause_23 N mc post postX i x1 w L) : gJ Γ K i (4 * i) (xL K w ++ L) 23 [(0, .ref (xa K 0)), (1, .int x1)] [.ref (xa K 0)] := by
  unfold B_X1_clause_23 at h
  refine g_iconst C 0 (by decide) dX1_clause_23 ?_
  exact k_X1_clause_24 C ret thr i x1 0 w L hi h
def B_X1_clause_0 (N : Nat) (mc : Nat) (post : Option Nat → Wd → va_W → Prop) (postX : Wd → va_W → Prop) (i : Nat) (w : Wd) (L : va_W) : Prop :=
  B_X1_look N (fun (v3 : Int32) (w1 : Wd) (L2 : va_W) =>
  (v3 ≤ 0 →
    B_X1_clause_23 N mc post postX i v3 w1 L2) ∧
  (¬ v3 ≤ 0 →
    B_J2_indexOf_s0 N v3 (fun (v6 : Int32) (w4 : Wd) (L5 : va_W) =>
  (v6 < 0 →
      B_X1_clause_23 N mc post postX i v3 w4 L5) ∧
    (¬ v6 < 0 →
      B_X1_clause_24 N mc post postX i v3 1 w4 L5)) w1 L2)) w L
set_option maxHeartbeats 4000000 in
theorem k_X1_clause_0 {Γ : gT} {K : gK} {N : Nat} {mc : Nat} {post : Option Nat → Wd → va_W → Prop} {postX : Wd → va_W → Prop} (C : gC Γ K RX1 cX1_clause 5 (rm_X1_clause mc)) (ret : gXqR Γ K cX1_clause (some (.object "OneBears$Clause")) (xPq K post) mc) (thr : gXT Γ K (xPv K postX) mc) (i : Nat) (w : Wd) (L : va_W) (hi : i ≤ mc) (h : B_X1_clause_0 N mc post postX i w L) : gJ Γ K i (4 * i) (xL K w ++ L) 0 [(0, .ref (xa K 0))] [] := by
  unfold B_X1_clause_0 at h
  refine g_aload_n C 0 rfl dX1_clause_0 ?_
  refine g_callVi C (As := []) (rest := []) (m_X1_look h) (lw_V q373 q375 qs3 q78 q376) (ci := 0) (qi := 0) rfl rfl ⟨rfl, rfl⟩ ⟨Nat.le_of_ble_eq_true rfl, Nat.le_of_ble_eq_true rfl⟩ 0 rfl (by decide +kernel) rfl (Nat.le_of_ble_eq_true rfl) ⟨hi, Nat.mul_le_mul_left 4 hi⟩ dX1_clause_1 ?_
  rintro v3 _ ⟨w1, L2, rfl, h⟩
  refine g_istore_n C rfl (lt := [(1, .int v3), (0, .ref (xa K 0))]) dX1_clause_4 (by decide) rfl ?_
  refine g_aload_n C 1 rfl dX1_clause_5 ?_
  refine g_iload_n C 0 rfl dX1_clause_6 ?_
  refine g_if_le C 23 dX1_clause_7 (by decide) (fun hc => ?_) (fun hc => ?_)
  · replace h := h.1 hc
    refine g_sub [1, 0] rfl ?_
    exact k_X1_clause_23 C ret thr i v3 w1 L2 hi h
  · replace h := h.2 hc
    refine g_ldcS_OneBears_180 C dX1_clause_10 ?_
    refine g_iload_n C 0 rfl dX1_clause_12 ?_
    refine g_callVKi C (As := [.int v3]) (rest := [.ref (xa K 0)]) (m_J2_indexOf_s0_x h) (lw_V q378 q379 q380 q85 q381) (i0 := 0) (by decide) ⟨rfl, rfl⟩ ⟨Nat.le_of_ble_eq_true rfl, Nat.le_of_ble_eq_true rfl⟩ 1 rfl (by decide +kernel) rfl (Nat.le_of_ble_eq_true rfl) ⟨hi, Nat.mul_le_mul_left 4 hi⟩ dX1_clause_13 ?_
    rintro v6 _ ⟨w4, L5, rfl, h⟩
    refine g_if_lt C 23 dX1_clause_16 (by decide) (fun hc => ?_) (fun hc => ?_)
    · replace h := h.1 hc
      refine g_sub [1, 0] rfl ?_
      exact k_X1_clause_23 C ret thr i v3 w4 L5 hi h
    · replace h := h.2 hc
      refine g_iconst C 1 (by decide) dX1_clause_19 ?_
      refine g_goto C 24 dX1_clause_20 (by decide) ?_
      refine g_sub [1, 0] rfl ?_
      exact k_X1_clause_24 C ret thr i v3 1 w4 L5 hi h
def B_X1_clause (N : Nat) (mc : Nat) (post : Option Nat → Wd → va_W → Prop) (postX : Wd → va_W → Prop) (w : Wd) (L : va_W) : Prop := B_X1_clause_0 N mc post postX 0 w L
theorem m_X1_clause {l : Launch} {K : gK} {N : Nat} {mc : Nat} {post : Option Nat → Wd → va_W → Prop} {postX : Wd → va_W → Prop} {w : Wd} {L : va_W} (h : B_X1_clause N mc post postX w L) : gXq l K yX1_clause cX1_clause 5 (some (.object "OneBears$Clause")) (rm_X1_clause mc) [.ref (xa K 0)] (xL K w ++ L) (xPq K post) (xPv K postX) mc := by
  refine g_inXQ (ls0 := [(0, .ref (xa K 0))]) (by decide) (Nat.le_of_ble_eq_true rfl) rfl rfl rfl (fun Γ hl C hn ret thr => ?_)
  exact k_X1_clause_0 C ret thr 0 w L (Nat.zero_le _) h
def rm_X1_whole (mc : Nat) : Room := { frames := 58, cells := mc, slots := 4 * mc, locals := 1333 }
def B_X1_whole_66 (N : Nat) (mc : Nat) (post : Option Nat → Wd → va_W → Prop) (postX : Wd → va_W → Prop) (i : Nat) (x1 : Option Nat) (s0 : Int32) (w : Wd) (L : va_W) : Prop :=
  B_X1_need N s0 0 (fun (w1 : Wd) (L2 : va_W) =>
  post x1 w1 L2) postX w L
set_option maxHeartbeats 4000000 in
theorem k_X1_whole_66 {Γ : gT} {K : gK} {N : Nat} {mc : Nat} {post : Option Nat → Wd → va_W → Prop} {postX : Wd → va_W → Prop} (C : gC Γ K RX1 cX1_whole 3 (rm_X1_whole mc)) (ret : gXqR Γ K cX1_whole (some (.object "OneBears$Clause")) (xPq K post) mc) (thr : gXT Γ K (xPv K postX) mc) (i : Nat) (x1 : Option Nat) (s0 : Int32) (w : Wd) (L : va_W) (hi : i ≤ mc) (h : B_X1_whole_66 N mc post postX i x1 s0 w L) : gJ Γ K i (4 * i) (xL K w ++ L) 66 [(1, va_rf x1)] [.int s0, .ref (xa K 0)] := by
  unfold B_X1_whole_66 at h
  refine g_callXVv C (As := [.int s0]) (rest := []) (m_X1_need h) (lw_V q464 q466 qs4 q78 q467) (ci := 0) (qi := 0) rfl rfl ⟨rfl, rfl⟩ ⟨Nat.le_of_ble_eq_true rfl, Nat.le_of_ble_eq_true rfl⟩ 1 rfl (by decide +kernel) rfl (Nat.le_of_ble_eq_true rfl) ⟨rfl, rfl⟩ hi dX1_whole_66 (fun V9 q9 hx => thr _ _ _ _ _ q9 hi hx) ?_
  rintro _ ⟨w1, L2, rfl, h⟩
  refine g_aload_nq C 0 rfl dX1_whole_69 ?_
  exact ret _ x1 _ _ _ _ hi rfl dX1_whole_70 ⟨_, _, rfl, h⟩
def B_X1_whole_17s (r17 : Nat → Option Nat → Option Nat → Wd → va_W → Prop) (N : Nat) (mc : Nat) (post : Option Nat → Wd → va_W → Prop) (postX : Wd → va_W → Prop) (i : Nat) (x1 : Option Nat) (x2 : Option Nat) (w : Wd) (L : va_W) : Prop :=
  B_X1_look N (fun (v3 : Int32) (w1 : Wd) (L2 : va_W) =>
  (v3 = (59 : Int32) →
    ∃ m7 : Nat, i + m7 ≤ mc ∧ B_X1_clause N m7 (fun (v10 : Option Nat) (w8 : Wd) (L9 : va_W) =>
  ∃ (y11 k11 : Nat) (f11 : List Value), x2 = some y11 ∧ L9[k11]? = some (y11, .inr (11, f11)) ∧ 3 < f11.length ∧ ∀ L11 : va_W, L11 = L9.set k11 (y11, .inr (11, f11.set 3 (va_rf v10))) → ∃ (y12 k12 : Nat) (f12 : List Value) (v12 : Option Nat), x2 = some y12 ∧ L11[k12]? = some (y12, .inr (11, f12)) ∧ f12[3]? = some (va_rf v12) ∧ r17 (i + m7) x1 v12 w8 L11) postX (xsi w1 1 ((xi w1 1) + 1)) L2) ∧
  (¬ v3 = (59 : Int32) →
    B_X1_look N (fun (v6 : Int32) (w4 : Wd) (L5 : va_W) =>
  (v6 = (-1 : Int32) →
      B_X1_whole_66 N mc post postX i x1 1 w4 L5) ∧
    (¬ v6 = (-1 : Int32) →
      B_X1_whole_66 N mc post postX i x1 0 w4 L5)) w1 L2)) w L
def B_X1_whole_17 (N : Nat) (mc : Nat) (post : Option Nat → Wd → va_W → Prop) (postX : Wd → va_W → Prop) : Nat → Nat → Option Nat → Option Nat → Wd → va_W → Prop
  | 0, _, _, _, _, _ => False
  | n + 1, i, x1, x2, w, L => B_X1_whole_17s (B_X1_whole_17 N mc post postX n) N mc post postX i x1 x2 w L
set_option maxHeartbeats 4000000 in
theorem k_X1_whole_17s {Γ : gT} {K : gK} {N : Nat} {mc : Nat} {post : Option Nat → Wd → va_W → Prop} {postX : Wd → va_W → Prop} (C : gC Γ K RX1 cX1_whole 3 (rm_X1_whole mc)) (ret : gXqR Γ K cX1_whole (some (.object "OneBears$Clause")) (xPq K post) mc) (thr : gXT Γ K (xPv K postX) mc) {r17 : Nat → Option Nat → Option Nat → Wd → va_W → Prop} (hr17 : ∀ (i : Nat) (x1 : Option Nat) (x2 : Option Nat) (w : Wd) (L : va_W) (hi : i ≤ mc), r17 i x1 x2 w L → gJ Γ K i (4 * i) (xL K w ++ L) 17 [(0, .ref (xa K 0)), (1, va_rf x1), (2, va_rf x2)] []) (i : Nat) (x1 : Option Nat) (x2 : Option Nat) (w : Wd) (L : va_W) (hi : i ≤ mc) (h : B_X1_whole_17s r17 N mc post postX i x1 x2 w L) : gJ Γ K i (4 * i) (xL K w ++ L) 17 [(0, .ref (xa K 0)), (1, va_rf x1), (2, va_rf x2)] [] := by
  unfold B_X1_whole_17s at h
  refine g_aload_n C 0 rfl dX1_whole_17 ?_
  refine g_callVi C (As := []) (rest := []) (m_X1_look h) (lw_V q373 q375 qs3 q78 q376) (ci := 0) (qi := 0) rfl rfl ⟨rfl, rfl⟩ ⟨Nat.le_of_ble_eq_true rfl, Nat.le_of_ble_eq_true rfl⟩ 0 rfl (by decide +kernel) rfl (Nat.le_of_ble_eq_true rfl) ⟨hi, Nat.mul_le_mul_left 4 hi⟩ dX1_whole_18 ?_
  rintro v3 _ ⟨w1, L2, rfl, h⟩
  refine g_bipush C 59 (by decide) dX1_whole_21 ?_
  refine g_icmp_ne C 52 dX1_whole_23 (by decide) (fun hc => ?_) (fun hc => ?_)
  · replace h := h.2 hc
    refine g_aload_n C 0 rfl dX1_whole_52 ?_
    refine g_aload_n C 0 rfl dX1_whole_53 ?_
    refine g_callVi C (As := []) (rest := [.ref (xa K 0)]) (m_X1_look h) (lw_V q373 q375 qs3 q78 q376) (ci := 0) (qi := 0) rfl rfl ⟨rfl, rfl⟩ ⟨Nat.le_of_ble_eq_true rfl, Nat.le_of_ble_eq_true rfl⟩ 0 rfl (by decide +kernel) rfl (Nat.le_of_ble_eq_true rfl) ⟨hi, Nat.mul_le_mul_left 4 hi⟩ dX1_whole_54 ?_
    rintro v6 _ ⟨w4, L5, rfl, h⟩
    refine g_iconst C (-1) (by decide) dX1_whole_57 ?_
    refine g_icmp_ne C 65 dX1_whole_58 (by decide) (fun hc => ?_) (fun hc => ?_)
    · replace h := h.2 hc
      refine g_iconst C 0 (by decide) dX1_whole_65 ?_
      refine g_sub [1] rfl ?_
      exact k_X1_whole_66 C ret thr i x1 0 w4 L5 hi h
    · replace h := h.1 hc
      refine g_iconst C 1 (by decide) dX1_whole_61 ?_
      refine g_goto C 66 dX1_whole_62 (by decide) ?_
      refine g_sub [1] rfl ?_
      exact k_X1_whole_66 C ret thr i x1 1 w4 L5 hi h
  · replace h := h.1 hc
    refine g_aload_n C 0 rfl dX1_whole_26 ?_
    refine g_dup C rfl dX1_whole_27 ?_
    refine xg_place C q273 (xi w1 1) rfl dX1_whole_28 ?_
    refine g_iconst C 1 (by decide) dX1_whole_31 ?_
    refine g_iadd C dX1_whole_32 ?_
    refine xp_place C q273 dX1_whole_33 ?_
    refine g_aload_nq C 2 rfl dX1_whole_36 ?_
    refine g_aload_n C 0 rfl dX1_whole_37 ?_
    obtain ⟨m7, hm7, h⟩ := h
    refine g_callXVq C (As := []) (rest := [va_rf x2]) (m_X1_clause h) (lw_V q369 q371 qs2 q78 q372) (ci := 0) (qi := 0) rfl rfl ⟨rfl, rfl⟩ ⟨Nat.le_of_ble_eq_true rfl, Nat.le_of_ble_eq_true rfl⟩ 0 rfl (by decide +kernel) rfl (by cases x2 <;> exact Nat.le_of_ble_eq_true rfl) ⟨rfl, rfl⟩ hm7 dX1_whole_38 (fun V9 q9 hx => thr _ _ _ _ _ q9 hm7 hx) ?_
    rintro v10 _ ⟨w8, L9, rfl, h⟩
    obtain ⟨y11, k11, f11, ey11, e11, g11, h⟩ := h
    refine g_stk (st' := [va_rf v10, .ref y11]) (by rw [ey11]; rfl) ?_
    refine xdpN_Clause_next C nf_X1_189 e11 g11 dX1_whole_41 ?_
    obtain ⟨L11, eL11⟩ : ∃ z, z = L9.set k11 (y11, .inr (11, f11.set 3 (va_rf v10))) := ⟨_, rfl⟩
    replace h := h L11 eL11
    rw [← eL11]
    refine g_aload_nq C 2 rfl dX1_whole_44 ?_
    obtain ⟨y12, k12, f12, v12, ey12, e12, g12, h⟩ := h
    refine g_stk (st' := [.ref y12]) (by rw [ey12]; rfl) ?_
    refine xdN_Clause_next C nf_X1_189 e12 g12 dX1_whole_45 ?_
    refine g_astore_nq C rfl (lt := [(2, va_rf v12), (0, .ref (xa K 0)), (1, va_rf x1)]) dX1_whole_48 (by decide) (by generalize x1 = zq; cases zq <;> rfl) ?_
    refine g_goto C 17 dX1_whole_49 (by decide) ?_
    refine g_sub [1, 2, 0] rfl ?_
    exact hr17 (i + m7) x1 v12 w8 L11 hm7 h
theorem k_X1_whole_17 {Γ : gT} {K : gK} {N : Nat} {mc : Nat} {post : Option Nat → Wd → va_W → Prop} {postX : Wd → va_W → Prop} (C : gC Γ K RX1 cX1_whole 3 (rm_X1_whole mc)) (ret : gXqR Γ K cX1_whole (some (.object "OneBears$Clause")) (xPq K post) mc) (thr : gXT Γ K (xPv K postX) mc) : ∀ (n : Nat) (i : Nat) (x1 : Option Nat) (x2 : Option Nat) (w : Wd) (L : va_W) (hi : i ≤ mc) (h : B_X1_whole_17 N mc post postX n i x1 x2 w L), gJ Γ K i (4 * i) (xL K w ++ L) 17 [(0, .ref (xa K 0)), (1, va_rf x1), (2, va_rf x2)] [] := by
  intro n
  induction n with
  | zero => intro i x1 x2 w L hi h; exact h.elim
  | succ n ih => intro i x1 x2 w L hi h; exact k_X1_whole_17s C ret thr ih i x1 x2 w L hi h
def B_X1_whole_0 (N : Nat) (mc : Nat) (post : Option Nat → Wd → va_W → Prop) (postX : Wd → va_W → Prop) (i : Nat) (w : Wd) (L : va_W) : Prop :=
  ∃ m1 : Nat, i + m1 ≤ mc ∧ B_X1_clause N m1 (fun (v4 : Option Nat) (w2 : Wd) (L3 : va_W) =>
  B_X1_whole_17 N mc post postX N (i + m1) v4 v4 w2 L3) postX (xsi (xsi w 1 0) 2 0) L
set_option maxHeartbeats 4000000 in
theorem k_X1_whole_0 {Γ : gT} {K : gK} {N : Nat} {mc : Nat} {post : Option Nat → Wd → va_W → Prop} {postX : Wd → va_W → Prop} (C : gC Γ K RX1 cX1_whole 3 (rm_X1_whole mc)) (ret : gXqR Γ K cX1_whole (some (.object "OneBears$Clause")) (xPq K post) mc) (thr : gXT Γ K (xPv K postX) mc) (i : Nat) (w : Wd) (L : va_W) (hi : i ≤ mc) (h : B_X1_whole_0 N mc post postX i w L) : gJ Γ K i (4 * i) (xL K w ++ L) 0 [(0, .ref (xa K 0))] [] := by
  unfold B_X1_whole_0 at h
  refine g_aload_n C 0 rfl dX1_whole_0 ?_
  refine g_iconst C 0 (by decide) dX1_whole_1 ?_
  refine xp_place C q273 dX1_whole_2 ?_
  refine g_aload_n C 0 rfl dX1_whole_5 ?_
  refine g_iconst C 0 (by decide) dX1_whole_6 ?_
  refine xp_deep C q274 dX1_whole_7 ?_
  refine g_aload_n C 0 rfl dX1_whole_10 ?_
  obtain ⟨m1, hm1, h⟩ := h
  refine g_callXVq C (As := []) (rest := []) (m_X1_clause h) (lw_V q369 q371 qs2 q78 q372) (ci := 0) (qi := 0) rfl rfl ⟨rfl, rfl⟩ ⟨Nat.le_of_ble_eq_true rfl, Nat.le_of_ble_eq_true rfl⟩ 0 rfl (by decide +kernel) rfl (Nat.le_of_ble_eq_true rfl) ⟨rfl, rfl⟩ hm1 dX1_whole_11 (fun V9 q9 hx => thr _ _ _ _ _ q9 hm1 hx) ?_
  rintro v4 _ ⟨w2, L3, rfl, h⟩
  refine g_astore_nq C rfl (lt := [(1, va_rf v4), (0, .ref (xa K 0))]) dX1_whole_14 (by decide) rfl ?_
  refine g_aload_nq C 0 rfl dX1_whole_15 ?_
  refine g_astore_nq C rfl (lt := [(2, va_rf v4), (1, va_rf v4), (0, .ref (xa K 0))]) dX1_whole_16 (by decide) (by generalize v4 = zq; cases zq <;> rfl) ?_
  refine g_sub [2, 1, 0] rfl ?_
  exact k_X1_whole_17 C ret thr N (i + m1) v4 v4 w2 L3 hm1 h
def B_X1_whole (N : Nat) (mc : Nat) (post : Option Nat → Wd → va_W → Prop) (postX : Wd → va_W → Prop) (w : Wd) (L : va_W) : Prop := B_X1_whole_0 N mc post postX 0 w L
theorem m_X1_whole {l : Launch} {K : gK} {N : Nat} {mc : Nat} {post : Option Nat → Wd → va_W → Prop} {postX : Wd → va_W → Prop} {w : Wd} {L : va_W} (h : B_X1_whole N mc post postX w L) : gXq l K yX1_whole cX1_whole 3 (some (.object "OneBears$Clause")) (rm_X1_whole mc) [.ref (xa K 0)] (xL K w ++ L) (xPq K post) (xPv K postX) mc := by
  refine g_inXQ (ls0 := [(0, .ref (xa K 0))]) (by decide) (Nat.le_of_ble_eq_true rfl) rfl rfl rfl (fun Γ hl C hn ret thr => ?_)
  exact k_X1_whole_0 C ret thr 0 w L (Nat.zero_le _) h
