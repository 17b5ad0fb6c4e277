set_option maxRecDepth 100000
def rm_X1_forget : Room := { frames := 4, cells := 0, slots := 0, locals := 85 }
def B_X1_forget_2s (r2 : Int32 → Wd → va_W → Prop) (N : Nat) (post : Wd → va_W → Prop) (x1 : Int32) (w : Wd) (L : va_W) : Prop :=
  B_J2_length_s1 N (fun (v3 : Int32) (w1 : Wd) (L2 : va_W) =>
  (v3 ≤ x1 →
    post w1 L2) ∧
  (¬ v3 ≤ x1 →
    B_J2_charAt_s1 N x1 (fun (v6 : Int32) (w4 : Wd) (L5 : va_W) =>
  vp_in v6 128 ∧ ∀ w7 : Wd, w7 = (xsA w4 5 v6.toNatClampNeg 0) → r2 (x1 + 1) w7 L5) w1 L2)) w L
def B_X1_forget_2 (N : Nat) (post : Wd → va_W → Prop) : Nat → Int32 → Wd → va_W → Prop
  | 0, _, _, _ => False
  | n + 1, x1, w, L => B_X1_forget_2s (B_X1_forget_2 N post n) N post x1 w L
set_option maxHeartbeats 4000000 in
theorem k_X1_forget_2s {Γ : gT} {K : gK} {N : Nat} {post : Wd → va_W → Prop} (C : gC Γ K RX1 cX1_forget 2 rm_X1_forget) (ret : gRv Γ K cX1_forget (none) (xPv K post) 0 0) {r2 : Int32 → Wd → va_W → Prop} (hr2 : ∀ (x1 : Int32) (w : Wd) (L : va_W), r2 x1 w L → gJ Γ K 0 0 (xL K w ++ L) 2 [(0, .ref (xa K 0)), (1, .int x1)] []) (x1 : Int32) (w : Wd) (L : va_W) (h : B_X1_forget_2s r2 N post x1 w L) : gJ Γ K 0 0 (xL K w ++ L) 2 [(0, .ref (xa K 0)), (1, .int x1)] [] := by
  unfold B_X1_forget_2s at h
  refine g_iload_n C 1 rfl dX1_forget_2 ?_
  refine g_ldcS_OneBears_112 C dX1_forget_3 ?_
  refine g_callVKi C (As := []) (rest := [.int x1]) (m_J2_length_s1_x h) (lw_V q774 q393 q394 q85 q395) (i0 := 1) (by decide) ⟨rfl, rfl⟩ ⟨Nat.le_of_ble_eq_true rfl, Nat.le_of_ble_eq_true rfl⟩ 0 rfl (by decide +kernel) rfl (Nat.le_of_ble_eq_true rfl) ⟨Nat.zero_le _, Nat.zero_le _⟩ dX1_forget_5 ?_
  rintro v3 _ ⟨w1, L2, rfl, h⟩
  refine g_icmp_ge C 29 dX1_forget_8 (by decide) (fun hc => ?_) (fun hc => ?_)
  · replace h := h.1 hc
    exact ret rfl _ _ _ dX1_forget_29 ⟨_, _, rfl, h⟩
  · replace h := h.2 hc
    refine g_aload_n C 0 rfl dX1_forget_11 ?_
    refine xg_letters C q275 dX1_forget_12 ?_
    refine g_ldcS_OneBears_112 C dX1_forget_15 ?_
    refine g_iload_n C 1 rfl dX1_forget_17 ?_
    refine g_callVKi C (As := [.int x1]) (rest := [.ref (xa K 5)]) (m_J2_charAt_s1_x h) (lw_V q775 q776 q777 q85 q778) (i0 := 1) (by decide) ⟨rfl, rfl⟩ ⟨Nat.le_of_ble_eq_true rfl, Nat.le_of_ble_eq_true rfl⟩ 1 rfl (by decide +kernel) rfl (Nat.le_of_ble_eq_true rfl) ⟨Nat.zero_le _, Nat.zero_le _⟩ dX1_forget_18 ?_
    rintro v6 _ ⟨w4, L5, rfl, h⟩
    refine g_iconst C 0 (by decide) dX1_forget_21 ?_
    obtain ⟨hb, h⟩ := h
    refine xst_5 C hb dX1_forget_22 ?_
    obtain ⟨w7, ew7⟩ : ∃ z, z = (xsA w4 5 v6.toNatClampNeg 0) := ⟨_, rfl⟩
    replace h := h w7 ew7
    rw [← ew7]
    refine g_iinc C 1 (x1 + 1) (lt := [(1, .int (x1 + 1)), (0, .ref (xa K 0))]) rfl rfl dX1_forget_23 (by decide) rfl ?_
    refine g_goto C 2 dX1_forget_26 (by decide) ?_
    refine g_sub [1, 0] rfl ?_
    exact hr2 (x1 + 1) w7 L5 h
theorem k_X1_forget_2 {Γ : gT} {K : gK} {N : Nat} {post : Wd → va_W → Prop} (C : gC Γ K RX1 cX1_forget 2 rm_X1_forget) (ret : gRv Γ K cX1_forget (none) (xPv K post) 0 0) : ∀ (n : Nat) (x1 : Int32) (w : Wd) (L : va_W) (h : B_X1_forget_2 N post n x1 w L), gJ Γ K 0 0 (xL K w ++ L) 2 [(0, .ref (xa K 0)), (1, .int x1)] [] := by
  intro n
  induction n with
  | zero => intro x1 w L h; exact h.elim
  | succ n ih => intro x1 w L h; exact k_X1_forget_2s C ret ih x1 w L h
def B_X1_forget_0 (N : Nat) (post : Wd → va_W → Prop) (w : Wd) (L : va_W) : Prop :=
  B_X1_forget_2 N post N 0 w L
set_option maxHeartbeats 4000000 in
theorem k_X1_forget_0 {Γ : gT} {K : gK} {N : Nat} {post : Wd → va_W → Prop} (C : gC Γ K RX1 cX1_forget 2 rm_X1_forget) (ret : gRv Γ K cX1_forget (none) (xPv K post) 0 0) (w : Wd) (L : va_W) (h : B_X1_forget_0 N post w L) : gJ Γ K 0 0 (xL K w ++ L) 0 [(0, .ref (xa K 0))] [] := by
  unfold B_X1_forget_0 at h
  refine g_iconst C 0 (by decide) dX1_forget_0 ?_
  refine g_istore_n C rfl (lt := [(1, .int 0), (0, .ref (xa K 0))]) dX1_forget_1 (by decide) rfl ?_
  refine g_sub [1, 0] rfl ?_
  exact k_X1_forget_2 C ret N 0 w L h
def B_X1_forget (N : Nat) (post : Wd → va_W → Prop) (w : Wd) (L : va_W) : Prop := B_X1_forget_0 N post w L
theorem m_X1_forget {l : Launch} {K : gK} {N : Nat} {post : Wd → va_W → Prop} {w : Wd} {L : va_W} (h : B_X1_forget N post w L) : gMv l K yX1_forget cX1_forget 2 (none) rm_X1_forget [.ref (xa K 0)] (xL K w ++ L) (xPv K post) 0 0 := by
  refine g_inV (ls0 := [(0, .ref (xa K 0))]) (by decide) (Nat.le_of_ble_eq_true rfl) rfl (fun Γ hl C hn ret => ?_)
  exact k_X1_forget_0 C ret w L h
def rm_X4_spell : Room := { frames := 131, cells := 0, slots := 0, locals := 3271 }
def B_X4_spell_199 (N : Nat) (post : Wd → va_W → Prop) (s0 : Int32) (s1 : Int32) (w : Wd) (L : va_W) : Prop :=
  vp_in s1 128 ∧ ∀ w1 : Wd, w1 = (xsA w 5 s1.toNatClampNeg s0) → vp_in 102 128 ∧ ∀ w2 : Wd, w2 = (xsA w1 5 (102 : Int32).toNatClampNeg (xi w1 12)) → post w2 L
set_option maxHeartbeats 4000000 in
theorem k_X4_spell_199 {Γ : gT} {K : gK} {N : Nat} {post : Wd → va_W → Prop} (C : gC Γ K RX4 cX4_spell 2 rm_X4_spell) (ret : gRv Γ K cX4_spell (none) (xPv K post) 0 0) (s0 : Int32) (s1 : Int32) (w : Wd) (L : va_W) (h : B_X4_spell_199 N post s0 s1 w L) : gJ Γ K 0 0 (xL K w ++ L) 199 [(0, .ref (xa K 1))] [.int s0, .int s1, .ref (xa K 5)] := by
  unfold B_X4_spell_199 at h
  obtain ⟨hb, h⟩ := h
  refine xst_5 C hb dX4_spell_199 ?_
  obtain ⟨w1, ew1⟩ : ∃ z, z = (xsA w 5 s1.toNatClampNeg s0) := ⟨_, rfl⟩
  replace h := h w1 ew1
  rw [← ew1]
  refine g_aload_n C 0 rfl dX4_spell_200 ?_
  refine xg_c_this_0 C q226 dX4_spell_201 ?_
  refine xgN_letters C nf_X4_116 dX4_spell_204 ?_
  refine g_bipush C 102 (by decide) dX4_spell_207 ?_
  refine g_aload_n C 0 rfl dX4_spell_209 ?_
  refine xg_c_store C q203 (xi w1 12) rfl dX4_spell_210 ?_
  obtain ⟨hb, h⟩ := h
  refine xst_5 C hb dX4_spell_213 ?_
  obtain ⟨w2, ew2⟩ : ∃ z, z = (xsA w1 5 (102 : Int32).toNatClampNeg (xi w1 12)) := ⟨_, rfl⟩
  replace h := h w2 ew2
  rw [← ew2]
  exact ret rfl _ _ _ dX4_spell_214 ⟨_, _, rfl, h⟩
def B_X4_spell_158 (N : Nat) (post : Wd → va_W → Prop) (x1 : Int32) (s0 : Int32) (s1 : Int32) (w : Wd) (L : va_W) : Prop :=
  vp_in s1 128 ∧ ∀ w1 : Wd, w1 = (xsA w 5 s1.toNatClampNeg s0) → B_X4_isPaired N (fun (v4 : Int32) (w2 : Wd) (L3 : va_W) =>
  (v4 = 0 →
    B_X4_spell_199 N post 0 107 w2 L3) ∧
  (¬ v4 = 0 →
    B_X3_young_t3 N x1 (xi w2 15) (xi w2 16) (fun (v7 : Int64) (w5 : Wd) (L6 : va_W) =>
  B_X4_spell_199 N post ((v7 >>> ((44 : Int32).toInt64 &&& 63)).toInt32) 107 w5 L6) w2 L3)) w1 L
set_option maxHeartbeats 4000000 in
theorem k_X4_spell_158 {Γ : gT} {K : gK} {N : Nat} {post : Wd → va_W → Prop} (C : gC Γ K RX4 cX4_spell 2 rm_X4_spell) (ret : gRv Γ K cX4_spell (none) (xPv K post) 0 0) (x1 : Int32) (s0 : Int32) (s1 : Int32) (w : Wd) (L : va_W) (h : B_X4_spell_158 N post x1 s0 s1 w L) : gJ Γ K 0 0 (xL K w ++ L) 158 [(0, .ref (xa K 1)), (1, .int x1)] [.int s0, .int s1, .ref (xa K 5)] := by
  unfold B_X4_spell_158 at h
  obtain ⟨hb, h⟩ := h
  refine xst_5 C hb dX4_spell_158 ?_
  obtain ⟨w1, ew1⟩ : ∃ z, z = (xsA w 5 s1.toNatClampNeg s0) := ⟨_, rfl⟩
  replace h := h w1 ew1
  rw [← ew1]
  refine g_aload_n C 0 rfl dX4_spell_159 ?_
  refine xg_c_this_0 C q226 dX4_spell_160 ?_
  refine xgN_letters C nf_X4_116 dX4_spell_163 ?_
  refine g_bipush C 107 (by decide) dX4_spell_166 ?_
  refine g_aload_n C 0 rfl dX4_spell_168 ?_
  refine g_callVi C (As := []) (rest := [.int 107, .ref (xa K 5)]) (m_X4_isPaired h) (lw_V q803 q805 qs22 q83 q806) (ci := 1) (qi := 1) rfl rfl ⟨rfl, rfl⟩ ⟨Nat.le_of_ble_eq_true rfl, Nat.le_of_ble_eq_true rfl⟩ 0 rfl (by decide +kernel) rfl (Nat.le_of_ble_eq_true rfl) ⟨Nat.zero_le _, Nat.zero_le _⟩ dX4_spell_169 ?_
  rintro v4 _ ⟨w2, L3, rfl, h⟩
  refine g_if_eq C 198 dX4_spell_172 (by decide) (fun hc => ?_) (fun hc => ?_)
  · replace h := h.1 hc
    refine g_iconst C 0 (by decide) dX4_spell_198 ?_
    refine g_sub [0] rfl ?_
    exact k_X4_spell_199 C ret 0 107 w2 L3 h
  · replace h := h.2 hc
    refine g_aload_n C 0 rfl dX4_spell_175 ?_
    refine xg_c_family C q213 dX4_spell_176 ?_
    refine g_iload_n C 1 rfl dX4_spell_179 ?_
    refine g_aload_n C 0 rfl dX4_spell_180 ?_
    refine xg_c_reigns C q208 (xi w2 15) rfl dX4_spell_181 ?_
    refine g_aload_n C 0 rfl dX4_spell_184 ?_
    refine xg_c_partner C q210 (xi w2 16) rfl dX4_spell_185 ?_
    refine g_callVl C (As := [.int x1, .int (xi w2 15), .int (xi w2 16)]) (rest := [.int 107, .ref (xa K 5)]) (m_X3_young_t3 h) (lw_V q807 q688 q689 q82 q690) (ci := 2) (qi := 3) rfl rfl ⟨rfl, rfl⟩ ⟨Nat.le_of_ble_eq_true rfl, Nat.le_of_ble_eq_true rfl⟩ 3 rfl (by decide +kernel) rfl (Nat.le_of_ble_eq_true rfl) ⟨Nat.zero_le _, Nat.zero_le _⟩ dX4_spell_188 ?_
    rintro v7 _ ⟨w5, L6, rfl, h⟩
    refine g_bipush C 44 (by decide) dX4_spell_191 ?_
    refine g_lshr C dX4_spell_193 ?_
    refine g_l2i C dX4_spell_194 ?_
    refine g_goto C 199 dX4_spell_195 (by decide) ?_
    refine g_sub [0] rfl ?_
    exact k_X4_spell_199 C ret ((v7 >>> ((44 : Int32).toInt64 &&& 63)).toInt32) 107 w5 L6 h
def B_X4_spell_157 (N : Nat) (post : Wd → va_W → Prop) (x1 : Int32) (s0 : Int32) (w : Wd) (L : va_W) : Prop :=
  B_X4_spell_158 N post x1 0 s0 w L
set_option maxHeartbeats 4000000 in
theorem k_X4_spell_157 {Γ : gT} {K : gK} {N : Nat} {post : Wd → va_W → Prop} (C : gC Γ K RX4 cX4_spell 2 rm_X4_spell) (ret : gRv Γ K cX4_spell (none) (xPv K post) 0 0) (x1 : Int32) (s0 : Int32) (w : Wd) (L : va_W) (h : B_X4_spell_157 N post x1 s0 w L) : gJ Γ K 0 0 (xL K w ++ L) 157 [(0, .ref (xa K 1)), (1, .int x1)] [.int s0, .ref (xa K 5)] := by
  unfold B_X4_spell_157 at h
  refine g_iconst C 0 (by decide) dX4_spell_157 ?_
  exact k_X4_spell_158 C ret x1 0 s0 w L h
def B_X4_spell_110 (N : Nat) (post : Wd → va_W → Prop) (x1 : Int32) (s0 : Int32) (s1 : Int32) (w : Wd) (L : va_W) : Prop :=
  vp_in s1 128 ∧ ∀ w1 : Wd, w1 = (xsA w 5 s1.toNatClampNeg s0) → B_X4_hasQueen N (fun (v4 : Int32) (w2 : Wd) (L3 : va_W) =>
  (v4 = 0 →
    B_X4_spell_157 N post x1 112 w2 L3) ∧
  (¬ v4 = 0 →
    (x1 = (xi w2 15) →
      B_X4_spell_157 N post x1 112 w2 L3) ∧
    (¬ x1 = (xi w2 15) →
      (((xi w2 10) &&& 2) = 0 →
        vp_in 6 9 ∧ B_X4_spell_158 N post x1 (xA w2 7 (6 : Int32).toNatClampNeg) 112 w2 L3) ∧
      (¬ ((xi w2 10) &&& 2) = 0 →
        B_X4_spell_157 N post x1 112 w2 L3)))) w1 L
set_option maxHeartbeats 4000000 in
theorem k_X4_spell_110 {Γ : gT} {K : gK} {N : Nat} {post : Wd → va_W → Prop} (C : gC Γ K RX4 cX4_spell 2 rm_X4_spell) (ret : gRv Γ K cX4_spell (none) (xPv K post) 0 0) (x1 : Int32) (s0 : Int32) (s1 : Int32) (w : Wd) (L : va_W) (h : B_X4_spell_110 N post x1 s0 s1 w L) : gJ Γ K 0 0 (xL K w ++ L) 110 [(0, .ref (xa K 1)), (1, .int x1)] [.int s0, .int s1, .ref (xa K 5)] := by
  unfold B_X4_spell_110 at h
  obtain ⟨hb, h⟩ := h
  refine xst_5 C hb dX4_spell_110 ?_
  obtain ⟨w1, ew1⟩ : ∃ z, z = (xsA w 5 s1.toNatClampNeg s0) := ⟨_, rfl⟩
  replace h := h w1 ew1
  rw [← ew1]
  refine g_aload_n C 0 rfl dX4_spell_111 ?_
  refine xg_c_this_0 C q226 dX4_spell_112 ?_
  refine xgN_letters C nf_X4_116 dX4_spell_115 ?_
  refine g_bipush C 112 (by decide) dX4_spell_118 ?_
  refine g_aload_n C 0 rfl dX4_spell_120 ?_
  refine g_callVi C (As := []) (rest := [.int 112, .ref (xa K 5)]) (m_X4_hasQueen h) (lw_V q750 q751 q752 q83 q753) (ci := 1) (qi := 1) rfl rfl ⟨rfl, rfl⟩ ⟨Nat.le_of_ble_eq_true rfl, Nat.le_of_ble_eq_true rfl⟩ 0 rfl (by decide +kernel) rfl (Nat.le_of_ble_eq_true rfl) ⟨Nat.zero_le _, Nat.zero_le _⟩ dX4_spell_121 ?_
  rintro v4 _ ⟨w2, L3, rfl, h⟩
  refine g_if_eq C 157 dX4_spell_124 (by decide) (fun hc => ?_) (fun hc => ?_)
  · replace h := h.1 hc
    exact k_X4_spell_157 C ret x1 112 w2 L3 h
  · replace h := h.2 hc
    refine g_iload_n C 1 rfl dX4_spell_127 ?_
    refine g_aload_n C 0 rfl dX4_spell_128 ?_
    refine xg_c_reigns C q208 (xi w2 15) rfl dX4_spell_129 ?_
    refine g_icmp_eq C 157 dX4_spell_132 (by decide) (fun hc => ?_) (fun hc => ?_)
    · replace h := h.1 hc
      exact k_X4_spell_157 C ret x1 112 w2 L3 h
    · replace h := h.2 hc
      refine g_aload_n C 0 rfl dX4_spell_135 ?_
      refine xg_c_change C q200 (xi w2 10) rfl dX4_spell_136 ?_
      refine g_iconst C 2 (by decide) dX4_spell_139 ?_
      refine g_iand C dX4_spell_140 ?_
      refine g_if_ne C 157 dX4_spell_141 (by decide) (fun hc => ?_) (fun hc => ?_)
      · replace h := h.2 hc
        exact k_X4_spell_157 C ret x1 112 w2 L3 h
      · replace h := h.1 hc
        refine g_aload_n C 0 rfl dX4_spell_144 ?_
        refine xg_c_this_0 C q226 dX4_spell_145 ?_
        refine xgN_things C nf_X4_68 dX4_spell_148 ?_
        refine g_bipush C 6 (by decide) dX4_spell_151 ?_
        obtain ⟨hb, h⟩ := h
        refine xld_7 C hb (xA w2 7 (6 : Int32).toNatClampNeg) rfl dX4_spell_153 ?_
        refine g_goto C 158 dX4_spell_154 (by decide) ?_
        exact k_X4_spell_158 C ret x1 (xA w2 7 (6 : Int32).toNatClampNeg) 112 w2 L3 h
def B_X4_spell_44 (N : Nat) (post : Wd → va_W → Prop) (x1 : Int32) (s0 : Int32) (s1 : Int32) (w : Wd) (L : va_W) : Prop :=
  vp_in s1 128 ∧ ∀ w1 : Wd, w1 = (xsA w 5 s1.toNatClampNeg s0) → vp_in x1 24 ∧ vp_in 119 128 ∧ ∀ w2 : Wd, w2 = (xsA w1 5 (119 : Int32).toNatClampNeg (xA w1 24 x1.toNatClampNeg)) → B_X4_there N (fun (v5 : Int32) (w3 : Wd) (L4 : va_W) =>
  vp_in 110 128 ∧ ∀ w6 : Wd, w6 = (xsA w3 5 (110 : Int32).toNatClampNeg v5) → B_X4_rain N (fun (v9 : Int32) (w7 : Wd) (L8 : va_W) =>
  vp_in 114 128 ∧ ∀ w10 : Wd, w10 = (xsA w7 5 (114 : Int32).toNatClampNeg v9) → B_X4_hasQueen N (fun (v13 : Int32) (w11 : Wd) (L12 : va_W) =>
  (v13 = 0 →
    B_X4_spell_110 N post x1 0 113 w11 L12) ∧
  (¬ v13 = 0 →
    B_X4_spell_110 N post x1 1 113 w11 L12)) w10 L8) w6 L4) w2 L
set_option maxHeartbeats 4000000 in
theorem k_X4_spell_44 {Γ : gT} {K : gK} {N : Nat} {post : Wd → va_W → Prop} (C : gC Γ K RX4 cX4_spell 2 rm_X4_spell) (ret : gRv Γ K cX4_spell (none) (xPv K post) 0 0) (x1 : Int32) (s0 : Int32) (s1 : Int32) (w : Wd) (L : va_W) (h : B_X4_spell_44 N post x1 s0 s1 w L) : gJ Γ K 0 0 (xL K w ++ L) 44 [(0, .ref (xa K 1)), (1, .int x1)] [.int s0, .int s1, .ref (xa K 5)] := by
  unfold B_X4_spell_44 at h
  obtain ⟨hb, h⟩ := h
  refine xst_5 C hb dX4_spell_44 ?_
  obtain ⟨w1, ew1⟩ : ∃ z, z = (xsA w 5 s1.toNatClampNeg s0) := ⟨_, rfl⟩
  replace h := h w1 ew1
  rw [← ew1]
  refine g_aload_n C 0 rfl dX4_spell_45 ?_
  refine xg_c_this_0 C q226 dX4_spell_46 ?_
  refine xgN_letters C nf_X4_116 dX4_spell_49 ?_
  refine g_bipush C 119 (by decide) dX4_spell_52 ?_
  refine g_aload_n C 0 rfl dX4_spell_54 ?_
  refine xg_c_weight C q216 dX4_spell_55 ?_
  refine g_iload_n C 1 rfl dX4_spell_58 ?_
  obtain ⟨hb, h⟩ := h
  refine xld_24 C hb (xA w1 24 x1.toNatClampNeg) rfl dX4_spell_59 ?_
  obtain ⟨hb, h⟩ := h
  refine xst_5 C hb dX4_spell_60 ?_
  obtain ⟨w2, ew2⟩ : ∃ z, z = (xsA w1 5 (119 : Int32).toNatClampNeg (xA w1 24 x1.toNatClampNeg)) := ⟨_, rfl⟩
  replace h := h w2 ew2
  rw [← ew2]
  refine g_aload_n C 0 rfl dX4_spell_61 ?_
  refine xg_c_this_0 C q226 dX4_spell_62 ?_
  refine xgN_letters C nf_X4_116 dX4_spell_65 ?_
  refine g_bipush C 110 (by decide) dX4_spell_68 ?_
  refine g_aload_n C 0 rfl dX4_spell_70 ?_
  refine g_callVi C (As := []) (rest := [.int 110, .ref (xa K 5)]) (m_X4_there h) (lw_V q795 q796 q797 q83 q798) (ci := 1) (qi := 1) rfl rfl ⟨rfl, rfl⟩ ⟨Nat.le_of_ble_eq_true rfl, Nat.le_of_ble_eq_true rfl⟩ 0 rfl (by decide +kernel) rfl (Nat.le_of_ble_eq_true rfl) ⟨Nat.zero_le _, Nat.zero_le _⟩ dX4_spell_71 ?_
  rintro v5 _ ⟨w3, L4, rfl, h⟩
  obtain ⟨hb, h⟩ := h
  refine xst_5 C hb dX4_spell_74 ?_
  obtain ⟨w6, ew6⟩ : ∃ z, z = (xsA w3 5 (110 : Int32).toNatClampNeg v5) := ⟨_, rfl⟩
  replace h := h w6 ew6
  rw [← ew6]
  refine g_aload_n C 0 rfl dX4_spell_75 ?_
  refine xg_c_this_0 C q226 dX4_spell_76 ?_
  refine xgN_letters C nf_X4_116 dX4_spell_79 ?_
  refine g_bipush C 114 (by decide) dX4_spell_82 ?_
  refine g_aload_n C 0 rfl dX4_spell_84 ?_
  refine g_callVi C (As := []) (rest := [.int 114, .ref (xa K 5)]) (m_X4_rain h) (lw_V q799 q801 qs21 q83 q802) (ci := 1) (qi := 1) rfl rfl ⟨rfl, rfl⟩ ⟨Nat.le_of_ble_eq_true rfl, Nat.le_of_ble_eq_true rfl⟩ 0 rfl (by decide +kernel) rfl (Nat.le_of_ble_eq_true rfl) ⟨Nat.zero_le _, Nat.zero_le _⟩ dX4_spell_85 ?_
  rintro v9 _ ⟨w7, L8, rfl, h⟩
  obtain ⟨hb, h⟩ := h
  refine xst_5 C hb dX4_spell_88 ?_
  obtain ⟨w10, ew10⟩ : ∃ z, z = (xsA w7 5 (114 : Int32).toNatClampNeg v9) := ⟨_, rfl⟩
  replace h := h w10 ew10
  rw [← ew10]
  refine g_aload_n C 0 rfl dX4_spell_89 ?_
  refine xg_c_this_0 C q226 dX4_spell_90 ?_
  refine xgN_letters C nf_X4_116 dX4_spell_93 ?_
  refine g_bipush C 113 (by decide) dX4_spell_96 ?_
  refine g_aload_n C 0 rfl dX4_spell_98 ?_
  refine g_callVi C (As := []) (rest := [.int 113, .ref (xa K 5)]) (m_X4_hasQueen h) (lw_V q750 q751 q752 q83 q753) (ci := 1) (qi := 1) rfl rfl ⟨rfl, rfl⟩ ⟨Nat.le_of_ble_eq_true rfl, Nat.le_of_ble_eq_true rfl⟩ 0 rfl (by decide +kernel) rfl (Nat.le_of_ble_eq_true rfl) ⟨Nat.zero_le _, Nat.zero_le _⟩ dX4_spell_99 ?_
  rintro v13 _ ⟨w11, L12, rfl, h⟩
  refine g_if_eq C 109 dX4_spell_102 (by decide) (fun hc => ?_) (fun hc => ?_)
  · replace h := h.1 hc
    refine g_iconst C 0 (by decide) dX4_spell_109 ?_
    exact k_X4_spell_110 C ret x1 0 113 w11 L12 h
  · replace h := h.2 hc
    refine g_iconst C 1 (by decide) dX4_spell_105 ?_
    refine g_goto C 110 dX4_spell_106 (by decide) ?_
    exact k_X4_spell_110 C ret x1 1 113 w11 L12 h
def B_X4_spell_0 (N : Nat) (post : Wd → va_W → Prop) (x1 : Int32) (w : Wd) (L : va_W) : Prop :=
  B_X1_forget N (fun (w1 : Wd) (L2 : va_W) =>
  vp_in x1 24 ∧ ((xA w1 26 x1.toNatClampNeg) = (-1 : Int32) →
    B_X4_spell_44 N post x1 (xi w1 9) 97 w1 L2) ∧
  (¬ (xA w1 26 x1.toNatClampNeg) = (-1 : Int32) →
    vp_in x1 24 ∧ B_X4_spell_44 N post x1 ((xi w1 9) - (xA w1 26 x1.toNatClampNeg)) 97 w1 L2)) w L
set_option maxHeartbeats 4000000 in
theorem k_X4_spell_0 {Γ : gT} {K : gK} {N : Nat} {post : Wd → va_W → Prop} (C : gC Γ K RX4 cX4_spell 2 rm_X4_spell) (ret : gRv Γ K cX4_spell (none) (xPv K post) 0 0) (x1 : Int32) (w : Wd) (L : va_W) (h : B_X4_spell_0 N post x1 w L) : gJ Γ K 0 0 (xL K w ++ L) 0 [(0, .ref (xa K 1)), (1, .int x1)] [] := by
  unfold B_X4_spell_0 at h
  refine g_aload_n C 0 rfl dX4_spell_0 ?_
  refine xg_c_this_0 C q226 dX4_spell_1 ?_
  refine g_callVNv C (As := []) (rest := []) (m_X1_forget h) nm_X4_113 (lw_meth q773) q78 q772 qs20 (ci := 0) (qi := 0) rfl rfl ⟨rfl, rfl⟩ ⟨Nat.le_of_ble_eq_true rfl, Nat.le_of_ble_eq_true rfl⟩ 0 rfl (by decide +kernel) rfl (Nat.le_of_ble_eq_true rfl) ⟨Nat.zero_le _, Nat.zero_le _⟩ dX4_spell_4 ?_
  rintro _ ⟨w1, L2, rfl, h⟩
  refine g_aload_n C 0 rfl dX4_spell_7 ?_
  refine xg_c_this_0 C q226 dX4_spell_8 ?_
  refine xgN_letters C nf_X4_116 dX4_spell_11 ?_
  refine g_bipush C 97 (by decide) dX4_spell_14 ?_
  refine g_aload_n C 0 rfl dX4_spell_16 ?_
  refine xg_c_born C q220 dX4_spell_17 ?_
  refine g_iload_n C 1 rfl dX4_spell_20 ?_
  obtain ⟨hb, h⟩ := h
  refine xld_26 C hb (xA w1 26 x1.toNatClampNeg) rfl dX4_spell_21 ?_
  refine g_iconst C (-1) (by decide) dX4_spell_22 ?_
  refine g_icmp_ne C 33 dX4_spell_23 (by decide) (fun hc => ?_) (fun hc => ?_)
  · replace h := h.2 hc
    refine g_aload_n C 0 rfl dX4_spell_33 ?_
    refine xg_c_month C q199 (xi w1 9) rfl dX4_spell_34 ?_
    refine g_aload_n C 0 rfl dX4_spell_37 ?_
    refine xg_c_born C q220 dX4_spell_38 ?_
    refine g_iload_n C 1 rfl dX4_spell_41 ?_
    obtain ⟨hb, h⟩ := h
    refine xld_26 C hb (xA w1 26 x1.toNatClampNeg) rfl dX4_spell_42 ?_
    refine g_isub C dX4_spell_43 ?_
    exact k_X4_spell_44 C ret x1 ((xi w1 9) - (xA w1 26 x1.toNatClampNeg)) 97 w1 L2 h
  · replace h := h.1 hc
    refine g_aload_n C 0 rfl dX4_spell_26 ?_
    refine xg_c_month C q199 (xi w1 9) rfl dX4_spell_27 ?_
    refine g_goto C 44 dX4_spell_30 (by decide) ?_
    exact k_X4_spell_44 C ret x1 (xi w1 9) 97 w1 L2 h
def B_X4_spell (N : Nat) (x1 : Int32) (post : Wd → va_W → Prop) (w : Wd) (L : va_W) : Prop := B_X4_spell_0 N post x1 w L
theorem m_X4_spell {l : Launch} {K : gK} {N : Nat} {post : Wd → va_W → Prop} {x1 : Int32} {w : Wd} {L : va_W} (h : B_X4_spell N x1 post w L) : gMv l K yX4_spell cX4_spell 2 (none) rm_X4_spell [.ref (xa K 1), .int x1] (xL K w ++ L) (xPv K post) 0 0 := by
  refine g_inV (ls0 := [(0, .ref (xa K 1)), (1, .int x1)]) (by decide) (Nat.le_of_ble_eq_true rfl) rfl (fun Γ hl C hn ret => ?_)
  exact k_X4_spell_0 C ret x1 w L h
def rm_X4_worthOf : Room := { frames := 362, cells := 0, slots := 0, locals := 8726 }
def B_X4_worthOf_0 (N : Nat) (post : Int32 → Wd → va_W → Prop) (x1 : Int32) (x2 : Int32) (w : Wd) (L : va_W) : Prop :=
  B_X4_spell N x1 (fun (w1 : Wd) (L2 : va_W) =>
  B_X1_worth N (xq w1) x2 (fun (v5 : Int32) (w3 : Wd) (L4 : va_W) =>
  post v5 w3 L4) w1 L2) w L
set_option maxHeartbeats 4000000 in
theorem k_X4_worthOf_0 {Γ : gT} {K : gK} {N : Nat} {post : Int32 → Wd → va_W → Prop} (C : gC Γ K RX4 cX4_worthOf 3 rm_X4_worthOf) (ret : gRi Γ K cX4_worthOf (some .int) (xPi K post) 0 0) (x1 : Int32) (x2 : Int32) (w : Wd) (L : va_W) (h : B_X4_worthOf_0 N post x1 x2 w L) : gJ Γ K 0 0 (xL K w ++ L) 0 [(0, .ref (xa K 1)), (1, .int x1), (2, .int x2)] [] := by
  unfold B_X4_worthOf_0 at h
  refine g_aload_n C 0 rfl dX4_worthOf_0 ?_
  refine g_iload_n C 1 rfl dX4_worthOf_1 ?_
  refine g_callVv C (As := [.int x1]) (rest := []) (m_X4_spell h) (lw_V q766 q768 qs19 q83 q769) (ci := 1) (qi := 1) rfl rfl ⟨rfl, rfl⟩ ⟨Nat.le_of_ble_eq_true rfl, Nat.le_of_ble_eq_true rfl⟩ 1 rfl (by decide +kernel) rfl (Nat.le_of_ble_eq_true rfl) ⟨Nat.zero_le _, Nat.zero_le _⟩ dX4_worthOf_2 ?_
  rintro _ ⟨w1, L2, rfl, h⟩
  refine g_aload_n C 0 rfl dX4_worthOf_5 ?_
  refine xg_c_law C q197 (xq w1) rfl dX4_worthOf_6 ?_
  refine g_iload_n C 2 rfl dX4_worthOf_9 ?_
  refine g_aload_n C 0 rfl dX4_worthOf_10 ?_
  refine xg_c_this_0 C q226 dX4_worthOf_11 ?_
  refine xgN_letters C nf_X4_116 dX4_worthOf_14 ?_
  refine g_callSNi C (As := [va_rf (xq w1), .int x2, .ref (xa K 5)]) (rest := []) (m_X1_worth h) (Cn := "") (b := 0) nm_X4_137 (lw_meth q810) q78 q809 ⟨rfl, rfl⟩ ⟨Nat.le_of_ble_eq_true rfl, Nat.le_of_ble_eq_true rfl⟩ 3 rfl (by decide +kernel) rfl (Nat.le_of_ble_eq_true rfl) ⟨Nat.zero_le _, Nat.zero_le _⟩ dX4_worthOf_17 ?_
  rintro v5 _ ⟨w3, L4, rfl, h⟩
  exact ret _ _ _ _ _ rfl rfl dX4_worthOf_20 ⟨_, _, rfl, h⟩
def B_X4_worthOf (N : Nat) (x1 : Int32) (x2 : Int32) (post : Int32 → Wd → va_W → Prop) (w : Wd) (L : va_W) : Prop := B_X4_worthOf_0 N post x1 x2 w L
theorem m_X4_worthOf {l : Launch} {K : gK} {N : Nat} {post : Int32 → Wd → va_W → Prop} {x1 : Int32} {x2 : Int32} {w : Wd} {L : va_W} (h : B_X4_worthOf N x1 x2 post w L) : gMi l K yX4_worthOf cX4_worthOf 3 (some .int) rm_X4_worthOf [.ref (xa K 1), .int x1, .int x2] (xL K w ++ L) (xPi K post) 0 0 := by
  refine g_inI (ls0 := [(0, .ref (xa K 1)), (1, .int x1), (2, .int x2)]) (by decide) (Nat.le_of_ble_eq_true rfl) rfl (fun Γ hl C hn ret => ?_)
  exact k_X4_worthOf_0 C ret x1 x2 w L h
def rm_X4_step : Room := { frames := 363, cells := 0, slots := 0, locals := 8748 }
def B_X4_step_90 (r6 : Int32 → Wd → va_W → Prop) (N : Nat) (post : Wd → va_W → Prop) (x1 : Int32) (w : Wd) (L : va_W) : Prop :=
  r6 (x1 + 1) w L
set_option maxHeartbeats 4000000 in
theorem k_X4_step_90 {Γ : gT} {K : gK} {N : Nat} {post : Wd → va_W → Prop} (C : gC Γ K RX4 cX4_step 3 rm_X4_step) (ret : gRv Γ K cX4_step (none) (xPv K post) 0 0) {r6 : Int32 → Wd → va_W → Prop} (hr6 : ∀ (x1 : Int32) (w : Wd) (L : va_W), r6 x1 w L → gJ Γ K 0 0 (xL K w ++ L) 6 [(0, .ref (xa K 1)), (1, .int x1)] []) (x1 : Int32) (w : Wd) (L : va_W) (h : B_X4_step_90 r6 N post x1 w L) : gJ Γ K 0 0 (xL K w ++ L) 90 [(0, .ref (xa K 1)), (1, .int x1)] [] := by
  unfold B_X4_step_90 at h
  refine g_iinc C 1 (x1 + 1) (lt := [(1, .int (x1 + 1)), (0, .ref (xa K 1))]) rfl rfl dX4_step_90 (by decide) rfl ?_
  refine g_goto C 6 dX4_step_93 (by decide) ?_
  refine g_sub [1, 0] rfl ?_
  exact hr6 (x1 + 1) w L h
def B_X4_step_161 (r98 : Int32 → Wd → va_W → Prop) (r108 : Int32 → Int32 → Wd → va_W → Prop) (N : Nat) (post : Wd → va_W → Prop) (x1 : Int32) (x2 : Int32) (w : Wd) (L : va_W) : Prop :=
  r108 x1 (x2 + 1) w L
set_option maxHeartbeats 4000000 in
theorem k_X4_step_161 {Γ : gT} {K : gK} {N : Nat} {post : Wd → va_W → Prop} (C : gC Γ K RX4 cX4_step 3 rm_X4_step) (ret : gRv Γ K cX4_step (none) (xPv K post) 0 0) {r98 : Int32 → Wd → va_W → Prop} (hr98 : ∀ (x1 : Int32) (w : Wd) (L : va_W), r98 x1 w L → gJ Γ K 0 0 (xL K w ++ L) 98 [(0, .ref (xa K 1)), (1, .int x1)] []) {r108 : Int32 → Int32 → Wd → va_W → Prop} (hr108 : ∀ (x1 : Int32) (x2 : Int32) (w : Wd) (L : va_W), r108 x1 x2 w L → gJ Γ K 0 0 (xL K w ++ L) 108 [(0, .ref (xa K 1)), (1, .int x1), (2, .int x2)] []) (x1 : Int32) (x2 : Int32) (w : Wd) (L : va_W) (h : B_X4_step_161 r98 r108 N post x1 x2 w L) : gJ Γ K 0 0 (xL K w ++ L) 161 [(0, .ref (xa K 1)), (1, .int x1), (2, .int x2)] [] := by
  unfold B_X4_step_161 at h
  refine g_iinc C 2 (x2 + 1) (lt := [(2, .int (x2 + 1)), (0, .ref (xa K 1)), (1, .int x1)]) rfl rfl dX4_step_161 (by decide) rfl ?_
  refine g_goto C 108 dX4_step_164 (by decide) ?_
  refine g_sub [1, 2, 0] rfl ?_
  exact hr108 x1 (x2 + 1) w L h
def B_X4_step_167 (r98 : Int32 → Wd → va_W → Prop) (N : Nat) (post : Wd → va_W → Prop) (x1 : Int32) (w : Wd) (L : va_W) : Prop :=
  r98 (x1 + 1) w L
set_option maxHeartbeats 4000000 in
theorem k_X4_step_167 {Γ : gT} {K : gK} {N : Nat} {post : Wd → va_W → Prop} (C : gC Γ K RX4 cX4_step 3 rm_X4_step) (ret : gRv Γ K cX4_step (none) (xPv K post) 0 0) {r98 : Int32 → Wd → va_W → Prop} (hr98 : ∀ (x1 : Int32) (w : Wd) (L : va_W), r98 x1 w L → gJ Γ K 0 0 (xL K w ++ L) 98 [(0, .ref (xa K 1)), (1, .int x1)] []) (x1 : Int32) (w : Wd) (L : va_W) (h : B_X4_step_167 r98 N post x1 w L) : gJ Γ K 0 0 (xL K w ++ L) 167 [(0, .ref (xa K 1)), (1, .int x1)] [] := by
  unfold B_X4_step_167 at h
  refine g_iinc C 1 (x1 + 1) (lt := [(1, .int (x1 + 1)), (0, .ref (xa K 1))]) rfl rfl dX4_step_167 (by decide) rfl ?_
  refine g_goto C 98 dX4_step_170 (by decide) ?_
  refine g_sub [1, 0] rfl ?_
  exact hr98 (x1 + 1) w L h
def B_X4_step_108s (r98 : Int32 → Wd → va_W → Prop) (r108 : Int32 → Int32 → Wd → va_W → Prop) (N : Nat) (post : Wd → va_W → Prop) (x1 : Int32) (x2 : Int32) (w : Wd) (L : va_W) : Prop :=
  vp_in x1 24 ∧ ((xA w 27 x1.toNatClampNeg) ≤ x2 →
    B_X4_step_167 r98 N post x1 w L) ∧
  (¬ (xA w 27 x1.toNatClampNeg) ≤ x2 →
    B_X4_isThere N x1 (fun (v3 : Int32) (w1 : Wd) (L2 : va_W) =>
  (v3 = 0 →
      B_X4_step_167 r98 N post x1 w1 L2) ∧
    (¬ v3 = 0 →
      B_X4_draw N (fun (v6 : Int32) (w4 : Wd) (L5 : va_W) =>
  ((xi w4 13) ≤ v6 →
        B_X4_step_161 r98 r108 N post x1 x2 w4 L5) ∧
      (¬ (xi w4 13) ≤ v6 →
        vp_in 2 9 ∧ B_X4_step_161 r98 r108 N post x1 x2 (xsi w4 12 (if ((xi w4 12) + (xA w4 7 (2 : Int32).toNatClampNeg)) < 9999 then ((xi w4 12) + (xA w4 7 (2 : Int32).toNatClampNeg)) else 9999)) L5)) w1 L2)) w L)
def B_X4_step_108 (r98 : Int32 → Wd → va_W → Prop) (N : Nat) (post : Wd → va_W → Prop) : Nat → Int32 → Int32 → Wd → va_W → Prop
  | 0, _, _, _, _ => False
  | n + 1, x1, x2, w, L => B_X4_step_108s r98 (B_X4_step_108 r98 N post n) N post x1 x2 w L
set_option maxHeartbeats 4000000 in
theorem k_X4_step_108s {Γ : gT} {K : gK} {N : Nat} {post : Wd → va_W → Prop} (C : gC Γ K RX4 cX4_step 3 rm_X4_step) (ret : gRv Γ K cX4_step (none) (xPv K post) 0 0) {r98 : Int32 → Wd → va_W → Prop} (hr98 : ∀ (x1 : Int32) (w : Wd) (L : va_W), r98 x1 w L → gJ Γ K 0 0 (xL K w ++ L) 98 [(0, .ref (xa K 1)), (1, .int x1)] []) {r108 : Int32 → Int32 → Wd → va_W → Prop} (hr108 : ∀ (x1 : Int32) (x2 : Int32) (w : Wd) (L : va_W), r108 x1 x2 w L → gJ Γ K 0 0 (xL K w ++ L) 108 [(0, .ref (xa K 1)), (1, .int x1), (2, .int x2)] []) (x1 : Int32) (x2 : Int32) (w : Wd) (L : va_W) (h : B_X4_step_108s r98 r108 N post x1 x2 w L) : gJ Γ K 0 0 (xL K w ++ L) 108 [(0, .ref (xa K 1)), (1, .int x1), (2, .int x2)] [] := by
  unfold B_X4_step_108s at h
  refine g_iload_n C 2 rfl dX4_step_108 ?_
  refine g_aload_n C 0 rfl dX4_step_109 ?_
  refine xg_c_digs C q222 dX4_step_110 ?_
  refine g_iload_n C 1 rfl dX4_step_113 ?_
  obtain ⟨hb, h⟩ := h
  refine xld_27 C hb (xA w 27 x1.toNatClampNeg) rfl dX4_step_114 ?_
  refine g_icmp_ge C 167 dX4_step_115 (by decide) (fun hc => ?_) (fun hc => ?_)
  · replace h := h.1 hc
    refine g_sub [0, 1] rfl ?_
    exact k_X4_step_167 C ret hr98 x1 w L h
  · replace h := h.2 hc
    refine g_aload_n C 0 rfl dX4_step_118 ?_
    refine g_iload_n C 1 rfl dX4_step_119 ?_
    refine g_callVi C (As := [.int x1]) (rest := []) (m_X4_isThere h) (lw_V q754 q755 q756 q83 q757) (ci := 1) (qi := 1) rfl rfl ⟨rfl, rfl⟩ ⟨Nat.le_of_ble_eq_true rfl, Nat.le_of_ble_eq_true rfl⟩ 1 rfl (by decide +kernel) rfl (Nat.le_of_ble_eq_true rfl) ⟨Nat.zero_le _, Nat.zero_le _⟩ dX4_step_120 ?_
    rintro v3 _ ⟨w1, L2, rfl, h⟩
    refine g_if_eq C 167 dX4_step_123 (by decide) (fun hc => ?_) (fun hc => ?_)
    · replace h := h.1 hc
      refine g_sub [0, 1] rfl ?_
      exact k_X4_step_167 C ret hr98 x1 w1 L2 h
    · replace h := h.2 hc
      refine g_aload_n C 0 rfl dX4_step_126 ?_
      refine g_callVi C (As := []) (rest := []) (m_X4_draw h) (lw_V q854 q856 qs23 q83 q857) (ci := 1) (qi := 1) rfl rfl ⟨rfl, rfl⟩ ⟨Nat.le_of_ble_eq_true rfl, Nat.le_of_ble_eq_true rfl⟩ 0 rfl (by decide +kernel) rfl (Nat.le_of_ble_eq_true rfl) ⟨Nat.zero_le _, Nat.zero_le _⟩ dX4_step_127 ?_
      rintro v6 _ ⟨w4, L5, rfl, h⟩
      refine g_aload_n C 0 rfl dX4_step_130 ?_
      refine xg_c_chance C q205 (xi w4 13) rfl dX4_step_131 ?_
      refine g_icmp_ge C 161 dX4_step_134 (by decide) (fun hc => ?_) (fun hc => ?_)
      · replace h := h.1 hc
        exact k_X4_step_161 C ret hr98 hr108 x1 x2 w4 L5 h
      · replace h := h.2 hc
        refine g_aload_n C 0 rfl dX4_step_137 ?_
        refine g_sipush C 9999 (by decide) dX4_step_138 ?_
        refine g_aload_n C 0 rfl dX4_step_141 ?_
        refine xg_c_store C q203 (xi w4 12) rfl dX4_step_142 ?_
        refine g_aload_n C 0 rfl dX4_step_145 ?_
        refine xg_c_this_0 C q226 dX4_step_146 ?_
        refine xgN_things C nf_X4_68 dX4_step_149 ?_
        refine g_iconst C 2 (by decide) dX4_step_152 ?_
        obtain ⟨hb, h⟩ := h
        refine xld_7 C hb (xA w4 7 (2 : Int32).toNatClampNeg) rfl dX4_step_153 ?_
        refine g_iadd C dX4_step_154 ?_
        refine g_mmin C q852 q410 q87 q411 ⟨Nat.le_of_ble_eq_true rfl, (Nat.le_of_ble_eq_true rfl)⟩ ⟨Nat.zero_le _, Nat.zero_le _⟩ dX4_step_155 ?_
        refine xp_c_store C q203 dX4_step_158 ?_
        exact k_X4_step_161 C ret hr98 hr108 x1 x2 (xsi w4 12 (if ((xi w4 12) + (xA w4 7 (2 : Int32).toNatClampNeg)) < 9999 then ((xi w4 12) + (xA w4 7 (2 : Int32).toNatClampNeg)) else 9999)) L5 h
theorem k_X4_step_108 {Γ : gT} {K : gK} {N : Nat} {post : Wd → va_W → Prop} (C : gC Γ K RX4 cX4_step 3 rm_X4_step) (ret : gRv Γ K cX4_step (none) (xPv K post) 0 0) {r98 : Int32 → Wd → va_W → Prop} (hr98 : ∀ (x1 : Int32) (w : Wd) (L : va_W), r98 x1 w L → gJ Γ K 0 0 (xL K w ++ L) 98 [(0, .ref (xa K 1)), (1, .int x1)] []) : ∀ (n : Nat) (x1 : Int32) (x2 : Int32) (w : Wd) (L : va_W) (h : B_X4_step_108 r98 N post n x1 x2 w L), gJ Γ K 0 0 (xL K w ++ L) 108 [(0, .ref (xa K 1)), (1, .int x1), (2, .int x2)] [] := by
  intro n
  induction n with
  | zero => intro x1 x2 w L h; exact h.elim
  | succ n ih => intro x1 x2 w L h; exact k_X4_step_108s C ret hr98 ih x1 x2 w L h
def B_X4_step_221 (r195 : Int32 → Int32 → Wd → va_W → Prop) (N : Nat) (post : Wd → va_W → Prop) (x1 : Int32) (x2 : Int32) (w : Wd) (L : va_W) : Prop :=
  r195 x1 (x2 + 1) w L
set_option maxHeartbeats 4000000 in
theorem k_X4_step_221 {Γ : gT} {K : gK} {N : Nat} {post : Wd → va_W → Prop} (C : gC Γ K RX4 cX4_step 3 rm_X4_step) (ret : gRv Γ K cX4_step (none) (xPv K post) 0 0) {r195 : Int32 → Int32 → Wd → va_W → Prop} (hr195 : ∀ (x1 : Int32) (x2 : Int32) (w : Wd) (L : va_W), r195 x1 x2 w L → gJ Γ K 0 0 (xL K w ++ L) 195 [(0, .ref (xa K 1)), (1, .int x1), (2, .int x2)] []) (x1 : Int32) (x2 : Int32) (w : Wd) (L : va_W) (h : B_X4_step_221 r195 N post x1 x2 w L) : gJ Γ K 0 0 (xL K w ++ L) 221 [(0, .ref (xa K 1)), (1, .int x1), (2, .int x2)] [] := by
  unfold B_X4_step_221 at h
  refine g_iinc C 2 (x2 + 1) (lt := [(2, .int (x2 + 1)), (0, .ref (xa K 1)), (1, .int x1)]) rfl rfl dX4_step_221 (by decide) rfl ?_
  refine g_goto C 195 dX4_step_224 (by decide) ?_
  refine g_sub [1, 2, 0] rfl ?_
  exact hr195 x1 (x2 + 1) w L h
def B_X4_step_316 (r261 : Int32 → Wd → va_W → Prop) (N : Nat) (post : Wd → va_W → Prop) (x2 : Int32) (w : Wd) (L : va_W) : Prop :=
  r261 (x2 + 1) w L
set_option maxHeartbeats 4000000 in
theorem k_X4_step_316 {Γ : gT} {K : gK} {N : Nat} {post : Wd → va_W → Prop} (C : gC Γ K RX4 cX4_step 3 rm_X4_step) (ret : gRv Γ K cX4_step (none) (xPv K post) 0 0) {r261 : Int32 → Wd → va_W → Prop} (hr261 : ∀ (x2 : Int32) (w : Wd) (L : va_W), r261 x2 w L → gJ Γ K 0 0 (xL K w ++ L) 261 [(0, .ref (xa K 1)), (2, .int x2)] []) (x2 : Int32) (w : Wd) (L : va_W) (h : B_X4_step_316 r261 N post x2 w L) : gJ Γ K 0 0 (xL K w ++ L) 316 [(0, .ref (xa K 1)), (2, .int x2)] [] := by
  unfold B_X4_step_316 at h
  refine g_iinc C 1 (x2 + 1) (lt := [(2, .int (x2 + 1)), (0, .ref (xa K 1))]) rfl rfl dX4_step_316 (by decide) rfl ?_
  refine g_goto C 261 dX4_step_319 (by decide) ?_
  refine g_sub [1, 0] rfl ?_
  exact hr261 (x2 + 1) w L h
def B_X4_step_369 (N : Nat) (post : Wd → va_W → Prop) (w : Wd) (L : va_W) : Prop :=
  post (xsi w 9 ((xi w 9) + 1)) L
set_option maxHeartbeats 4000000 in
theorem k_X4_step_369 {Γ : gT} {K : gK} {N : Nat} {post : Wd → va_W → Prop} (C : gC Γ K RX4 cX4_step 3 rm_X4_step) (ret : gRv Γ K cX4_step (none) (xPv K post) 0 0) (w : Wd) (L : va_W) (h : B_X4_step_369 N post w L) : gJ Γ K 0 0 (xL K w ++ L) 369 [(0, .ref (xa K 1))] [] := by
  unfold B_X4_step_369 at h
  refine g_aload_n C 0 rfl dX4_step_369 ?_
  refine g_dup C rfl dX4_step_370 ?_
  refine xg_c_month C q199 (xi w 9) rfl dX4_step_371 ?_
  refine g_iconst C 1 (by decide) dX4_step_374 ?_
  refine g_iadd C dX4_step_375 ?_
  refine xp_c_month C q199 dX4_step_376 ?_
  exact ret rfl _ _ _ dX4_step_379 ⟨_, _, rfl, h⟩
def B_X4_step_357 (N : Nat) (post : Wd → va_W → Prop) (x2 : Int32) (w : Wd) (L : va_W) : Prop :=
  B_X4_hasQueen N (fun (v3 : Int32) (w1 : Wd) (L2 : va_W) =>
  (v3 = 0 →
    B_X4_war N x2 (fun (w4 : Wd) (L5 : va_W) =>
  B_X4_step_369 N post w4 L5) w1 L2) ∧
  (¬ v3 = 0 →
    B_X4_step_369 N post w1 L2)) w L
set_option maxHeartbeats 4000000 in
theorem k_X4_step_357 {Γ : gT} {K : gK} {N : Nat} {post : Wd → va_W → Prop} (C : gC Γ K RX4 cX4_step 3 rm_X4_step) (ret : gRv Γ K cX4_step (none) (xPv K post) 0 0) (x2 : Int32) (w : Wd) (L : va_W) (h : B_X4_step_357 N post x2 w L) : gJ Γ K 0 0 (xL K w ++ L) 357 [(0, .ref (xa K 1)), (2, .int x2)] [] := by
  unfold B_X4_step_357 at h
  refine g_aload_n C 0 rfl dX4_step_357 ?_
  refine g_callVi C (As := []) (rest := []) (m_X4_hasQueen h) (lw_V q750 q751 q752 q83 q753) (ci := 1) (qi := 1) rfl rfl ⟨rfl, rfl⟩ ⟨Nat.le_of_ble_eq_true rfl, Nat.le_of_ble_eq_true rfl⟩ 0 rfl (by decide +kernel) rfl (Nat.le_of_ble_eq_true rfl) ⟨Nat.zero_le _, Nat.zero_le _⟩ dX4_step_358 ?_
  rintro v3 _ ⟨w1, L2, rfl, h⟩
  refine g_if_ne C 369 dX4_step_361 (by decide) (fun hc => ?_) (fun hc => ?_)
  · replace h := h.2 hc
    refine g_sub [0] rfl ?_
    exact k_X4_step_369 C ret w1 L2 h
  · replace h := h.1 hc
    refine g_aload_n C 0 rfl dX4_step_364 ?_
    refine g_iload_n C 1 rfl dX4_step_365 ?_
    refine g_callVv C (As := [.int x2]) (rest := []) (m_X4_war h) (lw_V q870 q872 qs26 q83 q873) (ci := 1) (qi := 1) rfl rfl ⟨rfl, rfl⟩ ⟨Nat.le_of_ble_eq_true rfl, Nat.le_of_ble_eq_true rfl⟩ 1 rfl (by decide +kernel) rfl (Nat.le_of_ble_eq_true rfl) ⟨Nat.zero_le _, Nat.zero_le _⟩ dX4_step_366 ?_
    rintro _ ⟨w4, L5, rfl, h⟩
    refine g_sub [0] rfl ?_
    exact k_X4_step_369 C ret w4 L5 h
def B_X4_step_261s (r261 : Int32 → Wd → va_W → Prop) (N : Nat) (post : Wd → va_W → Prop) (x2 : Int32) (w : Wd) (L : va_W) : Prop :=
  ((xi w 11) ≤ x2 →
    B_X4_isPaired N (fun (v3 : Int32) (w1 : Wd) (L2 : va_W) =>
  (v3 = 0 →
      B_X4_step_357 N post (xi w 11) w1 L2) ∧
    (¬ v3 = 0 →
      vp_in 4 9 ∧ ¬ (xA w1 7 (4 : Int32).toNatClampNeg) = 0 ∧ ((((xi w1 9) + 1) - ((xi w1 9) + 1) / (xA w1 7 (4 : Int32).toNatClampNeg) * (xA w1 7 (4 : Int32).toNatClampNeg)) = 0 →
        B_X4_bear N (fun (w4 : Wd) (L5 : va_W) =>
  B_X4_step_357 N post (xi w 11) w4 L5) w1 L2) ∧
      (¬ (((xi w1 9) + 1) - ((xi w1 9) + 1) / (xA w1 7 (4 : Int32).toNatClampNeg) * (xA w1 7 (4 : Int32).toNatClampNeg)) = 0 →
        B_X4_step_357 N post (xi w 11) w1 L2))) w L) ∧
  (¬ (xi w 11) ≤ x2 →
    B_X4_rain N (fun (v8 : Int32) (w6 : Wd) (L7 : va_W) =>
  (v8 ≤ 0 →
      B_X4_step_316 r261 N post x2 w6 L7) ∧
    (¬ v8 ≤ 0 →
      B_X4_isThere N x2 (fun (v11 : Int32) (w9 : Wd) (L10 : va_W) =>
  (v11 = 0 →
        B_X4_step_316 r261 N post x2 w9 L10) ∧
      (¬ v11 = 0 →
        (x2 = (xi w9 15) →
          B_X4_step_316 r261 N post x2 w9 L10) ∧
        (¬ x2 = (xi w9 15) →
          vp_in x2 24 ∧ ((xA w9 29 x2.toNatClampNeg) = 0 →
            (((xi w9 10) &&& 4) = 0 →
              B_X4_ends N x2 2 (fun (w12 : Wd) (L13 : va_W) =>
  B_X4_step_316 r261 N post x2 w12 L13) w9 L10) ∧
            (¬ ((xi w9 10) &&& 4) = 0 →
              B_X4_step_316 r261 N post x2 w9 L10)) ∧
          (¬ (xA w9 29 x2.toNatClampNeg) = 0 →
            B_X4_step_316 r261 N post x2 w9 L10)))) w6 L7)) w L)
def B_X4_step_261 (N : Nat) (post : Wd → va_W → Prop) : Nat → Int32 → Wd → va_W → Prop
  | 0, _, _, _ => False
  | n + 1, x2, w, L => B_X4_step_261s (B_X4_step_261 N post n) N post x2 w L
set_option maxHeartbeats 4000000 in
theorem k_X4_step_261s {Γ : gT} {K : gK} {N : Nat} {post : Wd → va_W → Prop} (C : gC Γ K RX4 cX4_step 3 rm_X4_step) (ret : gRv Γ K cX4_step (none) (xPv K post) 0 0) {r261 : Int32 → Wd → va_W → Prop} (hr261 : ∀ (x2 : Int32) (w : Wd) (L : va_W), r261 x2 w L → gJ Γ K 0 0 (xL K w ++ L) 261 [(0, .ref (xa K 1)), (2, .int x2)] []) (x2 : Int32) (w : Wd) (L : va_W) (h : B_X4_step_261s r261 N post x2 w L) : gJ Γ K 0 0 (xL K w ++ L) 261 [(0, .ref (xa K 1)), (2, .int x2)] [] := by
  unfold B_X4_step_261s at h
  refine g_iload_n C 1 rfl dX4_step_261 ?_
  refine g_aload_n C 0 rfl dX4_step_262 ?_
  refine xg_c_many C q201 (xi w 11) rfl dX4_step_263 ?_
  refine g_icmp_ge C 322 dX4_step_266 (by decide) (fun hc => ?_) (fun hc => ?_)
  · replace h := h.1 hc
    refine g_aload_n C 0 rfl dX4_step_322 ?_
    refine xg_c_many C q201 (xi w 11) rfl dX4_step_323 ?_
    refine g_istore_n C rfl (lt := [(2, .int (xi w 11)), (0, .ref (xa K 1))]) dX4_step_326 (by decide) rfl ?_
    refine g_aload_n C 1 rfl dX4_step_327 ?_
    refine g_callVi C (As := []) (rest := []) (m_X4_isPaired h) (lw_V q803 q805 qs22 q83 q806) (ci := 1) (qi := 1) rfl rfl ⟨rfl, rfl⟩ ⟨Nat.le_of_ble_eq_true rfl, Nat.le_of_ble_eq_true rfl⟩ 0 rfl (by decide +kernel) rfl (Nat.le_of_ble_eq_true rfl) ⟨Nat.zero_le _, Nat.zero_le _⟩ dX4_step_328 ?_
    rintro v3 _ ⟨w1, L2, rfl, h⟩
    refine g_if_eq C 357 dX4_step_331 (by decide) (fun hc => ?_) (fun hc => ?_)
    · replace h := h.1 hc
      refine g_sub [1, 0] rfl ?_
      exact k_X4_step_357 C ret (xi w 11) w1 L2 h
    · replace h := h.2 hc
      refine g_aload_n C 1 rfl dX4_step_334 ?_
      refine xg_c_month C q199 (xi w1 9) rfl dX4_step_335 ?_
      refine g_iconst C 1 (by decide) dX4_step_338 ?_
      refine g_iadd C dX4_step_339 ?_
      refine g_aload_n C 1 rfl dX4_step_340 ?_
      refine xg_c_this_0 C q226 dX4_step_341 ?_
      refine xgN_things C nf_X4_68 dX4_step_344 ?_
      refine g_iconst C 4 (by decide) dX4_step_347 ?_
      obtain ⟨hb, h⟩ := h
      refine xld_7 C hb (xA w1 7 (4 : Int32).toNatClampNeg) rfl dX4_step_348 ?_
      obtain ⟨h0, h⟩ := h
      refine g_irem C h0 dX4_step_349 ?_
      refine g_if_ne C 357 dX4_step_350 (by decide) (fun hc => ?_) (fun hc => ?_)
      · replace h := h.2 hc
        refine g_sub [1, 0] rfl ?_
        exact k_X4_step_357 C ret (xi w 11) w1 L2 h
      · replace h := h.1 hc
        refine g_aload_n C 1 rfl dX4_step_353 ?_
        refine g_callVv C (As := []) (rest := []) (m_X4_bear h) (lw_V q865 q867 qs25 q83 q868) (ci := 1) (qi := 1) rfl rfl ⟨rfl, rfl⟩ ⟨Nat.le_of_ble_eq_true rfl, Nat.le_of_ble_eq_true rfl⟩ 0 rfl (by decide +kernel) rfl (Nat.le_of_ble_eq_true rfl) ⟨Nat.zero_le _, Nat.zero_le _⟩ dX4_step_354 ?_
        rintro _ ⟨w4, L5, rfl, h⟩
        refine g_sub [1, 0] rfl ?_
        exact k_X4_step_357 C ret (xi w 11) w4 L5 h
  · replace h := h.2 hc
    refine g_aload_n C 0 rfl dX4_step_269 ?_
    refine g_callVi C (As := []) (rest := []) (m_X4_rain h) (lw_V q799 q801 qs21 q83 q802) (ci := 1) (qi := 1) rfl rfl ⟨rfl, rfl⟩ ⟨Nat.le_of_ble_eq_true rfl, Nat.le_of_ble_eq_true rfl⟩ 0 rfl (by decide +kernel) rfl (Nat.le_of_ble_eq_true rfl) ⟨Nat.zero_le _, Nat.zero_le _⟩ dX4_step_270 ?_
    rintro v8 _ ⟨w6, L7, rfl, h⟩
    refine g_if_le C 316 dX4_step_273 (by decide) (fun hc => ?_) (fun hc => ?_)
    · replace h := h.1 hc
      exact k_X4_step_316 C ret hr261 x2 w6 L7 h
    · replace h := h.2 hc
      refine g_aload_n C 0 rfl dX4_step_276 ?_
      refine g_iload_n C 1 rfl dX4_step_277 ?_
      refine g_callVi C (As := [.int x2]) (rest := []) (m_X4_isThere h) (lw_V q754 q755 q756 q83 q757) (ci := 1) (qi := 1) rfl rfl ⟨rfl, rfl⟩ ⟨Nat.le_of_ble_eq_true rfl, Nat.le_of_ble_eq_true rfl⟩ 1 rfl (by decide +kernel) rfl (Nat.le_of_ble_eq_true rfl) ⟨Nat.zero_le _, Nat.zero_le _⟩ dX4_step_278 ?_
      rintro v11 _ ⟨w9, L10, rfl, h⟩
      refine g_if_eq C 316 dX4_step_281 (by decide) (fun hc => ?_) (fun hc => ?_)
      · replace h := h.1 hc
        exact k_X4_step_316 C ret hr261 x2 w9 L10 h
      · replace h := h.2 hc
        refine g_iload_n C 1 rfl dX4_step_284 ?_
        refine g_aload_n C 0 rfl dX4_step_285 ?_
        refine xg_c_reigns C q208 (xi w9 15) rfl dX4_step_286 ?_
        refine g_icmp_eq C 316 dX4_step_289 (by decide) (fun hc => ?_) (fun hc => ?_)
        · replace h := h.1 hc
          exact k_X4_step_316 C ret hr261 x2 w9 L10 h
        · replace h := h.2 hc
          refine g_aload_n C 0 rfl dX4_step_292 ?_
          refine xg_c_stays C q224 dX4_step_293 ?_
          refine g_iload_n C 1 rfl dX4_step_296 ?_
          obtain ⟨hb, h⟩ := h
          refine xld_29 C hb (xA w9 29 x2.toNatClampNeg) rfl dX4_step_297 ?_
          refine g_if_ne C 316 dX4_step_298 (by decide) (fun hc => ?_) (fun hc => ?_)
          · replace h := h.2 hc
            exact k_X4_step_316 C ret hr261 x2 w9 L10 h
          · replace h := h.1 hc
            refine g_aload_n C 0 rfl dX4_step_301 ?_
            refine xg_c_change C q200 (xi w9 10) rfl dX4_step_302 ?_
            refine g_iconst C 4 (by decide) dX4_step_305 ?_
            refine g_iand C dX4_step_306 ?_
            refine g_if_ne C 316 dX4_step_307 (by decide) (fun hc => ?_) (fun hc => ?_)
            · replace h := h.2 hc
              exact k_X4_step_316 C ret hr261 x2 w9 L10 h
            · replace h := h.1 hc
              refine g_aload_n C 0 rfl dX4_step_310 ?_
              refine g_iload_n C 1 rfl dX4_step_311 ?_
              refine g_iconst C 2 (by decide) dX4_step_312 ?_
              refine g_callVv C (As := [.int x2, .int 2]) (rest := []) (m_X4_ends h) (lw_V q758 q760 qs18 q83 q761) (ci := 1) (qi := 1) rfl rfl ⟨rfl, rfl⟩ ⟨Nat.le_of_ble_eq_true rfl, Nat.le_of_ble_eq_true rfl⟩ 2 rfl (by decide +kernel) rfl (Nat.le_of_ble_eq_true rfl) ⟨Nat.zero_le _, Nat.zero_le _⟩ dX4_step_313 ?_
              rintro _ ⟨w12, L13, rfl, h⟩
              exact k_X4_step_316 C ret hr261 x2 w12 L13 h
theorem k_X4_step_261 {Γ : gT} {K : gK} {N : Nat} {post : Wd → va_W → Prop} (C : gC Γ K RX4 cX4_step 3 rm_X4_step) (ret : gRv Γ K cX4_step (none) (xPv K post) 0 0) : ∀ (n : Nat) (x2 : Int32) (w : Wd) (L : va_W) (h : B_X4_step_261 N post n x2 w L), gJ Γ K 0 0 (xL K w ++ L) 261 [(0, .ref (xa K 1)), (2, .int x2)] [] := by
  intro n
  induction n with
  | zero => intro x2 w L h; exact h.elim
  | succ n ih => intro x2 w L h; exact k_X4_step_261s C ret ih x2 w L h
def B_X4_step_195s (r195 : Int32 → Int32 → Wd → va_W → Prop) (N : Nat) (post : Wd → va_W → Prop) (x1 : Int32) (x2 : Int32) (w : Wd) (L : va_W) : Prop :=
  ((xi w 11) ≤ x2 →
    vp_in 3 9 ∧ B_X4_step_261 N post N 0 (xsi w 12 (if ((xi w 12) + (((xi w 12) * (xA w 7 (3 : Int32).toNatClampNeg)) / 100)) < 9999 then ((xi w 12) + (((xi w 12) * (xA w 7 (3 : Int32).toNatClampNeg)) / 100)) else 9999)) L) ∧
  (¬ (xi w 11) ≤ x2 →
    B_X4_isThere N x2 (fun (v3 : Int32) (w1 : Wd) (L2 : va_W) =>
  (v3 = 0 →
      B_X4_step_221 r195 N post x1 x2 w1 L2) ∧
    (¬ v3 = 0 →
      (x2 = x1 →
        B_X4_step_221 r195 N post x1 x2 w1 L2) ∧
      (¬ x2 = x1 →
        B_X4_eat N x2 (fun (w4 : Wd) (L5 : va_W) =>
  B_X4_step_221 r195 N post x1 x2 w4 L5) w1 L2))) w L)
def B_X4_step_195 (N : Nat) (post : Wd → va_W → Prop) : Nat → Int32 → Int32 → Wd → va_W → Prop
  | 0, _, _, _, _ => False
  | n + 1, x1, x2, w, L => B_X4_step_195s (B_X4_step_195 N post n) N post x1 x2 w L
set_option maxHeartbeats 4000000 in
theorem k_X4_step_195s {Γ : gT} {K : gK} {N : Nat} {post : Wd → va_W → Prop} (C : gC Γ K RX4 cX4_step 3 rm_X4_step) (ret : gRv Γ K cX4_step (none) (xPv K post) 0 0) {r195 : Int32 → Int32 → Wd → va_W → Prop} (hr195 : ∀ (x1 : Int32) (x2 : Int32) (w : Wd) (L : va_W), r195 x1 x2 w L → gJ Γ K 0 0 (xL K w ++ L) 195 [(0, .ref (xa K 1)), (1, .int x1), (2, .int x2)] []) (x1 : Int32) (x2 : Int32) (w : Wd) (L : va_W) (h : B_X4_step_195s r195 N post x1 x2 w L) : gJ Γ K 0 0 (xL K w ++ L) 195 [(0, .ref (xa K 1)), (1, .int x1), (2, .int x2)] [] := by
  unfold B_X4_step_195s at h
  refine g_iload_n C 2 rfl dX4_step_195 ?_
  refine g_aload_n C 0 rfl dX4_step_196 ?_
  refine xg_c_many C q201 (xi w 11) rfl dX4_step_197 ?_
  refine g_icmp_ge C 227 dX4_step_200 (by decide) (fun hc => ?_) (fun hc => ?_)
  · replace h := h.1 hc
    refine g_aload_n C 0 rfl dX4_step_227 ?_
    refine g_sipush C 9999 (by decide) dX4_step_228 ?_
    refine g_aload_n C 0 rfl dX4_step_231 ?_
    refine xg_c_store C q203 (xi w 12) rfl dX4_step_232 ?_
    refine g_aload_n C 0 rfl dX4_step_235 ?_
    refine xg_c_store C q203 (xi w 12) rfl dX4_step_236 ?_
    refine g_aload_n C 0 rfl dX4_step_239 ?_
    refine xg_c_this_0 C q226 dX4_step_240 ?_
    refine xgN_things C nf_X4_68 dX4_step_243 ?_
    refine g_iconst C 3 (by decide) dX4_step_246 ?_
    obtain ⟨hb, h⟩ := h
    refine xld_7 C hb (xA w 7 (3 : Int32).toNatClampNeg) rfl dX4_step_247 ?_
    refine g_imul C dX4_step_248 ?_
    refine g_bipush C 100 (by decide) dX4_step_249 ?_
    refine g_idiv C (by decide) dX4_step_251 ?_
    refine g_iadd C dX4_step_252 ?_
    refine g_mmin C q852 q410 q87 q411 ⟨Nat.le_of_ble_eq_true rfl, (Nat.le_of_ble_eq_true rfl)⟩ ⟨Nat.zero_le _, Nat.zero_le _⟩ dX4_step_253 ?_
    refine xp_c_store C q203 dX4_step_256 ?_
    refine g_iconst C 0 (by decide) dX4_step_259 ?_
    refine g_istore_n C rfl (lt := [(2, .int 0), (0, .ref (xa K 1)), (1, .int x1)]) dX4_step_260 (by decide) rfl ?_
    refine g_sub [1, 0] rfl ?_
    exact k_X4_step_261 C ret N 0 (xsi w 12 (if ((xi w 12) + (((xi w 12) * (xA w 7 (3 : Int32).toNatClampNeg)) / 100)) < 9999 then ((xi w 12) + (((xi w 12) * (xA w 7 (3 : Int32).toNatClampNeg)) / 100)) else 9999)) L h
  · replace h := h.2 hc
    refine g_aload_n C 0 rfl dX4_step_203 ?_
    refine g_iload_n C 2 rfl dX4_step_204 ?_
    refine g_callVi C (As := [.int x2]) (rest := []) (m_X4_isThere h) (lw_V q754 q755 q756 q83 q757) (ci := 1) (qi := 1) rfl rfl ⟨rfl, rfl⟩ ⟨Nat.le_of_ble_eq_true rfl, Nat.le_of_ble_eq_true rfl⟩ 1 rfl (by decide +kernel) rfl (Nat.le_of_ble_eq_true rfl) ⟨Nat.zero_le _, Nat.zero_le _⟩ dX4_step_205 ?_
    rintro v3 _ ⟨w1, L2, rfl, h⟩
    refine g_if_eq C 221 dX4_step_208 (by decide) (fun hc => ?_) (fun hc => ?_)
    · replace h := h.1 hc
      exact k_X4_step_221 C ret hr195 x1 x2 w1 L2 h
    · replace h := h.2 hc
      refine g_iload_n C 2 rfl dX4_step_211 ?_
      refine g_iload_n C 1 rfl dX4_step_212 ?_
      refine g_icmp_eq C 221 dX4_step_213 (by decide) (fun hc => ?_) (fun hc => ?_)
      · replace h := h.1 hc
        exact k_X4_step_221 C ret hr195 x1 x2 w1 L2 h
      · replace h := h.2 hc
        refine g_aload_n C 0 rfl dX4_step_216 ?_
        refine g_iload_n C 2 rfl dX4_step_217 ?_
        refine g_callVv C (As := [.int x2]) (rest := []) (m_X4_eat h) (lw_V q861 q863 qs24 q83 q864) (ci := 1) (qi := 1) rfl rfl ⟨rfl, rfl⟩ ⟨Nat.le_of_ble_eq_true rfl, Nat.le_of_ble_eq_true rfl⟩ 1 rfl (by decide +kernel) rfl (Nat.le_of_ble_eq_true rfl) ⟨Nat.zero_le _, Nat.zero_le _⟩ dX4_step_218 ?_
        rintro _ ⟨w4, L5, rfl, h⟩
        exact k_X4_step_221 C ret hr195 x1 x2 w4 L5 h
theorem k_X4_step_195 {Γ : gT} {K : gK} {N : Nat} {post : Wd → va_W → Prop} (C : gC Γ K RX4 cX4_step 3 rm_X4_step) (ret : gRv Γ K cX4_step (none) (xPv K post) 0 0) : ∀ (n : Nat) (x1 : Int32) (x2 : Int32) (w : Wd) (L : va_W) (h : B_X4_step_195 N post n x1 x2 w L), gJ Γ K 0 0 (xL K w ++ L) 195 [(0, .ref (xa K 1)), (1, .int x1), (2, .int x2)] [] := by
  intro n
  induction n with
  | zero => intro x1 x2 w L h; exact h.elim
  | succ n ih => intro x1 x2 w L h; exact k_X4_step_195s C ret ih x1 x2 w L h
def B_X4_step_188 (N : Nat) (post : Wd → va_W → Prop) (w : Wd) (L : va_W) : Prop :=
  B_X4_step_195 N post N (xi w 15) 0 w L
set_option maxHeartbeats 4000000 in
theorem k_X4_step_188 {Γ : gT} {K : gK} {N : Nat} {post : Wd → va_W → Prop} (C : gC Γ K RX4 cX4_step 3 rm_X4_step) (ret : gRv Γ K cX4_step (none) (xPv K post) 0 0) (w : Wd) (L : va_W) (h : B_X4_step_188 N post w L) : gJ Γ K 0 0 (xL K w ++ L) 188 [(0, .ref (xa K 1))] [] := by
  unfold B_X4_step_188 at h
  refine g_aload_n C 0 rfl dX4_step_188 ?_
  refine xg_c_reigns C q208 (xi w 15) rfl dX4_step_189 ?_
  refine g_istore_n C rfl (lt := [(1, .int (xi w 15)), (0, .ref (xa K 1))]) dX4_step_192 (by decide) rfl ?_
  refine g_iconst C 0 (by decide) dX4_step_193 ?_
  refine g_istore_n C rfl (lt := [(2, .int 0), (1, .int (xi w 15)), (0, .ref (xa K 1))]) dX4_step_194 (by decide) rfl ?_
  refine g_sub [2, 1, 0] rfl ?_
  exact k_X4_step_195 C ret N (xi w 15) 0 w L h
def B_X4_step_98s (r98 : Int32 → Wd → va_W → Prop) (N : Nat) (post : Wd → va_W → Prop) (x1 : Int32) (w : Wd) (L : va_W) : Prop :=
  ((xi w 11) ≤ x1 →
    B_X4_hasQueen N (fun (v3 : Int32) (w1 : Wd) (L2 : va_W) =>
  (v3 = 0 →
      B_X4_step_188 N post w1 L2) ∧
    (¬ v3 = 0 →
      B_X4_eat N (xi w1 15) (fun (w4 : Wd) (L5 : va_W) =>
  B_X4_step_188 N post w4 L5) w1 L2)) w L) ∧
  (¬ (xi w 11) ≤ x1 →
    B_X4_step_108 r98 N post N x1 0 w L)
def B_X4_step_98 (N : Nat) (post : Wd → va_W → Prop) : Nat → Int32 → Wd → va_W → Prop
  | 0, _, _, _ => False
  | n + 1, x1, w, L => B_X4_step_98s (B_X4_step_98 N post n) N post x1 w L
set_option maxHeartbeats 4000000 in
theorem k_X4_step_98s {Γ : gT} {K : gK} {N : Nat} {post : Wd → va_W → Prop} (C : gC Γ K RX4 cX4_step 3 rm_X4_step) (ret : gRv Γ K cX4_step (none) (xPv K post) 0 0) {r98 : Int32 → Wd → va_W → Prop} (hr98 : ∀ (x1 : Int32) (w : Wd) (L : va_W), r98 x1 w L → gJ Γ K 0 0 (xL K w ++ L) 98 [(0, .ref (xa K 1)), (1, .int x1)] []) (x1 : Int32) (w : Wd) (L : va_W) (h : B_X4_step_98s r98 N post x1 w L) : gJ Γ K 0 0 (xL K w ++ L) 98 [(0, .ref (xa K 1)), (1, .int x1)] [] := by
  unfold B_X4_step_98s at h
  refine g_iload_n C 1 rfl dX4_step_98 ?_
  refine g_aload_n C 0 rfl dX4_step_99 ?_
  refine xg_c_many C q201 (xi w 11) rfl dX4_step_100 ?_
  refine g_icmp_ge C 173 dX4_step_103 (by decide) (fun hc => ?_) (fun hc => ?_)
  · replace h := h.1 hc
    refine g_aload_n C 0 rfl dX4_step_173 ?_
    refine g_callVi C (As := []) (rest := []) (m_X4_hasQueen h) (lw_V q750 q751 q752 q83 q753) (ci := 1) (qi := 1) rfl rfl ⟨rfl, rfl⟩ ⟨Nat.le_of_ble_eq_true rfl, Nat.le_of_ble_eq_true rfl⟩ 0 rfl (by decide +kernel) rfl (Nat.le_of_ble_eq_true rfl) ⟨Nat.zero_le _, Nat.zero_le _⟩ dX4_step_174 ?_
    rintro v3 _ ⟨w1, L2, rfl, h⟩
    refine g_if_eq C 188 dX4_step_177 (by decide) (fun hc => ?_) (fun hc => ?_)
    · replace h := h.1 hc
      refine g_sub [0] rfl ?_
      exact k_X4_step_188 C ret w1 L2 h
    · replace h := h.2 hc
      refine g_aload_n C 0 rfl dX4_step_180 ?_
      refine g_aload_n C 0 rfl dX4_step_181 ?_
      refine xg_c_reigns C q208 (xi w1 15) rfl dX4_step_182 ?_
      refine g_callVv C (As := [.int (xi w1 15)]) (rest := []) (m_X4_eat h) (lw_V q861 q863 qs24 q83 q864) (ci := 1) (qi := 1) rfl rfl ⟨rfl, rfl⟩ ⟨Nat.le_of_ble_eq_true rfl, Nat.le_of_ble_eq_true rfl⟩ 1 rfl (by decide +kernel) rfl (Nat.le_of_ble_eq_true rfl) ⟨Nat.zero_le _, Nat.zero_le _⟩ dX4_step_185 ?_
      rintro _ ⟨w4, L5, rfl, h⟩
      refine g_sub [0] rfl ?_
      exact k_X4_step_188 C ret w4 L5 h
  · replace h := h.2 hc
    refine g_iconst C 0 (by decide) dX4_step_106 ?_
    refine g_istore_n C rfl (lt := [(2, .int 0), (0, .ref (xa K 1)), (1, .int x1)]) dX4_step_107 (by decide) rfl ?_
    refine g_sub [1, 2, 0] rfl ?_
    exact k_X4_step_108 C ret hr98 N x1 0 w L h
theorem k_X4_step_98 {Γ : gT} {K : gK} {N : Nat} {post : Wd → va_W → Prop} (C : gC Γ K RX4 cX4_step 3 rm_X4_step) (ret : gRv Γ K cX4_step (none) (xPv K post) 0 0) : ∀ (n : Nat) (x1 : Int32) (w : Wd) (L : va_W) (h : B_X4_step_98 N post n x1 w L), gJ Γ K 0 0 (xL K w ++ L) 98 [(0, .ref (xa K 1)), (1, .int x1)] [] := by
  intro n
  induction n with
  | zero => intro x1 w L h; exact h.elim
  | succ n ih => intro x1 w L h; exact k_X4_step_98s C ret ih x1 w L h
def B_X4_step_6s (r6 : Int32 → Wd → va_W → Prop) (N : Nat) (post : Wd → va_W → Prop) (x1 : Int32) (w : Wd) (L : va_W) : Prop :=
  ((xi w 11) ≤ x1 →
    B_X4_step_98 N post N 0 w L) ∧
  (¬ (xi w 11) ≤ x1 →
    B_X4_isThere N x1 (fun (v3 : Int32) (w1 : Wd) (L2 : va_W) =>
  (v3 = 0 →
      B_X4_step_90 r6 N post x1 w1 L2) ∧
    (¬ v3 = 0 →
      B_X4_worthOf N x1 100 (fun (v6 : Int32) (w4 : Wd) (L5 : va_W) =>
  vp_in x1 24 ∧ ∀ w7 : Wd, w7 = (xsA w4 27 x1.toNatClampNeg (if 0 < (if v6 < 9 then v6 else 9) then (if v6 < 9 then v6 else 9) else 0)) → B_X4_worthOf N x1 101 (fun (v10 : Int32) (w8 : Wd) (L9 : va_W) =>
  vp_in x1 24 ∧ ∀ w11 : Wd, w11 = (xsA w8 28 x1.toNatClampNeg (if 0 < v10 then v10 else 0)) → B_X4_worthOf N x1 115 (fun (v14 : Int32) (w12 : Wd) (L13 : va_W) =>
  vp_in x1 24 ∧ ∀ w15 : Wd, w15 = (xsA w12 29 x1.toNatClampNeg v14) → B_X4_worthOf N x1 99 (fun (v18 : Int32) (w16 : Wd) (L17 : va_W) =>
  vp_in x1 24 ∧ ∀ w19 : Wd, w19 = (xsA w16 30 x1.toNatClampNeg v18) → B_X4_step_90 r6 N post x1 w19 L17) w15 L13) w11 L9) w7 L5) w1 L2)) w L)
def B_X4_step_6 (N : Nat) (post : Wd → va_W → Prop) : Nat → Int32 → Wd → va_W → Prop
  | 0, _, _, _ => False
  | n + 1, x1, w, L => B_X4_step_6s (B_X4_step_6 N post n) N post x1 w L
set_option maxHeartbeats 4000000 in
theorem k_X4_step_6s {Γ : gT} {K : gK} {N : Nat} {post : Wd → va_W → Prop} (C : gC Γ K RX4 cX4_step 3 rm_X4_step) (ret : gRv Γ K cX4_step (none) (xPv K post) 0 0) {r6 : Int32 → Wd → va_W → Prop} (hr6 : ∀ (x1 : Int32) (w : Wd) (L : va_W), r6 x1 w L → gJ Γ K 0 0 (xL K w ++ L) 6 [(0, .ref (xa K 1)), (1, .int x1)] []) (x1 : Int32) (w : Wd) (L : va_W) (h : B_X4_step_6s r6 N post x1 w L) : gJ Γ K 0 0 (xL K w ++ L) 6 [(0, .ref (xa K 1)), (1, .int x1)] [] := by
  unfold B_X4_step_6s at h
  refine g_iload_n C 1 rfl dX4_step_6 ?_
  refine g_aload_n C 0 rfl dX4_step_7 ?_
  refine xg_c_many C q201 (xi w 11) rfl dX4_step_8 ?_
  refine g_icmp_ge C 96 dX4_step_11 (by decide) (fun hc => ?_) (fun hc => ?_)
  · replace h := h.1 hc
    refine g_iconst C 0 (by decide) dX4_step_96 ?_
    refine g_istore_n C rfl (lt := [(1, .int 0), (0, .ref (xa K 1))]) dX4_step_97 (by decide) rfl ?_
    refine g_sub [1, 0] rfl ?_
    exact k_X4_step_98 C ret N 0 w L h
  · replace h := h.2 hc
    refine g_aload_n C 0 rfl dX4_step_14 ?_
    refine g_iload_n C 1 rfl dX4_step_15 ?_
    refine g_callVi C (As := [.int x1]) (rest := []) (m_X4_isThere h) (lw_V q754 q755 q756 q83 q757) (ci := 1) (qi := 1) rfl rfl ⟨rfl, rfl⟩ ⟨Nat.le_of_ble_eq_true rfl, Nat.le_of_ble_eq_true rfl⟩ 1 rfl (by decide +kernel) rfl (Nat.le_of_ble_eq_true rfl) ⟨Nat.zero_le _, Nat.zero_le _⟩ dX4_step_16 ?_
    rintro v3 _ ⟨w1, L2, rfl, h⟩
    refine g_if_ne C 25 dX4_step_19 (by decide) (fun hc => ?_) (fun hc => ?_)
    · replace h := h.2 hc
      refine g_aload_n C 0 rfl dX4_step_25 ?_
      refine xg_c_digs C q222 dX4_step_26 ?_
      refine g_iload_n C 1 rfl dX4_step_29 ?_
      refine g_iconst C 0 (by decide) dX4_step_30 ?_
      refine g_bipush C 9 (by decide) dX4_step_31 ?_
      refine g_aload_n C 0 rfl dX4_step_33 ?_
      refine g_iload_n C 1 rfl dX4_step_34 ?_
      refine g_bipush C 100 (by decide) dX4_step_35 ?_
      refine g_callVi C (As := [.int x1, .int 100]) (rest := [.int 9, .int 0, .int x1, .ref (xa K 27)]) (m_X4_worthOf h) (lw_V q762 q763 q764 q83 q765) (ci := 1) (qi := 1) rfl rfl ⟨rfl, rfl⟩ ⟨Nat.le_of_ble_eq_true rfl, Nat.le_of_ble_eq_true rfl⟩ 2 rfl (by decide +kernel) rfl (Nat.le_of_ble_eq_true rfl) ⟨Nat.zero_le _, Nat.zero_le _⟩ dX4_step_37 ?_
      rintro v6 _ ⟨w4, L5, rfl, h⟩
      refine g_mmin C q852 q410 q87 q411 ⟨Nat.le_of_ble_eq_true rfl, (Nat.le_of_ble_eq_true rfl)⟩ ⟨Nat.zero_le _, Nat.zero_le _⟩ dX4_step_40 ?_
      refine g_mmax C q853 q407 q87 q408 ⟨Nat.le_of_ble_eq_true rfl, (Nat.le_of_ble_eq_true rfl)⟩ ⟨Nat.zero_le _, Nat.zero_le _⟩ dX4_step_43 ?_
      obtain ⟨hb, h⟩ := h
      refine xst_27 C hb dX4_step_46 ?_
      obtain ⟨w7, ew7⟩ : ∃ z, z = (xsA w4 27 x1.toNatClampNeg (if 0 < (if v6 < 9 then v6 else 9) then (if v6 < 9 then v6 else 9) else 0)) := ⟨_, rfl⟩
      replace h := h w7 ew7
      rw [← ew7]
      refine g_aload_n C 0 rfl dX4_step_47 ?_
      refine xg_c_eats C q223 dX4_step_48 ?_
      refine g_iload_n C 1 rfl dX4_step_51 ?_
      refine g_iconst C 0 (by decide) dX4_step_52 ?_
      refine g_aload_n C 0 rfl dX4_step_53 ?_
      refine g_iload_n C 1 rfl dX4_step_54 ?_
      refine g_bipush C 101 (by decide) dX4_step_55 ?_
      refine g_callVi C (As := [.int x1, .int 101]) (rest := [.int 0, .int x1, .ref (xa K 28)]) (m_X4_worthOf h) (lw_V q762 q763 q764 q83 q765) (ci := 1) (qi := 1) rfl rfl ⟨rfl, rfl⟩ ⟨Nat.le_of_ble_eq_true rfl, Nat.le_of_ble_eq_true rfl⟩ 2 rfl (by decide +kernel) rfl (Nat.le_of_ble_eq_true rfl) ⟨Nat.zero_le _, Nat.zero_le _⟩ dX4_step_57 ?_
      rintro v10 _ ⟨w8, L9, rfl, h⟩
      refine g_mmax C q853 q407 q87 q408 ⟨Nat.le_of_ble_eq_true rfl, (Nat.le_of_ble_eq_true rfl)⟩ ⟨Nat.zero_le _, Nat.zero_le _⟩ dX4_step_60 ?_
      obtain ⟨hb, h⟩ := h
      refine xst_28 C hb dX4_step_63 ?_
      obtain ⟨w11, ew11⟩ : ∃ z, z = (xsA w8 28 x1.toNatClampNeg (if 0 < v10 then v10 else 0)) := ⟨_, rfl⟩
      replace h := h w11 ew11
      rw [← ew11]
      refine g_aload_n C 0 rfl dX4_step_64 ?_
      refine xg_c_stays C q224 dX4_step_65 ?_
      refine g_iload_n C 1 rfl dX4_step_68 ?_
      refine g_aload_n C 0 rfl dX4_step_69 ?_
      refine g_iload_n C 1 rfl dX4_step_70 ?_
      refine g_bipush C 115 (by decide) dX4_step_71 ?_
      refine g_callVi C (As := [.int x1, .int 115]) (rest := [.int x1, .ref (xa K 29)]) (m_X4_worthOf h) (lw_V q762 q763 q764 q83 q765) (ci := 1) (qi := 1) rfl rfl ⟨rfl, rfl⟩ ⟨Nat.le_of_ble_eq_true rfl, Nat.le_of_ble_eq_true rfl⟩ 2 rfl (by decide +kernel) rfl (Nat.le_of_ble_eq_true rfl) ⟨Nat.zero_le _, Nat.zero_le _⟩ dX4_step_73 ?_
      rintro v14 _ ⟨w12, L13, rfl, h⟩
      obtain ⟨hb, h⟩ := h
      refine xst_29 C hb dX4_step_76 ?_
      obtain ⟨w15, ew15⟩ : ∃ z, z = (xsA w12 29 x1.toNatClampNeg v14) := ⟨_, rfl⟩
      replace h := h w15 ew15
      rw [← ew15]
      refine g_aload_n C 0 rfl dX4_step_77 ?_
      refine xg_c_fights C q225 dX4_step_78 ?_
      refine g_iload_n C 1 rfl dX4_step_81 ?_
      refine g_aload_n C 0 rfl dX4_step_82 ?_
      refine g_iload_n C 1 rfl dX4_step_83 ?_
      refine g_bipush C 99 (by decide) dX4_step_84 ?_
      refine g_callVi C (As := [.int x1, .int 99]) (rest := [.int x1, .ref (xa K 30)]) (m_X4_worthOf h) (lw_V q762 q763 q764 q83 q765) (ci := 1) (qi := 1) rfl rfl ⟨rfl, rfl⟩ ⟨Nat.le_of_ble_eq_true rfl, Nat.le_of_ble_eq_true rfl⟩ 2 rfl (by decide +kernel) rfl (Nat.le_of_ble_eq_true rfl) ⟨Nat.zero_le _, Nat.zero_le _⟩ dX4_step_86 ?_
      rintro v18 _ ⟨w16, L17, rfl, h⟩
      obtain ⟨hb, h⟩ := h
      refine xst_30 C hb dX4_step_89 ?_
      obtain ⟨w19, ew19⟩ : ∃ z, z = (xsA w16 30 x1.toNatClampNeg v18) := ⟨_, rfl⟩
      replace h := h w19 ew19
      rw [← ew19]
      exact k_X4_step_90 C ret hr6 x1 w19 L17 h
    · replace h := h.1 hc
      refine g_goto C 90 dX4_step_22 (by decide) ?_
      exact k_X4_step_90 C ret hr6 x1 w1 L2 h
theorem k_X4_step_6 {Γ : gT} {K : gK} {N : Nat} {post : Wd → va_W → Prop} (C : gC Γ K RX4 cX4_step 3 rm_X4_step) (ret : gRv Γ K cX4_step (none) (xPv K post) 0 0) : ∀ (n : Nat) (x1 : Int32) (w : Wd) (L : va_W) (h : B_X4_step_6 N post n x1 w L), gJ Γ K 0 0 (xL K w ++ L) 6 [(0, .ref (xa K 1)), (1, .int x1)] [] := by
  intro n
  induction n with
  | zero => intro x1 w L h; exact h.elim
  | succ n ih => intro x1 w L h; exact k_X4_step_6s C ret ih x1 w L h
def B_X4_step_0 (N : Nat) (post : Wd → va_W → Prop) (w : Wd) (L : va_W) : Prop :=
  B_X4_opens N (fun (w1 : Wd) (L2 : va_W) =>
  B_X4_step_6 N post N 0 w1 L2) w L
set_option maxHeartbeats 4000000 in
theorem k_X4_step_0 {Γ : gT} {K : gK} {N : Nat} {post : Wd → va_W → Prop} (C : gC Γ K RX4 cX4_step 3 rm_X4_step) (ret : gRv Γ K cX4_step (none) (xPv K post) 0 0) (w : Wd) (L : va_W) (h : B_X4_step_0 N post w L) : gJ Γ K 0 0 (xL K w ++ L) 0 [(0, .ref (xa K 1))] [] := by
  unfold B_X4_step_0 at h
  refine g_aload_n C 0 rfl dX4_step_0 ?_
  refine g_callVv C (As := []) (rest := []) (m_X4_opens h) (lw_V q746 q747 q748 q83 q749) (ci := 1) (qi := 1) rfl rfl ⟨rfl, rfl⟩ ⟨Nat.le_of_ble_eq_true rfl, Nat.le_of_ble_eq_true rfl⟩ 0 rfl (by decide +kernel) rfl (Nat.le_of_ble_eq_true rfl) ⟨Nat.zero_le _, Nat.zero_le _⟩ dX4_step_1 ?_
  rintro _ ⟨w1, L2, rfl, h⟩
  refine g_iconst C 0 (by decide) dX4_step_4 ?_
  refine g_istore_n C rfl (lt := [(1, .int 0), (0, .ref (xa K 1))]) dX4_step_5 (by decide) rfl ?_
  refine g_sub [1, 0] rfl ?_
  exact k_X4_step_6 C ret N 0 w1 L2 h
def B_X4_step (N : Nat) (post : Wd → va_W → Prop) (w : Wd) (L : va_W) : Prop := B_X4_step_0 N post w L
theorem m_X4_step {l : Launch} {K : gK} {N : Nat} {post : Wd → va_W → Prop} {w : Wd} {L : va_W} (h : B_X4_step N post w L) : gMv l K yX4_step cX4_step 3 (none) rm_X4_step [.ref (xa K 1)] (xL K w ++ L) (xPv K post) 0 0 := by
  refine g_inV (ls0 := [(0, .ref (xa K 1))]) (by decide) (Nat.le_of_ble_eq_true rfl) rfl (fun Γ hl C hn ret => ?_)
  exact k_X4_step_0 C ret w L h
def rm_X4_go : Room := { frames := 364, cells := 0, slots := 0, locals := 8770 }
def B_X4_go_2s (r2 : Int32 → Int32 → Wd → va_W → Prop) (N : Nat) (post : Wd → va_W → Prop) (x1 : Int32) (x2 : Int32) (w : Wd) (L : va_W) : Prop :=
  (x1 ≤ x2 →
    post w L) ∧
  (¬ x1 ≤ x2 →
    B_X4_step N (fun (w1 : Wd) (L2 : va_W) =>
  r2 x1 (x2 + 1) w1 L2) w L)
def B_X4_go_2 (N : Nat) (post : Wd → va_W → Prop) : Nat → Int32 → Int32 → Wd → va_W → Prop
  | 0, _, _, _, _ => False
  | n + 1, x1, x2, w, L => B_X4_go_2s (B_X4_go_2 N post n) N post x1 x2 w L
set_option maxHeartbeats 4000000 in
theorem k_X4_go_2s {Γ : gT} {K : gK} {N : Nat} {post : Wd → va_W → Prop} (C : gC Γ K RX4 cX4_go 3 rm_X4_go) (ret : gRv Γ K cX4_go (none) (xPv K post) 0 0) {r2 : Int32 → Int32 → Wd → va_W → Prop} (hr2 : ∀ (x1 : Int32) (x2 : Int32) (w : Wd) (L : va_W), r2 x1 x2 w L → gJ Γ K 0 0 (xL K w ++ L) 2 [(0, .ref (xa K 1)), (1, .int x1), (2, .int x2)] []) (x1 : Int32) (x2 : Int32) (w : Wd) (L : va_W) (h : B_X4_go_2s r2 N post x1 x2 w L) : gJ Γ K 0 0 (xL K w ++ L) 2 [(0, .ref (xa K 1)), (1, .int x1), (2, .int x2)] [] := by
  unfold B_X4_go_2s at h
  refine g_iload_n C 2 rfl dX4_go_2 ?_
  refine g_iload_n C 1 rfl dX4_go_3 ?_
  refine g_icmp_ge C 17 dX4_go_4 (by decide) (fun hc => ?_) (fun hc => ?_)
  · replace h := h.1 hc
    exact ret rfl _ _ _ dX4_go_17 ⟨_, _, rfl, h⟩
  · replace h := h.2 hc
    refine g_aload_n C 0 rfl dX4_go_7 ?_
    refine g_callVv C (As := []) (rest := []) (m_X4_step h) (lw_V q742 q743 q744 q83 q745) (ci := 1) (qi := 1) rfl rfl ⟨rfl, rfl⟩ ⟨Nat.le_of_ble_eq_true rfl, Nat.le_of_ble_eq_true rfl⟩ 0 rfl (by decide +kernel) rfl (Nat.le_of_ble_eq_true rfl) ⟨Nat.zero_le _, Nat.zero_le _⟩ dX4_go_8 ?_
    rintro _ ⟨w1, L2, rfl, h⟩
    refine g_iinc C 2 (x2 + 1) (lt := [(2, .int (x2 + 1)), (0, .ref (xa K 1)), (1, .int x1)]) rfl rfl dX4_go_11 (by decide) rfl ?_
    refine g_goto C 2 dX4_go_14 (by decide) ?_
    refine g_sub [1, 2, 0] rfl ?_
    exact hr2 x1 (x2 + 1) w1 L2 h
theorem k_X4_go_2 {Γ : gT} {K : gK} {N : Nat} {post : Wd → va_W → Prop} (C : gC Γ K RX4 cX4_go 3 rm_X4_go) (ret : gRv Γ K cX4_go (none) (xPv K post) 0 0) : ∀ (n : Nat) (x1 : Int32) (x2 : Int32) (w : Wd) (L : va_W) (h : B_X4_go_2 N post n x1 x2 w L), gJ Γ K 0 0 (xL K w ++ L) 2 [(0, .ref (xa K 1)), (1, .int x1), (2, .int x2)] [] := by
  intro n
  induction n with
  | zero => intro x1 x2 w L h; exact h.elim
  | succ n ih => intro x1 x2 w L h; exact k_X4_go_2s C ret ih x1 x2 w L h
def B_X4_go_0 (N : Nat) (post : Wd → va_W → Prop) (x1 : Int32) (w : Wd) (L : va_W) : Prop :=
  B_X4_go_2 N post N x1 0 w L
set_option maxHeartbeats 4000000 in
theorem k_X4_go_0 {Γ : gT} {K : gK} {N : Nat} {post : Wd → va_W → Prop} (C : gC Γ K RX4 cX4_go 3 rm_X4_go) (ret : gRv Γ K cX4_go (none) (xPv K post) 0 0) (x1 : Int32) (w : Wd) (L : va_W) (h : B_X4_go_0 N post x1 w L) : gJ Γ K 0 0 (xL K w ++ L) 0 [(0, .ref (xa K 1)), (1, .int x1)] [] := by
  unfold B_X4_go_0 at h
  refine g_iconst C 0 (by decide) dX4_go_0 ?_
  refine g_istore_n C rfl (lt := [(2, .int 0), (0, .ref (xa K 1)), (1, .int x1)]) dX4_go_1 (by decide) rfl ?_
  refine g_sub [1, 2, 0] rfl ?_
  exact k_X4_go_2 C ret N x1 0 w L h
def B_X4_go (N : Nat) (x1 : Int32) (post : Wd → va_W → Prop) (w : Wd) (L : va_W) : Prop := B_X4_go_0 N post x1 w L
theorem m_X4_go {l : Launch} {K : gK} {N : Nat} {post : Wd → va_W → Prop} {x1 : Int32} {w : Wd} {L : va_W} (h : B_X4_go N x1 post w L) : gMv l K yX4_go cX4_go 3 (none) rm_X4_go [.ref (xa K 1), .int x1] (xL K w ++ L) (xPv K post) 0 0 := by
  refine g_inV (ls0 := [(0, .ref (xa K 1)), (1, .int x1)]) (by decide) (Nat.le_of_ble_eq_true rfl) rfl (fun Γ hl C hn ret => ?_)
  exact k_X4_go_0 C ret x1 w L h
