set_option maxRecDepth 100000
def rm_X5_layKins : Room := { frames := 0, cells := 0, slots := 0, locals := 0 }
def B_X5_layKins_83 (r2 : Int32 → Int32 → Wd → va_W → Prop) (r26 : Int32 → Int32 → Int32 → Int32 → Wd → va_W → Prop) (N : Nat) (post : Wd → va_W → Prop) (x1 : Int32) (x2 : Int32) (x3 : Int32) (x4 : Int32) (s0 : Int64) (w : Wd) (L : va_W) : Prop :=
  vp_in ((24 * x4) + x2) 576 ∧ ∀ w1 : Wd, w1 = (xsM w 10 ((24 * x4) + x2).toNatClampNeg s0) → vp_in ((24 * x2) + x4) 576 ∧ ∀ w2 : Wd, w2 = (xsM w1 10 ((24 * x2) + x4).toNatClampNeg s0) → r26 x1 x2 x3 (x4 + 1) w2 L
set_option maxHeartbeats 4000000 in
theorem k_X5_layKins_83 {Γ : gT} {K : gK} {N : Nat} {post : Wd → va_W → Prop} (C : gC Γ K RX5 cX5_layKins 7 rm_X5_layKins) (ret : gRv Γ K cX5_layKins (none) (mPv K post) 0 0) {r2 : Int32 → Int32 → Wd → va_W → Prop} (hr2 : ∀ (x1 : Int32) (x2 : Int32) (w : Wd) (L : va_W), r2 x1 x2 w L → gJ Γ K 0 0 (mL K w ++ L) 2 [(0, .ref (ma K 0)), (1, .int x1), (2, .int x2)] []) {r26 : Int32 → Int32 → Int32 → Int32 → Wd → va_W → Prop} (hr26 : ∀ (x1 : Int32) (x2 : Int32) (x3 : Int32) (x4 : Int32) (w : Wd) (L : va_W), r26 x1 x2 x3 x4 w L → gJ Γ K 0 0 (mL K w ++ L) 26 [(0, .ref (ma K 0)), (1, .int x1), (2, .int x2), (3, .int x3), (4, .int x4)] []) (x1 : Int32) (x2 : Int32) (x3 : Int32) (x4 : Int32) (s0 : Int64) (w : Wd) (L : va_W) (h : B_X5_layKins_83 r2 r26 N post x1 x2 x3 x4 s0 w L) : gJ Γ K 0 0 (mL K w ++ L) 83 [(0, .ref (ma K 0)), (1, .int x1), (2, .int x2), (3, .int x3), (4, .int x4)] [.long s0] := by
  unfold B_X5_layKins_83 at h
  refine g_lstore C (lt := [(5, .long s0), (0, .ref (ma K 0)), (1, .int x1), (2, .int x2), (3, .int x3), (4, .int x4)]) dX5_layKins_83 (by decide) rfl ?_
  refine g_aload_n C 1 rfl dX5_layKins_85 ?_
  refine mg_kins C q1020 dX5_layKins_86 ?_
  refine g_bipush C 24 (by decide) dX5_layKins_89 ?_
  refine g_iload C 5 rfl dX5_layKins_91 ?_
  refine g_imul C dX5_layKins_93 ?_
  refine g_iload_n C 3 rfl dX5_layKins_94 ?_
  refine g_iadd C dX5_layKins_95 ?_
  refine g_lload C 0 rfl dX5_layKins_96 ?_
  obtain ⟨hb, h⟩ := h
  refine mst_10 C hb dX5_layKins_98 ?_
  obtain ⟨w1, ew1⟩ : ∃ z, z = (xsM w 10 ((24 * x4) + x2).toNatClampNeg s0) := ⟨_, rfl⟩
  replace h := h w1 ew1
  rw [← ew1]
  refine g_aload_n C 1 rfl dX5_layKins_99 ?_
  refine mg_kins C q1020 dX5_layKins_100 ?_
  refine g_bipush C 24 (by decide) dX5_layKins_103 ?_
  refine g_iload_n C 3 rfl dX5_layKins_105 ?_
  refine g_imul C dX5_layKins_106 ?_
  refine g_iload C 5 rfl dX5_layKins_107 ?_
  refine g_iadd C dX5_layKins_109 ?_
  refine g_lload C 0 rfl dX5_layKins_110 ?_
  obtain ⟨hb, h⟩ := h
  refine mst_10 C hb dX5_layKins_112 ?_
  obtain ⟨w2, ew2⟩ : ∃ z, z = (xsM w1 10 ((24 * x2) + x4).toNatClampNeg s0) := ⟨_, rfl⟩
  replace h := h w2 ew2
  rw [← ew2]
  refine g_iinc C 5 (x4 + 1) (lt := [(4, .int (x4 + 1)), (5, .long s0), (0, .ref (ma K 0)), (1, .int x1), (2, .int x2), (3, .int x3)]) rfl rfl dX5_layKins_113 (by decide) rfl ?_
  refine g_goto C 26 dX5_layKins_116 (by decide) ?_
  refine g_sub [2, 3, 4, 5, 0] rfl ?_
  exact hr26 x1 x2 x3 (x4 + 1) w2 L h
def B_X5_layKins_165 (r2 : Int32 → Int32 → Wd → va_W → Prop) (N : Nat) (post : Wd → va_W → Prop) (x1 : Int32) (x2 : Int32) (s0 : Int64) (s1 : Int64) (s2 : Int32) (w : Wd) (L : va_W) : Prop :=
  vp_in s2 576 ∧ ∀ w1 : Wd, w1 = (xsM w 10 s2.toNatClampNeg (s1 + s0)) → r2 x1 (x2 + 1) w1 L
set_option maxHeartbeats 4000000 in
theorem k_X5_layKins_165 {Γ : gT} {K : gK} {N : Nat} {post : Wd → va_W → Prop} (C : gC Γ K RX5 cX5_layKins 7 rm_X5_layKins) (ret : gRv Γ K cX5_layKins (none) (mPv K post) 0 0) {r2 : Int32 → Int32 → Wd → va_W → Prop} (hr2 : ∀ (x1 : Int32) (x2 : Int32) (w : Wd) (L : va_W), r2 x1 x2 w L → gJ Γ K 0 0 (mL K w ++ L) 2 [(0, .ref (ma K 0)), (1, .int x1), (2, .int x2)] []) (x1 : Int32) (x2 : Int32) (s0 : Int64) (s1 : Int64) (s2 : Int32) (w : Wd) (L : va_W) (h : B_X5_layKins_165 r2 N post x1 x2 s0 s1 s2 w L) : gJ Γ K 0 0 (mL K w ++ L) 165 [(0, .ref (ma K 0)), (1, .int x1), (2, .int x2)] [.long s0, .long s1, .int s2, .ref (ma K 10)] := by
  unfold B_X5_layKins_165 at h
  refine g_ladd C dX5_layKins_165 ?_
  obtain ⟨hb, h⟩ := h
  refine mst_10 C hb dX5_layKins_166 ?_
  obtain ⟨w1, ew1⟩ : ∃ z, z = (xsM w 10 s2.toNatClampNeg (s1 + s0)) := ⟨_, rfl⟩
  replace h := h w1 ew1
  rw [← ew1]
  refine g_iinc C 2 (x2 + 1) (lt := [(2, .int (x2 + 1)), (0, .ref (ma K 0)), (1, .int x1)]) rfl rfl dX5_layKins_167 (by decide) rfl ?_
  refine g_goto C 2 dX5_layKins_170 (by decide) ?_
  refine g_sub [1, 2, 0] rfl ?_
  exact hr2 x1 (x2 + 1) w1 L h
def B_X5_layKins_26s (r2 : Int32 → Int32 → Wd → va_W → Prop) (r26 : Int32 → Int32 → Int32 → Int32 → Wd → va_W → Prop) (N : Nat) (post : Wd → va_W → Prop) (x1 : Int32) (x2 : Int32) (x3 : Int32) (x4 : Int32) (w : Wd) (L : va_W) : Prop :=
  (x2 ≤ x4 →
    (x3 = 0 →
      vp_in x2 24 ∧ vp_in x2 24 ∧ vp_in ((24 * (xA w 8 x2.toNatClampNeg)) + (xA w 9 x2.toNatClampNeg)) 576 ∧ B_X5_layKins_165 r2 N post x1 x2 ((xM w 10 ((24 * (xA w 8 x2.toNatClampNeg)) + (xA w 9 x2.toNatClampNeg)).toNatClampNeg) / 2) 576460752303423488 ((24 * x2) + x2) w L) ∧
    (¬ x3 = 0 →
      B_X5_layKins_165 r2 N post x1 x2 0 576460752303423488 ((24 * x2) + x2) w L)) ∧
  (¬ x2 ≤ x4 →
    (x3 = 0 →
      vp_in x2 24 ∧ vp_in ((24 * x4) + (xA w 8 x2.toNatClampNeg)) 576 ∧ vp_in x2 24 ∧ vp_in ((24 * x4) + (xA w 9 x2.toNatClampNeg)) 576 ∧ B_X5_layKins_83 r2 r26 N post x1 x2 x3 x4 (((xM w 10 ((24 * x4) + (xA w 8 x2.toNatClampNeg)).toNatClampNeg) / 2) + ((xM w 10 ((24 * x4) + (xA w 9 x2.toNatClampNeg)).toNatClampNeg) / 2)) w L) ∧
    (¬ x3 = 0 →
      B_X5_layKins_83 r2 r26 N post x1 x2 x3 x4 0 w L))
def B_X5_layKins_26 (r2 : Int32 → Int32 → Wd → va_W → Prop) (N : Nat) (post : Wd → va_W → Prop) : Nat → Int32 → Int32 → Int32 → Int32 → Wd → va_W → Prop
  | 0, _, _, _, _, _, _ => False
  | n + 1, x1, x2, x3, x4, w, L => B_X5_layKins_26s r2 (B_X5_layKins_26 r2 N post n) N post x1 x2 x3 x4 w L
set_option maxHeartbeats 4000000 in
theorem k_X5_layKins_26s {Γ : gT} {K : gK} {N : Nat} {post : Wd → va_W → Prop} (C : gC Γ K RX5 cX5_layKins 7 rm_X5_layKins) (ret : gRv Γ K cX5_layKins (none) (mPv K post) 0 0) {r2 : Int32 → Int32 → Wd → va_W → Prop} (hr2 : ∀ (x1 : Int32) (x2 : Int32) (w : Wd) (L : va_W), r2 x1 x2 w L → gJ Γ K 0 0 (mL K w ++ L) 2 [(0, .ref (ma K 0)), (1, .int x1), (2, .int x2)] []) {r26 : Int32 → Int32 → Int32 → Int32 → Wd → va_W → Prop} (hr26 : ∀ (x1 : Int32) (x2 : Int32) (x3 : Int32) (x4 : Int32) (w : Wd) (L : va_W), r26 x1 x2 x3 x4 w L → gJ Γ K 0 0 (mL K w ++ L) 26 [(0, .ref (ma K 0)), (1, .int x1), (2, .int x2), (3, .int x3), (4, .int x4)] []) (x1 : Int32) (x2 : Int32) (x3 : Int32) (x4 : Int32) (w : Wd) (L : va_W) (h : B_X5_layKins_26s r2 r26 N post x1 x2 x3 x4 w L) : gJ Γ K 0 0 (mL K w ++ L) 26 [(0, .ref (ma K 0)), (1, .int x1), (2, .int x2), (3, .int x3), (4, .int x4)] [] := by
  unfold B_X5_layKins_26s at h
  refine g_iload C 4 rfl dX5_layKins_26 ?_
  refine g_iload_n C 2 rfl dX5_layKins_28 ?_
  refine g_icmp_ge C 119 dX5_layKins_29 (by decide) (fun hc => ?_) (fun hc => ?_)
  · replace h := h.1 hc
    refine g_aload_n C 0 rfl dX5_layKins_119 ?_
    refine mg_kins C q1020 dX5_layKins_120 ?_
    refine g_bipush C 24 (by decide) dX5_layKins_123 ?_
    refine g_iload_n C 2 rfl dX5_layKins_125 ?_
    refine g_imul C dX5_layKins_126 ?_
    refine g_iload_n C 2 rfl dX5_layKins_127 ?_
    refine g_iadd C dX5_layKins_128 ?_
    refine g_ldc2 C (v := 576460752303423488) q1295 dX5_layKins_129 ?_
    refine g_iload_n C 3 rfl dX5_layKins_132 ?_
    refine g_if_eq C 140 dX5_layKins_133 (by decide) (fun hc => ?_) (fun hc => ?_)
    · replace h := h.1 hc
      refine g_aload_n C 0 rfl dX5_layKins_140 ?_
      refine mg_kins C q1020 dX5_layKins_141 ?_
      refine g_bipush C 24 (by decide) dX5_layKins_144 ?_
      refine g_aload_n C 0 rfl dX5_layKins_146 ?_
      refine mg_dam C q1018 dX5_layKins_147 ?_
      refine g_iload_n C 2 rfl dX5_layKins_150 ?_
      obtain ⟨hb, h⟩ := h
      refine mld_8 C hb (xA w 8 x2.toNatClampNeg) rfl dX5_layKins_151 ?_
      refine g_imul C dX5_layKins_152 ?_
      refine g_aload_n C 0 rfl dX5_layKins_153 ?_
      refine mg_sire C q1019 dX5_layKins_154 ?_
      refine g_iload_n C 2 rfl dX5_layKins_157 ?_
      obtain ⟨hb, h⟩ := h
      refine mld_9 C hb (xA w 9 x2.toNatClampNeg) rfl dX5_layKins_158 ?_
      refine g_iadd C dX5_layKins_159 ?_
      obtain ⟨hb, h⟩ := h
      refine mld_10 C hb (xM w 10 ((24 * (xA w 8 x2.toNatClampNeg)) + (xA w 9 x2.toNatClampNeg)).toNatClampNeg) rfl dX5_layKins_160 ?_
      refine g_ldc2 C (v := 2) q1294 dX5_layKins_161 ?_
      refine g_ldiv C (by decide) dX5_layKins_164 ?_
      refine g_sub [0, 1, 2] rfl ?_
      exact k_X5_layKins_165 C ret hr2 x1 x2 ((xM w 10 ((24 * (xA w 8 x2.toNatClampNeg)) + (xA w 9 x2.toNatClampNeg)).toNatClampNeg) / 2) 576460752303423488 ((24 * x2) + x2) w L h
    · replace h := h.2 hc
      refine g_lconst C 0 (by decide) dX5_layKins_136 ?_
      refine g_goto C 165 dX5_layKins_137 (by decide) ?_
      refine g_sub [0, 1, 2] rfl ?_
      exact k_X5_layKins_165 C ret hr2 x1 x2 0 576460752303423488 ((24 * x2) + x2) w L h
  · replace h := h.2 hc
    refine g_iload_n C 3 rfl dX5_layKins_32 ?_
    refine g_if_eq C 40 dX5_layKins_33 (by decide) (fun hc => ?_) (fun hc => ?_)
    · replace h := h.1 hc
      refine g_aload_n C 0 rfl dX5_layKins_40 ?_
      refine mg_kins C q1020 dX5_layKins_41 ?_
      refine g_bipush C 24 (by decide) dX5_layKins_44 ?_
      refine g_iload C 4 rfl dX5_layKins_46 ?_
      refine g_imul C dX5_layKins_48 ?_
      refine g_aload_n C 0 rfl dX5_layKins_49 ?_
      refine mg_dam C q1018 dX5_layKins_50 ?_
      refine g_iload_n C 2 rfl dX5_layKins_53 ?_
      obtain ⟨hb, h⟩ := h
      refine mld_8 C hb (xA w 8 x2.toNatClampNeg) rfl dX5_layKins_54 ?_
      refine g_iadd C dX5_layKins_55 ?_
      obtain ⟨hb, h⟩ := h
      refine mld_10 C hb (xM w 10 ((24 * x4) + (xA w 8 x2.toNatClampNeg)).toNatClampNeg) rfl dX5_layKins_56 ?_
      refine g_ldc2 C (v := 2) q1294 dX5_layKins_57 ?_
      refine g_ldiv C (by decide) dX5_layKins_60 ?_
      refine g_aload_n C 0 rfl dX5_layKins_61 ?_
      refine mg_kins C q1020 dX5_layKins_62 ?_
      refine g_bipush C 24 (by decide) dX5_layKins_65 ?_
      refine g_iload C 4 rfl dX5_layKins_67 ?_
      refine g_imul C dX5_layKins_69 ?_
      refine g_aload_n C 0 rfl dX5_layKins_70 ?_
      refine mg_sire C q1019 dX5_layKins_71 ?_
      refine g_iload_n C 2 rfl dX5_layKins_74 ?_
      obtain ⟨hb, h⟩ := h
      refine mld_9 C hb (xA w 9 x2.toNatClampNeg) rfl dX5_layKins_75 ?_
      refine g_iadd C dX5_layKins_76 ?_
      obtain ⟨hb, h⟩ := h
      refine mld_10 C hb (xM w 10 ((24 * x4) + (xA w 9 x2.toNatClampNeg)).toNatClampNeg) rfl dX5_layKins_77 ?_
      refine g_ldc2 C (v := 2) q1294 dX5_layKins_78 ?_
      refine g_ldiv C (by decide) dX5_layKins_81 ?_
      refine g_ladd C dX5_layKins_82 ?_
      exact k_X5_layKins_83 C ret hr2 hr26 x1 x2 x3 x4 (((xM w 10 ((24 * x4) + (xA w 8 x2.toNatClampNeg)).toNatClampNeg) / 2) + ((xM w 10 ((24 * x4) + (xA w 9 x2.toNatClampNeg)).toNatClampNeg) / 2)) w L h
    · replace h := h.2 hc
      refine g_lconst C 0 (by decide) dX5_layKins_36 ?_
      refine g_goto C 83 dX5_layKins_37 (by decide) ?_
      exact k_X5_layKins_83 C ret hr2 hr26 x1 x2 x3 x4 0 w L h
theorem k_X5_layKins_26 {Γ : gT} {K : gK} {N : Nat} {post : Wd → va_W → Prop} (C : gC Γ K RX5 cX5_layKins 7 rm_X5_layKins) (ret : gRv Γ K cX5_layKins (none) (mPv K post) 0 0) {r2 : Int32 → Int32 → Wd → va_W → Prop} (hr2 : ∀ (x1 : Int32) (x2 : Int32) (w : Wd) (L : va_W), r2 x1 x2 w L → gJ Γ K 0 0 (mL K w ++ L) 2 [(0, .ref (ma K 0)), (1, .int x1), (2, .int x2)] []) : ∀ (n : Nat) (x1 : Int32) (x2 : Int32) (x3 : Int32) (x4 : Int32) (w : Wd) (L : va_W) (h : B_X5_layKins_26 r2 N post n x1 x2 x3 x4 w L), gJ Γ K 0 0 (mL K w ++ L) 26 [(0, .ref (ma K 0)), (1, .int x1), (2, .int x2), (3, .int x3), (4, .int x4)] [] := by
  intro n
  induction n with
  | zero => intro x1 x2 x3 x4 w L h; exact h.elim
  | succ n ih => intro x1 x2 x3 x4 w L h; exact k_X5_layKins_26s C ret hr2 ih x1 x2 x3 x4 w L h
def B_X5_layKins_22 (r2 : Int32 → Int32 → Wd → va_W → Prop) (N : Nat) (post : Wd → va_W → Prop) (x1 : Int32) (x2 : Int32) (s0 : Int32) (w : Wd) (L : va_W) : Prop :=
  B_X5_layKins_26 r2 N post N x1 x2 s0 0 w L
set_option maxHeartbeats 4000000 in
theorem k_X5_layKins_22 {Γ : gT} {K : gK} {N : Nat} {post : Wd → va_W → Prop} (C : gC Γ K RX5 cX5_layKins 7 rm_X5_layKins) (ret : gRv Γ K cX5_layKins (none) (mPv K post) 0 0) {r2 : Int32 → Int32 → Wd → va_W → Prop} (hr2 : ∀ (x1 : Int32) (x2 : Int32) (w : Wd) (L : va_W), r2 x1 x2 w L → gJ Γ K 0 0 (mL K w ++ L) 2 [(0, .ref (ma K 0)), (1, .int x1), (2, .int x2)] []) (x1 : Int32) (x2 : Int32) (s0 : Int32) (w : Wd) (L : va_W) (h : B_X5_layKins_22 r2 N post x1 x2 s0 w L) : gJ Γ K 0 0 (mL K w ++ L) 22 [(0, .ref (ma K 0)), (1, .int x1), (2, .int x2)] [.int s0] := by
  unfold B_X5_layKins_22 at h
  refine g_istore_n C rfl (lt := [(3, .int s0), (0, .ref (ma K 0)), (1, .int x1), (2, .int x2)]) dX5_layKins_22 (by decide) rfl ?_
  refine g_iconst C 0 (by decide) dX5_layKins_23 ?_
  refine g_istore C (lt := [(4, .int 0), (3, .int s0), (0, .ref (ma K 0)), (1, .int x1), (2, .int x2)]) dX5_layKins_24 (by decide) rfl ?_
  refine g_sub [2, 3, 4, 1, 0] rfl ?_
  exact k_X5_layKins_26 C ret hr2 N x1 x2 s0 0 w L h
def B_X5_layKins_2s (r2 : Int32 → Int32 → Wd → va_W → Prop) (N : Nat) (post : Wd → va_W → Prop) (x1 : Int32) (x2 : Int32) (w : Wd) (L : va_W) : Prop :=
  (x1 ≤ x2 →
    post w L) ∧
  (¬ x1 ≤ x2 →
    vp_in x2 24 ∧ ((xA w 8 x2.toNatClampNeg) = (-1 : Int32) →
      B_X5_layKins_22 r2 N post x1 x2 1 w L) ∧
    (¬ (xA w 8 x2.toNatClampNeg) = (-1 : Int32) →
      B_X5_layKins_22 r2 N post x1 x2 0 w L))
def B_X5_layKins_2 (N : Nat) (post : Wd → va_W → Prop) : Nat → Int32 → Int32 → Wd → va_W → Prop
  | 0, _, _, _, _ => False
  | n + 1, x1, x2, w, L => B_X5_layKins_2s (B_X5_layKins_2 N post n) N post x1 x2 w L
set_option maxHeartbeats 4000000 in
theorem k_X5_layKins_2s {Γ : gT} {K : gK} {N : Nat} {post : Wd → va_W → Prop} (C : gC Γ K RX5 cX5_layKins 7 rm_X5_layKins) (ret : gRv Γ K cX5_layKins (none) (mPv K post) 0 0) {r2 : Int32 → Int32 → Wd → va_W → Prop} (hr2 : ∀ (x1 : Int32) (x2 : Int32) (w : Wd) (L : va_W), r2 x1 x2 w L → gJ Γ K 0 0 (mL K w ++ L) 2 [(0, .ref (ma K 0)), (1, .int x1), (2, .int x2)] []) (x1 : Int32) (x2 : Int32) (w : Wd) (L : va_W) (h : B_X5_layKins_2s r2 N post x1 x2 w L) : gJ Γ K 0 0 (mL K w ++ L) 2 [(0, .ref (ma K 0)), (1, .int x1), (2, .int x2)] [] := by
  unfold B_X5_layKins_2s at h
  refine g_iload_n C 2 rfl dX5_layKins_2 ?_
  refine g_iload_n C 1 rfl dX5_layKins_3 ?_
  refine g_icmp_ge C 173 dX5_layKins_4 (by decide) (fun hc => ?_) (fun hc => ?_)
  · replace h := h.1 hc
    exact ret rfl _ _ _ dX5_layKins_173 ⟨_, _, rfl, h⟩
  · replace h := h.2 hc
    refine g_aload_n C 0 rfl dX5_layKins_7 ?_
    refine mg_dam C q1018 dX5_layKins_8 ?_
    refine g_iload_n C 2 rfl dX5_layKins_11 ?_
    obtain ⟨hb, h⟩ := h
    refine mld_8 C hb (xA w 8 x2.toNatClampNeg) rfl dX5_layKins_12 ?_
    refine g_iconst C (-1) (by decide) dX5_layKins_13 ?_
    refine g_icmp_ne C 21 dX5_layKins_14 (by decide) (fun hc => ?_) (fun hc => ?_)
    · replace h := h.2 hc
      refine g_iconst C 0 (by decide) dX5_layKins_21 ?_
      exact k_X5_layKins_22 C ret hr2 x1 x2 0 w L h
    · replace h := h.1 hc
      refine g_iconst C 1 (by decide) dX5_layKins_17 ?_
      refine g_goto C 22 dX5_layKins_18 (by decide) ?_
      exact k_X5_layKins_22 C ret hr2 x1 x2 1 w L h
theorem k_X5_layKins_2 {Γ : gT} {K : gK} {N : Nat} {post : Wd → va_W → Prop} (C : gC Γ K RX5 cX5_layKins 7 rm_X5_layKins) (ret : gRv Γ K cX5_layKins (none) (mPv K post) 0 0) : ∀ (n : Nat) (x1 : Int32) (x2 : Int32) (w : Wd) (L : va_W) (h : B_X5_layKins_2 N post n x1 x2 w L), gJ Γ K 0 0 (mL K w ++ L) 2 [(0, .ref (ma K 0)), (1, .int x1), (2, .int x2)] [] := by
  intro n
  induction n with
  | zero => intro x1 x2 w L h; exact h.elim
  | succ n ih => intro x1 x2 w L h; exact k_X5_layKins_2s C ret ih x1 x2 w L h
def B_X5_layKins_0 (N : Nat) (post : Wd → va_W → Prop) (x1 : Int32) (w : Wd) (L : va_W) : Prop :=
  B_X5_layKins_2 N post N x1 0 w L
set_option maxHeartbeats 4000000 in
theorem k_X5_layKins_0 {Γ : gT} {K : gK} {N : Nat} {post : Wd → va_W → Prop} (C : gC Γ K RX5 cX5_layKins 7 rm_X5_layKins) (ret : gRv Γ K cX5_layKins (none) (mPv K post) 0 0) (x1 : Int32) (w : Wd) (L : va_W) (h : B_X5_layKins_0 N post x1 w L) : gJ Γ K 0 0 (mL K w ++ L) 0 [(0, .ref (ma K 0)), (1, .int x1)] [] := by
  unfold B_X5_layKins_0 at h
  refine g_iconst C 0 (by decide) dX5_layKins_0 ?_
  refine g_istore_n C rfl (lt := [(2, .int 0), (0, .ref (ma K 0)), (1, .int x1)]) dX5_layKins_1 (by decide) rfl ?_
  refine g_sub [1, 2, 0] rfl ?_
  exact k_X5_layKins_2 C ret N x1 0 w L h
def B_X5_layKins (N : Nat) (x1 : Int32) (post : Wd → va_W → Prop) (w : Wd) (L : va_W) : Prop := B_X5_layKins_0 N post x1 w L
theorem m_X5_layKins {l : Launch} {K : gK} {N : Nat} {post : Wd → va_W → Prop} {x1 : Int32} {w : Wd} {L : va_W} (h : B_X5_layKins N x1 post w L) : gMv l K yX5_layKins cX5_layKins 7 (none) rm_X5_layKins [.ref (ma K 0), .int x1] (mL K w ++ L) (mPv K post) 0 0 := by
  refine g_inV (ls0 := [(0, .ref (ma K 0)), (1, .int x1)]) (by decide) (Nat.le_of_ble_eq_true rfl) rfl (fun Γ hl C hn ret => ?_)
  exact k_X5_layKins_0 C ret x1 w L h
def rm_X5_kinOf : Room := { frames := 0, cells := 0, slots := 0, locals := 0 }
def B_X5_kinOf_0 (N : Nat) (post : Int64 → Wd → va_W → Prop) (x1 : Int32) (x2 : Int32) (w : Wd) (L : va_W) : Prop :=
  vp_in ((24 * x1) + x2) 576 ∧ post (xM w 10 ((24 * x1) + x2).toNatClampNeg) w L
set_option maxHeartbeats 4000000 in
theorem k_X5_kinOf_0 {Γ : gT} {K : gK} {N : Nat} {post : Int64 → Wd → va_W → Prop} (C : gC Γ K RX5 cX5_kinOf 3 rm_X5_kinOf) (ret : gRl Γ K cX5_kinOf (some .long) (mPl K post) 0 0) (x1 : Int32) (x2 : Int32) (w : Wd) (L : va_W) (h : B_X5_kinOf_0 N post x1 x2 w L) : gJ Γ K 0 0 (mL K w ++ L) 0 [(0, .ref (ma K 0)), (1, .int x1), (2, .int x2)] [] := by
  unfold B_X5_kinOf_0 at h
  refine g_aload_n C 0 rfl dX5_kinOf_0 ?_
  refine mg_kins C q1020 dX5_kinOf_1 ?_
  refine g_bipush C 24 (by decide) dX5_kinOf_4 ?_
  refine g_iload_n C 1 rfl dX5_kinOf_6 ?_
  refine g_imul C dX5_kinOf_7 ?_
  refine g_iload_n C 2 rfl dX5_kinOf_8 ?_
  refine g_iadd C dX5_kinOf_9 ?_
  obtain ⟨hb, h⟩ := h
  refine mld_10 C hb (xM w 10 ((24 * x1) + x2).toNatClampNeg) rfl dX5_kinOf_10 ?_
  exact ret rfl _ _ _ _ dX5_kinOf_11 ⟨_, _, rfl, h⟩
def B_X5_kinOf (N : Nat) (x1 : Int32) (x2 : Int32) (post : Int64 → Wd → va_W → Prop) (w : Wd) (L : va_W) : Prop := B_X5_kinOf_0 N post x1 x2 w L
theorem m_X5_kinOf {l : Launch} {K : gK} {N : Nat} {post : Int64 → Wd → va_W → Prop} {x1 : Int32} {x2 : Int32} {w : Wd} {L : va_W} (h : B_X5_kinOf N x1 x2 post w L) : gMl l K yX5_kinOf cX5_kinOf 3 (some .long) rm_X5_kinOf [.ref (ma K 0), .int x1, .int x2] (mL K w ++ L) (mPl K post) 0 0 := by
  refine g_inL (ls0 := [(0, .ref (ma K 0)), (1, .int x1), (2, .int x2)]) (by decide) (Nat.le_of_ble_eq_true rfl) rfl (fun Γ hl C hn ret => ?_)
  exact k_X5_kinOf_0 C ret x1 x2 w L h
def rm_X5_kinWithYoung : Room := { frames := 1, cells := 0, slots := 0, locals := 22 }
def B_X5_kinWithYoung_0 (N : Nat) (post : Int64 → Wd → va_W → Prop) (x1 : Int32) (x2 : Int32) (x3 : Int32) (w : Wd) (L : va_W) : Prop :=
  B_X5_kinOf N x1 x2 (fun (v3 : Int64) (w1 : Wd) (L2 : va_W) =>
  B_X5_kinOf N x1 x3 (fun (v6 : Int64) (w4 : Wd) (L5 : va_W) =>
  post ((v3 / 2) + (v6 / 2)) w4 L5) w1 L2) w L
set_option maxHeartbeats 4000000 in
theorem k_X5_kinWithYoung_0 {Γ : gT} {K : gK} {N : Nat} {post : Int64 → Wd → va_W → Prop} (C : gC Γ K RX5 cX5_kinWithYoung 4 rm_X5_kinWithYoung) (ret : gRl Γ K cX5_kinWithYoung (some .long) (mPl K post) 0 0) (x1 : Int32) (x2 : Int32) (x3 : Int32) (w : Wd) (L : va_W) (h : B_X5_kinWithYoung_0 N post x1 x2 x3 w L) : gJ Γ K 0 0 (mL K w ++ L) 0 [(0, .ref (ma K 0)), (1, .int x1), (2, .int x2), (3, .int x3)] [] := by
  unfold B_X5_kinWithYoung_0 at h
  refine g_aload_n C 0 rfl dX5_kinWithYoung_0 ?_
  refine g_iload_n C 1 rfl dX5_kinWithYoung_1 ?_
  refine g_iload_n C 2 rfl dX5_kinWithYoung_2 ?_
  refine g_callVl C (As := [.int x1, .int x2]) (rest := []) (m_X5_kinOf h) (lw_V q1296 q1298 qs52 q84 q1299) (ci := 12) (qi := 0) rfl rfl ⟨rfl, rfl⟩ ⟨Nat.le_of_ble_eq_true rfl, Nat.le_of_ble_eq_true rfl⟩ 2 rfl (by decide +kernel) rfl (Nat.le_of_ble_eq_true rfl) ⟨Nat.zero_le _, Nat.zero_le _⟩ dX5_kinWithYoung_3 ?_
  rintro v3 _ ⟨w1, L2, rfl, h⟩
  refine g_ldc2 C (v := 2) q1294 dX5_kinWithYoung_6 ?_
  refine g_ldiv C (by decide) dX5_kinWithYoung_9 ?_
  refine g_aload_n C 0 rfl dX5_kinWithYoung_10 ?_
  refine g_iload_n C 1 rfl dX5_kinWithYoung_11 ?_
  refine g_iload_n C 3 rfl dX5_kinWithYoung_12 ?_
  refine g_callVl C (As := [.int x1, .int x3]) (rest := [.long (v3 / 2)]) (m_X5_kinOf h) (lw_V q1296 q1298 qs52 q84 q1299) (ci := 12) (qi := 0) rfl rfl ⟨rfl, rfl⟩ ⟨Nat.le_of_ble_eq_true rfl, Nat.le_of_ble_eq_true rfl⟩ 2 rfl (by decide +kernel) rfl (Nat.le_of_ble_eq_true rfl) ⟨Nat.zero_le _, Nat.zero_le _⟩ dX5_kinWithYoung_13 ?_
  rintro v6 _ ⟨w4, L5, rfl, h⟩
  refine g_ldc2 C (v := 2) q1294 dX5_kinWithYoung_16 ?_
  refine g_ldiv C (by decide) dX5_kinWithYoung_19 ?_
  refine g_ladd C dX5_kinWithYoung_20 ?_
  exact ret rfl _ _ _ _ dX5_kinWithYoung_21 ⟨_, _, rfl, h⟩
def B_X5_kinWithYoung (N : Nat) (x1 : Int32) (x2 : Int32) (x3 : Int32) (post : Int64 → Wd → va_W → Prop) (w : Wd) (L : va_W) : Prop := B_X5_kinWithYoung_0 N post x1 x2 x3 w L
theorem m_X5_kinWithYoung {l : Launch} {K : gK} {N : Nat} {post : Int64 → Wd → va_W → Prop} {x1 : Int32} {x2 : Int32} {x3 : Int32} {w : Wd} {L : va_W} (h : B_X5_kinWithYoung N x1 x2 x3 post w L) : gMl l K yX5_kinWithYoung cX5_kinWithYoung 4 (some .long) rm_X5_kinWithYoung [.ref (ma K 0), .int x1, .int x2, .int x3] (mL K w ++ L) (mPl K post) 0 0 := by
  refine g_inL (ls0 := [(0, .ref (ma K 0)), (1, .int x1), (2, .int x2), (3, .int x3)]) (by decide) (Nat.le_of_ble_eq_true rfl) rfl (fun Γ hl C hn ret => ?_)
  exact k_X5_kinWithYoung_0 C ret x1 x2 x3 w L h
def rm_X5_isThere : Room := { frames := 0, cells := 0, slots := 0, locals := 0 }
def B_X5_isThere_27 (N : Nat) (post : Int32 → Wd → va_W → Prop) (s0 : Int32) (w : Wd) (L : va_W) : Prop :=
  gZ s0 ∧ post s0 w L
set_option maxHeartbeats 4000000 in
theorem k_X5_isThere_27 {Γ : gT} {K : gK} {N : Nat} {post : Int32 → Wd → va_W → Prop} (C : gC Γ K RX5 cX5_isThere 2 rm_X5_isThere) (ret : gRi Γ K cX5_isThere (some .boolean) (mPi K post) 0 0) (s0 : Int32) (w : Wd) (L : va_W) (h : B_X5_isThere_27 N post s0 w L) : gJ Γ K 0 0 (mL K w ++ L) 27 [] [.int s0] := by
  unfold B_X5_isThere_27 at h
  obtain ⟨hz, h⟩ := h
  exact ret _ _ _ _ _ rfl hz.n dX5_isThere_27 ⟨_, _, rfl, h⟩
def B_X5_isThere_26 (N : Nat) (post : Int32 → Wd → va_W → Prop) (w : Wd) (L : va_W) : Prop :=
  B_X5_isThere_27 N post 0 w L
set_option maxHeartbeats 4000000 in
theorem k_X5_isThere_26 {Γ : gT} {K : gK} {N : Nat} {post : Int32 → Wd → va_W → Prop} (C : gC Γ K RX5 cX5_isThere 2 rm_X5_isThere) (ret : gRi Γ K cX5_isThere (some .boolean) (mPi K post) 0 0) (w : Wd) (L : va_W) (h : B_X5_isThere_26 N post w L) : gJ Γ K 0 0 (mL K w ++ L) 26 [] [] := by
  unfold B_X5_isThere_26 at h
  refine g_iconst C 0 (by decide) dX5_isThere_26 ?_
  exact k_X5_isThere_27 C ret 0 w L h
def B_X5_isThere_0 (N : Nat) (post : Int32 → Wd → va_W → Prop) (x1 : Int32) (w : Wd) (L : va_W) : Prop :=
  (x1 = (-1 : Int32) →
    B_X5_isThere_26 N post w L) ∧
  (¬ x1 = (-1 : Int32) →
    ((xi w 15) ≤ x1 →
      B_X5_isThere_26 N post w L) ∧
    (¬ (xi w 15) ≤ x1 →
      vp_in x1 24 ∧ ((xA w 14 x1.toNatClampNeg) = 0 →
        B_X5_isThere_27 N post 1 w L) ∧
      (¬ (xA w 14 x1.toNatClampNeg) = 0 →
        B_X5_isThere_26 N post w L)))
set_option maxHeartbeats 4000000 in
theorem k_X5_isThere_0 {Γ : gT} {K : gK} {N : Nat} {post : Int32 → Wd → va_W → Prop} (C : gC Γ K RX5 cX5_isThere 2 rm_X5_isThere) (ret : gRi Γ K cX5_isThere (some .boolean) (mPi K post) 0 0) (x1 : Int32) (w : Wd) (L : va_W) (h : B_X5_isThere_0 N post x1 w L) : gJ Γ K 0 0 (mL K w ++ L) 0 [(0, .ref (ma K 0)), (1, .int x1)] [] := by
  unfold B_X5_isThere_0 at h
  refine g_iload_n C 1 rfl dX5_isThere_0 ?_
  refine g_iconst C (-1) (by decide) dX5_isThere_1 ?_
  refine g_icmp_eq C 26 dX5_isThere_2 (by decide) (fun hc => ?_) (fun hc => ?_)
  · replace h := h.1 hc
    refine g_sub [] rfl ?_
    exact k_X5_isThere_26 C ret w L h
  · replace h := h.2 hc
    refine g_iload_n C 1 rfl dX5_isThere_5 ?_
    refine g_aload_n C 0 rfl dX5_isThere_6 ?_
    refine mg_ever C q1034 (xi w 15) rfl dX5_isThere_7 ?_
    refine g_icmp_ge C 26 dX5_isThere_10 (by decide) (fun hc => ?_) (fun hc => ?_)
    · replace h := h.1 hc
      refine g_sub [] rfl ?_
      exact k_X5_isThere_26 C ret w L h
    · replace h := h.2 hc
      refine g_aload_n C 0 rfl dX5_isThere_13 ?_
      refine mg_state C q1026 dX5_isThere_14 ?_
      refine g_iload_n C 1 rfl dX5_isThere_17 ?_
      obtain ⟨hb, h⟩ := h
      refine mld_14 C hb (xA w 14 x1.toNatClampNeg) rfl dX5_isThere_18 ?_
      refine g_if_ne C 26 dX5_isThere_19 (by decide) (fun hc => ?_) (fun hc => ?_)
      · replace h := h.2 hc
        refine g_sub [] rfl ?_
        exact k_X5_isThere_26 C ret w L h
      · replace h := h.1 hc
        refine g_iconst C 1 (by decide) dX5_isThere_22 ?_
        refine g_goto C 27 dX5_isThere_23 (by decide) ?_
        refine g_sub [] rfl ?_
        exact k_X5_isThere_27 C ret 1 w L h
def B_X5_isThere (N : Nat) (x1 : Int32) (post : Int32 → Wd → va_W → Prop) (w : Wd) (L : va_W) : Prop := B_X5_isThere_0 N post x1 w L
theorem m_X5_isThere {l : Launch} {K : gK} {N : Nat} {post : Int32 → Wd → va_W → Prop} {x1 : Int32} {w : Wd} {L : va_W} (h : B_X5_isThere N x1 post w L) : gMi l K yX5_isThere cX5_isThere 2 (some .boolean) rm_X5_isThere [.ref (ma K 0), .int x1] (mL K w ++ L) (mPi K post) 0 0 := by
  refine g_inI (ls0 := [(0, .ref (ma K 0)), (1, .int x1)]) (by decide) (Nat.le_of_ble_eq_true rfl) rfl (fun Γ hl C hn ret => ?_)
  exact k_X5_isThere_0 C ret x1 w L h
def rm_X5_there : Room := { frames := 0, cells := 0, slots := 0, locals := 0 }
def B_X5_there_27 (r4 : Int32 → Int32 → Wd → va_W → Prop) (N : Nat) (post : Int32 → Wd → va_W → Prop) (x2 : Int32) (s0 : Int32) (s1 : Int32) (w : Wd) (L : va_W) : Prop :=
  r4 (s1 + s0) (x2 + 1) w L
set_option maxHeartbeats 4000000 in
theorem k_X5_there_27 {Γ : gT} {K : gK} {N : Nat} {post : Int32 → Wd → va_W → Prop} (C : gC Γ K RX5 cX5_there 3 rm_X5_there) (ret : gRi Γ K cX5_there (some .int) (mPi K post) 0 0) {r4 : Int32 → Int32 → Wd → va_W → Prop} (hr4 : ∀ (x1 : Int32) (x2 : Int32) (w : Wd) (L : va_W), r4 x1 x2 w L → gJ Γ K 0 0 (mL K w ++ L) 4 [(0, .ref (ma K 0)), (1, .int x1), (2, .int x2)] []) (x2 : Int32) (s0 : Int32) (s1 : Int32) (w : Wd) (L : va_W) (h : B_X5_there_27 r4 N post x2 s0 s1 w L) : gJ Γ K 0 0 (mL K w ++ L) 27 [(0, .ref (ma K 0)), (2, .int x2)] [.int s0, .int s1] := by
  unfold B_X5_there_27 at h
  refine g_iadd C dX5_there_27 ?_
  refine g_istore_n C rfl (lt := [(1, .int (s1 + s0)), (0, .ref (ma K 0)), (2, .int x2)]) dX5_there_28 (by decide) rfl ?_
  refine g_iinc C 2 (x2 + 1) (lt := [(2, .int (x2 + 1)), (1, .int (s1 + s0)), (0, .ref (ma K 0))]) rfl rfl dX5_there_29 (by decide) rfl ?_
  refine g_goto C 4 dX5_there_32 (by decide) ?_
  refine g_sub [2, 1, 0] rfl ?_
  exact hr4 (s1 + s0) (x2 + 1) w L h
def B_X5_there_4s (r4 : Int32 → Int32 → Wd → va_W → Prop) (N : Nat) (post : Int32 → Wd → va_W → Prop) (x1 : Int32) (x2 : Int32) (w : Wd) (L : va_W) : Prop :=
  ((xi w 15) ≤ x2 →
    post x1 w L) ∧
  (¬ (xi w 15) ≤ x2 →
    vp_in x2 24 ∧ ((xA w 14 x2.toNatClampNeg) = 0 →
      B_X5_there_27 r4 N post x2 1 x1 w L) ∧
    (¬ (xA w 14 x2.toNatClampNeg) = 0 →
      B_X5_there_27 r4 N post x2 0 x1 w L))
def B_X5_there_4 (N : Nat) (post : Int32 → Wd → va_W → Prop) : Nat → Int32 → Int32 → Wd → va_W → Prop
  | 0, _, _, _, _ => False
  | n + 1, x1, x2, w, L => B_X5_there_4s (B_X5_there_4 N post n) N post x1 x2 w L
set_option maxHeartbeats 4000000 in
theorem k_X5_there_4s {Γ : gT} {K : gK} {N : Nat} {post : Int32 → Wd → va_W → Prop} (C : gC Γ K RX5 cX5_there 3 rm_X5_there) (ret : gRi Γ K cX5_there (some .int) (mPi K post) 0 0) {r4 : Int32 → Int32 → Wd → va_W → Prop} (hr4 : ∀ (x1 : Int32) (x2 : Int32) (w : Wd) (L : va_W), r4 x1 x2 w L → gJ Γ K 0 0 (mL K w ++ L) 4 [(0, .ref (ma K 0)), (1, .int x1), (2, .int x2)] []) (x1 : Int32) (x2 : Int32) (w : Wd) (L : va_W) (h : B_X5_there_4s r4 N post x1 x2 w L) : gJ Γ K 0 0 (mL K w ++ L) 4 [(0, .ref (ma K 0)), (1, .int x1), (2, .int x2)] [] := by
  unfold B_X5_there_4s at h
  refine g_iload_n C 2 rfl dX5_there_4 ?_
  refine g_aload_n C 0 rfl dX5_there_5 ?_
  refine mg_ever C q1034 (xi w 15) rfl dX5_there_6 ?_
  refine g_icmp_ge C 35 dX5_there_9 (by decide) (fun hc => ?_) (fun hc => ?_)
  · replace h := h.1 hc
    refine g_iload_n C 1 rfl dX5_there_35 ?_
    exact ret _ _ _ _ _ rfl rfl dX5_there_36 ⟨_, _, rfl, h⟩
  · replace h := h.2 hc
    refine g_iload_n C 1 rfl dX5_there_12 ?_
    refine g_aload_n C 0 rfl dX5_there_13 ?_
    refine mg_state C q1026 dX5_there_14 ?_
    refine g_iload_n C 2 rfl dX5_there_17 ?_
    obtain ⟨hb, h⟩ := h
    refine mld_14 C hb (xA w 14 x2.toNatClampNeg) rfl dX5_there_18 ?_
    refine g_if_ne C 26 dX5_there_19 (by decide) (fun hc => ?_) (fun hc => ?_)
    · replace h := h.2 hc
      refine g_iconst C 0 (by decide) dX5_there_26 ?_
      refine g_sub [0, 2] rfl ?_
      exact k_X5_there_27 C ret hr4 x2 0 x1 w L h
    · replace h := h.1 hc
      refine g_iconst C 1 (by decide) dX5_there_22 ?_
      refine g_goto C 27 dX5_there_23 (by decide) ?_
      refine g_sub [0, 2] rfl ?_
      exact k_X5_there_27 C ret hr4 x2 1 x1 w L h
theorem k_X5_there_4 {Γ : gT} {K : gK} {N : Nat} {post : Int32 → Wd → va_W → Prop} (C : gC Γ K RX5 cX5_there 3 rm_X5_there) (ret : gRi Γ K cX5_there (some .int) (mPi K post) 0 0) : ∀ (n : Nat) (x1 : Int32) (x2 : Int32) (w : Wd) (L : va_W) (h : B_X5_there_4 N post n x1 x2 w L), gJ Γ K 0 0 (mL K w ++ L) 4 [(0, .ref (ma K 0)), (1, .int x1), (2, .int x2)] [] := by
  intro n
  induction n with
  | zero => intro x1 x2 w L h; exact h.elim
  | succ n ih => intro x1 x2 w L h; exact k_X5_there_4s C ret ih x1 x2 w L h
def B_X5_there_0 (N : Nat) (post : Int32 → Wd → va_W → Prop) (w : Wd) (L : va_W) : Prop :=
  B_X5_there_4 N post N 0 0 w L
set_option maxHeartbeats 4000000 in
theorem k_X5_there_0 {Γ : gT} {K : gK} {N : Nat} {post : Int32 → Wd → va_W → Prop} (C : gC Γ K RX5 cX5_there 3 rm_X5_there) (ret : gRi Γ K cX5_there (some .int) (mPi K post) 0 0) (w : Wd) (L : va_W) (h : B_X5_there_0 N post w L) : gJ Γ K 0 0 (mL K w ++ L) 0 [(0, .ref (ma K 0))] [] := by
  unfold B_X5_there_0 at h
  refine g_iconst C 0 (by decide) dX5_there_0 ?_
  refine g_istore_n C rfl (lt := [(1, .int 0), (0, .ref (ma K 0))]) dX5_there_1 (by decide) rfl ?_
  refine g_iconst C 0 (by decide) dX5_there_2 ?_
  refine g_istore_n C rfl (lt := [(2, .int 0), (1, .int 0), (0, .ref (ma K 0))]) dX5_there_3 (by decide) rfl ?_
  refine g_sub [2, 1, 0] rfl ?_
  exact k_X5_there_4 C ret N 0 0 w L h
def B_X5_there (N : Nat) (post : Int32 → Wd → va_W → Prop) (w : Wd) (L : va_W) : Prop := B_X5_there_0 N post w L
theorem m_X5_there {l : Launch} {K : gK} {N : Nat} {post : Int32 → Wd → va_W → Prop} {w : Wd} {L : va_W} (h : B_X5_there N post w L) : gMi l K yX5_there cX5_there 3 (some .int) rm_X5_there [.ref (ma K 0)] (mL K w ++ L) (mPi K post) 0 0 := by
  refine g_inI (ls0 := [(0, .ref (ma K 0))]) (by decide) (Nat.le_of_ble_eq_true rfl) rfl (fun Γ hl C hn ret => ?_)
  exact k_X5_there_0 C ret w L h
def rm_X5_begin : Room := { frames := 1, cells := 0, slots := 0, locals := 26 }
def B_X5_begin_157 (N : Nat) (post : Wd → va_W → Prop) (x2 : Int64) (s0 : Int32) (w : Wd) (L : va_W) : Prop :=
  B_X5_layKins N (xi w 15) (fun (w1 : Wd) (L2 : va_W) =>
  post w1 L2) (xsi (xsi (xsi (xsl (xsi (xsi (xsi w 18 s0) 19 0) 20 0) 0 x2) 22 0) 23 0) 24 0) L
set_option maxHeartbeats 4000000 in
theorem k_X5_begin_157 {Γ : gT} {K : gK} {N : Nat} {post : Wd → va_W → Prop} (C : gC Γ K RX5 cX5_begin 5 rm_X5_begin) (ret : gRv Γ K cX5_begin (none) (mPv K post) 0 0) (x2 : Int64) (s0 : Int32) (w : Wd) (L : va_W) (h : B_X5_begin_157 N post x2 s0 w L) : gJ Γ K 0 0 (mL K w ++ L) 157 [(0, .ref (ma K 0)), (2, .long x2)] [.int s0, .ref (ma K 0)] := by
  unfold B_X5_begin_157 at h
  refine mp_mate C q1037 dX5_begin_157 ?_
  refine g_aload_n C 0 rfl dX5_begin_160 ?_
  refine g_iconst C 0 (by decide) dX5_begin_161 ?_
  refine mp_wars C q1038 dX5_begin_162 ?_
  refine g_aload_n C 0 rfl dX5_begin_165 ?_
  refine g_iconst C 0 (by decide) dX5_begin_166 ?_
  refine mp_month C q1039 dX5_begin_167 ?_
  refine g_aload_n C 0 rfl dX5_begin_170 ?_
  refine g_lload_n C 1 rfl dX5_begin_171 ?_
  refine mp_x C q1044 dX5_begin_172 ?_
  refine g_aload_n C 0 rfl dX5_begin_175 ?_
  refine g_iconst C 0 (by decide) dX5_begin_176 ?_
  refine mp_dry C q1041 (Or.inl rfl) dX5_begin_177 ?_
  refine g_aload_n C 0 rfl dX5_begin_180 ?_
  refine g_iconst C 0 (by decide) dX5_begin_181 ?_
  refine mp_mild C q1042 (Or.inl rfl) dX5_begin_182 ?_
  refine g_aload_n C 0 rfl dX5_begin_185 ?_
  refine g_iconst C 0 (by decide) dX5_begin_186 ?_
  refine mp_nobodyGoes C q1043 (Or.inl rfl) dX5_begin_187 ?_
  refine g_aload_n C 0 rfl dX5_begin_190 ?_
  refine g_aload_n C 0 rfl dX5_begin_191 ?_
  refine mg_ever C q1034 (xi w 15) rfl dX5_begin_192 ?_
  refine g_callVv C (As := [.int (xi w 15)]) (rest := []) (m_X5_layKins h) (lw_V q1290 q1292 qs51 q84 q1293) (ci := 12) (qi := 0) rfl rfl ⟨rfl, rfl⟩ ⟨Nat.le_of_ble_eq_true rfl, Nat.le_of_ble_eq_true rfl⟩ 1 rfl (by decide +kernel) rfl (Nat.le_of_ble_eq_true rfl) ⟨Nat.zero_le _, Nat.zero_le _⟩ dX5_begin_195 ?_
  rintro _ ⟨w1, L2, rfl, h⟩
  exact ret rfl _ _ _ dX5_begin_198 ⟨_, _, rfl, h⟩
def B_X5_begin_134 (N : Nat) (post : Wd → va_W → Prop) (x2 : Int64) (s0 : Int32) (w : Wd) (L : va_W) : Prop :=
  B_X5_isThere N (xi w 13) (fun (v3 : Int32) (w1 : Wd) (L2 : va_W) =>
  (v3 = 0 →
    B_X5_begin_157 N post x2 (-1) w1 L2) ∧
  (¬ v3 = 0 →
    B_X5_begin_157 N post x2 (xi w1 13) w1 L2)) (xsi w 17 s0) L
set_option maxHeartbeats 4000000 in
theorem k_X5_begin_134 {Γ : gT} {K : gK} {N : Nat} {post : Wd → va_W → Prop} (C : gC Γ K RX5 cX5_begin 5 rm_X5_begin) (ret : gRv Γ K cX5_begin (none) (mPv K post) 0 0) (x2 : Int64) (s0 : Int32) (w : Wd) (L : va_W) (h : B_X5_begin_134 N post x2 s0 w L) : gJ Γ K 0 0 (mL K w ++ L) 134 [(0, .ref (ma K 0)), (2, .long x2)] [.int s0, .ref (ma K 0)] := by
  unfold B_X5_begin_134 at h
  refine mp_queen C q1036 dX5_begin_134 ?_
  refine g_aload_n C 0 rfl dX5_begin_137 ?_
  refine g_aload_n C 0 rfl dX5_begin_138 ?_
  refine g_aload_n C 0 rfl dX5_begin_139 ?_
  refine mg_toldMate C q1022 (xi w 13) rfl dX5_begin_140 ?_
  refine g_callVi C (As := [.int (xi w 13)]) (rest := [.ref (ma K 0)]) (m_X5_isThere h) (lw_V q1286 q1288 qs50 q84 q1289) (ci := 12) (qi := 0) rfl rfl ⟨rfl, rfl⟩ ⟨Nat.le_of_ble_eq_true rfl, Nat.le_of_ble_eq_true rfl⟩ 1 rfl (by decide +kernel) rfl (Nat.le_of_ble_eq_true rfl) ⟨Nat.zero_le _, Nat.zero_le _⟩ dX5_begin_143 ?_
  rintro v3 _ ⟨w1, L2, rfl, h⟩
  refine g_if_eq C 156 dX5_begin_146 (by decide) (fun hc => ?_) (fun hc => ?_)
  · replace h := h.1 hc
    refine g_iconst C (-1) (by decide) dX5_begin_156 ?_
    exact k_X5_begin_157 C ret x2 (-1) w1 L2 h
  · replace h := h.2 hc
    refine g_aload_n C 0 rfl dX5_begin_149 ?_
    refine mg_toldMate C q1022 (xi w1 13) rfl dX5_begin_150 ?_
    refine g_goto C 157 dX5_begin_153 (by decide) ?_
    exact k_X5_begin_157 C ret x2 (xi w1 13) w1 L2 h
def B_X5_begin_13s (r13 : Int64 → Int32 → Wd → va_W → Prop) (N : Nat) (post : Wd → va_W → Prop) (x2 : Int64) (x4 : Int32) (w : Wd) (L : va_W) : Prop :=
  ((xi w 15) ≤ x4 →
    vp_in 0 9 ∧ vp_in 1 9 ∧ B_X5_isThere N (xi w 12) (fun (v3 : Int32) (w1 : Wd) (L2 : va_W) =>
  (v3 = 0 →
      B_X5_begin_134 N post x2 (-1) w1 L2) ∧
    (¬ v3 = 0 →
      B_X5_begin_134 N post x2 (xi w1 12) w1 L2)) (xsi (xsi w 16 (xA w 11 (0 : Int32).toNatClampNeg)) 21 (xA w 11 (1 : Int32).toNatClampNeg)) L) ∧
  (¬ (xi w 15) ≤ x4 →
    vp_in x4 16 ∧ vp_in x4 24 ∧ ∀ w4 : Wd, w4 = (xsA w 8 x4.toNatClampNeg (xA w 5 x4.toNatClampNeg)) → vp_in x4 16 ∧ vp_in x4 24 ∧ ∀ w5 : Wd, w5 = (xsA w4 9 x4.toNatClampNeg (xA w4 6 x4.toNatClampNeg)) → vp_in x4 16 ∧ vp_in x4 24 ∧ ∀ w6 : Wd, w6 = (xsA w5 13 x4.toNatClampNeg (xA w5 7 x4.toNatClampNeg)) → vp_in x4 24 ∧ ∀ w7 : Wd, w7 = (xsA w6 14 x4.toNatClampNeg 0) → vp_in x4 24 ∧ ∀ w8 : Wd, w8 = (xsA w7 15 x4.toNatClampNeg (-1)) → vp_in x4 24 ∧ ∀ w9 : Wd, w9 = (xsA w8 16 x4.toNatClampNeg (-1)) → r13 x2 (x4 + 1) w9 L)
def B_X5_begin_13 (N : Nat) (post : Wd → va_W → Prop) : Nat → Int64 → Int32 → Wd → va_W → Prop
  | 0, _, _, _, _ => False
  | n + 1, x2, x4, w, L => B_X5_begin_13s (B_X5_begin_13 N post n) N post x2 x4 w L
set_option maxHeartbeats 4000000 in
theorem k_X5_begin_13s {Γ : gT} {K : gK} {N : Nat} {post : Wd → va_W → Prop} (C : gC Γ K RX5 cX5_begin 5 rm_X5_begin) (ret : gRv Γ K cX5_begin (none) (mPv K post) 0 0) {r13 : Int64 → Int32 → Wd → va_W → Prop} (hr13 : ∀ (x2 : Int64) (x4 : Int32) (w : Wd) (L : va_W), r13 x2 x4 w L → gJ Γ K 0 0 (mL K w ++ L) 13 [(0, .ref (ma K 0)), (2, .long x2), (4, .int x4)] []) (x2 : Int64) (x4 : Int32) (w : Wd) (L : va_W) (h : B_X5_begin_13s r13 N post x2 x4 w L) : gJ Γ K 0 0 (mL K w ++ L) 13 [(0, .ref (ma K 0)), (2, .long x2), (4, .int x4)] [] := by
  unfold B_X5_begin_13s at h
  refine g_iload C 2 rfl dX5_begin_13 ?_
  refine g_aload_n C 0 rfl dX5_begin_15 ?_
  refine mg_ever C q1034 (xi w 15) rfl dX5_begin_16 ?_
  refine g_icmp_ge C 94 dX5_begin_19 (by decide) (fun hc => ?_) (fun hc => ?_)
  · replace h := h.1 hc
    refine g_aload_n C 0 rfl dX5_begin_94 ?_
    refine g_aload_n C 0 rfl dX5_begin_95 ?_
    refine mg_settings C q1023 dX5_begin_96 ?_
    refine g_iconst C 0 (by decide) dX5_begin_99 ?_
    obtain ⟨hb, h⟩ := h
    refine mld_11 C hb (xA w 11 (0 : Int32).toNatClampNeg) rfl dX5_begin_100 ?_
    refine mp_store C q1035 dX5_begin_101 ?_
    refine g_aload_n C 0 rfl dX5_begin_104 ?_
    refine g_aload_n C 0 rfl dX5_begin_105 ?_
    refine mg_settings C q1023 dX5_begin_106 ?_
    refine g_iconst C 1 (by decide) dX5_begin_109 ?_
    obtain ⟨hb, h⟩ := h
    refine mld_11 C hb (xA w 11 (1 : Int32).toNatClampNeg) rfl dX5_begin_110 ?_
    refine mp_chance C q1040 dX5_begin_111 ?_
    refine g_aload_n C 0 rfl dX5_begin_114 ?_
    refine g_aload_n C 0 rfl dX5_begin_115 ?_
    refine g_aload_n C 0 rfl dX5_begin_116 ?_
    refine mg_toldQueen C q1021 (xi w 12) rfl dX5_begin_117 ?_
    refine g_callVi C (As := [.int (xi w 12)]) (rest := [.ref (ma K 0)]) (m_X5_isThere h) (lw_V q1286 q1288 qs50 q84 q1289) (ci := 12) (qi := 0) rfl rfl ⟨rfl, rfl⟩ ⟨Nat.le_of_ble_eq_true rfl, Nat.le_of_ble_eq_true rfl⟩ 1 rfl (by decide +kernel) rfl (Nat.le_of_ble_eq_true rfl) ⟨Nat.zero_le _, Nat.zero_le _⟩ dX5_begin_120 ?_
    rintro v3 _ ⟨w1, L2, rfl, h⟩
    refine g_if_eq C 133 dX5_begin_123 (by decide) (fun hc => ?_) (fun hc => ?_)
    · replace h := h.1 hc
      refine g_iconst C (-1) (by decide) dX5_begin_133 ?_
      refine g_sub [0, 1] rfl ?_
      exact k_X5_begin_134 C ret x2 (-1) w1 L2 h
    · replace h := h.2 hc
      refine g_aload_n C 0 rfl dX5_begin_126 ?_
      refine mg_toldQueen C q1021 (xi w1 12) rfl dX5_begin_127 ?_
      refine g_goto C 134 dX5_begin_130 (by decide) ?_
      refine g_sub [0, 1] rfl ?_
      exact k_X5_begin_134 C ret x2 (xi w1 12) w1 L2 h
  · replace h := h.2 hc
    refine g_aload_n C 0 rfl dX5_begin_22 ?_
    refine mg_dam C q1018 dX5_begin_23 ?_
    refine g_iload C 2 rfl dX5_begin_26 ?_
    refine g_aload_n C 0 rfl dX5_begin_28 ?_
    refine mg_mother C q1014 dX5_begin_29 ?_
    refine g_iload C 2 rfl dX5_begin_32 ?_
    obtain ⟨hb, h⟩ := h
    refine mld_5 C hb (xA w 5 x4.toNatClampNeg) rfl dX5_begin_34 ?_
    obtain ⟨hb, h⟩ := h
    refine mst_8 C hb dX5_begin_35 ?_
    obtain ⟨w4, ew4⟩ : ∃ z, z = (xsA w 8 x4.toNatClampNeg (xA w 5 x4.toNatClampNeg)) := ⟨_, rfl⟩
    replace h := h w4 ew4
    rw [← ew4]
    refine g_aload_n C 0 rfl dX5_begin_36 ?_
    refine mg_sire C q1019 dX5_begin_37 ?_
    refine g_iload C 2 rfl dX5_begin_40 ?_
    refine g_aload_n C 0 rfl dX5_begin_42 ?_
    refine mg_father C q1015 dX5_begin_43 ?_
    refine g_iload C 2 rfl dX5_begin_46 ?_
    obtain ⟨hb, h⟩ := h
    refine mld_6 C hb (xA w4 6 x4.toNatClampNeg) rfl dX5_begin_48 ?_
    obtain ⟨hb, h⟩ := h
    refine mst_9 C hb dX5_begin_49 ?_
    obtain ⟨w5, ew5⟩ : ∃ z, z = (xsA w4 9 x4.toNatClampNeg (xA w4 6 x4.toNatClampNeg)) := ⟨_, rfl⟩
    replace h := h w5 ew5
    rw [← ew5]
    refine g_aload_n C 0 rfl dX5_begin_50 ?_
    refine mg_weight C q1025 dX5_begin_51 ?_
    refine g_iload C 2 rfl dX5_begin_54 ?_
    refine g_aload_n C 0 rfl dX5_begin_56 ?_
    refine mg_toldWeight C q1016 dX5_begin_57 ?_
    refine g_iload C 2 rfl dX5_begin_60 ?_
    obtain ⟨hb, h⟩ := h
    refine mld_7 C hb (xA w5 7 x4.toNatClampNeg) rfl dX5_begin_62 ?_
    obtain ⟨hb, h⟩ := h
    refine mst_13 C hb dX5_begin_63 ?_
    obtain ⟨w6, ew6⟩ : ∃ z, z = (xsA w5 13 x4.toNatClampNeg (xA w5 7 x4.toNatClampNeg)) := ⟨_, rfl⟩
    replace h := h w6 ew6
    rw [← ew6]
    refine g_aload_n C 0 rfl dX5_begin_64 ?_
    refine mg_state C q1026 dX5_begin_65 ?_
    refine g_iload C 2 rfl dX5_begin_68 ?_
    refine g_iconst C 0 (by decide) dX5_begin_70 ?_
    obtain ⟨hb, h⟩ := h
    refine mst_14 C hb dX5_begin_71 ?_
    obtain ⟨w7, ew7⟩ : ∃ z, z = (xsA w6 14 x4.toNatClampNeg 0) := ⟨_, rfl⟩
    replace h := h w7 ew7
    rw [← ew7]
    refine g_aload_n C 0 rfl dX5_begin_72 ?_
    refine mg_when C q1027 dX5_begin_73 ?_
    refine g_iload C 2 rfl dX5_begin_76 ?_
    refine g_iconst C (-1) (by decide) dX5_begin_78 ?_
    obtain ⟨hb, h⟩ := h
    refine mst_15 C hb dX5_begin_79 ?_
    obtain ⟨w8, ew8⟩ : ∃ z, z = (xsA w7 15 x4.toNatClampNeg (-1)) := ⟨_, rfl⟩
    replace h := h w8 ew8
    rw [← ew8]
    refine g_aload_n C 0 rfl dX5_begin_80 ?_
    refine mg_born C q1028 dX5_begin_81 ?_
    refine g_iload C 2 rfl dX5_begin_84 ?_
    refine g_iconst C (-1) (by decide) dX5_begin_86 ?_
    obtain ⟨hb, h⟩ := h
    refine mst_16 C hb dX5_begin_87 ?_
    obtain ⟨w9, ew9⟩ : ∃ z, z = (xsA w8 16 x4.toNatClampNeg (-1)) := ⟨_, rfl⟩
    replace h := h w9 ew9
    rw [← ew9]
    refine g_iinc C 2 (x4 + 1) (lt := [(4, .int (x4 + 1)), (0, .ref (ma K 0)), (2, .long x2)]) rfl rfl dX5_begin_88 (by decide) rfl ?_
    refine g_goto C 13 dX5_begin_91 (by decide) ?_
    refine g_sub [1, 2, 0] rfl ?_
    exact hr13 x2 (x4 + 1) w9 L h
theorem k_X5_begin_13 {Γ : gT} {K : gK} {N : Nat} {post : Wd → va_W → Prop} (C : gC Γ K RX5 cX5_begin 5 rm_X5_begin) (ret : gRv Γ K cX5_begin (none) (mPv K post) 0 0) : ∀ (n : Nat) (x2 : Int64) (x4 : Int32) (w : Wd) (L : va_W) (h : B_X5_begin_13 N post n x2 x4 w L), gJ Γ K 0 0 (mL K w ++ L) 13 [(0, .ref (ma K 0)), (2, .long x2), (4, .int x4)] [] := by
  intro n
  induction n with
  | zero => intro x2 x4 w L h; exact h.elim
  | succ n ih => intro x2 x4 w L h; exact k_X5_begin_13s C ret ih x2 x4 w L h
def B_X5_begin_0 (N : Nat) (post : Wd → va_W → Prop) (x1 : Int32) (x2 : Int64) (w : Wd) (L : va_W) : Prop :=
  B_X5_begin_13 N post N x2 0 (xsi (xsi w 14 x1) 15 x1) L
set_option maxHeartbeats 4000000 in
theorem k_X5_begin_0 {Γ : gT} {K : gK} {N : Nat} {post : Wd → va_W → Prop} (C : gC Γ K RX5 cX5_begin 5 rm_X5_begin) (ret : gRv Γ K cX5_begin (none) (mPv K post) 0 0) (x1 : Int32) (x2 : Int64) (w : Wd) (L : va_W) (h : B_X5_begin_0 N post x1 x2 w L) : gJ Γ K 0 0 (mL K w ++ L) 0 [(0, .ref (ma K 0)), (1, .int x1), (2, .long x2)] [] := by
  unfold B_X5_begin_0 at h
  refine g_aload_n C 0 rfl dX5_begin_0 ?_
  refine g_iload_n C 1 rfl dX5_begin_1 ?_
  refine mp_glass C q1033 dX5_begin_2 ?_
  refine g_aload_n C 0 rfl dX5_begin_5 ?_
  refine g_iload_n C 1 rfl dX5_begin_6 ?_
  refine mp_ever C q1034 dX5_begin_7 ?_
  refine g_iconst C 0 (by decide) dX5_begin_10 ?_
  refine g_istore C (lt := [(4, .int 0), (0, .ref (ma K 0)), (1, .int x1), (2, .long x2)]) dX5_begin_11 (by decide) rfl ?_
  refine g_sub [1, 3, 0] rfl ?_
  exact k_X5_begin_13 C ret N x2 0 (xsi (xsi w 14 x1) 15 x1) L h
def B_X5_begin (N : Nat) (x1 : Int32) (x2 : Int64) (post : Wd → va_W → Prop) (w : Wd) (L : va_W) : Prop := B_X5_begin_0 N post x1 x2 w L
theorem m_X5_begin {l : Launch} {K : gK} {N : Nat} {post : Wd → va_W → Prop} {x1 : Int32} {x2 : Int64} {w : Wd} {L : va_W} (h : B_X5_begin N x1 x2 post w L) : gMv l K yX5_begin cX5_begin 5 (none) rm_X5_begin [.ref (ma K 0), .int x1, .long x2] (mL K w ++ L) (mPv K post) 0 0 := by
  refine g_inV (ls0 := [(0, .ref (ma K 0)), (1, .int x1), (2, .long x2)]) (by decide) (Nat.le_of_ble_eq_true rfl) rfl (fun Γ hl C hn ret => ?_)
  exact k_X5_begin_0 C ret x1 x2 w L h
def rm_X5_kin : Room := { frames := 2, cells := 0, slots := 0, locals := 50 }
def B_X5_kin_21 (N : Nat) (post : Int64 → Wd → va_W → Prop) (w : Wd) (L : va_W) : Prop :=
  post (-1000) w L
set_option maxHeartbeats 4000000 in
theorem k_X5_kin_21 {Γ : gT} {K : gK} {N : Nat} {post : Int64 → Wd → va_W → Prop} (C : gC Γ K RX5 cX5_kin 3 rm_X5_kin) (ret : gRl Γ K cX5_kin (some .long) (mPl K post) 0 0) (w : Wd) (L : va_W) (h : B_X5_kin_21 N post w L) : gJ Γ K 0 0 (mL K w ++ L) 21 [] [] := by
  unfold B_X5_kin_21 at h
  refine g_ldc2 C (v := (-1000)) q1281 dX5_kin_21 ?_
  exact ret rfl _ _ _ _ dX5_kin_24 ⟨_, _, rfl, h⟩
def B_X5_kin_0 (N : Nat) (post : Int64 → Wd → va_W → Prop) (x1 : Int32) (x2 : Int32) (w : Wd) (L : va_W) : Prop :=
  B_X5_isAnimal N x1 (fun (v3 : Int32) (w1 : Wd) (L2 : va_W) =>
  (v3 = 0 →
    B_X5_kin_21 N post w1 L2) ∧
  (¬ v3 = 0 →
    B_X5_isAnimal N x2 (fun (v6 : Int32) (w4 : Wd) (L5 : va_W) =>
  (v6 = 0 →
      B_X5_kin_21 N post w4 L5) ∧
    (¬ v6 = 0 →
      B_X5_begin N (xi w4 11) 0 (fun (w7 : Wd) (L8 : va_W) =>
  B_X5_kinOf N x1 x2 (fun (v11 : Int64) (w9 : Wd) (L10 : va_W) =>
  post (v11 >>> ((28 : Int32).toInt64 &&& 63)) w9 L10) w7 L8) w4 L5)) w1 L2)) (xsi w 0 0) L
set_option maxHeartbeats 4000000 in
theorem k_X5_kin_0 {Γ : gT} {K : gK} {N : Nat} {post : Int64 → Wd → va_W → Prop} (C : gC Γ K RX5 cX5_kin 3 rm_X5_kin) (ret : gRl Γ K cX5_kin (some .long) (mPl K post) 0 0) (x1 : Int32) (x2 : Int32) (w : Wd) (L : va_W) (h : B_X5_kin_0 N post x1 x2 w L) : gJ Γ K 0 0 (mL K w ++ L) 0 [(0, .ref (ma K 0)), (1, .int x1), (2, .int x2)] [] := by
  unfold B_X5_kin_0 at h
  refine g_aload_n C 0 rfl dX5_kin_0 ?_
  refine g_iconst C 0 (by decide) dX5_kin_1 ?_
  refine mp_thrown C q996 dX5_kin_2 ?_
  refine g_aload_n C 0 rfl dX5_kin_5 ?_
  refine g_iload_n C 1 rfl dX5_kin_6 ?_
  refine g_callVi C (As := [.int x1]) (rest := []) (m_X5_isAnimal h) (lw_V q1273 q1275 qs48 q84 q1276) (ci := 12) (qi := 0) rfl rfl ⟨rfl, rfl⟩ ⟨Nat.le_of_ble_eq_true rfl, Nat.le_of_ble_eq_true rfl⟩ 1 rfl (by decide +kernel) rfl (Nat.le_of_ble_eq_true rfl) ⟨Nat.zero_le _, Nat.zero_le _⟩ dX5_kin_7 ?_
  rintro v3 _ ⟨w1, L2, rfl, h⟩
  refine g_if_eq C 21 dX5_kin_10 (by decide) (fun hc => ?_) (fun hc => ?_)
  · replace h := h.1 hc
    refine g_sub [] rfl ?_
    exact k_X5_kin_21 C ret w1 L2 h
  · replace h := h.2 hc
    refine g_aload_n C 0 rfl dX5_kin_13 ?_
    refine g_iload_n C 2 rfl dX5_kin_14 ?_
    refine g_callVi C (As := [.int x2]) (rest := []) (m_X5_isAnimal h) (lw_V q1273 q1275 qs48 q84 q1276) (ci := 12) (qi := 0) rfl rfl ⟨rfl, rfl⟩ ⟨Nat.le_of_ble_eq_true rfl, Nat.le_of_ble_eq_true rfl⟩ 1 rfl (by decide +kernel) rfl (Nat.le_of_ble_eq_true rfl) ⟨Nat.zero_le _, Nat.zero_le _⟩ dX5_kin_15 ?_
    rintro v6 _ ⟨w4, L5, rfl, h⟩
    refine g_if_ne C 25 dX5_kin_18 (by decide) (fun hc => ?_) (fun hc => ?_)
    · replace h := h.2 hc
      refine g_aload_n C 0 rfl dX5_kin_25 ?_
      refine g_aload_n C 0 rfl dX5_kin_26 ?_
      refine mg_animals C q1017 (xi w4 11) rfl dX5_kin_27 ?_
      refine g_lconst C 0 (by decide) dX5_kin_30 ?_
      refine g_callVv C (As := [.int (xi w4 11), .long 0]) (rest := []) (m_X5_begin h) (lw_V q1282 q1284 qs49 q84 q1285) (ci := 12) (qi := 0) rfl rfl ⟨rfl, rfl⟩ ⟨Nat.le_of_ble_eq_true rfl, Nat.le_of_ble_eq_true rfl⟩ 2 rfl (by decide +kernel) rfl (Nat.le_of_ble_eq_true rfl) ⟨Nat.zero_le _, Nat.zero_le _⟩ dX5_kin_31 ?_
      rintro _ ⟨w7, L8, rfl, h⟩
      refine g_aload_n C 0 rfl dX5_kin_34 ?_
      refine g_iload_n C 1 rfl dX5_kin_35 ?_
      refine g_iload_n C 2 rfl dX5_kin_36 ?_
      refine g_callVl C (As := [.int x1, .int x2]) (rest := []) (m_X5_kinOf h) (lw_V q1296 q1298 qs52 q84 q1299) (ci := 12) (qi := 0) rfl rfl ⟨rfl, rfl⟩ ⟨Nat.le_of_ble_eq_true rfl, Nat.le_of_ble_eq_true rfl⟩ 2 rfl (by decide +kernel) rfl (Nat.le_of_ble_eq_true rfl) ⟨Nat.zero_le _, Nat.zero_le _⟩ dX5_kin_37 ?_
      rintro v11 _ ⟨w9, L10, rfl, h⟩
      refine g_bipush C 28 (by decide) dX5_kin_40 ?_
      refine g_lshr C dX5_kin_42 ?_
      exact ret rfl _ _ _ _ dX5_kin_43 ⟨_, _, rfl, h⟩
    · replace h := h.1 hc
      refine g_sub [] rfl ?_
      exact k_X5_kin_21 C ret w4 L5 h
def B_X5_kin (N : Nat) (x1 : Int32) (x2 : Int32) (post : Int64 → Wd → va_W → Prop) (w : Wd) (L : va_W) : Prop := B_X5_kin_0 N post x1 x2 w L
theorem m_X5_kin {l : Launch} {K : gK} {N : Nat} {post : Int64 → Wd → va_W → Prop} {x1 : Int32} {x2 : Int32} {w : Wd} {L : va_W} (h : B_X5_kin N x1 x2 post w L) : gMl l K yX5_kin cX5_kin 3 (some .long) rm_X5_kin [.ref (ma K 0), .int x1, .int x2] (mL K w ++ L) (mPl K post) 0 0 := by
  refine g_inL (ls0 := [(0, .ref (ma K 0)), (1, .int x1), (2, .int x2)]) (by decide) (Nat.le_of_ble_eq_true rfl) rfl (fun Γ hl C hn ret => ?_)
  exact k_X5_kin_0 C ret x1 x2 w L h
def rm_X5_young : Room := { frames := 2, cells := 0, slots := 0, locals := 50 }
def B_X5_young_29 (N : Nat) (post : Int64 → Wd → va_W → Prop) (w : Wd) (L : va_W) : Prop :=
  post (-1000) w L
set_option maxHeartbeats 4000000 in
theorem k_X5_young_29 {Γ : gT} {K : gK} {N : Nat} {post : Int64 → Wd → va_W → Prop} (C : gC Γ K RX5 cX5_young 4 rm_X5_young) (ret : gRl Γ K cX5_young (some .long) (mPl K post) 0 0) (w : Wd) (L : va_W) (h : B_X5_young_29 N post w L) : gJ Γ K 0 0 (mL K w ++ L) 29 [] [] := by
  unfold B_X5_young_29 at h
  refine g_ldc2 C (v := (-1000)) q1281 dX5_young_29 ?_
  exact ret rfl _ _ _ _ dX5_young_32 ⟨_, _, rfl, h⟩
def B_X5_young_0 (N : Nat) (post : Int64 → Wd → va_W → Prop) (x1 : Int32) (x2 : Int32) (x3 : Int32) (w : Wd) (L : va_W) : Prop :=
  B_X5_isAnimal N x1 (fun (v3 : Int32) (w1 : Wd) (L2 : va_W) =>
  (v3 = 0 →
    B_X5_young_29 N post w1 L2) ∧
  (¬ v3 = 0 →
    B_X5_isAnimal N x2 (fun (v6 : Int32) (w4 : Wd) (L5 : va_W) =>
  (v6 = 0 →
      B_X5_young_29 N post w4 L5) ∧
    (¬ v6 = 0 →
      B_X5_isAnimal N x3 (fun (v9 : Int32) (w7 : Wd) (L8 : va_W) =>
  (v9 = 0 →
        B_X5_young_29 N post w7 L8) ∧
      (¬ v9 = 0 →
        B_X5_begin N (xi w7 11) 0 (fun (w10 : Wd) (L11 : va_W) =>
  B_X5_kinWithYoung N x1 x2 x3 (fun (v14 : Int64) (w12 : Wd) (L13 : va_W) =>
  post (v14 >>> ((28 : Int32).toInt64 &&& 63)) w12 L13) w10 L11) w7 L8)) w4 L5)) w1 L2)) (xsi w 0 0) L
set_option maxHeartbeats 4000000 in
theorem k_X5_young_0 {Γ : gT} {K : gK} {N : Nat} {post : Int64 → Wd → va_W → Prop} (C : gC Γ K RX5 cX5_young 4 rm_X5_young) (ret : gRl Γ K cX5_young (some .long) (mPl K post) 0 0) (x1 : Int32) (x2 : Int32) (x3 : Int32) (w : Wd) (L : va_W) (h : B_X5_young_0 N post x1 x2 x3 w L) : gJ Γ K 0 0 (mL K w ++ L) 0 [(0, .ref (ma K 0)), (1, .int x1), (2, .int x2), (3, .int x3)] [] := by
  unfold B_X5_young_0 at h
  refine g_aload_n C 0 rfl dX5_young_0 ?_
  refine g_iconst C 0 (by decide) dX5_young_1 ?_
  refine mp_thrown C q996 dX5_young_2 ?_
  refine g_aload_n C 0 rfl dX5_young_5 ?_
  refine g_iload_n C 1 rfl dX5_young_6 ?_
  refine g_callVi C (As := [.int x1]) (rest := []) (m_X5_isAnimal h) (lw_V q1273 q1275 qs48 q84 q1276) (ci := 12) (qi := 0) rfl rfl ⟨rfl, rfl⟩ ⟨Nat.le_of_ble_eq_true rfl, Nat.le_of_ble_eq_true rfl⟩ 1 rfl (by decide +kernel) rfl (Nat.le_of_ble_eq_true rfl) ⟨Nat.zero_le _, Nat.zero_le _⟩ dX5_young_7 ?_
  rintro v3 _ ⟨w1, L2, rfl, h⟩
  refine g_if_eq C 29 dX5_young_10 (by decide) (fun hc => ?_) (fun hc => ?_)
  · replace h := h.1 hc
    refine g_sub [] rfl ?_
    exact k_X5_young_29 C ret w1 L2 h
  · replace h := h.2 hc
    refine g_aload_n C 0 rfl dX5_young_13 ?_
    refine g_iload_n C 2 rfl dX5_young_14 ?_
    refine g_callVi C (As := [.int x2]) (rest := []) (m_X5_isAnimal h) (lw_V q1273 q1275 qs48 q84 q1276) (ci := 12) (qi := 0) rfl rfl ⟨rfl, rfl⟩ ⟨Nat.le_of_ble_eq_true rfl, Nat.le_of_ble_eq_true rfl⟩ 1 rfl (by decide +kernel) rfl (Nat.le_of_ble_eq_true rfl) ⟨Nat.zero_le _, Nat.zero_le _⟩ dX5_young_15 ?_
    rintro v6 _ ⟨w4, L5, rfl, h⟩
    refine g_if_eq C 29 dX5_young_18 (by decide) (fun hc => ?_) (fun hc => ?_)
    · replace h := h.1 hc
      refine g_sub [] rfl ?_
      exact k_X5_young_29 C ret w4 L5 h
    · replace h := h.2 hc
      refine g_aload_n C 0 rfl dX5_young_21 ?_
      refine g_iload_n C 3 rfl dX5_young_22 ?_
      refine g_callVi C (As := [.int x3]) (rest := []) (m_X5_isAnimal h) (lw_V q1273 q1275 qs48 q84 q1276) (ci := 12) (qi := 0) rfl rfl ⟨rfl, rfl⟩ ⟨Nat.le_of_ble_eq_true rfl, Nat.le_of_ble_eq_true rfl⟩ 1 rfl (by decide +kernel) rfl (Nat.le_of_ble_eq_true rfl) ⟨Nat.zero_le _, Nat.zero_le _⟩ dX5_young_23 ?_
      rintro v9 _ ⟨w7, L8, rfl, h⟩
      refine g_if_ne C 33 dX5_young_26 (by decide) (fun hc => ?_) (fun hc => ?_)
      · replace h := h.2 hc
        refine g_aload_n C 0 rfl dX5_young_33 ?_
        refine g_aload_n C 0 rfl dX5_young_34 ?_
        refine mg_animals C q1017 (xi w7 11) rfl dX5_young_35 ?_
        refine g_lconst C 0 (by decide) dX5_young_38 ?_
        refine g_callVv C (As := [.int (xi w7 11), .long 0]) (rest := []) (m_X5_begin h) (lw_V q1282 q1284 qs49 q84 q1285) (ci := 12) (qi := 0) rfl rfl ⟨rfl, rfl⟩ ⟨Nat.le_of_ble_eq_true rfl, Nat.le_of_ble_eq_true rfl⟩ 2 rfl (by decide +kernel) rfl (Nat.le_of_ble_eq_true rfl) ⟨Nat.zero_le _, Nat.zero_le _⟩ dX5_young_39 ?_
        rintro _ ⟨w10, L11, rfl, h⟩
        refine g_aload_n C 0 rfl dX5_young_42 ?_
        refine g_iload_n C 1 rfl dX5_young_43 ?_
        refine g_iload_n C 2 rfl dX5_young_44 ?_
        refine g_iload_n C 3 rfl dX5_young_45 ?_
        refine g_callVl C (As := [.int x1, .int x2, .int x3]) (rest := []) (m_X5_kinWithYoung h) (lw_V q1304 q1306 qs53 q84 q1307) (ci := 12) (qi := 0) rfl rfl ⟨rfl, rfl⟩ ⟨Nat.le_of_ble_eq_true rfl, Nat.le_of_ble_eq_true rfl⟩ 3 rfl (by decide +kernel) rfl (Nat.le_of_ble_eq_true rfl) ⟨Nat.zero_le _, Nat.zero_le _⟩ dX5_young_46 ?_
        rintro v14 _ ⟨w12, L13, rfl, h⟩
        refine g_bipush C 28 (by decide) dX5_young_49 ?_
        refine g_lshr C dX5_young_51 ?_
        exact ret rfl _ _ _ _ dX5_young_52 ⟨_, _, rfl, h⟩
      · replace h := h.1 hc
        refine g_sub [] rfl ?_
        exact k_X5_young_29 C ret w7 L8 h
def B_X5_young (N : Nat) (x1 : Int32) (x2 : Int32) (x3 : Int32) (post : Int64 → Wd → va_W → Prop) (w : Wd) (L : va_W) : Prop := B_X5_young_0 N post x1 x2 x3 w L
theorem m_X5_young {l : Launch} {K : gK} {N : Nat} {post : Int64 → Wd → va_W → Prop} {x1 : Int32} {x2 : Int32} {x3 : Int32} {w : Wd} {L : va_W} (h : B_X5_young N x1 x2 x3 post w L) : gMl l K yX5_young cX5_young 4 (some .long) rm_X5_young [.ref (ma K 0), .int x1, .int x2, .int x3] (mL K w ++ L) (mPl K post) 0 0 := by
  refine g_inL (ls0 := [(0, .ref (ma K 0)), (1, .int x1), (2, .int x2), (3, .int x3)]) (by decide) (Nat.le_of_ble_eq_true rfl) rfl (fun Γ hl C hn ret => ?_)
  exact k_X5_young_0 C ret x1 x2 x3 w L h
def rm_X5_worthIt : Room := { frames := 2, cells := 0, slots := 0, locals := 50 }
def B_X5_worthIt_60 (N : Nat) (post : Int32 → Wd → va_W → Prop) (w : Wd) (L : va_W) : Prop :=
  post (-1) w L
set_option maxHeartbeats 4000000 in
theorem k_X5_worthIt_60 {Γ : gT} {K : gK} {N : Nat} {post : Int32 → Wd → va_W → Prop} (C : gC Γ K RX5 cX5_worthIt 11 rm_X5_worthIt) (ret : gRi Γ K cX5_worthIt (some .int) (mPi K post) 0 0) (w : Wd) (L : va_W) (h : B_X5_worthIt_60 N post w L) : gJ Γ K 0 0 (mL K w ++ L) 60 [] [] := by
  unfold B_X5_worthIt_60 at h
  refine g_iconst C (-1) (by decide) dX5_worthIt_60 ?_
  exact ret _ _ _ _ _ rfl rfl dX5_worthIt_61 ⟨_, _, rfl, h⟩
def B_X5_worthIt_99s (r99 : Int32 → Int64 → Int64 → Int32 → Wd → va_W → Prop) (N : Nat) (post : Int32 → Wd → va_W → Prop) (x5 : Int32) (x6 : Int64) (x8 : Int64) (x10 : Int32) (w : Wd) (L : va_W) : Prop :=
  ((1000 : Int32) < x10 →
    post (-1) w L) ∧
  (¬ (1000 : Int32) < x10 →
    ((x10.toInt64 * x6) ≤ (x5.toInt64 * x8) →
      r99 x5 x6 x8 (x10 + 1) w L) ∧
    (¬ (x10.toInt64 * x6) ≤ (x5.toInt64 * x8) →
      post x10 w L))
def B_X5_worthIt_99 (N : Nat) (post : Int32 → Wd → va_W → Prop) : Nat → Int32 → Int64 → Int64 → Int32 → Wd → va_W → Prop
  | 0, _, _, _, _, _, _ => False
  | n + 1, x5, x6, x8, x10, w, L => B_X5_worthIt_99s (B_X5_worthIt_99 N post n) N post x5 x6 x8 x10 w L
set_option maxHeartbeats 4000000 in
theorem k_X5_worthIt_99s {Γ : gT} {K : gK} {N : Nat} {post : Int32 → Wd → va_W → Prop} (C : gC Γ K RX5 cX5_worthIt 11 rm_X5_worthIt) (ret : gRi Γ K cX5_worthIt (some .int) (mPi K post) 0 0) {r99 : Int32 → Int64 → Int64 → Int32 → Wd → va_W → Prop} (hr99 : ∀ (x5 : Int32) (x6 : Int64) (x8 : Int64) (x10 : Int32) (w : Wd) (L : va_W), r99 x5 x6 x8 x10 w L → gJ Γ K 0 0 (mL K w ++ L) 99 [(5, .int x5), (6, .long x6), (8, .long x8), (10, .int x10)] []) (x5 : Int32) (x6 : Int64) (x8 : Int64) (x10 : Int32) (w : Wd) (L : va_W) (h : B_X5_worthIt_99s r99 N post x5 x6 x8 x10 w L) : gJ Γ K 0 0 (mL K w ++ L) 99 [(5, .int x5), (6, .long x6), (8, .long x8), (10, .int x10)] [] := by
  unfold B_X5_worthIt_99s at h
  refine g_iload C 3 rfl dX5_worthIt_99 ?_
  refine g_sipush C 1000 (by decide) dX5_worthIt_101 ?_
  refine g_icmp_gt C 132 dX5_worthIt_104 (by decide) (fun hc => ?_) (fun hc => ?_)
  · replace h := h.1 hc
    refine g_iconst C (-1) (by decide) dX5_worthIt_132 ?_
    exact ret _ _ _ _ _ rfl rfl dX5_worthIt_133 ⟨_, _, rfl, h⟩
  · replace h := h.2 hc
    refine g_iload C 3 rfl dX5_worthIt_107 ?_
    refine g_i2l C dX5_worthIt_109 ?_
    refine g_lload C 1 rfl dX5_worthIt_110 ?_
    refine g_lmul C dX5_worthIt_112 ?_
    refine g_iload C 0 rfl dX5_worthIt_113 ?_
    refine g_i2l C dX5_worthIt_115 ?_
    refine g_lload C 2 rfl dX5_worthIt_116 ?_
    refine g_lmul C dX5_worthIt_118 ?_
    refine g_lif_le C 126 dX5_worthIt_119 dX5_worthIt_120 (by decide) (fun hc => ?_) (fun hc => ?_)
    · replace h := h.1 hc
      refine g_iinc C 3 (x10 + 1) (lt := [(10, .int (x10 + 1)), (5, .int x5), (6, .long x6), (8, .long x8)]) rfl rfl dX5_worthIt_126 (by decide) rfl ?_
      refine g_goto C 99 dX5_worthIt_129 (by decide) ?_
      refine g_sub [1, 2, 3, 0] rfl ?_
      exact hr99 x5 x6 x8 (x10 + 1) w L h
    · replace h := h.2 hc
      refine g_iload C 3 rfl dX5_worthIt_123 ?_
      exact ret _ _ _ _ _ rfl rfl dX5_worthIt_125 ⟨_, _, rfl, h⟩
theorem k_X5_worthIt_99 {Γ : gT} {K : gK} {N : Nat} {post : Int32 → Wd → va_W → Prop} (C : gC Γ K RX5 cX5_worthIt 11 rm_X5_worthIt) (ret : gRi Γ K cX5_worthIt (some .int) (mPi K post) 0 0) : ∀ (n : Nat) (x5 : Int32) (x6 : Int64) (x8 : Int64) (x10 : Int32) (w : Wd) (L : va_W) (h : B_X5_worthIt_99 N post n x5 x6 x8 x10 w L), gJ Γ K 0 0 (mL K w ++ L) 99 [(5, .int x5), (6, .long x6), (8, .long x8), (10, .int x10)] [] := by
  intro n
  induction n with
  | zero => intro x5 x6 x8 x10 w L h; exact h.elim
  | succ n ih => intro x5 x6 x8 x10 w L h; exact k_X5_worthIt_99s C ret ih x5 x6 x8 x10 w L h
def B_X5_worthIt_0 (N : Nat) (post : Int32 → Wd → va_W → Prop) (x1 : Int32) (x2 : Int32) (x3 : Int32) (x4 : Int32) (x5 : Int32) (w : Wd) (L : va_W) : Prop :=
  B_X5_isAnimal N x1 (fun (v3 : Int32) (w1 : Wd) (L2 : va_W) =>
  (v3 = 0 →
    B_X5_worthIt_60 N post w1 L2) ∧
  (¬ v3 = 0 →
    B_X5_isAnimal N x2 (fun (v6 : Int32) (w4 : Wd) (L5 : va_W) =>
  (v6 = 0 →
      B_X5_worthIt_60 N post w4 L5) ∧
    (¬ v6 = 0 →
      B_X5_isAnimal N x3 (fun (v9 : Int32) (w7 : Wd) (L8 : va_W) =>
  (v9 = 0 →
        B_X5_worthIt_60 N post w7 L8) ∧
      (¬ v9 = 0 →
        (x2 = x3 →
          B_X5_worthIt_60 N post w7 L8) ∧
        (¬ x2 = x3 →
          B_X5_isAnimal N x4 (fun (v12 : Int32) (w10 : Wd) (L11 : va_W) =>
  (v12 = 0 →
            B_X5_worthIt_60 N post w10 L11) ∧
          (¬ v12 = 0 →
            (x4 = x1 →
              B_X5_worthIt_60 N post w10 L11) ∧
            (¬ x4 = x1 →
              B_X5_isIn N x5 0 99 (fun (v15 : Int32) (w13 : Wd) (L14 : va_W) =>
  (v15 = 0 →
                B_X5_worthIt_60 N post w13 L14) ∧
              (¬ v15 = 0 →
                B_X5_begin N (xi w13 11) 0 (fun (w16 : Wd) (L17 : va_W) =>
  B_X5_kinWithYoung N x1 x2 x3 (fun (v20 : Int64) (w18 : Wd) (L19 : va_W) =>
  B_X5_kinWithYoung N x1 x1 x4 (fun (v23 : Int64) (w21 : Wd) (L22 : va_W) =>
  B_X5_worthIt_99 N post N x5 (v20 >>> ((28 : Int32).toInt64 &&& 63)) (v23 >>> ((28 : Int32).toInt64 &&& 63)) 1 w21 L22) w18 L19) w16 L17) w13 L14)) w10 L11))) w7 L8))) w4 L5)) w1 L2)) (xsi w 0 0) L
set_option maxHeartbeats 4000000 in
theorem k_X5_worthIt_0 {Γ : gT} {K : gK} {N : Nat} {post : Int32 → Wd → va_W → Prop} (C : gC Γ K RX5 cX5_worthIt 11 rm_X5_worthIt) (ret : gRi Γ K cX5_worthIt (some .int) (mPi K post) 0 0) (x1 : Int32) (x2 : Int32) (x3 : Int32) (x4 : Int32) (x5 : Int32) (w : Wd) (L : va_W) (h : B_X5_worthIt_0 N post x1 x2 x3 x4 x5 w L) : gJ Γ K 0 0 (mL K w ++ L) 0 [(0, .ref (ma K 0)), (1, .int x1), (2, .int x2), (3, .int x3), (4, .int x4), (5, .int x5)] [] := by
  unfold B_X5_worthIt_0 at h
  refine g_aload_n C 0 rfl dX5_worthIt_0 ?_
  refine g_iconst C 0 (by decide) dX5_worthIt_1 ?_
  refine mp_thrown C q996 dX5_worthIt_2 ?_
  refine g_aload_n C 0 rfl dX5_worthIt_5 ?_
  refine g_iload_n C 1 rfl dX5_worthIt_6 ?_
  refine g_callVi C (As := [.int x1]) (rest := []) (m_X5_isAnimal h) (lw_V q1273 q1275 qs48 q84 q1276) (ci := 12) (qi := 0) rfl rfl ⟨rfl, rfl⟩ ⟨Nat.le_of_ble_eq_true rfl, Nat.le_of_ble_eq_true rfl⟩ 1 rfl (by decide +kernel) rfl (Nat.le_of_ble_eq_true rfl) ⟨Nat.zero_le _, Nat.zero_le _⟩ dX5_worthIt_7 ?_
  rintro v3 _ ⟨w1, L2, rfl, h⟩
  refine g_if_eq C 60 dX5_worthIt_10 (by decide) (fun hc => ?_) (fun hc => ?_)
  · replace h := h.1 hc
    refine g_sub [] rfl ?_
    exact k_X5_worthIt_60 C ret w1 L2 h
  · replace h := h.2 hc
    refine g_aload_n C 0 rfl dX5_worthIt_13 ?_
    refine g_iload_n C 2 rfl dX5_worthIt_14 ?_
    refine g_callVi C (As := [.int x2]) (rest := []) (m_X5_isAnimal h) (lw_V q1273 q1275 qs48 q84 q1276) (ci := 12) (qi := 0) rfl rfl ⟨rfl, rfl⟩ ⟨Nat.le_of_ble_eq_true rfl, Nat.le_of_ble_eq_true rfl⟩ 1 rfl (by decide +kernel) rfl (Nat.le_of_ble_eq_true rfl) ⟨Nat.zero_le _, Nat.zero_le _⟩ dX5_worthIt_15 ?_
    rintro v6 _ ⟨w4, L5, rfl, h⟩
    refine g_if_eq C 60 dX5_worthIt_18 (by decide) (fun hc => ?_) (fun hc => ?_)
    · replace h := h.1 hc
      refine g_sub [] rfl ?_
      exact k_X5_worthIt_60 C ret w4 L5 h
    · replace h := h.2 hc
      refine g_aload_n C 0 rfl dX5_worthIt_21 ?_
      refine g_iload_n C 3 rfl dX5_worthIt_22 ?_
      refine g_callVi C (As := [.int x3]) (rest := []) (m_X5_isAnimal h) (lw_V q1273 q1275 qs48 q84 q1276) (ci := 12) (qi := 0) rfl rfl ⟨rfl, rfl⟩ ⟨Nat.le_of_ble_eq_true rfl, Nat.le_of_ble_eq_true rfl⟩ 1 rfl (by decide +kernel) rfl (Nat.le_of_ble_eq_true rfl) ⟨Nat.zero_le _, Nat.zero_le _⟩ dX5_worthIt_23 ?_
      rintro v9 _ ⟨w7, L8, rfl, h⟩
      refine g_if_eq C 60 dX5_worthIt_26 (by decide) (fun hc => ?_) (fun hc => ?_)
      · replace h := h.1 hc
        refine g_sub [] rfl ?_
        exact k_X5_worthIt_60 C ret w7 L8 h
      · replace h := h.2 hc
        refine g_iload_n C 2 rfl dX5_worthIt_29 ?_
        refine g_iload_n C 3 rfl dX5_worthIt_30 ?_
        refine g_icmp_eq C 60 dX5_worthIt_31 (by decide) (fun hc => ?_) (fun hc => ?_)
        · replace h := h.1 hc
          refine g_sub [] rfl ?_
          exact k_X5_worthIt_60 C ret w7 L8 h
        · replace h := h.2 hc
          refine g_aload_n C 0 rfl dX5_worthIt_34 ?_
          refine g_iload C 4 rfl dX5_worthIt_35 ?_
          refine g_callVi C (As := [.int x4]) (rest := []) (m_X5_isAnimal h) (lw_V q1273 q1275 qs48 q84 q1276) (ci := 12) (qi := 0) rfl rfl ⟨rfl, rfl⟩ ⟨Nat.le_of_ble_eq_true rfl, Nat.le_of_ble_eq_true rfl⟩ 1 rfl (by decide +kernel) rfl (Nat.le_of_ble_eq_true rfl) ⟨Nat.zero_le _, Nat.zero_le _⟩ dX5_worthIt_37 ?_
          rintro v12 _ ⟨w10, L11, rfl, h⟩
          refine g_if_eq C 60 dX5_worthIt_40 (by decide) (fun hc => ?_) (fun hc => ?_)
          · replace h := h.1 hc
            refine g_sub [] rfl ?_
            exact k_X5_worthIt_60 C ret w10 L11 h
          · replace h := h.2 hc
            refine g_iload C 4 rfl dX5_worthIt_43 ?_
            refine g_iload_n C 1 rfl dX5_worthIt_45 ?_
            refine g_icmp_eq C 60 dX5_worthIt_46 (by decide) (fun hc => ?_) (fun hc => ?_)
            · replace h := h.1 hc
              refine g_sub [] rfl ?_
              exact k_X5_worthIt_60 C ret w10 L11 h
            · replace h := h.2 hc
              refine g_iload C 5 rfl dX5_worthIt_49 ?_
              refine g_iconst C 0 (by decide) dX5_worthIt_51 ?_
              refine g_bipush C 99 (by decide) dX5_worthIt_52 ?_
              refine g_callSi C (As := [.int x5, .int 0, .int 99]) (rest := []) (m_X5_isIn h) (Cn := "") (b := 0) (lw_S q1270 q1271 q84 q1272) ⟨rfl, rfl⟩ ⟨Nat.le_of_ble_eq_true rfl, Nat.le_of_ble_eq_true rfl⟩ 3 rfl (by decide +kernel) rfl (Nat.le_of_ble_eq_true rfl) ⟨Nat.zero_le _, Nat.zero_le _⟩ dX5_worthIt_54 ?_
              rintro v15 _ ⟨w13, L14, rfl, h⟩
              refine g_if_ne C 62 dX5_worthIt_57 (by decide) (fun hc => ?_) (fun hc => ?_)
              · replace h := h.2 hc
                refine g_aload_n C 0 rfl dX5_worthIt_62 ?_
                refine g_aload_n C 0 rfl dX5_worthIt_63 ?_
                refine mg_animals C q1017 (xi w13 11) rfl dX5_worthIt_64 ?_
                refine g_lconst C 0 (by decide) dX5_worthIt_67 ?_
                refine g_callVv C (As := [.int (xi w13 11), .long 0]) (rest := []) (m_X5_begin h) (lw_V q1282 q1284 qs49 q84 q1285) (ci := 12) (qi := 0) rfl rfl ⟨rfl, rfl⟩ ⟨Nat.le_of_ble_eq_true rfl, Nat.le_of_ble_eq_true rfl⟩ 2 rfl (by decide +kernel) rfl (Nat.le_of_ble_eq_true rfl) ⟨Nat.zero_le _, Nat.zero_le _⟩ dX5_worthIt_68 ?_
                rintro _ ⟨w16, L17, rfl, h⟩
                refine g_aload_n C 0 rfl dX5_worthIt_71 ?_
                refine g_iload_n C 1 rfl dX5_worthIt_72 ?_
                refine g_iload_n C 2 rfl dX5_worthIt_73 ?_
                refine g_iload_n C 3 rfl dX5_worthIt_74 ?_
                refine g_callVl C (As := [.int x1, .int x2, .int x3]) (rest := []) (m_X5_kinWithYoung h) (lw_V q1304 q1306 qs53 q84 q1307) (ci := 12) (qi := 0) rfl rfl ⟨rfl, rfl⟩ ⟨Nat.le_of_ble_eq_true rfl, Nat.le_of_ble_eq_true rfl⟩ 3 rfl (by decide +kernel) rfl (Nat.le_of_ble_eq_true rfl) ⟨Nat.zero_le _, Nat.zero_le _⟩ dX5_worthIt_75 ?_
                rintro v20 _ ⟨w18, L19, rfl, h⟩
                refine g_bipush C 28 (by decide) dX5_worthIt_78 ?_
                refine g_lshr C dX5_worthIt_80 ?_
                refine g_lstore C (lt := [(6, .long (v20 >>> ((28 : Int32).toInt64 &&& 63))), (0, .ref (ma K 0)), (1, .int x1), (2, .int x2), (3, .int x3), (4, .int x4), (5, .int x5)]) dX5_worthIt_81 (by decide) rfl ?_
                refine g_aload_n C 1 rfl dX5_worthIt_83 ?_
                refine g_iload_n C 2 rfl dX5_worthIt_84 ?_
                refine g_iload_n C 2 rfl dX5_worthIt_85 ?_
                refine g_iload C 5 rfl dX5_worthIt_86 ?_
                refine g_callVl C (As := [.int x1, .int x1, .int x4]) (rest := []) (m_X5_kinWithYoung h) (lw_V q1304 q1306 qs53 q84 q1307) (ci := 12) (qi := 0) rfl rfl ⟨rfl, rfl⟩ ⟨Nat.le_of_ble_eq_true rfl, Nat.le_of_ble_eq_true rfl⟩ 3 rfl (by decide +kernel) rfl (Nat.le_of_ble_eq_true rfl) ⟨Nat.zero_le _, Nat.zero_le _⟩ dX5_worthIt_88 ?_
                rintro v23 _ ⟨w21, L22, rfl, h⟩
                refine g_bipush C 28 (by decide) dX5_worthIt_91 ?_
                refine g_lshr C dX5_worthIt_93 ?_
                refine g_lstore C (lt := [(8, .long (v23 >>> ((28 : Int32).toInt64 &&& 63))), (6, .long (v20 >>> ((28 : Int32).toInt64 &&& 63))), (0, .ref (ma K 0)), (1, .int x1), (2, .int x2), (3, .int x3), (4, .int x4), (5, .int x5)]) dX5_worthIt_94 (by decide) rfl ?_
                refine g_iconst C 1 (by decide) dX5_worthIt_96 ?_
                refine g_istore C (lt := [(10, .int 1), (8, .long (v23 >>> ((28 : Int32).toInt64 &&& 63))), (6, .long (v20 >>> ((28 : Int32).toInt64 &&& 63))), (0, .ref (ma K 0)), (1, .int x1), (2, .int x2), (3, .int x3), (4, .int x4), (5, .int x5)]) dX5_worthIt_97 (by decide) rfl ?_
                refine g_sub [8, 2, 1, 0] rfl ?_
                exact k_X5_worthIt_99 C ret N x5 (v20 >>> ((28 : Int32).toInt64 &&& 63)) (v23 >>> ((28 : Int32).toInt64 &&& 63)) 1 w21 L22 h
              · replace h := h.1 hc
                refine g_sub [] rfl ?_
                exact k_X5_worthIt_60 C ret w13 L14 h
def B_X5_worthIt (N : Nat) (x1 : Int32) (x2 : Int32) (x3 : Int32) (x4 : Int32) (x5 : Int32) (post : Int32 → Wd → va_W → Prop) (w : Wd) (L : va_W) : Prop := B_X5_worthIt_0 N post x1 x2 x3 x4 x5 w L
theorem m_X5_worthIt {l : Launch} {K : gK} {N : Nat} {post : Int32 → Wd → va_W → Prop} {x1 : Int32} {x2 : Int32} {x3 : Int32} {x4 : Int32} {x5 : Int32} {w : Wd} {L : va_W} (h : B_X5_worthIt N x1 x2 x3 x4 x5 post w L) : gMi l K yX5_worthIt cX5_worthIt 11 (some .int) rm_X5_worthIt [.ref (ma K 0), .int x1, .int x2, .int x3, .int x4, .int x5] (mL K w ++ L) (mPi K post) 0 0 := by
  refine g_inI (ls0 := [(0, .ref (ma K 0)), (1, .int x1), (2, .int x2), (3, .int x3), (4, .int x4), (5, .int x5)]) (by decide) (Nat.le_of_ble_eq_true rfl) rfl (fun Γ hl C hn ret => ?_)
  exact k_X5_worthIt_0 C ret x1 x2 x3 x4 x5 w L h
def rm_X5_draw : Room := { frames := 0, cells := 0, slots := 0, locals := 0 }
def B_X5_draw_0 (N : Nat) (post : Int32 → Wd → va_W → Prop) (w : Wd) (L : va_W) : Prop :=
  post (((((((xl w 0) * 6364136223846793005) + 1442695040888963407).toUInt64 >>> ((33 : Int32).toInt64.toUInt64 &&& Int64.toUInt64 63)).toInt64) - (((((xl w 0) * 6364136223846793005) + 1442695040888963407).toUInt64 >>> ((33 : Int32).toInt64.toUInt64 &&& Int64.toUInt64 63)).toInt64) / 100 * 100).toInt32) (xsl w 0 (((xl w 0) * 6364136223846793005) + 1442695040888963407)) L
set_option maxHeartbeats 4000000 in
theorem k_X5_draw_0 {Γ : gT} {K : gK} {N : Nat} {post : Int32 → Wd → va_W → Prop} (C : gC Γ K RX5 cX5_draw 1 rm_X5_draw) (ret : gRi Γ K cX5_draw (some .int) (mPi K post) 0 0) (w : Wd) (L : va_W) (h : B_X5_draw_0 N post w L) : gJ Γ K 0 0 (mL K w ++ L) 0 [(0, .ref (ma K 0))] [] := by
  unfold B_X5_draw_0 at h
  refine g_aload_n C 0 rfl dX5_draw_0 ?_
  refine g_aload_n C 0 rfl dX5_draw_1 ?_
  refine mg_x C q1044 (xl w 0) rfl dX5_draw_2 ?_
  refine g_ldc2 C (v := 6364136223846793005) q1392 dX5_draw_5 ?_
  refine g_lmul C dX5_draw_8 ?_
  refine g_ldc2 C (v := 1442695040888963407) q1393 dX5_draw_9 ?_
  refine g_ladd C dX5_draw_12 ?_
  refine mp_x C q1044 dX5_draw_13 ?_
  refine g_aload_n C 0 rfl dX5_draw_16 ?_
  refine mg_x C q1044 ((((xl w 0) * 6364136223846793005) + 1442695040888963407)) rfl dX5_draw_17 ?_
  refine g_bipush C 33 (by decide) dX5_draw_20 ?_
  refine g_lushr C dX5_draw_22 ?_
  refine g_ldc2 C (v := 100) q1394 dX5_draw_23 ?_
  refine g_lrem C (by decide) dX5_draw_26 ?_
  refine g_l2i C dX5_draw_27 ?_
  exact ret _ _ _ _ _ rfl rfl dX5_draw_28 ⟨_, _, rfl, h⟩
def B_X5_draw (N : Nat) (post : Int32 → Wd → va_W → Prop) (w : Wd) (L : va_W) : Prop := B_X5_draw_0 N post w L
theorem m_X5_draw {l : Launch} {K : gK} {N : Nat} {post : Int32 → Wd → va_W → Prop} {w : Wd} {L : va_W} (h : B_X5_draw N post w L) : gMi l K yX5_draw cX5_draw 1 (some .int) rm_X5_draw [.ref (ma K 0)] (mL K w ++ L) (mPi K post) 0 0 := by
  refine g_inI (ls0 := [(0, .ref (ma K 0))]) (by decide) (Nat.le_of_ble_eq_true rfl) rfl (fun Γ hl C hn ret => ?_)
  exact k_X5_draw_0 C ret w L h
def rm_X5_over : Room := { frames := 0, cells := 0, slots := 0, locals := 0 }
def B_X5_over_30 (N : Nat) (post : Wd → va_W → Prop) (w : Wd) (L : va_W) : Prop :=
  post w L
set_option maxHeartbeats 4000000 in
theorem k_X5_over_30 {Γ : gT} {K : gK} {N : Nat} {post : Wd → va_W → Prop} (C : gC Γ K RX5 cX5_over 3 rm_X5_over) (ret : gRv Γ K cX5_over (none) (mPv K post) 0 0) (w : Wd) (L : va_W) (h : B_X5_over_30 N post w L) : gJ Γ K 0 0 (mL K w ++ L) 30 [] [] := by
  unfold B_X5_over_30 at h
  exact ret rfl _ _ _ dX5_over_30 ⟨_, _, rfl, h⟩
def B_X5_over_0 (N : Nat) (post : Wd → va_W → Prop) (x1 : Int32) (x2 : Int32) (w : Wd) (L : va_W) : Prop :=
  vp_in x1 24 ∧ ∀ w1 : Wd, w1 = (xsA w 14 x1.toNatClampNeg x2) → vp_in x1 24 ∧ ∀ w2 : Wd, w2 = (xsA w1 15 x1.toNatClampNeg (xi w1 20)) → (x1 = (xi w2 17) →
    B_X5_over_30 N post (xsi w2 17 (-1)) L) ∧
  (¬ x1 = (xi w2 17) →
    B_X5_over_30 N post w2 L)
set_option maxHeartbeats 4000000 in
theorem k_X5_over_0 {Γ : gT} {K : gK} {N : Nat} {post : Wd → va_W → Prop} (C : gC Γ K RX5 cX5_over 3 rm_X5_over) (ret : gRv Γ K cX5_over (none) (mPv K post) 0 0) (x1 : Int32) (x2 : Int32) (w : Wd) (L : va_W) (h : B_X5_over_0 N post x1 x2 w L) : gJ Γ K 0 0 (mL K w ++ L) 0 [(0, .ref (ma K 0)), (1, .int x1), (2, .int x2)] [] := by
  unfold B_X5_over_0 at h
  refine g_aload_n C 0 rfl dX5_over_0 ?_
  refine mg_state C q1026 dX5_over_1 ?_
  refine g_iload_n C 1 rfl dX5_over_4 ?_
  refine g_iload_n C 2 rfl dX5_over_5 ?_
  obtain ⟨hb, h⟩ := h
  refine mst_14 C hb dX5_over_6 ?_
  obtain ⟨w1, ew1⟩ : ∃ z, z = (xsA w 14 x1.toNatClampNeg x2) := ⟨_, rfl⟩
  replace h := h w1 ew1
  rw [← ew1]
  refine g_aload_n C 0 rfl dX5_over_7 ?_
  refine mg_when C q1027 dX5_over_8 ?_
  refine g_iload_n C 1 rfl dX5_over_11 ?_
  refine g_aload_n C 0 rfl dX5_over_12 ?_
  refine mg_month C q1039 (xi w1 20) rfl dX5_over_13 ?_
  obtain ⟨hb, h⟩ := h
  refine mst_15 C hb dX5_over_16 ?_
  obtain ⟨w2, ew2⟩ : ∃ z, z = (xsA w1 15 x1.toNatClampNeg (xi w1 20)) := ⟨_, rfl⟩
  replace h := h w2 ew2
  rw [← ew2]
  refine g_iload_n C 1 rfl dX5_over_17 ?_
  refine g_aload_n C 0 rfl dX5_over_18 ?_
  refine mg_queen C q1036 (xi w2 17) rfl dX5_over_19 ?_
  refine g_icmp_ne C 30 dX5_over_22 (by decide) (fun hc => ?_) (fun hc => ?_)
  · replace h := h.2 hc
    refine g_sub [] rfl ?_
    exact k_X5_over_30 C ret w2 L h
  · replace h := h.1 hc
    refine g_aload_n C 0 rfl dX5_over_25 ?_
    refine g_iconst C (-1) (by decide) dX5_over_26 ?_
    refine mp_queen C q1036 dX5_over_27 ?_
    refine g_sub [] rfl ?_
    exact k_X5_over_30 C ret (xsi w2 17 (-1)) L h
def B_X5_over (N : Nat) (x1 : Int32) (x2 : Int32) (post : Wd → va_W → Prop) (w : Wd) (L : va_W) : Prop := B_X5_over_0 N post x1 x2 w L
theorem m_X5_over {l : Launch} {K : gK} {N : Nat} {post : Wd → va_W → Prop} {x1 : Int32} {x2 : Int32} {w : Wd} {L : va_W} (h : B_X5_over N x1 x2 post w L) : gMv l K yX5_over cX5_over 3 (none) rm_X5_over [.ref (ma K 0), .int x1, .int x2] (mL K w ++ L) (mPv K post) 0 0 := by
  refine g_inV (ls0 := [(0, .ref (ma K 0)), (1, .int x1), (2, .int x2)]) (by decide) (Nat.le_of_ble_eq_true rfl) rfl (fun Γ hl C hn ret => ?_)
  exact k_X5_over_0 C ret x1 x2 w L h
def rm_X5_dies : Room := { frames := 1, cells := 0, slots := 0, locals := 22 }
def B_X5_dies_53 (N : Nat) (post : Wd → va_W → Prop) (w : Wd) (L : va_W) : Prop :=
  post w L
set_option maxHeartbeats 4000000 in
theorem k_X5_dies_53 {Γ : gT} {K : gK} {N : Nat} {post : Wd → va_W → Prop} (C : gC Γ K RX5 cX5_dies 1 rm_X5_dies) (ret : gRv Γ K cX5_dies (none) (mPv K post) 0 0) (w : Wd) (L : va_W) (h : B_X5_dies_53 N post w L) : gJ Γ K 0 0 (mL K w ++ L) 53 [] [] := by
  unfold B_X5_dies_53 at h
  exact ret rfl _ _ _ dX5_dies_53 ⟨_, _, rfl, h⟩
def B_X5_dies_0 (N : Nat) (post : Wd → va_W → Prop) (w : Wd) (L : va_W) : Prop :=
  vp_in 8 9 ∧ ((xA w 11 (8 : Int32).toNatClampNeg) = (xi w 20) →
    ((xi w 17) = (-1 : Int32) →
      B_X5_dies_53 N post w L) ∧
    (¬ (xi w 17) = (-1 : Int32) →
      ((xi w 17) = (xi w 12) →
        ((xi w 14) ≤ (xi w 12) →
          B_X5_dies_53 N post w L) ∧
        (¬ (xi w 14) ≤ (xi w 12) →
          B_X5_over N (xi w 17) 1 (fun (w1 : Wd) (L2 : va_W) =>
  B_X5_dies_53 N post w1 L2) w L)) ∧
      (¬ (xi w 17) = (xi w 12) →
        B_X5_dies_53 N post w L))) ∧
  (¬ (xA w 11 (8 : Int32).toNatClampNeg) = (xi w 20) →
    B_X5_dies_53 N post w L)
set_option maxHeartbeats 4000000 in
theorem k_X5_dies_0 {Γ : gT} {K : gK} {N : Nat} {post : Wd → va_W → Prop} (C : gC Γ K RX5 cX5_dies 1 rm_X5_dies) (ret : gRv Γ K cX5_dies (none) (mPv K post) 0 0) (w : Wd) (L : va_W) (h : B_X5_dies_0 N post w L) : gJ Γ K 0 0 (mL K w ++ L) 0 [(0, .ref (ma K 0))] [] := by
  unfold B_X5_dies_0 at h
  refine g_aload_n C 0 rfl dX5_dies_0 ?_
  refine mg_settings C q1023 dX5_dies_1 ?_
  refine g_bipush C 8 (by decide) dX5_dies_4 ?_
  obtain ⟨hb, h⟩ := h
  refine mld_11 C hb (xA w 11 (8 : Int32).toNatClampNeg) rfl dX5_dies_6 ?_
  refine g_aload_n C 0 rfl dX5_dies_7 ?_
  refine mg_month C q1039 (xi w 20) rfl dX5_dies_8 ?_
  refine g_icmp_ne C 53 dX5_dies_11 (by decide) (fun hc => ?_) (fun hc => ?_)
  · replace h := h.2 hc
    refine g_sub [] rfl ?_
    exact k_X5_dies_53 C ret w L h
  · replace h := h.1 hc
    refine g_aload_n C 0 rfl dX5_dies_14 ?_
    refine mg_queen C q1036 (xi w 17) rfl dX5_dies_15 ?_
    refine g_iconst C (-1) (by decide) dX5_dies_18 ?_
    refine g_icmp_eq C 53 dX5_dies_19 (by decide) (fun hc => ?_) (fun hc => ?_)
    · replace h := h.1 hc
      refine g_sub [] rfl ?_
      exact k_X5_dies_53 C ret w L h
    · replace h := h.2 hc
      refine g_aload_n C 0 rfl dX5_dies_22 ?_
      refine mg_queen C q1036 (xi w 17) rfl dX5_dies_23 ?_
      refine g_aload_n C 0 rfl dX5_dies_26 ?_
      refine mg_toldQueen C q1021 (xi w 12) rfl dX5_dies_27 ?_
      refine g_icmp_ne C 53 dX5_dies_30 (by decide) (fun hc => ?_) (fun hc => ?_)
      · replace h := h.2 hc
        refine g_sub [] rfl ?_
        exact k_X5_dies_53 C ret w L h
      · replace h := h.1 hc
        refine g_aload_n C 0 rfl dX5_dies_33 ?_
        refine mg_toldQueen C q1021 (xi w 12) rfl dX5_dies_34 ?_
        refine g_aload_n C 0 rfl dX5_dies_37 ?_
        refine mg_glass C q1033 (xi w 14) rfl dX5_dies_38 ?_
        refine g_icmp_ge C 53 dX5_dies_41 (by decide) (fun hc => ?_) (fun hc => ?_)
        · replace h := h.1 hc
          refine g_sub [] rfl ?_
          exact k_X5_dies_53 C ret w L h
        · replace h := h.2 hc
          refine g_aload_n C 0 rfl dX5_dies_44 ?_
          refine g_aload_n C 0 rfl dX5_dies_45 ?_
          refine mg_queen C q1036 (xi w 17) rfl dX5_dies_46 ?_
          refine g_iconst C 1 (by decide) dX5_dies_49 ?_
          refine g_callVv C (As := [.int (xi w 17), .int 1]) (rest := []) (m_X5_over h) (lw_V q1346 q1348 qs56 q84 q1349) (ci := 12) (qi := 0) rfl rfl ⟨rfl, rfl⟩ ⟨Nat.le_of_ble_eq_true rfl, Nat.le_of_ble_eq_true rfl⟩ 2 rfl (by decide +kernel) rfl (Nat.le_of_ble_eq_true rfl) ⟨Nat.zero_le _, Nat.zero_le _⟩ dX5_dies_50 ?_
          rintro _ ⟨w1, L2, rfl, h⟩
          refine g_sub [] rfl ?_
          exact k_X5_dies_53 C ret w1 L2 h
def B_X5_dies (N : Nat) (post : Wd → va_W → Prop) (w : Wd) (L : va_W) : Prop := B_X5_dies_0 N post w L
theorem m_X5_dies {l : Launch} {K : gK} {N : Nat} {post : Wd → va_W → Prop} {w : Wd} {L : va_W} (h : B_X5_dies N post w L) : gMv l K yX5_dies cX5_dies 1 (none) rm_X5_dies [.ref (ma K 0)] (mL K w ++ L) (mPv K post) 0 0 := by
  refine g_inV (ls0 := [(0, .ref (ma K 0))]) (by decide) (Nat.le_of_ble_eq_true rfl) rfl (fun Γ hl C hn ret => ?_)
  exact k_X5_dies_0 C ret w L h
def rm_X5_rainNow : Room := { frames := 0, cells := 0, slots := 0, locals := 0 }
def B_X5_rainNow_20 (N : Nat) (post : Int32 → Wd → va_W → Prop) (s0 : Int32) (w : Wd) (L : va_W) : Prop :=
  post s0 w L
set_option maxHeartbeats 4000000 in
theorem k_X5_rainNow_20 {Γ : gT} {K : gK} {N : Nat} {post : Int32 → Wd → va_W → Prop} (C : gC Γ K RX5 cX5_rainNow 1 rm_X5_rainNow) (ret : gRi Γ K cX5_rainNow (some .int) (mPi K post) 0 0) (s0 : Int32) (w : Wd) (L : va_W) (h : B_X5_rainNow_20 N post s0 w L) : gJ Γ K 0 0 (mL K w ++ L) 20 [] [.int s0] := by
  unfold B_X5_rainNow_20 at h
  exact ret _ _ _ _ _ rfl rfl dX5_rainNow_20 ⟨_, _, rfl, h⟩
def B_X5_rainNow_0 (N : Nat) (post : Int32 → Wd → va_W → Prop) (w : Wd) (L : va_W) : Prop :=
  ((xi w 22) = 0 →
    vp_in (xi w 20) 24 ∧ B_X5_rainNow_20 N post (xA w 12 (xi w 20).toNatClampNeg) w L) ∧
  (¬ (xi w 22) = 0 →
    B_X5_rainNow_20 N post 0 w L)
set_option maxHeartbeats 4000000 in
theorem k_X5_rainNow_0 {Γ : gT} {K : gK} {N : Nat} {post : Int32 → Wd → va_W → Prop} (C : gC Γ K RX5 cX5_rainNow 1 rm_X5_rainNow) (ret : gRi Γ K cX5_rainNow (some .int) (mPi K post) 0 0) (w : Wd) (L : va_W) (h : B_X5_rainNow_0 N post w L) : gJ Γ K 0 0 (mL K w ++ L) 0 [(0, .ref (ma K 0))] [] := by
  unfold B_X5_rainNow_0 at h
  refine g_aload_n C 0 rfl dX5_rainNow_0 ?_
  refine mg_dry C q1041 (xi w 22) rfl dX5_rainNow_1 ?_
  refine g_if_eq C 11 dX5_rainNow_4 (by decide) (fun hc => ?_) (fun hc => ?_)
  · replace h := h.1 hc
    refine g_aload_n C 0 rfl dX5_rainNow_11 ?_
    refine mg_rains C q1024 dX5_rainNow_12 ?_
    refine g_aload_n C 0 rfl dX5_rainNow_15 ?_
    refine mg_month C q1039 (xi w 20) rfl dX5_rainNow_16 ?_
    obtain ⟨hb, h⟩ := h
    refine mld_12 C hb (xA w 12 (xi w 20).toNatClampNeg) rfl dX5_rainNow_19 ?_
    refine g_sub [] rfl ?_
    exact k_X5_rainNow_20 C ret (xA w 12 (xi w 20).toNatClampNeg) w L h
  · replace h := h.2 hc
    refine g_iconst C 0 (by decide) dX5_rainNow_7 ?_
    refine g_goto C 20 dX5_rainNow_8 (by decide) ?_
    refine g_sub [] rfl ?_
    exact k_X5_rainNow_20 C ret 0 w L h
def B_X5_rainNow (N : Nat) (post : Int32 → Wd → va_W → Prop) (w : Wd) (L : va_W) : Prop := B_X5_rainNow_0 N post w L
theorem m_X5_rainNow {l : Launch} {K : gK} {N : Nat} {post : Int32 → Wd → va_W → Prop} {w : Wd} {L : va_W} (h : B_X5_rainNow N post w L) : gMi l K yX5_rainNow cX5_rainNow 1 (some .int) rm_X5_rainNow [.ref (ma K 0)] (mL K w ++ L) (mPi K post) 0 0 := by
  refine g_inI (ls0 := [(0, .ref (ma K 0))]) (by decide) (Nat.le_of_ble_eq_true rfl) rfl (fun Γ hl C hn ret => ?_)
  exact k_X5_rainNow_0 C ret w L h
def rm_X5_layLetters : Room := { frames := 2, cells := 0, slots := 0, locals := 45 }
def B_X5_layLetters_177 (N : Nat) (post : Wd → va_W → Prop) (s0 : Int32) (s1 : Int32) (w : Wd) (L : va_W) : Prop :=
  vp_in s1 128 ∧ ∀ w1 : Wd, w1 = (xsA w 4 s1.toNatClampNeg s0) → vp_in 102 128 ∧ ∀ w2 : Wd, w2 = (xsA w1 4 (102 : Int32).toNatClampNeg (xi w1 16)) → post w2 L
set_option maxHeartbeats 4000000 in
theorem k_X5_layLetters_177 {Γ : gT} {K : gK} {N : Nat} {post : Wd → va_W → Prop} (C : gC Γ K RX5 cX5_layLetters 2 rm_X5_layLetters) (ret : gRv Γ K cX5_layLetters (none) (mPv K post) 0 0) (s0 : Int32) (s1 : Int32) (w : Wd) (L : va_W) (h : B_X5_layLetters_177 N post s0 s1 w L) : gJ Γ K 0 0 (mL K w ++ L) 177 [(0, .ref (ma K 0))] [.int s0, .int s1, .ref (ma K 4)] := by
  unfold B_X5_layLetters_177 at h
  obtain ⟨hb, h⟩ := h
  refine mst_4 C hb dX5_layLetters_177 ?_
  obtain ⟨w1, ew1⟩ : ∃ z, z = (xsA w 4 s1.toNatClampNeg s0) := ⟨_, rfl⟩
  replace h := h w1 ew1
  rw [← ew1]
  refine g_aload_n C 0 rfl dX5_layLetters_178 ?_
  refine mg_letters C q1000 dX5_layLetters_179 ?_
  refine g_bipush C 102 (by decide) dX5_layLetters_182 ?_
  refine g_aload_n C 0 rfl dX5_layLetters_184 ?_
  refine mg_store C q1035 (xi w1 16) rfl dX5_layLetters_185 ?_
  obtain ⟨hb, h⟩ := h
  refine mst_4 C hb dX5_layLetters_188 ?_
  obtain ⟨w2, ew2⟩ : ∃ z, z = (xsA w1 4 (102 : Int32).toNatClampNeg (xi w1 16)) := ⟨_, rfl⟩
  replace h := h w2 ew2
  rw [← ew2]
  exact ret rfl _ _ _ dX5_layLetters_189 ⟨_, _, rfl, h⟩
def B_X5_layLetters_156 (N : Nat) (post : Wd → va_W → Prop) (s0 : Int32) (w : Wd) (L : va_W) : Prop :=
  B_X5_layLetters_177 N post 0 s0 w L
set_option maxHeartbeats 4000000 in
theorem k_X5_layLetters_156 {Γ : gT} {K : gK} {N : Nat} {post : Wd → va_W → Prop} (C : gC Γ K RX5 cX5_layLetters 2 rm_X5_layLetters) (ret : gRv Γ K cX5_layLetters (none) (mPv K post) 0 0) (s0 : Int32) (w : Wd) (L : va_W) (h : B_X5_layLetters_156 N post s0 w L) : gJ Γ K 0 0 (mL K w ++ L) 156 [(0, .ref (ma K 0))] [.int s0, .ref (ma K 4)] := by
  unfold B_X5_layLetters_156 at h
  refine g_iconst C 0 (by decide) dX5_layLetters_156 ?_
  refine g_goto C 177 dX5_layLetters_157 (by decide) ?_
  exact k_X5_layLetters_177 C ret 0 s0 w L h
def B_X5_layLetters_130 (N : Nat) (post : Wd → va_W → Prop) (x1 : Int32) (s0 : Int32) (s1 : Int32) (w : Wd) (L : va_W) : Prop :=
  vp_in s1 128 ∧ ∀ w1 : Wd, w1 = (xsA w 4 s1.toNatClampNeg s0) → ((xi w1 17) = (-1 : Int32) →
    B_X5_layLetters_156 N post 107 w1 L) ∧
  (¬ (xi w1 17) = (-1 : Int32) →
    B_X5_isThere N (xi w1 18) (fun (v4 : Int32) (w2 : Wd) (L3 : va_W) =>
  (v4 = 0 →
      B_X5_layLetters_156 N post 107 w2 L3) ∧
    (¬ v4 = 0 →
      B_X5_kinWithYoung N x1 (xi w2 17) (xi w2 18) (fun (v7 : Int64) (w5 : Wd) (L6 : va_W) =>
  B_X5_layLetters_177 N post ((v7 >>> ((54 : Int32).toInt64 &&& 63)).toInt32) 107 w5 L6) w2 L3)) w1 L)
set_option maxHeartbeats 4000000 in
theorem k_X5_layLetters_130 {Γ : gT} {K : gK} {N : Nat} {post : Wd → va_W → Prop} (C : gC Γ K RX5 cX5_layLetters 2 rm_X5_layLetters) (ret : gRv Γ K cX5_layLetters (none) (mPv K post) 0 0) (x1 : Int32) (s0 : Int32) (s1 : Int32) (w : Wd) (L : va_W) (h : B_X5_layLetters_130 N post x1 s0 s1 w L) : gJ Γ K 0 0 (mL K w ++ L) 130 [(0, .ref (ma K 0)), (1, .int x1)] [.int s0, .int s1, .ref (ma K 4)] := by
  unfold B_X5_layLetters_130 at h
  obtain ⟨hb, h⟩ := h
  refine mst_4 C hb dX5_layLetters_130 ?_
  obtain ⟨w1, ew1⟩ : ∃ z, z = (xsA w 4 s1.toNatClampNeg s0) := ⟨_, rfl⟩
  replace h := h w1 ew1
  rw [← ew1]
  refine g_aload_n C 0 rfl dX5_layLetters_131 ?_
  refine mg_letters C q1000 dX5_layLetters_132 ?_
  refine g_bipush C 107 (by decide) dX5_layLetters_135 ?_
  refine g_aload_n C 0 rfl dX5_layLetters_137 ?_
  refine mg_queen C q1036 (xi w1 17) rfl dX5_layLetters_138 ?_
  refine g_iconst C (-1) (by decide) dX5_layLetters_141 ?_
  refine g_icmp_eq C 156 dX5_layLetters_142 (by decide) (fun hc => ?_) (fun hc => ?_)
  · replace h := h.1 hc
    refine g_sub [0] rfl ?_
    exact k_X5_layLetters_156 C ret 107 w1 L h
  · replace h := h.2 hc
    refine g_aload_n C 0 rfl dX5_layLetters_145 ?_
    refine g_aload_n C 0 rfl dX5_layLetters_146 ?_
    refine mg_mate C q1037 (xi w1 18) rfl dX5_layLetters_147 ?_
    refine g_callVi C (As := [.int (xi w1 18)]) (rest := [.int 107, .ref (ma K 4)]) (m_X5_isThere h) (lw_V q1286 q1288 qs50 q84 q1289) (ci := 12) (qi := 0) rfl rfl ⟨rfl, rfl⟩ ⟨Nat.le_of_ble_eq_true rfl, Nat.le_of_ble_eq_true rfl⟩ 1 rfl (by decide +kernel) rfl (Nat.le_of_ble_eq_true rfl) ⟨Nat.zero_le _, Nat.zero_le _⟩ dX5_layLetters_150 ?_
    rintro v4 _ ⟨w2, L3, rfl, h⟩
    refine g_if_ne C 160 dX5_layLetters_153 (by decide) (fun hc => ?_) (fun hc => ?_)
    · replace h := h.2 hc
      refine g_aload_n C 0 rfl dX5_layLetters_160 ?_
      refine g_iload_n C 1 rfl dX5_layLetters_161 ?_
      refine g_aload_n C 0 rfl dX5_layLetters_162 ?_
      refine mg_queen C q1036 (xi w2 17) rfl dX5_layLetters_163 ?_
      refine g_aload_n C 0 rfl dX5_layLetters_166 ?_
      refine mg_mate C q1037 (xi w2 18) rfl dX5_layLetters_167 ?_
      refine g_callVl C (As := [.int x1, .int (xi w2 17), .int (xi w2 18)]) (rest := [.int 107, .ref (ma K 4)]) (m_X5_kinWithYoung h) (lw_V q1304 q1306 qs53 q84 q1307) (ci := 12) (qi := 0) rfl rfl ⟨rfl, rfl⟩ ⟨Nat.le_of_ble_eq_true rfl, Nat.le_of_ble_eq_true rfl⟩ 3 rfl (by decide +kernel) rfl (Nat.le_of_ble_eq_true rfl) ⟨Nat.zero_le _, Nat.zero_le _⟩ dX5_layLetters_170 ?_
      rintro v7 _ ⟨w5, L6, rfl, h⟩
      refine g_bipush C 54 (by decide) dX5_layLetters_173 ?_
      refine g_lshr C dX5_layLetters_175 ?_
      refine g_l2i C dX5_layLetters_176 ?_
      refine g_sub [0] rfl ?_
      exact k_X5_layLetters_177 C ret ((v7 >>> ((54 : Int32).toInt64 &&& 63)).toInt32) 107 w5 L6 h
    · replace h := h.1 hc
      refine g_sub [0] rfl ?_
      exact k_X5_layLetters_156 C ret 107 w2 L3 h
def B_X5_layLetters_119 (N : Nat) (post : Wd → va_W → Prop) (x1 : Int32) (s0 : Int32) (w : Wd) (L : va_W) : Prop :=
  B_X5_layLetters_130 N post x1 0 s0 w L
set_option maxHeartbeats 4000000 in
theorem k_X5_layLetters_119 {Γ : gT} {K : gK} {N : Nat} {post : Wd → va_W → Prop} (C : gC Γ K RX5 cX5_layLetters 2 rm_X5_layLetters) (ret : gRv Γ K cX5_layLetters (none) (mPv K post) 0 0) (x1 : Int32) (s0 : Int32) (w : Wd) (L : va_W) (h : B_X5_layLetters_119 N post x1 s0 w L) : gJ Γ K 0 0 (mL K w ++ L) 119 [(0, .ref (ma K 0)), (1, .int x1)] [.int s0, .ref (ma K 4)] := by
  unfold B_X5_layLetters_119 at h
  refine g_iconst C 0 (by decide) dX5_layLetters_119 ?_
  refine g_goto C 130 dX5_layLetters_120 (by decide) ?_
  exact k_X5_layLetters_130 C ret x1 0 s0 w L h
def B_X5_layLetters_89 (N : Nat) (post : Wd → va_W → Prop) (x1 : Int32) (s0 : Int32) (s1 : Int32) (w : Wd) (L : va_W) : Prop :=
  vp_in s1 128 ∧ ∀ w1 : Wd, w1 = (xsA w 4 s1.toNatClampNeg s0) → ((xi w1 17) = (-1 : Int32) →
    B_X5_layLetters_119 N post x1 112 w1 L) ∧
  (¬ (xi w1 17) = (-1 : Int32) →
    ((xi w1 17) = x1 →
      B_X5_layLetters_119 N post x1 112 w1 L) ∧
    (¬ (xi w1 17) = x1 →
      ((xi w1 23) = 0 →
        vp_in 6 9 ∧ B_X5_layLetters_130 N post x1 (xA w1 11 (6 : Int32).toNatClampNeg) 112 w1 L) ∧
      (¬ (xi w1 23) = 0 →
        B_X5_layLetters_119 N post x1 112 w1 L)))
set_option maxHeartbeats 4000000 in
theorem k_X5_layLetters_89 {Γ : gT} {K : gK} {N : Nat} {post : Wd → va_W → Prop} (C : gC Γ K RX5 cX5_layLetters 2 rm_X5_layLetters) (ret : gRv Γ K cX5_layLetters (none) (mPv K post) 0 0) (x1 : Int32) (s0 : Int32) (s1 : Int32) (w : Wd) (L : va_W) (h : B_X5_layLetters_89 N post x1 s0 s1 w L) : gJ Γ K 0 0 (mL K w ++ L) 89 [(0, .ref (ma K 0)), (1, .int x1)] [.int s0, .int s1, .ref (ma K 4)] := by
  unfold B_X5_layLetters_89 at h
  obtain ⟨hb, h⟩ := h
  refine mst_4 C hb dX5_layLetters_89 ?_
  obtain ⟨w1, ew1⟩ : ∃ z, z = (xsA w 4 s1.toNatClampNeg s0) := ⟨_, rfl⟩
  replace h := h w1 ew1
  rw [← ew1]
  refine g_aload_n C 0 rfl dX5_layLetters_90 ?_
  refine mg_letters C q1000 dX5_layLetters_91 ?_
  refine g_bipush C 112 (by decide) dX5_layLetters_94 ?_
  refine g_aload_n C 0 rfl dX5_layLetters_96 ?_
  refine mg_queen C q1036 (xi w1 17) rfl dX5_layLetters_97 ?_
  refine g_iconst C (-1) (by decide) dX5_layLetters_100 ?_
  refine g_icmp_eq C 119 dX5_layLetters_101 (by decide) (fun hc => ?_) (fun hc => ?_)
  · replace h := h.1 hc
    exact k_X5_layLetters_119 C ret x1 112 w1 L h
  · replace h := h.2 hc
    refine g_aload_n C 0 rfl dX5_layLetters_104 ?_
    refine mg_queen C q1036 (xi w1 17) rfl dX5_layLetters_105 ?_
    refine g_iload_n C 1 rfl dX5_layLetters_108 ?_
    refine g_icmp_eq C 119 dX5_layLetters_109 (by decide) (fun hc => ?_) (fun hc => ?_)
    · replace h := h.1 hc
      exact k_X5_layLetters_119 C ret x1 112 w1 L h
    · replace h := h.2 hc
      refine g_aload_n C 0 rfl dX5_layLetters_112 ?_
      refine mg_mild C q1042 (xi w1 23) rfl dX5_layLetters_113 ?_
      refine g_if_eq C 123 dX5_layLetters_116 (by decide) (fun hc => ?_) (fun hc => ?_)
      · replace h := h.1 hc
        refine g_aload_n C 0 rfl dX5_layLetters_123 ?_
        refine mg_settings C q1023 dX5_layLetters_124 ?_
        refine g_bipush C 6 (by decide) dX5_layLetters_127 ?_
        obtain ⟨hb, h⟩ := h
        refine mld_11 C hb (xA w1 11 (6 : Int32).toNatClampNeg) rfl dX5_layLetters_129 ?_
        exact k_X5_layLetters_130 C ret x1 (xA w1 11 (6 : Int32).toNatClampNeg) 112 w1 L h
      · replace h := h.2 hc
        exact k_X5_layLetters_119 C ret x1 112 w1 L h
def B_X5_layLetters_34 (N : Nat) (post : Wd → va_W → Prop) (x1 : Int32) (s0 : Int32) (s1 : Int32) (w : Wd) (L : va_W) : Prop :=
  vp_in s1 128 ∧ ∀ w1 : Wd, w1 = (xsA w 4 s1.toNatClampNeg s0) → vp_in x1 24 ∧ vp_in 119 128 ∧ ∀ w2 : Wd, w2 = (xsA w1 4 (119 : Int32).toNatClampNeg (xA w1 13 x1.toNatClampNeg)) → B_X5_there N (fun (v5 : Int32) (w3 : Wd) (L4 : va_W) =>
  vp_in 110 128 ∧ ∀ w6 : Wd, w6 = (xsA w3 4 (110 : Int32).toNatClampNeg v5) → B_X5_rainNow N (fun (v9 : Int32) (w7 : Wd) (L8 : va_W) =>
  vp_in 114 128 ∧ ∀ w10 : Wd, w10 = (xsA w7 4 (114 : Int32).toNatClampNeg v9) → ((xi w10 17) = (-1 : Int32) →
    B_X5_layLetters_89 N post x1 0 113 w10 L8) ∧
  (¬ (xi w10 17) = (-1 : Int32) →
    B_X5_layLetters_89 N post x1 1 113 w10 L8)) w6 L4) w2 L
set_option maxHeartbeats 4000000 in
theorem k_X5_layLetters_34 {Γ : gT} {K : gK} {N : Nat} {post : Wd → va_W → Prop} (C : gC Γ K RX5 cX5_layLetters 2 rm_X5_layLetters) (ret : gRv Γ K cX5_layLetters (none) (mPv K post) 0 0) (x1 : Int32) (s0 : Int32) (s1 : Int32) (w : Wd) (L : va_W) (h : B_X5_layLetters_34 N post x1 s0 s1 w L) : gJ Γ K 0 0 (mL K w ++ L) 34 [(0, .ref (ma K 0)), (1, .int x1)] [.int s0, .int s1, .ref (ma K 4)] := by
  unfold B_X5_layLetters_34 at h
  obtain ⟨hb, h⟩ := h
  refine mst_4 C hb dX5_layLetters_34 ?_
  obtain ⟨w1, ew1⟩ : ∃ z, z = (xsA w 4 s1.toNatClampNeg s0) := ⟨_, rfl⟩
  replace h := h w1 ew1
  rw [← ew1]
  refine g_aload_n C 0 rfl dX5_layLetters_35 ?_
  refine mg_letters C q1000 dX5_layLetters_36 ?_
  refine g_bipush C 119 (by decide) dX5_layLetters_39 ?_
  refine g_aload_n C 0 rfl dX5_layLetters_41 ?_
  refine mg_weight C q1025 dX5_layLetters_42 ?_
  refine g_iload_n C 1 rfl dX5_layLetters_45 ?_
  obtain ⟨hb, h⟩ := h
  refine mld_13 C hb (xA w1 13 x1.toNatClampNeg) rfl dX5_layLetters_46 ?_
  obtain ⟨hb, h⟩ := h
  refine mst_4 C hb dX5_layLetters_47 ?_
  obtain ⟨w2, ew2⟩ : ∃ z, z = (xsA w1 4 (119 : Int32).toNatClampNeg (xA w1 13 x1.toNatClampNeg)) := ⟨_, rfl⟩
  replace h := h w2 ew2
  rw [← ew2]
  refine g_aload_n C 0 rfl dX5_layLetters_48 ?_
  refine mg_letters C q1000 dX5_layLetters_49 ?_
  refine g_bipush C 110 (by decide) dX5_layLetters_52 ?_
  refine g_aload_n C 0 rfl dX5_layLetters_54 ?_
  refine g_callVi C (As := []) (rest := [.int 110, .ref (ma K 4)]) (m_X5_there h) (lw_V q1354 q1356 qs58 q84 q1357) (ci := 12) (qi := 0) rfl rfl ⟨rfl, rfl⟩ ⟨Nat.le_of_ble_eq_true rfl, Nat.le_of_ble_eq_true rfl⟩ 0 rfl (by decide +kernel) rfl (Nat.le_of_ble_eq_true rfl) ⟨Nat.zero_le _, Nat.zero_le _⟩ dX5_layLetters_55 ?_
  rintro v5 _ ⟨w3, L4, rfl, h⟩
  obtain ⟨hb, h⟩ := h
  refine mst_4 C hb dX5_layLetters_58 ?_
  obtain ⟨w6, ew6⟩ : ∃ z, z = (xsA w3 4 (110 : Int32).toNatClampNeg v5) := ⟨_, rfl⟩
  replace h := h w6 ew6
  rw [← ew6]
  refine g_aload_n C 0 rfl dX5_layLetters_59 ?_
  refine mg_letters C q1000 dX5_layLetters_60 ?_
  refine g_bipush C 114 (by decide) dX5_layLetters_63 ?_
  refine g_aload_n C 0 rfl dX5_layLetters_65 ?_
  refine g_callVi C (As := []) (rest := [.int 114, .ref (ma K 4)]) (m_X5_rainNow h) (lw_V q1358 q1360 qs59 q84 q1361) (ci := 12) (qi := 0) rfl rfl ⟨rfl, rfl⟩ ⟨Nat.le_of_ble_eq_true rfl, Nat.le_of_ble_eq_true rfl⟩ 0 rfl (by decide +kernel) rfl (Nat.le_of_ble_eq_true rfl) ⟨Nat.zero_le _, Nat.zero_le _⟩ dX5_layLetters_66 ?_
  rintro v9 _ ⟨w7, L8, rfl, h⟩
  obtain ⟨hb, h⟩ := h
  refine mst_4 C hb dX5_layLetters_69 ?_
  obtain ⟨w10, ew10⟩ : ∃ z, z = (xsA w7 4 (114 : Int32).toNatClampNeg v9) := ⟨_, rfl⟩
  replace h := h w10 ew10
  rw [← ew10]
  refine g_aload_n C 0 rfl dX5_layLetters_70 ?_
  refine mg_letters C q1000 dX5_layLetters_71 ?_
  refine g_bipush C 113 (by decide) dX5_layLetters_74 ?_
  refine g_aload_n C 0 rfl dX5_layLetters_76 ?_
  refine mg_queen C q1036 (xi w10 17) rfl dX5_layLetters_77 ?_
  refine g_iconst C (-1) (by decide) dX5_layLetters_80 ?_
  refine g_icmp_ne C 88 dX5_layLetters_81 (by decide) (fun hc => ?_) (fun hc => ?_)
  · replace h := h.2 hc
    refine g_iconst C 1 (by decide) dX5_layLetters_88 ?_
    exact k_X5_layLetters_89 C ret x1 1 113 w10 L8 h
  · replace h := h.1 hc
    refine g_iconst C 0 (by decide) dX5_layLetters_84 ?_
    refine g_goto C 89 dX5_layLetters_85 (by decide) ?_
    exact k_X5_layLetters_89 C ret x1 0 113 w10 L8 h
def B_X5_layLetters_0 (N : Nat) (post : Wd → va_W → Prop) (x1 : Int32) (w : Wd) (L : va_W) : Prop :=
  vp_in x1 24 ∧ ((xA w 16 x1.toNatClampNeg) = (-1 : Int32) →
    B_X5_layLetters_34 N post x1 (xi w 20) 97 w L) ∧
  (¬ (xA w 16 x1.toNatClampNeg) = (-1 : Int32) →
    vp_in x1 24 ∧ B_X5_layLetters_34 N post x1 ((xi w 20) - (xA w 16 x1.toNatClampNeg)) 97 w L)
set_option maxHeartbeats 4000000 in
theorem k_X5_layLetters_0 {Γ : gT} {K : gK} {N : Nat} {post : Wd → va_W → Prop} (C : gC Γ K RX5 cX5_layLetters 2 rm_X5_layLetters) (ret : gRv Γ K cX5_layLetters (none) (mPv K post) 0 0) (x1 : Int32) (w : Wd) (L : va_W) (h : B_X5_layLetters_0 N post x1 w L) : gJ Γ K 0 0 (mL K w ++ L) 0 [(0, .ref (ma K 0)), (1, .int x1)] [] := by
  unfold B_X5_layLetters_0 at h
  refine g_aload_n C 0 rfl dX5_layLetters_0 ?_
  refine mg_letters C q1000 dX5_layLetters_1 ?_
  refine g_bipush C 97 (by decide) dX5_layLetters_4 ?_
  refine g_aload_n C 0 rfl dX5_layLetters_6 ?_
  refine mg_born C q1028 dX5_layLetters_7 ?_
  refine g_iload_n C 1 rfl dX5_layLetters_10 ?_
  obtain ⟨hb, h⟩ := h
  refine mld_16 C hb (xA w 16 x1.toNatClampNeg) rfl dX5_layLetters_11 ?_
  refine g_iconst C (-1) (by decide) dX5_layLetters_12 ?_
  refine g_icmp_ne C 23 dX5_layLetters_13 (by decide) (fun hc => ?_) (fun hc => ?_)
  · replace h := h.2 hc
    refine g_aload_n C 0 rfl dX5_layLetters_23 ?_
    refine mg_month C q1039 (xi w 20) rfl dX5_layLetters_24 ?_
    refine g_aload_n C 0 rfl dX5_layLetters_27 ?_
    refine mg_born C q1028 dX5_layLetters_28 ?_
    refine g_iload_n C 1 rfl dX5_layLetters_31 ?_
    obtain ⟨hb, h⟩ := h
    refine mld_16 C hb (xA w 16 x1.toNatClampNeg) rfl dX5_layLetters_32 ?_
    refine g_isub C dX5_layLetters_33 ?_
    exact k_X5_layLetters_34 C ret x1 ((xi w 20) - (xA w 16 x1.toNatClampNeg)) 97 w L h
  · replace h := h.1 hc
    refine g_aload_n C 0 rfl dX5_layLetters_16 ?_
    refine mg_month C q1039 (xi w 20) rfl dX5_layLetters_17 ?_
    refine g_goto C 34 dX5_layLetters_20 (by decide) ?_
    exact k_X5_layLetters_34 C ret x1 (xi w 20) 97 w L h
def B_X5_layLetters (N : Nat) (x1 : Int32) (post : Wd → va_W → Prop) (w : Wd) (L : va_W) : Prop := B_X5_layLetters_0 N post x1 w L
theorem m_X5_layLetters {l : Launch} {K : gK} {N : Nat} {post : Wd → va_W → Prop} {x1 : Int32} {w : Wd} {L : va_W} (h : B_X5_layLetters N x1 post w L) : gMv l K yX5_layLetters cX5_layLetters 2 (none) rm_X5_layLetters [.ref (ma K 0), .int x1] (mL K w ++ L) (mPv K post) 0 0 := by
  refine g_inV (ls0 := [(0, .ref (ma K 0)), (1, .int x1)]) (by decide) (Nat.le_of_ble_eq_true rfl) rfl (fun Γ hl C hn ret => ?_)
  exact k_X5_layLetters_0 C ret x1 w L h
def rm_X5_eat : Room := { frames := 1, cells := 0, slots := 0, locals := 23 }
def B_X5_eat_81 (N : Nat) (post : Wd → va_W → Prop) (w : Wd) (L : va_W) : Prop :=
  post w L
set_option maxHeartbeats 4000000 in
theorem k_X5_eat_81 {Γ : gT} {K : gK} {N : Nat} {post : Wd → va_W → Prop} (C : gC Γ K RX5 cX5_eat 2 rm_X5_eat) (ret : gRv Γ K cX5_eat (none) (mPv K post) 0 0) (w : Wd) (L : va_W) (h : B_X5_eat_81 N post w L) : gJ Γ K 0 0 (mL K w ++ L) 81 [] [] := by
  unfold B_X5_eat_81 at h
  exact ret rfl _ _ _ dX5_eat_81 ⟨_, _, rfl, h⟩
def B_X5_eat_0 (N : Nat) (post : Wd → va_W → Prop) (x1 : Int32) (w : Wd) (L : va_W) : Prop :=
  vp_in x1 24 ∧ ((xi w 16) < (xA w 18 x1.toNatClampNeg) →
    vp_in x1 24 ∧ vp_in x1 24 ∧ ∀ w1 : Wd, w1 = (xsA w 13 x1.toNatClampNeg (if 0 < ((xA w 13 x1.toNatClampNeg) - 3) then ((xA w 13 x1.toNatClampNeg) - 3) else 0)) → vp_in x1 24 ∧ ((xA w1 13 x1.toNatClampNeg) = 0 →
      B_X5_over N x1 1 (fun (w2 : Wd) (L3 : va_W) =>
  B_X5_eat_81 N post w2 L3) w1 L) ∧
    (¬ (xA w1 13 x1.toNatClampNeg) = 0 →
      B_X5_eat_81 N post w1 L)) ∧
  (¬ (xi w 16) < (xA w 18 x1.toNatClampNeg) →
    vp_in x1 24 ∧ vp_in x1 24 ∧ vp_in x1 24 ∧ ∀ w4 : Wd, w4 = (xsA (xsi w 16 ((xi w 16) - (xA w 18 x1.toNatClampNeg))) 13 x1.toNatClampNeg (if ((xA w 13 x1.toNatClampNeg) + 1) < 99 then ((xA w 13 x1.toNatClampNeg) + 1) else 99)) → post w4 L)
set_option maxHeartbeats 4000000 in
theorem k_X5_eat_0 {Γ : gT} {K : gK} {N : Nat} {post : Wd → va_W → Prop} (C : gC Γ K RX5 cX5_eat 2 rm_X5_eat) (ret : gRv Γ K cX5_eat (none) (mPv K post) 0 0) (x1 : Int32) (w : Wd) (L : va_W) (h : B_X5_eat_0 N post x1 w L) : gJ Γ K 0 0 (mL K w ++ L) 0 [(0, .ref (ma K 0)), (1, .int x1)] [] := by
  unfold B_X5_eat_0 at h
  refine g_aload_n C 0 rfl dX5_eat_0 ?_
  refine mg_store C q1035 (xi w 16) rfl dX5_eat_1 ?_
  refine g_aload_n C 0 rfl dX5_eat_4 ?_
  refine mg_eats C q1030 dX5_eat_5 ?_
  refine g_iload_n C 1 rfl dX5_eat_8 ?_
  obtain ⟨hb, h⟩ := h
  refine mld_18 C hb (xA w 18 x1.toNatClampNeg) rfl dX5_eat_9 ?_
  refine g_icmp_lt C 48 dX5_eat_10 (by decide) (fun hc => ?_) (fun hc => ?_)
  · replace h := h.1 hc
    refine g_aload_n C 0 rfl dX5_eat_48 ?_
    refine mg_weight C q1025 dX5_eat_49 ?_
    refine g_iload_n C 1 rfl dX5_eat_52 ?_
    refine g_iconst C 0 (by decide) dX5_eat_53 ?_
    refine g_aload_n C 0 rfl dX5_eat_54 ?_
    refine mg_weight C q1025 dX5_eat_55 ?_
    refine g_iload_n C 1 rfl dX5_eat_58 ?_
    obtain ⟨hb, h⟩ := h
    refine mld_13 C hb (xA w 13 x1.toNatClampNeg) rfl dX5_eat_59 ?_
    refine g_iconst C 3 (by decide) dX5_eat_60 ?_
    refine g_isub C dX5_eat_61 ?_
    refine g_mmax C q1387 q407 q87 q408 ⟨Nat.le_of_ble_eq_true rfl, (Nat.le_of_ble_eq_true rfl)⟩ ⟨Nat.zero_le _, Nat.zero_le _⟩ dX5_eat_62 ?_
    obtain ⟨hb, h⟩ := h
    refine mst_13 C hb dX5_eat_65 ?_
    obtain ⟨w1, ew1⟩ : ∃ z, z = (xsA w 13 x1.toNatClampNeg (if 0 < ((xA w 13 x1.toNatClampNeg) - 3) then ((xA w 13 x1.toNatClampNeg) - 3) else 0)) := ⟨_, rfl⟩
    replace h := h w1 ew1
    rw [← ew1]
    refine g_aload_n C 0 rfl dX5_eat_66 ?_
    refine mg_weight C q1025 dX5_eat_67 ?_
    refine g_iload_n C 1 rfl dX5_eat_70 ?_
    obtain ⟨hb, h⟩ := h
    refine mld_13 C hb (xA w1 13 x1.toNatClampNeg) rfl dX5_eat_71 ?_
    refine g_if_ne C 81 dX5_eat_72 (by decide) (fun hc => ?_) (fun hc => ?_)
    · replace h := h.2 hc
      refine g_sub [] rfl ?_
      exact k_X5_eat_81 C ret w1 L h
    · replace h := h.1 hc
      refine g_aload_n C 0 rfl dX5_eat_75 ?_
      refine g_iload_n C 1 rfl dX5_eat_76 ?_
      refine g_iconst C 1 (by decide) dX5_eat_77 ?_
      refine g_callVv C (As := [.int x1, .int 1]) (rest := []) (m_X5_over h) (lw_V q1346 q1348 qs56 q84 q1349) (ci := 12) (qi := 0) rfl rfl ⟨rfl, rfl⟩ ⟨Nat.le_of_ble_eq_true rfl, Nat.le_of_ble_eq_true rfl⟩ 2 rfl (by decide +kernel) rfl (Nat.le_of_ble_eq_true rfl) ⟨Nat.zero_le _, Nat.zero_le _⟩ dX5_eat_78 ?_
      rintro _ ⟨w2, L3, rfl, h⟩
      refine g_sub [] rfl ?_
      exact k_X5_eat_81 C ret w2 L3 h
  · replace h := h.2 hc
    refine g_aload_n C 0 rfl dX5_eat_13 ?_
    refine g_dup C rfl dX5_eat_14 ?_
    refine mg_store C q1035 (xi w 16) rfl dX5_eat_15 ?_
    refine g_aload_n C 0 rfl dX5_eat_18 ?_
    refine mg_eats C q1030 dX5_eat_19 ?_
    refine g_iload_n C 1 rfl dX5_eat_22 ?_
    obtain ⟨hb, h⟩ := h
    refine mld_18 C hb (xA w 18 x1.toNatClampNeg) rfl dX5_eat_23 ?_
    refine g_isub C dX5_eat_24 ?_
    refine mp_store C q1035 dX5_eat_25 ?_
    refine g_aload_n C 0 rfl dX5_eat_28 ?_
    refine mg_weight C q1025 dX5_eat_29 ?_
    refine g_iload_n C 1 rfl dX5_eat_32 ?_
    refine g_bipush C 99 (by decide) dX5_eat_33 ?_
    refine g_aload_n C 0 rfl dX5_eat_35 ?_
    refine mg_weight C q1025 dX5_eat_36 ?_
    refine g_iload_n C 1 rfl dX5_eat_39 ?_
    obtain ⟨hb, h⟩ := h
    refine mld_13 C hb (xA w 13 x1.toNatClampNeg) rfl dX5_eat_40 ?_
    refine g_iconst C 1 (by decide) dX5_eat_41 ?_
    refine g_iadd C dX5_eat_42 ?_
    refine g_mmin C q1386 q410 q87 q411 ⟨Nat.le_of_ble_eq_true rfl, (Nat.le_of_ble_eq_true rfl)⟩ ⟨Nat.zero_le _, Nat.zero_le _⟩ dX5_eat_43 ?_
    obtain ⟨hb, h⟩ := h
    refine mst_13 C hb dX5_eat_46 ?_
    obtain ⟨w4, ew4⟩ : ∃ z, z = (xsA (xsi w 16 ((xi w 16) - (xA w 18 x1.toNatClampNeg))) 13 x1.toNatClampNeg (if ((xA w 13 x1.toNatClampNeg) + 1) < 99 then ((xA w 13 x1.toNatClampNeg) + 1) else 99)) := ⟨_, rfl⟩
    replace h := h w4 ew4
    rw [← ew4]
    exact ret rfl _ _ _ dX5_eat_47 ⟨_, _, rfl, h⟩
def B_X5_eat (N : Nat) (x1 : Int32) (post : Wd → va_W → Prop) (w : Wd) (L : va_W) : Prop := B_X5_eat_0 N post x1 w L
theorem m_X5_eat {l : Launch} {K : gK} {N : Nat} {post : Wd → va_W → Prop} {x1 : Int32} {w : Wd} {L : va_W} (h : B_X5_eat N x1 post w L) : gMv l K yX5_eat cX5_eat 2 (none) rm_X5_eat [.ref (ma K 0), .int x1] (mL K w ++ L) (mPv K post) 0 0 := by
  refine g_inV (ls0 := [(0, .ref (ma K 0)), (1, .int x1)]) (by decide) (Nat.le_of_ble_eq_true rfl) rfl (fun Γ hl C hn ret => ?_)
  exact k_X5_eat_0 C ret x1 w L h
def rm_X5_bear : Room := { frames := 1, cells := 0, slots := 0, locals := 26 }
def B_X5_bear_38 (N : Nat) (post : Wd → va_W → Prop) (w : Wd) (L : va_W) : Prop :=
  post w L
set_option maxHeartbeats 4000000 in
theorem k_X5_bear_38 {Γ : gT} {K : gK} {N : Nat} {post : Wd → va_W → Prop} (C : gC Γ K RX5 cX5_bear 2 rm_X5_bear) (ret : gRv Γ K cX5_bear (none) (mPv K post) 0 0) (w : Wd) (L : va_W) (h : B_X5_bear_38 N post w L) : gJ Γ K 0 0 (mL K w ++ L) 38 [] [] := by
  unfold B_X5_bear_38 at h
  exact ret rfl _ _ _ dX5_bear_38 ⟨_, _, rfl, h⟩
def B_X5_bear_145 (N : Nat) (post : Wd → va_W → Prop) (w : Wd) (L : va_W) : Prop :=
  B_X5_layKins N (xi w 15) (fun (w1 : Wd) (L2 : va_W) =>
  post w1 L2) w L
set_option maxHeartbeats 4000000 in
theorem k_X5_bear_145 {Γ : gT} {K : gK} {N : Nat} {post : Wd → va_W → Prop} (C : gC Γ K RX5 cX5_bear 2 rm_X5_bear) (ret : gRv Γ K cX5_bear (none) (mPv K post) 0 0) (w : Wd) (L : va_W) (h : B_X5_bear_145 N post w L) : gJ Γ K 0 0 (mL K w ++ L) 145 [(0, .ref (ma K 0))] [] := by
  unfold B_X5_bear_145 at h
  refine g_aload_n C 0 rfl dX5_bear_145 ?_
  refine g_aload_n C 0 rfl dX5_bear_146 ?_
  refine mg_ever C q1034 (xi w 15) rfl dX5_bear_147 ?_
  refine g_callVv C (As := [.int (xi w 15)]) (rest := []) (m_X5_layKins h) (lw_V q1290 q1292 qs51 q84 q1293) (ci := 12) (qi := 0) rfl rfl ⟨rfl, rfl⟩ ⟨Nat.le_of_ble_eq_true rfl, Nat.le_of_ble_eq_true rfl⟩ 1 rfl (by decide +kernel) rfl (Nat.le_of_ble_eq_true rfl) ⟨Nat.zero_le _, Nat.zero_le _⟩ dX5_bear_150 ?_
  rintro _ ⟨w1, L2, rfl, h⟩
  exact ret rfl _ _ _ dX5_bear_153 ⟨_, _, rfl, h⟩
def B_X5_bear_41s (r41 : Int32 → Wd → va_W → Prop) (N : Nat) (post : Wd → va_W → Prop) (x1 : Int32) (w : Wd) (L : va_W) : Prop :=
  vp_in 5 9 ∧ ((xA w 11 (5 : Int32).toNatClampNeg) ≤ x1 →
    B_X5_bear_145 N post w L) ∧
  (¬ (xA w 11 (5 : Int32).toNatClampNeg) ≤ x1 →
    ((24 : Int32) ≤ (xi w 15) →
      B_X5_bear_145 N post w L) ∧
    (¬ (24 : Int32) ≤ (xi w 15) →
      vp_in (xi w 15) 24 ∧ ∀ w1 : Wd, w1 = (xsA w 8 (xi w 15).toNatClampNeg (xi w 17)) → vp_in (xi w1 15) 24 ∧ ∀ w2 : Wd, w2 = (xsA w1 9 (xi w1 15).toNatClampNeg (xi w1 18)) → vp_in (xi w2 15) 24 ∧ ∀ w3 : Wd, w3 = (xsA w2 13 (xi w2 15).toNatClampNeg 5) → vp_in (xi w3 15) 24 ∧ ∀ w4 : Wd, w4 = (xsA w3 14 (xi w3 15).toNatClampNeg 0) → vp_in (xi w4 15) 24 ∧ ∀ w5 : Wd, w5 = (xsA w4 15 (xi w4 15).toNatClampNeg (-1)) → vp_in (xi w5 15) 24 ∧ ∀ w6 : Wd, w6 = (xsA w5 16 (xi w5 15).toNatClampNeg (xi w5 20)) → r41 (x1 + 1) (xsi w6 15 ((xi w6 15) + 1)) L))
def B_X5_bear_41 (N : Nat) (post : Wd → va_W → Prop) : Nat → Int32 → Wd → va_W → Prop
  | 0, _, _, _ => False
  | n + 1, x1, w, L => B_X5_bear_41s (B_X5_bear_41 N post n) N post x1 w L
set_option maxHeartbeats 4000000 in
theorem k_X5_bear_41s {Γ : gT} {K : gK} {N : Nat} {post : Wd → va_W → Prop} (C : gC Γ K RX5 cX5_bear 2 rm_X5_bear) (ret : gRv Γ K cX5_bear (none) (mPv K post) 0 0) {r41 : Int32 → Wd → va_W → Prop} (hr41 : ∀ (x1 : Int32) (w : Wd) (L : va_W), r41 x1 w L → gJ Γ K 0 0 (mL K w ++ L) 41 [(0, .ref (ma K 0)), (1, .int x1)] []) (x1 : Int32) (w : Wd) (L : va_W) (h : B_X5_bear_41s r41 N post x1 w L) : gJ Γ K 0 0 (mL K w ++ L) 41 [(0, .ref (ma K 0)), (1, .int x1)] [] := by
  unfold B_X5_bear_41s at h
  refine g_iload_n C 1 rfl dX5_bear_41 ?_
  refine g_aload_n C 0 rfl dX5_bear_42 ?_
  refine mg_settings C q1023 dX5_bear_43 ?_
  refine g_iconst C 5 (by decide) dX5_bear_46 ?_
  obtain ⟨hb, h⟩ := h
  refine mld_11 C hb (xA w 11 (5 : Int32).toNatClampNeg) rfl dX5_bear_47 ?_
  refine g_icmp_ge C 145 dX5_bear_48 (by decide) (fun hc => ?_) (fun hc => ?_)
  · replace h := h.1 hc
    refine g_sub [0] rfl ?_
    exact k_X5_bear_145 C ret w L h
  · replace h := h.2 hc
    refine g_aload_n C 0 rfl dX5_bear_51 ?_
    refine mg_ever C q1034 (xi w 15) rfl dX5_bear_52 ?_
    refine g_bipush C 24 (by decide) dX5_bear_55 ?_
    refine g_icmp_ge C 145 dX5_bear_57 (by decide) (fun hc => ?_) (fun hc => ?_)
    · replace h := h.1 hc
      refine g_sub [0] rfl ?_
      exact k_X5_bear_145 C ret w L h
    · replace h := h.2 hc
      refine g_aload_n C 0 rfl dX5_bear_60 ?_
      refine mg_dam C q1018 dX5_bear_61 ?_
      refine g_aload_n C 0 rfl dX5_bear_64 ?_
      refine mg_ever C q1034 (xi w 15) rfl dX5_bear_65 ?_
      refine g_aload_n C 0 rfl dX5_bear_68 ?_
      refine mg_queen C q1036 (xi w 17) rfl dX5_bear_69 ?_
      obtain ⟨hb, h⟩ := h
      refine mst_8 C hb dX5_bear_72 ?_
      obtain ⟨w1, ew1⟩ : ∃ z, z = (xsA w 8 (xi w 15).toNatClampNeg (xi w 17)) := ⟨_, rfl⟩
      replace h := h w1 ew1
      rw [← ew1]
      refine g_aload_n C 0 rfl dX5_bear_73 ?_
      refine mg_sire C q1019 dX5_bear_74 ?_
      refine g_aload_n C 0 rfl dX5_bear_77 ?_
      refine mg_ever C q1034 (xi w1 15) rfl dX5_bear_78 ?_
      refine g_aload_n C 0 rfl dX5_bear_81 ?_
      refine mg_mate C q1037 (xi w1 18) rfl dX5_bear_82 ?_
      obtain ⟨hb, h⟩ := h
      refine mst_9 C hb dX5_bear_85 ?_
      obtain ⟨w2, ew2⟩ : ∃ z, z = (xsA w1 9 (xi w1 15).toNatClampNeg (xi w1 18)) := ⟨_, rfl⟩
      replace h := h w2 ew2
      rw [← ew2]
      refine g_aload_n C 0 rfl dX5_bear_86 ?_
      refine mg_weight C q1025 dX5_bear_87 ?_
      refine g_aload_n C 0 rfl dX5_bear_90 ?_
      refine mg_ever C q1034 (xi w2 15) rfl dX5_bear_91 ?_
      refine g_iconst C 5 (by decide) dX5_bear_94 ?_
      obtain ⟨hb, h⟩ := h
      refine mst_13 C hb dX5_bear_95 ?_
      obtain ⟨w3, ew3⟩ : ∃ z, z = (xsA w2 13 (xi w2 15).toNatClampNeg 5) := ⟨_, rfl⟩
      replace h := h w3 ew3
      rw [← ew3]
      refine g_aload_n C 0 rfl dX5_bear_96 ?_
      refine mg_state C q1026 dX5_bear_97 ?_
      refine g_aload_n C 0 rfl dX5_bear_100 ?_
      refine mg_ever C q1034 (xi w3 15) rfl dX5_bear_101 ?_
      refine g_iconst C 0 (by decide) dX5_bear_104 ?_
      obtain ⟨hb, h⟩ := h
      refine mst_14 C hb dX5_bear_105 ?_
      obtain ⟨w4, ew4⟩ : ∃ z, z = (xsA w3 14 (xi w3 15).toNatClampNeg 0) := ⟨_, rfl⟩
      replace h := h w4 ew4
      rw [← ew4]
      refine g_aload_n C 0 rfl dX5_bear_106 ?_
      refine mg_when C q1027 dX5_bear_107 ?_
      refine g_aload_n C 0 rfl dX5_bear_110 ?_
      refine mg_ever C q1034 (xi w4 15) rfl dX5_bear_111 ?_
      refine g_iconst C (-1) (by decide) dX5_bear_114 ?_
      obtain ⟨hb, h⟩ := h
      refine mst_15 C hb dX5_bear_115 ?_
      obtain ⟨w5, ew5⟩ : ∃ z, z = (xsA w4 15 (xi w4 15).toNatClampNeg (-1)) := ⟨_, rfl⟩
      replace h := h w5 ew5
      rw [← ew5]
      refine g_aload_n C 0 rfl dX5_bear_116 ?_
      refine mg_born C q1028 dX5_bear_117 ?_
      refine g_aload_n C 0 rfl dX5_bear_120 ?_
      refine mg_ever C q1034 (xi w5 15) rfl dX5_bear_121 ?_
      refine g_aload_n C 0 rfl dX5_bear_124 ?_
      refine mg_month C q1039 (xi w5 20) rfl dX5_bear_125 ?_
      obtain ⟨hb, h⟩ := h
      refine mst_16 C hb dX5_bear_128 ?_
      obtain ⟨w6, ew6⟩ : ∃ z, z = (xsA w5 16 (xi w5 15).toNatClampNeg (xi w5 20)) := ⟨_, rfl⟩
      replace h := h w6 ew6
      rw [← ew6]
      refine g_aload_n C 0 rfl dX5_bear_129 ?_
      refine g_dup C rfl dX5_bear_130 ?_
      refine mg_ever C q1034 (xi w6 15) rfl dX5_bear_131 ?_
      refine g_iconst C 1 (by decide) dX5_bear_134 ?_
      refine g_iadd C dX5_bear_135 ?_
      refine mp_ever C q1034 dX5_bear_136 ?_
      refine g_iinc C 1 (x1 + 1) (lt := [(1, .int (x1 + 1)), (0, .ref (ma K 0))]) rfl rfl dX5_bear_139 (by decide) rfl ?_
      refine g_goto C 41 dX5_bear_142 (by decide) ?_
      refine g_sub [1, 0] rfl ?_
      exact hr41 (x1 + 1) (xsi w6 15 ((xi w6 15) + 1)) L h
theorem k_X5_bear_41 {Γ : gT} {K : gK} {N : Nat} {post : Wd → va_W → Prop} (C : gC Γ K RX5 cX5_bear 2 rm_X5_bear) (ret : gRv Γ K cX5_bear (none) (mPv K post) 0 0) : ∀ (n : Nat) (x1 : Int32) (w : Wd) (L : va_W) (h : B_X5_bear_41 N post n x1 w L), gJ Γ K 0 0 (mL K w ++ L) 41 [(0, .ref (ma K 0)), (1, .int x1)] [] := by
  intro n
  induction n with
  | zero => intro x1 w L h; exact h.elim
  | succ n ih => intro x1 w L h; exact k_X5_bear_41s C ret ih x1 w L h
def B_X5_bear_0 (N : Nat) (post : Wd → va_W → Prop) (w : Wd) (L : va_W) : Prop :=
  B_X5_isThere N (xi w 17) (fun (v3 : Int32) (w1 : Wd) (L2 : va_W) =>
  (v3 = 0 →
    B_X5_bear_38 N post w1 L2) ∧
  (¬ v3 = 0 →
    B_X5_isThere N (xi w1 18) (fun (v6 : Int32) (w4 : Wd) (L5 : va_W) =>
  (v6 = 0 →
      B_X5_bear_38 N post w4 L5) ∧
    (¬ v6 = 0 →
      vp_in 4 9 ∧ ¬ (xA w4 11 (4 : Int32).toNatClampNeg) = 0 ∧ ((((xi w4 20) + 1) - ((xi w4 20) + 1) / (xA w4 11 (4 : Int32).toNatClampNeg) * (xA w4 11 (4 : Int32).toNatClampNeg)) = 0 →
        B_X5_bear_41 N post N 0 w4 L5) ∧
      (¬ (((xi w4 20) + 1) - ((xi w4 20) + 1) / (xA w4 11 (4 : Int32).toNatClampNeg) * (xA w4 11 (4 : Int32).toNatClampNeg)) = 0 →
        B_X5_bear_38 N post w4 L5))) w1 L2)) w L
set_option maxHeartbeats 4000000 in
theorem k_X5_bear_0 {Γ : gT} {K : gK} {N : Nat} {post : Wd → va_W → Prop} (C : gC Γ K RX5 cX5_bear 2 rm_X5_bear) (ret : gRv Γ K cX5_bear (none) (mPv K post) 0 0) (w : Wd) (L : va_W) (h : B_X5_bear_0 N post w L) : gJ Γ K 0 0 (mL K w ++ L) 0 [(0, .ref (ma K 0))] [] := by
  unfold B_X5_bear_0 at h
  refine g_aload_n C 0 rfl dX5_bear_0 ?_
  refine g_aload_n C 0 rfl dX5_bear_1 ?_
  refine mg_queen C q1036 (xi w 17) rfl dX5_bear_2 ?_
  refine g_callVi C (As := [.int (xi w 17)]) (rest := []) (m_X5_isThere h) (lw_V q1286 q1288 qs50 q84 q1289) (ci := 12) (qi := 0) rfl rfl ⟨rfl, rfl⟩ ⟨Nat.le_of_ble_eq_true rfl, Nat.le_of_ble_eq_true rfl⟩ 1 rfl (by decide +kernel) rfl (Nat.le_of_ble_eq_true rfl) ⟨Nat.zero_le _, Nat.zero_le _⟩ dX5_bear_5 ?_
  rintro v3 _ ⟨w1, L2, rfl, h⟩
  refine g_if_eq C 38 dX5_bear_8 (by decide) (fun hc => ?_) (fun hc => ?_)
  · replace h := h.1 hc
    refine g_sub [] rfl ?_
    exact k_X5_bear_38 C ret w1 L2 h
  · replace h := h.2 hc
    refine g_aload_n C 0 rfl dX5_bear_11 ?_
    refine g_aload_n C 0 rfl dX5_bear_12 ?_
    refine mg_mate C q1037 (xi w1 18) rfl dX5_bear_13 ?_
    refine g_callVi C (As := [.int (xi w1 18)]) (rest := []) (m_X5_isThere h) (lw_V q1286 q1288 qs50 q84 q1289) (ci := 12) (qi := 0) rfl rfl ⟨rfl, rfl⟩ ⟨Nat.le_of_ble_eq_true rfl, Nat.le_of_ble_eq_true rfl⟩ 1 rfl (by decide +kernel) rfl (Nat.le_of_ble_eq_true rfl) ⟨Nat.zero_le _, Nat.zero_le _⟩ dX5_bear_16 ?_
    rintro v6 _ ⟨w4, L5, rfl, h⟩
    refine g_if_eq C 38 dX5_bear_19 (by decide) (fun hc => ?_) (fun hc => ?_)
    · replace h := h.1 hc
      refine g_sub [] rfl ?_
      exact k_X5_bear_38 C ret w4 L5 h
    · replace h := h.2 hc
      refine g_aload_n C 0 rfl dX5_bear_22 ?_
      refine mg_month C q1039 (xi w4 20) rfl dX5_bear_23 ?_
      refine g_iconst C 1 (by decide) dX5_bear_26 ?_
      refine g_iadd C dX5_bear_27 ?_
      refine g_aload_n C 0 rfl dX5_bear_28 ?_
      refine mg_settings C q1023 dX5_bear_29 ?_
      refine g_iconst C 4 (by decide) dX5_bear_32 ?_
      obtain ⟨hb, h⟩ := h
      refine mld_11 C hb (xA w4 11 (4 : Int32).toNatClampNeg) rfl dX5_bear_33 ?_
      obtain ⟨h0, h⟩ := h
      refine g_irem C h0 dX5_bear_34 ?_
      refine g_if_eq C 39 dX5_bear_35 (by decide) (fun hc => ?_) (fun hc => ?_)
      · replace h := h.1 hc
        refine g_iconst C 0 (by decide) dX5_bear_39 ?_
        refine g_istore_n C rfl (lt := [(1, .int 0), (0, .ref (ma K 0))]) dX5_bear_40 (by decide) rfl ?_
        refine g_sub [1, 0] rfl ?_
        exact k_X5_bear_41 C ret N 0 w4 L5 h
      · replace h := h.2 hc
        refine g_sub [] rfl ?_
        exact k_X5_bear_38 C ret w4 L5 h
def B_X5_bear (N : Nat) (post : Wd → va_W → Prop) (w : Wd) (L : va_W) : Prop := B_X5_bear_0 N post w L
theorem m_X5_bear {l : Launch} {K : gK} {N : Nat} {post : Wd → va_W → Prop} {w : Wd} {L : va_W} (h : B_X5_bear N post w L) : gMv l K yX5_bear cX5_bear 2 (none) rm_X5_bear [.ref (ma K 0)] (mL K w ++ L) (mPv K post) 0 0 := by
  refine g_inV (ls0 := [(0, .ref (ma K 0))]) (by decide) (Nat.le_of_ble_eq_true rfl) rfl (fun Γ hl C hn ret => ?_)
  exact k_X5_bear_0 C ret w L h
def rm_X5_isFighter : Room := { frames := 1, cells := 0, slots := 0, locals := 21 }
def B_X5_isFighter_35 (N : Nat) (post : Int32 → Wd → va_W → Prop) (s0 : Int32) (w : Wd) (L : va_W) : Prop :=
  gZ s0 ∧ post s0 w L
set_option maxHeartbeats 4000000 in
theorem k_X5_isFighter_35 {Γ : gT} {K : gK} {N : Nat} {post : Int32 → Wd → va_W → Prop} (C : gC Γ K RX5 cX5_isFighter 2 rm_X5_isFighter) (ret : gRi Γ K cX5_isFighter (some .boolean) (mPi K post) 0 0) (s0 : Int32) (w : Wd) (L : va_W) (h : B_X5_isFighter_35 N post s0 w L) : gJ Γ K 0 0 (mL K w ++ L) 35 [] [.int s0] := by
  unfold B_X5_isFighter_35 at h
  obtain ⟨hz, h⟩ := h
  exact ret _ _ _ _ _ rfl hz.n dX5_isFighter_35 ⟨_, _, rfl, h⟩
def B_X5_isFighter_34 (N : Nat) (post : Int32 → Wd → va_W → Prop) (w : Wd) (L : va_W) : Prop :=
  B_X5_isFighter_35 N post 0 w L
set_option maxHeartbeats 4000000 in
theorem k_X5_isFighter_34 {Γ : gT} {K : gK} {N : Nat} {post : Int32 → Wd → va_W → Prop} (C : gC Γ K RX5 cX5_isFighter 2 rm_X5_isFighter) (ret : gRi Γ K cX5_isFighter (some .boolean) (mPi K post) 0 0) (w : Wd) (L : va_W) (h : B_X5_isFighter_34 N post w L) : gJ Γ K 0 0 (mL K w ++ L) 34 [] [] := by
  unfold B_X5_isFighter_34 at h
  refine g_iconst C 0 (by decide) dX5_isFighter_34 ?_
  exact k_X5_isFighter_35 C ret 0 w L h
def B_X5_isFighter_0 (N : Nat) (post : Int32 → Wd → va_W → Prop) (x1 : Int32) (w : Wd) (L : va_W) : Prop :=
  B_X5_isThere N x1 (fun (v3 : Int32) (w1 : Wd) (L2 : va_W) =>
  (v3 = 0 →
    B_X5_isFighter_34 N post w1 L2) ∧
  (¬ v3 = 0 →
    vp_in x1 24 ∧ ((xA w1 16 x1.toNatClampNeg) = (xi w1 20) →
      B_X5_isFighter_34 N post w1 L2) ∧
    (¬ (xA w1 16 x1.toNatClampNeg) = (xi w1 20) →
      vp_in x1 24 ∧ ((xA w1 20 x1.toNatClampNeg) ≤ 0 →
        B_X5_isFighter_34 N post w1 L2) ∧
      (¬ (xA w1 20 x1.toNatClampNeg) ≤ 0 →
        B_X5_isFighter_35 N post 1 w1 L2)))) w L
set_option maxHeartbeats 4000000 in
theorem k_X5_isFighter_0 {Γ : gT} {K : gK} {N : Nat} {post : Int32 → Wd → va_W → Prop} (C : gC Γ K RX5 cX5_isFighter 2 rm_X5_isFighter) (ret : gRi Γ K cX5_isFighter (some .boolean) (mPi K post) 0 0) (x1 : Int32) (w : Wd) (L : va_W) (h : B_X5_isFighter_0 N post x1 w L) : gJ Γ K 0 0 (mL K w ++ L) 0 [(0, .ref (ma K 0)), (1, .int x1)] [] := by
  unfold B_X5_isFighter_0 at h
  refine g_aload_n C 0 rfl dX5_isFighter_0 ?_
  refine g_iload_n C 1 rfl dX5_isFighter_1 ?_
  refine g_callVi C (As := [.int x1]) (rest := []) (m_X5_isThere h) (lw_V q1286 q1288 qs50 q84 q1289) (ci := 12) (qi := 0) rfl rfl ⟨rfl, rfl⟩ ⟨Nat.le_of_ble_eq_true rfl, Nat.le_of_ble_eq_true rfl⟩ 1 rfl (by decide +kernel) rfl (Nat.le_of_ble_eq_true rfl) ⟨Nat.zero_le _, Nat.zero_le _⟩ dX5_isFighter_2 ?_
  rintro v3 _ ⟨w1, L2, rfl, h⟩
  refine g_if_eq C 34 dX5_isFighter_5 (by decide) (fun hc => ?_) (fun hc => ?_)
  · replace h := h.1 hc
    refine g_sub [] rfl ?_
    exact k_X5_isFighter_34 C ret w1 L2 h
  · replace h := h.2 hc
    refine g_aload_n C 0 rfl dX5_isFighter_8 ?_
    refine mg_born C q1028 dX5_isFighter_9 ?_
    refine g_iload_n C 1 rfl dX5_isFighter_12 ?_
    obtain ⟨hb, h⟩ := h
    refine mld_16 C hb (xA w1 16 x1.toNatClampNeg) rfl dX5_isFighter_13 ?_
    refine g_aload_n C 0 rfl dX5_isFighter_14 ?_
    refine mg_month C q1039 (xi w1 20) rfl dX5_isFighter_15 ?_
    refine g_icmp_eq C 34 dX5_isFighter_18 (by decide) (fun hc => ?_) (fun hc => ?_)
    · replace h := h.1 hc
      refine g_sub [] rfl ?_
      exact k_X5_isFighter_34 C ret w1 L2 h
    · replace h := h.2 hc
      refine g_aload_n C 0 rfl dX5_isFighter_21 ?_
      refine mg_fights C q1032 dX5_isFighter_22 ?_
      refine g_iload_n C 1 rfl dX5_isFighter_25 ?_
      obtain ⟨hb, h⟩ := h
      refine mld_20 C hb (xA w1 20 x1.toNatClampNeg) rfl dX5_isFighter_26 ?_
      refine g_if_le C 34 dX5_isFighter_27 (by decide) (fun hc => ?_) (fun hc => ?_)
      · replace h := h.1 hc
        refine g_sub [] rfl ?_
        exact k_X5_isFighter_34 C ret w1 L2 h
      · replace h := h.2 hc
        refine g_iconst C 1 (by decide) dX5_isFighter_30 ?_
        refine g_goto C 35 dX5_isFighter_31 (by decide) ?_
        refine g_sub [] rfl ?_
        exact k_X5_isFighter_35 C ret 1 w1 L2 h
def B_X5_isFighter (N : Nat) (x1 : Int32) (post : Int32 → Wd → va_W → Prop) (w : Wd) (L : va_W) : Prop := B_X5_isFighter_0 N post x1 w L
theorem m_X5_isFighter {l : Launch} {K : gK} {N : Nat} {post : Int32 → Wd → va_W → Prop} {x1 : Int32} {w : Wd} {L : va_W} (h : B_X5_isFighter N x1 post w L) : gMi l K yX5_isFighter cX5_isFighter 2 (some .boolean) rm_X5_isFighter [.ref (ma K 0), .int x1] (mL K w ++ L) (mPi K post) 0 0 := by
  refine g_inI (ls0 := [(0, .ref (ma K 0)), (1, .int x1)]) (by decide) (Nat.le_of_ble_eq_true rfl) rfl (fun Γ hl C hn ret => ?_)
  exact k_X5_isFighter_0 C ret x1 w L h
def rm_X5_war : Room := { frames := 2, cells := 0, slots := 0, locals := 42 }
def B_X5_war_84 (r13 : Int32 → Int32 → Wd → va_W → Prop) (N : Nat) (post : Wd → va_W → Prop) (x1 : Int32) (x2 : Int32) (w : Wd) (L : va_W) : Prop :=
  r13 x1 (x2 + 1) w L
set_option maxHeartbeats 4000000 in
theorem k_X5_war_84 {Γ : gT} {K : gK} {N : Nat} {post : Wd → va_W → Prop} (C : gC Γ K RX5 cX5_war 3 rm_X5_war) (ret : gRv Γ K cX5_war (none) (mPv K post) 0 0) {r13 : Int32 → Int32 → Wd → va_W → Prop} (hr13 : ∀ (x1 : Int32) (x2 : Int32) (w : Wd) (L : va_W), r13 x1 x2 w L → gJ Γ K 0 0 (mL K w ++ L) 13 [(0, .ref (ma K 0)), (1, .int x1), (2, .int x2)] []) (x1 : Int32) (x2 : Int32) (w : Wd) (L : va_W) (h : B_X5_war_84 r13 N post x1 x2 w L) : gJ Γ K 0 0 (mL K w ++ L) 84 [(0, .ref (ma K 0)), (1, .int x1), (2, .int x2)] [] := by
  unfold B_X5_war_84 at h
  refine g_iinc C 2 (x2 + 1) (lt := [(2, .int (x2 + 1)), (0, .ref (ma K 0)), (1, .int x1)]) rfl rfl dX5_war_84 (by decide) rfl ?_
  refine g_goto C 13 dX5_war_87 (by decide) ?_
  refine g_sub [1, 2, 0] rfl ?_
  exact hr13 x1 (x2 + 1) w L h
def B_X5_war_82 (r13 : Int32 → Int32 → Wd → va_W → Prop) (N : Nat) (post : Wd → va_W → Prop) (x2 : Int32) (w : Wd) (L : va_W) : Prop :=
  B_X5_war_84 r13 N post x2 x2 w L
set_option maxHeartbeats 4000000 in
theorem k_X5_war_82 {Γ : gT} {K : gK} {N : Nat} {post : Wd → va_W → Prop} (C : gC Γ K RX5 cX5_war 3 rm_X5_war) (ret : gRv Γ K cX5_war (none) (mPv K post) 0 0) {r13 : Int32 → Int32 → Wd → va_W → Prop} (hr13 : ∀ (x1 : Int32) (x2 : Int32) (w : Wd) (L : va_W), r13 x1 x2 w L → gJ Γ K 0 0 (mL K w ++ L) 13 [(0, .ref (ma K 0)), (1, .int x1), (2, .int x2)] []) (x2 : Int32) (w : Wd) (L : va_W) (h : B_X5_war_82 r13 N post x2 w L) : gJ Γ K 0 0 (mL K w ++ L) 82 [(0, .ref (ma K 0)), (2, .int x2)] [] := by
  unfold B_X5_war_82 at h
  refine g_iload_n C 1 rfl dX5_war_82 ?_
  refine g_istore_n C rfl (lt := [(1, .int x2), (0, .ref (ma K 0)), (2, .int x2)]) dX5_war_83 (by decide) rfl ?_
  refine g_sub [1, 0, 2] rfl ?_
  exact k_X5_war_84 C ret hr13 x2 x2 w L h
def B_X5_war_139 (r98 : Int32 → Int32 → Wd → va_W → Prop) (N : Nat) (post : Wd → va_W → Prop) (x1 : Int32) (x2 : Int32) (w : Wd) (L : va_W) : Prop :=
  r98 x1 (x2 + 1) w L
set_option maxHeartbeats 4000000 in
theorem k_X5_war_139 {Γ : gT} {K : gK} {N : Nat} {post : Wd → va_W → Prop} (C : gC Γ K RX5 cX5_war 3 rm_X5_war) (ret : gRv Γ K cX5_war (none) (mPv K post) 0 0) {r98 : Int32 → Int32 → Wd → va_W → Prop} (hr98 : ∀ (x1 : Int32) (x2 : Int32) (w : Wd) (L : va_W), r98 x1 x2 w L → gJ Γ K 0 0 (mL K w ++ L) 98 [(0, .ref (ma K 0)), (1, .int x1), (2, .int x2)] []) (x1 : Int32) (x2 : Int32) (w : Wd) (L : va_W) (h : B_X5_war_139 r98 N post x1 x2 w L) : gJ Γ K 0 0 (mL K w ++ L) 139 [(0, .ref (ma K 0)), (1, .int x1), (2, .int x2)] [] := by
  unfold B_X5_war_139 at h
  refine g_iinc C 2 (x2 + 1) (lt := [(2, .int (x2 + 1)), (0, .ref (ma K 0)), (1, .int x1)]) rfl rfl dX5_war_139 (by decide) rfl ?_
  refine g_goto C 98 dX5_war_142 (by decide) ?_
  refine g_sub [1, 2, 0] rfl ?_
  exact hr98 x1 (x2 + 1) w L h
def B_X5_war_167 (N : Nat) (post : Wd → va_W → Prop) (s0 : Int32) (w : Wd) (L : va_W) : Prop :=
  post (xsi (xsi w 18 s0) 19 ((xi w 19) + 1)) L
set_option maxHeartbeats 4000000 in
theorem k_X5_war_167 {Γ : gT} {K : gK} {N : Nat} {post : Wd → va_W → Prop} (C : gC Γ K RX5 cX5_war 3 rm_X5_war) (ret : gRv Γ K cX5_war (none) (mPv K post) 0 0) (s0 : Int32) (w : Wd) (L : va_W) (h : B_X5_war_167 N post s0 w L) : gJ Γ K 0 0 (mL K w ++ L) 167 [(0, .ref (ma K 0))] [.int s0, .ref (ma K 0)] := by
  unfold B_X5_war_167 at h
  refine mp_mate C q1037 dX5_war_167 ?_
  refine g_aload_n C 0 rfl dX5_war_170 ?_
  refine g_dup C rfl dX5_war_171 ?_
  refine mg_wars C q1038 (xi w 19) rfl dX5_war_172 ?_
  refine g_iconst C 1 (by decide) dX5_war_175 ?_
  refine g_iadd C dX5_war_176 ?_
  refine mp_wars C q1038 dX5_war_177 ?_
  exact ret rfl _ _ _ dX5_war_180 ⟨_, _, rfl, h⟩
def B_X5_war_98s (r98 : Int32 → Int32 → Wd → va_W → Prop) (N : Nat) (post : Wd → va_W → Prop) (x1 : Int32) (x2 : Int32) (w : Wd) (L : va_W) : Prop :=
  ((xi w 15) ≤ x2 →
    ∀ w1 : Wd, w1 = (xsi w 17 x1) → ((xi w 18) = x1 →
      B_X5_war_167 N post (-1) w1 L) ∧
    (¬ (xi w 18) = x1 →
      B_X5_war_167 N post (xi w1 18) w1 L)) ∧
  (¬ (xi w 15) ≤ x2 →
    (x2 = x1 →
      B_X5_war_139 r98 N post x1 x2 w L) ∧
    (¬ x2 = x1 →
      B_X5_isFighter N x2 (fun (v4 : Int32) (w2 : Wd) (L3 : va_W) =>
  (v4 = 0 →
        B_X5_war_139 r98 N post x1 x2 w2 L3) ∧
      (¬ v4 = 0 →
        B_X5_draw N (fun (v7 : Int32) (w5 : Wd) (L6 : va_W) =>
  vp_in 7 9 ∧ ((xA w5 11 (7 : Int32).toNatClampNeg) ≤ v7 →
          B_X5_war_139 r98 N post x1 x2 w5 L6) ∧
        (¬ (xA w5 11 (7 : Int32).toNatClampNeg) ≤ v7 →
          B_X5_over N x2 1 (fun (w8 : Wd) (L9 : va_W) =>
  B_X5_war_139 r98 N post x1 x2 w8 L9) w5 L6)) w2 L3)) w L))
def B_X5_war_98 (N : Nat) (post : Wd → va_W → Prop) : Nat → Int32 → Int32 → Wd → va_W → Prop
  | 0, _, _, _, _ => False
  | n + 1, x1, x2, w, L => B_X5_war_98s (B_X5_war_98 N post n) N post x1 x2 w L
set_option maxHeartbeats 4000000 in
theorem k_X5_war_98s {Γ : gT} {K : gK} {N : Nat} {post : Wd → va_W → Prop} (C : gC Γ K RX5 cX5_war 3 rm_X5_war) (ret : gRv Γ K cX5_war (none) (mPv K post) 0 0) {r98 : Int32 → Int32 → Wd → va_W → Prop} (hr98 : ∀ (x1 : Int32) (x2 : Int32) (w : Wd) (L : va_W), r98 x1 x2 w L → gJ Γ K 0 0 (mL K w ++ L) 98 [(0, .ref (ma K 0)), (1, .int x1), (2, .int x2)] []) (x1 : Int32) (x2 : Int32) (w : Wd) (L : va_W) (h : B_X5_war_98s r98 N post x1 x2 w L) : gJ Γ K 0 0 (mL K w ++ L) 98 [(0, .ref (ma K 0)), (1, .int x1), (2, .int x2)] [] := by
  unfold B_X5_war_98s at h
  refine g_iload_n C 2 rfl dX5_war_98 ?_
  refine g_aload_n C 0 rfl dX5_war_99 ?_
  refine mg_ever C q1034 (xi w 15) rfl dX5_war_100 ?_
  refine g_icmp_ge C 145 dX5_war_103 (by decide) (fun hc => ?_) (fun hc => ?_)
  · replace h := h.1 hc
    refine g_aload_n C 0 rfl dX5_war_145 ?_
    refine g_iload_n C 1 rfl dX5_war_146 ?_
    refine mp_queen C q1036 dX5_war_147 ?_
    refine g_aload_n C 0 rfl dX5_war_150 ?_
    refine g_aload_n C 0 rfl dX5_war_151 ?_
    refine mg_mate C q1037 (xi w 18) rfl dX5_war_152 ?_
    refine g_iload_n C 1 rfl dX5_war_155 ?_
    obtain ⟨w1, ew1⟩ : ∃ z, z = (xsi w 17 x1) := ⟨_, rfl⟩
    replace h := h w1 ew1
    rw [← ew1]
    refine g_icmp_ne C 163 dX5_war_156 (by decide) (fun hc => ?_) (fun hc => ?_)
    · replace h := h.2 hc
      refine g_aload_n C 0 rfl dX5_war_163 ?_
      refine mg_mate C q1037 (xi w1 18) rfl dX5_war_164 ?_
      refine g_sub [0] rfl ?_
      exact k_X5_war_167 C ret (xi w1 18) w1 L h
    · replace h := h.1 hc
      refine g_iconst C (-1) (by decide) dX5_war_159 ?_
      refine g_goto C 167 dX5_war_160 (by decide) ?_
      refine g_sub [0] rfl ?_
      exact k_X5_war_167 C ret (-1) w1 L h
  · replace h := h.2 hc
    refine g_iload_n C 2 rfl dX5_war_106 ?_
    refine g_iload_n C 1 rfl dX5_war_107 ?_
    refine g_icmp_eq C 139 dX5_war_108 (by decide) (fun hc => ?_) (fun hc => ?_)
    · replace h := h.1 hc
      exact k_X5_war_139 C ret hr98 x1 x2 w L h
    · replace h := h.2 hc
      refine g_aload_n C 0 rfl dX5_war_111 ?_
      refine g_iload_n C 2 rfl dX5_war_112 ?_
      refine g_callVi C (As := [.int x2]) (rest := []) (m_X5_isFighter h) (lw_V q1407 q1409 qs69 q84 q1410) (ci := 12) (qi := 0) rfl rfl ⟨rfl, rfl⟩ ⟨Nat.le_of_ble_eq_true rfl, Nat.le_of_ble_eq_true rfl⟩ 1 rfl (by decide +kernel) rfl (Nat.le_of_ble_eq_true rfl) ⟨Nat.zero_le _, Nat.zero_le _⟩ dX5_war_113 ?_
      rintro v4 _ ⟨w2, L3, rfl, h⟩
      refine g_if_eq C 139 dX5_war_116 (by decide) (fun hc => ?_) (fun hc => ?_)
      · replace h := h.1 hc
        exact k_X5_war_139 C ret hr98 x1 x2 w2 L3 h
      · replace h := h.2 hc
        refine g_aload_n C 0 rfl dX5_war_119 ?_
        refine g_callVi C (As := []) (rest := []) (m_X5_draw h) (lw_V q1388 q1390 qs65 q84 q1391) (ci := 12) (qi := 0) rfl rfl ⟨rfl, rfl⟩ ⟨Nat.le_of_ble_eq_true rfl, Nat.le_of_ble_eq_true rfl⟩ 0 rfl (by decide +kernel) rfl (Nat.le_of_ble_eq_true rfl) ⟨Nat.zero_le _, Nat.zero_le _⟩ dX5_war_120 ?_
        rintro v7 _ ⟨w5, L6, rfl, h⟩
        refine g_aload_n C 0 rfl dX5_war_123 ?_
        refine mg_settings C q1023 dX5_war_124 ?_
        refine g_bipush C 7 (by decide) dX5_war_127 ?_
        obtain ⟨hb, h⟩ := h
        refine mld_11 C hb (xA w5 11 (7 : Int32).toNatClampNeg) rfl dX5_war_129 ?_
        refine g_icmp_ge C 139 dX5_war_130 (by decide) (fun hc => ?_) (fun hc => ?_)
        · replace h := h.1 hc
          exact k_X5_war_139 C ret hr98 x1 x2 w5 L6 h
        · replace h := h.2 hc
          refine g_aload_n C 0 rfl dX5_war_133 ?_
          refine g_iload_n C 2 rfl dX5_war_134 ?_
          refine g_iconst C 1 (by decide) dX5_war_135 ?_
          refine g_callVv C (As := [.int x2, .int 1]) (rest := []) (m_X5_over h) (lw_V q1346 q1348 qs56 q84 q1349) (ci := 12) (qi := 0) rfl rfl ⟨rfl, rfl⟩ ⟨Nat.le_of_ble_eq_true rfl, Nat.le_of_ble_eq_true rfl⟩ 2 rfl (by decide +kernel) rfl (Nat.le_of_ble_eq_true rfl) ⟨Nat.zero_le _, Nat.zero_le _⟩ dX5_war_136 ?_
          rintro _ ⟨w8, L9, rfl, h⟩
          exact k_X5_war_139 C ret hr98 x1 x2 w8 L9 h
theorem k_X5_war_98 {Γ : gT} {K : gK} {N : Nat} {post : Wd → va_W → Prop} (C : gC Γ K RX5 cX5_war 3 rm_X5_war) (ret : gRv Γ K cX5_war (none) (mPv K post) 0 0) : ∀ (n : Nat) (x1 : Int32) (x2 : Int32) (w : Wd) (L : va_W) (h : B_X5_war_98 N post n x1 x2 w L), gJ Γ K 0 0 (mL K w ++ L) 98 [(0, .ref (ma K 0)), (1, .int x1), (2, .int x2)] [] := by
  intro n
  induction n with
  | zero => intro x1 x2 w L h; exact h.elim
  | succ n ih => intro x1 x2 w L h; exact k_X5_war_98s C ret ih x1 x2 w L h
def B_X5_war_13s (r13 : Int32 → Int32 → Wd → va_W → Prop) (N : Nat) (post : Wd → va_W → Prop) (x1 : Int32) (x2 : Int32) (w : Wd) (L : va_W) : Prop :=
  ((xi w 15) ≤ x2 →
    (x1 = (-1 : Int32) →
      post w L) ∧
    (¬ x1 = (-1 : Int32) →
      B_X5_war_98 N post N x1 0 w L)) ∧
  (¬ (xi w 15) ≤ x2 →
    B_X5_isFighter N x2 (fun (v3 : Int32) (w1 : Wd) (L2 : va_W) =>
  (v3 = 0 →
      B_X5_war_84 r13 N post x1 x2 w1 L2) ∧
    (¬ v3 = 0 →
      (x1 = (-1 : Int32) →
        B_X5_war_82 r13 N post x2 w1 L2) ∧
      (¬ x1 = (-1 : Int32) →
        vp_in x2 24 ∧ vp_in x1 24 ∧ ((xA w1 20 x1.toNatClampNeg) < (xA w1 20 x2.toNatClampNeg) →
          B_X5_war_82 r13 N post x2 w1 L2) ∧
        (¬ (xA w1 20 x1.toNatClampNeg) < (xA w1 20 x2.toNatClampNeg) →
          vp_in x2 24 ∧ vp_in x1 24 ∧ ((xA w1 20 x2.toNatClampNeg) = (xA w1 20 x1.toNatClampNeg) →
            vp_in x2 24 ∧ vp_in x1 24 ∧ ((xA w1 13 x2.toNatClampNeg) ≤ (xA w1 13 x1.toNatClampNeg) →
              B_X5_war_84 r13 N post x1 x2 w1 L2) ∧
            (¬ (xA w1 13 x2.toNatClampNeg) ≤ (xA w1 13 x1.toNatClampNeg) →
              B_X5_war_82 r13 N post x2 w1 L2)) ∧
          (¬ (xA w1 20 x2.toNatClampNeg) = (xA w1 20 x1.toNatClampNeg) →
            B_X5_war_84 r13 N post x1 x2 w1 L2))))) w L)
def B_X5_war_13 (N : Nat) (post : Wd → va_W → Prop) : Nat → Int32 → Int32 → Wd → va_W → Prop
  | 0, _, _, _, _ => False
  | n + 1, x1, x2, w, L => B_X5_war_13s (B_X5_war_13 N post n) N post x1 x2 w L
set_option maxHeartbeats 4000000 in
theorem k_X5_war_13s {Γ : gT} {K : gK} {N : Nat} {post : Wd → va_W → Prop} (C : gC Γ K RX5 cX5_war 3 rm_X5_war) (ret : gRv Γ K cX5_war (none) (mPv K post) 0 0) {r13 : Int32 → Int32 → Wd → va_W → Prop} (hr13 : ∀ (x1 : Int32) (x2 : Int32) (w : Wd) (L : va_W), r13 x1 x2 w L → gJ Γ K 0 0 (mL K w ++ L) 13 [(0, .ref (ma K 0)), (1, .int x1), (2, .int x2)] []) (x1 : Int32) (x2 : Int32) (w : Wd) (L : va_W) (h : B_X5_war_13s r13 N post x1 x2 w L) : gJ Γ K 0 0 (mL K w ++ L) 13 [(0, .ref (ma K 0)), (1, .int x1), (2, .int x2)] [] := by
  unfold B_X5_war_13s at h
  refine g_iload_n C 2 rfl dX5_war_13 ?_
  refine g_aload_n C 0 rfl dX5_war_14 ?_
  refine mg_ever C q1034 (xi w 15) rfl dX5_war_15 ?_
  refine g_icmp_ge C 90 dX5_war_18 (by decide) (fun hc => ?_) (fun hc => ?_)
  · replace h := h.1 hc
    refine g_iload_n C 1 rfl dX5_war_90 ?_
    refine g_iconst C (-1) (by decide) dX5_war_91 ?_
    refine g_icmp_ne C 96 dX5_war_92 (by decide) (fun hc => ?_) (fun hc => ?_)
    · replace h := h.2 hc
      refine g_iconst C 0 (by decide) dX5_war_96 ?_
      refine g_istore_n C rfl (lt := [(2, .int 0), (0, .ref (ma K 0)), (1, .int x1)]) dX5_war_97 (by decide) rfl ?_
      refine g_sub [1, 2, 0] rfl ?_
      exact k_X5_war_98 C ret N x1 0 w L h
    · replace h := h.1 hc
      exact ret rfl _ _ _ dX5_war_95 ⟨_, _, rfl, h⟩
  · replace h := h.2 hc
    refine g_aload_n C 0 rfl dX5_war_21 ?_
    refine g_iload_n C 2 rfl dX5_war_22 ?_
    refine g_callVi C (As := [.int x2]) (rest := []) (m_X5_isFighter h) (lw_V q1407 q1409 qs69 q84 q1410) (ci := 12) (qi := 0) rfl rfl ⟨rfl, rfl⟩ ⟨Nat.le_of_ble_eq_true rfl, Nat.le_of_ble_eq_true rfl⟩ 1 rfl (by decide +kernel) rfl (Nat.le_of_ble_eq_true rfl) ⟨Nat.zero_le _, Nat.zero_le _⟩ dX5_war_23 ?_
    rintro v3 _ ⟨w1, L2, rfl, h⟩
    refine g_if_ne C 32 dX5_war_26 (by decide) (fun hc => ?_) (fun hc => ?_)
    · replace h := h.2 hc
      refine g_iload_n C 1 rfl dX5_war_32 ?_
      refine g_iconst C (-1) (by decide) dX5_war_33 ?_
      refine g_icmp_eq C 82 dX5_war_34 (by decide) (fun hc => ?_) (fun hc => ?_)
      · replace h := h.1 hc
        refine g_sub [0, 2] rfl ?_
        exact k_X5_war_82 C ret hr13 x2 w1 L2 h
      · replace h := h.2 hc
        refine g_aload_n C 0 rfl dX5_war_37 ?_
        refine mg_fights C q1032 dX5_war_38 ?_
        refine g_iload_n C 2 rfl dX5_war_41 ?_
        obtain ⟨hb, h⟩ := h
        refine mld_20 C hb (xA w1 20 x2.toNatClampNeg) rfl dX5_war_42 ?_
        refine g_aload_n C 0 rfl dX5_war_43 ?_
        refine mg_fights C q1032 dX5_war_44 ?_
        refine g_iload_n C 1 rfl dX5_war_47 ?_
        obtain ⟨hb, h⟩ := h
        refine mld_20 C hb (xA w1 20 x1.toNatClampNeg) rfl dX5_war_48 ?_
        refine g_icmp_gt C 82 dX5_war_49 (by decide) (fun hc => ?_) (fun hc => ?_)
        · replace h := h.1 hc
          refine g_sub [0, 2] rfl ?_
          exact k_X5_war_82 C ret hr13 x2 w1 L2 h
        · replace h := h.2 hc
          refine g_aload_n C 0 rfl dX5_war_52 ?_
          refine mg_fights C q1032 dX5_war_53 ?_
          refine g_iload_n C 2 rfl dX5_war_56 ?_
          obtain ⟨hb, h⟩ := h
          refine mld_20 C hb (xA w1 20 x2.toNatClampNeg) rfl dX5_war_57 ?_
          refine g_aload_n C 0 rfl dX5_war_58 ?_
          refine mg_fights C q1032 dX5_war_59 ?_
          refine g_iload_n C 1 rfl dX5_war_62 ?_
          obtain ⟨hb, h⟩ := h
          refine mld_20 C hb (xA w1 20 x1.toNatClampNeg) rfl dX5_war_63 ?_
          refine g_icmp_ne C 84 dX5_war_64 (by decide) (fun hc => ?_) (fun hc => ?_)
          · replace h := h.2 hc
            exact k_X5_war_84 C ret hr13 x1 x2 w1 L2 h
          · replace h := h.1 hc
            refine g_aload_n C 0 rfl dX5_war_67 ?_
            refine mg_weight C q1025 dX5_war_68 ?_
            refine g_iload_n C 2 rfl dX5_war_71 ?_
            obtain ⟨hb, h⟩ := h
            refine mld_13 C hb (xA w1 13 x2.toNatClampNeg) rfl dX5_war_72 ?_
            refine g_aload_n C 0 rfl dX5_war_73 ?_
            refine mg_weight C q1025 dX5_war_74 ?_
            refine g_iload_n C 1 rfl dX5_war_77 ?_
            obtain ⟨hb, h⟩ := h
            refine mld_13 C hb (xA w1 13 x1.toNatClampNeg) rfl dX5_war_78 ?_
            refine g_icmp_le C 84 dX5_war_79 (by decide) (fun hc => ?_) (fun hc => ?_)
            · replace h := h.1 hc
              exact k_X5_war_84 C ret hr13 x1 x2 w1 L2 h
            · replace h := h.2 hc
              refine g_sub [0, 2] rfl ?_
              exact k_X5_war_82 C ret hr13 x2 w1 L2 h
    · replace h := h.1 hc
      refine g_goto C 84 dX5_war_29 (by decide) ?_
      exact k_X5_war_84 C ret hr13 x1 x2 w1 L2 h
theorem k_X5_war_13 {Γ : gT} {K : gK} {N : Nat} {post : Wd → va_W → Prop} (C : gC Γ K RX5 cX5_war 3 rm_X5_war) (ret : gRv Γ K cX5_war (none) (mPv K post) 0 0) : ∀ (n : Nat) (x1 : Int32) (x2 : Int32) (w : Wd) (L : va_W) (h : B_X5_war_13 N post n x1 x2 w L), gJ Γ K 0 0 (mL K w ++ L) 13 [(0, .ref (ma K 0)), (1, .int x1), (2, .int x2)] [] := by
  intro n
  induction n with
  | zero => intro x1 x2 w L h; exact h.elim
  | succ n ih => intro x1 x2 w L h; exact k_X5_war_13s C ret ih x1 x2 w L h
def B_X5_war_0 (N : Nat) (post : Wd → va_W → Prop) (w : Wd) (L : va_W) : Prop :=
  ((xi w 17) = (-1 : Int32) →
    B_X5_war_13 N post N (-1) 0 w L) ∧
  (¬ (xi w 17) = (-1 : Int32) →
    post w L)
set_option maxHeartbeats 4000000 in
theorem k_X5_war_0 {Γ : gT} {K : gK} {N : Nat} {post : Wd → va_W → Prop} (C : gC Γ K RX5 cX5_war 3 rm_X5_war) (ret : gRv Γ K cX5_war (none) (mPv K post) 0 0) (w : Wd) (L : va_W) (h : B_X5_war_0 N post w L) : gJ Γ K 0 0 (mL K w ++ L) 0 [(0, .ref (ma K 0))] [] := by
  unfold B_X5_war_0 at h
  refine g_aload_n C 0 rfl dX5_war_0 ?_
  refine mg_queen C q1036 (xi w 17) rfl dX5_war_1 ?_
  refine g_iconst C (-1) (by decide) dX5_war_4 ?_
  refine g_icmp_eq C 9 dX5_war_5 (by decide) (fun hc => ?_) (fun hc => ?_)
  · replace h := h.1 hc
    refine g_iconst C (-1) (by decide) dX5_war_9 ?_
    refine g_istore_n C rfl (lt := [(1, .int (-1)), (0, .ref (ma K 0))]) dX5_war_10 (by decide) rfl ?_
    refine g_iconst C 0 (by decide) dX5_war_11 ?_
    refine g_istore_n C rfl (lt := [(2, .int 0), (1, .int (-1)), (0, .ref (ma K 0))]) dX5_war_12 (by decide) rfl ?_
    refine g_sub [2, 1, 0] rfl ?_
    exact k_X5_war_13 C ret N (-1) 0 w L h
  · replace h := h.2 hc
    exact ret rfl _ _ _ dX5_war_8 ⟨_, _, rfl, h⟩
def B_X5_war (N : Nat) (post : Wd → va_W → Prop) (w : Wd) (L : va_W) : Prop := B_X5_war_0 N post w L
theorem m_X5_war {l : Launch} {K : gK} {N : Nat} {post : Wd → va_W → Prop} {w : Wd} {L : va_W} (h : B_X5_war N post w L) : gMv l K yX5_war cX5_war 3 (none) rm_X5_war [.ref (ma K 0)] (mL K w ++ L) (mPv K post) 0 0 := by
  refine g_inV (ls0 := [(0, .ref (ma K 0))]) (by decide) (Nat.le_of_ble_eq_true rfl) rfl (fun Γ hl C hn ret => ?_)
  exact k_X5_war_0 C ret w L h
def rm_X5_manyOf : Room := { frames := 0, cells := 0, slots := 0, locals := 0 }
def B_X5_manyOf_28 (r4 : Int32 → Int32 → Int32 → Wd → va_W → Prop) (N : Nat) (post : Int32 → Wd → va_W → Prop) (x1 : Int32) (x3 : Int32) (s0 : Int32) (s1 : Int32) (w : Wd) (L : va_W) : Prop :=
  r4 x1 (s1 + s0) (x3 + 1) w L
set_option maxHeartbeats 4000000 in
theorem k_X5_manyOf_28 {Γ : gT} {K : gK} {N : Nat} {post : Int32 → Wd → va_W → Prop} (C : gC Γ K RX5 cX5_manyOf 4 rm_X5_manyOf) (ret : gRi Γ K cX5_manyOf (some .int) (mPi K post) 0 0) {r4 : Int32 → Int32 → Int32 → Wd → va_W → Prop} (hr4 : ∀ (x1 : Int32) (x2 : Int32) (x3 : Int32) (w : Wd) (L : va_W), r4 x1 x2 x3 w L → gJ Γ K 0 0 (mL K w ++ L) 4 [(0, .ref (ma K 0)), (1, .int x1), (2, .int x2), (3, .int x3)] []) (x1 : Int32) (x3 : Int32) (s0 : Int32) (s1 : Int32) (w : Wd) (L : va_W) (h : B_X5_manyOf_28 r4 N post x1 x3 s0 s1 w L) : gJ Γ K 0 0 (mL K w ++ L) 28 [(0, .ref (ma K 0)), (1, .int x1), (3, .int x3)] [.int s0, .int s1] := by
  unfold B_X5_manyOf_28 at h
  refine g_iadd C dX5_manyOf_28 ?_
  refine g_istore_n C rfl (lt := [(2, .int (s1 + s0)), (0, .ref (ma K 0)), (1, .int x1), (3, .int x3)]) dX5_manyOf_29 (by decide) rfl ?_
  refine g_iinc C 3 (x3 + 1) (lt := [(3, .int (x3 + 1)), (2, .int (s1 + s0)), (0, .ref (ma K 0)), (1, .int x1)]) rfl rfl dX5_manyOf_30 (by decide) rfl ?_
  refine g_goto C 4 dX5_manyOf_33 (by decide) ?_
  refine g_sub [2, 3, 1, 0] rfl ?_
  exact hr4 x1 (s1 + s0) (x3 + 1) w L h
def B_X5_manyOf_4s (r4 : Int32 → Int32 → Int32 → Wd → va_W → Prop) (N : Nat) (post : Int32 → Wd → va_W → Prop) (x1 : Int32) (x2 : Int32) (x3 : Int32) (w : Wd) (L : va_W) : Prop :=
  ((xi w 15) ≤ x3 →
    post x2 w L) ∧
  (¬ (xi w 15) ≤ x3 →
    vp_in x3 24 ∧ ((xA w 14 x3.toNatClampNeg) = x1 →
      B_X5_manyOf_28 r4 N post x1 x3 1 x2 w L) ∧
    (¬ (xA w 14 x3.toNatClampNeg) = x1 →
      B_X5_manyOf_28 r4 N post x1 x3 0 x2 w L))
def B_X5_manyOf_4 (N : Nat) (post : Int32 → Wd → va_W → Prop) : Nat → Int32 → Int32 → Int32 → Wd → va_W → Prop
  | 0, _, _, _, _, _ => False
  | n + 1, x1, x2, x3, w, L => B_X5_manyOf_4s (B_X5_manyOf_4 N post n) N post x1 x2 x3 w L
set_option maxHeartbeats 4000000 in
theorem k_X5_manyOf_4s {Γ : gT} {K : gK} {N : Nat} {post : Int32 → Wd → va_W → Prop} (C : gC Γ K RX5 cX5_manyOf 4 rm_X5_manyOf) (ret : gRi Γ K cX5_manyOf (some .int) (mPi K post) 0 0) {r4 : Int32 → Int32 → Int32 → Wd → va_W → Prop} (hr4 : ∀ (x1 : Int32) (x2 : Int32) (x3 : Int32) (w : Wd) (L : va_W), r4 x1 x2 x3 w L → gJ Γ K 0 0 (mL K w ++ L) 4 [(0, .ref (ma K 0)), (1, .int x1), (2, .int x2), (3, .int x3)] []) (x1 : Int32) (x2 : Int32) (x3 : Int32) (w : Wd) (L : va_W) (h : B_X5_manyOf_4s r4 N post x1 x2 x3 w L) : gJ Γ K 0 0 (mL K w ++ L) 4 [(0, .ref (ma K 0)), (1, .int x1), (2, .int x2), (3, .int x3)] [] := by
  unfold B_X5_manyOf_4s at h
  refine g_iload_n C 3 rfl dX5_manyOf_4 ?_
  refine g_aload_n C 0 rfl dX5_manyOf_5 ?_
  refine mg_ever C q1034 (xi w 15) rfl dX5_manyOf_6 ?_
  refine g_icmp_ge C 36 dX5_manyOf_9 (by decide) (fun hc => ?_) (fun hc => ?_)
  · replace h := h.1 hc
    refine g_iload_n C 2 rfl dX5_manyOf_36 ?_
    exact ret _ _ _ _ _ rfl rfl dX5_manyOf_37 ⟨_, _, rfl, h⟩
  · replace h := h.2 hc
    refine g_iload_n C 2 rfl dX5_manyOf_12 ?_
    refine g_aload_n C 0 rfl dX5_manyOf_13 ?_
    refine mg_state C q1026 dX5_manyOf_14 ?_
    refine g_iload_n C 3 rfl dX5_manyOf_17 ?_
    obtain ⟨hb, h⟩ := h
    refine mld_14 C hb (xA w 14 x3.toNatClampNeg) rfl dX5_manyOf_18 ?_
    refine g_iload_n C 1 rfl dX5_manyOf_19 ?_
    refine g_icmp_ne C 27 dX5_manyOf_20 (by decide) (fun hc => ?_) (fun hc => ?_)
    · replace h := h.2 hc
      refine g_iconst C 0 (by decide) dX5_manyOf_27 ?_
      refine g_sub [0, 1, 3] rfl ?_
      exact k_X5_manyOf_28 C ret hr4 x1 x3 0 x2 w L h
    · replace h := h.1 hc
      refine g_iconst C 1 (by decide) dX5_manyOf_23 ?_
      refine g_goto C 28 dX5_manyOf_24 (by decide) ?_
      refine g_sub [0, 1, 3] rfl ?_
      exact k_X5_manyOf_28 C ret hr4 x1 x3 1 x2 w L h
theorem k_X5_manyOf_4 {Γ : gT} {K : gK} {N : Nat} {post : Int32 → Wd → va_W → Prop} (C : gC Γ K RX5 cX5_manyOf 4 rm_X5_manyOf) (ret : gRi Γ K cX5_manyOf (some .int) (mPi K post) 0 0) : ∀ (n : Nat) (x1 : Int32) (x2 : Int32) (x3 : Int32) (w : Wd) (L : va_W) (h : B_X5_manyOf_4 N post n x1 x2 x3 w L), gJ Γ K 0 0 (mL K w ++ L) 4 [(0, .ref (ma K 0)), (1, .int x1), (2, .int x2), (3, .int x3)] [] := by
  intro n
  induction n with
  | zero => intro x1 x2 x3 w L h; exact h.elim
  | succ n ih => intro x1 x2 x3 w L h; exact k_X5_manyOf_4s C ret ih x1 x2 x3 w L h
def B_X5_manyOf_0 (N : Nat) (post : Int32 → Wd → va_W → Prop) (x1 : Int32) (w : Wd) (L : va_W) : Prop :=
  B_X5_manyOf_4 N post N x1 0 0 w L
set_option maxHeartbeats 4000000 in
theorem k_X5_manyOf_0 {Γ : gT} {K : gK} {N : Nat} {post : Int32 → Wd → va_W → Prop} (C : gC Γ K RX5 cX5_manyOf 4 rm_X5_manyOf) (ret : gRi Γ K cX5_manyOf (some .int) (mPi K post) 0 0) (x1 : Int32) (w : Wd) (L : va_W) (h : B_X5_manyOf_0 N post x1 w L) : gJ Γ K 0 0 (mL K w ++ L) 0 [(0, .ref (ma K 0)), (1, .int x1)] [] := by
  unfold B_X5_manyOf_0 at h
  refine g_iconst C 0 (by decide) dX5_manyOf_0 ?_
  refine g_istore_n C rfl (lt := [(2, .int 0), (0, .ref (ma K 0)), (1, .int x1)]) dX5_manyOf_1 (by decide) rfl ?_
  refine g_iconst C 0 (by decide) dX5_manyOf_2 ?_
  refine g_istore_n C rfl (lt := [(3, .int 0), (2, .int 0), (0, .ref (ma K 0)), (1, .int x1)]) dX5_manyOf_3 (by decide) rfl ?_
  refine g_sub [2, 3, 1, 0] rfl ?_
  exact k_X5_manyOf_4 C ret N x1 0 0 w L h
def B_X5_manyOf (N : Nat) (x1 : Int32) (post : Int32 → Wd → va_W → Prop) (w : Wd) (L : va_W) : Prop := B_X5_manyOf_0 N post x1 w L
theorem m_X5_manyOf {l : Launch} {K : gK} {N : Nat} {post : Int32 → Wd → va_W → Prop} {x1 : Int32} {w : Wd} {L : va_W} (h : B_X5_manyOf N x1 post w L) : gMi l K yX5_manyOf cX5_manyOf 4 (some .int) rm_X5_manyOf [.ref (ma K 0), .int x1] (mL K w ++ L) (mPi K post) 0 0 := by
  refine g_inI (ls0 := [(0, .ref (ma K 0)), (1, .int x1)]) (by decide) (Nat.le_of_ble_eq_true rfl) rfl (fun Γ hl C hn ret => ?_)
  exact k_X5_manyOf_0 C ret x1 w L h
