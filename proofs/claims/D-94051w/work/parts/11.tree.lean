set_option maxRecDepth 100000
def rm_X3_add_t2 : Room := { frames := 0, cells := 0, slots := 0, locals := 0 }
def B_X3_add_t2_17s (r17 : Int32 → Int32 → Wd → va_W → Prop) (N : Nat) (post : Wd → va_W → Prop) (x1 : Int32) (x4 : Int32) (w : Wd) (L : va_W) : Prop :=
  (x1 < x4 →
    post w L) ∧
  (¬ x1 < x4 →
    vp_in ((24 * x1) + x4) 576 ∧ ∀ w1 : Wd, w1 = (xsM w 19 ((24 * x1) + x4).toNatClampNeg (-1)) → r17 x1 (x4 + 1) w1 L)
def B_X3_add_t2_17 (N : Nat) (post : Wd → va_W → Prop) : Nat → Int32 → Int32 → Wd → va_W → Prop
  | 0, _, _, _, _ => False
  | n + 1, x1, x4, w, L => B_X3_add_t2_17s (B_X3_add_t2_17 N post n) N post x1 x4 w L
set_option maxHeartbeats 4000000 in
theorem k_X3_add_t2_17s {Γ : gT} {K : gK} {N : Nat} {post : Wd → va_W → Prop} (C : gC Γ K RX3 cX3_add 5 rm_X3_add_t2) (ret : gRv Γ K cX3_add (none) (xPv K post) 0 0) {r17 : Int32 → Int32 → Wd → va_W → Prop} (hr17 : ∀ (x1 : Int32) (x4 : Int32) (w : Wd) (L : va_W), r17 x1 x4 w L → gJ Γ K 0 0 (xL K w ++ L) 17 [(0, .ref (xa K 2)), (1, .int x1), (4, .int x4)] []) (x1 : Int32) (x4 : Int32) (w : Wd) (L : va_W) (h : B_X3_add_t2_17s r17 N post x1 x4 w L) : gJ Γ K 0 0 (xL K w ++ L) 17 [(0, .ref (xa K 2)), (1, .int x1), (4, .int x4)] [] := by
  unfold B_X3_add_t2_17s at h
  refine g_iload C 2 rfl dX3_add_17 ?_
  refine g_iload_n C 1 rfl dX3_add_19 ?_
  refine g_icmp_gt C 44 dX3_add_20 (by decide) (fun hc => ?_) (fun hc => ?_)
  · replace h := h.1 hc
    exact ret rfl _ _ _ dX3_add_44 ⟨_, _, rfl, h⟩
  · replace h := h.2 hc
    refine g_aload_n C 0 rfl dX3_add_23 ?_
    refine xg_kin_2 C q178 dX3_add_24 ?_
    refine g_bipush C 24 (by decide) dX3_add_27 ?_
    refine g_iload_n C 1 rfl dX3_add_29 ?_
    refine g_imul C dX3_add_30 ?_
    refine g_iload C 2 rfl dX3_add_31 ?_
    refine g_iadd C dX3_add_33 ?_
    refine g_ldc2 C (v := (-1)) q664 dX3_add_34 ?_
    obtain ⟨hb, h⟩ := h
    refine xst_19 C hb dX3_add_37 ?_
    obtain ⟨w1, ew1⟩ : ∃ z, z = (xsM w 19 ((24 * x1) + x4).toNatClampNeg (-1)) := ⟨_, rfl⟩
    replace h := h w1 ew1
    rw [← ew1]
    refine g_iinc C 2 (x4 + 1) (lt := [(4, .int (x4 + 1)), (0, .ref (xa K 2)), (1, .int x1)]) rfl rfl dX3_add_38 (by decide) rfl ?_
    refine g_goto C 17 dX3_add_41 (by decide) ?_
    refine g_sub [1, 2, 0] rfl ?_
    exact hr17 x1 (x4 + 1) w1 L h
theorem k_X3_add_t2_17 {Γ : gT} {K : gK} {N : Nat} {post : Wd → va_W → Prop} (C : gC Γ K RX3 cX3_add 5 rm_X3_add_t2) (ret : gRv Γ K cX3_add (none) (xPv K post) 0 0) : ∀ (n : Nat) (x1 : Int32) (x4 : Int32) (w : Wd) (L : va_W) (h : B_X3_add_t2_17 N post n x1 x4 w L), gJ Γ K 0 0 (xL K w ++ L) 17 [(0, .ref (xa K 2)), (1, .int x1), (4, .int x4)] [] := by
  intro n
  induction n with
  | zero => intro x1 x4 w L h; exact h.elim
  | succ n ih => intro x1 x4 w L h; exact k_X3_add_t2_17s C ret ih x1 x4 w L h
def B_X3_add_t2_0 (N : Nat) (post : Wd → va_W → Prop) (x1 : Int32) (x2 : Int32) (x3 : Int32) (w : Wd) (L : va_W) : Prop :=
  vp_in x1 24 ∧ ∀ w1 : Wd, w1 = (xsA w 17 x1.toNatClampNeg x2) → vp_in x1 24 ∧ ∀ w2 : Wd, w2 = (xsA w1 18 x1.toNatClampNeg x3) → B_X3_add_t2_17 N post N x1 0 w2 L
set_option maxHeartbeats 4000000 in
theorem k_X3_add_t2_0 {Γ : gT} {K : gK} {N : Nat} {post : Wd → va_W → Prop} (C : gC Γ K RX3 cX3_add 5 rm_X3_add_t2) (ret : gRv Γ K cX3_add (none) (xPv K post) 0 0) (x1 : Int32) (x2 : Int32) (x3 : Int32) (w : Wd) (L : va_W) (h : B_X3_add_t2_0 N post x1 x2 x3 w L) : gJ Γ K 0 0 (xL K w ++ L) 0 [(0, .ref (xa K 2)), (1, .int x1), (2, .int x2), (3, .int x3)] [] := by
  unfold B_X3_add_t2_0 at h
  refine g_aload_n C 0 rfl dX3_add_0 ?_
  refine xg_mother_2 C q176 dX3_add_1 ?_
  refine g_iload_n C 1 rfl dX3_add_4 ?_
  refine g_iload_n C 2 rfl dX3_add_5 ?_
  obtain ⟨hb, h⟩ := h
  refine xst_17 C hb dX3_add_6 ?_
  obtain ⟨w1, ew1⟩ : ∃ z, z = (xsA w 17 x1.toNatClampNeg x2) := ⟨_, rfl⟩
  replace h := h w1 ew1
  rw [← ew1]
  refine g_aload_n C 0 rfl dX3_add_7 ?_
  refine xg_father_2 C q177 dX3_add_8 ?_
  refine g_iload_n C 1 rfl dX3_add_11 ?_
  refine g_iload_n C 3 rfl dX3_add_12 ?_
  obtain ⟨hb, h⟩ := h
  refine xst_18 C hb dX3_add_13 ?_
  obtain ⟨w2, ew2⟩ : ∃ z, z = (xsA w1 18 x1.toNatClampNeg x3) := ⟨_, rfl⟩
  replace h := h w2 ew2
  rw [← ew2]
  refine g_iconst C 0 (by decide) dX3_add_14 ?_
  refine g_istore C (lt := [(4, .int 0), (0, .ref (xa K 2)), (1, .int x1), (2, .int x2), (3, .int x3)]) dX3_add_15 (by decide) rfl ?_
  refine g_sub [1, 2, 0] rfl ?_
  exact k_X3_add_t2_17 C ret N x1 0 w2 L h
def B_X3_add_t2 (N : Nat) (x1 : Int32) (x2 : Int32) (x3 : Int32) (post : Wd → va_W → Prop) (w : Wd) (L : va_W) : Prop := B_X3_add_t2_0 N post x1 x2 x3 w L
theorem m_X3_add_t2 {l : Launch} {K : gK} {N : Nat} {post : Wd → va_W → Prop} {x1 : Int32} {x2 : Int32} {x3 : Int32} {w : Wd} {L : va_W} (h : B_X3_add_t2 N x1 x2 x3 post w L) : gMv l K yX3_add cX3_add 5 (none) rm_X3_add_t2 [.ref (xa K 2), .int x1, .int x2, .int x3] (xL K w ++ L) (xPv K post) 0 0 := by
  refine g_inV (ls0 := [(0, .ref (xa K 2)), (1, .int x1), (2, .int x2), (3, .int x3)]) (by decide) (Nat.le_of_ble_eq_true rfl) rfl (fun Γ hl C hn ret => ?_)
  exact k_X3_add_t2_0 C ret x1 x2 x3 w L h
def rm_X3_worked_t2 (d : Nat) : Room := { frames := 2 * d + 2, cells := 0, slots := 0, locals := 50 * d + 48 }
def rm_X3_kin_t2 (d : Nat) : Room := { frames := 2 * d + 1, cells := 0, slots := 0, locals := 50 * d + 23 }
def B_X3_worked_t2_52 (Bk : Int32 → Int32 → (Int64 → Wd → va_W → Prop) → Wd → va_W → Prop) (N : Nat) (post : Int64 → Wd → va_W → Prop) (s0 : Int64) (s1 : Int64) (w : Wd) (L : va_W) : Prop :=
  post (s1 + s0) w L
set_option maxHeartbeats 4000000 in
theorem k_X3_worked_t2_52 {Γ : gT} {K : gK} {N : Nat} {post : Int64 → Wd → va_W → Prop} {d : Nat} {Bk : Int32 → Int32 → (Int64 → Wd → va_W → Prop) → Wd → va_W → Prop} (C : gC Γ K RX3 cX3_worked 4 (rm_X3_worked_t2 d)) (ret : gRl Γ K cX3_worked (some .long) (xPl K post) 0 0) (hk : ∀ {z1 : Int32} {z2 : Int32} {p0 : Int64 → Wd → va_W → Prop} {w0 : Wd} {L0 : va_W}, Bk z1 z2 p0 w0 L0 → gMl Γ.l K yX3_kin cX3_kin 6 (some .long) (rm_X3_kin_t2 d) [.ref (xa K 2), .int z1, .int z2] (xL K w0 ++ L0) (xPl K p0) 0 0) (s0 : Int64) (s1 : Int64) (w : Wd) (L : va_W) (h : B_X3_worked_t2_52 Bk N post s0 s1 w L) : gJ Γ K 0 0 (xL K w ++ L) 52 [] [.long s0, .long s1] := by
  unfold B_X3_worked_t2_52 at h
  refine g_ladd C dX3_worked_52 ?_
  exact ret rfl _ _ _ _ dX3_worked_53 ⟨_, _, rfl, h⟩
def B_X3_worked_t2_93 (Bk : Int32 → Int32 → (Int64 → Wd → va_W → Prop) → Wd → va_W → Prop) (N : Nat) (post : Int64 → Wd → va_W → Prop) (s0 : Int64) (w : Wd) (L : va_W) : Prop :=
  post s0 w L
set_option maxHeartbeats 4000000 in
theorem k_X3_worked_t2_93 {Γ : gT} {K : gK} {N : Nat} {post : Int64 → Wd → va_W → Prop} {d : Nat} {Bk : Int32 → Int32 → (Int64 → Wd → va_W → Prop) → Wd → va_W → Prop} (C : gC Γ K RX3 cX3_worked 4 (rm_X3_worked_t2 d)) (ret : gRl Γ K cX3_worked (some .long) (xPl K post) 0 0) (hk : ∀ {z1 : Int32} {z2 : Int32} {p0 : Int64 → Wd → va_W → Prop} {w0 : Wd} {L0 : va_W}, Bk z1 z2 p0 w0 L0 → gMl Γ.l K yX3_kin cX3_kin 6 (some .long) (rm_X3_kin_t2 d) [.ref (xa K 2), .int z1, .int z2] (xL K w0 ++ L0) (xPl K p0) 0 0) (s0 : Int64) (w : Wd) (L : va_W) (h : B_X3_worked_t2_93 Bk N post s0 w L) : gJ Γ K 0 0 (xL K w ++ L) 93 [] [.long s0] := by
  unfold B_X3_worked_t2_93 at h
  exact ret rfl _ _ _ _ dX3_worked_93 ⟨_, _, rfl, h⟩
def B_X3_worked_t2_15 (Bk : Int32 → Int32 → (Int64 → Wd → va_W → Prop) → Wd → va_W → Prop) (N : Nat) (post : Int64 → Wd → va_W → Prop) (x1 : Int32) (x2 : Int32) (s0 : Int32) (w : Wd) (L : va_W) : Prop :=
  (x1 = x2 →
    (s0 = 0 →
      vp_in x1 24 ∧ vp_in x1 24 ∧ Bk (xA w 17 x1.toNatClampNeg) (xA w 18 x1.toNatClampNeg) (fun (v9 : Int64) (w7 : Wd) (L8 : va_W) =>
  B_X3_worked_t2_52 Bk N post (v9 / 2) 562949953421312 w7 L8) w L) ∧
    (¬ s0 = 0 →
      B_X3_worked_t2_52 Bk N post 0 562949953421312 w L)) ∧
  (¬ x1 = x2 →
    (s0 = 0 →
      vp_in x1 24 ∧ Bk x2 (xA w 17 x1.toNatClampNeg) (fun (v3 : Int64) (w1 : Wd) (L2 : va_W) =>
  vp_in x1 24 ∧ Bk x2 (xA w1 18 x1.toNatClampNeg) (fun (v6 : Int64) (w4 : Wd) (L5 : va_W) =>
  B_X3_worked_t2_93 Bk N post ((v3 / 2) + (v6 / 2)) w4 L5) w1 L2) w L) ∧
    (¬ s0 = 0 →
      B_X3_worked_t2_93 Bk N post 0 w L))
set_option maxHeartbeats 4000000 in
theorem k_X3_worked_t2_15 {Γ : gT} {K : gK} {N : Nat} {post : Int64 → Wd → va_W → Prop} {d : Nat} {Bk : Int32 → Int32 → (Int64 → Wd → va_W → Prop) → Wd → va_W → Prop} (C : gC Γ K RX3 cX3_worked 4 (rm_X3_worked_t2 d)) (ret : gRl Γ K cX3_worked (some .long) (xPl K post) 0 0) (hk : ∀ {z1 : Int32} {z2 : Int32} {p0 : Int64 → Wd → va_W → Prop} {w0 : Wd} {L0 : va_W}, Bk z1 z2 p0 w0 L0 → gMl Γ.l K yX3_kin cX3_kin 6 (some .long) (rm_X3_kin_t2 d) [.ref (xa K 2), .int z1, .int z2] (xL K w0 ++ L0) (xPl K p0) 0 0) (x1 : Int32) (x2 : Int32) (s0 : Int32) (w : Wd) (L : va_W) (h : B_X3_worked_t2_15 Bk N post x1 x2 s0 w L) : gJ Γ K 0 0 (xL K w ++ L) 15 [(0, .ref (xa K 2)), (1, .int x1), (2, .int x2)] [.int s0] := by
  unfold B_X3_worked_t2_15 at h
  refine g_istore_n C rfl (lt := [(3, .int s0), (0, .ref (xa K 2)), (1, .int x1), (2, .int x2)]) dX3_worked_15 (by decide) rfl ?_
  refine g_iload_n C 2 rfl dX3_worked_16 ?_
  refine g_iload_n C 3 rfl dX3_worked_17 ?_
  refine g_icmp_ne C 54 dX3_worked_18 (by decide) (fun hc => ?_) (fun hc => ?_)
  · replace h := h.2 hc
    refine g_iload_n C 0 rfl dX3_worked_54 ?_
    refine g_if_eq C 62 dX3_worked_55 (by decide) (fun hc => ?_) (fun hc => ?_)
    · replace h := h.1 hc
      refine g_aload_n C 1 rfl dX3_worked_62 ?_
      refine g_iload_n C 3 rfl dX3_worked_63 ?_
      refine g_aload_n C 1 rfl dX3_worked_64 ?_
      refine xg_mother_2 C q176 dX3_worked_65 ?_
      refine g_iload_n C 2 rfl dX3_worked_68 ?_
      obtain ⟨hb, h⟩ := h
      refine xld_17 C hb (xA w 17 x1.toNatClampNeg) rfl dX3_worked_69 ?_
      refine g_callVl C (As := [.int x2, .int (xA w 17 x1.toNatClampNeg)]) (rest := []) (hk h) (lw_V q680 q670 q671 q82 q672) (ci := 2) (qi := 2) rfl rfl ⟨rfl, rfl⟩ (by dsimp only [rm_X3_worked_t2, rm_X3_kin_t2]; omega) 2 rfl (by decide +kernel) rfl (Nat.le_of_ble_eq_true rfl) ⟨Nat.zero_le _, Nat.zero_le _⟩ dX3_worked_70 ?_
      rintro v3 _ ⟨w1, L2, rfl, h⟩
      refine g_ldc2 C (v := 2) q681 dX3_worked_73 ?_
      refine g_ldiv C (by decide) dX3_worked_76 ?_
      refine g_aload_n C 1 rfl dX3_worked_77 ?_
      refine g_iload_n C 3 rfl dX3_worked_78 ?_
      refine g_aload_n C 1 rfl dX3_worked_79 ?_
      refine xg_father_2 C q177 dX3_worked_80 ?_
      refine g_iload_n C 2 rfl dX3_worked_83 ?_
      obtain ⟨hb, h⟩ := h
      refine xld_18 C hb (xA w1 18 x1.toNatClampNeg) rfl dX3_worked_84 ?_
      refine g_callVl C (As := [.int x2, .int (xA w1 18 x1.toNatClampNeg)]) (rest := [.long (v3 / 2)]) (hk h) (lw_V q680 q670 q671 q82 q672) (ci := 2) (qi := 2) rfl rfl ⟨rfl, rfl⟩ (by dsimp only [rm_X3_worked_t2, rm_X3_kin_t2]; omega) 2 rfl (by decide +kernel) rfl (Nat.le_of_ble_eq_true rfl) ⟨Nat.zero_le _, Nat.zero_le _⟩ dX3_worked_85 ?_
      rintro v6 _ ⟨w4, L5, rfl, h⟩
      refine g_ldc2 C (v := 2) q681 dX3_worked_88 ?_
      refine g_ldiv C (by decide) dX3_worked_91 ?_
      refine g_ladd C dX3_worked_92 ?_
      refine g_sub [] rfl ?_
      exact k_X3_worked_t2_93 C ret hk ((v3 / 2) + (v6 / 2)) w4 L5 h
    · replace h := h.2 hc
      refine g_lconst C 0 (by decide) dX3_worked_58 ?_
      refine g_goto C 93 dX3_worked_59 (by decide) ?_
      refine g_sub [] rfl ?_
      exact k_X3_worked_t2_93 C ret hk 0 w L h
  · replace h := h.1 hc
    refine g_ldc2 C (v := 562949953421312) q679 dX3_worked_21 ?_
    refine g_iload_n C 0 rfl dX3_worked_24 ?_
    refine g_if_eq C 32 dX3_worked_25 (by decide) (fun hc => ?_) (fun hc => ?_)
    · replace h := h.1 hc
      refine g_aload_n C 1 rfl dX3_worked_32 ?_
      refine g_aload_n C 1 rfl dX3_worked_33 ?_
      refine xg_mother_2 C q176 dX3_worked_34 ?_
      refine g_iload_n C 2 rfl dX3_worked_37 ?_
      obtain ⟨hb, h⟩ := h
      refine xld_17 C hb (xA w 17 x1.toNatClampNeg) rfl dX3_worked_38 ?_
      refine g_aload_n C 1 rfl dX3_worked_39 ?_
      refine xg_father_2 C q177 dX3_worked_40 ?_
      refine g_iload_n C 2 rfl dX3_worked_43 ?_
      obtain ⟨hb, h⟩ := h
      refine xld_18 C hb (xA w 18 x1.toNatClampNeg) rfl dX3_worked_44 ?_
      refine g_callVl C (As := [.int (xA w 17 x1.toNatClampNeg), .int (xA w 18 x1.toNatClampNeg)]) (rest := [.long 562949953421312]) (hk h) (lw_V q680 q670 q671 q82 q672) (ci := 2) (qi := 2) rfl rfl ⟨rfl, rfl⟩ (by dsimp only [rm_X3_worked_t2, rm_X3_kin_t2]; omega) 2 rfl (by decide +kernel) rfl (Nat.le_of_ble_eq_true rfl) ⟨Nat.zero_le _, Nat.zero_le _⟩ dX3_worked_45 ?_
      rintro v9 _ ⟨w7, L8, rfl, h⟩
      refine g_ldc2 C (v := 2) q681 dX3_worked_48 ?_
      refine g_ldiv C (by decide) dX3_worked_51 ?_
      refine g_sub [] rfl ?_
      exact k_X3_worked_t2_52 C ret hk (v9 / 2) 562949953421312 w7 L8 h
    · replace h := h.2 hc
      refine g_lconst C 0 (by decide) dX3_worked_28 ?_
      refine g_goto C 52 dX3_worked_29 (by decide) ?_
      refine g_sub [] rfl ?_
      exact k_X3_worked_t2_52 C ret hk 0 562949953421312 w L h
def B_X3_worked_t2_0 (Bk : Int32 → Int32 → (Int64 → Wd → va_W → Prop) → Wd → va_W → Prop) (N : Nat) (post : Int64 → Wd → va_W → Prop) (x1 : Int32) (x2 : Int32) (w : Wd) (L : va_W) : Prop :=
  vp_in x1 24 ∧ ((xA w 17 x1.toNatClampNeg) = (-1 : Int32) →
    B_X3_worked_t2_15 Bk N post x1 x2 1 w L) ∧
  (¬ (xA w 17 x1.toNatClampNeg) = (-1 : Int32) →
    B_X3_worked_t2_15 Bk N post x1 x2 0 w L)
set_option maxHeartbeats 4000000 in
theorem k_X3_worked_t2_0 {Γ : gT} {K : gK} {N : Nat} {post : Int64 → Wd → va_W → Prop} {d : Nat} {Bk : Int32 → Int32 → (Int64 → Wd → va_W → Prop) → Wd → va_W → Prop} (C : gC Γ K RX3 cX3_worked 4 (rm_X3_worked_t2 d)) (ret : gRl Γ K cX3_worked (some .long) (xPl K post) 0 0) (hk : ∀ {z1 : Int32} {z2 : Int32} {p0 : Int64 → Wd → va_W → Prop} {w0 : Wd} {L0 : va_W}, Bk z1 z2 p0 w0 L0 → gMl Γ.l K yX3_kin cX3_kin 6 (some .long) (rm_X3_kin_t2 d) [.ref (xa K 2), .int z1, .int z2] (xL K w0 ++ L0) (xPl K p0) 0 0) (x1 : Int32) (x2 : Int32) (w : Wd) (L : va_W) (h : B_X3_worked_t2_0 Bk N post x1 x2 w L) : gJ Γ K 0 0 (xL K w ++ L) 0 [(0, .ref (xa K 2)), (1, .int x1), (2, .int x2)] [] := by
  unfold B_X3_worked_t2_0 at h
  refine g_aload_n C 0 rfl dX3_worked_0 ?_
  refine xg_mother_2 C q176 dX3_worked_1 ?_
  refine g_iload_n C 1 rfl dX3_worked_4 ?_
  obtain ⟨hb, h⟩ := h
  refine xld_17 C hb (xA w 17 x1.toNatClampNeg) rfl dX3_worked_5 ?_
  refine g_iconst C (-1) (by decide) dX3_worked_6 ?_
  refine g_icmp_ne C 14 dX3_worked_7 (by decide) (fun hc => ?_) (fun hc => ?_)
  · replace h := h.2 hc
    refine g_iconst C 0 (by decide) dX3_worked_14 ?_
    exact k_X3_worked_t2_15 C ret hk x1 x2 0 w L h
  · replace h := h.1 hc
    refine g_iconst C 1 (by decide) dX3_worked_10 ?_
    refine g_goto C 15 dX3_worked_11 (by decide) ?_
    exact k_X3_worked_t2_15 C ret hk x1 x2 1 w L h
def B_X3_worked_t2 (Bk : Int32 → Int32 → (Int64 → Wd → va_W → Prop) → Wd → va_W → Prop) (N : Nat) (x1 : Int32) (x2 : Int32) (post : Int64 → Wd → va_W → Prop) (w : Wd) (L : va_W) : Prop := B_X3_worked_t2_0 Bk N post x1 x2 w L
theorem m_X3_worked_t2 {l : Launch} {K : gK} {N : Nat} {post : Int64 → Wd → va_W → Prop} {d : Nat} {Bk : Int32 → Int32 → (Int64 → Wd → va_W → Prop) → Wd → va_W → Prop} {x1 : Int32} {x2 : Int32} {w : Wd} {L : va_W} (hk : ∀ {z1 : Int32} {z2 : Int32} {p0 : Int64 → Wd → va_W → Prop} {w0 : Wd} {L0 : va_W}, Bk z1 z2 p0 w0 L0 → gMl l K yX3_kin cX3_kin 6 (some .long) (rm_X3_kin_t2 d) [.ref (xa K 2), .int z1, .int z2] (xL K w0 ++ L0) (xPl K p0) 0 0) (h : B_X3_worked_t2 Bk N x1 x2 post w L) : gMl l K yX3_worked cX3_worked 4 (some .long) (rm_X3_worked_t2 d) [.ref (xa K 2), .int x1, .int x2] (xL K w ++ L) (xPl K post) 0 0 := by
  refine g_inL (ls0 := [(0, .ref (xa K 2)), (1, .int x1), (2, .int x2)]) (by decide) (Nat.le_of_ble_eq_true rfl) rfl (fun Γ hl C hn ret => ?_)
  subst hl
  exact k_X3_worked_t2_0 C ret hk x1 x2 w L h
def B_X3_kin_t2_50 (Bk : Int32 → Int32 → (Int64 → Wd → va_W → Prop) → Wd → va_W → Prop) (N : Nat) (post : Int64 → Wd → va_W → Prop) (x5 : Int32) (w : Wd) (L : va_W) : Prop :=
  vp_in x5 576 ∧ post (xM w 19 x5.toNatClampNeg) w L
set_option maxHeartbeats 4000000 in
theorem k_X3_kin_t2_50 {Γ : gT} {K : gK} {N : Nat} {post : Int64 → Wd → va_W → Prop} {d : Nat} {Bk : Int32 → Int32 → (Int64 → Wd → va_W → Prop) → Wd → va_W → Prop} (C : gC Γ K RX3 cX3_kin 6 (rm_X3_kin_t2 (d + 1))) (ret : gRl Γ K cX3_kin (some .long) (xPl K post) 0 0) (hk : ∀ {z1 : Int32} {z2 : Int32} {p0 : Int64 → Wd → va_W → Prop} {w0 : Wd} {L0 : va_W}, Bk z1 z2 p0 w0 L0 → gMl Γ.l K yX3_kin cX3_kin 6 (some .long) (rm_X3_kin_t2 d) [.ref (xa K 2), .int z1, .int z2] (xL K w0 ++ L0) (xPl K p0) 0 0) (x5 : Int32) (w : Wd) (L : va_W) (h : B_X3_kin_t2_50 Bk N post x5 w L) : gJ Γ K 0 0 (xL K w ++ L) 50 [(0, .ref (xa K 2)), (5, .int x5)] [] := by
  unfold B_X3_kin_t2_50 at h
  refine g_aload_n C 0 rfl dX3_kin_50 ?_
  refine xg_kin_2 C q178 dX3_kin_51 ?_
  refine g_iload C 1 rfl dX3_kin_54 ?_
  obtain ⟨hb, h⟩ := h
  refine xld_19 C hb (xM w 19 x5.toNatClampNeg) rfl dX3_kin_56 ?_
  exact ret rfl _ _ _ _ dX3_kin_57 ⟨_, _, rfl, h⟩
def B_X3_kin_t2_0 (Bk : Int32 → Int32 → (Int64 → Wd → va_W → Prop) → Wd → va_W → Prop) (N : Nat) (post : Int64 → Wd → va_W → Prop) (x1 : Int32) (x2 : Int32) (w : Wd) (L : va_W) : Prop :=
  vp_in ((24 * (if x1 < x2 then x2 else x1)) + (if x2 < x1 then x2 else x1)) 576 ∧ ((xM w 19 ((24 * (if x1 < x2 then x2 else x1)) + (if x2 < x1 then x2 else x1)).toNatClampNeg) = (-1) →
    B_X3_worked_t2 Bk N (if x1 < x2 then x2 else x1) (if x2 < x1 then x2 else x1) (fun (v3 : Int64) (w1 : Wd) (L2 : va_W) =>
  vp_in ((24 * (if x1 < x2 then x2 else x1)) + (if x2 < x1 then x2 else x1)) 576 ∧ ∀ w4 : Wd, w4 = (xsM w1 19 ((24 * (if x1 < x2 then x2 else x1)) + (if x2 < x1 then x2 else x1)).toNatClampNeg v3) → B_X3_kin_t2_50 Bk N post ((24 * (if x1 < x2 then x2 else x1)) + (if x2 < x1 then x2 else x1)) w4 L2) w L) ∧
  (¬ (xM w 19 ((24 * (if x1 < x2 then x2 else x1)) + (if x2 < x1 then x2 else x1)).toNatClampNeg) = (-1) →
    B_X3_kin_t2_50 Bk N post ((24 * (if x1 < x2 then x2 else x1)) + (if x2 < x1 then x2 else x1)) w L)
set_option maxHeartbeats 4000000 in
theorem k_X3_kin_t2_0 {Γ : gT} {K : gK} {N : Nat} {post : Int64 → Wd → va_W → Prop} {d : Nat} {Bk : Int32 → Int32 → (Int64 → Wd → va_W → Prop) → Wd → va_W → Prop} (C : gC Γ K RX3 cX3_kin 6 (rm_X3_kin_t2 (d + 1))) (ret : gRl Γ K cX3_kin (some .long) (xPl K post) 0 0) (hk : ∀ {z1 : Int32} {z2 : Int32} {p0 : Int64 → Wd → va_W → Prop} {w0 : Wd} {L0 : va_W}, Bk z1 z2 p0 w0 L0 → gMl Γ.l K yX3_kin cX3_kin 6 (some .long) (rm_X3_kin_t2 d) [.ref (xa K 2), .int z1, .int z2] (xL K w0 ++ L0) (xPl K p0) 0 0) (x1 : Int32) (x2 : Int32) (w : Wd) (L : va_W) (h : B_X3_kin_t2_0 Bk N post x1 x2 w L) : gJ Γ K 0 0 (xL K w ++ L) 0 [(0, .ref (xa K 2)), (1, .int x1), (2, .int x2)] [] := by
  unfold B_X3_kin_t2_0 at h
  refine g_iload_n C 1 rfl dX3_kin_0 ?_
  refine g_iload_n C 2 rfl dX3_kin_1 ?_
  refine g_mmax C q673 q407 q87 q408 (by constructor <;> (dsimp only [rm_X3_kin_t2]; simp [Value.category]; try omega)) ⟨Nat.zero_le _, Nat.zero_le _⟩ dX3_kin_2 ?_
  refine g_istore_n C rfl (lt := [(3, .int (if x1 < x2 then x2 else x1)), (0, .ref (xa K 2)), (1, .int x1), (2, .int x2)]) dX3_kin_5 (by decide) rfl ?_
  refine g_iload_n C 2 rfl dX3_kin_6 ?_
  refine g_iload_n C 3 rfl dX3_kin_7 ?_
  refine g_mmin C q674 q410 q87 q411 (by constructor <;> (dsimp only [rm_X3_kin_t2]; simp [Value.category]; try omega)) ⟨Nat.zero_le _, Nat.zero_le _⟩ dX3_kin_8 ?_
  refine g_istore C (lt := [(4, .int (if x2 < x1 then x2 else x1)), (3, .int (if x1 < x2 then x2 else x1)), (0, .ref (xa K 2)), (1, .int x1), (2, .int x2)]) dX3_kin_11 (by decide) rfl ?_
  refine g_bipush C 24 (by decide) dX3_kin_13 ?_
  refine g_iload_n C 1 rfl dX3_kin_15 ?_
  refine g_imul C dX3_kin_16 ?_
  refine g_iload C 0 rfl dX3_kin_17 ?_
  refine g_iadd C dX3_kin_19 ?_
  refine g_istore C (lt := [(5, .int ((24 * (if x1 < x2 then x2 else x1)) + (if x2 < x1 then x2 else x1))), (4, .int (if x2 < x1 then x2 else x1)), (3, .int (if x1 < x2 then x2 else x1)), (0, .ref (xa K 2)), (1, .int x1), (2, .int x2)]) dX3_kin_20 (by decide) rfl ?_
  refine g_aload_n C 3 rfl dX3_kin_22 ?_
  refine xg_kin_2 C q178 dX3_kin_23 ?_
  refine g_iload C 0 rfl dX3_kin_26 ?_
  obtain ⟨hb, h⟩ := h
  refine xld_19 C hb (xM w 19 ((24 * (if x1 < x2 then x2 else x1)) + (if x2 < x1 then x2 else x1)).toNatClampNeg) rfl dX3_kin_28 ?_
  refine g_ldc2 C (v := (-1)) q664 dX3_kin_29 ?_
  refine g_lif_ne C 50 dX3_kin_32 dX3_kin_33 (by decide) (fun hc => ?_) (fun hc => ?_)
  · replace h := h.2 hc
    refine g_sub [3, 0] rfl ?_
    exact k_X3_kin_t2_50 C ret hk ((24 * (if x1 < x2 then x2 else x1)) + (if x2 < x1 then x2 else x1)) w L h
  · replace h := h.1 hc
    refine g_aload_n C 3 rfl dX3_kin_36 ?_
    refine xg_kin_2 C q178 dX3_kin_37 ?_
    refine g_iload C 0 rfl dX3_kin_40 ?_
    refine g_aload_n C 3 rfl dX3_kin_42 ?_
    refine g_iload_n C 2 rfl dX3_kin_43 ?_
    refine g_iload C 1 rfl dX3_kin_44 ?_
    refine g_callVl C (As := [.int (if x1 < x2 then x2 else x1), .int (if x2 < x1 then x2 else x1)]) (rest := [.int ((24 * (if x1 < x2 then x2 else x1)) + (if x2 < x1 then x2 else x1)), .ref (xa K 19)]) (m_X3_worked_t2 hk h) (lw_V q675 q677 qs15 q82 q678) (ci := 2) (qi := 2) rfl rfl ⟨rfl, rfl⟩ (by dsimp only [rm_X3_kin_t2, rm_X3_worked_t2]; omega) 2 rfl (by decide +kernel) rfl (Nat.le_of_ble_eq_true rfl) ⟨Nat.zero_le _, Nat.zero_le _⟩ dX3_kin_46 ?_
    rintro v3 _ ⟨w1, L2, rfl, h⟩
    obtain ⟨hb, h⟩ := h
    refine xst_19 C hb dX3_kin_49 ?_
    obtain ⟨w4, ew4⟩ : ∃ z, z = (xsM w1 19 ((24 * (if x1 < x2 then x2 else x1)) + (if x2 < x1 then x2 else x1)).toNatClampNeg v3) := ⟨_, rfl⟩
    replace h := h w4 ew4
    rw [← ew4]
    refine g_sub [3, 0] rfl ?_
    exact k_X3_kin_t2_50 C ret hk ((24 * (if x1 < x2 then x2 else x1)) + (if x2 < x1 then x2 else x1)) w4 L2 h
def B_X3_kin_t21 (Bk : Int32 → Int32 → (Int64 → Wd → va_W → Prop) → Wd → va_W → Prop) (N : Nat) (x1 : Int32) (x2 : Int32) (post : Int64 → Wd → va_W → Prop) (w : Wd) (L : va_W) : Prop := B_X3_kin_t2_0 Bk N post x1 x2 w L
theorem m_X3_kin_t21 {l : Launch} {K : gK} {N : Nat} {post : Int64 → Wd → va_W → Prop} {d : Nat} {Bk : Int32 → Int32 → (Int64 → Wd → va_W → Prop) → Wd → va_W → Prop} {x1 : Int32} {x2 : Int32} {w : Wd} {L : va_W} (hk : ∀ {z1 : Int32} {z2 : Int32} {p0 : Int64 → Wd → va_W → Prop} {w0 : Wd} {L0 : va_W}, Bk z1 z2 p0 w0 L0 → gMl l K yX3_kin cX3_kin 6 (some .long) (rm_X3_kin_t2 d) [.ref (xa K 2), .int z1, .int z2] (xL K w0 ++ L0) (xPl K p0) 0 0) (h : B_X3_kin_t21 Bk N x1 x2 post w L) : gMl l K yX3_kin cX3_kin 6 (some .long) (rm_X3_kin_t2 (d + 1)) [.ref (xa K 2), .int x1, .int x2] (xL K w ++ L) (xPl K post) 0 0 := by
  refine g_inL (ls0 := [(0, .ref (xa K 2)), (1, .int x1), (2, .int x2)]) (by decide) (Nat.le_of_ble_eq_true rfl) rfl (fun Γ hl C hn ret => ?_)
  subst hl
  exact k_X3_kin_t2_0 C ret hk x1 x2 w L h
def B_X3_kin_t2d (N : Nat) : Nat → Int32 → Int32 → (Int64 → Wd → va_W → Prop) → Wd → va_W → Prop
  | 0, _, _, _, _, _ => False
  | d + 1, z1, z2, p0, w0, L0 => B_X3_kin_t21 (B_X3_kin_t2d N d) N z1 z2 p0 w0 L0
theorem m_X3_kin_t2d {l : Launch} {K : gK} {N : Nat} : ∀ (d : Nat) {z1 : Int32} {z2 : Int32} {p0 : Int64 → Wd → va_W → Prop} {w0 : Wd} {L0 : va_W}, B_X3_kin_t2d N d z1 z2 p0 w0 L0 → gMl l K yX3_kin cX3_kin 6 (some .long) (rm_X3_kin_t2 d) [.ref (xa K 2), .int z1, .int z2] (xL K w0 ++ L0) (xPl K p0) 0 0 := by
  intro d
  induction d with
  | zero => intro z1 z2 p0 w0 L0 h; exact h.elim
  | succ d ih => intro z1 z2 p0 w0 L0 h; exact m_X3_kin_t21 (d := d) (Bk := B_X3_kin_t2d N d) (N := N) (post := p0) (w := w0) (L := L0) (hk := ih) h
def B_X3_kin_t2 (N : Nat) (z1 : Int32) (z2 : Int32) (p0 : Int64 → Wd → va_W → Prop) (w0 : Wd) (L0 : va_W) : Prop := B_X3_kin_t2d N 64 z1 z2 p0 w0 L0
theorem m_X3_kin_t2 {l : Launch} {K : gK} {N : Nat} {z1 : Int32} {z2 : Int32} {p0 : Int64 → Wd → va_W → Prop} {w0 : Wd} {L0 : va_W} (h : B_X3_kin_t2 N z1 z2 p0 w0 L0) : gMl l K yX3_kin cX3_kin 6 (some .long) (rm_X3_kin_t2 64) [.ref (xa K 2), .int z1, .int z2] (xL K w0 ++ L0) (xPl K p0) 0 0 := m_X3_kin_t2d 64 h
def B_X3_worked_t2_out (N : Nat) (x1 : Int32) (x2 : Int32) (p0 : Int64 → Wd → va_W → Prop) (w0 : Wd) (L0 : va_W) : Prop := B_X3_worked_t2 (B_X3_kin_t2d N 64) N x1 x2 p0 w0 L0
theorem m_X3_worked_t2_out {l : Launch} {K : gK} {N : Nat} {x1 : Int32} {x2 : Int32} {p0 : Int64 → Wd → va_W → Prop} {w0 : Wd} {L0 : va_W} (h : B_X3_worked_t2_out N x1 x2 p0 w0 L0) : gMl l K yX3_worked cX3_worked 4 (some .long) (rm_X3_worked_t2 64) [.ref (xa K 2), .int x1, .int x2] (xL K w0 ++ L0) (xPl K p0) 0 0 := m_X3_worked_t2 (d := 64) (hk := m_X3_kin_t2d 64) h
def rm_X3_young_t2 : Room := { frames := 130, cells := 0, slots := 0, locals := 3248 }
def B_X3_young_t2_0 (N : Nat) (post : Int64 → Wd → va_W → Prop) (x1 : Int32) (x2 : Int32) (x3 : Int32) (w : Wd) (L : va_W) : Prop :=
  B_X3_kin_t2 N x1 x2 (fun (v3 : Int64) (w1 : Wd) (L2 : va_W) =>
  B_X3_kin_t2 N x1 x3 (fun (v6 : Int64) (w4 : Wd) (L5 : va_W) =>
  post ((v3 / 2) + (v6 / 2)) w4 L5) w1 L2) w L
set_option maxHeartbeats 4000000 in
theorem k_X3_young_t2_0 {Γ : gT} {K : gK} {N : Nat} {post : Int64 → Wd → va_W → Prop} (C : gC Γ K RX3 cX3_young 4 rm_X3_young_t2) (ret : gRl Γ K cX3_young (some .long) (xPl K post) 0 0) (x1 : Int32) (x2 : Int32) (x3 : Int32) (w : Wd) (L : va_W) (h : B_X3_young_t2_0 N post x1 x2 x3 w L) : gJ Γ K 0 0 (xL K w ++ L) 0 [(0, .ref (xa K 2)), (1, .int x1), (2, .int x2), (3, .int x3)] [] := by
  unfold B_X3_young_t2_0 at h
  refine g_aload_n C 0 rfl dX3_young_0 ?_
  refine g_iload_n C 1 rfl dX3_young_1 ?_
  refine g_iload_n C 2 rfl dX3_young_2 ?_
  refine g_callVl C (As := [.int x1, .int x2]) (rest := []) (m_X3_kin_t2 h) (lw_V q680 q670 q671 q82 q672) (ci := 2) (qi := 2) rfl rfl ⟨rfl, rfl⟩ ⟨Nat.le_of_ble_eq_true rfl, Nat.le_of_ble_eq_true rfl⟩ 2 rfl (by decide +kernel) rfl (Nat.le_of_ble_eq_true rfl) ⟨Nat.zero_le _, Nat.zero_le _⟩ dX3_young_3 ?_
  rintro v3 _ ⟨w1, L2, rfl, h⟩
  refine g_ldc2 C (v := 2) q681 dX3_young_6 ?_
  refine g_ldiv C (by decide) dX3_young_9 ?_
  refine g_aload_n C 0 rfl dX3_young_10 ?_
  refine g_iload_n C 1 rfl dX3_young_11 ?_
  refine g_iload_n C 3 rfl dX3_young_12 ?_
  refine g_callVl C (As := [.int x1, .int x3]) (rest := [.long (v3 / 2)]) (m_X3_kin_t2 h) (lw_V q680 q670 q671 q82 q672) (ci := 2) (qi := 2) rfl rfl ⟨rfl, rfl⟩ ⟨Nat.le_of_ble_eq_true rfl, Nat.le_of_ble_eq_true rfl⟩ 2 rfl (by decide +kernel) rfl (Nat.le_of_ble_eq_true rfl) ⟨Nat.zero_le _, Nat.zero_le _⟩ dX3_young_13 ?_
  rintro v6 _ ⟨w4, L5, rfl, h⟩
  refine g_ldc2 C (v := 2) q681 dX3_young_16 ?_
  refine g_ldiv C (by decide) dX3_young_19 ?_
  refine g_ladd C dX3_young_20 ?_
  exact ret rfl _ _ _ _ dX3_young_21 ⟨_, _, rfl, h⟩
def B_X3_young_t2 (N : Nat) (x1 : Int32) (x2 : Int32) (x3 : Int32) (post : Int64 → Wd → va_W → Prop) (w : Wd) (L : va_W) : Prop := B_X3_young_t2_0 N post x1 x2 x3 w L
theorem m_X3_young_t2 {l : Launch} {K : gK} {N : Nat} {post : Int64 → Wd → va_W → Prop} {x1 : Int32} {x2 : Int32} {x3 : Int32} {w : Wd} {L : va_W} (h : B_X3_young_t2 N x1 x2 x3 post w L) : gMl l K yX3_young cX3_young 4 (some .long) rm_X3_young_t2 [.ref (xa K 2), .int x1, .int x2, .int x3] (xL K w ++ L) (xPl K post) 0 0 := by
  refine g_inL (ls0 := [(0, .ref (xa K 2)), (1, .int x1), (2, .int x2), (3, .int x3)]) (by decide) (Nat.le_of_ble_eq_true rfl) rfl (fun Γ hl C hn ret => ?_)
  exact k_X3_young_t2_0 C ret x1 x2 x3 w L h
def rm_X3_add_t3 : Room := { frames := 0, cells := 0, slots := 0, locals := 0 }
def B_X3_add_t3_17s (r17 : Int32 → Int32 → Wd → va_W → Prop) (N : Nat) (post : Wd → va_W → Prop) (x1 : Int32) (x4 : Int32) (w : Wd) (L : va_W) : Prop :=
  (x1 < x4 →
    post w L) ∧
  (¬ x1 < x4 →
    vp_in ((24 * x1) + x4) 576 ∧ ∀ w1 : Wd, w1 = (xsM w 22 ((24 * x1) + x4).toNatClampNeg (-1)) → r17 x1 (x4 + 1) w1 L)
def B_X3_add_t3_17 (N : Nat) (post : Wd → va_W → Prop) : Nat → Int32 → Int32 → Wd → va_W → Prop
  | 0, _, _, _, _ => False
  | n + 1, x1, x4, w, L => B_X3_add_t3_17s (B_X3_add_t3_17 N post n) N post x1 x4 w L
set_option maxHeartbeats 4000000 in
theorem k_X3_add_t3_17s {Γ : gT} {K : gK} {N : Nat} {post : Wd → va_W → Prop} (C : gC Γ K RX3 cX3_add 5 rm_X3_add_t3) (ret : gRv Γ K cX3_add (none) (xPv K post) 0 0) {r17 : Int32 → Int32 → Wd → va_W → Prop} (hr17 : ∀ (x1 : Int32) (x4 : Int32) (w : Wd) (L : va_W), r17 x1 x4 w L → gJ Γ K 0 0 (xL K w ++ L) 17 [(0, .ref (xa K 3)), (1, .int x1), (4, .int x4)] []) (x1 : Int32) (x4 : Int32) (w : Wd) (L : va_W) (h : B_X3_add_t3_17s r17 N post x1 x4 w L) : gJ Γ K 0 0 (xL K w ++ L) 17 [(0, .ref (xa K 3)), (1, .int x1), (4, .int x4)] [] := by
  unfold B_X3_add_t3_17s at h
  refine g_iload C 2 rfl dX3_add_17 ?_
  refine g_iload_n C 1 rfl dX3_add_19 ?_
  refine g_icmp_gt C 44 dX3_add_20 (by decide) (fun hc => ?_) (fun hc => ?_)
  · replace h := h.1 hc
    exact ret rfl _ _ _ dX3_add_44 ⟨_, _, rfl, h⟩
  · replace h := h.2 hc
    refine g_aload_n C 0 rfl dX3_add_23 ?_
    refine xg_kin_3 C q178 dX3_add_24 ?_
    refine g_bipush C 24 (by decide) dX3_add_27 ?_
    refine g_iload_n C 1 rfl dX3_add_29 ?_
    refine g_imul C dX3_add_30 ?_
    refine g_iload C 2 rfl dX3_add_31 ?_
    refine g_iadd C dX3_add_33 ?_
    refine g_ldc2 C (v := (-1)) q664 dX3_add_34 ?_
    obtain ⟨hb, h⟩ := h
    refine xst_22 C hb dX3_add_37 ?_
    obtain ⟨w1, ew1⟩ : ∃ z, z = (xsM w 22 ((24 * x1) + x4).toNatClampNeg (-1)) := ⟨_, rfl⟩
    replace h := h w1 ew1
    rw [← ew1]
    refine g_iinc C 2 (x4 + 1) (lt := [(4, .int (x4 + 1)), (0, .ref (xa K 3)), (1, .int x1)]) rfl rfl dX3_add_38 (by decide) rfl ?_
    refine g_goto C 17 dX3_add_41 (by decide) ?_
    refine g_sub [1, 2, 0] rfl ?_
    exact hr17 x1 (x4 + 1) w1 L h
theorem k_X3_add_t3_17 {Γ : gT} {K : gK} {N : Nat} {post : Wd → va_W → Prop} (C : gC Γ K RX3 cX3_add 5 rm_X3_add_t3) (ret : gRv Γ K cX3_add (none) (xPv K post) 0 0) : ∀ (n : Nat) (x1 : Int32) (x4 : Int32) (w : Wd) (L : va_W) (h : B_X3_add_t3_17 N post n x1 x4 w L), gJ Γ K 0 0 (xL K w ++ L) 17 [(0, .ref (xa K 3)), (1, .int x1), (4, .int x4)] [] := by
  intro n
  induction n with
  | zero => intro x1 x4 w L h; exact h.elim
  | succ n ih => intro x1 x4 w L h; exact k_X3_add_t3_17s C ret ih x1 x4 w L h
def B_X3_add_t3_0 (N : Nat) (post : Wd → va_W → Prop) (x1 : Int32) (x2 : Int32) (x3 : Int32) (w : Wd) (L : va_W) : Prop :=
  vp_in x1 24 ∧ ∀ w1 : Wd, w1 = (xsA w 20 x1.toNatClampNeg x2) → vp_in x1 24 ∧ ∀ w2 : Wd, w2 = (xsA w1 21 x1.toNatClampNeg x3) → B_X3_add_t3_17 N post N x1 0 w2 L
set_option maxHeartbeats 4000000 in
theorem k_X3_add_t3_0 {Γ : gT} {K : gK} {N : Nat} {post : Wd → va_W → Prop} (C : gC Γ K RX3 cX3_add 5 rm_X3_add_t3) (ret : gRv Γ K cX3_add (none) (xPv K post) 0 0) (x1 : Int32) (x2 : Int32) (x3 : Int32) (w : Wd) (L : va_W) (h : B_X3_add_t3_0 N post x1 x2 x3 w L) : gJ Γ K 0 0 (xL K w ++ L) 0 [(0, .ref (xa K 3)), (1, .int x1), (2, .int x2), (3, .int x3)] [] := by
  unfold B_X3_add_t3_0 at h
  refine g_aload_n C 0 rfl dX3_add_0 ?_
  refine xg_mother_3 C q176 dX3_add_1 ?_
  refine g_iload_n C 1 rfl dX3_add_4 ?_
  refine g_iload_n C 2 rfl dX3_add_5 ?_
  obtain ⟨hb, h⟩ := h
  refine xst_20 C hb dX3_add_6 ?_
  obtain ⟨w1, ew1⟩ : ∃ z, z = (xsA w 20 x1.toNatClampNeg x2) := ⟨_, rfl⟩
  replace h := h w1 ew1
  rw [← ew1]
  refine g_aload_n C 0 rfl dX3_add_7 ?_
  refine xg_father_3 C q177 dX3_add_8 ?_
  refine g_iload_n C 1 rfl dX3_add_11 ?_
  refine g_iload_n C 3 rfl dX3_add_12 ?_
  obtain ⟨hb, h⟩ := h
  refine xst_21 C hb dX3_add_13 ?_
  obtain ⟨w2, ew2⟩ : ∃ z, z = (xsA w1 21 x1.toNatClampNeg x3) := ⟨_, rfl⟩
  replace h := h w2 ew2
  rw [← ew2]
  refine g_iconst C 0 (by decide) dX3_add_14 ?_
  refine g_istore C (lt := [(4, .int 0), (0, .ref (xa K 3)), (1, .int x1), (2, .int x2), (3, .int x3)]) dX3_add_15 (by decide) rfl ?_
  refine g_sub [1, 2, 0] rfl ?_
  exact k_X3_add_t3_17 C ret N x1 0 w2 L h
def B_X3_add_t3 (N : Nat) (x1 : Int32) (x2 : Int32) (x3 : Int32) (post : Wd → va_W → Prop) (w : Wd) (L : va_W) : Prop := B_X3_add_t3_0 N post x1 x2 x3 w L
theorem m_X3_add_t3 {l : Launch} {K : gK} {N : Nat} {post : Wd → va_W → Prop} {x1 : Int32} {x2 : Int32} {x3 : Int32} {w : Wd} {L : va_W} (h : B_X3_add_t3 N x1 x2 x3 post w L) : gMv l K yX3_add cX3_add 5 (none) rm_X3_add_t3 [.ref (xa K 3), .int x1, .int x2, .int x3] (xL K w ++ L) (xPv K post) 0 0 := by
  refine g_inV (ls0 := [(0, .ref (xa K 3)), (1, .int x1), (2, .int x2), (3, .int x3)]) (by decide) (Nat.le_of_ble_eq_true rfl) rfl (fun Γ hl C hn ret => ?_)
  exact k_X3_add_t3_0 C ret x1 x2 x3 w L h
def rm_X3_worked_t3 (d : Nat) : Room := { frames := 2 * d + 2, cells := 0, slots := 0, locals := 50 * d + 48 }
def rm_X3_kin_t3 (d : Nat) : Room := { frames := 2 * d + 1, cells := 0, slots := 0, locals := 50 * d + 23 }
def B_X3_worked_t3_52 (Bk : Int32 → Int32 → (Int64 → Wd → va_W → Prop) → Wd → va_W → Prop) (N : Nat) (post : Int64 → Wd → va_W → Prop) (s0 : Int64) (s1 : Int64) (w : Wd) (L : va_W) : Prop :=
  post (s1 + s0) w L
set_option maxHeartbeats 4000000 in
theorem k_X3_worked_t3_52 {Γ : gT} {K : gK} {N : Nat} {post : Int64 → Wd → va_W → Prop} {d : Nat} {Bk : Int32 → Int32 → (Int64 → Wd → va_W → Prop) → Wd → va_W → Prop} (C : gC Γ K RX3 cX3_worked 4 (rm_X3_worked_t3 d)) (ret : gRl Γ K cX3_worked (some .long) (xPl K post) 0 0) (hk : ∀ {z1 : Int32} {z2 : Int32} {p0 : Int64 → Wd → va_W → Prop} {w0 : Wd} {L0 : va_W}, Bk z1 z2 p0 w0 L0 → gMl Γ.l K yX3_kin cX3_kin 6 (some .long) (rm_X3_kin_t3 d) [.ref (xa K 3), .int z1, .int z2] (xL K w0 ++ L0) (xPl K p0) 0 0) (s0 : Int64) (s1 : Int64) (w : Wd) (L : va_W) (h : B_X3_worked_t3_52 Bk N post s0 s1 w L) : gJ Γ K 0 0 (xL K w ++ L) 52 [] [.long s0, .long s1] := by
  unfold B_X3_worked_t3_52 at h
  refine g_ladd C dX3_worked_52 ?_
  exact ret rfl _ _ _ _ dX3_worked_53 ⟨_, _, rfl, h⟩
def B_X3_worked_t3_93 (Bk : Int32 → Int32 → (Int64 → Wd → va_W → Prop) → Wd → va_W → Prop) (N : Nat) (post : Int64 → Wd → va_W → Prop) (s0 : Int64) (w : Wd) (L : va_W) : Prop :=
  post s0 w L
set_option maxHeartbeats 4000000 in
theorem k_X3_worked_t3_93 {Γ : gT} {K : gK} {N : Nat} {post : Int64 → Wd → va_W → Prop} {d : Nat} {Bk : Int32 → Int32 → (Int64 → Wd → va_W → Prop) → Wd → va_W → Prop} (C : gC Γ K RX3 cX3_worked 4 (rm_X3_worked_t3 d)) (ret : gRl Γ K cX3_worked (some .long) (xPl K post) 0 0) (hk : ∀ {z1 : Int32} {z2 : Int32} {p0 : Int64 → Wd → va_W → Prop} {w0 : Wd} {L0 : va_W}, Bk z1 z2 p0 w0 L0 → gMl Γ.l K yX3_kin cX3_kin 6 (some .long) (rm_X3_kin_t3 d) [.ref (xa K 3), .int z1, .int z2] (xL K w0 ++ L0) (xPl K p0) 0 0) (s0 : Int64) (w : Wd) (L : va_W) (h : B_X3_worked_t3_93 Bk N post s0 w L) : gJ Γ K 0 0 (xL K w ++ L) 93 [] [.long s0] := by
  unfold B_X3_worked_t3_93 at h
  exact ret rfl _ _ _ _ dX3_worked_93 ⟨_, _, rfl, h⟩
def B_X3_worked_t3_15 (Bk : Int32 → Int32 → (Int64 → Wd → va_W → Prop) → Wd → va_W → Prop) (N : Nat) (post : Int64 → Wd → va_W → Prop) (x1 : Int32) (x2 : Int32) (s0 : Int32) (w : Wd) (L : va_W) : Prop :=
  (x1 = x2 →
    (s0 = 0 →
      vp_in x1 24 ∧ vp_in x1 24 ∧ Bk (xA w 20 x1.toNatClampNeg) (xA w 21 x1.toNatClampNeg) (fun (v9 : Int64) (w7 : Wd) (L8 : va_W) =>
  B_X3_worked_t3_52 Bk N post (v9 / 2) 562949953421312 w7 L8) w L) ∧
    (¬ s0 = 0 →
      B_X3_worked_t3_52 Bk N post 0 562949953421312 w L)) ∧
  (¬ x1 = x2 →
    (s0 = 0 →
      vp_in x1 24 ∧ Bk x2 (xA w 20 x1.toNatClampNeg) (fun (v3 : Int64) (w1 : Wd) (L2 : va_W) =>
  vp_in x1 24 ∧ Bk x2 (xA w1 21 x1.toNatClampNeg) (fun (v6 : Int64) (w4 : Wd) (L5 : va_W) =>
  B_X3_worked_t3_93 Bk N post ((v3 / 2) + (v6 / 2)) w4 L5) w1 L2) w L) ∧
    (¬ s0 = 0 →
      B_X3_worked_t3_93 Bk N post 0 w L))
set_option maxHeartbeats 4000000 in
theorem k_X3_worked_t3_15 {Γ : gT} {K : gK} {N : Nat} {post : Int64 → Wd → va_W → Prop} {d : Nat} {Bk : Int32 → Int32 → (Int64 → Wd → va_W → Prop) → Wd → va_W → Prop} (C : gC Γ K RX3 cX3_worked 4 (rm_X3_worked_t3 d)) (ret : gRl Γ K cX3_worked (some .long) (xPl K post) 0 0) (hk : ∀ {z1 : Int32} {z2 : Int32} {p0 : Int64 → Wd → va_W → Prop} {w0 : Wd} {L0 : va_W}, Bk z1 z2 p0 w0 L0 → gMl Γ.l K yX3_kin cX3_kin 6 (some .long) (rm_X3_kin_t3 d) [.ref (xa K 3), .int z1, .int z2] (xL K w0 ++ L0) (xPl K p0) 0 0) (x1 : Int32) (x2 : Int32) (s0 : Int32) (w : Wd) (L : va_W) (h : B_X3_worked_t3_15 Bk N post x1 x2 s0 w L) : gJ Γ K 0 0 (xL K w ++ L) 15 [(0, .ref (xa K 3)), (1, .int x1), (2, .int x2)] [.int s0] := by
  unfold B_X3_worked_t3_15 at h
  refine g_istore_n C rfl (lt := [(3, .int s0), (0, .ref (xa K 3)), (1, .int x1), (2, .int x2)]) dX3_worked_15 (by decide) rfl ?_
  refine g_iload_n C 2 rfl dX3_worked_16 ?_
  refine g_iload_n C 3 rfl dX3_worked_17 ?_
  refine g_icmp_ne C 54 dX3_worked_18 (by decide) (fun hc => ?_) (fun hc => ?_)
  · replace h := h.2 hc
    refine g_iload_n C 0 rfl dX3_worked_54 ?_
    refine g_if_eq C 62 dX3_worked_55 (by decide) (fun hc => ?_) (fun hc => ?_)
    · replace h := h.1 hc
      refine g_aload_n C 1 rfl dX3_worked_62 ?_
      refine g_iload_n C 3 rfl dX3_worked_63 ?_
      refine g_aload_n C 1 rfl dX3_worked_64 ?_
      refine xg_mother_3 C q176 dX3_worked_65 ?_
      refine g_iload_n C 2 rfl dX3_worked_68 ?_
      obtain ⟨hb, h⟩ := h
      refine xld_20 C hb (xA w 20 x1.toNatClampNeg) rfl dX3_worked_69 ?_
      refine g_callVl C (As := [.int x2, .int (xA w 20 x1.toNatClampNeg)]) (rest := []) (hk h) (lw_V q680 q670 q671 q82 q672) (ci := 2) (qi := 3) rfl rfl ⟨rfl, rfl⟩ (by dsimp only [rm_X3_worked_t3, rm_X3_kin_t3]; omega) 2 rfl (by decide +kernel) rfl (Nat.le_of_ble_eq_true rfl) ⟨Nat.zero_le _, Nat.zero_le _⟩ dX3_worked_70 ?_
      rintro v3 _ ⟨w1, L2, rfl, h⟩
      refine g_ldc2 C (v := 2) q681 dX3_worked_73 ?_
      refine g_ldiv C (by decide) dX3_worked_76 ?_
      refine g_aload_n C 1 rfl dX3_worked_77 ?_
      refine g_iload_n C 3 rfl dX3_worked_78 ?_
      refine g_aload_n C 1 rfl dX3_worked_79 ?_
      refine xg_father_3 C q177 dX3_worked_80 ?_
      refine g_iload_n C 2 rfl dX3_worked_83 ?_
      obtain ⟨hb, h⟩ := h
      refine xld_21 C hb (xA w1 21 x1.toNatClampNeg) rfl dX3_worked_84 ?_
      refine g_callVl C (As := [.int x2, .int (xA w1 21 x1.toNatClampNeg)]) (rest := [.long (v3 / 2)]) (hk h) (lw_V q680 q670 q671 q82 q672) (ci := 2) (qi := 3) rfl rfl ⟨rfl, rfl⟩ (by dsimp only [rm_X3_worked_t3, rm_X3_kin_t3]; omega) 2 rfl (by decide +kernel) rfl (Nat.le_of_ble_eq_true rfl) ⟨Nat.zero_le _, Nat.zero_le _⟩ dX3_worked_85 ?_
      rintro v6 _ ⟨w4, L5, rfl, h⟩
      refine g_ldc2 C (v := 2) q681 dX3_worked_88 ?_
      refine g_ldiv C (by decide) dX3_worked_91 ?_
      refine g_ladd C dX3_worked_92 ?_
      refine g_sub [] rfl ?_
      exact k_X3_worked_t3_93 C ret hk ((v3 / 2) + (v6 / 2)) w4 L5 h
    · replace h := h.2 hc
      refine g_lconst C 0 (by decide) dX3_worked_58 ?_
      refine g_goto C 93 dX3_worked_59 (by decide) ?_
      refine g_sub [] rfl ?_
      exact k_X3_worked_t3_93 C ret hk 0 w L h
  · replace h := h.1 hc
    refine g_ldc2 C (v := 562949953421312) q679 dX3_worked_21 ?_
    refine g_iload_n C 0 rfl dX3_worked_24 ?_
    refine g_if_eq C 32 dX3_worked_25 (by decide) (fun hc => ?_) (fun hc => ?_)
    · replace h := h.1 hc
      refine g_aload_n C 1 rfl dX3_worked_32 ?_
      refine g_aload_n C 1 rfl dX3_worked_33 ?_
      refine xg_mother_3 C q176 dX3_worked_34 ?_
      refine g_iload_n C 2 rfl dX3_worked_37 ?_
      obtain ⟨hb, h⟩ := h
      refine xld_20 C hb (xA w 20 x1.toNatClampNeg) rfl dX3_worked_38 ?_
      refine g_aload_n C 1 rfl dX3_worked_39 ?_
      refine xg_father_3 C q177 dX3_worked_40 ?_
      refine g_iload_n C 2 rfl dX3_worked_43 ?_
      obtain ⟨hb, h⟩ := h
      refine xld_21 C hb (xA w 21 x1.toNatClampNeg) rfl dX3_worked_44 ?_
      refine g_callVl C (As := [.int (xA w 20 x1.toNatClampNeg), .int (xA w 21 x1.toNatClampNeg)]) (rest := [.long 562949953421312]) (hk h) (lw_V q680 q670 q671 q82 q672) (ci := 2) (qi := 3) rfl rfl ⟨rfl, rfl⟩ (by dsimp only [rm_X3_worked_t3, rm_X3_kin_t3]; omega) 2 rfl (by decide +kernel) rfl (Nat.le_of_ble_eq_true rfl) ⟨Nat.zero_le _, Nat.zero_le _⟩ dX3_worked_45 ?_
      rintro v9 _ ⟨w7, L8, rfl, h⟩
      refine g_ldc2 C (v := 2) q681 dX3_worked_48 ?_
      refine g_ldiv C (by decide) dX3_worked_51 ?_
      refine g_sub [] rfl ?_
      exact k_X3_worked_t3_52 C ret hk (v9 / 2) 562949953421312 w7 L8 h
    · replace h := h.2 hc
      refine g_lconst C 0 (by decide) dX3_worked_28 ?_
      refine g_goto C 52 dX3_worked_29 (by decide) ?_
      refine g_sub [] rfl ?_
      exact k_X3_worked_t3_52 C ret hk 0 562949953421312 w L h
def B_X3_worked_t3_0 (Bk : Int32 → Int32 → (Int64 → Wd → va_W → Prop) → Wd → va_W → Prop) (N : Nat) (post : Int64 → Wd → va_W → Prop) (x1 : Int32) (x2 : Int32) (w : Wd) (L : va_W) : Prop :=
  vp_in x1 24 ∧ ((xA w 20 x1.toNatClampNeg) = (-1 : Int32) →
    B_X3_worked_t3_15 Bk N post x1 x2 1 w L) ∧
  (¬ (xA w 20 x1.toNatClampNeg) = (-1 : Int32) →
    B_X3_worked_t3_15 Bk N post x1 x2 0 w L)
set_option maxHeartbeats 4000000 in
theorem k_X3_worked_t3_0 {Γ : gT} {K : gK} {N : Nat} {post : Int64 → Wd → va_W → Prop} {d : Nat} {Bk : Int32 → Int32 → (Int64 → Wd → va_W → Prop) → Wd → va_W → Prop} (C : gC Γ K RX3 cX3_worked 4 (rm_X3_worked_t3 d)) (ret : gRl Γ K cX3_worked (some .long) (xPl K post) 0 0) (hk : ∀ {z1 : Int32} {z2 : Int32} {p0 : Int64 → Wd → va_W → Prop} {w0 : Wd} {L0 : va_W}, Bk z1 z2 p0 w0 L0 → gMl Γ.l K yX3_kin cX3_kin 6 (some .long) (rm_X3_kin_t3 d) [.ref (xa K 3), .int z1, .int z2] (xL K w0 ++ L0) (xPl K p0) 0 0) (x1 : Int32) (x2 : Int32) (w : Wd) (L : va_W) (h : B_X3_worked_t3_0 Bk N post x1 x2 w L) : gJ Γ K 0 0 (xL K w ++ L) 0 [(0, .ref (xa K 3)), (1, .int x1), (2, .int x2)] [] := by
  unfold B_X3_worked_t3_0 at h
  refine g_aload_n C 0 rfl dX3_worked_0 ?_
  refine xg_mother_3 C q176 dX3_worked_1 ?_
  refine g_iload_n C 1 rfl dX3_worked_4 ?_
  obtain ⟨hb, h⟩ := h
  refine xld_20 C hb (xA w 20 x1.toNatClampNeg) rfl dX3_worked_5 ?_
  refine g_iconst C (-1) (by decide) dX3_worked_6 ?_
  refine g_icmp_ne C 14 dX3_worked_7 (by decide) (fun hc => ?_) (fun hc => ?_)
  · replace h := h.2 hc
    refine g_iconst C 0 (by decide) dX3_worked_14 ?_
    exact k_X3_worked_t3_15 C ret hk x1 x2 0 w L h
  · replace h := h.1 hc
    refine g_iconst C 1 (by decide) dX3_worked_10 ?_
    refine g_goto C 15 dX3_worked_11 (by decide) ?_
    exact k_X3_worked_t3_15 C ret hk x1 x2 1 w L h
def B_X3_worked_t3 (Bk : Int32 → Int32 → (Int64 → Wd → va_W → Prop) → Wd → va_W → Prop) (N : Nat) (x1 : Int32) (x2 : Int32) (post : Int64 → Wd → va_W → Prop) (w : Wd) (L : va_W) : Prop := B_X3_worked_t3_0 Bk N post x1 x2 w L
theorem m_X3_worked_t3 {l : Launch} {K : gK} {N : Nat} {post : Int64 → Wd → va_W → Prop} {d : Nat} {Bk : Int32 → Int32 → (Int64 → Wd → va_W → Prop) → Wd → va_W → Prop} {x1 : Int32} {x2 : Int32} {w : Wd} {L : va_W} (hk : ∀ {z1 : Int32} {z2 : Int32} {p0 : Int64 → Wd → va_W → Prop} {w0 : Wd} {L0 : va_W}, Bk z1 z2 p0 w0 L0 → gMl l K yX3_kin cX3_kin 6 (some .long) (rm_X3_kin_t3 d) [.ref (xa K 3), .int z1, .int z2] (xL K w0 ++ L0) (xPl K p0) 0 0) (h : B_X3_worked_t3 Bk N x1 x2 post w L) : gMl l K yX3_worked cX3_worked 4 (some .long) (rm_X3_worked_t3 d) [.ref (xa K 3), .int x1, .int x2] (xL K w ++ L) (xPl K post) 0 0 := by
  refine g_inL (ls0 := [(0, .ref (xa K 3)), (1, .int x1), (2, .int x2)]) (by decide) (Nat.le_of_ble_eq_true rfl) rfl (fun Γ hl C hn ret => ?_)
  subst hl
  exact k_X3_worked_t3_0 C ret hk x1 x2 w L h
def B_X3_kin_t3_50 (Bk : Int32 → Int32 → (Int64 → Wd → va_W → Prop) → Wd → va_W → Prop) (N : Nat) (post : Int64 → Wd → va_W → Prop) (x5 : Int32) (w : Wd) (L : va_W) : Prop :=
  vp_in x5 576 ∧ post (xM w 22 x5.toNatClampNeg) w L
set_option maxHeartbeats 4000000 in
theorem k_X3_kin_t3_50 {Γ : gT} {K : gK} {N : Nat} {post : Int64 → Wd → va_W → Prop} {d : Nat} {Bk : Int32 → Int32 → (Int64 → Wd → va_W → Prop) → Wd → va_W → Prop} (C : gC Γ K RX3 cX3_kin 6 (rm_X3_kin_t3 (d + 1))) (ret : gRl Γ K cX3_kin (some .long) (xPl K post) 0 0) (hk : ∀ {z1 : Int32} {z2 : Int32} {p0 : Int64 → Wd → va_W → Prop} {w0 : Wd} {L0 : va_W}, Bk z1 z2 p0 w0 L0 → gMl Γ.l K yX3_kin cX3_kin 6 (some .long) (rm_X3_kin_t3 d) [.ref (xa K 3), .int z1, .int z2] (xL K w0 ++ L0) (xPl K p0) 0 0) (x5 : Int32) (w : Wd) (L : va_W) (h : B_X3_kin_t3_50 Bk N post x5 w L) : gJ Γ K 0 0 (xL K w ++ L) 50 [(0, .ref (xa K 3)), (5, .int x5)] [] := by
  unfold B_X3_kin_t3_50 at h
  refine g_aload_n C 0 rfl dX3_kin_50 ?_
  refine xg_kin_3 C q178 dX3_kin_51 ?_
  refine g_iload C 1 rfl dX3_kin_54 ?_
  obtain ⟨hb, h⟩ := h
  refine xld_22 C hb (xM w 22 x5.toNatClampNeg) rfl dX3_kin_56 ?_
  exact ret rfl _ _ _ _ dX3_kin_57 ⟨_, _, rfl, h⟩
def B_X3_kin_t3_0 (Bk : Int32 → Int32 → (Int64 → Wd → va_W → Prop) → Wd → va_W → Prop) (N : Nat) (post : Int64 → Wd → va_W → Prop) (x1 : Int32) (x2 : Int32) (w : Wd) (L : va_W) : Prop :=
  vp_in ((24 * (if x1 < x2 then x2 else x1)) + (if x2 < x1 then x2 else x1)) 576 ∧ ((xM w 22 ((24 * (if x1 < x2 then x2 else x1)) + (if x2 < x1 then x2 else x1)).toNatClampNeg) = (-1) →
    B_X3_worked_t3 Bk N (if x1 < x2 then x2 else x1) (if x2 < x1 then x2 else x1) (fun (v3 : Int64) (w1 : Wd) (L2 : va_W) =>
  vp_in ((24 * (if x1 < x2 then x2 else x1)) + (if x2 < x1 then x2 else x1)) 576 ∧ ∀ w4 : Wd, w4 = (xsM w1 22 ((24 * (if x1 < x2 then x2 else x1)) + (if x2 < x1 then x2 else x1)).toNatClampNeg v3) → B_X3_kin_t3_50 Bk N post ((24 * (if x1 < x2 then x2 else x1)) + (if x2 < x1 then x2 else x1)) w4 L2) w L) ∧
  (¬ (xM w 22 ((24 * (if x1 < x2 then x2 else x1)) + (if x2 < x1 then x2 else x1)).toNatClampNeg) = (-1) →
    B_X3_kin_t3_50 Bk N post ((24 * (if x1 < x2 then x2 else x1)) + (if x2 < x1 then x2 else x1)) w L)
set_option maxHeartbeats 4000000 in
theorem k_X3_kin_t3_0 {Γ : gT} {K : gK} {N : Nat} {post : Int64 → Wd → va_W → Prop} {d : Nat} {Bk : Int32 → Int32 → (Int64 → Wd → va_W → Prop) → Wd → va_W → Prop} (C : gC Γ K RX3 cX3_kin 6 (rm_X3_kin_t3 (d + 1))) (ret : gRl Γ K cX3_kin (some .long) (xPl K post) 0 0) (hk : ∀ {z1 : Int32} {z2 : Int32} {p0 : Int64 → Wd → va_W → Prop} {w0 : Wd} {L0 : va_W}, Bk z1 z2 p0 w0 L0 → gMl Γ.l K yX3_kin cX3_kin 6 (some .long) (rm_X3_kin_t3 d) [.ref (xa K 3), .int z1, .int z2] (xL K w0 ++ L0) (xPl K p0) 0 0) (x1 : Int32) (x2 : Int32) (w : Wd) (L : va_W) (h : B_X3_kin_t3_0 Bk N post x1 x2 w L) : gJ Γ K 0 0 (xL K w ++ L) 0 [(0, .ref (xa K 3)), (1, .int x1), (2, .int x2)] [] := by
  unfold B_X3_kin_t3_0 at h
  refine g_iload_n C 1 rfl dX3_kin_0 ?_
  refine g_iload_n C 2 rfl dX3_kin_1 ?_
  refine g_mmax C q673 q407 q87 q408 (by constructor <;> (dsimp only [rm_X3_kin_t3]; simp [Value.category]; try omega)) ⟨Nat.zero_le _, Nat.zero_le _⟩ dX3_kin_2 ?_
  refine g_istore_n C rfl (lt := [(3, .int (if x1 < x2 then x2 else x1)), (0, .ref (xa K 3)), (1, .int x1), (2, .int x2)]) dX3_kin_5 (by decide) rfl ?_
  refine g_iload_n C 2 rfl dX3_kin_6 ?_
  refine g_iload_n C 3 rfl dX3_kin_7 ?_
  refine g_mmin C q674 q410 q87 q411 (by constructor <;> (dsimp only [rm_X3_kin_t3]; simp [Value.category]; try omega)) ⟨Nat.zero_le _, Nat.zero_le _⟩ dX3_kin_8 ?_
  refine g_istore C (lt := [(4, .int (if x2 < x1 then x2 else x1)), (3, .int (if x1 < x2 then x2 else x1)), (0, .ref (xa K 3)), (1, .int x1), (2, .int x2)]) dX3_kin_11 (by decide) rfl ?_
  refine g_bipush C 24 (by decide) dX3_kin_13 ?_
  refine g_iload_n C 1 rfl dX3_kin_15 ?_
  refine g_imul C dX3_kin_16 ?_
  refine g_iload C 0 rfl dX3_kin_17 ?_
  refine g_iadd C dX3_kin_19 ?_
  refine g_istore C (lt := [(5, .int ((24 * (if x1 < x2 then x2 else x1)) + (if x2 < x1 then x2 else x1))), (4, .int (if x2 < x1 then x2 else x1)), (3, .int (if x1 < x2 then x2 else x1)), (0, .ref (xa K 3)), (1, .int x1), (2, .int x2)]) dX3_kin_20 (by decide) rfl ?_
  refine g_aload_n C 3 rfl dX3_kin_22 ?_
  refine xg_kin_3 C q178 dX3_kin_23 ?_
  refine g_iload C 0 rfl dX3_kin_26 ?_
  obtain ⟨hb, h⟩ := h
  refine xld_22 C hb (xM w 22 ((24 * (if x1 < x2 then x2 else x1)) + (if x2 < x1 then x2 else x1)).toNatClampNeg) rfl dX3_kin_28 ?_
  refine g_ldc2 C (v := (-1)) q664 dX3_kin_29 ?_
  refine g_lif_ne C 50 dX3_kin_32 dX3_kin_33 (by decide) (fun hc => ?_) (fun hc => ?_)
  · replace h := h.2 hc
    refine g_sub [3, 0] rfl ?_
    exact k_X3_kin_t3_50 C ret hk ((24 * (if x1 < x2 then x2 else x1)) + (if x2 < x1 then x2 else x1)) w L h
  · replace h := h.1 hc
    refine g_aload_n C 3 rfl dX3_kin_36 ?_
    refine xg_kin_3 C q178 dX3_kin_37 ?_
    refine g_iload C 0 rfl dX3_kin_40 ?_
    refine g_aload_n C 3 rfl dX3_kin_42 ?_
    refine g_iload_n C 2 rfl dX3_kin_43 ?_
    refine g_iload C 1 rfl dX3_kin_44 ?_
    refine g_callVl C (As := [.int (if x1 < x2 then x2 else x1), .int (if x2 < x1 then x2 else x1)]) (rest := [.int ((24 * (if x1 < x2 then x2 else x1)) + (if x2 < x1 then x2 else x1)), .ref (xa K 22)]) (m_X3_worked_t3 hk h) (lw_V q675 q677 qs15 q82 q678) (ci := 2) (qi := 3) rfl rfl ⟨rfl, rfl⟩ (by dsimp only [rm_X3_kin_t3, rm_X3_worked_t3]; omega) 2 rfl (by decide +kernel) rfl (Nat.le_of_ble_eq_true rfl) ⟨Nat.zero_le _, Nat.zero_le _⟩ dX3_kin_46 ?_
    rintro v3 _ ⟨w1, L2, rfl, h⟩
    obtain ⟨hb, h⟩ := h
    refine xst_22 C hb dX3_kin_49 ?_
    obtain ⟨w4, ew4⟩ : ∃ z, z = (xsM w1 22 ((24 * (if x1 < x2 then x2 else x1)) + (if x2 < x1 then x2 else x1)).toNatClampNeg v3) := ⟨_, rfl⟩
    replace h := h w4 ew4
    rw [← ew4]
    refine g_sub [3, 0] rfl ?_
    exact k_X3_kin_t3_50 C ret hk ((24 * (if x1 < x2 then x2 else x1)) + (if x2 < x1 then x2 else x1)) w4 L2 h
def B_X3_kin_t31 (Bk : Int32 → Int32 → (Int64 → Wd → va_W → Prop) → Wd → va_W → Prop) (N : Nat) (x1 : Int32) (x2 : Int32) (post : Int64 → Wd → va_W → Prop) (w : Wd) (L : va_W) : Prop := B_X3_kin_t3_0 Bk N post x1 x2 w L
theorem m_X3_kin_t31 {l : Launch} {K : gK} {N : Nat} {post : Int64 → Wd → va_W → Prop} {d : Nat} {Bk : Int32 → Int32 → (Int64 → Wd → va_W → Prop) → Wd → va_W → Prop} {x1 : Int32} {x2 : Int32} {w : Wd} {L : va_W} (hk : ∀ {z1 : Int32} {z2 : Int32} {p0 : Int64 → Wd → va_W → Prop} {w0 : Wd} {L0 : va_W}, Bk z1 z2 p0 w0 L0 → gMl l K yX3_kin cX3_kin 6 (some .long) (rm_X3_kin_t3 d) [.ref (xa K 3), .int z1, .int z2] (xL K w0 ++ L0) (xPl K p0) 0 0) (h : B_X3_kin_t31 Bk N x1 x2 post w L) : gMl l K yX3_kin cX3_kin 6 (some .long) (rm_X3_kin_t3 (d + 1)) [.ref (xa K 3), .int x1, .int x2] (xL K w ++ L) (xPl K post) 0 0 := by
  refine g_inL (ls0 := [(0, .ref (xa K 3)), (1, .int x1), (2, .int x2)]) (by decide) (Nat.le_of_ble_eq_true rfl) rfl (fun Γ hl C hn ret => ?_)
  subst hl
  exact k_X3_kin_t3_0 C ret hk x1 x2 w L h
def B_X3_kin_t3d (N : Nat) : Nat → Int32 → Int32 → (Int64 → Wd → va_W → Prop) → Wd → va_W → Prop
  | 0, _, _, _, _, _ => False
  | d + 1, z1, z2, p0, w0, L0 => B_X3_kin_t31 (B_X3_kin_t3d N d) N z1 z2 p0 w0 L0
theorem m_X3_kin_t3d {l : Launch} {K : gK} {N : Nat} : ∀ (d : Nat) {z1 : Int32} {z2 : Int32} {p0 : Int64 → Wd → va_W → Prop} {w0 : Wd} {L0 : va_W}, B_X3_kin_t3d N d z1 z2 p0 w0 L0 → gMl l K yX3_kin cX3_kin 6 (some .long) (rm_X3_kin_t3 d) [.ref (xa K 3), .int z1, .int z2] (xL K w0 ++ L0) (xPl K p0) 0 0 := by
  intro d
  induction d with
  | zero => intro z1 z2 p0 w0 L0 h; exact h.elim
  | succ d ih => intro z1 z2 p0 w0 L0 h; exact m_X3_kin_t31 (d := d) (Bk := B_X3_kin_t3d N d) (N := N) (post := p0) (w := w0) (L := L0) (hk := ih) h
def B_X3_kin_t3 (N : Nat) (z1 : Int32) (z2 : Int32) (p0 : Int64 → Wd → va_W → Prop) (w0 : Wd) (L0 : va_W) : Prop := B_X3_kin_t3d N 64 z1 z2 p0 w0 L0
theorem m_X3_kin_t3 {l : Launch} {K : gK} {N : Nat} {z1 : Int32} {z2 : Int32} {p0 : Int64 → Wd → va_W → Prop} {w0 : Wd} {L0 : va_W} (h : B_X3_kin_t3 N z1 z2 p0 w0 L0) : gMl l K yX3_kin cX3_kin 6 (some .long) (rm_X3_kin_t3 64) [.ref (xa K 3), .int z1, .int z2] (xL K w0 ++ L0) (xPl K p0) 0 0 := m_X3_kin_t3d 64 h
def B_X3_worked_t3_out (N : Nat) (x1 : Int32) (x2 : Int32) (p0 : Int64 → Wd → va_W → Prop) (w0 : Wd) (L0 : va_W) : Prop := B_X3_worked_t3 (B_X3_kin_t3d N 64) N x1 x2 p0 w0 L0
theorem m_X3_worked_t3_out {l : Launch} {K : gK} {N : Nat} {x1 : Int32} {x2 : Int32} {p0 : Int64 → Wd → va_W → Prop} {w0 : Wd} {L0 : va_W} (h : B_X3_worked_t3_out N x1 x2 p0 w0 L0) : gMl l K yX3_worked cX3_worked 4 (some .long) (rm_X3_worked_t3 64) [.ref (xa K 3), .int x1, .int x2] (xL K w0 ++ L0) (xPl K p0) 0 0 := m_X3_worked_t3 (d := 64) (hk := m_X3_kin_t3d 64) h
def rm_X3_young_t3 : Room := { frames := 130, cells := 0, slots := 0, locals := 3248 }
def B_X3_young_t3_0 (N : Nat) (post : Int64 → Wd → va_W → Prop) (x1 : Int32) (x2 : Int32) (x3 : Int32) (w : Wd) (L : va_W) : Prop :=
  B_X3_kin_t3 N x1 x2 (fun (v3 : Int64) (w1 : Wd) (L2 : va_W) =>
  B_X3_kin_t3 N x1 x3 (fun (v6 : Int64) (w4 : Wd) (L5 : va_W) =>
  post ((v3 / 2) + (v6 / 2)) w4 L5) w1 L2) w L
set_option maxHeartbeats 4000000 in
theorem k_X3_young_t3_0 {Γ : gT} {K : gK} {N : Nat} {post : Int64 → Wd → va_W → Prop} (C : gC Γ K RX3 cX3_young 4 rm_X3_young_t3) (ret : gRl Γ K cX3_young (some .long) (xPl K post) 0 0) (x1 : Int32) (x2 : Int32) (x3 : Int32) (w : Wd) (L : va_W) (h : B_X3_young_t3_0 N post x1 x2 x3 w L) : gJ Γ K 0 0 (xL K w ++ L) 0 [(0, .ref (xa K 3)), (1, .int x1), (2, .int x2), (3, .int x3)] [] := by
  unfold B_X3_young_t3_0 at h
  refine g_aload_n C 0 rfl dX3_young_0 ?_
  refine g_iload_n C 1 rfl dX3_young_1 ?_
  refine g_iload_n C 2 rfl dX3_young_2 ?_
  refine g_callVl C (As := [.int x1, .int x2]) (rest := []) (m_X3_kin_t3 h) (lw_V q680 q670 q671 q82 q672) (ci := 2) (qi := 3) rfl rfl ⟨rfl, rfl⟩ ⟨Nat.le_of_ble_eq_true rfl, Nat.le_of_ble_eq_true rfl⟩ 2 rfl (by decide +kernel) rfl (Nat.le_of_ble_eq_true rfl) ⟨Nat.zero_le _, Nat.zero_le _⟩ dX3_young_3 ?_
  rintro v3 _ ⟨w1, L2, rfl, h⟩
  refine g_ldc2 C (v := 2) q681 dX3_young_6 ?_
  refine g_ldiv C (by decide) dX3_young_9 ?_
  refine g_aload_n C 0 rfl dX3_young_10 ?_
  refine g_iload_n C 1 rfl dX3_young_11 ?_
  refine g_iload_n C 3 rfl dX3_young_12 ?_
  refine g_callVl C (As := [.int x1, .int x3]) (rest := [.long (v3 / 2)]) (m_X3_kin_t3 h) (lw_V q680 q670 q671 q82 q672) (ci := 2) (qi := 3) rfl rfl ⟨rfl, rfl⟩ ⟨Nat.le_of_ble_eq_true rfl, Nat.le_of_ble_eq_true rfl⟩ 2 rfl (by decide +kernel) rfl (Nat.le_of_ble_eq_true rfl) ⟨Nat.zero_le _, Nat.zero_le _⟩ dX3_young_13 ?_
  rintro v6 _ ⟨w4, L5, rfl, h⟩
  refine g_ldc2 C (v := 2) q681 dX3_young_16 ?_
  refine g_ldiv C (by decide) dX3_young_19 ?_
  refine g_ladd C dX3_young_20 ?_
  exact ret rfl _ _ _ _ dX3_young_21 ⟨_, _, rfl, h⟩
def B_X3_young_t3 (N : Nat) (x1 : Int32) (x2 : Int32) (x3 : Int32) (post : Int64 → Wd → va_W → Prop) (w : Wd) (L : va_W) : Prop := B_X3_young_t3_0 N post x1 x2 x3 w L
theorem m_X3_young_t3 {l : Launch} {K : gK} {N : Nat} {post : Int64 → Wd → va_W → Prop} {x1 : Int32} {x2 : Int32} {x3 : Int32} {w : Wd} {L : va_W} (h : B_X3_young_t3 N x1 x2 x3 post w L) : gMl l K yX3_young cX3_young 4 (some .long) rm_X3_young_t3 [.ref (xa K 3), .int x1, .int x2, .int x3] (xL K w ++ L) (xPl K post) 0 0 := by
  refine g_inL (ls0 := [(0, .ref (xa K 3)), (1, .int x1), (2, .int x2), (3, .int x3)]) (by decide) (Nat.le_of_ble_eq_true rfl) rfl (fun Γ hl C hn ret => ?_)
  exact k_X3_young_t3_0 C ret x1 x2 x3 w L h
def rm_X3_become : Room := { frames := 1, cells := 0, slots := 0, locals := 24 }
def B_X3_become_2s (r2 : Int32 → Int32 → Wd → va_W → Prop) (N : Nat) (post : Wd → va_W → Prop) (x2 : Int32) (x3 : Int32) (w : Wd) (L : va_W) : Prop :=
  (x2 ≤ x3 →
    post w L) ∧
  (¬ x2 ≤ x3 →
    vp_in x3 24 ∧ vp_in x3 24 ∧ B_X3_add_t3 N x3 (xA w 17 x3.toNatClampNeg) (xA w 18 x3.toNatClampNeg) (fun (w1 : Wd) (L2 : va_W) =>
  r2 x2 (x3 + 1) w1 L2) w L)
def B_X3_become_2 (N : Nat) (post : Wd → va_W → Prop) : Nat → Int32 → Int32 → Wd → va_W → Prop
  | 0, _, _, _, _ => False
  | n + 1, x2, x3, w, L => B_X3_become_2s (B_X3_become_2 N post n) N post x2 x3 w L
set_option maxHeartbeats 4000000 in
theorem k_X3_become_2s {Γ : gT} {K : gK} {N : Nat} {post : Wd → va_W → Prop} (C : gC Γ K RX3 cX3_become 4 rm_X3_become) (ret : gRv Γ K cX3_become (none) (xPv K post) 0 0) {r2 : Int32 → Int32 → Wd → va_W → Prop} (hr2 : ∀ (x2 : Int32) (x3 : Int32) (w : Wd) (L : va_W), r2 x2 x3 w L → gJ Γ K 0 0 (xL K w ++ L) 2 [(0, .ref (xa K 3)), (1, .ref (xa K 2)), (2, .int x2), (3, .int x3)] []) (x2 : Int32) (x3 : Int32) (w : Wd) (L : va_W) (h : B_X3_become_2s r2 N post x2 x3 w L) : gJ Γ K 0 0 (xL K w ++ L) 2 [(0, .ref (xa K 3)), (1, .ref (xa K 2)), (2, .int x2), (3, .int x3)] [] := by
  unfold B_X3_become_2s at h
  refine g_iload_n C 3 rfl dX3_become_2 ?_
  refine g_iload_n C 2 rfl dX3_become_3 ?_
  refine g_icmp_ge C 30 dX3_become_4 (by decide) (fun hc => ?_) (fun hc => ?_)
  · replace h := h.1 hc
    exact ret rfl _ _ _ dX3_become_30 ⟨_, _, rfl, h⟩
  · replace h := h.2 hc
    refine g_aload_n C 0 rfl dX3_become_7 ?_
    refine g_iload_n C 3 rfl dX3_become_8 ?_
    refine g_aload_n C 1 rfl dX3_become_9 ?_
    refine xg_mother_2 C q176 dX3_become_10 ?_
    refine g_iload_n C 3 rfl dX3_become_13 ?_
    obtain ⟨hb, h⟩ := h
    refine xld_17 C hb (xA w 17 x3.toNatClampNeg) rfl dX3_become_14 ?_
    refine g_aload_n C 1 rfl dX3_become_15 ?_
    refine xg_father_2 C q177 dX3_become_16 ?_
    refine g_iload_n C 3 rfl dX3_become_19 ?_
    obtain ⟨hb, h⟩ := h
    refine xld_18 C hb (xA w 18 x3.toNatClampNeg) rfl dX3_become_20 ?_
    refine g_callVv C (As := [.int x3, .int (xA w 17 x3.toNatClampNeg), .int (xA w 18 x3.toNatClampNeg)]) (rest := []) (m_X3_add_t3 h) (lw_V q737 q661 q662 q82 q663) (ci := 2) (qi := 3) rfl rfl ⟨rfl, rfl⟩ ⟨Nat.le_of_ble_eq_true rfl, Nat.le_of_ble_eq_true rfl⟩ 3 rfl (by decide +kernel) rfl (Nat.le_of_ble_eq_true rfl) ⟨Nat.zero_le _, Nat.zero_le _⟩ dX3_become_21 ?_
    rintro _ ⟨w1, L2, rfl, h⟩
    refine g_iinc C 3 (x3 + 1) (lt := [(3, .int (x3 + 1)), (0, .ref (xa K 3)), (1, .ref (xa K 2)), (2, .int x2)]) rfl rfl dX3_become_24 (by decide) rfl ?_
    refine g_goto C 2 dX3_become_27 (by decide) ?_
    refine g_sub [1, 2, 3, 0] rfl ?_
    exact hr2 x2 (x3 + 1) w1 L2 h
theorem k_X3_become_2 {Γ : gT} {K : gK} {N : Nat} {post : Wd → va_W → Prop} (C : gC Γ K RX3 cX3_become 4 rm_X3_become) (ret : gRv Γ K cX3_become (none) (xPv K post) 0 0) : ∀ (n : Nat) (x2 : Int32) (x3 : Int32) (w : Wd) (L : va_W) (h : B_X3_become_2 N post n x2 x3 w L), gJ Γ K 0 0 (xL K w ++ L) 2 [(0, .ref (xa K 3)), (1, .ref (xa K 2)), (2, .int x2), (3, .int x3)] [] := by
  intro n
  induction n with
  | zero => intro x2 x3 w L h; exact h.elim
  | succ n ih => intro x2 x3 w L h; exact k_X3_become_2s C ret ih x2 x3 w L h
def B_X3_become_0 (N : Nat) (post : Wd → va_W → Prop) (x2 : Int32) (w : Wd) (L : va_W) : Prop :=
  B_X3_become_2 N post N x2 0 w L
set_option maxHeartbeats 4000000 in
theorem k_X3_become_0 {Γ : gT} {K : gK} {N : Nat} {post : Wd → va_W → Prop} (C : gC Γ K RX3 cX3_become 4 rm_X3_become) (ret : gRv Γ K cX3_become (none) (xPv K post) 0 0) (x2 : Int32) (w : Wd) (L : va_W) (h : B_X3_become_0 N post x2 w L) : gJ Γ K 0 0 (xL K w ++ L) 0 [(0, .ref (xa K 3)), (1, .ref (xa K 2)), (2, .int x2)] [] := by
  unfold B_X3_become_0 at h
  refine g_iconst C 0 (by decide) dX3_become_0 ?_
  refine g_istore_n C rfl (lt := [(3, .int 0), (0, .ref (xa K 3)), (1, .ref (xa K 2)), (2, .int x2)]) dX3_become_1 (by decide) rfl ?_
  refine g_sub [1, 2, 3, 0] rfl ?_
  exact k_X3_become_2 C ret N x2 0 w L h
def B_X3_become (N : Nat) (x2 : Int32) (post : Wd → va_W → Prop) (w : Wd) (L : va_W) : Prop := B_X3_become_0 N post x2 w L
theorem m_X3_become {l : Launch} {K : gK} {N : Nat} {post : Wd → va_W → Prop} {x2 : Int32} {w : Wd} {L : va_W} (h : B_X3_become N x2 post w L) : gMv l K yX3_become cX3_become 4 (none) rm_X3_become [.ref (xa K 3), .ref (xa K 2), .int x2] (xL K w ++ L) (xPv K post) 0 0 := by
  refine g_inV (ls0 := [(0, .ref (xa K 3)), (1, .ref (xa K 2)), (2, .int x2)]) (by decide) (Nat.le_of_ble_eq_true rfl) rfl (fun Γ hl C hn ret => ?_)
  exact k_X3_become_0 C ret x2 w L h
