set_option maxRecDepth 100000
def rm_X5_asks : Room := { frames := 61, cells := 0, slots := 0, locals := 1450 }
def B_X5_asks_91 (r2 : Int32 → Int32 → Wd → va_W → Prop) (N : Nat) (post : Wd → va_W → Prop) (x1 : Int32) (x2 : Int32) (w : Wd) (L : va_W) : Prop :=
  r2 x1 (x2 + 1) w L
set_option maxHeartbeats 4000000 in
theorem k_X5_asks_91 {Γ : gT} {K : gK} {N : Nat} {post : Wd → va_W → Prop} (C : gC Γ K RX5 cX5_asks 3 rm_X5_asks) (ret : gRv Γ K cX5_asks (none) (mPv K post) 0 0) {r2 : Int32 → Int32 → Wd → va_W → Prop} (hr2 : ∀ (x1 : Int32) (x2 : Int32) (w : Wd) (L : va_W), r2 x1 x2 w L → gJ Γ K 0 0 (mL K w ++ L) 2 [(0, .ref (ma K 0)), (1, .int x1), (2, .int x2)] []) (x1 : Int32) (x2 : Int32) (w : Wd) (L : va_W) (h : B_X5_asks_91 r2 N post x1 x2 w L) : gJ Γ K 0 0 (mL K w ++ L) 91 [(0, .ref (ma K 0)), (1, .int x1), (2, .int x2)] [] := by
  unfold B_X5_asks_91 at h
  refine g_iinc C 2 (x2 + 1) (lt := [(2, .int (x2 + 1)), (0, .ref (ma K 0)), (1, .int x1)]) rfl rfl dX5_asks_91 (by decide) rfl ?_
  refine g_goto C 2 dX5_asks_94 (by decide) ?_
  refine g_sub [1, 2, 0] rfl ?_
  exact hr2 x1 (x2 + 1) w L h
def B_X5_asks_2s (r2 : Int32 → Int32 → Wd → va_W → Prop) (N : Nat) (post : Wd → va_W → Prop) (x1 : Int32) (x2 : Int32) (w : Wd) (L : va_W) : Prop :=
  ((xi w 15) ≤ x2 →
    post w L) ∧
  (¬ (xi w 15) ≤ x2 →
    B_X5_isThere N x2 (fun (v3 : Int32) (w1 : Wd) (L2 : va_W) =>
  (v3 = 0 →
      B_X5_asks_91 r2 N post x1 x2 w1 L2) ∧
    (¬ v3 = 0 →
      B_X5_layLetters N x2 (fun (w4 : Wd) (L5 : va_W) =>
  B_X5_worthOf N x1 100 (fun (v8 : Int32) (w6 : Wd) (L7 : va_W) =>
  vp_in x2 24 ∧ ∀ w9 : Wd, w9 = (xsA w6 17 x2.toNatClampNeg (if 0 < (if v8 < 9 then v8 else 9) then (if v8 < 9 then v8 else 9) else 0)) → B_X5_worthOf N x1 101 (fun (v12 : Int32) (w10 : Wd) (L11 : va_W) =>
  vp_in x2 24 ∧ ∀ w13 : Wd, w13 = (xsA w10 18 x2.toNatClampNeg (if 0 < v12 then v12 else 0)) → B_X5_worthOf N x1 115 (fun (v16 : Int32) (w14 : Wd) (L15 : va_W) =>
  vp_in x2 24 ∧ ∀ w17 : Wd, w17 = (xsA w14 19 x2.toNatClampNeg v16) → B_X5_worthOf N x1 99 (fun (v20 : Int32) (w18 : Wd) (L19 : va_W) =>
  vp_in x2 24 ∧ ∀ w21 : Wd, w21 = (xsA w18 20 x2.toNatClampNeg v20) → B_X5_asks_91 r2 N post x1 x2 w21 L19) w17 L15) w13 L11) w9 L7) w4 L5) w1 L2)) w L)
def B_X5_asks_2 (N : Nat) (post : Wd → va_W → Prop) : Nat → Int32 → Int32 → Wd → va_W → Prop
  | 0, _, _, _, _ => False
  | n + 1, x1, x2, w, L => B_X5_asks_2s (B_X5_asks_2 N post n) N post x1 x2 w L
set_option maxHeartbeats 4000000 in
theorem k_X5_asks_2s {Γ : gT} {K : gK} {N : Nat} {post : Wd → va_W → Prop} (C : gC Γ K RX5 cX5_asks 3 rm_X5_asks) (ret : gRv Γ K cX5_asks (none) (mPv K post) 0 0) {r2 : Int32 → Int32 → Wd → va_W → Prop} (hr2 : ∀ (x1 : Int32) (x2 : Int32) (w : Wd) (L : va_W), r2 x1 x2 w L → gJ Γ K 0 0 (mL K w ++ L) 2 [(0, .ref (ma K 0)), (1, .int x1), (2, .int x2)] []) (x1 : Int32) (x2 : Int32) (w : Wd) (L : va_W) (h : B_X5_asks_2s r2 N post x1 x2 w L) : gJ Γ K 0 0 (mL K w ++ L) 2 [(0, .ref (ma K 0)), (1, .int x1), (2, .int x2)] [] := by
  unfold B_X5_asks_2s at h
  refine g_iload_n C 2 rfl dX5_asks_2 ?_
  refine g_aload_n C 0 rfl dX5_asks_3 ?_
  refine mg_ever C q1034 (xi w 15) rfl dX5_asks_4 ?_
  refine g_icmp_ge C 97 dX5_asks_7 (by decide) (fun hc => ?_) (fun hc => ?_)
  · replace h := h.1 hc
    exact ret rfl _ _ _ dX5_asks_97 ⟨_, _, rfl, h⟩
  · replace h := h.2 hc
    refine g_aload_n C 0 rfl dX5_asks_10 ?_
    refine g_iload_n C 2 rfl dX5_asks_11 ?_
    refine g_callVi C (As := [.int x2]) (rest := []) (m_X5_isThere h) (lw_V q1286 q1288 qs50 q84 q1289) (ci := 12) (qi := 0) rfl rfl ⟨rfl, rfl⟩ ⟨Nat.le_of_ble_eq_true rfl, Nat.le_of_ble_eq_true rfl⟩ 1 rfl (by decide +kernel) rfl (Nat.le_of_ble_eq_true rfl) ⟨Nat.zero_le _, Nat.zero_le _⟩ dX5_asks_12 ?_
    rintro v3 _ ⟨w1, L2, rfl, h⟩
    refine g_if_ne C 21 dX5_asks_15 (by decide) (fun hc => ?_) (fun hc => ?_)
    · replace h := h.2 hc
      refine g_aload_n C 0 rfl dX5_asks_21 ?_
      refine g_iload_n C 2 rfl dX5_asks_22 ?_
      refine g_callVv C (As := [.int x2]) (rest := []) (m_X5_layLetters h) (lw_V q1350 q1352 qs57 q84 q1353) (ci := 12) (qi := 0) rfl rfl ⟨rfl, rfl⟩ ⟨Nat.le_of_ble_eq_true rfl, Nat.le_of_ble_eq_true rfl⟩ 1 rfl (by decide +kernel) rfl (Nat.le_of_ble_eq_true rfl) ⟨Nat.zero_le _, Nat.zero_le _⟩ dX5_asks_23 ?_
      rintro _ ⟨w4, L5, rfl, h⟩
      refine g_aload_n C 0 rfl dX5_asks_26 ?_
      refine mg_digs C q1029 dX5_asks_27 ?_
      refine g_iload_n C 2 rfl dX5_asks_30 ?_
      refine g_iconst C 0 (by decide) dX5_asks_31 ?_
      refine g_bipush C 9 (by decide) dX5_asks_32 ?_
      refine g_aload_n C 0 rfl dX5_asks_34 ?_
      refine g_iload_n C 1 rfl dX5_asks_35 ?_
      refine g_bipush C 100 (by decide) dX5_asks_36 ?_
      refine g_callVi C (As := [.int x1, .int 100]) (rest := [.int 9, .int 0, .int x2, .ref (ma K 17)]) (m_X5_worthOf h) (lw_V q1362 q1364 qs60 q84 q1365) (ci := 12) (qi := 0) rfl rfl ⟨rfl, rfl⟩ ⟨Nat.le_of_ble_eq_true rfl, Nat.le_of_ble_eq_true rfl⟩ 2 rfl (by decide +kernel) rfl (Nat.le_of_ble_eq_true rfl) ⟨Nat.zero_le _, Nat.zero_le _⟩ dX5_asks_38 ?_
      rintro v8 _ ⟨w6, L7, rfl, h⟩
      refine g_mmin C q1386 q410 q87 q411 ⟨Nat.le_of_ble_eq_true rfl, (Nat.le_of_ble_eq_true rfl)⟩ ⟨Nat.zero_le _, Nat.zero_le _⟩ dX5_asks_41 ?_
      refine g_mmax C q1387 q407 q87 q408 ⟨Nat.le_of_ble_eq_true rfl, (Nat.le_of_ble_eq_true rfl)⟩ ⟨Nat.zero_le _, Nat.zero_le _⟩ dX5_asks_44 ?_
      obtain ⟨hb, h⟩ := h
      refine mst_17 C hb dX5_asks_47 ?_
      obtain ⟨w9, ew9⟩ : ∃ z, z = (xsA w6 17 x2.toNatClampNeg (if 0 < (if v8 < 9 then v8 else 9) then (if v8 < 9 then v8 else 9) else 0)) := ⟨_, rfl⟩
      replace h := h w9 ew9
      rw [← ew9]
      refine g_aload_n C 0 rfl dX5_asks_48 ?_
      refine mg_eats C q1030 dX5_asks_49 ?_
      refine g_iload_n C 2 rfl dX5_asks_52 ?_
      refine g_iconst C 0 (by decide) dX5_asks_53 ?_
      refine g_aload_n C 0 rfl dX5_asks_54 ?_
      refine g_iload_n C 1 rfl dX5_asks_55 ?_
      refine g_bipush C 101 (by decide) dX5_asks_56 ?_
      refine g_callVi C (As := [.int x1, .int 101]) (rest := [.int 0, .int x2, .ref (ma K 18)]) (m_X5_worthOf h) (lw_V q1362 q1364 qs60 q84 q1365) (ci := 12) (qi := 0) rfl rfl ⟨rfl, rfl⟩ ⟨Nat.le_of_ble_eq_true rfl, Nat.le_of_ble_eq_true rfl⟩ 2 rfl (by decide +kernel) rfl (Nat.le_of_ble_eq_true rfl) ⟨Nat.zero_le _, Nat.zero_le _⟩ dX5_asks_58 ?_
      rintro v12 _ ⟨w10, L11, rfl, h⟩
      refine g_mmax C q1387 q407 q87 q408 ⟨Nat.le_of_ble_eq_true rfl, (Nat.le_of_ble_eq_true rfl)⟩ ⟨Nat.zero_le _, Nat.zero_le _⟩ dX5_asks_61 ?_
      obtain ⟨hb, h⟩ := h
      refine mst_18 C hb dX5_asks_64 ?_
      obtain ⟨w13, ew13⟩ : ∃ z, z = (xsA w10 18 x2.toNatClampNeg (if 0 < v12 then v12 else 0)) := ⟨_, rfl⟩
      replace h := h w13 ew13
      rw [← ew13]
      refine g_aload_n C 0 rfl dX5_asks_65 ?_
      refine mg_stays C q1031 dX5_asks_66 ?_
      refine g_iload_n C 2 rfl dX5_asks_69 ?_
      refine g_aload_n C 0 rfl dX5_asks_70 ?_
      refine g_iload_n C 1 rfl dX5_asks_71 ?_
      refine g_bipush C 115 (by decide) dX5_asks_72 ?_
      refine g_callVi C (As := [.int x1, .int 115]) (rest := [.int x2, .ref (ma K 19)]) (m_X5_worthOf h) (lw_V q1362 q1364 qs60 q84 q1365) (ci := 12) (qi := 0) rfl rfl ⟨rfl, rfl⟩ ⟨Nat.le_of_ble_eq_true rfl, Nat.le_of_ble_eq_true rfl⟩ 2 rfl (by decide +kernel) rfl (Nat.le_of_ble_eq_true rfl) ⟨Nat.zero_le _, Nat.zero_le _⟩ dX5_asks_74 ?_
      rintro v16 _ ⟨w14, L15, rfl, h⟩
      obtain ⟨hb, h⟩ := h
      refine mst_19 C hb dX5_asks_77 ?_
      obtain ⟨w17, ew17⟩ : ∃ z, z = (xsA w14 19 x2.toNatClampNeg v16) := ⟨_, rfl⟩
      replace h := h w17 ew17
      rw [← ew17]
      refine g_aload_n C 0 rfl dX5_asks_78 ?_
      refine mg_fights C q1032 dX5_asks_79 ?_
      refine g_iload_n C 2 rfl dX5_asks_82 ?_
      refine g_aload_n C 0 rfl dX5_asks_83 ?_
      refine g_iload_n C 1 rfl dX5_asks_84 ?_
      refine g_bipush C 99 (by decide) dX5_asks_85 ?_
      refine g_callVi C (As := [.int x1, .int 99]) (rest := [.int x2, .ref (ma K 20)]) (m_X5_worthOf h) (lw_V q1362 q1364 qs60 q84 q1365) (ci := 12) (qi := 0) rfl rfl ⟨rfl, rfl⟩ ⟨Nat.le_of_ble_eq_true rfl, Nat.le_of_ble_eq_true rfl⟩ 2 rfl (by decide +kernel) rfl (Nat.le_of_ble_eq_true rfl) ⟨Nat.zero_le _, Nat.zero_le _⟩ dX5_asks_87 ?_
      rintro v20 _ ⟨w18, L19, rfl, h⟩
      obtain ⟨hb, h⟩ := h
      refine mst_20 C hb dX5_asks_90 ?_
      obtain ⟨w21, ew21⟩ : ∃ z, z = (xsA w18 20 x2.toNatClampNeg v20) := ⟨_, rfl⟩
      replace h := h w21 ew21
      rw [← ew21]
      exact k_X5_asks_91 C ret hr2 x1 x2 w21 L19 h
    · replace h := h.1 hc
      refine g_goto C 91 dX5_asks_18 (by decide) ?_
      exact k_X5_asks_91 C ret hr2 x1 x2 w1 L2 h
theorem k_X5_asks_2 {Γ : gT} {K : gK} {N : Nat} {post : Wd → va_W → Prop} (C : gC Γ K RX5 cX5_asks 3 rm_X5_asks) (ret : gRv Γ K cX5_asks (none) (mPv K post) 0 0) : ∀ (n : Nat) (x1 : Int32) (x2 : Int32) (w : Wd) (L : va_W) (h : B_X5_asks_2 N post n x1 x2 w L), gJ Γ K 0 0 (mL K w ++ L) 2 [(0, .ref (ma K 0)), (1, .int x1), (2, .int x2)] [] := by
  intro n
  induction n with
  | zero => intro x1 x2 w L h; exact h.elim
  | succ n ih => intro x1 x2 w L h; exact k_X5_asks_2s C ret ih x1 x2 w L h
def B_X5_asks_0 (N : Nat) (post : Wd → va_W → Prop) (x1 : Int32) (w : Wd) (L : va_W) : Prop :=
  B_X5_asks_2 N post N x1 0 w L
set_option maxHeartbeats 4000000 in
theorem k_X5_asks_0 {Γ : gT} {K : gK} {N : Nat} {post : Wd → va_W → Prop} (C : gC Γ K RX5 cX5_asks 3 rm_X5_asks) (ret : gRv Γ K cX5_asks (none) (mPv K post) 0 0) (x1 : Int32) (w : Wd) (L : va_W) (h : B_X5_asks_0 N post x1 w L) : gJ Γ K 0 0 (mL K w ++ L) 0 [(0, .ref (ma K 0)), (1, .int x1)] [] := by
  unfold B_X5_asks_0 at h
  refine g_iconst C 0 (by decide) dX5_asks_0 ?_
  refine g_istore_n C rfl (lt := [(2, .int 0), (0, .ref (ma K 0)), (1, .int x1)]) dX5_asks_1 (by decide) rfl ?_
  refine g_sub [1, 2, 0] rfl ?_
  exact k_X5_asks_2 C ret N x1 0 w L h
def B_X5_asks (N : Nat) (x1 : Int32) (post : Wd → va_W → Prop) (w : Wd) (L : va_W) : Prop := B_X5_asks_0 N post x1 w L
theorem m_X5_asks {l : Launch} {K : gK} {N : Nat} {post : Wd → va_W → Prop} {x1 : Int32} {w : Wd} {L : va_W} (h : B_X5_asks N x1 post w L) : gMv l K yX5_asks cX5_asks 3 (none) rm_X5_asks [.ref (ma K 0), .int x1] (mL K w ++ L) (mPv K post) 0 0 := by
  refine g_inV (ls0 := [(0, .ref (ma K 0)), (1, .int x1)]) (by decide) (Nat.le_of_ble_eq_true rfl) rfl (fun Γ hl C hn ret => ?_)
  exact k_X5_asks_0 C ret x1 w L h
def rm_X5_goesBy : Room := { frames := 62, cells := 0, slots := 0, locals := 1472 }
def B_X5_goesBy_71 (r11 : Int32 → Wd → va_W → Prop) (r21 : Int32 → Int32 → Wd → va_W → Prop) (N : Nat) (post : Wd → va_W → Prop) (x2 : Int32) (x3 : Int32) (w : Wd) (L : va_W) : Prop :=
  r21 x2 (x3 + 1) w L
set_option maxHeartbeats 4000000 in
theorem k_X5_goesBy_71 {Γ : gT} {K : gK} {N : Nat} {post : Wd → va_W → Prop} (C : gC Γ K RX5 cX5_goesBy 4 rm_X5_goesBy) (ret : gRv Γ K cX5_goesBy (none) (mPv K post) 0 0) {r11 : Int32 → Wd → va_W → Prop} (hr11 : ∀ (x2 : Int32) (w : Wd) (L : va_W), r11 x2 w L → gJ Γ K 0 0 (mL K w ++ L) 11 [(0, .ref (ma K 0)), (2, .int x2)] []) {r21 : Int32 → Int32 → Wd → va_W → Prop} (hr21 : ∀ (x2 : Int32) (x3 : Int32) (w : Wd) (L : va_W), r21 x2 x3 w L → gJ Γ K 0 0 (mL K w ++ L) 21 [(0, .ref (ma K 0)), (2, .int x2), (3, .int x3)] []) (x2 : Int32) (x3 : Int32) (w : Wd) (L : va_W) (h : B_X5_goesBy_71 r11 r21 N post x2 x3 w L) : gJ Γ K 0 0 (mL K w ++ L) 71 [(0, .ref (ma K 0)), (2, .int x2), (3, .int x3)] [] := by
  unfold B_X5_goesBy_71 at h
  refine g_iinc C 2 (x3 + 1) (lt := [(3, .int (x3 + 1)), (0, .ref (ma K 0)), (2, .int x2)]) rfl rfl dX5_goesBy_71 (by decide) rfl ?_
  refine g_goto C 21 dX5_goesBy_74 (by decide) ?_
  refine g_sub [1, 2, 0] rfl ?_
  exact hr21 x2 (x3 + 1) w L h
def B_X5_goesBy_77 (r11 : Int32 → Wd → va_W → Prop) (N : Nat) (post : Wd → va_W → Prop) (x2 : Int32) (w : Wd) (L : va_W) : Prop :=
  r11 (x2 + 1) w L
set_option maxHeartbeats 4000000 in
theorem k_X5_goesBy_77 {Γ : gT} {K : gK} {N : Nat} {post : Wd → va_W → Prop} (C : gC Γ K RX5 cX5_goesBy 4 rm_X5_goesBy) (ret : gRv Γ K cX5_goesBy (none) (mPv K post) 0 0) {r11 : Int32 → Wd → va_W → Prop} (hr11 : ∀ (x2 : Int32) (w : Wd) (L : va_W), r11 x2 w L → gJ Γ K 0 0 (mL K w ++ L) 11 [(0, .ref (ma K 0)), (2, .int x2)] []) (x2 : Int32) (w : Wd) (L : va_W) (h : B_X5_goesBy_77 r11 N post x2 w L) : gJ Γ K 0 0 (mL K w ++ L) 77 [(0, .ref (ma K 0)), (2, .int x2)] [] := by
  unfold B_X5_goesBy_77 at h
  refine g_iinc C 1 (x2 + 1) (lt := [(2, .int (x2 + 1)), (0, .ref (ma K 0))]) rfl rfl dX5_goesBy_77 (by decide) rfl ?_
  refine g_goto C 11 dX5_goesBy_80 (by decide) ?_
  refine g_sub [1, 0] rfl ?_
  exact hr11 (x2 + 1) w L h
def B_X5_goesBy_21s (r11 : Int32 → Wd → va_W → Prop) (r21 : Int32 → Int32 → Wd → va_W → Prop) (N : Nat) (post : Wd → va_W → Prop) (x2 : Int32) (x3 : Int32) (w : Wd) (L : va_W) : Prop :=
  B_X5_isThere N x2 (fun (v3 : Int32) (w1 : Wd) (L2 : va_W) =>
  (v3 = 0 →
    B_X5_goesBy_77 r11 N post x2 w1 L2) ∧
  (¬ v3 = 0 →
    vp_in x2 24 ∧ ((xA w1 17 x2.toNatClampNeg) ≤ x3 →
      B_X5_goesBy_77 r11 N post x2 w1 L2) ∧
    (¬ (xA w1 17 x2.toNatClampNeg) ≤ x3 →
      B_X5_draw N (fun (v6 : Int32) (w4 : Wd) (L5 : va_W) =>
  ((xi w4 21) ≤ v6 →
        B_X5_goesBy_71 r11 r21 N post x2 x3 w4 L5) ∧
      (¬ (xi w4 21) ≤ v6 →
        vp_in 2 9 ∧ B_X5_goesBy_71 r11 r21 N post x2 x3 (xsi w4 16 (if ((xi w4 16) + (xA w4 11 (2 : Int32).toNatClampNeg)) < 9999 then ((xi w4 16) + (xA w4 11 (2 : Int32).toNatClampNeg)) else 9999)) L5)) w1 L2))) w L
def B_X5_goesBy_21 (r11 : Int32 → Wd → va_W → Prop) (N : Nat) (post : Wd → va_W → Prop) : Nat → Int32 → Int32 → Wd → va_W → Prop
  | 0, _, _, _, _ => False
  | n + 1, x2, x3, w, L => B_X5_goesBy_21s r11 (B_X5_goesBy_21 r11 N post n) N post x2 x3 w L
set_option maxHeartbeats 4000000 in
theorem k_X5_goesBy_21s {Γ : gT} {K : gK} {N : Nat} {post : Wd → va_W → Prop} (C : gC Γ K RX5 cX5_goesBy 4 rm_X5_goesBy) (ret : gRv Γ K cX5_goesBy (none) (mPv K post) 0 0) {r11 : Int32 → Wd → va_W → Prop} (hr11 : ∀ (x2 : Int32) (w : Wd) (L : va_W), r11 x2 w L → gJ Γ K 0 0 (mL K w ++ L) 11 [(0, .ref (ma K 0)), (2, .int x2)] []) {r21 : Int32 → Int32 → Wd → va_W → Prop} (hr21 : ∀ (x2 : Int32) (x3 : Int32) (w : Wd) (L : va_W), r21 x2 x3 w L → gJ Γ K 0 0 (mL K w ++ L) 21 [(0, .ref (ma K 0)), (2, .int x2), (3, .int x3)] []) (x2 : Int32) (x3 : Int32) (w : Wd) (L : va_W) (h : B_X5_goesBy_21s r11 r21 N post x2 x3 w L) : gJ Γ K 0 0 (mL K w ++ L) 21 [(0, .ref (ma K 0)), (2, .int x2), (3, .int x3)] [] := by
  unfold B_X5_goesBy_21s at h
  refine g_aload_n C 0 rfl dX5_goesBy_21 ?_
  refine g_iload_n C 1 rfl dX5_goesBy_22 ?_
  refine g_callVi C (As := [.int x2]) (rest := []) (m_X5_isThere h) (lw_V q1286 q1288 qs50 q84 q1289) (ci := 12) (qi := 0) rfl rfl ⟨rfl, rfl⟩ ⟨Nat.le_of_ble_eq_true rfl, Nat.le_of_ble_eq_true rfl⟩ 1 rfl (by decide +kernel) rfl (Nat.le_of_ble_eq_true rfl) ⟨Nat.zero_le _, Nat.zero_le _⟩ dX5_goesBy_23 ?_
  rintro v3 _ ⟨w1, L2, rfl, h⟩
  refine g_if_eq C 77 dX5_goesBy_26 (by decide) (fun hc => ?_) (fun hc => ?_)
  · replace h := h.1 hc
    refine g_sub [0, 1] rfl ?_
    exact k_X5_goesBy_77 C ret hr11 x2 w1 L2 h
  · replace h := h.2 hc
    refine g_iload_n C 2 rfl dX5_goesBy_29 ?_
    refine g_aload_n C 0 rfl dX5_goesBy_30 ?_
    refine mg_digs C q1029 dX5_goesBy_31 ?_
    refine g_iload_n C 1 rfl dX5_goesBy_34 ?_
    obtain ⟨hb, h⟩ := h
    refine mld_17 C hb (xA w1 17 x2.toNatClampNeg) rfl dX5_goesBy_35 ?_
    refine g_icmp_ge C 77 dX5_goesBy_36 (by decide) (fun hc => ?_) (fun hc => ?_)
    · replace h := h.1 hc
      refine g_sub [0, 1] rfl ?_
      exact k_X5_goesBy_77 C ret hr11 x2 w1 L2 h
    · replace h := h.2 hc
      refine g_aload_n C 0 rfl dX5_goesBy_39 ?_
      refine g_callVi C (As := []) (rest := []) (m_X5_draw h) (lw_V q1388 q1390 qs65 q84 q1391) (ci := 12) (qi := 0) rfl rfl ⟨rfl, rfl⟩ ⟨Nat.le_of_ble_eq_true rfl, Nat.le_of_ble_eq_true rfl⟩ 0 rfl (by decide +kernel) rfl (Nat.le_of_ble_eq_true rfl) ⟨Nat.zero_le _, Nat.zero_le _⟩ dX5_goesBy_40 ?_
      rintro v6 _ ⟨w4, L5, rfl, h⟩
      refine g_aload_n C 0 rfl dX5_goesBy_43 ?_
      refine mg_chance C q1040 (xi w4 21) rfl dX5_goesBy_44 ?_
      refine g_icmp_ge C 71 dX5_goesBy_47 (by decide) (fun hc => ?_) (fun hc => ?_)
      · replace h := h.1 hc
        exact k_X5_goesBy_71 C ret hr11 hr21 x2 x3 w4 L5 h
      · replace h := h.2 hc
        refine g_aload_n C 0 rfl dX5_goesBy_50 ?_
        refine g_sipush C 9999 (by decide) dX5_goesBy_51 ?_
        refine g_aload_n C 0 rfl dX5_goesBy_54 ?_
        refine mg_store C q1035 (xi w4 16) rfl dX5_goesBy_55 ?_
        refine g_aload_n C 0 rfl dX5_goesBy_58 ?_
        refine mg_settings C q1023 dX5_goesBy_59 ?_
        refine g_iconst C 2 (by decide) dX5_goesBy_62 ?_
        obtain ⟨hb, h⟩ := h
        refine mld_11 C hb (xA w4 11 (2 : Int32).toNatClampNeg) rfl dX5_goesBy_63 ?_
        refine g_iadd C dX5_goesBy_64 ?_
        refine g_mmin C q1386 q410 q87 q411 ⟨Nat.le_of_ble_eq_true rfl, (Nat.le_of_ble_eq_true rfl)⟩ ⟨Nat.zero_le _, Nat.zero_le _⟩ dX5_goesBy_65 ?_
        refine mp_store C q1035 dX5_goesBy_68 ?_
        exact k_X5_goesBy_71 C ret hr11 hr21 x2 x3 (xsi w4 16 (if ((xi w4 16) + (xA w4 11 (2 : Int32).toNatClampNeg)) < 9999 then ((xi w4 16) + (xA w4 11 (2 : Int32).toNatClampNeg)) else 9999)) L5 h
theorem k_X5_goesBy_21 {Γ : gT} {K : gK} {N : Nat} {post : Wd → va_W → Prop} (C : gC Γ K RX5 cX5_goesBy 4 rm_X5_goesBy) (ret : gRv Γ K cX5_goesBy (none) (mPv K post) 0 0) {r11 : Int32 → Wd → va_W → Prop} (hr11 : ∀ (x2 : Int32) (w : Wd) (L : va_W), r11 x2 w L → gJ Γ K 0 0 (mL K w ++ L) 11 [(0, .ref (ma K 0)), (2, .int x2)] []) : ∀ (n : Nat) (x2 : Int32) (x3 : Int32) (w : Wd) (L : va_W) (h : B_X5_goesBy_21 r11 N post n x2 x3 w L), gJ Γ K 0 0 (mL K w ++ L) 21 [(0, .ref (ma K 0)), (2, .int x2), (3, .int x3)] [] := by
  intro n
  induction n with
  | zero => intro x2 x3 w L h; exact h.elim
  | succ n ih => intro x2 x3 w L h; exact k_X5_goesBy_21s C ret hr11 ih x2 x3 w L h
def B_X5_goesBy_126 (r100 : Int32 → Int32 → Wd → va_W → Prop) (N : Nat) (post : Wd → va_W → Prop) (x2 : Int32) (x3 : Int32) (w : Wd) (L : va_W) : Prop :=
  r100 x2 (x3 + 1) w L
set_option maxHeartbeats 4000000 in
theorem k_X5_goesBy_126 {Γ : gT} {K : gK} {N : Nat} {post : Wd → va_W → Prop} (C : gC Γ K RX5 cX5_goesBy 4 rm_X5_goesBy) (ret : gRv Γ K cX5_goesBy (none) (mPv K post) 0 0) {r100 : Int32 → Int32 → Wd → va_W → Prop} (hr100 : ∀ (x2 : Int32) (x3 : Int32) (w : Wd) (L : va_W), r100 x2 x3 w L → gJ Γ K 0 0 (mL K w ++ L) 100 [(0, .ref (ma K 0)), (2, .int x2), (3, .int x3)] []) (x2 : Int32) (x3 : Int32) (w : Wd) (L : va_W) (h : B_X5_goesBy_126 r100 N post x2 x3 w L) : gJ Γ K 0 0 (mL K w ++ L) 126 [(0, .ref (ma K 0)), (2, .int x2), (3, .int x3)] [] := by
  unfold B_X5_goesBy_126 at h
  refine g_iinc C 2 (x3 + 1) (lt := [(3, .int (x3 + 1)), (0, .ref (ma K 0)), (2, .int x2)]) rfl rfl dX5_goesBy_126 (by decide) rfl ?_
  refine g_goto C 100 dX5_goesBy_129 (by decide) ?_
  refine g_sub [1, 2, 0] rfl ?_
  exact hr100 x2 (x3 + 1) w L h
def B_X5_goesBy_216 (r163 : Int32 → Wd → va_W → Prop) (N : Nat) (post : Wd → va_W → Prop) (x3 : Int32) (w : Wd) (L : va_W) : Prop :=
  r163 (x3 + 1) w L
set_option maxHeartbeats 4000000 in
theorem k_X5_goesBy_216 {Γ : gT} {K : gK} {N : Nat} {post : Wd → va_W → Prop} (C : gC Γ K RX5 cX5_goesBy 4 rm_X5_goesBy) (ret : gRv Γ K cX5_goesBy (none) (mPv K post) 0 0) {r163 : Int32 → Wd → va_W → Prop} (hr163 : ∀ (x3 : Int32) (w : Wd) (L : va_W), r163 x3 w L → gJ Γ K 0 0 (mL K w ++ L) 163 [(0, .ref (ma K 0)), (3, .int x3)] []) (x3 : Int32) (w : Wd) (L : va_W) (h : B_X5_goesBy_216 r163 N post x3 w L) : gJ Γ K 0 0 (mL K w ++ L) 216 [(0, .ref (ma K 0)), (3, .int x3)] [] := by
  unfold B_X5_goesBy_216 at h
  refine g_iinc C 1 (x3 + 1) (lt := [(3, .int (x3 + 1)), (0, .ref (ma K 0))]) rfl rfl dX5_goesBy_216 (by decide) rfl ?_
  refine g_goto C 163 dX5_goesBy_219 (by decide) ?_
  refine g_sub [1, 0] rfl ?_
  exact hr163 (x3 + 1) w L h
def B_X5_goesBy_163s (r163 : Int32 → Wd → va_W → Prop) (N : Nat) (post : Wd → va_W → Prop) (x3 : Int32) (w : Wd) (L : va_W) : Prop :=
  ((xi w 15) ≤ x3 →
    B_X5_bear N (fun (w1 : Wd) (L2 : va_W) =>
  B_X5_war N (fun (w3 : Wd) (L4 : va_W) =>
  post (xsi w3 20 ((xi w3 20) + 1)) L4) w1 L2) w L) ∧
  (¬ (xi w 15) ≤ x3 →
    B_X5_rainNow N (fun (v7 : Int32) (w5 : Wd) (L6 : va_W) =>
  (v7 ≤ 0 →
      B_X5_goesBy_216 r163 N post x3 w5 L6) ∧
    (¬ v7 ≤ 0 →
      ((xi w5 24) = 0 →
        B_X5_isThere N x3 (fun (v10 : Int32) (w8 : Wd) (L9 : va_W) =>
  (v10 = 0 →
          B_X5_goesBy_216 r163 N post x3 w8 L9) ∧
        (¬ v10 = 0 →
          (x3 = (xi w8 17) →
            B_X5_goesBy_216 r163 N post x3 w8 L9) ∧
          (¬ x3 = (xi w8 17) →
            vp_in x3 24 ∧ ((xA w8 19 x3.toNatClampNeg) = 0 →
              B_X5_over N x3 2 (fun (w11 : Wd) (L12 : va_W) =>
  B_X5_goesBy_216 r163 N post x3 w11 L12) w8 L9) ∧
            (¬ (xA w8 19 x3.toNatClampNeg) = 0 →
              B_X5_goesBy_216 r163 N post x3 w8 L9)))) w5 L6) ∧
      (¬ (xi w5 24) = 0 →
        B_X5_goesBy_216 r163 N post x3 w5 L6))) w L)
def B_X5_goesBy_163 (N : Nat) (post : Wd → va_W → Prop) : Nat → Int32 → Wd → va_W → Prop
  | 0, _, _, _ => False
  | n + 1, x3, w, L => B_X5_goesBy_163s (B_X5_goesBy_163 N post n) N post x3 w L
set_option maxHeartbeats 4000000 in
theorem k_X5_goesBy_163s {Γ : gT} {K : gK} {N : Nat} {post : Wd → va_W → Prop} (C : gC Γ K RX5 cX5_goesBy 4 rm_X5_goesBy) (ret : gRv Γ K cX5_goesBy (none) (mPv K post) 0 0) {r163 : Int32 → Wd → va_W → Prop} (hr163 : ∀ (x3 : Int32) (w : Wd) (L : va_W), r163 x3 w L → gJ Γ K 0 0 (mL K w ++ L) 163 [(0, .ref (ma K 0)), (3, .int x3)] []) (x3 : Int32) (w : Wd) (L : va_W) (h : B_X5_goesBy_163s r163 N post x3 w L) : gJ Γ K 0 0 (mL K w ++ L) 163 [(0, .ref (ma K 0)), (3, .int x3)] [] := by
  unfold B_X5_goesBy_163s at h
  refine g_iload_n C 1 rfl dX5_goesBy_163 ?_
  refine g_aload_n C 0 rfl dX5_goesBy_164 ?_
  refine mg_ever C q1034 (xi w 15) rfl dX5_goesBy_165 ?_
  refine g_icmp_ge C 222 dX5_goesBy_168 (by decide) (fun hc => ?_) (fun hc => ?_)
  · replace h := h.1 hc
    refine g_aload_n C 0 rfl dX5_goesBy_222 ?_
    refine g_callVv C (As := []) (rest := []) (m_X5_bear h) (lw_V q1399 q1401 qs67 q84 q1402) (ci := 12) (qi := 0) rfl rfl ⟨rfl, rfl⟩ ⟨Nat.le_of_ble_eq_true rfl, Nat.le_of_ble_eq_true rfl⟩ 0 rfl (by decide +kernel) rfl (Nat.le_of_ble_eq_true rfl) ⟨Nat.zero_le _, Nat.zero_le _⟩ dX5_goesBy_223 ?_
    rintro _ ⟨w1, L2, rfl, h⟩
    refine g_aload_n C 0 rfl dX5_goesBy_226 ?_
    refine g_callVv C (As := []) (rest := []) (m_X5_war h) (lw_V q1403 q1405 qs68 q84 q1406) (ci := 12) (qi := 0) rfl rfl ⟨rfl, rfl⟩ ⟨Nat.le_of_ble_eq_true rfl, Nat.le_of_ble_eq_true rfl⟩ 0 rfl (by decide +kernel) rfl (Nat.le_of_ble_eq_true rfl) ⟨Nat.zero_le _, Nat.zero_le _⟩ dX5_goesBy_227 ?_
    rintro _ ⟨w3, L4, rfl, h⟩
    refine g_aload_n C 0 rfl dX5_goesBy_230 ?_
    refine g_dup C rfl dX5_goesBy_231 ?_
    refine mg_month C q1039 (xi w3 20) rfl dX5_goesBy_232 ?_
    refine g_iconst C 1 (by decide) dX5_goesBy_235 ?_
    refine g_iadd C dX5_goesBy_236 ?_
    refine mp_month C q1039 dX5_goesBy_237 ?_
    exact ret rfl _ _ _ dX5_goesBy_240 ⟨_, _, rfl, h⟩
  · replace h := h.2 hc
    refine g_aload_n C 0 rfl dX5_goesBy_171 ?_
    refine g_callVi C (As := []) (rest := []) (m_X5_rainNow h) (lw_V q1358 q1360 qs59 q84 q1361) (ci := 12) (qi := 0) rfl rfl ⟨rfl, rfl⟩ ⟨Nat.le_of_ble_eq_true rfl, Nat.le_of_ble_eq_true rfl⟩ 0 rfl (by decide +kernel) rfl (Nat.le_of_ble_eq_true rfl) ⟨Nat.zero_le _, Nat.zero_le _⟩ dX5_goesBy_172 ?_
    rintro v7 _ ⟨w5, L6, rfl, h⟩
    refine g_if_le C 216 dX5_goesBy_175 (by decide) (fun hc => ?_) (fun hc => ?_)
    · replace h := h.1 hc
      exact k_X5_goesBy_216 C ret hr163 x3 w5 L6 h
    · replace h := h.2 hc
      refine g_aload_n C 0 rfl dX5_goesBy_178 ?_
      refine mg_nobodyGoes C q1043 (xi w5 24) rfl dX5_goesBy_179 ?_
      refine g_if_ne C 216 dX5_goesBy_182 (by decide) (fun hc => ?_) (fun hc => ?_)
      · replace h := h.2 hc
        exact k_X5_goesBy_216 C ret hr163 x3 w5 L6 h
      · replace h := h.1 hc
        refine g_aload_n C 0 rfl dX5_goesBy_185 ?_
        refine g_iload_n C 1 rfl dX5_goesBy_186 ?_
        refine g_callVi C (As := [.int x3]) (rest := []) (m_X5_isThere h) (lw_V q1286 q1288 qs50 q84 q1289) (ci := 12) (qi := 0) rfl rfl ⟨rfl, rfl⟩ ⟨Nat.le_of_ble_eq_true rfl, Nat.le_of_ble_eq_true rfl⟩ 1 rfl (by decide +kernel) rfl (Nat.le_of_ble_eq_true rfl) ⟨Nat.zero_le _, Nat.zero_le _⟩ dX5_goesBy_187 ?_
        rintro v10 _ ⟨w8, L9, rfl, h⟩
        refine g_if_eq C 216 dX5_goesBy_190 (by decide) (fun hc => ?_) (fun hc => ?_)
        · replace h := h.1 hc
          exact k_X5_goesBy_216 C ret hr163 x3 w8 L9 h
        · replace h := h.2 hc
          refine g_iload_n C 1 rfl dX5_goesBy_193 ?_
          refine g_aload_n C 0 rfl dX5_goesBy_194 ?_
          refine mg_queen C q1036 (xi w8 17) rfl dX5_goesBy_195 ?_
          refine g_icmp_eq C 216 dX5_goesBy_198 (by decide) (fun hc => ?_) (fun hc => ?_)
          · replace h := h.1 hc
            exact k_X5_goesBy_216 C ret hr163 x3 w8 L9 h
          · replace h := h.2 hc
            refine g_aload_n C 0 rfl dX5_goesBy_201 ?_
            refine mg_stays C q1031 dX5_goesBy_202 ?_
            refine g_iload_n C 1 rfl dX5_goesBy_205 ?_
            obtain ⟨hb, h⟩ := h
            refine mld_19 C hb (xA w8 19 x3.toNatClampNeg) rfl dX5_goesBy_206 ?_
            refine g_if_ne C 216 dX5_goesBy_207 (by decide) (fun hc => ?_) (fun hc => ?_)
            · replace h := h.2 hc
              exact k_X5_goesBy_216 C ret hr163 x3 w8 L9 h
            · replace h := h.1 hc
              refine g_aload_n C 0 rfl dX5_goesBy_210 ?_
              refine g_iload_n C 1 rfl dX5_goesBy_211 ?_
              refine g_iconst C 2 (by decide) dX5_goesBy_212 ?_
              refine g_callVv C (As := [.int x3, .int 2]) (rest := []) (m_X5_over h) (lw_V q1346 q1348 qs56 q84 q1349) (ci := 12) (qi := 0) rfl rfl ⟨rfl, rfl⟩ ⟨Nat.le_of_ble_eq_true rfl, Nat.le_of_ble_eq_true rfl⟩ 2 rfl (by decide +kernel) rfl (Nat.le_of_ble_eq_true rfl) ⟨Nat.zero_le _, Nat.zero_le _⟩ dX5_goesBy_213 ?_
              rintro _ ⟨w11, L12, rfl, h⟩
              exact k_X5_goesBy_216 C ret hr163 x3 w11 L12 h
theorem k_X5_goesBy_163 {Γ : gT} {K : gK} {N : Nat} {post : Wd → va_W → Prop} (C : gC Γ K RX5 cX5_goesBy 4 rm_X5_goesBy) (ret : gRv Γ K cX5_goesBy (none) (mPv K post) 0 0) : ∀ (n : Nat) (x3 : Int32) (w : Wd) (L : va_W) (h : B_X5_goesBy_163 N post n x3 w L), gJ Γ K 0 0 (mL K w ++ L) 163 [(0, .ref (ma K 0)), (3, .int x3)] [] := by
  intro n
  induction n with
  | zero => intro x3 w L h; exact h.elim
  | succ n ih => intro x3 w L h; exact k_X5_goesBy_163s C ret ih x3 w L h
def B_X5_goesBy_100s (r100 : Int32 → Int32 → Wd → va_W → Prop) (N : Nat) (post : Wd → va_W → Prop) (x2 : Int32) (x3 : Int32) (w : Wd) (L : va_W) : Prop :=
  ((xi w 15) ≤ x3 →
    vp_in 3 9 ∧ B_X5_goesBy_163 N post N 0 (xsi w 16 (if ((xi w 16) + (((xi w 16) * (xA w 11 (3 : Int32).toNatClampNeg)) / 100)) < 9999 then ((xi w 16) + (((xi w 16) * (xA w 11 (3 : Int32).toNatClampNeg)) / 100)) else 9999)) L) ∧
  (¬ (xi w 15) ≤ x3 →
    (x3 = x2 →
      B_X5_goesBy_126 r100 N post x2 x3 w L) ∧
    (¬ x3 = x2 →
      B_X5_isThere N x3 (fun (v3 : Int32) (w1 : Wd) (L2 : va_W) =>
  (v3 = 0 →
        B_X5_goesBy_126 r100 N post x2 x3 w1 L2) ∧
      (¬ v3 = 0 →
        B_X5_eat N x3 (fun (w4 : Wd) (L5 : va_W) =>
  B_X5_goesBy_126 r100 N post x2 x3 w4 L5) w1 L2)) w L))
def B_X5_goesBy_100 (N : Nat) (post : Wd → va_W → Prop) : Nat → Int32 → Int32 → Wd → va_W → Prop
  | 0, _, _, _, _ => False
  | n + 1, x2, x3, w, L => B_X5_goesBy_100s (B_X5_goesBy_100 N post n) N post x2 x3 w L
set_option maxHeartbeats 4000000 in
theorem k_X5_goesBy_100s {Γ : gT} {K : gK} {N : Nat} {post : Wd → va_W → Prop} (C : gC Γ K RX5 cX5_goesBy 4 rm_X5_goesBy) (ret : gRv Γ K cX5_goesBy (none) (mPv K post) 0 0) {r100 : Int32 → Int32 → Wd → va_W → Prop} (hr100 : ∀ (x2 : Int32) (x3 : Int32) (w : Wd) (L : va_W), r100 x2 x3 w L → gJ Γ K 0 0 (mL K w ++ L) 100 [(0, .ref (ma K 0)), (2, .int x2), (3, .int x3)] []) (x2 : Int32) (x3 : Int32) (w : Wd) (L : va_W) (h : B_X5_goesBy_100s r100 N post x2 x3 w L) : gJ Γ K 0 0 (mL K w ++ L) 100 [(0, .ref (ma K 0)), (2, .int x2), (3, .int x3)] [] := by
  unfold B_X5_goesBy_100s at h
  refine g_iload_n C 2 rfl dX5_goesBy_100 ?_
  refine g_aload_n C 0 rfl dX5_goesBy_101 ?_
  refine mg_ever C q1034 (xi w 15) rfl dX5_goesBy_102 ?_
  refine g_icmp_ge C 132 dX5_goesBy_105 (by decide) (fun hc => ?_) (fun hc => ?_)
  · replace h := h.1 hc
    refine g_aload_n C 0 rfl dX5_goesBy_132 ?_
    refine g_sipush C 9999 (by decide) dX5_goesBy_133 ?_
    refine g_aload_n C 0 rfl dX5_goesBy_136 ?_
    refine mg_store C q1035 (xi w 16) rfl dX5_goesBy_137 ?_
    refine g_aload_n C 0 rfl dX5_goesBy_140 ?_
    refine mg_store C q1035 (xi w 16) rfl dX5_goesBy_141 ?_
    refine g_aload_n C 0 rfl dX5_goesBy_144 ?_
    refine mg_settings C q1023 dX5_goesBy_145 ?_
    refine g_iconst C 3 (by decide) dX5_goesBy_148 ?_
    obtain ⟨hb, h⟩ := h
    refine mld_11 C hb (xA w 11 (3 : Int32).toNatClampNeg) rfl dX5_goesBy_149 ?_
    refine g_imul C dX5_goesBy_150 ?_
    refine g_bipush C 100 (by decide) dX5_goesBy_151 ?_
    refine g_idiv C (by decide) dX5_goesBy_153 ?_
    refine g_iadd C dX5_goesBy_154 ?_
    refine g_mmin C q1386 q410 q87 q411 ⟨Nat.le_of_ble_eq_true rfl, (Nat.le_of_ble_eq_true rfl)⟩ ⟨Nat.zero_le _, Nat.zero_le _⟩ dX5_goesBy_155 ?_
    refine mp_store C q1035 dX5_goesBy_158 ?_
    refine g_iconst C 0 (by decide) dX5_goesBy_161 ?_
    refine g_istore_n C rfl (lt := [(3, .int 0), (0, .ref (ma K 0)), (2, .int x2)]) dX5_goesBy_162 (by decide) rfl ?_
    refine g_sub [1, 0] rfl ?_
    exact k_X5_goesBy_163 C ret N 0 (xsi w 16 (if ((xi w 16) + (((xi w 16) * (xA w 11 (3 : Int32).toNatClampNeg)) / 100)) < 9999 then ((xi w 16) + (((xi w 16) * (xA w 11 (3 : Int32).toNatClampNeg)) / 100)) else 9999)) L h
  · replace h := h.2 hc
    refine g_iload_n C 2 rfl dX5_goesBy_108 ?_
    refine g_iload_n C 1 rfl dX5_goesBy_109 ?_
    refine g_icmp_eq C 126 dX5_goesBy_110 (by decide) (fun hc => ?_) (fun hc => ?_)
    · replace h := h.1 hc
      exact k_X5_goesBy_126 C ret hr100 x2 x3 w L h
    · replace h := h.2 hc
      refine g_aload_n C 0 rfl dX5_goesBy_113 ?_
      refine g_iload_n C 2 rfl dX5_goesBy_114 ?_
      refine g_callVi C (As := [.int x3]) (rest := []) (m_X5_isThere h) (lw_V q1286 q1288 qs50 q84 q1289) (ci := 12) (qi := 0) rfl rfl ⟨rfl, rfl⟩ ⟨Nat.le_of_ble_eq_true rfl, Nat.le_of_ble_eq_true rfl⟩ 1 rfl (by decide +kernel) rfl (Nat.le_of_ble_eq_true rfl) ⟨Nat.zero_le _, Nat.zero_le _⟩ dX5_goesBy_115 ?_
      rintro v3 _ ⟨w1, L2, rfl, h⟩
      refine g_if_eq C 126 dX5_goesBy_118 (by decide) (fun hc => ?_) (fun hc => ?_)
      · replace h := h.1 hc
        exact k_X5_goesBy_126 C ret hr100 x2 x3 w1 L2 h
      · replace h := h.2 hc
        refine g_aload_n C 0 rfl dX5_goesBy_121 ?_
        refine g_iload_n C 2 rfl dX5_goesBy_122 ?_
        refine g_callVv C (As := [.int x3]) (rest := []) (m_X5_eat h) (lw_V q1395 q1397 qs66 q84 q1398) (ci := 12) (qi := 0) rfl rfl ⟨rfl, rfl⟩ ⟨Nat.le_of_ble_eq_true rfl, Nat.le_of_ble_eq_true rfl⟩ 1 rfl (by decide +kernel) rfl (Nat.le_of_ble_eq_true rfl) ⟨Nat.zero_le _, Nat.zero_le _⟩ dX5_goesBy_123 ?_
        rintro _ ⟨w4, L5, rfl, h⟩
        exact k_X5_goesBy_126 C ret hr100 x2 x3 w4 L5 h
theorem k_X5_goesBy_100 {Γ : gT} {K : gK} {N : Nat} {post : Wd → va_W → Prop} (C : gC Γ K RX5 cX5_goesBy 4 rm_X5_goesBy) (ret : gRv Γ K cX5_goesBy (none) (mPv K post) 0 0) : ∀ (n : Nat) (x2 : Int32) (x3 : Int32) (w : Wd) (L : va_W) (h : B_X5_goesBy_100 N post n x2 x3 w L), gJ Γ K 0 0 (mL K w ++ L) 100 [(0, .ref (ma K 0)), (2, .int x2), (3, .int x3)] [] := by
  intro n
  induction n with
  | zero => intro x2 x3 w L h; exact h.elim
  | succ n ih => intro x2 x3 w L h; exact k_X5_goesBy_100s C ret ih x2 x3 w L h
def B_X5_goesBy_98 (N : Nat) (post : Wd → va_W → Prop) (x2 : Int32) (w : Wd) (L : va_W) : Prop :=
  B_X5_goesBy_100 N post N x2 0 w L
set_option maxHeartbeats 4000000 in
theorem k_X5_goesBy_98 {Γ : gT} {K : gK} {N : Nat} {post : Wd → va_W → Prop} (C : gC Γ K RX5 cX5_goesBy 4 rm_X5_goesBy) (ret : gRv Γ K cX5_goesBy (none) (mPv K post) 0 0) (x2 : Int32) (w : Wd) (L : va_W) (h : B_X5_goesBy_98 N post x2 w L) : gJ Γ K 0 0 (mL K w ++ L) 98 [(0, .ref (ma K 0)), (2, .int x2)] [] := by
  unfold B_X5_goesBy_98 at h
  refine g_iconst C 0 (by decide) dX5_goesBy_98 ?_
  refine g_istore_n C rfl (lt := [(3, .int 0), (0, .ref (ma K 0)), (2, .int x2)]) dX5_goesBy_99 (by decide) rfl ?_
  refine g_sub [1, 2, 0] rfl ?_
  exact k_X5_goesBy_100 C ret N x2 0 w L h
def B_X5_goesBy_11s (r11 : Int32 → Wd → va_W → Prop) (N : Nat) (post : Wd → va_W → Prop) (x2 : Int32) (w : Wd) (L : va_W) : Prop :=
  ((xi w 15) ≤ x2 →
    ((xi w 17) = (-1 : Int32) →
      B_X5_goesBy_98 N post (xi w 17) w L) ∧
    (¬ (xi w 17) = (-1 : Int32) →
      B_X5_eat N (xi w 17) (fun (w1 : Wd) (L2 : va_W) =>
  B_X5_goesBy_98 N post (xi w 17) w1 L2) w L)) ∧
  (¬ (xi w 15) ≤ x2 →
    B_X5_goesBy_21 r11 N post N x2 0 w L)
def B_X5_goesBy_11 (N : Nat) (post : Wd → va_W → Prop) : Nat → Int32 → Wd → va_W → Prop
  | 0, _, _, _ => False
  | n + 1, x2, w, L => B_X5_goesBy_11s (B_X5_goesBy_11 N post n) N post x2 w L
set_option maxHeartbeats 4000000 in
theorem k_X5_goesBy_11s {Γ : gT} {K : gK} {N : Nat} {post : Wd → va_W → Prop} (C : gC Γ K RX5 cX5_goesBy 4 rm_X5_goesBy) (ret : gRv Γ K cX5_goesBy (none) (mPv K post) 0 0) {r11 : Int32 → Wd → va_W → Prop} (hr11 : ∀ (x2 : Int32) (w : Wd) (L : va_W), r11 x2 w L → gJ Γ K 0 0 (mL K w ++ L) 11 [(0, .ref (ma K 0)), (2, .int x2)] []) (x2 : Int32) (w : Wd) (L : va_W) (h : B_X5_goesBy_11s r11 N post x2 w L) : gJ Γ K 0 0 (mL K w ++ L) 11 [(0, .ref (ma K 0)), (2, .int x2)] [] := by
  unfold B_X5_goesBy_11s at h
  refine g_iload_n C 1 rfl dX5_goesBy_11 ?_
  refine g_aload_n C 0 rfl dX5_goesBy_12 ?_
  refine mg_ever C q1034 (xi w 15) rfl dX5_goesBy_13 ?_
  refine g_icmp_ge C 83 dX5_goesBy_16 (by decide) (fun hc => ?_) (fun hc => ?_)
  · replace h := h.1 hc
    refine g_aload_n C 0 rfl dX5_goesBy_83 ?_
    refine mg_queen C q1036 (xi w 17) rfl dX5_goesBy_84 ?_
    refine g_istore_n C rfl (lt := [(2, .int (xi w 17)), (0, .ref (ma K 0))]) dX5_goesBy_87 (by decide) rfl ?_
    refine g_iload_n C 0 rfl dX5_goesBy_88 ?_
    refine g_iconst C (-1) (by decide) dX5_goesBy_89 ?_
    refine g_icmp_eq C 98 dX5_goesBy_90 (by decide) (fun hc => ?_) (fun hc => ?_)
    · replace h := h.1 hc
      refine g_sub [1, 0] rfl ?_
      exact k_X5_goesBy_98 C ret (xi w 17) w L h
    · replace h := h.2 hc
      refine g_aload_n C 1 rfl dX5_goesBy_93 ?_
      refine g_iload_n C 0 rfl dX5_goesBy_94 ?_
      refine g_callVv C (As := [.int (xi w 17)]) (rest := []) (m_X5_eat h) (lw_V q1395 q1397 qs66 q84 q1398) (ci := 12) (qi := 0) rfl rfl ⟨rfl, rfl⟩ ⟨Nat.le_of_ble_eq_true rfl, Nat.le_of_ble_eq_true rfl⟩ 1 rfl (by decide +kernel) rfl (Nat.le_of_ble_eq_true rfl) ⟨Nat.zero_le _, Nat.zero_le _⟩ dX5_goesBy_95 ?_
      rintro _ ⟨w1, L2, rfl, h⟩
      refine g_sub [1, 0] rfl ?_
      exact k_X5_goesBy_98 C ret (xi w 17) w1 L2 h
  · replace h := h.2 hc
    refine g_iconst C 0 (by decide) dX5_goesBy_19 ?_
    refine g_istore_n C rfl (lt := [(3, .int 0), (0, .ref (ma K 0)), (2, .int x2)]) dX5_goesBy_20 (by decide) rfl ?_
    refine g_sub [1, 2, 0] rfl ?_
    exact k_X5_goesBy_21 C ret hr11 N x2 0 w L h
theorem k_X5_goesBy_11 {Γ : gT} {K : gK} {N : Nat} {post : Wd → va_W → Prop} (C : gC Γ K RX5 cX5_goesBy 4 rm_X5_goesBy) (ret : gRv Γ K cX5_goesBy (none) (mPv K post) 0 0) : ∀ (n : Nat) (x2 : Int32) (w : Wd) (L : va_W) (h : B_X5_goesBy_11 N post n x2 w L), gJ Γ K 0 0 (mL K w ++ L) 11 [(0, .ref (ma K 0)), (2, .int x2)] [] := by
  intro n
  induction n with
  | zero => intro x2 w L h; exact h.elim
  | succ n ih => intro x2 w L h; exact k_X5_goesBy_11s C ret ih x2 w L h
def B_X5_goesBy_0 (N : Nat) (post : Wd → va_W → Prop) (x1 : Int32) (w : Wd) (L : va_W) : Prop :=
  B_X5_dies N (fun (w1 : Wd) (L2 : va_W) =>
  B_X5_asks N x1 (fun (w3 : Wd) (L4 : va_W) =>
  B_X5_goesBy_11 N post N 0 w3 L4) w1 L2) w L
set_option maxHeartbeats 4000000 in
theorem k_X5_goesBy_0 {Γ : gT} {K : gK} {N : Nat} {post : Wd → va_W → Prop} (C : gC Γ K RX5 cX5_goesBy 4 rm_X5_goesBy) (ret : gRv Γ K cX5_goesBy (none) (mPv K post) 0 0) (x1 : Int32) (w : Wd) (L : va_W) (h : B_X5_goesBy_0 N post x1 w L) : gJ Γ K 0 0 (mL K w ++ L) 0 [(0, .ref (ma K 0)), (1, .int x1)] [] := by
  unfold B_X5_goesBy_0 at h
  refine g_aload_n C 0 rfl dX5_goesBy_0 ?_
  refine g_callVv C (As := []) (rest := []) (m_X5_dies h) (lw_V q1342 q1344 qs55 q84 q1345) (ci := 12) (qi := 0) rfl rfl ⟨rfl, rfl⟩ ⟨Nat.le_of_ble_eq_true rfl, Nat.le_of_ble_eq_true rfl⟩ 0 rfl (by decide +kernel) rfl (Nat.le_of_ble_eq_true rfl) ⟨Nat.zero_le _, Nat.zero_le _⟩ dX5_goesBy_1 ?_
  rintro _ ⟨w1, L2, rfl, h⟩
  refine g_aload_n C 0 rfl dX5_goesBy_4 ?_
  refine g_iload_n C 1 rfl dX5_goesBy_5 ?_
  refine g_callVv C (As := [.int x1]) (rest := []) (m_X5_asks h) (lw_V q1382 q1384 qs64 q84 q1385) (ci := 12) (qi := 0) rfl rfl ⟨rfl, rfl⟩ ⟨Nat.le_of_ble_eq_true rfl, Nat.le_of_ble_eq_true rfl⟩ 1 rfl (by decide +kernel) rfl (Nat.le_of_ble_eq_true rfl) ⟨Nat.zero_le _, Nat.zero_le _⟩ dX5_goesBy_6 ?_
  rintro _ ⟨w3, L4, rfl, h⟩
  refine g_iconst C 0 (by decide) dX5_goesBy_9 ?_
  refine g_istore_n C rfl (lt := [(2, .int 0), (0, .ref (ma K 0)), (1, .int x1)]) dX5_goesBy_10 (by decide) rfl ?_
  refine g_sub [1, 0] rfl ?_
  exact k_X5_goesBy_11 C ret N 0 w3 L4 h
def B_X5_goesBy (N : Nat) (x1 : Int32) (post : Wd → va_W → Prop) (w : Wd) (L : va_W) : Prop := B_X5_goesBy_0 N post x1 w L
theorem m_X5_goesBy {l : Launch} {K : gK} {N : Nat} {post : Wd → va_W → Prop} {x1 : Int32} {w : Wd} {L : va_W} (h : B_X5_goesBy N x1 post w L) : gMv l K yX5_goesBy cX5_goesBy 4 (none) rm_X5_goesBy [.ref (ma K 0), .int x1] (mL K w ++ L) (mPv K post) 0 0 := by
  refine g_inV (ls0 := [(0, .ref (ma K 0)), (1, .int x1)]) (by decide) (Nat.le_of_ble_eq_true rfl) rfl (fun Γ hl C hn ret => ?_)
  exact k_X5_goesBy_0 C ret x1 w L h
def rm_X5_goOn : Room := { frames := 63, cells := 0, slots := 0, locals := 1495 }
def B_X5_goOn_0s (r0 : Int32 → Int32 → Wd → va_W → Prop) (N : Nat) (post : Wd → va_W → Prop) (x1 : Int32) (x2 : Int32) (w : Wd) (L : va_W) : Prop :=
  (x2 ≤ (xi w 20) →
    post w L) ∧
  (¬ x2 ≤ (xi w 20) →
    B_X5_goesBy N x1 (fun (w1 : Wd) (L2 : va_W) =>
  r0 x1 x2 w1 L2) w L)
def B_X5_goOn_0 (N : Nat) (post : Wd → va_W → Prop) : Nat → Int32 → Int32 → Wd → va_W → Prop
  | 0, _, _, _, _ => False
  | n + 1, x1, x2, w, L => B_X5_goOn_0s (B_X5_goOn_0 N post n) N post x1 x2 w L
set_option maxHeartbeats 4000000 in
theorem k_X5_goOn_0s {Γ : gT} {K : gK} {N : Nat} {post : Wd → va_W → Prop} (C : gC Γ K RX5 cX5_goOn 3 rm_X5_goOn) (ret : gRv Γ K cX5_goOn (none) (mPv K post) 0 0) {r0 : Int32 → Int32 → Wd → va_W → Prop} (hr0 : ∀ (x1 : Int32) (x2 : Int32) (w : Wd) (L : va_W), r0 x1 x2 w L → gJ Γ K 0 0 (mL K w ++ L) 0 [(0, .ref (ma K 0)), (1, .int x1), (2, .int x2)] []) (x1 : Int32) (x2 : Int32) (w : Wd) (L : va_W) (h : B_X5_goOn_0s r0 N post x1 x2 w L) : gJ Γ K 0 0 (mL K w ++ L) 0 [(0, .ref (ma K 0)), (1, .int x1), (2, .int x2)] [] := by
  unfold B_X5_goOn_0s at h
  refine g_aload_n C 0 rfl dX5_goOn_0 ?_
  refine mg_month C q1039 (xi w 20) rfl dX5_goOn_1 ?_
  refine g_iload_n C 2 rfl dX5_goOn_4 ?_
  refine g_icmp_ge C 16 dX5_goOn_5 (by decide) (fun hc => ?_) (fun hc => ?_)
  · replace h := h.1 hc
    exact ret rfl _ _ _ dX5_goOn_16 ⟨_, _, rfl, h⟩
  · replace h := h.2 hc
    refine g_aload_n C 0 rfl dX5_goOn_8 ?_
    refine g_iload_n C 1 rfl dX5_goOn_9 ?_
    refine g_callVv C (As := [.int x1]) (rest := []) (m_X5_goesBy h) (lw_V q1378 q1380 qs63 q84 q1381) (ci := 12) (qi := 0) rfl rfl ⟨rfl, rfl⟩ ⟨Nat.le_of_ble_eq_true rfl, Nat.le_of_ble_eq_true rfl⟩ 1 rfl (by decide +kernel) rfl (Nat.le_of_ble_eq_true rfl) ⟨Nat.zero_le _, Nat.zero_le _⟩ dX5_goOn_10 ?_
    rintro _ ⟨w1, L2, rfl, h⟩
    refine g_goto C 0 dX5_goOn_13 (by decide) ?_
    exact hr0 x1 x2 w1 L2 h
theorem k_X5_goOn_0 {Γ : gT} {K : gK} {N : Nat} {post : Wd → va_W → Prop} (C : gC Γ K RX5 cX5_goOn 3 rm_X5_goOn) (ret : gRv Γ K cX5_goOn (none) (mPv K post) 0 0) : ∀ (n : Nat) (x1 : Int32) (x2 : Int32) (w : Wd) (L : va_W) (h : B_X5_goOn_0 N post n x1 x2 w L), gJ Γ K 0 0 (mL K w ++ L) 0 [(0, .ref (ma K 0)), (1, .int x1), (2, .int x2)] [] := by
  intro n
  induction n with
  | zero => intro x1 x2 w L h; exact h.elim
  | succ n ih => intro x1 x2 w L h; exact k_X5_goOn_0s C ret ih x1 x2 w L h
def B_X5_goOn (N : Nat) (x1 : Int32) (x2 : Int32) (post : Wd → va_W → Prop) (w : Wd) (L : va_W) : Prop := B_X5_goOn_0 N post N x1 x2 w L
theorem m_X5_goOn {l : Launch} {K : gK} {N : Nat} {post : Wd → va_W → Prop} {x1 : Int32} {x2 : Int32} {w : Wd} {L : va_W} (h : B_X5_goOn N x1 x2 post w L) : gMv l K yX5_goOn cX5_goOn 3 (none) rm_X5_goOn [.ref (ma K 0), .int x1, .int x2] (mL K w ++ L) (mPv K post) 0 0 := by
  refine g_inV (ls0 := [(0, .ref (ma K 0)), (1, .int x1), (2, .int x2)]) (by decide) (Nat.le_of_ble_eq_true rfl) rfl (fun Γ hl C hn ret => ?_)
  refine g_sub [0, 1, 2] rfl ?_
  exact k_X5_goOn_0 C ret N x1 x2 w L h
def rm_X5_runOf : Room := { frames := 64, cells := 0, slots := 0, locals := 1517 }
def B_X5_runOf_0 (N : Nat) (post : Wd → va_W → Prop) (x1 : Int32) (x2 : Int64) (x4 : Int32) (w : Wd) (L : va_W) : Prop :=
  B_X5_begin N (xi w 11) x2 (fun (w1 : Wd) (L2 : va_W) =>
  B_X5_goOn N x1 x4 (fun (w3 : Wd) (L4 : va_W) =>
  post w3 L4) w1 L2) w L
set_option maxHeartbeats 4000000 in
theorem k_X5_runOf_0 {Γ : gT} {K : gK} {N : Nat} {post : Wd → va_W → Prop} (C : gC Γ K RX5 cX5_runOf 5 rm_X5_runOf) (ret : gRv Γ K cX5_runOf (none) (mPv K post) 0 0) (x1 : Int32) (x2 : Int64) (x4 : Int32) (w : Wd) (L : va_W) (h : B_X5_runOf_0 N post x1 x2 x4 w L) : gJ Γ K 0 0 (mL K w ++ L) 0 [(0, .ref (ma K 0)), (1, .int x1), (2, .long x2), (4, .int x4)] [] := by
  unfold B_X5_runOf_0 at h
  refine g_aload_n C 0 rfl dX5_runOf_0 ?_
  refine g_aload_n C 0 rfl dX5_runOf_1 ?_
  refine mg_animals C q1017 (xi w 11) rfl dX5_runOf_2 ?_
  refine g_lload_n C 2 rfl dX5_runOf_5 ?_
  refine g_callVv C (As := [.int (xi w 11), .long x2]) (rest := []) (m_X5_begin h) (lw_V q1282 q1284 qs49 q84 q1285) (ci := 12) (qi := 0) rfl rfl ⟨rfl, rfl⟩ ⟨Nat.le_of_ble_eq_true rfl, Nat.le_of_ble_eq_true rfl⟩ 2 rfl (by decide +kernel) rfl (Nat.le_of_ble_eq_true rfl) ⟨Nat.zero_le _, Nat.zero_le _⟩ dX5_runOf_6 ?_
  rintro _ ⟨w1, L2, rfl, h⟩
  refine g_aload_n C 0 rfl dX5_runOf_9 ?_
  refine g_iload_n C 1 rfl dX5_runOf_10 ?_
  refine g_iload C 3 rfl dX5_runOf_11 ?_
  refine g_callVv C (As := [.int x1, .int x4]) (rest := []) (m_X5_goOn h) (lw_V q1374 q1376 qs62 q84 q1377) (ci := 12) (qi := 0) rfl rfl ⟨rfl, rfl⟩ ⟨Nat.le_of_ble_eq_true rfl, Nat.le_of_ble_eq_true rfl⟩ 2 rfl (by decide +kernel) rfl (Nat.le_of_ble_eq_true rfl) ⟨Nat.zero_le _, Nat.zero_le _⟩ dX5_runOf_13 ?_
  rintro _ ⟨w3, L4, rfl, h⟩
  exact ret rfl _ _ _ dX5_runOf_16 ⟨_, _, rfl, h⟩
def B_X5_runOf (N : Nat) (x1 : Int32) (x2 : Int64) (x4 : Int32) (post : Wd → va_W → Prop) (w : Wd) (L : va_W) : Prop := B_X5_runOf_0 N post x1 x2 x4 w L
theorem m_X5_runOf {l : Launch} {K : gK} {N : Nat} {post : Wd → va_W → Prop} {x1 : Int32} {x2 : Int64} {x4 : Int32} {w : Wd} {L : va_W} (h : B_X5_runOf N x1 x2 x4 post w L) : gMv l K yX5_runOf cX5_runOf 5 (none) rm_X5_runOf [.ref (ma K 0), .int x1, .long x2, .int x4] (mL K w ++ L) (mPv K post) 0 0 := by
  refine g_inV (ls0 := [(0, .ref (ma K 0)), (1, .int x1), (2, .long x2), (4, .int x4)]) (by decide) (Nat.le_of_ble_eq_true rfl) rfl (fun Γ hl C hn ret => ?_)
  exact k_X5_runOf_0 C ret x1 x2 x4 w L h
def rm_X5_worth : Room := { frames := 61, cells := 0, slots := 0, locals := 1450 }
def B_X5_worth_31 (N : Nat) (post : Int32 → Wd → va_W → Prop) (x1 : Int32) (x2 : Int32) (x3 : Int32) (s0 : Int32) (w : Wd) (L : va_W) : Prop :=
  ∀ w1 : Wd, w1 = (xsi w 0 s0) → (s0 ≤ 0 →
    B_X5_begin N (xi w1 11) 0 (fun (w2 : Wd) (L3 : va_W) =>
  B_X5_dies N (fun (w4 : Wd) (L5 : va_W) =>
  B_X5_layLetters N x3 (fun (w6 : Wd) (L7 : va_W) =>
  B_J2_charAt_s0 N x2 (fun (v10 : Int32) (w8 : Wd) (L9 : va_W) =>
  B_X5_worthOf N x1 v10 (fun (v13 : Int32) (w11 : Wd) (L12 : va_W) =>
  post v13 w11 L12) w8 L9) w6 L7) w4 L5) w2 L3) w1 L) ∧
  (¬ s0 ≤ 0 →
    post 0 w1 L)
set_option maxHeartbeats 4000000 in
theorem k_X5_worth_31 {Γ : gT} {K : gK} {N : Nat} {post : Int32 → Wd → va_W → Prop} (C : gC Γ K RX5 cX5_worth 4 rm_X5_worth) (ret : gRi Γ K cX5_worth (some .int) (mPi K post) 0 0) (x1 : Int32) (x2 : Int32) (x3 : Int32) (s0 : Int32) (w : Wd) (L : va_W) (h : B_X5_worth_31 N post x1 x2 x3 s0 w L) : gJ Γ K 0 0 (mL K w ++ L) 31 [(0, .ref (ma K 0)), (1, .int x1), (2, .int x2), (3, .int x3)] [.int s0, .ref (ma K 0)] := by
  unfold B_X5_worth_31 at h
  refine mp_thrown C q996 dX5_worth_31 ?_
  refine g_aload_n C 0 rfl dX5_worth_34 ?_
  refine mg_thrown C q996 (s0) rfl dX5_worth_35 ?_
  obtain ⟨w1, ew1⟩ : ∃ z, z = (xsi w 0 s0) := ⟨_, rfl⟩
  replace h := h w1 ew1
  rw [← ew1]
  refine g_if_le C 43 dX5_worth_38 (by decide) (fun hc => ?_) (fun hc => ?_)
  · replace h := h.1 hc
    refine g_aload_n C 0 rfl dX5_worth_43 ?_
    refine g_aload_n C 0 rfl dX5_worth_44 ?_
    refine mg_animals C q1017 (xi w1 11) rfl dX5_worth_45 ?_
    refine g_lconst C 0 (by decide) dX5_worth_48 ?_
    refine g_callVv C (As := [.int (xi w1 11), .long 0]) (rest := []) (m_X5_begin h) (lw_V q1282 q1284 qs49 q84 q1285) (ci := 12) (qi := 0) rfl rfl ⟨rfl, rfl⟩ ⟨Nat.le_of_ble_eq_true rfl, Nat.le_of_ble_eq_true rfl⟩ 2 rfl (by decide +kernel) rfl (Nat.le_of_ble_eq_true rfl) ⟨Nat.zero_le _, Nat.zero_le _⟩ dX5_worth_49 ?_
    rintro _ ⟨w2, L3, rfl, h⟩
    refine g_aload_n C 0 rfl dX5_worth_52 ?_
    refine g_callVv C (As := []) (rest := []) (m_X5_dies h) (lw_V q1342 q1344 qs55 q84 q1345) (ci := 12) (qi := 0) rfl rfl ⟨rfl, rfl⟩ ⟨Nat.le_of_ble_eq_true rfl, Nat.le_of_ble_eq_true rfl⟩ 0 rfl (by decide +kernel) rfl (Nat.le_of_ble_eq_true rfl) ⟨Nat.zero_le _, Nat.zero_le _⟩ dX5_worth_53 ?_
    rintro _ ⟨w4, L5, rfl, h⟩
    refine g_aload_n C 0 rfl dX5_worth_56 ?_
    refine g_iload_n C 3 rfl dX5_worth_57 ?_
    refine g_callVv C (As := [.int x3]) (rest := []) (m_X5_layLetters h) (lw_V q1350 q1352 qs57 q84 q1353) (ci := 12) (qi := 0) rfl rfl ⟨rfl, rfl⟩ ⟨Nat.le_of_ble_eq_true rfl, Nat.le_of_ble_eq_true rfl⟩ 1 rfl (by decide +kernel) rfl (Nat.le_of_ble_eq_true rfl) ⟨Nat.zero_le _, Nat.zero_le _⟩ dX5_worth_58 ?_
    rintro _ ⟨w6, L7, rfl, h⟩
    refine g_aload_n C 0 rfl dX5_worth_61 ?_
    refine g_iload_n C 1 rfl dX5_worth_62 ?_
    refine g_ldcS_OneBearsModel_26 C dX5_worth_63 ?_
    refine g_iload_n C 2 rfl dX5_worth_65 ?_
    refine g_callVKi C (As := [.int x2]) (rest := [.int x1, .ref (ma K 0)]) (m_J2_charAt_s0_m h) (lw_V q1207 q776 q777 q85 q778) (i0 := 0) (by decide) ⟨rfl, rfl⟩ ⟨Nat.le_of_ble_eq_true rfl, Nat.le_of_ble_eq_true rfl⟩ 1 rfl (by decide +kernel) rfl (Nat.le_of_ble_eq_true rfl) ⟨Nat.zero_le _, Nat.zero_le _⟩ dX5_worth_66 ?_
    rintro v10 _ ⟨w8, L9, rfl, h⟩
    refine g_callVi C (As := [.int x1, .int v10]) (rest := []) (m_X5_worthOf h) (lw_V q1362 q1364 qs60 q84 q1365) (ci := 12) (qi := 0) rfl rfl ⟨rfl, rfl⟩ ⟨Nat.le_of_ble_eq_true rfl, Nat.le_of_ble_eq_true rfl⟩ 2 rfl (by decide +kernel) rfl (Nat.le_of_ble_eq_true rfl) ⟨Nat.zero_le _, Nat.zero_le _⟩ dX5_worth_69 ?_
    rintro v13 _ ⟨w11, L12, rfl, h⟩
    exact ret _ _ _ _ _ rfl rfl dX5_worth_72 ⟨_, _, rfl, h⟩
  · replace h := h.2 hc
    refine g_iconst C 0 (by decide) dX5_worth_41 ?_
    exact ret _ _ _ _ _ rfl rfl dX5_worth_42 ⟨_, _, rfl, h⟩
def B_X5_worth_30 (N : Nat) (post : Int32 → Wd → va_W → Prop) (x1 : Int32) (x2 : Int32) (x3 : Int32) (w : Wd) (L : va_W) : Prop :=
  B_X5_worth_31 N post x1 x2 x3 1 w L
set_option maxHeartbeats 4000000 in
theorem k_X5_worth_30 {Γ : gT} {K : gK} {N : Nat} {post : Int32 → Wd → va_W → Prop} (C : gC Γ K RX5 cX5_worth 4 rm_X5_worth) (ret : gRi Γ K cX5_worth (some .int) (mPi K post) 0 0) (x1 : Int32) (x2 : Int32) (x3 : Int32) (w : Wd) (L : va_W) (h : B_X5_worth_30 N post x1 x2 x3 w L) : gJ Γ K 0 0 (mL K w ++ L) 30 [(0, .ref (ma K 0)), (1, .int x1), (2, .int x2), (3, .int x3)] [.ref (ma K 0)] := by
  unfold B_X5_worth_30 at h
  refine g_iconst C 1 (by decide) dX5_worth_30 ?_
  exact k_X5_worth_31 C ret x1 x2 x3 1 w L h
def B_X5_worth_0 (N : Nat) (post : Int32 → Wd → va_W → Prop) (x1 : Int32) (x2 : Int32) (x3 : Int32) (w : Wd) (L : va_W) : Prop :=
  B_X5_isLaw N x1 (fun (v3 : Int32) (w1 : Wd) (L2 : va_W) =>
  (v3 = 0 →
    B_X5_worth_30 N post x1 x2 x3 w1 L2) ∧
  (¬ v3 = 0 →
    B_X5_isIn N x2 0 3 (fun (v6 : Int32) (w4 : Wd) (L5 : va_W) =>
  (v6 = 0 →
      B_X5_worth_30 N post x1 x2 x3 w4 L5) ∧
    (¬ v6 = 0 →
      B_X5_isAnimal N x3 (fun (v9 : Int32) (w7 : Wd) (L8 : va_W) =>
  (v9 = 0 →
        B_X5_worth_30 N post x1 x2 x3 w7 L8) ∧
      (¬ v9 = 0 →
        B_X5_worth_31 N post x1 x2 x3 0 w7 L8)) w4 L5)) w1 L2)) w L
set_option maxHeartbeats 4000000 in
theorem k_X5_worth_0 {Γ : gT} {K : gK} {N : Nat} {post : Int32 → Wd → va_W → Prop} (C : gC Γ K RX5 cX5_worth 4 rm_X5_worth) (ret : gRi Γ K cX5_worth (some .int) (mPi K post) 0 0) (x1 : Int32) (x2 : Int32) (x3 : Int32) (w : Wd) (L : va_W) (h : B_X5_worth_0 N post x1 x2 x3 w L) : gJ Γ K 0 0 (mL K w ++ L) 0 [(0, .ref (ma K 0)), (1, .int x1), (2, .int x2), (3, .int x3)] [] := by
  unfold B_X5_worth_0 at h
  refine g_aload_n C 0 rfl dX5_worth_0 ?_
  refine g_aload_n C 0 rfl dX5_worth_1 ?_
  refine g_iload_n C 1 rfl dX5_worth_2 ?_
  refine g_callVi C (As := [.int x1]) (rest := [.ref (ma K 0)]) (m_X5_isLaw h) (lw_V q1338 q1340 qs54 q84 q1341) (ci := 12) (qi := 0) rfl rfl ⟨rfl, rfl⟩ ⟨Nat.le_of_ble_eq_true rfl, Nat.le_of_ble_eq_true rfl⟩ 1 rfl (by decide +kernel) rfl (Nat.le_of_ble_eq_true rfl) ⟨Nat.zero_le _, Nat.zero_le _⟩ dX5_worth_3 ?_
  rintro v3 _ ⟨w1, L2, rfl, h⟩
  refine g_if_eq C 30 dX5_worth_6 (by decide) (fun hc => ?_) (fun hc => ?_)
  · replace h := h.1 hc
    exact k_X5_worth_30 C ret x1 x2 x3 w1 L2 h
  · replace h := h.2 hc
    refine g_iload_n C 2 rfl dX5_worth_9 ?_
    refine g_iconst C 0 (by decide) dX5_worth_10 ?_
    refine g_iconst C 3 (by decide) dX5_worth_11 ?_
    refine g_callSi C (As := [.int x2, .int 0, .int 3]) (rest := [.ref (ma K 0)]) (m_X5_isIn h) (Cn := "") (b := 0) (lw_S q1270 q1271 q84 q1272) ⟨rfl, rfl⟩ ⟨Nat.le_of_ble_eq_true rfl, Nat.le_of_ble_eq_true rfl⟩ 3 rfl (by decide +kernel) rfl (Nat.le_of_ble_eq_true rfl) ⟨Nat.zero_le _, Nat.zero_le _⟩ dX5_worth_12 ?_
    rintro v6 _ ⟨w4, L5, rfl, h⟩
    refine g_if_eq C 30 dX5_worth_15 (by decide) (fun hc => ?_) (fun hc => ?_)
    · replace h := h.1 hc
      exact k_X5_worth_30 C ret x1 x2 x3 w4 L5 h
    · replace h := h.2 hc
      refine g_aload_n C 0 rfl dX5_worth_18 ?_
      refine g_iload_n C 3 rfl dX5_worth_19 ?_
      refine g_callVi C (As := [.int x3]) (rest := [.ref (ma K 0)]) (m_X5_isAnimal h) (lw_V q1273 q1275 qs48 q84 q1276) (ci := 12) (qi := 0) rfl rfl ⟨rfl, rfl⟩ ⟨Nat.le_of_ble_eq_true rfl, Nat.le_of_ble_eq_true rfl⟩ 1 rfl (by decide +kernel) rfl (Nat.le_of_ble_eq_true rfl) ⟨Nat.zero_le _, Nat.zero_le _⟩ dX5_worth_20 ?_
      rintro v9 _ ⟨w7, L8, rfl, h⟩
      refine g_if_eq C 30 dX5_worth_23 (by decide) (fun hc => ?_) (fun hc => ?_)
      · replace h := h.1 hc
        exact k_X5_worth_30 C ret x1 x2 x3 w7 L8 h
      · replace h := h.2 hc
        refine g_iconst C 0 (by decide) dX5_worth_26 ?_
        refine g_goto C 31 dX5_worth_27 (by decide) ?_
        exact k_X5_worth_31 C ret x1 x2 x3 0 w7 L8 h
def B_X5_worth (N : Nat) (x1 : Int32) (x2 : Int32) (x3 : Int32) (post : Int32 → Wd → va_W → Prop) (w : Wd) (L : va_W) : Prop := B_X5_worth_0 N post x1 x2 x3 w L
theorem m_X5_worth {l : Launch} {K : gK} {N : Nat} {post : Int32 → Wd → va_W → Prop} {x1 : Int32} {x2 : Int32} {x3 : Int32} {w : Wd} {L : va_W} (h : B_X5_worth N x1 x2 x3 post w L) : gMi l K yX5_worth cX5_worth 4 (some .int) rm_X5_worth [.ref (ma K 0), .int x1, .int x2, .int x3] (mL K w ++ L) (mPi K post) 0 0 := by
  refine g_inI (ls0 := [(0, .ref (ma K 0)), (1, .int x1), (2, .int x2), (3, .int x3)]) (by decide) (Nat.le_of_ble_eq_true rfl) rfl (fun Γ hl C hn ret => ?_)
  exact k_X5_worth_0 C ret x1 x2 x3 w L h
def rm_X5_run : Room := { frames := 65, cells := 0, slots := 0, locals := 1541 }
def B_X5_run_39 (N : Nat) (post : Int32 → Wd → va_W → Prop) (w : Wd) (L : va_W) : Prop :=
  post (-1000) w L
set_option maxHeartbeats 4000000 in
theorem k_X5_run_39 {Γ : gT} {K : gK} {N : Nat} {post : Int32 → Wd → va_W → Prop} (C : gC Γ K RX5 cX5_run 7 rm_X5_run) (ret : gRi Γ K cX5_run (some .int) (mPi K post) 0 0) (w : Wd) (L : va_W) (h : B_X5_run_39 N post w L) : gJ Γ K 0 0 (mL K w ++ L) 39 [] [] := by
  unfold B_X5_run_39 at h
  refine g_sipush C (-1000) (by decide) dX5_run_39 ?_
  exact ret _ _ _ _ _ rfl rfl dX5_run_42 ⟨_, _, rfl, h⟩
def B_X5_run_118 (N : Nat) (post : Int32 → Wd → va_W → Prop) (s0 : Int32) (w : Wd) (L : va_W) : Prop :=
  post s0 w L
set_option maxHeartbeats 4000000 in
theorem k_X5_run_118 {Γ : gT} {K : gK} {N : Nat} {post : Int32 → Wd → va_W → Prop} (C : gC Γ K RX5 cX5_run 7 rm_X5_run) (ret : gRi Γ K cX5_run (some .int) (mPi K post) 0 0) (s0 : Int32) (w : Wd) (L : va_W) (h : B_X5_run_118 N post s0 w L) : gJ Γ K 0 0 (mL K w ++ L) 118 [] [.int s0] := by
  unfold B_X5_run_118 at h
  exact ret _ _ _ _ _ rfl rfl dX5_run_118 ⟨_, _, rfl, h⟩
def B_X5_run_0 (N : Nat) (post : Int32 → Wd → va_W → Prop) (x1 : Int32) (x2 : Int64) (x4 : Int32) (x5 : Int32) (x6 : Int32) (w : Wd) (L : va_W) : Prop :=
  B_X5_isLaw N x1 (fun (v3 : Int32) (w1 : Wd) (L2 : va_W) =>
  (v3 = 0 →
    B_X5_run_39 N post w1 L2) ∧
  (¬ v3 = 0 →
    B_X5_isIn N x4 0 24 (fun (v6 : Int32) (w4 : Wd) (L5 : va_W) =>
  (v6 = 0 →
      B_X5_run_39 N post w4 L5) ∧
    (¬ v6 = 0 →
      (x5 < 0 →
        B_X5_run_39 N post w4 L5) ∧
      (¬ x5 < 0 →
        B_X5_isIn N x6 0 3 (fun (v9 : Int32) (w7 : Wd) (L8 : va_W) =>
  (v9 = 0 →
          B_X5_run_39 N post w7 L8) ∧
        (¬ v9 = 0 →
          B_X5_runOf N x1 x2 x4 (fun (w10 : Wd) (L11 : va_W) =>
  (x5 < (xi w10 15) →
            (x6 = 0 →
              vp_in x5 24 ∧ B_X5_run_118 N post (xA w10 14 x5.toNatClampNeg) w10 L11) ∧
            (¬ x6 = 0 →
              (x6 = (1 : Int32) →
                vp_in x5 24 ∧ B_X5_run_118 N post (xA w10 13 x5.toNatClampNeg) w10 L11) ∧
              (¬ x6 = (1 : Int32) →
                (x6 = (2 : Int32) →
                  vp_in x5 24 ∧ B_X5_run_118 N post (xA w10 15 x5.toNatClampNeg) w10 L11) ∧
                (¬ x6 = (2 : Int32) →
                  vp_in x5 24 ∧ B_X5_run_118 N post (xA w10 16 x5.toNatClampNeg) w10 L11)))) ∧
          (¬ x5 < (xi w10 15) →
            post (-1000) w10 L11)) w7 L8)) w4 L5))) w1 L2)) (xsi w 0 0) L
set_option maxHeartbeats 4000000 in
theorem k_X5_run_0 {Γ : gT} {K : gK} {N : Nat} {post : Int32 → Wd → va_W → Prop} (C : gC Γ K RX5 cX5_run 7 rm_X5_run) (ret : gRi Γ K cX5_run (some .int) (mPi K post) 0 0) (x1 : Int32) (x2 : Int64) (x4 : Int32) (x5 : Int32) (x6 : Int32) (w : Wd) (L : va_W) (h : B_X5_run_0 N post x1 x2 x4 x5 x6 w L) : gJ Γ K 0 0 (mL K w ++ L) 0 [(0, .ref (ma K 0)), (1, .int x1), (2, .long x2), (4, .int x4), (5, .int x5), (6, .int x6)] [] := by
  unfold B_X5_run_0 at h
  refine g_aload_n C 0 rfl dX5_run_0 ?_
  refine g_iconst C 0 (by decide) dX5_run_1 ?_
  refine mp_thrown C q996 dX5_run_2 ?_
  refine g_aload_n C 0 rfl dX5_run_5 ?_
  refine g_iload_n C 1 rfl dX5_run_6 ?_
  refine g_callVi C (As := [.int x1]) (rest := []) (m_X5_isLaw h) (lw_V q1338 q1340 qs54 q84 q1341) (ci := 12) (qi := 0) rfl rfl ⟨rfl, rfl⟩ ⟨Nat.le_of_ble_eq_true rfl, Nat.le_of_ble_eq_true rfl⟩ 1 rfl (by decide +kernel) rfl (Nat.le_of_ble_eq_true rfl) ⟨Nat.zero_le _, Nat.zero_le _⟩ dX5_run_7 ?_
  rintro v3 _ ⟨w1, L2, rfl, h⟩
  refine g_if_eq C 39 dX5_run_10 (by decide) (fun hc => ?_) (fun hc => ?_)
  · replace h := h.1 hc
    refine g_sub [] rfl ?_
    exact k_X5_run_39 C ret w1 L2 h
  · replace h := h.2 hc
    refine g_iload C 3 rfl dX5_run_13 ?_
    refine g_iconst C 0 (by decide) dX5_run_15 ?_
    refine g_bipush C 24 (by decide) dX5_run_16 ?_
    refine g_callSi C (As := [.int x4, .int 0, .int 24]) (rest := []) (m_X5_isIn h) (Cn := "") (b := 0) (lw_S q1270 q1271 q84 q1272) ⟨rfl, rfl⟩ ⟨Nat.le_of_ble_eq_true rfl, Nat.le_of_ble_eq_true rfl⟩ 3 rfl (by decide +kernel) rfl (Nat.le_of_ble_eq_true rfl) ⟨Nat.zero_le _, Nat.zero_le _⟩ dX5_run_18 ?_
    rintro v6 _ ⟨w4, L5, rfl, h⟩
    refine g_if_eq C 39 dX5_run_21 (by decide) (fun hc => ?_) (fun hc => ?_)
    · replace h := h.1 hc
      refine g_sub [] rfl ?_
      exact k_X5_run_39 C ret w4 L5 h
    · replace h := h.2 hc
      refine g_iload C 4 rfl dX5_run_24 ?_
      refine g_if_lt C 39 dX5_run_26 (by decide) (fun hc => ?_) (fun hc => ?_)
      · replace h := h.1 hc
        refine g_sub [] rfl ?_
        exact k_X5_run_39 C ret w4 L5 h
      · replace h := h.2 hc
        refine g_iload C 5 rfl dX5_run_29 ?_
        refine g_iconst C 0 (by decide) dX5_run_31 ?_
        refine g_iconst C 3 (by decide) dX5_run_32 ?_
        refine g_callSi C (As := [.int x6, .int 0, .int 3]) (rest := []) (m_X5_isIn h) (Cn := "") (b := 0) (lw_S q1270 q1271 q84 q1272) ⟨rfl, rfl⟩ ⟨Nat.le_of_ble_eq_true rfl, Nat.le_of_ble_eq_true rfl⟩ 3 rfl (by decide +kernel) rfl (Nat.le_of_ble_eq_true rfl) ⟨Nat.zero_le _, Nat.zero_le _⟩ dX5_run_33 ?_
        rintro v9 _ ⟨w7, L8, rfl, h⟩
        refine g_if_ne C 43 dX5_run_36 (by decide) (fun hc => ?_) (fun hc => ?_)
        · replace h := h.2 hc
          refine g_aload_n C 0 rfl dX5_run_43 ?_
          refine g_iload_n C 1 rfl dX5_run_44 ?_
          refine g_lload_n C 2 rfl dX5_run_45 ?_
          refine g_iload C 3 rfl dX5_run_46 ?_
          refine g_callVv C (As := [.int x1, .long x2, .int x4]) (rest := []) (m_X5_runOf h) (lw_V q1370 q1372 qs61 q84 q1373) (ci := 12) (qi := 0) rfl rfl ⟨rfl, rfl⟩ ⟨Nat.le_of_ble_eq_true rfl, Nat.le_of_ble_eq_true rfl⟩ 3 rfl (by decide +kernel) rfl (Nat.le_of_ble_eq_true rfl) ⟨Nat.zero_le _, Nat.zero_le _⟩ dX5_run_48 ?_
          rintro _ ⟨w10, L11, rfl, h⟩
          refine g_iload C 4 rfl dX5_run_51 ?_
          refine g_aload_n C 0 rfl dX5_run_53 ?_
          refine mg_ever C q1034 (xi w10 15) rfl dX5_run_54 ?_
          refine g_icmp_lt C 64 dX5_run_57 (by decide) (fun hc => ?_) (fun hc => ?_)
          · replace h := h.1 hc
            refine g_iload C 5 rfl dX5_run_64 ?_
            refine g_if_ne C 79 dX5_run_66 (by decide) (fun hc => ?_) (fun hc => ?_)
            · replace h := h.2 hc
              refine g_iload C 5 rfl dX5_run_79 ?_
              refine g_iconst C 1 (by decide) dX5_run_81 ?_
              refine g_icmp_ne C 95 dX5_run_82 (by decide) (fun hc => ?_) (fun hc => ?_)
              · replace h := h.2 hc
                refine g_iload C 5 rfl dX5_run_95 ?_
                refine g_iconst C 2 (by decide) dX5_run_97 ?_
                refine g_icmp_ne C 111 dX5_run_98 (by decide) (fun hc => ?_) (fun hc => ?_)
                · replace h := h.2 hc
                  refine g_aload_n C 0 rfl dX5_run_111 ?_
                  refine mg_born C q1028 dX5_run_112 ?_
                  refine g_iload C 4 rfl dX5_run_115 ?_
                  obtain ⟨hb, h⟩ := h
                  refine mld_16 C hb (xA w10 16 x5.toNatClampNeg) rfl dX5_run_117 ?_
                  refine g_sub [] rfl ?_
                  exact k_X5_run_118 C ret (xA w10 16 x5.toNatClampNeg) w10 L11 h
                · replace h := h.1 hc
                  refine g_aload_n C 0 rfl dX5_run_101 ?_
                  refine mg_when C q1027 dX5_run_102 ?_
                  refine g_iload C 4 rfl dX5_run_105 ?_
                  obtain ⟨hb, h⟩ := h
                  refine mld_15 C hb (xA w10 15 x5.toNatClampNeg) rfl dX5_run_107 ?_
                  refine g_goto C 118 dX5_run_108 (by decide) ?_
                  refine g_sub [] rfl ?_
                  exact k_X5_run_118 C ret (xA w10 15 x5.toNatClampNeg) w10 L11 h
              · replace h := h.1 hc
                refine g_aload_n C 0 rfl dX5_run_85 ?_
                refine mg_weight C q1025 dX5_run_86 ?_
                refine g_iload C 4 rfl dX5_run_89 ?_
                obtain ⟨hb, h⟩ := h
                refine mld_13 C hb (xA w10 13 x5.toNatClampNeg) rfl dX5_run_91 ?_
                refine g_goto C 118 dX5_run_92 (by decide) ?_
                refine g_sub [] rfl ?_
                exact k_X5_run_118 C ret (xA w10 13 x5.toNatClampNeg) w10 L11 h
            · replace h := h.1 hc
              refine g_aload_n C 0 rfl dX5_run_69 ?_
              refine mg_state C q1026 dX5_run_70 ?_
              refine g_iload C 4 rfl dX5_run_73 ?_
              obtain ⟨hb, h⟩ := h
              refine mld_14 C hb (xA w10 14 x5.toNatClampNeg) rfl dX5_run_75 ?_
              refine g_goto C 118 dX5_run_76 (by decide) ?_
              refine g_sub [] rfl ?_
              exact k_X5_run_118 C ret (xA w10 14 x5.toNatClampNeg) w10 L11 h
          · replace h := h.2 hc
            refine g_sipush C (-1000) (by decide) dX5_run_60 ?_
            exact ret _ _ _ _ _ rfl rfl dX5_run_63 ⟨_, _, rfl, h⟩
        · replace h := h.1 hc
          refine g_sub [] rfl ?_
          exact k_X5_run_39 C ret w7 L8 h
def B_X5_run (N : Nat) (x1 : Int32) (x2 : Int64) (x4 : Int32) (x5 : Int32) (x6 : Int32) (post : Int32 → Wd → va_W → Prop) (w : Wd) (L : va_W) : Prop := B_X5_run_0 N post x1 x2 x4 x5 x6 w L
theorem m_X5_run {l : Launch} {K : gK} {N : Nat} {post : Int32 → Wd → va_W → Prop} {x1 : Int32} {x2 : Int64} {x4 : Int32} {x5 : Int32} {x6 : Int32} {w : Wd} {L : va_W} (h : B_X5_run N x1 x2 x4 x5 x6 post w L) : gMi l K yX5_run cX5_run 7 (some .int) rm_X5_run [.ref (ma K 0), .int x1, .long x2, .int x4, .int x5, .int x6] (mL K w ++ L) (mPi K post) 0 0 := by
  refine g_inI (ls0 := [(0, .ref (ma K 0)), (1, .int x1), (2, .long x2), (4, .int x4), (5, .int x5), (6, .int x6)]) (by decide) (Nat.le_of_ble_eq_true rfl) rfl (fun Γ hl C hn ret => ?_)
  exact k_X5_run_0 C ret x1 x2 x4 x5 x6 w L h
def rm_X5_all : Room := { frames := 65, cells := 0, slots := 0, locals := 1541 }
def B_X5_all_35 (N : Nat) (post : Int32 → Wd → va_W → Prop) (w : Wd) (L : va_W) : Prop :=
  post (-1000) w L
set_option maxHeartbeats 4000000 in
theorem k_X5_all_35 {Γ : gT} {K : gK} {N : Nat} {post : Int32 → Wd → va_W → Prop} (C : gC Γ K RX5 cX5_all 6 rm_X5_all) (ret : gRi Γ K cX5_all (some .int) (mPi K post) 0 0) (w : Wd) (L : va_W) (h : B_X5_all_35 N post w L) : gJ Γ K 0 0 (mL K w ++ L) 35 [] [] := by
  unfold B_X5_all_35 at h
  refine g_sipush C (-1000) (by decide) dX5_all_35 ?_
  exact ret _ _ _ _ _ rfl rfl dX5_all_38 ⟨_, _, rfl, h⟩
def B_X5_all_0 (N : Nat) (post : Int32 → Wd → va_W → Prop) (x1 : Int32) (x2 : Int64) (x4 : Int32) (x5 : Int32) (w : Wd) (L : va_W) : Prop :=
  B_X5_isLaw N x1 (fun (v3 : Int32) (w1 : Wd) (L2 : va_W) =>
  (v3 = 0 →
    B_X5_all_35 N post w1 L2) ∧
  (¬ v3 = 0 →
    B_X5_isIn N x4 0 24 (fun (v6 : Int32) (w4 : Wd) (L5 : va_W) =>
  (v6 = 0 →
      B_X5_all_35 N post w4 L5) ∧
    (¬ v6 = 0 →
      B_X5_isIn N x5 0 6 (fun (v9 : Int32) (w7 : Wd) (L8 : va_W) =>
  (v9 = 0 →
        B_X5_all_35 N post w7 L8) ∧
      (¬ v9 = 0 →
        B_X5_runOf N x1 x2 x4 (fun (w10 : Wd) (L11 : va_W) =>
  (x5 = 0 →
          B_X5_there N (fun (v14 : Int32) (w12 : Wd) (L13 : va_W) =>
  post v14 w12 L13) w10 L11) ∧
        (¬ x5 = 0 →
        (x5 = 1 →
          post (xi w10 16) w10 L11) ∧
        (¬ x5 = 1 →
        (x5 = 2 →
          post (xi w10 17) w10 L11) ∧
        (¬ x5 = 2 →
        (x5 = 3 →
          post (xi w10 15) w10 L11) ∧
        (¬ x5 = 3 →
        (x5 = 4 →
          B_X5_manyOf N 1 (fun (v17 : Int32) (w15 : Wd) (L16 : va_W) =>
  post v17 w15 L16) w10 L11) ∧
        (¬ x5 = 4 →
        (x5 = 5 →
          B_X5_manyOf N 2 (fun (v20 : Int32) (w18 : Wd) (L19 : va_W) =>
  post v20 w18 L19) w10 L11) ∧
        (¬ x5 = 5 →
        post (xi w10 19) w10 L11))))))) w7 L8)) w4 L5)) w1 L2)) (xsi w 0 0) L
set_option maxHeartbeats 4000000 in
theorem k_X5_all_0 {Γ : gT} {K : gK} {N : Nat} {post : Int32 → Wd → va_W → Prop} (C : gC Γ K RX5 cX5_all 6 rm_X5_all) (ret : gRi Γ K cX5_all (some .int) (mPi K post) 0 0) (x1 : Int32) (x2 : Int64) (x4 : Int32) (x5 : Int32) (w : Wd) (L : va_W) (h : B_X5_all_0 N post x1 x2 x4 x5 w L) : gJ Γ K 0 0 (mL K w ++ L) 0 [(0, .ref (ma K 0)), (1, .int x1), (2, .long x2), (4, .int x4), (5, .int x5)] [] := by
  unfold B_X5_all_0 at h
  refine g_aload_n C 0 rfl dX5_all_0 ?_
  refine g_iconst C 0 (by decide) dX5_all_1 ?_
  refine mp_thrown C q996 dX5_all_2 ?_
  refine g_aload_n C 0 rfl dX5_all_5 ?_
  refine g_iload_n C 1 rfl dX5_all_6 ?_
  refine g_callVi C (As := [.int x1]) (rest := []) (m_X5_isLaw h) (lw_V q1338 q1340 qs54 q84 q1341) (ci := 12) (qi := 0) rfl rfl ⟨rfl, rfl⟩ ⟨Nat.le_of_ble_eq_true rfl, Nat.le_of_ble_eq_true rfl⟩ 1 rfl (by decide +kernel) rfl (Nat.le_of_ble_eq_true rfl) ⟨Nat.zero_le _, Nat.zero_le _⟩ dX5_all_7 ?_
  rintro v3 _ ⟨w1, L2, rfl, h⟩
  refine g_if_eq C 35 dX5_all_10 (by decide) (fun hc => ?_) (fun hc => ?_)
  · replace h := h.1 hc
    refine g_sub [] rfl ?_
    exact k_X5_all_35 C ret w1 L2 h
  · replace h := h.2 hc
    refine g_iload C 3 rfl dX5_all_13 ?_
    refine g_iconst C 0 (by decide) dX5_all_15 ?_
    refine g_bipush C 24 (by decide) dX5_all_16 ?_
    refine g_callSi C (As := [.int x4, .int 0, .int 24]) (rest := []) (m_X5_isIn h) (Cn := "") (b := 0) (lw_S q1270 q1271 q84 q1272) ⟨rfl, rfl⟩ ⟨Nat.le_of_ble_eq_true rfl, Nat.le_of_ble_eq_true rfl⟩ 3 rfl (by decide +kernel) rfl (Nat.le_of_ble_eq_true rfl) ⟨Nat.zero_le _, Nat.zero_le _⟩ dX5_all_18 ?_
    rintro v6 _ ⟨w4, L5, rfl, h⟩
    refine g_if_eq C 35 dX5_all_21 (by decide) (fun hc => ?_) (fun hc => ?_)
    · replace h := h.1 hc
      refine g_sub [] rfl ?_
      exact k_X5_all_35 C ret w4 L5 h
    · replace h := h.2 hc
      refine g_iload C 4 rfl dX5_all_24 ?_
      refine g_iconst C 0 (by decide) dX5_all_26 ?_
      refine g_bipush C 6 (by decide) dX5_all_27 ?_
      refine g_callSi C (As := [.int x5, .int 0, .int 6]) (rest := []) (m_X5_isIn h) (Cn := "") (b := 0) (lw_S q1270 q1271 q84 q1272) ⟨rfl, rfl⟩ ⟨Nat.le_of_ble_eq_true rfl, Nat.le_of_ble_eq_true rfl⟩ 3 rfl (by decide +kernel) rfl (Nat.le_of_ble_eq_true rfl) ⟨Nat.zero_le _, Nat.zero_le _⟩ dX5_all_29 ?_
      rintro v9 _ ⟨w7, L8, rfl, h⟩
      refine g_if_ne C 39 dX5_all_32 (by decide) (fun hc => ?_) (fun hc => ?_)
      · replace h := h.2 hc
        refine g_aload_n C 0 rfl dX5_all_39 ?_
        refine g_iload_n C 1 rfl dX5_all_40 ?_
        refine g_lload_n C 2 rfl dX5_all_41 ?_
        refine g_iload C 3 rfl dX5_all_42 ?_
        refine g_callVv C (As := [.int x1, .long x2, .int x4]) (rest := []) (m_X5_runOf h) (lw_V q1370 q1372 qs61 q84 q1373) (ci := 12) (qi := 0) rfl rfl ⟨rfl, rfl⟩ ⟨Nat.le_of_ble_eq_true rfl, Nat.le_of_ble_eq_true rfl⟩ 3 rfl (by decide +kernel) rfl (Nat.le_of_ble_eq_true rfl) ⟨Nat.zero_le _, Nat.zero_le _⟩ dX5_all_44 ?_
        rintro _ ⟨w10, L11, rfl, h⟩
        refine g_iload C 4 rfl dX5_all_47 ?_
        by_cases hc0 : x5 = 0
        · replace h := h.1 hc0
          refine g_tableIn C 88 dX5_all_49 (n := 0) (by rw [hc0]; decide) (by decide) (by decide) rfl (by decide) ?_
          refine g_aload_n C 0 rfl dX5_all_88 ?_
          refine g_callVi C (As := []) (rest := []) (m_X5_there h) (lw_V q1354 q1356 qs58 q84 q1357) (ci := 12) (qi := 0) rfl rfl ⟨rfl, rfl⟩ ⟨Nat.le_of_ble_eq_true rfl, Nat.le_of_ble_eq_true rfl⟩ 0 rfl (by decide +kernel) rfl (Nat.le_of_ble_eq_true rfl) ⟨Nat.zero_le _, Nat.zero_le _⟩ dX5_all_89 ?_
          rintro v14 _ ⟨w12, L13, rfl, h⟩
          exact ret _ _ _ _ _ rfl rfl dX5_all_92 ⟨_, _, rfl, h⟩
        · replace h := h.2 hc0
          by_cases hc1 : x5 = 1
          · replace h := h.1 hc1
            refine g_tableIn C 93 dX5_all_49 (n := 1) (by rw [hc1]; decide) (by decide) (by decide) rfl (by decide) ?_
            refine g_aload_n C 0 rfl dX5_all_93 ?_
            refine mg_store C q1035 (xi w10 16) rfl dX5_all_94 ?_
            exact ret _ _ _ _ _ rfl rfl dX5_all_97 ⟨_, _, rfl, h⟩
          · replace h := h.2 hc1
            by_cases hc2 : x5 = 2
            · replace h := h.1 hc2
              refine g_tableIn C 98 dX5_all_49 (n := 2) (by rw [hc2]; decide) (by decide) (by decide) rfl (by decide) ?_
              refine g_aload_n C 0 rfl dX5_all_98 ?_
              refine mg_queen C q1036 (xi w10 17) rfl dX5_all_99 ?_
              exact ret _ _ _ _ _ rfl rfl dX5_all_102 ⟨_, _, rfl, h⟩
            · replace h := h.2 hc2
              by_cases hc3 : x5 = 3
              · replace h := h.1 hc3
                refine g_tableIn C 103 dX5_all_49 (n := 3) (by rw [hc3]; decide) (by decide) (by decide) rfl (by decide) ?_
                refine g_aload_n C 0 rfl dX5_all_103 ?_
                refine mg_ever C q1034 (xi w10 15) rfl dX5_all_104 ?_
                exact ret _ _ _ _ _ rfl rfl dX5_all_107 ⟨_, _, rfl, h⟩
              · replace h := h.2 hc3
                by_cases hc4 : x5 = 4
                · replace h := h.1 hc4
                  refine g_tableIn C 108 dX5_all_49 (n := 4) (by rw [hc4]; decide) (by decide) (by decide) rfl (by decide) ?_
                  refine g_aload_n C 0 rfl dX5_all_108 ?_
                  refine g_iconst C 1 (by decide) dX5_all_109 ?_
                  refine g_callVi C (As := [.int 1]) (rest := []) (m_X5_manyOf h) (lw_V q1415 q1417 qs70 q84 q1418) (ci := 12) (qi := 0) rfl rfl ⟨rfl, rfl⟩ ⟨Nat.le_of_ble_eq_true rfl, Nat.le_of_ble_eq_true rfl⟩ 1 rfl (by decide +kernel) rfl (Nat.le_of_ble_eq_true rfl) ⟨Nat.zero_le _, Nat.zero_le _⟩ dX5_all_110 ?_
                  rintro v17 _ ⟨w15, L16, rfl, h⟩
                  exact ret _ _ _ _ _ rfl rfl dX5_all_113 ⟨_, _, rfl, h⟩
                · replace h := h.2 hc4
                  by_cases hc5 : x5 = 5
                  · replace h := h.1 hc5
                    refine g_tableIn C 114 dX5_all_49 (n := 5) (by rw [hc5]; decide) (by decide) (by decide) rfl (by decide) ?_
                    refine g_aload_n C 0 rfl dX5_all_114 ?_
                    refine g_iconst C 2 (by decide) dX5_all_115 ?_
                    refine g_callVi C (As := [.int 2]) (rest := []) (m_X5_manyOf h) (lw_V q1415 q1417 qs70 q84 q1418) (ci := 12) (qi := 0) rfl rfl ⟨rfl, rfl⟩ ⟨Nat.le_of_ble_eq_true rfl, Nat.le_of_ble_eq_true rfl⟩ 1 rfl (by decide +kernel) rfl (Nat.le_of_ble_eq_true rfl) ⟨Nat.zero_le _, Nat.zero_le _⟩ dX5_all_116 ?_
                    rintro v20 _ ⟨w18, L19, rfl, h⟩
                    exact ret _ _ _ _ _ rfl rfl dX5_all_119 ⟨_, _, rfl, h⟩
                  · replace h := h.2 hc5
                    have n0 := lv_neT hc0 (a := 0) (by decide)
                    have n1 := lv_neT hc1 (a := 1) (by decide)
                    have n2 := lv_neT hc2 (a := 2) (by decide)
                    have n3 := lv_neT hc3 (a := 3) (by decide)
                    have n4 := lv_neT hc4 (a := 4) (by decide)
                    have n5 := lv_neT hc5 (a := 5) (by decide)
                    refine g_tableOut C 120 dX5_all_49 (by omega) (by decide) ?_
                    refine g_aload_n C 0 rfl dX5_all_120 ?_
                    refine mg_wars C q1038 (xi w10 19) rfl dX5_all_121 ?_
                    exact ret _ _ _ _ _ rfl rfl dX5_all_124 ⟨_, _, rfl, h⟩
      · replace h := h.1 hc
        refine g_sub [] rfl ?_
        exact k_X5_all_35 C ret w7 L8 h
def B_X5_all (N : Nat) (x1 : Int32) (x2 : Int64) (x4 : Int32) (x5 : Int32) (post : Int32 → Wd → va_W → Prop) (w : Wd) (L : va_W) : Prop := B_X5_all_0 N post x1 x2 x4 x5 w L
theorem m_X5_all {l : Launch} {K : gK} {N : Nat} {post : Int32 → Wd → va_W → Prop} {x1 : Int32} {x2 : Int64} {x4 : Int32} {x5 : Int32} {w : Wd} {L : va_W} (h : B_X5_all N x1 x2 x4 x5 post w L) : gMi l K yX5_all cX5_all 6 (some .int) rm_X5_all [.ref (ma K 0), .int x1, .long x2, .int x4, .int x5] (mL K w ++ L) (mPi K post) 0 0 := by
  refine g_inI (ls0 := [(0, .ref (ma K 0)), (1, .int x1), (2, .long x2), (4, .int x4), (5, .int x5)]) (by decide) (Nat.le_of_ble_eq_true rfl) rfl (fun Γ hl C hn ret => ?_)
  exact k_X5_all_0 C ret x1 x2 x4 x5 w L h
def rm_X5_fitsAll : Room := { frames := 64, cells := 0, slots := 0, locals := 1517 }
def B_X5_fitsAll_77 (r12 : Int32 → Int32 → Wd → va_W → Prop) (r29 : Int32 → Int32 → Int32 → Wd → va_W → Prop) (N : Nat) (post : Int32 → Wd → va_W → Prop) (x1 : Int32) (x4 : Int32) (x5 : Int32) (w : Wd) (L : va_W) : Prop :=
  r29 x1 x4 (x5 + 1) w L
set_option maxHeartbeats 4000000 in
theorem k_X5_fitsAll_77 {Γ : gT} {K : gK} {N : Nat} {post : Int32 → Wd → va_W → Prop} (C : gC Γ K RX5 cX5_fitsAll 6 rm_X5_fitsAll) (ret : gRi Γ K cX5_fitsAll (some .boolean) (mPi K post) 0 0) {r12 : Int32 → Int32 → Wd → va_W → Prop} (hr12 : ∀ (x1 : Int32) (x4 : Int32) (w : Wd) (L : va_W), r12 x1 x4 w L → gJ Γ K 0 0 (mL K w ++ L) 12 [(0, .ref (ma K 0)), (1, .int x1), (4, .int x4)] []) {r29 : Int32 → Int32 → Int32 → Wd → va_W → Prop} (hr29 : ∀ (x1 : Int32) (x4 : Int32) (x5 : Int32) (w : Wd) (L : va_W), r29 x1 x4 x5 w L → gJ Γ K 0 0 (mL K w ++ L) 29 [(0, .ref (ma K 0)), (1, .int x1), (4, .int x4), (5, .int x5)] []) (x1 : Int32) (x4 : Int32) (x5 : Int32) (w : Wd) (L : va_W) (h : B_X5_fitsAll_77 r12 r29 N post x1 x4 x5 w L) : gJ Γ K 0 0 (mL K w ++ L) 77 [(0, .ref (ma K 0)), (1, .int x1), (4, .int x4), (5, .int x5)] [] := by
  unfold B_X5_fitsAll_77 at h
  refine g_iinc C 3 (x5 + 1) (lt := [(5, .int (x5 + 1)), (0, .ref (ma K 0)), (1, .int x1), (4, .int x4)]) rfl rfl dX5_fitsAll_77 (by decide) rfl ?_
  refine g_goto C 29 dX5_fitsAll_80 (by decide) ?_
  refine g_sub [1, 2, 3, 0] rfl ?_
  exact hr29 x1 x4 (x5 + 1) w L h
def B_X5_fitsAll_29s (r12 : Int32 → Int32 → Wd → va_W → Prop) (r29 : Int32 → Int32 → Int32 → Wd → va_W → Prop) (N : Nat) (post : Int32 → Wd → va_W → Prop) (x1 : Int32) (x4 : Int32) (x5 : Int32) (w : Wd) (L : va_W) : Prop :=
  ((xi w 25) ≤ x5 →
    r12 x1 (x4 + 1) w L) ∧
  (¬ (xi w 25) ≤ x5 →
    vp_in x5 12 ∧ ((xA w 21 x5.toNatClampNeg) = x4 →
      B_X5_there N (fun (v3 : Int32) (w1 : Wd) (L2 : va_W) =>
  vp_in x5 12 ∧ vp_in x5 12 ∧ ((if 0 ≤ (v3 - (xA w1 22 x5.toNatClampNeg)) then (v3 - (xA w1 22 x5.toNatClampNeg)) else 0 - (v3 - (xA w1 22 x5.toNatClampNeg))) ≤ (xA w1 23 x5.toNatClampNeg) →
        B_X5_fitsAll_77 r12 r29 N post x1 x4 x5 w1 L2) ∧
      (¬ (if 0 ≤ (v3 - (xA w1 22 x5.toNatClampNeg)) then (v3 - (xA w1 22 x5.toNatClampNeg)) else 0 - (v3 - (xA w1 22 x5.toNatClampNeg))) ≤ (xA w1 23 x5.toNatClampNeg) →
        post 0 w1 L2)) w L) ∧
    (¬ (xA w 21 x5.toNatClampNeg) = x4 →
      B_X5_fitsAll_77 r12 r29 N post x1 x4 x5 w L))
def B_X5_fitsAll_29 (r12 : Int32 → Int32 → Wd → va_W → Prop) (N : Nat) (post : Int32 → Wd → va_W → Prop) : Nat → Int32 → Int32 → Int32 → Wd → va_W → Prop
  | 0, _, _, _, _, _ => False
  | n + 1, x1, x4, x5, w, L => B_X5_fitsAll_29s r12 (B_X5_fitsAll_29 r12 N post n) N post x1 x4 x5 w L
set_option maxHeartbeats 4000000 in
theorem k_X5_fitsAll_29s {Γ : gT} {K : gK} {N : Nat} {post : Int32 → Wd → va_W → Prop} (C : gC Γ K RX5 cX5_fitsAll 6 rm_X5_fitsAll) (ret : gRi Γ K cX5_fitsAll (some .boolean) (mPi K post) 0 0) {r12 : Int32 → Int32 → Wd → va_W → Prop} (hr12 : ∀ (x1 : Int32) (x4 : Int32) (w : Wd) (L : va_W), r12 x1 x4 w L → gJ Γ K 0 0 (mL K w ++ L) 12 [(0, .ref (ma K 0)), (1, .int x1), (4, .int x4)] []) {r29 : Int32 → Int32 → Int32 → Wd → va_W → Prop} (hr29 : ∀ (x1 : Int32) (x4 : Int32) (x5 : Int32) (w : Wd) (L : va_W), r29 x1 x4 x5 w L → gJ Γ K 0 0 (mL K w ++ L) 29 [(0, .ref (ma K 0)), (1, .int x1), (4, .int x4), (5, .int x5)] []) (x1 : Int32) (x4 : Int32) (x5 : Int32) (w : Wd) (L : va_W) (h : B_X5_fitsAll_29s r12 r29 N post x1 x4 x5 w L) : gJ Γ K 0 0 (mL K w ++ L) 29 [(0, .ref (ma K 0)), (1, .int x1), (4, .int x4), (5, .int x5)] [] := by
  unfold B_X5_fitsAll_29s at h
  refine g_iload C 3 rfl dX5_fitsAll_29 ?_
  refine g_aload_n C 0 rfl dX5_fitsAll_31 ?_
  refine mg_notes C q1050 (xi w 25) rfl dX5_fitsAll_32 ?_
  refine g_icmp_ge C 83 dX5_fitsAll_35 (by decide) (fun hc => ?_) (fun hc => ?_)
  · replace h := h.1 hc
    refine g_iinc C 2 (x4 + 1) (lt := [(4, .int (x4 + 1)), (0, .ref (ma K 0)), (1, .int x1), (5, .int x5)]) rfl rfl dX5_fitsAll_83 (by decide) rfl ?_
    refine g_goto C 12 dX5_fitsAll_86 (by decide) ?_
    refine g_sub [1, 2, 0] rfl ?_
    exact hr12 x1 (x4 + 1) w L h
  · replace h := h.2 hc
    refine g_aload_n C 0 rfl dX5_fitsAll_38 ?_
    refine mg_noteMonth C q1045 dX5_fitsAll_39 ?_
    refine g_iload C 3 rfl dX5_fitsAll_42 ?_
    obtain ⟨hb, h⟩ := h
    refine mld_21 C hb (xA w 21 x5.toNatClampNeg) rfl dX5_fitsAll_44 ?_
    refine g_iload C 2 rfl dX5_fitsAll_45 ?_
    refine g_icmp_ne C 77 dX5_fitsAll_47 (by decide) (fun hc => ?_) (fun hc => ?_)
    · replace h := h.2 hc
      exact k_X5_fitsAll_77 C ret hr12 hr29 x1 x4 x5 w L h
    · replace h := h.1 hc
      refine g_aload_n C 0 rfl dX5_fitsAll_50 ?_
      refine g_callVi C (As := []) (rest := []) (m_X5_there h) (lw_V q1354 q1356 qs58 q84 q1357) (ci := 12) (qi := 0) rfl rfl ⟨rfl, rfl⟩ ⟨Nat.le_of_ble_eq_true rfl, Nat.le_of_ble_eq_true rfl⟩ 0 rfl (by decide +kernel) rfl (Nat.le_of_ble_eq_true rfl) ⟨Nat.zero_le _, Nat.zero_le _⟩ dX5_fitsAll_51 ?_
      rintro v3 _ ⟨w1, L2, rfl, h⟩
      refine g_aload_n C 0 rfl dX5_fitsAll_54 ?_
      refine mg_noteThere C q1046 dX5_fitsAll_55 ?_
      refine g_iload C 3 rfl dX5_fitsAll_58 ?_
      obtain ⟨hb, h⟩ := h
      refine mld_22 C hb (xA w1 22 x5.toNatClampNeg) rfl dX5_fitsAll_60 ?_
      refine g_isub C dX5_fitsAll_61 ?_
      refine g_mabs C q1444 q914 q87 q915 ⟨Nat.le_of_ble_eq_true rfl, (Nat.le_of_ble_eq_true rfl)⟩ ⟨Nat.zero_le _, Nat.zero_le _⟩ dX5_fitsAll_62 ?_
      refine g_aload_n C 0 rfl dX5_fitsAll_65 ?_
      refine mg_noteOff C q1047 dX5_fitsAll_66 ?_
      refine g_iload C 3 rfl dX5_fitsAll_69 ?_
      obtain ⟨hb, h⟩ := h
      refine mld_23 C hb (xA w1 23 x5.toNatClampNeg) rfl dX5_fitsAll_71 ?_
      refine g_icmp_le C 77 dX5_fitsAll_72 (by decide) (fun hc => ?_) (fun hc => ?_)
      · replace h := h.1 hc
        exact k_X5_fitsAll_77 C ret hr12 hr29 x1 x4 x5 w1 L2 h
      · replace h := h.2 hc
        refine g_iconst C 0 (by decide) dX5_fitsAll_75 ?_
        exact ret _ _ _ _ _ rfl (gZ.n (Or.inl rfl)) dX5_fitsAll_76 ⟨_, _, rfl, h⟩
theorem k_X5_fitsAll_29 {Γ : gT} {K : gK} {N : Nat} {post : Int32 → Wd → va_W → Prop} (C : gC Γ K RX5 cX5_fitsAll 6 rm_X5_fitsAll) (ret : gRi Γ K cX5_fitsAll (some .boolean) (mPi K post) 0 0) {r12 : Int32 → Int32 → Wd → va_W → Prop} (hr12 : ∀ (x1 : Int32) (x4 : Int32) (w : Wd) (L : va_W), r12 x1 x4 w L → gJ Γ K 0 0 (mL K w ++ L) 12 [(0, .ref (ma K 0)), (1, .int x1), (4, .int x4)] []) : ∀ (n : Nat) (x1 : Int32) (x4 : Int32) (x5 : Int32) (w : Wd) (L : va_W) (h : B_X5_fitsAll_29 r12 N post n x1 x4 x5 w L), gJ Γ K 0 0 (mL K w ++ L) 29 [(0, .ref (ma K 0)), (1, .int x1), (4, .int x4), (5, .int x5)] [] := by
  intro n
  induction n with
  | zero => intro x1 x4 x5 w L h; exact h.elim
  | succ n ih => intro x1 x4 x5 w L h; exact k_X5_fitsAll_29s C ret hr12 ih x1 x4 x5 w L h
def B_X5_fitsAll_12s (r12 : Int32 → Int32 → Wd → va_W → Prop) (N : Nat) (post : Int32 → Wd → va_W → Prop) (x1 : Int32) (x4 : Int32) (w : Wd) (L : va_W) : Prop :=
  ((24 : Int32) < x4 →
    post 1 w L) ∧
  (¬ (24 : Int32) < x4 →
    B_X5_goOn N x1 x4 (fun (w1 : Wd) (L2 : va_W) =>
  B_X5_fitsAll_29 r12 N post N x1 x4 0 w1 L2) w L)
def B_X5_fitsAll_12 (N : Nat) (post : Int32 → Wd → va_W → Prop) : Nat → Int32 → Int32 → Wd → va_W → Prop
  | 0, _, _, _, _ => False
  | n + 1, x1, x4, w, L => B_X5_fitsAll_12s (B_X5_fitsAll_12 N post n) N post x1 x4 w L
set_option maxHeartbeats 4000000 in
theorem k_X5_fitsAll_12s {Γ : gT} {K : gK} {N : Nat} {post : Int32 → Wd → va_W → Prop} (C : gC Γ K RX5 cX5_fitsAll 6 rm_X5_fitsAll) (ret : gRi Γ K cX5_fitsAll (some .boolean) (mPi K post) 0 0) {r12 : Int32 → Int32 → Wd → va_W → Prop} (hr12 : ∀ (x1 : Int32) (x4 : Int32) (w : Wd) (L : va_W), r12 x1 x4 w L → gJ Γ K 0 0 (mL K w ++ L) 12 [(0, .ref (ma K 0)), (1, .int x1), (4, .int x4)] []) (x1 : Int32) (x4 : Int32) (w : Wd) (L : va_W) (h : B_X5_fitsAll_12s r12 N post x1 x4 w L) : gJ Γ K 0 0 (mL K w ++ L) 12 [(0, .ref (ma K 0)), (1, .int x1), (4, .int x4)] [] := by
  unfold B_X5_fitsAll_12s at h
  refine g_iload C 2 rfl dX5_fitsAll_12 ?_
  refine g_bipush C 24 (by decide) dX5_fitsAll_14 ?_
  refine g_icmp_gt C 89 dX5_fitsAll_16 (by decide) (fun hc => ?_) (fun hc => ?_)
  · replace h := h.1 hc
    refine g_iconst C 1 (by decide) dX5_fitsAll_89 ?_
    exact ret _ _ _ _ _ rfl (gZ.n (Or.inr rfl)) dX5_fitsAll_90 ⟨_, _, rfl, h⟩
  · replace h := h.2 hc
    refine g_aload_n C 0 rfl dX5_fitsAll_19 ?_
    refine g_iload_n C 1 rfl dX5_fitsAll_20 ?_
    refine g_iload C 2 rfl dX5_fitsAll_21 ?_
    refine g_callVv C (As := [.int x1, .int x4]) (rest := []) (m_X5_goOn h) (lw_V q1374 q1376 qs62 q84 q1377) (ci := 12) (qi := 0) rfl rfl ⟨rfl, rfl⟩ ⟨Nat.le_of_ble_eq_true rfl, Nat.le_of_ble_eq_true rfl⟩ 2 rfl (by decide +kernel) rfl (Nat.le_of_ble_eq_true rfl) ⟨Nat.zero_le _, Nat.zero_le _⟩ dX5_fitsAll_23 ?_
    rintro _ ⟨w1, L2, rfl, h⟩
    refine g_iconst C 0 (by decide) dX5_fitsAll_26 ?_
    refine g_istore C (lt := [(5, .int 0), (0, .ref (ma K 0)), (1, .int x1), (4, .int x4)]) dX5_fitsAll_27 (by decide) rfl ?_
    refine g_sub [1, 2, 3, 0] rfl ?_
    exact k_X5_fitsAll_29 C ret hr12 N x1 x4 0 w1 L2 h
theorem k_X5_fitsAll_12 {Γ : gT} {K : gK} {N : Nat} {post : Int32 → Wd → va_W → Prop} (C : gC Γ K RX5 cX5_fitsAll 6 rm_X5_fitsAll) (ret : gRi Γ K cX5_fitsAll (some .boolean) (mPi K post) 0 0) : ∀ (n : Nat) (x1 : Int32) (x4 : Int32) (w : Wd) (L : va_W) (h : B_X5_fitsAll_12 N post n x1 x4 w L), gJ Γ K 0 0 (mL K w ++ L) 12 [(0, .ref (ma K 0)), (1, .int x1), (4, .int x4)] [] := by
  intro n
  induction n with
  | zero => intro x1 x4 w L h; exact h.elim
  | succ n ih => intro x1 x4 w L h; exact k_X5_fitsAll_12s C ret ih x1 x4 w L h
def B_X5_fitsAll_0 (N : Nat) (post : Int32 → Wd → va_W → Prop) (x1 : Int32) (x2 : Int64) (w : Wd) (L : va_W) : Prop :=
  B_X5_begin N (xi w 11) x2 (fun (w1 : Wd) (L2 : va_W) =>
  B_X5_fitsAll_12 N post N x1 0 w1 L2) w L
set_option maxHeartbeats 4000000 in
theorem k_X5_fitsAll_0 {Γ : gT} {K : gK} {N : Nat} {post : Int32 → Wd → va_W → Prop} (C : gC Γ K RX5 cX5_fitsAll 6 rm_X5_fitsAll) (ret : gRi Γ K cX5_fitsAll (some .boolean) (mPi K post) 0 0) (x1 : Int32) (x2 : Int64) (w : Wd) (L : va_W) (h : B_X5_fitsAll_0 N post x1 x2 w L) : gJ Γ K 0 0 (mL K w ++ L) 0 [(0, .ref (ma K 0)), (1, .int x1), (2, .long x2)] [] := by
  unfold B_X5_fitsAll_0 at h
  refine g_aload_n C 0 rfl dX5_fitsAll_0 ?_
  refine g_aload_n C 0 rfl dX5_fitsAll_1 ?_
  refine mg_animals C q1017 (xi w 11) rfl dX5_fitsAll_2 ?_
  refine g_lload_n C 2 rfl dX5_fitsAll_5 ?_
  refine g_callVv C (As := [.int (xi w 11), .long x2]) (rest := []) (m_X5_begin h) (lw_V q1282 q1284 qs49 q84 q1285) (ci := 12) (qi := 0) rfl rfl ⟨rfl, rfl⟩ ⟨Nat.le_of_ble_eq_true rfl, Nat.le_of_ble_eq_true rfl⟩ 2 rfl (by decide +kernel) rfl (Nat.le_of_ble_eq_true rfl) ⟨Nat.zero_le _, Nat.zero_le _⟩ dX5_fitsAll_6 ?_
  rintro _ ⟨w1, L2, rfl, h⟩
  refine g_iconst C 0 (by decide) dX5_fitsAll_9 ?_
  refine g_istore C (lt := [(4, .int 0), (0, .ref (ma K 0)), (1, .int x1), (2, .long x2)]) dX5_fitsAll_10 (by decide) rfl ?_
  refine g_sub [1, 2, 0] rfl ?_
  exact k_X5_fitsAll_12 C ret N x1 0 w1 L2 h
def B_X5_fitsAll (N : Nat) (x1 : Int32) (x2 : Int64) (post : Int32 → Wd → va_W → Prop) (w : Wd) (L : va_W) : Prop := B_X5_fitsAll_0 N post x1 x2 w L
theorem m_X5_fitsAll {l : Launch} {K : gK} {N : Nat} {post : Int32 → Wd → va_W → Prop} {x1 : Int32} {x2 : Int64} {w : Wd} {L : va_W} (h : B_X5_fitsAll N x1 x2 post w L) : gMi l K yX5_fitsAll cX5_fitsAll 6 (some .boolean) rm_X5_fitsAll [.ref (ma K 0), .int x1, .long x2] (mL K w ++ L) (mPi K post) 0 0 := by
  refine g_inI (ls0 := [(0, .ref (ma K 0)), (1, .int x1), (2, .long x2)]) (by decide) (Nat.le_of_ble_eq_true rfl) rfl (fun Γ hl C hn ret => ?_)
  exact k_X5_fitsAll_0 C ret x1 x2 w L h
def rm_X5_fits : Room := { frames := 65, cells := 0, slots := 0, locals := 1542 }
def B_X5_fits_38 (r10 : Int64 → Int32 → Int32 → Wd → va_W → Prop) (N : Nat) (post : Int32 → Wd → va_W → Prop) (x1 : Int64) (x4 : Int32) (s0 : Int32) (s1 : Int32) (w : Wd) (L : va_W) : Prop :=
  r10 x1 (s1 ||| s0) (x4 + 1) w L
set_option maxHeartbeats 4000000 in
theorem k_X5_fits_38 {Γ : gT} {K : gK} {N : Nat} {post : Int32 → Wd → va_W → Prop} (C : gC Γ K RX5 cX5_fits 5 rm_X5_fits) (ret : gRi Γ K cX5_fits (some .int) (mPi K post) 0 0) {r10 : Int64 → Int32 → Int32 → Wd → va_W → Prop} (hr10 : ∀ (x1 : Int64) (x3 : Int32) (x4 : Int32) (w : Wd) (L : va_W), r10 x1 x3 x4 w L → gJ Γ K 0 0 (mL K w ++ L) 10 [(0, .ref (ma K 0)), (1, .long x1), (3, .int x3), (4, .int x4)] []) (x1 : Int64) (x4 : Int32) (s0 : Int32) (s1 : Int32) (w : Wd) (L : va_W) (h : B_X5_fits_38 r10 N post x1 x4 s0 s1 w L) : gJ Γ K 0 0 (mL K w ++ L) 38 [(0, .ref (ma K 0)), (1, .long x1), (4, .int x4)] [.int s0, .int s1] := by
  unfold B_X5_fits_38 at h
  refine g_ior C dX5_fits_38 ?_
  refine g_istore_n C rfl (lt := [(3, .int (s1 ||| s0)), (0, .ref (ma K 0)), (1, .long x1), (4, .int x4)]) dX5_fits_39 (by decide) rfl ?_
  refine g_iinc C 3 (x4 + 1) (lt := [(4, .int (x4 + 1)), (3, .int (s1 ||| s0)), (0, .ref (ma K 0)), (1, .long x1)]) rfl rfl dX5_fits_40 (by decide) rfl ?_
  refine g_goto C 10 dX5_fits_43 (by decide) ?_
  refine g_sub [2, 3, 1, 0] rfl ?_
  exact hr10 x1 (s1 ||| s0) (x4 + 1) w L h
def B_X5_fits_10s (r10 : Int64 → Int32 → Int32 → Wd → va_W → Prop) (N : Nat) (post : Int32 → Wd → va_W → Prop) (x1 : Int64) (x3 : Int32) (x4 : Int32) (w : Wd) (L : va_W) : Prop :=
  ((xi w 2) ≤ x4 →
    post x3 w L) ∧
  (¬ (xi w 2) ≤ x4 →
    B_X5_fitsAll N x4 x1 (fun (v3 : Int32) (w1 : Wd) (L2 : va_W) =>
  (v3 = 0 →
      B_X5_fits_38 r10 N post x1 x4 0 x3 w1 L2) ∧
    (¬ v3 = 0 →
      B_X5_fits_38 r10 N post x1 x4 (1 <<< (x4 &&& 31)) x3 w1 L2)) w L)
def B_X5_fits_10 (N : Nat) (post : Int32 → Wd → va_W → Prop) : Nat → Int64 → Int32 → Int32 → Wd → va_W → Prop
  | 0, _, _, _, _, _ => False
  | n + 1, x1, x3, x4, w, L => B_X5_fits_10s (B_X5_fits_10 N post n) N post x1 x3 x4 w L
set_option maxHeartbeats 4000000 in
theorem k_X5_fits_10s {Γ : gT} {K : gK} {N : Nat} {post : Int32 → Wd → va_W → Prop} (C : gC Γ K RX5 cX5_fits 5 rm_X5_fits) (ret : gRi Γ K cX5_fits (some .int) (mPi K post) 0 0) {r10 : Int64 → Int32 → Int32 → Wd → va_W → Prop} (hr10 : ∀ (x1 : Int64) (x3 : Int32) (x4 : Int32) (w : Wd) (L : va_W), r10 x1 x3 x4 w L → gJ Γ K 0 0 (mL K w ++ L) 10 [(0, .ref (ma K 0)), (1, .long x1), (3, .int x3), (4, .int x4)] []) (x1 : Int64) (x3 : Int32) (x4 : Int32) (w : Wd) (L : va_W) (h : B_X5_fits_10s r10 N post x1 x3 x4 w L) : gJ Γ K 0 0 (mL K w ++ L) 10 [(0, .ref (ma K 0)), (1, .long x1), (3, .int x3), (4, .int x4)] [] := by
  unfold B_X5_fits_10s at h
  refine g_iload C 3 rfl dX5_fits_10 ?_
  refine g_aload_n C 0 rfl dX5_fits_12 ?_
  refine mg_laws C q1003 (xi w 2) rfl dX5_fits_13 ?_
  refine g_icmp_ge C 46 dX5_fits_16 (by decide) (fun hc => ?_) (fun hc => ?_)
  · replace h := h.1 hc
    refine g_iload_n C 2 rfl dX5_fits_46 ?_
    exact ret _ _ _ _ _ rfl rfl dX5_fits_47 ⟨_, _, rfl, h⟩
  · replace h := h.2 hc
    refine g_iload_n C 2 rfl dX5_fits_19 ?_
    refine g_aload_n C 0 rfl dX5_fits_20 ?_
    refine g_iload C 3 rfl dX5_fits_21 ?_
    refine g_lload_n C 1 rfl dX5_fits_23 ?_
    refine g_callVi C (As := [.int x4, .long x1]) (rest := [.int x3]) (m_X5_fitsAll h) (lw_V q1440 q1442 qs72 q84 q1443) (ci := 12) (qi := 0) rfl rfl ⟨rfl, rfl⟩ ⟨Nat.le_of_ble_eq_true rfl, Nat.le_of_ble_eq_true rfl⟩ 2 rfl (by decide +kernel) rfl (Nat.le_of_ble_eq_true rfl) ⟨Nat.zero_le _, Nat.zero_le _⟩ dX5_fits_24 ?_
    rintro v3 _ ⟨w1, L2, rfl, h⟩
    refine g_if_eq C 37 dX5_fits_27 (by decide) (fun hc => ?_) (fun hc => ?_)
    · replace h := h.1 hc
      refine g_iconst C 0 (by decide) dX5_fits_37 ?_
      refine g_sub [0, 1, 3] rfl ?_
      exact k_X5_fits_38 C ret hr10 x1 x4 0 x3 w1 L2 h
    · replace h := h.2 hc
      refine g_iconst C 1 (by decide) dX5_fits_30 ?_
      refine g_iload C 3 rfl dX5_fits_31 ?_
      refine g_ishl C dX5_fits_33 ?_
      refine g_goto C 38 dX5_fits_34 (by decide) ?_
      refine g_sub [0, 1, 3] rfl ?_
      exact k_X5_fits_38 C ret hr10 x1 x4 (1 <<< (x4 &&& 31)) x3 w1 L2 h
theorem k_X5_fits_10 {Γ : gT} {K : gK} {N : Nat} {post : Int32 → Wd → va_W → Prop} (C : gC Γ K RX5 cX5_fits 5 rm_X5_fits) (ret : gRi Γ K cX5_fits (some .int) (mPi K post) 0 0) : ∀ (n : Nat) (x1 : Int64) (x3 : Int32) (x4 : Int32) (w : Wd) (L : va_W) (h : B_X5_fits_10 N post n x1 x3 x4 w L), gJ Γ K 0 0 (mL K w ++ L) 10 [(0, .ref (ma K 0)), (1, .long x1), (3, .int x3), (4, .int x4)] [] := by
  intro n
  induction n with
  | zero => intro x1 x3 x4 w L h; exact h.elim
  | succ n ih => intro x1 x3 x4 w L h; exact k_X5_fits_10s C ret ih x1 x3 x4 w L h
def B_X5_fits_0 (N : Nat) (post : Int32 → Wd → va_W → Prop) (x1 : Int64) (w : Wd) (L : va_W) : Prop :=
  B_X5_fits_10 N post N x1 0 0 (xsi w 0 0) L
set_option maxHeartbeats 4000000 in
theorem k_X5_fits_0 {Γ : gT} {K : gK} {N : Nat} {post : Int32 → Wd → va_W → Prop} (C : gC Γ K RX5 cX5_fits 5 rm_X5_fits) (ret : gRi Γ K cX5_fits (some .int) (mPi K post) 0 0) (x1 : Int64) (w : Wd) (L : va_W) (h : B_X5_fits_0 N post x1 w L) : gJ Γ K 0 0 (mL K w ++ L) 0 [(0, .ref (ma K 0)), (1, .long x1)] [] := by
  unfold B_X5_fits_0 at h
  refine g_aload_n C 0 rfl dX5_fits_0 ?_
  refine g_iconst C 0 (by decide) dX5_fits_1 ?_
  refine mp_thrown C q996 dX5_fits_2 ?_
  refine g_iconst C 0 (by decide) dX5_fits_5 ?_
  refine g_istore_n C rfl (lt := [(3, .int 0), (0, .ref (ma K 0)), (1, .long x1)]) dX5_fits_6 (by decide) rfl ?_
  refine g_iconst C 0 (by decide) dX5_fits_7 ?_
  refine g_istore C (lt := [(4, .int 0), (3, .int 0), (0, .ref (ma K 0)), (1, .long x1)]) dX5_fits_8 (by decide) rfl ?_
  refine g_sub [2, 3, 1, 0] rfl ?_
  exact k_X5_fits_10 C ret N x1 0 0 (xsi w 0 0) L h
def B_X5_fits (N : Nat) (x1 : Int64) (post : Int32 → Wd → va_W → Prop) (w : Wd) (L : va_W) : Prop := B_X5_fits_0 N post x1 w L
theorem m_X5_fits {l : Launch} {K : gK} {N : Nat} {post : Int32 → Wd → va_W → Prop} {x1 : Int64} {w : Wd} {L : va_W} (h : B_X5_fits N x1 post w L) : gMi l K yX5_fits cX5_fits 5 (some .int) rm_X5_fits [.ref (ma K 0), .long x1] (mL K w ++ L) (mPi K post) 0 0 := by
  refine g_inI (ls0 := [(0, .ref (ma K 0)), (1, .long x1)]) (by decide) (Nat.le_of_ble_eq_true rfl) rfl (fun Γ hl C hn ret => ?_)
  exact k_X5_fits_0 C ret x1 w L h
def rm_X5_whatIf : Room := { frames := 65, cells := 0, slots := 0, locals := 1541 }
def B_X5_whatIf_24 (N : Nat) (post : Int32 → Wd → va_W → Prop) (w : Wd) (L : va_W) : Prop :=
  post (-1000) w L
set_option maxHeartbeats 4000000 in
theorem k_X5_whatIf_24 {Γ : gT} {K : gK} {N : Nat} {post : Int32 → Wd → va_W → Prop} (C : gC Γ K RX5 cX5_whatIf 6 rm_X5_whatIf) (ret : gRi Γ K cX5_whatIf (some .int) (mPi K post) 0 0) (w : Wd) (L : va_W) (h : B_X5_whatIf_24 N post w L) : gJ Γ K 0 0 (mL K w ++ L) 24 [] [] := by
  unfold B_X5_whatIf_24 at h
  refine g_sipush C (-1000) (by decide) dX5_whatIf_24 ?_
  exact ret _ _ _ _ _ rfl rfl dX5_whatIf_27 ⟨_, _, rfl, h⟩
def B_X5_whatIf_96 (N : Nat) (post : Int32 → Wd → va_W → Prop) (x1 : Int32) (x5 : Int32) (s0 : Int32) (w : Wd) (L : va_W) : Prop :=
  gZ s0 ∧ B_X5_goOn N x1 24 (fun (w1 : Wd) (L2 : va_W) =>
  B_X5_there N (fun (v5 : Int32) (w3 : Wd) (L4 : va_W) =>
  post (v5 - x5) w3 L4) w1 L2) (xsi w 24 s0) L
set_option maxHeartbeats 4000000 in
theorem k_X5_whatIf_96 {Γ : gT} {K : gK} {N : Nat} {post : Int32 → Wd → va_W → Prop} (C : gC Γ K RX5 cX5_whatIf 6 rm_X5_whatIf) (ret : gRi Γ K cX5_whatIf (some .int) (mPi K post) 0 0) (x1 : Int32) (x5 : Int32) (s0 : Int32) (w : Wd) (L : va_W) (h : B_X5_whatIf_96 N post x1 x5 s0 w L) : gJ Γ K 0 0 (mL K w ++ L) 96 [(0, .ref (ma K 0)), (1, .int x1), (5, .int x5)] [.int s0, .ref (ma K 0)] := by
  unfold B_X5_whatIf_96 at h
  obtain ⟨hz, h⟩ := h
  refine mp_nobodyGoes C q1043 hz dX5_whatIf_96 ?_
  refine g_aload_n C 0 rfl dX5_whatIf_99 ?_
  refine g_iload_n C 1 rfl dX5_whatIf_100 ?_
  refine g_bipush C 24 (by decide) dX5_whatIf_101 ?_
  refine g_callVv C (As := [.int x1, .int 24]) (rest := []) (m_X5_goOn h) (lw_V q1374 q1376 qs62 q84 q1377) (ci := 12) (qi := 0) rfl rfl ⟨rfl, rfl⟩ ⟨Nat.le_of_ble_eq_true rfl, Nat.le_of_ble_eq_true rfl⟩ 2 rfl (by decide +kernel) rfl (Nat.le_of_ble_eq_true rfl) ⟨Nat.zero_le _, Nat.zero_le _⟩ dX5_whatIf_103 ?_
  rintro _ ⟨w1, L2, rfl, h⟩
  refine g_aload_n C 0 rfl dX5_whatIf_106 ?_
  refine g_callVi C (As := []) (rest := []) (m_X5_there h) (lw_V q1354 q1356 qs58 q84 q1357) (ci := 12) (qi := 0) rfl rfl ⟨rfl, rfl⟩ ⟨Nat.le_of_ble_eq_true rfl, Nat.le_of_ble_eq_true rfl⟩ 0 rfl (by decide +kernel) rfl (Nat.le_of_ble_eq_true rfl) ⟨Nat.zero_le _, Nat.zero_le _⟩ dX5_whatIf_107 ?_
  rintro v5 _ ⟨w3, L4, rfl, h⟩
  refine g_iload C 2 rfl dX5_whatIf_110 ?_
  refine g_isub C dX5_whatIf_112 ?_
  exact ret _ _ _ _ _ rfl rfl dX5_whatIf_113 ⟨_, _, rfl, h⟩
def B_X5_whatIf_80 (N : Nat) (post : Int32 → Wd → va_W → Prop) (x1 : Int32) (x4 : Int32) (x5 : Int32) (s0 : Int32) (w : Wd) (L : va_W) : Prop :=
  gZ s0 ∧ ∀ w1 : Wd, w1 = (xsi w 23 s0) → ((x4 &&& 4) = 0 →
    B_X5_whatIf_96 N post x1 x5 0 w1 L) ∧
  (¬ (x4 &&& 4) = 0 →
    B_X5_whatIf_96 N post x1 x5 1 w1 L)
set_option maxHeartbeats 4000000 in
theorem k_X5_whatIf_80 {Γ : gT} {K : gK} {N : Nat} {post : Int32 → Wd → va_W → Prop} (C : gC Γ K RX5 cX5_whatIf 6 rm_X5_whatIf) (ret : gRi Γ K cX5_whatIf (some .int) (mPi K post) 0 0) (x1 : Int32) (x4 : Int32) (x5 : Int32) (s0 : Int32) (w : Wd) (L : va_W) (h : B_X5_whatIf_80 N post x1 x4 x5 s0 w L) : gJ Γ K 0 0 (mL K w ++ L) 80 [(0, .ref (ma K 0)), (1, .int x1), (4, .int x4), (5, .int x5)] [.int s0, .ref (ma K 0)] := by
  unfold B_X5_whatIf_80 at h
  obtain ⟨hz, h⟩ := h
  refine mp_mild C q1042 hz dX5_whatIf_80 ?_
  refine g_aload_n C 0 rfl dX5_whatIf_83 ?_
  refine g_iload C 2 rfl dX5_whatIf_84 ?_
  refine g_iconst C 4 (by decide) dX5_whatIf_86 ?_
  refine g_iand C dX5_whatIf_87 ?_
  obtain ⟨w1, ew1⟩ : ∃ z, z = (xsi w 23 s0) := ⟨_, rfl⟩
  replace h := h w1 ew1
  rw [← ew1]
  refine g_if_eq C 95 dX5_whatIf_88 (by decide) (fun hc => ?_) (fun hc => ?_)
  · replace h := h.1 hc
    refine g_iconst C 0 (by decide) dX5_whatIf_95 ?_
    refine g_sub [0, 1, 3] rfl ?_
    exact k_X5_whatIf_96 C ret x1 x5 0 w1 L h
  · replace h := h.2 hc
    refine g_iconst C 1 (by decide) dX5_whatIf_91 ?_
    refine g_goto C 96 dX5_whatIf_92 (by decide) ?_
    refine g_sub [0, 1, 3] rfl ?_
    exact k_X5_whatIf_96 C ret x1 x5 1 w1 L h
def B_X5_whatIf_64 (N : Nat) (post : Int32 → Wd → va_W → Prop) (x1 : Int32) (x4 : Int32) (x5 : Int32) (s0 : Int32) (w : Wd) (L : va_W) : Prop :=
  gZ s0 ∧ ∀ w1 : Wd, w1 = (xsi w 22 s0) → ((x4 &&& 2) = 0 →
    B_X5_whatIf_80 N post x1 x4 x5 0 w1 L) ∧
  (¬ (x4 &&& 2) = 0 →
    B_X5_whatIf_80 N post x1 x4 x5 1 w1 L)
set_option maxHeartbeats 4000000 in
theorem k_X5_whatIf_64 {Γ : gT} {K : gK} {N : Nat} {post : Int32 → Wd → va_W → Prop} (C : gC Γ K RX5 cX5_whatIf 6 rm_X5_whatIf) (ret : gRi Γ K cX5_whatIf (some .int) (mPi K post) 0 0) (x1 : Int32) (x4 : Int32) (x5 : Int32) (s0 : Int32) (w : Wd) (L : va_W) (h : B_X5_whatIf_64 N post x1 x4 x5 s0 w L) : gJ Γ K 0 0 (mL K w ++ L) 64 [(0, .ref (ma K 0)), (1, .int x1), (4, .int x4), (5, .int x5)] [.int s0, .ref (ma K 0)] := by
  unfold B_X5_whatIf_64 at h
  obtain ⟨hz, h⟩ := h
  refine mp_dry C q1041 hz dX5_whatIf_64 ?_
  refine g_aload_n C 0 rfl dX5_whatIf_67 ?_
  refine g_iload C 2 rfl dX5_whatIf_68 ?_
  refine g_iconst C 2 (by decide) dX5_whatIf_70 ?_
  refine g_iand C dX5_whatIf_71 ?_
  obtain ⟨w1, ew1⟩ : ∃ z, z = (xsi w 22 s0) := ⟨_, rfl⟩
  replace h := h w1 ew1
  rw [← ew1]
  refine g_if_eq C 79 dX5_whatIf_72 (by decide) (fun hc => ?_) (fun hc => ?_)
  · replace h := h.1 hc
    refine g_iconst C 0 (by decide) dX5_whatIf_79 ?_
    exact k_X5_whatIf_80 C ret x1 x4 x5 0 w1 L h
  · replace h := h.2 hc
    refine g_iconst C 1 (by decide) dX5_whatIf_75 ?_
    refine g_goto C 80 dX5_whatIf_76 (by decide) ?_
    exact k_X5_whatIf_80 C ret x1 x4 x5 1 w1 L h
def B_X5_whatIf_0 (N : Nat) (post : Int32 → Wd → va_W → Prop) (x1 : Int32) (x2 : Int64) (x4 : Int32) (w : Wd) (L : va_W) : Prop :=
  B_X5_isLaw N x1 (fun (v3 : Int32) (w1 : Wd) (L2 : va_W) =>
  (v3 = 0 →
    B_X5_whatIf_24 N post w1 L2) ∧
  (¬ v3 = 0 →
    B_X5_isIn N x4 0 7 (fun (v6 : Int32) (w4 : Wd) (L5 : va_W) =>
  (v6 = 0 →
      B_X5_whatIf_24 N post w4 L5) ∧
    (¬ v6 = 0 →
      B_X5_runOf N x1 x2 24 (fun (w7 : Wd) (L8 : va_W) =>
  B_X5_there N (fun (v11 : Int32) (w9 : Wd) (L10 : va_W) =>
  B_X5_begin N (xi w9 11) x2 (fun (w12 : Wd) (L13 : va_W) =>
  ((x4 &&& 1) = 0 →
        B_X5_whatIf_64 N post x1 x4 v11 0 w12 L13) ∧
      (¬ (x4 &&& 1) = 0 →
        B_X5_whatIf_64 N post x1 x4 v11 1 w12 L13)) w9 L10) w7 L8) w4 L5)) w1 L2)) (xsi w 0 0) L
set_option maxHeartbeats 4000000 in
theorem k_X5_whatIf_0 {Γ : gT} {K : gK} {N : Nat} {post : Int32 → Wd → va_W → Prop} (C : gC Γ K RX5 cX5_whatIf 6 rm_X5_whatIf) (ret : gRi Γ K cX5_whatIf (some .int) (mPi K post) 0 0) (x1 : Int32) (x2 : Int64) (x4 : Int32) (w : Wd) (L : va_W) (h : B_X5_whatIf_0 N post x1 x2 x4 w L) : gJ Γ K 0 0 (mL K w ++ L) 0 [(0, .ref (ma K 0)), (1, .int x1), (2, .long x2), (4, .int x4)] [] := by
  unfold B_X5_whatIf_0 at h
  refine g_aload_n C 0 rfl dX5_whatIf_0 ?_
  refine g_iconst C 0 (by decide) dX5_whatIf_1 ?_
  refine mp_thrown C q996 dX5_whatIf_2 ?_
  refine g_aload_n C 0 rfl dX5_whatIf_5 ?_
  refine g_iload_n C 1 rfl dX5_whatIf_6 ?_
  refine g_callVi C (As := [.int x1]) (rest := []) (m_X5_isLaw h) (lw_V q1338 q1340 qs54 q84 q1341) (ci := 12) (qi := 0) rfl rfl ⟨rfl, rfl⟩ ⟨Nat.le_of_ble_eq_true rfl, Nat.le_of_ble_eq_true rfl⟩ 1 rfl (by decide +kernel) rfl (Nat.le_of_ble_eq_true rfl) ⟨Nat.zero_le _, Nat.zero_le _⟩ dX5_whatIf_7 ?_
  rintro v3 _ ⟨w1, L2, rfl, h⟩
  refine g_if_eq C 24 dX5_whatIf_10 (by decide) (fun hc => ?_) (fun hc => ?_)
  · replace h := h.1 hc
    refine g_sub [] rfl ?_
    exact k_X5_whatIf_24 C ret w1 L2 h
  · replace h := h.2 hc
    refine g_iload C 3 rfl dX5_whatIf_13 ?_
    refine g_iconst C 0 (by decide) dX5_whatIf_15 ?_
    refine g_bipush C 7 (by decide) dX5_whatIf_16 ?_
    refine g_callSi C (As := [.int x4, .int 0, .int 7]) (rest := []) (m_X5_isIn h) (Cn := "") (b := 0) (lw_S q1270 q1271 q84 q1272) ⟨rfl, rfl⟩ ⟨Nat.le_of_ble_eq_true rfl, Nat.le_of_ble_eq_true rfl⟩ 3 rfl (by decide +kernel) rfl (Nat.le_of_ble_eq_true rfl) ⟨Nat.zero_le _, Nat.zero_le _⟩ dX5_whatIf_18 ?_
    rintro v6 _ ⟨w4, L5, rfl, h⟩
    refine g_if_ne C 28 dX5_whatIf_21 (by decide) (fun hc => ?_) (fun hc => ?_)
    · replace h := h.2 hc
      refine g_aload_n C 0 rfl dX5_whatIf_28 ?_
      refine g_iload_n C 1 rfl dX5_whatIf_29 ?_
      refine g_lload_n C 2 rfl dX5_whatIf_30 ?_
      refine g_bipush C 24 (by decide) dX5_whatIf_31 ?_
      refine g_callVv C (As := [.int x1, .long x2, .int 24]) (rest := []) (m_X5_runOf h) (lw_V q1370 q1372 qs61 q84 q1373) (ci := 12) (qi := 0) rfl rfl ⟨rfl, rfl⟩ ⟨Nat.le_of_ble_eq_true rfl, Nat.le_of_ble_eq_true rfl⟩ 3 rfl (by decide +kernel) rfl (Nat.le_of_ble_eq_true rfl) ⟨Nat.zero_le _, Nat.zero_le _⟩ dX5_whatIf_33 ?_
      rintro _ ⟨w7, L8, rfl, h⟩
      refine g_aload_n C 0 rfl dX5_whatIf_36 ?_
      refine g_callVi C (As := []) (rest := []) (m_X5_there h) (lw_V q1354 q1356 qs58 q84 q1357) (ci := 12) (qi := 0) rfl rfl ⟨rfl, rfl⟩ ⟨Nat.le_of_ble_eq_true rfl, Nat.le_of_ble_eq_true rfl⟩ 0 rfl (by decide +kernel) rfl (Nat.le_of_ble_eq_true rfl) ⟨Nat.zero_le _, Nat.zero_le _⟩ dX5_whatIf_37 ?_
      rintro v11 _ ⟨w9, L10, rfl, h⟩
      refine g_istore C (lt := [(5, .int v11), (0, .ref (ma K 0)), (1, .int x1), (2, .long x2), (4, .int x4)]) dX5_whatIf_40 (by decide) rfl ?_
      refine g_aload_n C 1 rfl dX5_whatIf_42 ?_
      refine g_aload_n C 1 rfl dX5_whatIf_43 ?_
      refine mg_animals C q1017 (xi w9 11) rfl dX5_whatIf_44 ?_
      refine g_lload_n C 3 rfl dX5_whatIf_47 ?_
      refine g_callVv C (As := [.int (xi w9 11), .long x2]) (rest := []) (m_X5_begin h) (lw_V q1282 q1284 qs49 q84 q1285) (ci := 12) (qi := 0) rfl rfl ⟨rfl, rfl⟩ ⟨Nat.le_of_ble_eq_true rfl, Nat.le_of_ble_eq_true rfl⟩ 2 rfl (by decide +kernel) rfl (Nat.le_of_ble_eq_true rfl) ⟨Nat.zero_le _, Nat.zero_le _⟩ dX5_whatIf_48 ?_
      rintro _ ⟨w12, L13, rfl, h⟩
      refine g_aload_n C 1 rfl dX5_whatIf_51 ?_
      refine g_iload C 4 rfl dX5_whatIf_52 ?_
      refine g_iconst C 1 (by decide) dX5_whatIf_54 ?_
      refine g_iand C dX5_whatIf_55 ?_
      refine g_if_eq C 63 dX5_whatIf_56 (by decide) (fun hc => ?_) (fun hc => ?_)
      · replace h := h.1 hc
        refine g_iconst C 0 (by decide) dX5_whatIf_63 ?_
        refine g_sub [1, 2, 4, 0] rfl ?_
        exact k_X5_whatIf_64 C ret x1 x4 v11 0 w12 L13 h
      · replace h := h.2 hc
        refine g_iconst C 1 (by decide) dX5_whatIf_59 ?_
        refine g_goto C 64 dX5_whatIf_60 (by decide) ?_
        refine g_sub [1, 2, 4, 0] rfl ?_
        exact k_X5_whatIf_64 C ret x1 x4 v11 1 w12 L13 h
    · replace h := h.1 hc
      refine g_sub [] rfl ?_
      exact k_X5_whatIf_24 C ret w4 L5 h
def B_X5_whatIf (N : Nat) (x1 : Int32) (x2 : Int64) (x4 : Int32) (post : Int32 → Wd → va_W → Prop) (w : Wd) (L : va_W) : Prop := B_X5_whatIf_0 N post x1 x2 x4 w L
theorem m_X5_whatIf {l : Launch} {K : gK} {N : Nat} {post : Int32 → Wd → va_W → Prop} {x1 : Int32} {x2 : Int64} {x4 : Int32} {w : Wd} {L : va_W} (h : B_X5_whatIf N x1 x2 x4 post w L) : gMi l K yX5_whatIf cX5_whatIf 6 (some .int) rm_X5_whatIf [.ref (ma K 0), .int x1, .long x2, .int x4] (mL K w ++ L) (mPi K post) 0 0 := by
  refine g_inI (ls0 := [(0, .ref (ma K 0)), (1, .int x1), (2, .long x2), (4, .int x4)]) (by decide) (Nat.le_of_ble_eq_true rfl) rfl (fun Γ hl C hn ret => ?_)
  exact k_X5_whatIf_0 C ret x1 x2 x4 w L h
def rm_X5_toldBy : Room := { frames := 64, cells := 0, slots := 0, locals := 1517 }
def B_X5_toldBy_0 (N : Nat) (post : Int32 → Wd → va_W → Prop) (x1 : Int32) (x2 : Int32) (x3 : Int64) (w : Wd) (L : va_W) : Prop :=
  vp_in x1 6 ∧ B_X5_begin N (if (xA w 24 x1.toNatClampNeg) < (xi w 11) then (xA w 24 x1.toNatClampNeg) else (xi w 11)) x3 (fun (w1 : Wd) (L2 : va_W) =>
  vp_in x1 6 ∧ B_X5_goOn N x2 (xA w1 25 x1.toNatClampNeg) (fun (w3 : Wd) (L4 : va_W) =>
  B_X5_there N (fun (v7 : Int32) (w5 : Wd) (L6 : va_W) =>
  post v7 w5 L6) w3 L4) (xsi (xsi w1 22 1) 21 0) L2) w L
set_option maxHeartbeats 4000000 in
theorem k_X5_toldBy_0 {Γ : gT} {K : gK} {N : Nat} {post : Int32 → Wd → va_W → Prop} (C : gC Γ K RX5 cX5_toldBy 5 rm_X5_toldBy) (ret : gRi Γ K cX5_toldBy (some .int) (mPi K post) 0 0) (x1 : Int32) (x2 : Int32) (x3 : Int64) (w : Wd) (L : va_W) (h : B_X5_toldBy_0 N post x1 x2 x3 w L) : gJ Γ K 0 0 (mL K w ++ L) 0 [(0, .ref (ma K 0)), (1, .int x1), (2, .int x2), (3, .long x3)] [] := by
  unfold B_X5_toldBy_0 at h
  refine g_aload_n C 0 rfl dX5_toldBy_0 ?_
  refine g_aload_n C 0 rfl dX5_toldBy_1 ?_
  refine mg_animals C q1017 (xi w 11) rfl dX5_toldBy_2 ?_
  refine g_aload_n C 0 rfl dX5_toldBy_5 ?_
  refine mg_trialFirst C q1048 dX5_toldBy_6 ?_
  refine g_iload_n C 1 rfl dX5_toldBy_9 ?_
  obtain ⟨hb, h⟩ := h
  refine mld_24 C hb (xA w 24 x1.toNatClampNeg) rfl dX5_toldBy_10 ?_
  refine g_mmin C q1386 q410 q87 q411 ⟨Nat.le_of_ble_eq_true rfl, (Nat.le_of_ble_eq_true rfl)⟩ ⟨Nat.zero_le _, Nat.zero_le _⟩ dX5_toldBy_11 ?_
  refine g_lload_n C 3 rfl dX5_toldBy_14 ?_
  refine g_callVv C (As := [.int (if (xA w 24 x1.toNatClampNeg) < (xi w 11) then (xA w 24 x1.toNatClampNeg) else (xi w 11)), .long x3]) (rest := []) (m_X5_begin h) (lw_V q1282 q1284 qs49 q84 q1285) (ci := 12) (qi := 0) rfl rfl ⟨rfl, rfl⟩ ⟨Nat.le_of_ble_eq_true rfl, Nat.le_of_ble_eq_true rfl⟩ 2 rfl (by decide +kernel) rfl (Nat.le_of_ble_eq_true rfl) ⟨Nat.zero_le _, Nat.zero_le _⟩ dX5_toldBy_15 ?_
  rintro _ ⟨w1, L2, rfl, h⟩
  refine g_aload_n C 0 rfl dX5_toldBy_18 ?_
  refine g_iconst C 1 (by decide) dX5_toldBy_19 ?_
  refine mp_dry C q1041 (Or.inr rfl) dX5_toldBy_20 ?_
  refine g_aload_n C 0 rfl dX5_toldBy_23 ?_
  refine g_iconst C 0 (by decide) dX5_toldBy_24 ?_
  refine mp_chance C q1040 dX5_toldBy_25 ?_
  refine g_aload_n C 0 rfl dX5_toldBy_28 ?_
  refine g_iload_n C 2 rfl dX5_toldBy_29 ?_
  refine g_aload_n C 0 rfl dX5_toldBy_30 ?_
  refine mg_trialMonths C q1049 dX5_toldBy_31 ?_
  refine g_iload_n C 1 rfl dX5_toldBy_34 ?_
  obtain ⟨hb, h⟩ := h
  refine mld_25 C hb (xA w1 25 x1.toNatClampNeg) rfl dX5_toldBy_35 ?_
  refine g_callVv C (As := [.int x2, .int (xA w1 25 x1.toNatClampNeg)]) (rest := []) (m_X5_goOn h) (lw_V q1374 q1376 qs62 q84 q1377) (ci := 12) (qi := 0) rfl rfl ⟨rfl, rfl⟩ ⟨Nat.le_of_ble_eq_true rfl, Nat.le_of_ble_eq_true rfl⟩ 2 rfl (by decide +kernel) rfl (Nat.le_of_ble_eq_true rfl) ⟨Nat.zero_le _, Nat.zero_le _⟩ dX5_toldBy_36 ?_
  rintro _ ⟨w3, L4, rfl, h⟩
  refine g_aload_n C 0 rfl dX5_toldBy_39 ?_
  refine g_callVi C (As := []) (rest := []) (m_X5_there h) (lw_V q1354 q1356 qs58 q84 q1357) (ci := 12) (qi := 0) rfl rfl ⟨rfl, rfl⟩ ⟨Nat.le_of_ble_eq_true rfl, Nat.le_of_ble_eq_true rfl⟩ 0 rfl (by decide +kernel) rfl (Nat.le_of_ble_eq_true rfl) ⟨Nat.zero_le _, Nat.zero_le _⟩ dX5_toldBy_40 ?_
  rintro v7 _ ⟨w5, L6, rfl, h⟩
  exact ret _ _ _ _ _ rfl rfl dX5_toldBy_43 ⟨_, _, rfl, h⟩
def B_X5_toldBy (N : Nat) (x1 : Int32) (x2 : Int32) (x3 : Int64) (post : Int32 → Wd → va_W → Prop) (w : Wd) (L : va_W) : Prop := B_X5_toldBy_0 N post x1 x2 x3 w L
theorem m_X5_toldBy {l : Launch} {K : gK} {N : Nat} {post : Int32 → Wd → va_W → Prop} {x1 : Int32} {x2 : Int32} {x3 : Int64} {w : Wd} {L : va_W} (h : B_X5_toldBy N x1 x2 x3 post w L) : gMi l K yX5_toldBy cX5_toldBy 5 (some .int) rm_X5_toldBy [.ref (ma K 0), .int x1, .int x2, .long x3] (mL K w ++ L) (mPi K post) 0 0 := by
  refine g_inI (ls0 := [(0, .ref (ma K 0)), (1, .int x1), (2, .int x2), (3, .long x3)]) (by decide) (Nat.le_of_ble_eq_true rfl) rfl (fun Γ hl C hn ret => ?_)
  exact k_X5_toldBy_0 C ret x1 x2 x3 w L h
def rm_X5_tells : Room := { frames := 65, cells := 0, slots := 0, locals := 1541 }
def B_X5_tells_32 (N : Nat) (post : Int32 → Wd → va_W → Prop) (s0 : Int32) (w : Wd) (L : va_W) : Prop :=
  post s0 w L
set_option maxHeartbeats 4000000 in
theorem k_X5_tells_32 {Γ : gT} {K : gK} {N : Nat} {post : Int32 → Wd → va_W → Prop} (C : gC Γ K RX5 cX5_tells 5 rm_X5_tells) (ret : gRi Γ K cX5_tells (some .int) (mPi K post) 0 0) (s0 : Int32) (w : Wd) (L : va_W) (h : B_X5_tells_32 N post s0 w L) : gJ Γ K 0 0 (mL K w ++ L) 32 [] [.int s0] := by
  unfold B_X5_tells_32 at h
  exact ret _ _ _ _ _ rfl rfl dX5_tells_32 ⟨_, _, rfl, h⟩
def B_X5_tells_31 (N : Nat) (post : Int32 → Wd → va_W → Prop) (w : Wd) (L : va_W) : Prop :=
  B_X5_tells_32 N post (-1) w L
set_option maxHeartbeats 4000000 in
theorem k_X5_tells_31 {Γ : gT} {K : gK} {N : Nat} {post : Int32 → Wd → va_W → Prop} (C : gC Γ K RX5 cX5_tells 5 rm_X5_tells) (ret : gRi Γ K cX5_tells (some .int) (mPi K post) 0 0) (w : Wd) (L : va_W) (h : B_X5_tells_31 N post w L) : gJ Γ K 0 0 (mL K w ++ L) 31 [] [] := by
  unfold B_X5_tells_31 at h
  refine g_iconst C (-1) (by decide) dX5_tells_31 ?_
  exact k_X5_tells_32 C ret (-1) w L h
def B_X5_tells_0 (N : Nat) (post : Int32 → Wd → va_W → Prop) (x1 : Int32) (x2 : Int32) (x3 : Int64) (w : Wd) (L : va_W) : Prop :=
  B_X5_isTrial N x1 (fun (v3 : Int32) (w1 : Wd) (L2 : va_W) =>
  (v3 = 0 →
    B_X5_tells_31 N post w1 L2) ∧
  (¬ v3 = 0 →
    B_X5_isLaw N x2 (fun (v6 : Int32) (w4 : Wd) (L5 : va_W) =>
  (v6 = 0 →
      B_X5_tells_31 N post w4 L5) ∧
    (¬ v6 = 0 →
      B_X5_toldBy N x1 x2 x3 (fun (v9 : Int32) (w7 : Wd) (L8 : va_W) =>
  B_X5_tells_32 N post v9 w7 L8) w4 L5)) w1 L2)) (xsi w 0 0) L
set_option maxHeartbeats 4000000 in
theorem k_X5_tells_0 {Γ : gT} {K : gK} {N : Nat} {post : Int32 → Wd → va_W → Prop} (C : gC Γ K RX5 cX5_tells 5 rm_X5_tells) (ret : gRi Γ K cX5_tells (some .int) (mPi K post) 0 0) (x1 : Int32) (x2 : Int32) (x3 : Int64) (w : Wd) (L : va_W) (h : B_X5_tells_0 N post x1 x2 x3 w L) : gJ Γ K 0 0 (mL K w ++ L) 0 [(0, .ref (ma K 0)), (1, .int x1), (2, .int x2), (3, .long x3)] [] := by
  unfold B_X5_tells_0 at h
  refine g_aload_n C 0 rfl dX5_tells_0 ?_
  refine g_iconst C 0 (by decide) dX5_tells_1 ?_
  refine mp_thrown C q996 dX5_tells_2 ?_
  refine g_aload_n C 0 rfl dX5_tells_5 ?_
  refine g_iload_n C 1 rfl dX5_tells_6 ?_
  refine g_callVi C (As := [.int x1]) (rest := []) (m_X5_isTrial h) (lw_V q1457 q1459 qs73 q84 q1460) (ci := 12) (qi := 0) rfl rfl ⟨rfl, rfl⟩ ⟨Nat.le_of_ble_eq_true rfl, Nat.le_of_ble_eq_true rfl⟩ 1 rfl (by decide +kernel) rfl (Nat.le_of_ble_eq_true rfl) ⟨Nat.zero_le _, Nat.zero_le _⟩ dX5_tells_7 ?_
  rintro v3 _ ⟨w1, L2, rfl, h⟩
  refine g_if_eq C 31 dX5_tells_10 (by decide) (fun hc => ?_) (fun hc => ?_)
  · replace h := h.1 hc
    refine g_sub [] rfl ?_
    exact k_X5_tells_31 C ret w1 L2 h
  · replace h := h.2 hc
    refine g_aload_n C 0 rfl dX5_tells_13 ?_
    refine g_iload_n C 2 rfl dX5_tells_14 ?_
    refine g_callVi C (As := [.int x2]) (rest := []) (m_X5_isLaw h) (lw_V q1338 q1340 qs54 q84 q1341) (ci := 12) (qi := 0) rfl rfl ⟨rfl, rfl⟩ ⟨Nat.le_of_ble_eq_true rfl, Nat.le_of_ble_eq_true rfl⟩ 1 rfl (by decide +kernel) rfl (Nat.le_of_ble_eq_true rfl) ⟨Nat.zero_le _, Nat.zero_le _⟩ dX5_tells_15 ?_
    rintro v6 _ ⟨w4, L5, rfl, h⟩
    refine g_if_eq C 31 dX5_tells_18 (by decide) (fun hc => ?_) (fun hc => ?_)
    · replace h := h.1 hc
      refine g_sub [] rfl ?_
      exact k_X5_tells_31 C ret w4 L5 h
    · replace h := h.2 hc
      refine g_aload_n C 0 rfl dX5_tells_21 ?_
      refine g_iload_n C 1 rfl dX5_tells_22 ?_
      refine g_iload_n C 2 rfl dX5_tells_23 ?_
      refine g_lload_n C 3 rfl dX5_tells_24 ?_
      refine g_callVi C (As := [.int x1, .int x2, .long x3]) (rest := []) (m_X5_toldBy h) (lw_V q1461 q1463 qs74 q84 q1464) (ci := 12) (qi := 0) rfl rfl ⟨rfl, rfl⟩ ⟨Nat.le_of_ble_eq_true rfl, Nat.le_of_ble_eq_true rfl⟩ 3 rfl (by decide +kernel) rfl (Nat.le_of_ble_eq_true rfl) ⟨Nat.zero_le _, Nat.zero_le _⟩ dX5_tells_25 ?_
      rintro v9 _ ⟨w7, L8, rfl, h⟩
      refine g_goto C 32 dX5_tells_28 (by decide) ?_
      refine g_sub [] rfl ?_
      exact k_X5_tells_32 C ret v9 w7 L8 h
def B_X5_tells (N : Nat) (x1 : Int32) (x2 : Int32) (x3 : Int64) (post : Int32 → Wd → va_W → Prop) (w : Wd) (L : va_W) : Prop := B_X5_tells_0 N post x1 x2 x3 w L
theorem m_X5_tells {l : Launch} {K : gK} {N : Nat} {post : Int32 → Wd → va_W → Prop} {x1 : Int32} {x2 : Int32} {x3 : Int64} {w : Wd} {L : va_W} (h : B_X5_tells N x1 x2 x3 post w L) : gMi l K yX5_tells cX5_tells 5 (some .int) rm_X5_tells [.ref (ma K 0), .int x1, .int x2, .long x3] (mL K w ++ L) (mPi K post) 0 0 := by
  refine g_inI (ls0 := [(0, .ref (ma K 0)), (1, .int x1), (2, .int x2), (3, .long x3)]) (by decide) (Nat.le_of_ble_eq_true rfl) rfl (fun Γ hl C hn ret => ?_)
  exact k_X5_tells_0 C ret x1 x2 x3 w L h
def rm_X5_partedBy : Room := { frames := 65, cells := 0, slots := 0, locals := 1541 }
def B_X5_partedBy_86 (r6 : Int32 → Int32 → Int64 → Int32 → Int32 → Wd → va_W → Prop) (r45 : Int32 → Int32 → Int64 → Int32 → Int32 → Int32 → Wd → va_W → Prop) (N : Nat) (post : Int32 → Wd → va_W → Prop) (x1 : Int32) (x2 : Int32) (x3 : Int64) (x6 : Int32) (x7 : Int32) (s0 : Int32) (s1 : Int32) (w : Wd) (L : va_W) : Prop :=
  r45 x1 x2 x3 (s1 + s0) x6 (x7 + 1) w L
set_option maxHeartbeats 4000000 in
theorem k_X5_partedBy_86 {Γ : gT} {K : gK} {N : Nat} {post : Int32 → Wd → va_W → Prop} (C : gC Γ K RX5 cX5_partedBy 8 rm_X5_partedBy) (ret : gRi Γ K cX5_partedBy (some .int) (mPi K post) 0 0) {r6 : Int32 → Int32 → Int64 → Int32 → Int32 → Wd → va_W → Prop} (hr6 : ∀ (x1 : Int32) (x2 : Int32) (x3 : Int64) (x5 : Int32) (x6 : Int32) (w : Wd) (L : va_W), r6 x1 x2 x3 x5 x6 w L → gJ Γ K 0 0 (mL K w ++ L) 6 [(0, .ref (ma K 0)), (1, .int x1), (2, .int x2), (3, .long x3), (5, .int x5), (6, .int x6)] []) {r45 : Int32 → Int32 → Int64 → Int32 → Int32 → Int32 → Wd → va_W → Prop} (hr45 : ∀ (x1 : Int32) (x2 : Int32) (x3 : Int64) (x5 : Int32) (x6 : Int32) (x7 : Int32) (w : Wd) (L : va_W), r45 x1 x2 x3 x5 x6 x7 w L → gJ Γ K 0 0 (mL K w ++ L) 45 [(0, .ref (ma K 0)), (1, .int x1), (2, .int x2), (3, .long x3), (5, .int x5), (6, .int x6), (7, .int x7)] []) (x1 : Int32) (x2 : Int32) (x3 : Int64) (x6 : Int32) (x7 : Int32) (s0 : Int32) (s1 : Int32) (w : Wd) (L : va_W) (h : B_X5_partedBy_86 r6 r45 N post x1 x2 x3 x6 x7 s0 s1 w L) : gJ Γ K 0 0 (mL K w ++ L) 86 [(0, .ref (ma K 0)), (1, .int x1), (2, .int x2), (3, .long x3), (6, .int x6), (7, .int x7)] [.int s0, .int s1] := by
  unfold B_X5_partedBy_86 at h
  refine g_iadd C dX5_partedBy_86 ?_
  refine g_istore C (lt := [(5, .int (s1 + s0)), (0, .ref (ma K 0)), (1, .int x1), (2, .int x2), (3, .long x3), (6, .int x6), (7, .int x7)]) dX5_partedBy_87 (by decide) rfl ?_
  refine g_iinc C 6 (x7 + 1) (lt := [(7, .int (x7 + 1)), (5, .int (s1 + s0)), (0, .ref (ma K 0)), (1, .int x1), (2, .int x2), (3, .long x3), (6, .int x6)]) rfl rfl dX5_partedBy_89 (by decide) rfl ?_
  refine g_goto C 45 dX5_partedBy_92 (by decide) ?_
  refine g_sub [2, 3, 4, 5, 1, 6, 0] rfl ?_
  exact hr45 x1 x2 x3 (s1 + s0) x6 (x7 + 1) w L h
def B_X5_partedBy_85 (r6 : Int32 → Int32 → Int64 → Int32 → Int32 → Wd → va_W → Prop) (r45 : Int32 → Int32 → Int64 → Int32 → Int32 → Int32 → Wd → va_W → Prop) (N : Nat) (post : Int32 → Wd → va_W → Prop) (x1 : Int32) (x2 : Int32) (x3 : Int64) (x6 : Int32) (x7 : Int32) (s0 : Int32) (w : Wd) (L : va_W) : Prop :=
  B_X5_partedBy_86 r6 r45 N post x1 x2 x3 x6 x7 0 s0 w L
set_option maxHeartbeats 4000000 in
theorem k_X5_partedBy_85 {Γ : gT} {K : gK} {N : Nat} {post : Int32 → Wd → va_W → Prop} (C : gC Γ K RX5 cX5_partedBy 8 rm_X5_partedBy) (ret : gRi Γ K cX5_partedBy (some .int) (mPi K post) 0 0) {r6 : Int32 → Int32 → Int64 → Int32 → Int32 → Wd → va_W → Prop} (hr6 : ∀ (x1 : Int32) (x2 : Int32) (x3 : Int64) (x5 : Int32) (x6 : Int32) (w : Wd) (L : va_W), r6 x1 x2 x3 x5 x6 w L → gJ Γ K 0 0 (mL K w ++ L) 6 [(0, .ref (ma K 0)), (1, .int x1), (2, .int x2), (3, .long x3), (5, .int x5), (6, .int x6)] []) {r45 : Int32 → Int32 → Int64 → Int32 → Int32 → Int32 → Wd → va_W → Prop} (hr45 : ∀ (x1 : Int32) (x2 : Int32) (x3 : Int64) (x5 : Int32) (x6 : Int32) (x7 : Int32) (w : Wd) (L : va_W), r45 x1 x2 x3 x5 x6 x7 w L → gJ Γ K 0 0 (mL K w ++ L) 45 [(0, .ref (ma K 0)), (1, .int x1), (2, .int x2), (3, .long x3), (5, .int x5), (6, .int x6), (7, .int x7)] []) (x1 : Int32) (x2 : Int32) (x3 : Int64) (x6 : Int32) (x7 : Int32) (s0 : Int32) (w : Wd) (L : va_W) (h : B_X5_partedBy_85 r6 r45 N post x1 x2 x3 x6 x7 s0 w L) : gJ Γ K 0 0 (mL K w ++ L) 85 [(0, .ref (ma K 0)), (1, .int x1), (2, .int x2), (3, .long x3), (6, .int x6), (7, .int x7)] [.int s0] := by
  unfold B_X5_partedBy_85 at h
  refine g_iconst C 0 (by decide) dX5_partedBy_85 ?_
  exact k_X5_partedBy_86 C ret hr6 hr45 x1 x2 x3 x6 x7 0 s0 w L h
def B_X5_partedBy_95 (r6 : Int32 → Int32 → Int64 → Int32 → Int32 → Wd → va_W → Prop) (N : Nat) (post : Int32 → Wd → va_W → Prop) (x1 : Int32) (x2 : Int32) (x3 : Int64) (x5 : Int32) (x6 : Int32) (w : Wd) (L : va_W) : Prop :=
  r6 x1 x2 x3 x5 (x6 + 1) w L
set_option maxHeartbeats 4000000 in
theorem k_X5_partedBy_95 {Γ : gT} {K : gK} {N : Nat} {post : Int32 → Wd → va_W → Prop} (C : gC Γ K RX5 cX5_partedBy 8 rm_X5_partedBy) (ret : gRi Γ K cX5_partedBy (some .int) (mPi K post) 0 0) {r6 : Int32 → Int32 → Int64 → Int32 → Int32 → Wd → va_W → Prop} (hr6 : ∀ (x1 : Int32) (x2 : Int32) (x3 : Int64) (x5 : Int32) (x6 : Int32) (w : Wd) (L : va_W), r6 x1 x2 x3 x5 x6 w L → gJ Γ K 0 0 (mL K w ++ L) 6 [(0, .ref (ma K 0)), (1, .int x1), (2, .int x2), (3, .long x3), (5, .int x5), (6, .int x6)] []) (x1 : Int32) (x2 : Int32) (x3 : Int64) (x5 : Int32) (x6 : Int32) (w : Wd) (L : va_W) (h : B_X5_partedBy_95 r6 N post x1 x2 x3 x5 x6 w L) : gJ Γ K 0 0 (mL K w ++ L) 95 [(0, .ref (ma K 0)), (1, .int x1), (2, .int x2), (3, .long x3), (5, .int x5), (6, .int x6)] [] := by
  unfold B_X5_partedBy_95 at h
  refine g_iinc C 5 (x6 + 1) (lt := [(6, .int (x6 + 1)), (0, .ref (ma K 0)), (1, .int x1), (2, .int x2), (3, .long x3), (5, .int x5)]) rfl rfl dX5_partedBy_95 (by decide) rfl ?_
  refine g_goto C 6 dX5_partedBy_98 (by decide) ?_
  refine g_sub [1, 2, 3, 4, 5, 0] rfl ?_
  exact hr6 x1 x2 x3 x5 (x6 + 1) w L h
def B_X5_partedBy_45s (r6 : Int32 → Int32 → Int64 → Int32 → Int32 → Wd → va_W → Prop) (r45 : Int32 → Int32 → Int64 → Int32 → Int32 → Int32 → Wd → va_W → Prop) (N : Nat) (post : Int32 → Wd → va_W → Prop) (x1 : Int32) (x2 : Int32) (x3 : Int64) (x5 : Int32) (x6 : Int32) (x7 : Int32) (w : Wd) (L : va_W) : Prop :=
  (x6 ≤ x7 →
    B_X5_partedBy_95 r6 N post x1 x2 x3 x5 x6 w L) ∧
  (¬ x6 ≤ x7 →
    (((x2 >>> (x7 &&& 31)) &&& 1) = (1 : Int32) →
      vp_in x7 6 ∧ vp_in x6 6 ∧ ((xA w 26 x7.toNatClampNeg) = (xA w 26 x6.toNatClampNeg) →
        B_X5_partedBy_85 r6 r45 N post x1 x2 x3 x6 x7 x5 w L) ∧
      (¬ (xA w 26 x7.toNatClampNeg) = (xA w 26 x6.toNatClampNeg) →
        B_X5_partedBy_86 r6 r45 N post x1 x2 x3 x6 x7 1 x5 w L)) ∧
    (¬ ((x2 >>> (x7 &&& 31)) &&& 1) = (1 : Int32) →
      B_X5_partedBy_85 r6 r45 N post x1 x2 x3 x6 x7 x5 w L))
def B_X5_partedBy_45 (r6 : Int32 → Int32 → Int64 → Int32 → Int32 → Wd → va_W → Prop) (N : Nat) (post : Int32 → Wd → va_W → Prop) : Nat → Int32 → Int32 → Int64 → Int32 → Int32 → Int32 → Wd → va_W → Prop
  | 0, _, _, _, _, _, _, _, _ => False
  | n + 1, x1, x2, x3, x5, x6, x7, w, L => B_X5_partedBy_45s r6 (B_X5_partedBy_45 r6 N post n) N post x1 x2 x3 x5 x6 x7 w L
set_option maxHeartbeats 4000000 in
theorem k_X5_partedBy_45s {Γ : gT} {K : gK} {N : Nat} {post : Int32 → Wd → va_W → Prop} (C : gC Γ K RX5 cX5_partedBy 8 rm_X5_partedBy) (ret : gRi Γ K cX5_partedBy (some .int) (mPi K post) 0 0) {r6 : Int32 → Int32 → Int64 → Int32 → Int32 → Wd → va_W → Prop} (hr6 : ∀ (x1 : Int32) (x2 : Int32) (x3 : Int64) (x5 : Int32) (x6 : Int32) (w : Wd) (L : va_W), r6 x1 x2 x3 x5 x6 w L → gJ Γ K 0 0 (mL K w ++ L) 6 [(0, .ref (ma K 0)), (1, .int x1), (2, .int x2), (3, .long x3), (5, .int x5), (6, .int x6)] []) {r45 : Int32 → Int32 → Int64 → Int32 → Int32 → Int32 → Wd → va_W → Prop} (hr45 : ∀ (x1 : Int32) (x2 : Int32) (x3 : Int64) (x5 : Int32) (x6 : Int32) (x7 : Int32) (w : Wd) (L : va_W), r45 x1 x2 x3 x5 x6 x7 w L → gJ Γ K 0 0 (mL K w ++ L) 45 [(0, .ref (ma K 0)), (1, .int x1), (2, .int x2), (3, .long x3), (5, .int x5), (6, .int x6), (7, .int x7)] []) (x1 : Int32) (x2 : Int32) (x3 : Int64) (x5 : Int32) (x6 : Int32) (x7 : Int32) (w : Wd) (L : va_W) (h : B_X5_partedBy_45s r6 r45 N post x1 x2 x3 x5 x6 x7 w L) : gJ Γ K 0 0 (mL K w ++ L) 45 [(0, .ref (ma K 0)), (1, .int x1), (2, .int x2), (3, .long x3), (5, .int x5), (6, .int x6), (7, .int x7)] [] := by
  unfold B_X5_partedBy_45s at h
  refine g_iload C 6 rfl dX5_partedBy_45 ?_
  refine g_iload C 5 rfl dX5_partedBy_47 ?_
  refine g_icmp_ge C 95 dX5_partedBy_49 (by decide) (fun hc => ?_) (fun hc => ?_)
  · replace h := h.1 hc
    refine g_sub [0, 1, 2, 3, 4, 5] rfl ?_
    exact k_X5_partedBy_95 C ret hr6 x1 x2 x3 x5 x6 w L h
  · replace h := h.2 hc
    refine g_iload C 4 rfl dX5_partedBy_52 ?_
    refine g_iload_n C 2 rfl dX5_partedBy_54 ?_
    refine g_iload C 6 rfl dX5_partedBy_55 ?_
    refine g_ishr C dX5_partedBy_57 ?_
    refine g_iconst C 1 (by decide) dX5_partedBy_58 ?_
    refine g_iand C dX5_partedBy_59 ?_
    refine g_iconst C 1 (by decide) dX5_partedBy_60 ?_
    refine g_icmp_ne C 85 dX5_partedBy_61 (by decide) (fun hc => ?_) (fun hc => ?_)
    · replace h := h.2 hc
      refine g_sub [0, 1, 2, 3, 5, 6] rfl ?_
      exact k_X5_partedBy_85 C ret hr6 hr45 x1 x2 x3 x6 x7 x5 w L h
    · replace h := h.1 hc
      refine g_aload_n C 0 rfl dX5_partedBy_64 ?_
      refine mg_tell C q1052 dX5_partedBy_65 ?_
      refine g_iload C 6 rfl dX5_partedBy_68 ?_
      obtain ⟨hb, h⟩ := h
      refine mld_26 C hb (xA w 26 x7.toNatClampNeg) rfl dX5_partedBy_70 ?_
      refine g_aload_n C 0 rfl dX5_partedBy_71 ?_
      refine mg_tell C q1052 dX5_partedBy_72 ?_
      refine g_iload C 5 rfl dX5_partedBy_75 ?_
      obtain ⟨hb, h⟩ := h
      refine mld_26 C hb (xA w 26 x6.toNatClampNeg) rfl dX5_partedBy_77 ?_
      refine g_icmp_eq C 85 dX5_partedBy_78 (by decide) (fun hc => ?_) (fun hc => ?_)
      · replace h := h.1 hc
        refine g_sub [0, 1, 2, 3, 5, 6] rfl ?_
        exact k_X5_partedBy_85 C ret hr6 hr45 x1 x2 x3 x6 x7 x5 w L h
      · replace h := h.2 hc
        refine g_iconst C 1 (by decide) dX5_partedBy_81 ?_
        refine g_goto C 86 dX5_partedBy_82 (by decide) ?_
        refine g_sub [0, 1, 2, 3, 5, 6] rfl ?_
        exact k_X5_partedBy_86 C ret hr6 hr45 x1 x2 x3 x6 x7 1 x5 w L h
theorem k_X5_partedBy_45 {Γ : gT} {K : gK} {N : Nat} {post : Int32 → Wd → va_W → Prop} (C : gC Γ K RX5 cX5_partedBy 8 rm_X5_partedBy) (ret : gRi Γ K cX5_partedBy (some .int) (mPi K post) 0 0) {r6 : Int32 → Int32 → Int64 → Int32 → Int32 → Wd → va_W → Prop} (hr6 : ∀ (x1 : Int32) (x2 : Int32) (x3 : Int64) (x5 : Int32) (x6 : Int32) (w : Wd) (L : va_W), r6 x1 x2 x3 x5 x6 w L → gJ Γ K 0 0 (mL K w ++ L) 6 [(0, .ref (ma K 0)), (1, .int x1), (2, .int x2), (3, .long x3), (5, .int x5), (6, .int x6)] []) : ∀ (n : Nat) (x1 : Int32) (x2 : Int32) (x3 : Int64) (x5 : Int32) (x6 : Int32) (x7 : Int32) (w : Wd) (L : va_W) (h : B_X5_partedBy_45 r6 N post n x1 x2 x3 x5 x6 x7 w L), gJ Γ K 0 0 (mL K w ++ L) 45 [(0, .ref (ma K 0)), (1, .int x1), (2, .int x2), (3, .long x3), (5, .int x5), (6, .int x6), (7, .int x7)] [] := by
  intro n
  induction n with
  | zero => intro x1 x2 x3 x5 x6 x7 w L h; exact h.elim
  | succ n ih => intro x1 x2 x3 x5 x6 x7 w L h; exact k_X5_partedBy_45s C ret hr6 ih x1 x2 x3 x5 x6 x7 w L h
def B_X5_partedBy_6s (r6 : Int32 → Int32 → Int64 → Int32 → Int32 → Wd → va_W → Prop) (N : Nat) (post : Int32 → Wd → va_W → Prop) (x1 : Int32) (x2 : Int32) (x3 : Int64) (x5 : Int32) (x6 : Int32) (w : Wd) (L : va_W) : Prop :=
  ((xi w 2) ≤ x6 →
    post x5 w L) ∧
  (¬ (xi w 2) ≤ x6 →
    (((x2 >>> (x6 &&& 31)) &&& 1) = 0 →
      B_X5_partedBy_95 r6 N post x1 x2 x3 x5 x6 w L) ∧
    (¬ ((x2 >>> (x6 &&& 31)) &&& 1) = 0 →
      B_X5_toldBy N x1 x6 x3 (fun (v3 : Int32) (w1 : Wd) (L2 : va_W) =>
  vp_in x6 6 ∧ ∀ w4 : Wd, w4 = (xsA w1 26 x6.toNatClampNeg v3) → B_X5_partedBy_45 r6 N post N x1 x2 x3 x5 x6 0 w4 L2) w L))
def B_X5_partedBy_6 (N : Nat) (post : Int32 → Wd → va_W → Prop) : Nat → Int32 → Int32 → Int64 → Int32 → Int32 → Wd → va_W → Prop
  | 0, _, _, _, _, _, _, _ => False
  | n + 1, x1, x2, x3, x5, x6, w, L => B_X5_partedBy_6s (B_X5_partedBy_6 N post n) N post x1 x2 x3 x5 x6 w L
set_option maxHeartbeats 4000000 in
theorem k_X5_partedBy_6s {Γ : gT} {K : gK} {N : Nat} {post : Int32 → Wd → va_W → Prop} (C : gC Γ K RX5 cX5_partedBy 8 rm_X5_partedBy) (ret : gRi Γ K cX5_partedBy (some .int) (mPi K post) 0 0) {r6 : Int32 → Int32 → Int64 → Int32 → Int32 → Wd → va_W → Prop} (hr6 : ∀ (x1 : Int32) (x2 : Int32) (x3 : Int64) (x5 : Int32) (x6 : Int32) (w : Wd) (L : va_W), r6 x1 x2 x3 x5 x6 w L → gJ Γ K 0 0 (mL K w ++ L) 6 [(0, .ref (ma K 0)), (1, .int x1), (2, .int x2), (3, .long x3), (5, .int x5), (6, .int x6)] []) (x1 : Int32) (x2 : Int32) (x3 : Int64) (x5 : Int32) (x6 : Int32) (w : Wd) (L : va_W) (h : B_X5_partedBy_6s r6 N post x1 x2 x3 x5 x6 w L) : gJ Γ K 0 0 (mL K w ++ L) 6 [(0, .ref (ma K 0)), (1, .int x1), (2, .int x2), (3, .long x3), (5, .int x5), (6, .int x6)] [] := by
  unfold B_X5_partedBy_6s at h
  refine g_iload C 5 rfl dX5_partedBy_6 ?_
  refine g_aload_n C 0 rfl dX5_partedBy_8 ?_
  refine mg_laws C q1003 (xi w 2) rfl dX5_partedBy_9 ?_
  refine g_icmp_ge C 101 dX5_partedBy_12 (by decide) (fun hc => ?_) (fun hc => ?_)
  · replace h := h.1 hc
    refine g_iload C 4 rfl dX5_partedBy_101 ?_
    exact ret _ _ _ _ _ rfl rfl dX5_partedBy_103 ⟨_, _, rfl, h⟩
  · replace h := h.2 hc
    refine g_iload_n C 2 rfl dX5_partedBy_15 ?_
    refine g_iload C 5 rfl dX5_partedBy_16 ?_
    refine g_ishr C dX5_partedBy_18 ?_
    refine g_iconst C 1 (by decide) dX5_partedBy_19 ?_
    refine g_iand C dX5_partedBy_20 ?_
    refine g_if_ne C 27 dX5_partedBy_21 (by decide) (fun hc => ?_) (fun hc => ?_)
    · replace h := h.2 hc
      refine g_aload_n C 0 rfl dX5_partedBy_27 ?_
      refine mg_tell C q1052 dX5_partedBy_28 ?_
      refine g_iload C 5 rfl dX5_partedBy_31 ?_
      refine g_aload_n C 0 rfl dX5_partedBy_33 ?_
      refine g_iload_n C 1 rfl dX5_partedBy_34 ?_
      refine g_iload C 5 rfl dX5_partedBy_35 ?_
      refine g_lload_n C 3 rfl dX5_partedBy_37 ?_
      refine g_callVi C (As := [.int x1, .int x6, .long x3]) (rest := [.int x6, .ref (ma K 26)]) (m_X5_toldBy h) (lw_V q1461 q1463 qs74 q84 q1464) (ci := 12) (qi := 0) rfl rfl ⟨rfl, rfl⟩ ⟨Nat.le_of_ble_eq_true rfl, Nat.le_of_ble_eq_true rfl⟩ 3 rfl (by decide +kernel) rfl (Nat.le_of_ble_eq_true rfl) ⟨Nat.zero_le _, Nat.zero_le _⟩ dX5_partedBy_38 ?_
      rintro v3 _ ⟨w1, L2, rfl, h⟩
      obtain ⟨hb, h⟩ := h
      refine mst_26 C hb dX5_partedBy_41 ?_
      obtain ⟨w4, ew4⟩ : ∃ z, z = (xsA w1 26 x6.toNatClampNeg v3) := ⟨_, rfl⟩
      replace h := h w4 ew4
      rw [← ew4]
      refine g_iconst C 0 (by decide) dX5_partedBy_42 ?_
      refine g_istore C (lt := [(7, .int 0), (0, .ref (ma K 0)), (1, .int x1), (2, .int x2), (3, .long x3), (5, .int x5), (6, .int x6)]) dX5_partedBy_43 (by decide) rfl ?_
      refine g_sub [1, 2, 3, 4, 5, 6, 0] rfl ?_
      exact k_X5_partedBy_45 C ret hr6 N x1 x2 x3 x5 x6 0 w4 L2 h
    · replace h := h.1 hc
      refine g_goto C 95 dX5_partedBy_24 (by decide) ?_
      exact k_X5_partedBy_95 C ret hr6 x1 x2 x3 x5 x6 w L h
theorem k_X5_partedBy_6 {Γ : gT} {K : gK} {N : Nat} {post : Int32 → Wd → va_W → Prop} (C : gC Γ K RX5 cX5_partedBy 8 rm_X5_partedBy) (ret : gRi Γ K cX5_partedBy (some .int) (mPi K post) 0 0) : ∀ (n : Nat) (x1 : Int32) (x2 : Int32) (x3 : Int64) (x5 : Int32) (x6 : Int32) (w : Wd) (L : va_W) (h : B_X5_partedBy_6 N post n x1 x2 x3 x5 x6 w L), gJ Γ K 0 0 (mL K w ++ L) 6 [(0, .ref (ma K 0)), (1, .int x1), (2, .int x2), (3, .long x3), (5, .int x5), (6, .int x6)] [] := by
  intro n
  induction n with
  | zero => intro x1 x2 x3 x5 x6 w L h; exact h.elim
  | succ n ih => intro x1 x2 x3 x5 x6 w L h; exact k_X5_partedBy_6s C ret ih x1 x2 x3 x5 x6 w L h
def B_X5_partedBy_0 (N : Nat) (post : Int32 → Wd → va_W → Prop) (x1 : Int32) (x2 : Int32) (x3 : Int64) (w : Wd) (L : va_W) : Prop :=
  B_X5_partedBy_6 N post N x1 x2 x3 0 0 w L
set_option maxHeartbeats 4000000 in
theorem k_X5_partedBy_0 {Γ : gT} {K : gK} {N : Nat} {post : Int32 → Wd → va_W → Prop} (C : gC Γ K RX5 cX5_partedBy 8 rm_X5_partedBy) (ret : gRi Γ K cX5_partedBy (some .int) (mPi K post) 0 0) (x1 : Int32) (x2 : Int32) (x3 : Int64) (w : Wd) (L : va_W) (h : B_X5_partedBy_0 N post x1 x2 x3 w L) : gJ Γ K 0 0 (mL K w ++ L) 0 [(0, .ref (ma K 0)), (1, .int x1), (2, .int x2), (3, .long x3)] [] := by
  unfold B_X5_partedBy_0 at h
  refine g_iconst C 0 (by decide) dX5_partedBy_0 ?_
  refine g_istore C (lt := [(5, .int 0), (0, .ref (ma K 0)), (1, .int x1), (2, .int x2), (3, .long x3)]) dX5_partedBy_1 (by decide) rfl ?_
  refine g_iconst C 0 (by decide) dX5_partedBy_3 ?_
  refine g_istore C (lt := [(6, .int 0), (5, .int 0), (0, .ref (ma K 0)), (1, .int x1), (2, .int x2), (3, .long x3)]) dX5_partedBy_4 (by decide) rfl ?_
  refine g_sub [2, 3, 4, 5, 1, 0] rfl ?_
  exact k_X5_partedBy_6 C ret N x1 x2 x3 0 0 w L h
def B_X5_partedBy (N : Nat) (x1 : Int32) (x2 : Int32) (x3 : Int64) (post : Int32 → Wd → va_W → Prop) (w : Wd) (L : va_W) : Prop := B_X5_partedBy_0 N post x1 x2 x3 w L
theorem m_X5_partedBy {l : Launch} {K : gK} {N : Nat} {post : Int32 → Wd → va_W → Prop} {x1 : Int32} {x2 : Int32} {x3 : Int64} {w : Wd} {L : va_W} (h : B_X5_partedBy N x1 x2 x3 post w L) : gMi l K yX5_partedBy cX5_partedBy 8 (some .int) rm_X5_partedBy [.ref (ma K 0), .int x1, .int x2, .long x3] (mL K w ++ L) (mPi K post) 0 0 := by
  refine g_inI (ls0 := [(0, .ref (ma K 0)), (1, .int x1), (2, .int x2), (3, .long x3)]) (by decide) (Nat.le_of_ble_eq_true rfl) rfl (fun Γ hl C hn ret => ?_)
  exact k_X5_partedBy_0 C ret x1 x2 x3 w L h
def rm_X5_parted : Room := { frames := 66, cells := 0, slots := 0, locals := 1568 }
def B_X5_parted_32 (N : Nat) (post : Int32 → Wd → va_W → Prop) (s0 : Int32) (w : Wd) (L : va_W) : Prop :=
  post s0 w L
set_option maxHeartbeats 4000000 in
theorem k_X5_parted_32 {Γ : gT} {K : gK} {N : Nat} {post : Int32 → Wd → va_W → Prop} (C : gC Γ K RX5 cX5_parted 5 rm_X5_parted) (ret : gRi Γ K cX5_parted (some .int) (mPi K post) 0 0) (s0 : Int32) (w : Wd) (L : va_W) (h : B_X5_parted_32 N post s0 w L) : gJ Γ K 0 0 (mL K w ++ L) 32 [] [.int s0] := by
  unfold B_X5_parted_32 at h
  exact ret _ _ _ _ _ rfl rfl dX5_parted_32 ⟨_, _, rfl, h⟩
def B_X5_parted_31 (N : Nat) (post : Int32 → Wd → va_W → Prop) (w : Wd) (L : va_W) : Prop :=
  B_X5_parted_32 N post (-1) w L
set_option maxHeartbeats 4000000 in
theorem k_X5_parted_31 {Γ : gT} {K : gK} {N : Nat} {post : Int32 → Wd → va_W → Prop} (C : gC Γ K RX5 cX5_parted 5 rm_X5_parted) (ret : gRi Γ K cX5_parted (some .int) (mPi K post) 0 0) (w : Wd) (L : va_W) (h : B_X5_parted_31 N post w L) : gJ Γ K 0 0 (mL K w ++ L) 31 [] [] := by
  unfold B_X5_parted_31 at h
  refine g_iconst C (-1) (by decide) dX5_parted_31 ?_
  exact k_X5_parted_32 C ret (-1) w L h
def B_X5_parted_0 (N : Nat) (post : Int32 → Wd → va_W → Prop) (x1 : Int32) (x2 : Int32) (x3 : Int64) (w : Wd) (L : va_W) : Prop :=
  B_X5_isTrial N x1 (fun (v3 : Int32) (w1 : Wd) (L2 : va_W) =>
  (v3 = 0 →
    B_X5_parted_31 N post w1 L2) ∧
  (¬ v3 = 0 →
    B_X5_areLaws N x2 (fun (v6 : Int32) (w4 : Wd) (L5 : va_W) =>
  (v6 = 0 →
      B_X5_parted_31 N post w4 L5) ∧
    (¬ v6 = 0 →
      B_X5_partedBy N x1 x2 x3 (fun (v9 : Int32) (w7 : Wd) (L8 : va_W) =>
  B_X5_parted_32 N post v9 w7 L8) w4 L5)) w1 L2)) (xsi w 0 0) L
set_option maxHeartbeats 4000000 in
theorem k_X5_parted_0 {Γ : gT} {K : gK} {N : Nat} {post : Int32 → Wd → va_W → Prop} (C : gC Γ K RX5 cX5_parted 5 rm_X5_parted) (ret : gRi Γ K cX5_parted (some .int) (mPi K post) 0 0) (x1 : Int32) (x2 : Int32) (x3 : Int64) (w : Wd) (L : va_W) (h : B_X5_parted_0 N post x1 x2 x3 w L) : gJ Γ K 0 0 (mL K w ++ L) 0 [(0, .ref (ma K 0)), (1, .int x1), (2, .int x2), (3, .long x3)] [] := by
  unfold B_X5_parted_0 at h
  refine g_aload_n C 0 rfl dX5_parted_0 ?_
  refine g_iconst C 0 (by decide) dX5_parted_1 ?_
  refine mp_thrown C q996 dX5_parted_2 ?_
  refine g_aload_n C 0 rfl dX5_parted_5 ?_
  refine g_iload_n C 1 rfl dX5_parted_6 ?_
  refine g_callVi C (As := [.int x1]) (rest := []) (m_X5_isTrial h) (lw_V q1457 q1459 qs73 q84 q1460) (ci := 12) (qi := 0) rfl rfl ⟨rfl, rfl⟩ ⟨Nat.le_of_ble_eq_true rfl, Nat.le_of_ble_eq_true rfl⟩ 1 rfl (by decide +kernel) rfl (Nat.le_of_ble_eq_true rfl) ⟨Nat.zero_le _, Nat.zero_le _⟩ dX5_parted_7 ?_
  rintro v3 _ ⟨w1, L2, rfl, h⟩
  refine g_if_eq C 31 dX5_parted_10 (by decide) (fun hc => ?_) (fun hc => ?_)
  · replace h := h.1 hc
    refine g_sub [] rfl ?_
    exact k_X5_parted_31 C ret w1 L2 h
  · replace h := h.2 hc
    refine g_aload_n C 0 rfl dX5_parted_13 ?_
    refine g_iload_n C 2 rfl dX5_parted_14 ?_
    refine g_callVi C (As := [.int x2]) (rest := []) (m_X5_areLaws h) (lw_V q1469 q1471 qs75 q84 q1472) (ci := 12) (qi := 0) rfl rfl ⟨rfl, rfl⟩ ⟨Nat.le_of_ble_eq_true rfl, Nat.le_of_ble_eq_true rfl⟩ 1 rfl (by decide +kernel) rfl (Nat.le_of_ble_eq_true rfl) ⟨Nat.zero_le _, Nat.zero_le _⟩ dX5_parted_15 ?_
    rintro v6 _ ⟨w4, L5, rfl, h⟩
    refine g_if_eq C 31 dX5_parted_18 (by decide) (fun hc => ?_) (fun hc => ?_)
    · replace h := h.1 hc
      refine g_sub [] rfl ?_
      exact k_X5_parted_31 C ret w4 L5 h
    · replace h := h.2 hc
      refine g_aload_n C 0 rfl dX5_parted_21 ?_
      refine g_iload_n C 1 rfl dX5_parted_22 ?_
      refine g_iload_n C 2 rfl dX5_parted_23 ?_
      refine g_lload_n C 3 rfl dX5_parted_24 ?_
      refine g_callVi C (As := [.int x1, .int x2, .long x3]) (rest := []) (m_X5_partedBy h) (lw_V q1473 q1475 qs76 q84 q1476) (ci := 12) (qi := 0) rfl rfl ⟨rfl, rfl⟩ ⟨Nat.le_of_ble_eq_true rfl, Nat.le_of_ble_eq_true rfl⟩ 3 rfl (by decide +kernel) rfl (Nat.le_of_ble_eq_true rfl) ⟨Nat.zero_le _, Nat.zero_le _⟩ dX5_parted_25 ?_
      rintro v9 _ ⟨w7, L8, rfl, h⟩
      refine g_goto C 32 dX5_parted_28 (by decide) ?_
      refine g_sub [] rfl ?_
      exact k_X5_parted_32 C ret v9 w7 L8 h
def B_X5_parted (N : Nat) (x1 : Int32) (x2 : Int32) (x3 : Int64) (post : Int32 → Wd → va_W → Prop) (w : Wd) (L : va_W) : Prop := B_X5_parted_0 N post x1 x2 x3 w L
theorem m_X5_parted {l : Launch} {K : gK} {N : Nat} {post : Int32 → Wd → va_W → Prop} {x1 : Int32} {x2 : Int32} {x3 : Int64} {w : Wd} {L : va_W} (h : B_X5_parted N x1 x2 x3 post w L) : gMi l K yX5_parted cX5_parted 5 (some .int) rm_X5_parted [.ref (ma K 0), .int x1, .int x2, .long x3] (mL K w ++ L) (mPi K post) 0 0 := by
  refine g_inI (ls0 := [(0, .ref (ma K 0)), (1, .int x1), (2, .int x2), (3, .long x3)]) (by decide) (Nat.le_of_ble_eq_true rfl) rfl (fun Γ hl C hn ret => ?_)
  exact k_X5_parted_0 C ret x1 x2 x3 w L h
def rm_X5_next : Room := { frames := 66, cells := 0, slots := 0, locals := 1568 }
def B_X5_next_67 (r24 : Int32 → Int64 → Int32 → Int32 → Int32 → Wd → va_W → Prop) (N : Nat) (post : Int32 → Wd → va_W → Prop) (x1 : Int32) (x2 : Int64) (x4 : Int32) (x5 : Int32) (x6 : Int32) (w : Wd) (L : va_W) : Prop :=
  r24 x1 x2 x4 x5 (x6 + 1) w L
set_option maxHeartbeats 4000000 in
theorem k_X5_next_67 {Γ : gT} {K : gK} {N : Nat} {post : Int32 → Wd → va_W → Prop} (C : gC Γ K RX5 cX5_next 8 rm_X5_next) (ret : gRi Γ K cX5_next (some .int) (mPi K post) 0 0) {r24 : Int32 → Int64 → Int32 → Int32 → Int32 → Wd → va_W → Prop} (hr24 : ∀ (x1 : Int32) (x2 : Int64) (x4 : Int32) (x5 : Int32) (x6 : Int32) (w : Wd) (L : va_W), r24 x1 x2 x4 x5 x6 w L → gJ Γ K 0 0 (mL K w ++ L) 24 [(0, .ref (ma K 0)), (1, .int x1), (2, .long x2), (4, .int x4), (5, .int x5), (6, .int x6)] []) (x1 : Int32) (x2 : Int64) (x4 : Int32) (x5 : Int32) (x6 : Int32) (w : Wd) (L : va_W) (h : B_X5_next_67 r24 N post x1 x2 x4 x5 x6 w L) : gJ Γ K 0 0 (mL K w ++ L) 67 [(0, .ref (ma K 0)), (1, .int x1), (2, .long x2), (4, .int x4), (5, .int x5), (6, .int x6)] [] := by
  unfold B_X5_next_67 at h
  refine g_iinc C 5 (x6 + 1) (lt := [(6, .int (x6 + 1)), (0, .ref (ma K 0)), (1, .int x1), (2, .long x2), (4, .int x4), (5, .int x5)]) rfl rfl dX5_next_67 (by decide) rfl ?_
  refine g_goto C 24 dX5_next_70 (by decide) ?_
  refine g_sub [1, 2, 3, 4, 5, 0] rfl ?_
  exact hr24 x1 x2 x4 x5 (x6 + 1) w L h
def B_X5_next_59 (r24 : Int32 → Int64 → Int32 → Int32 → Int32 → Wd → va_W → Prop) (N : Nat) (post : Int32 → Wd → va_W → Prop) (x1 : Int32) (x2 : Int64) (x6 : Int32) (x7 : Int32) (w : Wd) (L : va_W) : Prop :=
  B_X5_next_67 r24 N post x1 x2 x6 x7 x6 w L
set_option maxHeartbeats 4000000 in
theorem k_X5_next_59 {Γ : gT} {K : gK} {N : Nat} {post : Int32 → Wd → va_W → Prop} (C : gC Γ K RX5 cX5_next 8 rm_X5_next) (ret : gRi Γ K cX5_next (some .int) (mPi K post) 0 0) {r24 : Int32 → Int64 → Int32 → Int32 → Int32 → Wd → va_W → Prop} (hr24 : ∀ (x1 : Int32) (x2 : Int64) (x4 : Int32) (x5 : Int32) (x6 : Int32) (w : Wd) (L : va_W), r24 x1 x2 x4 x5 x6 w L → gJ Γ K 0 0 (mL K w ++ L) 24 [(0, .ref (ma K 0)), (1, .int x1), (2, .long x2), (4, .int x4), (5, .int x5), (6, .int x6)] []) (x1 : Int32) (x2 : Int64) (x6 : Int32) (x7 : Int32) (w : Wd) (L : va_W) (h : B_X5_next_59 r24 N post x1 x2 x6 x7 w L) : gJ Γ K 0 0 (mL K w ++ L) 59 [(0, .ref (ma K 0)), (1, .int x1), (2, .long x2), (6, .int x6), (7, .int x7)] [] := by
  unfold B_X5_next_59 at h
  refine g_iload C 3 rfl dX5_next_59 ?_
  refine g_istore C (lt := [(4, .int x6), (0, .ref (ma K 0)), (1, .int x1), (2, .long x2), (6, .int x6), (7, .int x7)]) dX5_next_61 (by decide) rfl ?_
  refine g_iload C 5 rfl dX5_next_63 ?_
  refine g_istore C (lt := [(5, .int x7), (4, .int x6), (0, .ref (ma K 0)), (1, .int x1), (2, .long x2), (6, .int x6), (7, .int x7)]) dX5_next_65 (by decide) rfl ?_
  refine g_sub [2, 3, 4, 1, 0, 5] rfl ?_
  exact k_X5_next_67 C ret hr24 x1 x2 x6 x7 x6 w L h
def B_X5_next_24s (r24 : Int32 → Int64 → Int32 → Int32 → Int32 → Wd → va_W → Prop) (N : Nat) (post : Int32 → Wd → va_W → Prop) (x1 : Int32) (x2 : Int64) (x4 : Int32) (x5 : Int32) (x6 : Int32) (w : Wd) (L : va_W) : Prop :=
  ((xi w 26) ≤ x6 →
    post x4 w L) ∧
  (¬ (xi w 26) ≤ x6 →
    B_X5_partedBy N x6 x1 x2 (fun (v3 : Int32) (w1 : Wd) (L2 : va_W) =>
  (x4 = (-1 : Int32) →
      B_X5_next_59 r24 N post x1 x2 x6 v3 w1 L2) ∧
    (¬ x4 = (-1 : Int32) →
      (x5 < v3 →
        B_X5_next_59 r24 N post x1 x2 x6 v3 w1 L2) ∧
      (¬ x5 < v3 →
        B_X5_next_67 r24 N post x1 x2 x4 x5 x6 w1 L2))) w L)
def B_X5_next_24 (N : Nat) (post : Int32 → Wd → va_W → Prop) : Nat → Int32 → Int64 → Int32 → Int32 → Int32 → Wd → va_W → Prop
  | 0, _, _, _, _, _, _, _ => False
  | n + 1, x1, x2, x4, x5, x6, w, L => B_X5_next_24s (B_X5_next_24 N post n) N post x1 x2 x4 x5 x6 w L
set_option maxHeartbeats 4000000 in
theorem k_X5_next_24s {Γ : gT} {K : gK} {N : Nat} {post : Int32 → Wd → va_W → Prop} (C : gC Γ K RX5 cX5_next 8 rm_X5_next) (ret : gRi Γ K cX5_next (some .int) (mPi K post) 0 0) {r24 : Int32 → Int64 → Int32 → Int32 → Int32 → Wd → va_W → Prop} (hr24 : ∀ (x1 : Int32) (x2 : Int64) (x4 : Int32) (x5 : Int32) (x6 : Int32) (w : Wd) (L : va_W), r24 x1 x2 x4 x5 x6 w L → gJ Γ K 0 0 (mL K w ++ L) 24 [(0, .ref (ma K 0)), (1, .int x1), (2, .long x2), (4, .int x4), (5, .int x5), (6, .int x6)] []) (x1 : Int32) (x2 : Int64) (x4 : Int32) (x5 : Int32) (x6 : Int32) (w : Wd) (L : va_W) (h : B_X5_next_24s r24 N post x1 x2 x4 x5 x6 w L) : gJ Γ K 0 0 (mL K w ++ L) 24 [(0, .ref (ma K 0)), (1, .int x1), (2, .long x2), (4, .int x4), (5, .int x5), (6, .int x6)] [] := by
  unfold B_X5_next_24s at h
  refine g_iload C 5 rfl dX5_next_24 ?_
  refine g_aload_n C 0 rfl dX5_next_26 ?_
  refine mg_trials C q1051 (xi w 26) rfl dX5_next_27 ?_
  refine g_icmp_ge C 73 dX5_next_30 (by decide) (fun hc => ?_) (fun hc => ?_)
  · replace h := h.1 hc
    refine g_iload C 3 rfl dX5_next_73 ?_
    exact ret _ _ _ _ _ rfl rfl dX5_next_75 ⟨_, _, rfl, h⟩
  · replace h := h.2 hc
    refine g_aload_n C 0 rfl dX5_next_33 ?_
    refine g_iload C 5 rfl dX5_next_34 ?_
    refine g_iload_n C 1 rfl dX5_next_36 ?_
    refine g_lload_n C 2 rfl dX5_next_37 ?_
    refine g_callVi C (As := [.int x6, .int x1, .long x2]) (rest := []) (m_X5_partedBy h) (lw_V q1473 q1475 qs76 q84 q1476) (ci := 12) (qi := 0) rfl rfl ⟨rfl, rfl⟩ ⟨Nat.le_of_ble_eq_true rfl, Nat.le_of_ble_eq_true rfl⟩ 3 rfl (by decide +kernel) rfl (Nat.le_of_ble_eq_true rfl) ⟨Nat.zero_le _, Nat.zero_le _⟩ dX5_next_38 ?_
    rintro v3 _ ⟨w1, L2, rfl, h⟩
    refine g_istore C (lt := [(7, .int v3), (0, .ref (ma K 0)), (1, .int x1), (2, .long x2), (4, .int x4), (5, .int x5), (6, .int x6)]) dX5_next_41 (by decide) rfl ?_
    refine g_iload C 4 rfl dX5_next_43 ?_
    refine g_iconst C (-1) (by decide) dX5_next_45 ?_
    refine g_icmp_eq C 59 dX5_next_46 (by decide) (fun hc => ?_) (fun hc => ?_)
    · replace h := h.1 hc
      refine g_sub [1, 2, 3, 6, 0] rfl ?_
      exact k_X5_next_59 C ret hr24 x1 x2 x6 v3 w1 L2 h
    · replace h := h.2 hc
      refine g_iload C 0 rfl dX5_next_49 ?_
      refine g_iload C 5 rfl dX5_next_51 ?_
      refine g_icmp_gt C 59 dX5_next_53 (by decide) (fun hc => ?_) (fun hc => ?_)
      · replace h := h.1 hc
        refine g_sub [1, 2, 3, 6, 0] rfl ?_
        exact k_X5_next_59 C ret hr24 x1 x2 x6 v3 w1 L2 h
      · replace h := h.2 hc
        refine g_goto C 67 dX5_next_56 (by decide) ?_
        refine g_sub [1, 2, 3, 4, 5, 6] rfl ?_
        exact k_X5_next_67 C ret hr24 x1 x2 x4 x5 x6 w1 L2 h
theorem k_X5_next_24 {Γ : gT} {K : gK} {N : Nat} {post : Int32 → Wd → va_W → Prop} (C : gC Γ K RX5 cX5_next 8 rm_X5_next) (ret : gRi Γ K cX5_next (some .int) (mPi K post) 0 0) : ∀ (n : Nat) (x1 : Int32) (x2 : Int64) (x4 : Int32) (x5 : Int32) (x6 : Int32) (w : Wd) (L : va_W) (h : B_X5_next_24 N post n x1 x2 x4 x5 x6 w L), gJ Γ K 0 0 (mL K w ++ L) 24 [(0, .ref (ma K 0)), (1, .int x1), (2, .long x2), (4, .int x4), (5, .int x5), (6, .int x6)] [] := by
  intro n
  induction n with
  | zero => intro x1 x2 x4 x5 x6 w L h; exact h.elim
  | succ n ih => intro x1 x2 x4 x5 x6 w L h; exact k_X5_next_24s C ret ih x1 x2 x4 x5 x6 w L h
def B_X5_next_0 (N : Nat) (post : Int32 → Wd → va_W → Prop) (x1 : Int32) (x2 : Int64) (w : Wd) (L : va_W) : Prop :=
  B_X5_areLaws N x1 (fun (v3 : Int32) (w1 : Wd) (L2 : va_W) =>
  (v3 = 0 →
    post (-1) w1 L2) ∧
  (¬ v3 = 0 →
    B_X5_next_24 N post N x1 x2 (-1) 0 0 w1 L2)) (xsi w 0 0) L
set_option maxHeartbeats 4000000 in
theorem k_X5_next_0 {Γ : gT} {K : gK} {N : Nat} {post : Int32 → Wd → va_W → Prop} (C : gC Γ K RX5 cX5_next 8 rm_X5_next) (ret : gRi Γ K cX5_next (some .int) (mPi K post) 0 0) (x1 : Int32) (x2 : Int64) (w : Wd) (L : va_W) (h : B_X5_next_0 N post x1 x2 w L) : gJ Γ K 0 0 (mL K w ++ L) 0 [(0, .ref (ma K 0)), (1, .int x1), (2, .long x2)] [] := by
  unfold B_X5_next_0 at h
  refine g_aload_n C 0 rfl dX5_next_0 ?_
  refine g_iconst C 0 (by decide) dX5_next_1 ?_
  refine mp_thrown C q996 dX5_next_2 ?_
  refine g_aload_n C 0 rfl dX5_next_5 ?_
  refine g_iload_n C 1 rfl dX5_next_6 ?_
  refine g_callVi C (As := [.int x1]) (rest := []) (m_X5_areLaws h) (lw_V q1469 q1471 qs75 q84 q1472) (ci := 12) (qi := 0) rfl rfl ⟨rfl, rfl⟩ ⟨Nat.le_of_ble_eq_true rfl, Nat.le_of_ble_eq_true rfl⟩ 1 rfl (by decide +kernel) rfl (Nat.le_of_ble_eq_true rfl) ⟨Nat.zero_le _, Nat.zero_le _⟩ dX5_next_7 ?_
  rintro v3 _ ⟨w1, L2, rfl, h⟩
  refine g_if_ne C 15 dX5_next_10 (by decide) (fun hc => ?_) (fun hc => ?_)
  · replace h := h.2 hc
    refine g_iconst C (-1) (by decide) dX5_next_15 ?_
    refine g_istore C (lt := [(4, .int (-1)), (0, .ref (ma K 0)), (1, .int x1), (2, .long x2)]) dX5_next_16 (by decide) rfl ?_
    refine g_iconst C 0 (by decide) dX5_next_18 ?_
    refine g_istore C (lt := [(5, .int 0), (4, .int (-1)), (0, .ref (ma K 0)), (1, .int x1), (2, .long x2)]) dX5_next_19 (by decide) rfl ?_
    refine g_iconst C 0 (by decide) dX5_next_21 ?_
    refine g_istore C (lt := [(6, .int 0), (5, .int 0), (4, .int (-1)), (0, .ref (ma K 0)), (1, .int x1), (2, .long x2)]) dX5_next_22 (by decide) rfl ?_
    refine g_sub [3, 4, 5, 2, 1, 0] rfl ?_
    exact k_X5_next_24 C ret N x1 x2 (-1) 0 0 w1 L2 h
  · replace h := h.1 hc
    refine g_iconst C (-1) (by decide) dX5_next_13 ?_
    exact ret _ _ _ _ _ rfl rfl dX5_next_14 ⟨_, _, rfl, h⟩
def B_X5_next (N : Nat) (x1 : Int32) (x2 : Int64) (post : Int32 → Wd → va_W → Prop) (w : Wd) (L : va_W) : Prop := B_X5_next_0 N post x1 x2 w L
theorem m_X5_next {l : Launch} {K : gK} {N : Nat} {post : Int32 → Wd → va_W → Prop} {x1 : Int32} {x2 : Int64} {w : Wd} {L : va_W} (h : B_X5_next N x1 x2 post w L) : gMi l K yX5_next cX5_next 8 (some .int) rm_X5_next [.ref (ma K 0), .int x1, .long x2] (mL K w ++ L) (mPi K post) 0 0 := by
  refine g_inI (ls0 := [(0, .ref (ma K 0)), (1, .int x1), (2, .long x2)]) (by decide) (Nat.le_of_ble_eq_true rfl) rfl (fun Γ hl C hn ret => ?_)
  exact k_X5_next_0 C ret x1 x2 w L h
