set_option maxRecDepth 100000
def rm_X1_go : Room := { frames := 365, cells := 0, slots := 0, locals := 8792 }
def B_X1_go_0 (N : Nat) (post : Wd → va_W → Prop) (x1 : Int32) (x2 : Int64) (x4 : Int32) (x5 : Int32) (w : Wd) (L : va_W) : Prop :=
  vp_in x1 6 ∧ B_X4_begin N (xQ w x1.toNatClampNeg) x2 (xi w 4) x5 (fun (w1 : Wd) (L2 : va_W) =>
  B_X4_go N x4 (fun (w3 : Wd) (L4 : va_W) =>
  post w3 L4) w1 L2) w L
set_option maxHeartbeats 4000000 in
theorem k_X1_go_0 {Γ : gT} {K : gK} {N : Nat} {post : Wd → va_W → Prop} (C : gC Γ K RX1 cX1_go 6 rm_X1_go) (ret : gRv Γ K cX1_go (none) (xPv K post) 0 0) (x1 : Int32) (x2 : Int64) (x4 : Int32) (x5 : Int32) (w : Wd) (L : va_W) (h : B_X1_go_0 N post x1 x2 x4 x5 w L) : gJ Γ K 0 0 (xL K w ++ L) 0 [(0, .ref (xa K 0)), (1, .int x1), (2, .long x2), (4, .int x4), (5, .int x5)] [] := by
  unfold B_X1_go_0 at h
  refine g_aload_n C 0 rfl dX1_go_0 ?_
  refine xg_colony C q292 dX1_go_1 ?_
  refine g_aload_n C 0 rfl dX1_go_4 ?_
  refine xg_laws C q277 dX1_go_5 ?_
  refine g_iload_n C 1 rfl dX1_go_8 ?_
  obtain ⟨hb, h⟩ := h
  refine xld_8 C hb (xQ w x1.toNatClampNeg) rfl dX1_go_9 ?_
  refine g_lload_n C 2 rfl dX1_go_10 ?_
  refine g_aload_n C 0 rfl dX1_go_11 ?_
  refine xg_animals C q283 (xi w 4) rfl dX1_go_12 ?_
  refine g_iload C 4 rfl dX1_go_15 ?_
  refine g_callVv C (As := [va_rf (xQ w x1.toNatClampNeg), .long x2, .int (xi w 4), .int x5]) (rest := []) (m_X4_begin h) (lw_V q729 q730 q731 q83 q732) (ci := 1) (qi := 1) rfl rfl ⟨rfl, rfl⟩ ⟨Nat.le_of_ble_eq_true rfl, Nat.le_of_ble_eq_true rfl⟩ 4 rfl (by decide +kernel) rfl (Nat.le_of_ble_eq_true rfl) ⟨Nat.zero_le _, Nat.zero_le _⟩ dX1_go_17 ?_
  rintro _ ⟨w1, L2, rfl, h⟩
  refine g_aload_n C 0 rfl dX1_go_20 ?_
  refine xg_colony C q292 dX1_go_21 ?_
  refine g_iload C 3 rfl dX1_go_24 ?_
  refine g_callVv C (As := [.int x4]) (rest := []) (m_X4_go h) (lw_V q738 q739 q740 q83 q741) (ci := 1) (qi := 1) rfl rfl ⟨rfl, rfl⟩ ⟨Nat.le_of_ble_eq_true rfl, Nat.le_of_ble_eq_true rfl⟩ 1 rfl (by decide +kernel) rfl (Nat.le_of_ble_eq_true rfl) ⟨Nat.zero_le _, Nat.zero_le _⟩ dX1_go_26 ?_
  rintro _ ⟨w3, L4, rfl, h⟩
  exact ret rfl _ _ _ dX1_go_29 ⟨_, _, rfl, h⟩
def B_X1_go (N : Nat) (x1 : Int32) (x2 : Int64) (x4 : Int32) (x5 : Int32) (post : Wd → va_W → Prop) (w : Wd) (L : va_W) : Prop := B_X1_go_0 N post x1 x2 x4 x5 w L
theorem m_X1_go {l : Launch} {K : gK} {N : Nat} {post : Wd → va_W → Prop} {x1 : Int32} {x2 : Int64} {x4 : Int32} {x5 : Int32} {w : Wd} {L : va_W} (h : B_X1_go N x1 x2 x4 x5 post w L) : gMv l K yX1_go cX1_go 6 (none) rm_X1_go [.ref (xa K 0), .int x1, .long x2, .int x4, .int x5] (xL K w ++ L) (xPv K post) 0 0 := by
  refine g_inV (ls0 := [(0, .ref (xa K 0)), (1, .int x1), (2, .long x2), (4, .int x4), (5, .int x5)]) (by decide) (Nat.le_of_ble_eq_true rfl) rfl (fun Γ hl C hn ret => ?_)
  exact k_X1_go_0 C ret x1 x2 x4 x5 w L h
def rm_X1_run : Room := { frames := 366, cells := 0, slots := 0, locals := 8817 }
def B_X1_run_29 (N : Nat) (post : Int32 → Wd → va_W → Prop) (w : Wd) (L : va_W) : Prop :=
  post (-1000) w L
set_option maxHeartbeats 4000000 in
theorem k_X1_run_29 {Γ : gT} {K : gK} {N : Nat} {post : Int32 → Wd → va_W → Prop} (C : gC Γ K RX1 cX1_run 7 rm_X1_run) (ret : gRi Γ K cX1_run (some .int) (xPi K post) 0 0) (w : Wd) (L : va_W) (h : B_X1_run_29 N post w L) : gJ Γ K 0 0 (xL K w ++ L) 29 [] [] := by
  unfold B_X1_run_29 at h
  refine g_sipush C (-1000) (by decide) dX1_run_29 ?_
  exact ret _ _ _ _ _ rfl rfl dX1_run_32 ⟨_, _, rfl, h⟩
def B_X1_run_130 (N : Nat) (post : Int32 → Wd → va_W → Prop) (s0 : Int32) (w : Wd) (L : va_W) : Prop :=
  post s0 w L
set_option maxHeartbeats 4000000 in
theorem k_X1_run_130 {Γ : gT} {K : gK} {N : Nat} {post : Int32 → Wd → va_W → Prop} (C : gC Γ K RX1 cX1_run 7 rm_X1_run) (ret : gRi Γ K cX1_run (some .int) (xPi K post) 0 0) (s0 : Int32) (w : Wd) (L : va_W) (h : B_X1_run_130 N post s0 w L) : gJ Γ K 0 0 (xL K w ++ L) 130 [] [.int s0] := by
  unfold B_X1_run_130 at h
  exact ret _ _ _ _ _ rfl rfl dX1_run_130 ⟨_, _, rfl, h⟩
def B_X1_run_0 (N : Nat) (post : Int32 → Wd → va_W → Prop) (x1 : Int32) (x2 : Int64) (x4 : Int32) (x5 : Int32) (x6 : Int32) (w : Wd) (L : va_W) : Prop :=
  B_X1_isLaw N x1 (fun (v3 : Int32) (w1 : Wd) (L2 : va_W) =>
  (v3 = 0 →
    B_X1_run_29 N post w1 L2) ∧
  (¬ v3 = 0 →
    B_X1_in N x4 0 24 (fun (v6 : Int32) (w4 : Wd) (L5 : va_W) =>
  (v6 = 0 →
      B_X1_run_29 N post w4 L5) ∧
    (¬ v6 = 0 →
      B_X1_in N x6 0 3 (fun (v9 : Int32) (w7 : Wd) (L8 : va_W) =>
  (v9 = 0 →
        B_X1_run_29 N post w7 L8) ∧
      (¬ v9 = 0 →
        B_X1_go N x1 x2 x4 0 (fun (w10 : Wd) (L11 : va_W) =>
  B_X1_in N x5 0 ((xi w10 11) - 1) (fun (v14 : Int32) (w12 : Wd) (L13 : va_W) =>
  (v14 = 0 →
          post (-1000) w12 L13) ∧
        (¬ v14 = 0 →
          (x6 = 0 →
            vp_in x5 24 ∧ B_X1_run_130 N post (xA w12 23 x5.toNatClampNeg) w12 L13) ∧
          (¬ x6 = 0 →
            (x6 = (1 : Int32) →
              vp_in x5 24 ∧ B_X1_run_130 N post (xA w12 24 x5.toNatClampNeg) w12 L13) ∧
            (¬ x6 = (1 : Int32) →
              (x6 = (2 : Int32) →
                vp_in x5 24 ∧ B_X1_run_130 N post (xA w12 25 x5.toNatClampNeg) w12 L13) ∧
              (¬ x6 = (2 : Int32) →
                vp_in x5 24 ∧ B_X1_run_130 N post (xA w12 26 x5.toNatClampNeg) w12 L13))))) w10 L11) w7 L8)) w4 L5)) w1 L2)) w L
set_option maxHeartbeats 4000000 in
theorem k_X1_run_0 {Γ : gT} {K : gK} {N : Nat} {post : Int32 → Wd → va_W → Prop} (C : gC Γ K RX1 cX1_run 7 rm_X1_run) (ret : gRi Γ K cX1_run (some .int) (xPi K post) 0 0) (x1 : Int32) (x2 : Int64) (x4 : Int32) (x5 : Int32) (x6 : Int32) (w : Wd) (L : va_W) (h : B_X1_run_0 N post x1 x2 x4 x5 x6 w L) : gJ Γ K 0 0 (xL K w ++ L) 0 [(0, .ref (xa K 0)), (1, .int x1), (2, .long x2), (4, .int x4), (5, .int x5), (6, .int x6)] [] := by
  unfold B_X1_run_0 at h
  refine g_aload_n C 0 rfl dX1_run_0 ?_
  refine g_iload_n C 1 rfl dX1_run_1 ?_
  refine g_callVi C (As := [.int x1]) (rest := []) (m_X1_isLaw h) (lw_V q721 q723 qs16 q78 q724) (ci := 0) (qi := 0) rfl rfl ⟨rfl, rfl⟩ ⟨Nat.le_of_ble_eq_true rfl, Nat.le_of_ble_eq_true rfl⟩ 1 rfl (by decide +kernel) rfl (Nat.le_of_ble_eq_true rfl) ⟨Nat.zero_le _, Nat.zero_le _⟩ dX1_run_2 ?_
  rintro v3 _ ⟨w1, L2, rfl, h⟩
  refine g_if_eq C 29 dX1_run_5 (by decide) (fun hc => ?_) (fun hc => ?_)
  · replace h := h.1 hc
    refine g_sub [] rfl ?_
    exact k_X1_run_29 C ret w1 L2 h
  · replace h := h.2 hc
    refine g_iload C 3 rfl dX1_run_8 ?_
    refine g_iconst C 0 (by decide) dX1_run_10 ?_
    refine g_bipush C 24 (by decide) dX1_run_11 ?_
    refine g_callSi C (As := [.int x4, .int 0, .int 24]) (rest := []) (m_X1_in h) (Cn := "") (b := 0) (lw_S q657 q658 q78 q659) ⟨rfl, rfl⟩ ⟨Nat.le_of_ble_eq_true rfl, Nat.le_of_ble_eq_true rfl⟩ 3 rfl (by decide +kernel) rfl (Nat.le_of_ble_eq_true rfl) ⟨Nat.zero_le _, Nat.zero_le _⟩ dX1_run_13 ?_
    rintro v6 _ ⟨w4, L5, rfl, h⟩
    refine g_if_eq C 29 dX1_run_16 (by decide) (fun hc => ?_) (fun hc => ?_)
    · replace h := h.1 hc
      refine g_sub [] rfl ?_
      exact k_X1_run_29 C ret w4 L5 h
    · replace h := h.2 hc
      refine g_iload C 5 rfl dX1_run_19 ?_
      refine g_iconst C 0 (by decide) dX1_run_21 ?_
      refine g_iconst C 3 (by decide) dX1_run_22 ?_
      refine g_callSi C (As := [.int x6, .int 0, .int 3]) (rest := []) (m_X1_in h) (Cn := "") (b := 0) (lw_S q657 q658 q78 q659) ⟨rfl, rfl⟩ ⟨Nat.le_of_ble_eq_true rfl, Nat.le_of_ble_eq_true rfl⟩ 3 rfl (by decide +kernel) rfl (Nat.le_of_ble_eq_true rfl) ⟨Nat.zero_le _, Nat.zero_le _⟩ dX1_run_23 ?_
      rintro v9 _ ⟨w7, L8, rfl, h⟩
      refine g_if_ne C 33 dX1_run_26 (by decide) (fun hc => ?_) (fun hc => ?_)
      · replace h := h.2 hc
        refine g_aload_n C 0 rfl dX1_run_33 ?_
        refine g_iload_n C 1 rfl dX1_run_34 ?_
        refine g_lload_n C 2 rfl dX1_run_35 ?_
        refine g_iload C 3 rfl dX1_run_36 ?_
        refine g_iconst C 0 (by decide) dX1_run_38 ?_
        refine g_callVv C (As := [.int x1, .long x2, .int x4, .int 0]) (rest := []) (m_X1_go h) (lw_V q725 q727 qs17 q78 q728) (ci := 0) (qi := 0) rfl rfl ⟨rfl, rfl⟩ ⟨Nat.le_of_ble_eq_true rfl, Nat.le_of_ble_eq_true rfl⟩ 4 rfl (by decide +kernel) rfl (Nat.le_of_ble_eq_true rfl) ⟨Nat.zero_le _, Nat.zero_le _⟩ dX1_run_39 ?_
        rintro _ ⟨w10, L11, rfl, h⟩
        refine g_iload C 4 rfl dX1_run_42 ?_
        refine g_iconst C 0 (by decide) dX1_run_44 ?_
        refine g_aload_n C 0 rfl dX1_run_45 ?_
        refine xg_colony C q292 dX1_run_46 ?_
        refine xgN_c_many C nf_X1_278 (xi w10 11) rfl dX1_run_49 ?_
        refine g_iconst C 1 (by decide) dX1_run_52 ?_
        refine g_isub C dX1_run_53 ?_
        refine g_callSi C (As := [.int x5, .int 0, .int ((xi w10 11) - 1)]) (rest := []) (m_X1_in h) (Cn := "") (b := 0) (lw_S q657 q658 q78 q659) ⟨rfl, rfl⟩ ⟨Nat.le_of_ble_eq_true rfl, Nat.le_of_ble_eq_true rfl⟩ 3 rfl (by decide +kernel) rfl (Nat.le_of_ble_eq_true rfl) ⟨Nat.zero_le _, Nat.zero_le _⟩ dX1_run_54 ?_
        rintro v14 _ ⟨w12, L13, rfl, h⟩
        refine g_if_ne C 64 dX1_run_57 (by decide) (fun hc => ?_) (fun hc => ?_)
        · replace h := h.2 hc
          refine g_iload C 5 rfl dX1_run_64 ?_
          refine g_if_ne C 82 dX1_run_66 (by decide) (fun hc => ?_) (fun hc => ?_)
          · replace h := h.2 hc
            refine g_iload C 5 rfl dX1_run_82 ?_
            refine g_iconst C 1 (by decide) dX1_run_84 ?_
            refine g_icmp_ne C 101 dX1_run_85 (by decide) (fun hc => ?_) (fun hc => ?_)
            · replace h := h.2 hc
              refine g_iload C 5 rfl dX1_run_101 ?_
              refine g_iconst C 2 (by decide) dX1_run_103 ?_
              refine g_icmp_ne C 120 dX1_run_104 (by decide) (fun hc => ?_) (fun hc => ?_)
              · replace h := h.2 hc
                refine g_aload_n C 0 rfl dX1_run_120 ?_
                refine xg_colony C q292 dX1_run_121 ?_
                refine xgN_c_born C nf_X1_290 dX1_run_124 ?_
                refine g_iload C 4 rfl dX1_run_127 ?_
                obtain ⟨hb, h⟩ := h
                refine xld_26 C hb (xA w12 26 x5.toNatClampNeg) rfl dX1_run_129 ?_
                refine g_sub [] rfl ?_
                exact k_X1_run_130 C ret (xA w12 26 x5.toNatClampNeg) w12 L13 h
              · replace h := h.1 hc
                refine g_aload_n C 0 rfl dX1_run_107 ?_
                refine xg_colony C q292 dX1_run_108 ?_
                refine xgN_c_when C nf_X1_287 dX1_run_111 ?_
                refine g_iload C 4 rfl dX1_run_114 ?_
                obtain ⟨hb, h⟩ := h
                refine xld_25 C hb (xA w12 25 x5.toNatClampNeg) rfl dX1_run_116 ?_
                refine g_goto C 130 dX1_run_117 (by decide) ?_
                refine g_sub [] rfl ?_
                exact k_X1_run_130 C ret (xA w12 25 x5.toNatClampNeg) w12 L13 h
            · replace h := h.1 hc
              refine g_aload_n C 0 rfl dX1_run_88 ?_
              refine xg_colony C q292 dX1_run_89 ?_
              refine xgN_c_weight C nf_X1_284 dX1_run_92 ?_
              refine g_iload C 4 rfl dX1_run_95 ?_
              obtain ⟨hb, h⟩ := h
              refine xld_24 C hb (xA w12 24 x5.toNatClampNeg) rfl dX1_run_97 ?_
              refine g_goto C 130 dX1_run_98 (by decide) ?_
              refine g_sub [] rfl ?_
              exact k_X1_run_130 C ret (xA w12 24 x5.toNatClampNeg) w12 L13 h
          · replace h := h.1 hc
            refine g_aload_n C 0 rfl dX1_run_69 ?_
            refine xg_colony C q292 dX1_run_70 ?_
            refine xgN_c_state C nf_X1_281 dX1_run_73 ?_
            refine g_iload C 4 rfl dX1_run_76 ?_
            obtain ⟨hb, h⟩ := h
            refine xld_23 C hb (xA w12 23 x5.toNatClampNeg) rfl dX1_run_78 ?_
            refine g_goto C 130 dX1_run_79 (by decide) ?_
            refine g_sub [] rfl ?_
            exact k_X1_run_130 C ret (xA w12 23 x5.toNatClampNeg) w12 L13 h
        · replace h := h.1 hc
          refine g_sipush C (-1000) (by decide) dX1_run_60 ?_
          exact ret _ _ _ _ _ rfl rfl dX1_run_63 ⟨_, _, rfl, h⟩
      · replace h := h.1 hc
        refine g_sub [] rfl ?_
        exact k_X1_run_29 C ret w7 L8 h
def B_X1_run (N : Nat) (x1 : Int32) (x2 : Int64) (x4 : Int32) (x5 : Int32) (x6 : Int32) (post : Int32 → Wd → va_W → Prop) (w : Wd) (L : va_W) : Prop := B_X1_run_0 N post x1 x2 x4 x5 x6 w L
theorem m_X1_run {l : Launch} {K : gK} {N : Nat} {post : Int32 → Wd → va_W → Prop} {x1 : Int32} {x2 : Int64} {x4 : Int32} {x5 : Int32} {x6 : Int32} {w : Wd} {L : va_W} (h : B_X1_run N x1 x2 x4 x5 x6 post w L) : gMi l K yX1_run cX1_run 7 (some .int) rm_X1_run [.ref (xa K 0), .int x1, .long x2, .int x4, .int x5, .int x6] (xL K w ++ L) (xPi K post) 0 0 := by
  refine g_inI (ls0 := [(0, .ref (xa K 0)), (1, .int x1), (2, .long x2), (4, .int x4), (5, .int x5), (6, .int x6)]) (by decide) (Nat.le_of_ble_eq_true rfl) rfl (fun Γ hl C hn ret => ?_)
  exact k_X1_run_0 C ret x1 x2 x4 x5 x6 w L h
def rm_X1_all : Room := { frames := 366, cells := 0, slots := 0, locals := 8817 }
def B_X1_all_30 (N : Nat) (post : Int32 → Wd → va_W → Prop) (w : Wd) (L : va_W) : Prop :=
  post (-1000) w L
set_option maxHeartbeats 4000000 in
theorem k_X1_all_30 {Γ : gT} {K : gK} {N : Nat} {post : Int32 → Wd → va_W → Prop} (C : gC Γ K RX1 cX1_all 6 rm_X1_all) (ret : gRi Γ K cX1_all (some .int) (xPi K post) 0 0) (w : Wd) (L : va_W) (h : B_X1_all_30 N post w L) : gJ Γ K 0 0 (xL K w ++ L) 30 [] [] := by
  unfold B_X1_all_30 at h
  refine g_sipush C (-1000) (by decide) dX1_all_30 ?_
  exact ret _ _ _ _ _ rfl rfl dX1_all_33 ⟨_, _, rfl, h⟩
def B_X1_all_121 (N : Nat) (post : Int32 → Wd → va_W → Prop) (s0 : Int32) (w : Wd) (L : va_W) : Prop :=
  post s0 w L
set_option maxHeartbeats 4000000 in
theorem k_X1_all_121 {Γ : gT} {K : gK} {N : Nat} {post : Int32 → Wd → va_W → Prop} (C : gC Γ K RX1 cX1_all 6 rm_X1_all) (ret : gRi Γ K cX1_all (some .int) (xPi K post) 0 0) (s0 : Int32) (w : Wd) (L : va_W) (h : B_X1_all_121 N post s0 w L) : gJ Γ K 0 0 (xL K w ++ L) 121 [] [.int s0] := by
  unfold B_X1_all_121 at h
  exact ret _ _ _ _ _ rfl rfl dX1_all_121 ⟨_, _, rfl, h⟩
def B_X1_all_0 (N : Nat) (post : Int32 → Wd → va_W → Prop) (x1 : Int32) (x2 : Int64) (x4 : Int32) (x5 : Int32) (w : Wd) (L : va_W) : Prop :=
  B_X1_isLaw N x1 (fun (v3 : Int32) (w1 : Wd) (L2 : va_W) =>
  (v3 = 0 →
    B_X1_all_30 N post w1 L2) ∧
  (¬ v3 = 0 →
    B_X1_in N x4 0 24 (fun (v6 : Int32) (w4 : Wd) (L5 : va_W) =>
  (v6 = 0 →
      B_X1_all_30 N post w4 L5) ∧
    (¬ v6 = 0 →
      B_X1_in N x5 0 6 (fun (v9 : Int32) (w7 : Wd) (L8 : va_W) =>
  (v9 = 0 →
        B_X1_all_30 N post w7 L8) ∧
      (¬ v9 = 0 →
        B_X1_go N x1 x2 x4 0 (fun (w10 : Wd) (L11 : va_W) =>
  (x5 = 0 →
          B_X4_there N (fun (v14 : Int32) (w12 : Wd) (L13 : va_W) =>
  post v14 w12 L13) w10 L11) ∧
        (¬ x5 = 0 →
        (x5 = 1 →
          post (xi w10 12) w10 L11) ∧
        (¬ x5 = 1 →
        (x5 = 2 →
          B_X4_hasQueen N (fun (v17 : Int32) (w15 : Wd) (L16 : va_W) =>
  (v17 = 0 →
            B_X1_all_121 N post (-1) w15 L16) ∧
          (¬ v17 = 0 →
            B_X1_all_121 N post (xi w15 15) w15 L16)) w10 L11) ∧
        (¬ x5 = 2 →
        (x5 = 3 →
          post (xi w10 11) w10 L11) ∧
        (¬ x5 = 3 →
        (x5 = 4 →
          B_X4_ended N 1 (fun (v20 : Int32) (w18 : Wd) (L19 : va_W) =>
  post v20 w18 L19) w10 L11) ∧
        (¬ x5 = 4 →
        (x5 = 5 →
          B_X4_ended N 2 (fun (v23 : Int32) (w21 : Wd) (L22 : va_W) =>
  post v23 w21 L22) w10 L11) ∧
        (¬ x5 = 5 →
        post (xi w10 17) w10 L11))))))) w7 L8)) w4 L5)) w1 L2)) w L
set_option maxHeartbeats 4000000 in
theorem k_X1_all_0 {Γ : gT} {K : gK} {N : Nat} {post : Int32 → Wd → va_W → Prop} (C : gC Γ K RX1 cX1_all 6 rm_X1_all) (ret : gRi Γ K cX1_all (some .int) (xPi K post) 0 0) (x1 : Int32) (x2 : Int64) (x4 : Int32) (x5 : Int32) (w : Wd) (L : va_W) (h : B_X1_all_0 N post x1 x2 x4 x5 w L) : gJ Γ K 0 0 (xL K w ++ L) 0 [(0, .ref (xa K 0)), (1, .int x1), (2, .long x2), (4, .int x4), (5, .int x5)] [] := by
  unfold B_X1_all_0 at h
  refine g_aload_n C 0 rfl dX1_all_0 ?_
  refine g_iload_n C 1 rfl dX1_all_1 ?_
  refine g_callVi C (As := [.int x1]) (rest := []) (m_X1_isLaw h) (lw_V q721 q723 qs16 q78 q724) (ci := 0) (qi := 0) rfl rfl ⟨rfl, rfl⟩ ⟨Nat.le_of_ble_eq_true rfl, Nat.le_of_ble_eq_true rfl⟩ 1 rfl (by decide +kernel) rfl (Nat.le_of_ble_eq_true rfl) ⟨Nat.zero_le _, Nat.zero_le _⟩ dX1_all_2 ?_
  rintro v3 _ ⟨w1, L2, rfl, h⟩
  refine g_if_eq C 30 dX1_all_5 (by decide) (fun hc => ?_) (fun hc => ?_)
  · replace h := h.1 hc
    refine g_sub [] rfl ?_
    exact k_X1_all_30 C ret w1 L2 h
  · replace h := h.2 hc
    refine g_iload C 3 rfl dX1_all_8 ?_
    refine g_iconst C 0 (by decide) dX1_all_10 ?_
    refine g_bipush C 24 (by decide) dX1_all_11 ?_
    refine g_callSi C (As := [.int x4, .int 0, .int 24]) (rest := []) (m_X1_in h) (Cn := "") (b := 0) (lw_S q657 q658 q78 q659) ⟨rfl, rfl⟩ ⟨Nat.le_of_ble_eq_true rfl, Nat.le_of_ble_eq_true rfl⟩ 3 rfl (by decide +kernel) rfl (Nat.le_of_ble_eq_true rfl) ⟨Nat.zero_le _, Nat.zero_le _⟩ dX1_all_13 ?_
    rintro v6 _ ⟨w4, L5, rfl, h⟩
    refine g_if_eq C 30 dX1_all_16 (by decide) (fun hc => ?_) (fun hc => ?_)
    · replace h := h.1 hc
      refine g_sub [] rfl ?_
      exact k_X1_all_30 C ret w4 L5 h
    · replace h := h.2 hc
      refine g_iload C 4 rfl dX1_all_19 ?_
      refine g_iconst C 0 (by decide) dX1_all_21 ?_
      refine g_bipush C 6 (by decide) dX1_all_22 ?_
      refine g_callSi C (As := [.int x5, .int 0, .int 6]) (rest := []) (m_X1_in h) (Cn := "") (b := 0) (lw_S q657 q658 q78 q659) ⟨rfl, rfl⟩ ⟨Nat.le_of_ble_eq_true rfl, Nat.le_of_ble_eq_true rfl⟩ 3 rfl (by decide +kernel) rfl (Nat.le_of_ble_eq_true rfl) ⟨Nat.zero_le _, Nat.zero_le _⟩ dX1_all_24 ?_
      rintro v9 _ ⟨w7, L8, rfl, h⟩
      refine g_if_ne C 34 dX1_all_27 (by decide) (fun hc => ?_) (fun hc => ?_)
      · replace h := h.2 hc
        refine g_aload_n C 0 rfl dX1_all_34 ?_
        refine g_iload_n C 1 rfl dX1_all_35 ?_
        refine g_lload_n C 2 rfl dX1_all_36 ?_
        refine g_iload C 3 rfl dX1_all_37 ?_
        refine g_iconst C 0 (by decide) dX1_all_39 ?_
        refine g_callVv C (As := [.int x1, .long x2, .int x4, .int 0]) (rest := []) (m_X1_go h) (lw_V q725 q727 qs17 q78 q728) (ci := 0) (qi := 0) rfl rfl ⟨rfl, rfl⟩ ⟨Nat.le_of_ble_eq_true rfl, Nat.le_of_ble_eq_true rfl⟩ 4 rfl (by decide +kernel) rfl (Nat.le_of_ble_eq_true rfl) ⟨Nat.zero_le _, Nat.zero_le _⟩ dX1_all_40 ?_
        rintro _ ⟨w10, L11, rfl, h⟩
        refine g_iload C 4 rfl dX1_all_43 ?_
        by_cases hc0 : x5 = 0
        · replace h := h.1 hc0
          refine g_tableIn C 84 dX1_all_45 (n := 0) (by rw [hc0]; decide) (by decide) (by decide) rfl (by decide) ?_
          refine g_aload_n C 0 rfl dX1_all_84 ?_
          refine xg_colony C q292 dX1_all_85 ?_
          refine g_callVi C (As := []) (rest := []) (m_X4_there h) (lw_V q882 q796 q797 q83 q798) (ci := 1) (qi := 1) rfl rfl ⟨rfl, rfl⟩ ⟨Nat.le_of_ble_eq_true rfl, Nat.le_of_ble_eq_true rfl⟩ 0 rfl (by decide +kernel) rfl (Nat.le_of_ble_eq_true rfl) ⟨Nat.zero_le _, Nat.zero_le _⟩ dX1_all_88 ?_
          rintro v14 _ ⟨w12, L13, rfl, h⟩
          exact ret _ _ _ _ _ rfl rfl dX1_all_91 ⟨_, _, rfl, h⟩
        · replace h := h.2 hc0
          by_cases hc1 : x5 = 1
          · replace h := h.1 hc1
            refine g_tableIn C 92 dX1_all_45 (n := 1) (by rw [hc1]; decide) (by decide) (by decide) rfl (by decide) ?_
            refine g_aload_n C 0 rfl dX1_all_92 ?_
            refine xg_colony C q292 dX1_all_93 ?_
            refine xgN_c_store C nf_X1_296 (xi w10 12) rfl dX1_all_96 ?_
            exact ret _ _ _ _ _ rfl rfl dX1_all_99 ⟨_, _, rfl, h⟩
          · replace h := h.2 hc1
            by_cases hc2 : x5 = 2
            · replace h := h.1 hc2
              refine g_tableIn C 100 dX1_all_45 (n := 2) (by rw [hc2]; decide) (by decide) (by decide) rfl (by decide) ?_
              refine g_aload_n C 0 rfl dX1_all_100 ?_
              refine xg_colony C q292 dX1_all_101 ?_
              refine g_callVi C (As := []) (rest := []) (m_X4_hasQueen h) (lw_V q883 q751 q752 q83 q753) (ci := 1) (qi := 1) rfl rfl ⟨rfl, rfl⟩ ⟨Nat.le_of_ble_eq_true rfl, Nat.le_of_ble_eq_true rfl⟩ 0 rfl (by decide +kernel) rfl (Nat.le_of_ble_eq_true rfl) ⟨Nat.zero_le _, Nat.zero_le _⟩ dX1_all_104 ?_
              rintro v17 _ ⟨w15, L16, rfl, h⟩
              refine g_if_eq C 120 dX1_all_107 (by decide) (fun hc => ?_) (fun hc => ?_)
              · replace h := h.1 hc
                refine g_iconst C (-1) (by decide) dX1_all_120 ?_
                refine g_sub [] rfl ?_
                exact k_X1_all_121 C ret (-1) w15 L16 h
              · replace h := h.2 hc
                refine g_aload_n C 0 rfl dX1_all_110 ?_
                refine xg_colony C q292 dX1_all_111 ?_
                refine xgN_c_reigns C nf_X1_303 (xi w15 15) rfl dX1_all_114 ?_
                refine g_goto C 121 dX1_all_117 (by decide) ?_
                refine g_sub [] rfl ?_
                exact k_X1_all_121 C ret (xi w15 15) w15 L16 h
            · replace h := h.2 hc2
              by_cases hc3 : x5 = 3
              · replace h := h.1 hc3
                refine g_tableIn C 122 dX1_all_45 (n := 3) (by rw [hc3]; decide) (by decide) (by decide) rfl (by decide) ?_
                refine g_aload_n C 0 rfl dX1_all_122 ?_
                refine xg_colony C q292 dX1_all_123 ?_
                refine xgN_c_many C nf_X1_278 (xi w10 11) rfl dX1_all_126 ?_
                exact ret _ _ _ _ _ rfl rfl dX1_all_129 ⟨_, _, rfl, h⟩
              · replace h := h.2 hc3
                by_cases hc4 : x5 = 4
                · replace h := h.1 hc4
                  refine g_tableIn C 130 dX1_all_45 (n := 4) (by rw [hc4]; decide) (by decide) (by decide) rfl (by decide) ?_
                  refine g_aload_n C 0 rfl dX1_all_130 ?_
                  refine xg_colony C q292 dX1_all_131 ?_
                  refine g_iconst C 1 (by decide) dX1_all_134 ?_
                  refine g_callVi C (As := [.int 1]) (rest := []) (m_X4_ended h) (lw_V q884 q885 q886 q83 q887) (ci := 1) (qi := 1) rfl rfl ⟨rfl, rfl⟩ ⟨Nat.le_of_ble_eq_true rfl, Nat.le_of_ble_eq_true rfl⟩ 1 rfl (by decide +kernel) rfl (Nat.le_of_ble_eq_true rfl) ⟨Nat.zero_le _, Nat.zero_le _⟩ dX1_all_135 ?_
                  rintro v20 _ ⟨w18, L19, rfl, h⟩
                  exact ret _ _ _ _ _ rfl rfl dX1_all_138 ⟨_, _, rfl, h⟩
                · replace h := h.2 hc4
                  by_cases hc5 : x5 = 5
                  · replace h := h.1 hc5
                    refine g_tableIn C 139 dX1_all_45 (n := 5) (by rw [hc5]; decide) (by decide) (by decide) rfl (by decide) ?_
                    refine g_aload_n C 0 rfl dX1_all_139 ?_
                    refine xg_colony C q292 dX1_all_140 ?_
                    refine g_iconst C 2 (by decide) dX1_all_143 ?_
                    refine g_callVi C (As := [.int 2]) (rest := []) (m_X4_ended h) (lw_V q884 q885 q886 q83 q887) (ci := 1) (qi := 1) rfl rfl ⟨rfl, rfl⟩ ⟨Nat.le_of_ble_eq_true rfl, Nat.le_of_ble_eq_true rfl⟩ 1 rfl (by decide +kernel) rfl (Nat.le_of_ble_eq_true rfl) ⟨Nat.zero_le _, Nat.zero_le _⟩ dX1_all_144 ?_
                    rintro v23 _ ⟨w21, L22, rfl, h⟩
                    exact ret _ _ _ _ _ rfl rfl dX1_all_147 ⟨_, _, rfl, h⟩
                  · replace h := h.2 hc5
                    have n0 := lv_neT hc0 (a := 0) (by decide)
                    have n1 := lv_neT hc1 (a := 1) (by decide)
                    have n2 := lv_neT hc2 (a := 2) (by decide)
                    have n3 := lv_neT hc3 (a := 3) (by decide)
                    have n4 := lv_neT hc4 (a := 4) (by decide)
                    have n5 := lv_neT hc5 (a := 5) (by decide)
                    refine g_tableOut C 148 dX1_all_45 (by omega) (by decide) ?_
                    refine g_aload_n C 0 rfl dX1_all_148 ?_
                    refine xg_colony C q292 dX1_all_149 ?_
                    refine xgN_c_wars C nf_X1_309 (xi w10 17) rfl dX1_all_152 ?_
                    exact ret _ _ _ _ _ rfl rfl dX1_all_155 ⟨_, _, rfl, h⟩
      · replace h := h.1 hc
        refine g_sub [] rfl ?_
        exact k_X1_all_30 C ret w7 L8 h
def B_X1_all (N : Nat) (x1 : Int32) (x2 : Int64) (x4 : Int32) (x5 : Int32) (post : Int32 → Wd → va_W → Prop) (w : Wd) (L : va_W) : Prop := B_X1_all_0 N post x1 x2 x4 x5 w L
theorem m_X1_all {l : Launch} {K : gK} {N : Nat} {post : Int32 → Wd → va_W → Prop} {x1 : Int32} {x2 : Int64} {x4 : Int32} {x5 : Int32} {w : Wd} {L : va_W} (h : B_X1_all N x1 x2 x4 x5 post w L) : gMi l K yX1_all cX1_all 6 (some .int) rm_X1_all [.ref (xa K 0), .int x1, .long x2, .int x4, .int x5] (xL K w ++ L) (xPi K post) 0 0 := by
  refine g_inI (ls0 := [(0, .ref (xa K 0)), (1, .int x1), (2, .long x2), (4, .int x4), (5, .int x5)]) (by decide) (Nat.le_of_ble_eq_true rfl) rfl (fun Γ hl C hn ret => ?_)
  exact k_X1_all_0 C ret x1 x2 x4 x5 w L h
def rm_X1_isFit : Room := { frames := 364, cells := 0, slots := 0, locals := 8770 }
def B_X1_isFit_83 (r22 : Int32 → Wd → va_W → Prop) (r32 : Int32 → Int32 → Wd → va_W → Prop) (N : Nat) (post : Int32 → Wd → va_W → Prop) (x4 : Int32) (x5 : Int32) (w : Wd) (L : va_W) : Prop :=
  r32 x4 (x5 + 1) w L
set_option maxHeartbeats 4000000 in
theorem k_X1_isFit_83 {Γ : gT} {K : gK} {N : Nat} {post : Int32 → Wd → va_W → Prop} (C : gC Γ K RX1 cX1_isFit 6 rm_X1_isFit) (ret : gRi Γ K cX1_isFit (some .boolean) (xPi K post) 0 0) {r22 : Int32 → Wd → va_W → Prop} (hr22 : ∀ (x4 : Int32) (w : Wd) (L : va_W), r22 x4 w L → gJ Γ K 0 0 (xL K w ++ L) 22 [(0, .ref (xa K 0)), (4, .int x4)] []) {r32 : Int32 → Int32 → Wd → va_W → Prop} (hr32 : ∀ (x4 : Int32) (x5 : Int32) (w : Wd) (L : va_W), r32 x4 x5 w L → gJ Γ K 0 0 (xL K w ++ L) 32 [(0, .ref (xa K 0)), (4, .int x4), (5, .int x5)] []) (x4 : Int32) (x5 : Int32) (w : Wd) (L : va_W) (h : B_X1_isFit_83 r22 r32 N post x4 x5 w L) : gJ Γ K 0 0 (xL K w ++ L) 83 [(0, .ref (xa K 0)), (4, .int x4), (5, .int x5)] [] := by
  unfold B_X1_isFit_83 at h
  refine g_iinc C 2 (x5 + 1) (lt := [(5, .int (x5 + 1)), (0, .ref (xa K 0)), (4, .int x4)]) rfl rfl dX1_isFit_83 (by decide) rfl ?_
  refine g_goto C 32 dX1_isFit_86 (by decide) ?_
  refine g_sub [1, 2, 0] rfl ?_
  exact hr32 x4 (x5 + 1) w L h
def B_X1_isFit_103 (r22 : Int32 → Wd → va_W → Prop) (N : Nat) (post : Int32 → Wd → va_W → Prop) (x4 : Int32) (w : Wd) (L : va_W) : Prop :=
  r22 (x4 + 1) w L
set_option maxHeartbeats 4000000 in
theorem k_X1_isFit_103 {Γ : gT} {K : gK} {N : Nat} {post : Int32 → Wd → va_W → Prop} (C : gC Γ K RX1 cX1_isFit 6 rm_X1_isFit) (ret : gRi Γ K cX1_isFit (some .boolean) (xPi K post) 0 0) {r22 : Int32 → Wd → va_W → Prop} (hr22 : ∀ (x4 : Int32) (w : Wd) (L : va_W), r22 x4 w L → gJ Γ K 0 0 (xL K w ++ L) 22 [(0, .ref (xa K 0)), (4, .int x4)] []) (x4 : Int32) (w : Wd) (L : va_W) (h : B_X1_isFit_103 r22 N post x4 w L) : gJ Γ K 0 0 (xL K w ++ L) 103 [(0, .ref (xa K 0)), (4, .int x4)] [] := by
  unfold B_X1_isFit_103 at h
  refine g_iinc C 1 (x4 + 1) (lt := [(4, .int (x4 + 1)), (0, .ref (xa K 0))]) rfl rfl dX1_isFit_103 (by decide) rfl ?_
  refine g_goto C 22 dX1_isFit_106 (by decide) ?_
  refine g_sub [1, 0] rfl ?_
  exact hr22 (x4 + 1) w L h
def B_X1_isFit_32s (r22 : Int32 → Wd → va_W → Prop) (r32 : Int32 → Int32 → Wd → va_W → Prop) (N : Nat) (post : Int32 → Wd → va_W → Prop) (x4 : Int32) (x5 : Int32) (w : Wd) (L : va_W) : Prop :=
  ((xi w 7) ≤ x5 →
    ((24 : Int32) ≤ x4 →
      B_X1_isFit_103 r22 N post x4 w L) ∧
    (¬ (24 : Int32) ≤ x4 →
      B_X4_step N (fun (w1 : Wd) (L2 : va_W) =>
  B_X1_isFit_103 r22 N post x4 w1 L2) w L)) ∧
  (¬ (xi w 7) ≤ x5 →
    vp_in x5 12 ∧ ((xA w 11 x5.toNatClampNeg) = x4 →
      B_X4_there N (fun (v5 : Int32) (w3 : Wd) (L4 : va_W) =>
  vp_in x5 12 ∧ vp_in x5 12 ∧ ((if 0 ≤ (v5 - (xA w3 12 x5.toNatClampNeg)) then (v5 - (xA w3 12 x5.toNatClampNeg)) else 0 - (v5 - (xA w3 12 x5.toNatClampNeg))) ≤ (xA w3 13 x5.toNatClampNeg) →
        B_X1_isFit_83 r22 r32 N post x4 x5 w3 L4) ∧
      (¬ (if 0 ≤ (v5 - (xA w3 12 x5.toNatClampNeg)) then (v5 - (xA w3 12 x5.toNatClampNeg)) else 0 - (v5 - (xA w3 12 x5.toNatClampNeg))) ≤ (xA w3 13 x5.toNatClampNeg) →
        post 0 w3 L4)) w L) ∧
    (¬ (xA w 11 x5.toNatClampNeg) = x4 →
      B_X1_isFit_83 r22 r32 N post x4 x5 w L))
def B_X1_isFit_32 (r22 : Int32 → Wd → va_W → Prop) (N : Nat) (post : Int32 → Wd → va_W → Prop) : Nat → Int32 → Int32 → Wd → va_W → Prop
  | 0, _, _, _, _ => False
  | n + 1, x4, x5, w, L => B_X1_isFit_32s r22 (B_X1_isFit_32 r22 N post n) N post x4 x5 w L
set_option maxHeartbeats 4000000 in
theorem k_X1_isFit_32s {Γ : gT} {K : gK} {N : Nat} {post : Int32 → Wd → va_W → Prop} (C : gC Γ K RX1 cX1_isFit 6 rm_X1_isFit) (ret : gRi Γ K cX1_isFit (some .boolean) (xPi K post) 0 0) {r22 : Int32 → Wd → va_W → Prop} (hr22 : ∀ (x4 : Int32) (w : Wd) (L : va_W), r22 x4 w L → gJ Γ K 0 0 (xL K w ++ L) 22 [(0, .ref (xa K 0)), (4, .int x4)] []) {r32 : Int32 → Int32 → Wd → va_W → Prop} (hr32 : ∀ (x4 : Int32) (x5 : Int32) (w : Wd) (L : va_W), r32 x4 x5 w L → gJ Γ K 0 0 (xL K w ++ L) 32 [(0, .ref (xa K 0)), (4, .int x4), (5, .int x5)] []) (x4 : Int32) (x5 : Int32) (w : Wd) (L : va_W) (h : B_X1_isFit_32s r22 r32 N post x4 x5 w L) : gJ Γ K 0 0 (xL K w ++ L) 32 [(0, .ref (xa K 0)), (4, .int x4), (5, .int x5)] [] := by
  unfold B_X1_isFit_32s at h
  refine g_iload C 2 rfl dX1_isFit_32 ?_
  refine g_aload_n C 0 rfl dX1_isFit_34 ?_
  refine xg_notes C q298 (xi w 7) rfl dX1_isFit_35 ?_
  refine g_icmp_ge C 89 dX1_isFit_38 (by decide) (fun hc => ?_) (fun hc => ?_)
  · replace h := h.1 hc
    refine g_iload C 1 rfl dX1_isFit_89 ?_
    refine g_bipush C 24 (by decide) dX1_isFit_91 ?_
    refine g_icmp_ge C 103 dX1_isFit_93 (by decide) (fun hc => ?_) (fun hc => ?_)
    · replace h := h.1 hc
      refine g_sub [0, 1] rfl ?_
      exact k_X1_isFit_103 C ret hr22 x4 w L h
    · replace h := h.2 hc
      refine g_aload_n C 0 rfl dX1_isFit_96 ?_
      refine xg_colony C q292 dX1_isFit_97 ?_
      refine g_callVv C (As := []) (rest := []) (m_X4_step h) (lw_V q916 q743 q744 q83 q745) (ci := 1) (qi := 1) rfl rfl ⟨rfl, rfl⟩ ⟨Nat.le_of_ble_eq_true rfl, Nat.le_of_ble_eq_true rfl⟩ 0 rfl (by decide +kernel) rfl (Nat.le_of_ble_eq_true rfl) ⟨Nat.zero_le _, Nat.zero_le _⟩ dX1_isFit_100 ?_
      rintro _ ⟨w1, L2, rfl, h⟩
      refine g_sub [0, 1] rfl ?_
      exact k_X1_isFit_103 C ret hr22 x4 w1 L2 h
  · replace h := h.2 hc
    refine g_aload_n C 0 rfl dX1_isFit_41 ?_
    refine xg_noteMonth C q293 dX1_isFit_42 ?_
    refine g_iload C 2 rfl dX1_isFit_45 ?_
    obtain ⟨hb, h⟩ := h
    refine xld_11 C hb (xA w 11 x5.toNatClampNeg) rfl dX1_isFit_47 ?_
    refine g_iload C 1 rfl dX1_isFit_48 ?_
    refine g_icmp_ne C 83 dX1_isFit_50 (by decide) (fun hc => ?_) (fun hc => ?_)
    · replace h := h.2 hc
      exact k_X1_isFit_83 C ret hr22 hr32 x4 x5 w L h
    · replace h := h.1 hc
      refine g_aload_n C 0 rfl dX1_isFit_53 ?_
      refine xg_colony C q292 dX1_isFit_54 ?_
      refine g_callVi C (As := []) (rest := []) (m_X4_there h) (lw_V q882 q796 q797 q83 q798) (ci := 1) (qi := 1) rfl rfl ⟨rfl, rfl⟩ ⟨Nat.le_of_ble_eq_true rfl, Nat.le_of_ble_eq_true rfl⟩ 0 rfl (by decide +kernel) rfl (Nat.le_of_ble_eq_true rfl) ⟨Nat.zero_le _, Nat.zero_le _⟩ dX1_isFit_57 ?_
      rintro v5 _ ⟨w3, L4, rfl, h⟩
      refine g_aload_n C 0 rfl dX1_isFit_60 ?_
      refine xg_noteThere C q294 dX1_isFit_61 ?_
      refine g_iload C 2 rfl dX1_isFit_64 ?_
      obtain ⟨hb, h⟩ := h
      refine xld_12 C hb (xA w3 12 x5.toNatClampNeg) rfl dX1_isFit_66 ?_
      refine g_isub C dX1_isFit_67 ?_
      refine g_mabs C q913 q914 q87 q915 ⟨Nat.le_of_ble_eq_true rfl, (Nat.le_of_ble_eq_true rfl)⟩ ⟨Nat.zero_le _, Nat.zero_le _⟩ dX1_isFit_68 ?_
      refine g_aload_n C 0 rfl dX1_isFit_71 ?_
      refine xg_noteOff C q295 dX1_isFit_72 ?_
      refine g_iload C 2 rfl dX1_isFit_75 ?_
      obtain ⟨hb, h⟩ := h
      refine xld_13 C hb (xA w3 13 x5.toNatClampNeg) rfl dX1_isFit_77 ?_
      refine g_icmp_le C 83 dX1_isFit_78 (by decide) (fun hc => ?_) (fun hc => ?_)
      · replace h := h.1 hc
        exact k_X1_isFit_83 C ret hr22 hr32 x4 x5 w3 L4 h
      · replace h := h.2 hc
        refine g_iconst C 0 (by decide) dX1_isFit_81 ?_
        exact ret _ _ _ _ _ rfl (gZ.n (Or.inl rfl)) dX1_isFit_82 ⟨_, _, rfl, h⟩
theorem k_X1_isFit_32 {Γ : gT} {K : gK} {N : Nat} {post : Int32 → Wd → va_W → Prop} (C : gC Γ K RX1 cX1_isFit 6 rm_X1_isFit) (ret : gRi Γ K cX1_isFit (some .boolean) (xPi K post) 0 0) {r22 : Int32 → Wd → va_W → Prop} (hr22 : ∀ (x4 : Int32) (w : Wd) (L : va_W), r22 x4 w L → gJ Γ K 0 0 (xL K w ++ L) 22 [(0, .ref (xa K 0)), (4, .int x4)] []) : ∀ (n : Nat) (x4 : Int32) (x5 : Int32) (w : Wd) (L : va_W) (h : B_X1_isFit_32 r22 N post n x4 x5 w L), gJ Γ K 0 0 (xL K w ++ L) 32 [(0, .ref (xa K 0)), (4, .int x4), (5, .int x5)] [] := by
  intro n
  induction n with
  | zero => intro x4 x5 w L h; exact h.elim
  | succ n ih => intro x4 x5 w L h; exact k_X1_isFit_32s C ret hr22 ih x4 x5 w L h
def B_X1_isFit_22s (r22 : Int32 → Wd → va_W → Prop) (N : Nat) (post : Int32 → Wd → va_W → Prop) (x4 : Int32) (w : Wd) (L : va_W) : Prop :=
  ((24 : Int32) < x4 →
    post 1 w L) ∧
  (¬ (24 : Int32) < x4 →
    B_X1_isFit_32 r22 N post N x4 0 w L)
def B_X1_isFit_22 (N : Nat) (post : Int32 → Wd → va_W → Prop) : Nat → Int32 → Wd → va_W → Prop
  | 0, _, _, _ => False
  | n + 1, x4, w, L => B_X1_isFit_22s (B_X1_isFit_22 N post n) N post x4 w L
set_option maxHeartbeats 4000000 in
theorem k_X1_isFit_22s {Γ : gT} {K : gK} {N : Nat} {post : Int32 → Wd → va_W → Prop} (C : gC Γ K RX1 cX1_isFit 6 rm_X1_isFit) (ret : gRi Γ K cX1_isFit (some .boolean) (xPi K post) 0 0) {r22 : Int32 → Wd → va_W → Prop} (hr22 : ∀ (x4 : Int32) (w : Wd) (L : va_W), r22 x4 w L → gJ Γ K 0 0 (xL K w ++ L) 22 [(0, .ref (xa K 0)), (4, .int x4)] []) (x4 : Int32) (w : Wd) (L : va_W) (h : B_X1_isFit_22s r22 N post x4 w L) : gJ Γ K 0 0 (xL K w ++ L) 22 [(0, .ref (xa K 0)), (4, .int x4)] [] := by
  unfold B_X1_isFit_22s at h
  refine g_iload C 1 rfl dX1_isFit_22 ?_
  refine g_bipush C 24 (by decide) dX1_isFit_24 ?_
  refine g_icmp_gt C 109 dX1_isFit_26 (by decide) (fun hc => ?_) (fun hc => ?_)
  · replace h := h.1 hc
    refine g_iconst C 1 (by decide) dX1_isFit_109 ?_
    exact ret _ _ _ _ _ rfl (gZ.n (Or.inr rfl)) dX1_isFit_110 ⟨_, _, rfl, h⟩
  · replace h := h.2 hc
    refine g_iconst C 0 (by decide) dX1_isFit_29 ?_
    refine g_istore C (lt := [(5, .int 0), (0, .ref (xa K 0)), (4, .int x4)]) dX1_isFit_30 (by decide) rfl ?_
    refine g_sub [1, 2, 0] rfl ?_
    exact k_X1_isFit_32 C ret hr22 N x4 0 w L h
theorem k_X1_isFit_22 {Γ : gT} {K : gK} {N : Nat} {post : Int32 → Wd → va_W → Prop} (C : gC Γ K RX1 cX1_isFit 6 rm_X1_isFit) (ret : gRi Γ K cX1_isFit (some .boolean) (xPi K post) 0 0) : ∀ (n : Nat) (x4 : Int32) (w : Wd) (L : va_W) (h : B_X1_isFit_22 N post n x4 w L), gJ Γ K 0 0 (xL K w ++ L) 22 [(0, .ref (xa K 0)), (4, .int x4)] [] := by
  intro n
  induction n with
  | zero => intro x4 w L h; exact h.elim
  | succ n ih => intro x4 w L h; exact k_X1_isFit_22s C ret ih x4 w L h
def B_X1_isFit_0 (N : Nat) (post : Int32 → Wd → va_W → Prop) (x1 : Int32) (x2 : Int64) (w : Wd) (L : va_W) : Prop :=
  vp_in x1 6 ∧ B_X4_begin N (xQ w x1.toNatClampNeg) x2 (xi w 4) 0 (fun (w1 : Wd) (L2 : va_W) =>
  B_X1_isFit_22 N post N 0 w1 L2) w L
set_option maxHeartbeats 4000000 in
theorem k_X1_isFit_0 {Γ : gT} {K : gK} {N : Nat} {post : Int32 → Wd → va_W → Prop} (C : gC Γ K RX1 cX1_isFit 6 rm_X1_isFit) (ret : gRi Γ K cX1_isFit (some .boolean) (xPi K post) 0 0) (x1 : Int32) (x2 : Int64) (w : Wd) (L : va_W) (h : B_X1_isFit_0 N post x1 x2 w L) : gJ Γ K 0 0 (xL K w ++ L) 0 [(0, .ref (xa K 0)), (1, .int x1), (2, .long x2)] [] := by
  unfold B_X1_isFit_0 at h
  refine g_aload_n C 0 rfl dX1_isFit_0 ?_
  refine xg_colony C q292 dX1_isFit_1 ?_
  refine g_aload_n C 0 rfl dX1_isFit_4 ?_
  refine xg_laws C q277 dX1_isFit_5 ?_
  refine g_iload_n C 1 rfl dX1_isFit_8 ?_
  obtain ⟨hb, h⟩ := h
  refine xld_8 C hb (xQ w x1.toNatClampNeg) rfl dX1_isFit_9 ?_
  refine g_lload_n C 2 rfl dX1_isFit_10 ?_
  refine g_aload_n C 0 rfl dX1_isFit_11 ?_
  refine xg_animals C q283 (xi w 4) rfl dX1_isFit_12 ?_
  refine g_iconst C 0 (by decide) dX1_isFit_15 ?_
  refine g_callVv C (As := [va_rf (xQ w x1.toNatClampNeg), .long x2, .int (xi w 4), .int 0]) (rest := []) (m_X4_begin h) (lw_V q729 q730 q731 q83 q732) (ci := 1) (qi := 1) rfl rfl ⟨rfl, rfl⟩ ⟨Nat.le_of_ble_eq_true rfl, Nat.le_of_ble_eq_true rfl⟩ 4 rfl (by decide +kernel) rfl (Nat.le_of_ble_eq_true rfl) ⟨Nat.zero_le _, Nat.zero_le _⟩ dX1_isFit_16 ?_
  rintro _ ⟨w1, L2, rfl, h⟩
  refine g_iconst C 0 (by decide) dX1_isFit_19 ?_
  refine g_istore C (lt := [(4, .int 0), (0, .ref (xa K 0)), (1, .int x1), (2, .long x2)]) dX1_isFit_20 (by decide) rfl ?_
  refine g_sub [1, 0] rfl ?_
  exact k_X1_isFit_22 C ret N 0 w1 L2 h
def B_X1_isFit (N : Nat) (x1 : Int32) (x2 : Int64) (post : Int32 → Wd → va_W → Prop) (w : Wd) (L : va_W) : Prop := B_X1_isFit_0 N post x1 x2 w L
theorem m_X1_isFit {l : Launch} {K : gK} {N : Nat} {post : Int32 → Wd → va_W → Prop} {x1 : Int32} {x2 : Int64} {w : Wd} {L : va_W} (h : B_X1_isFit N x1 x2 post w L) : gMi l K yX1_isFit cX1_isFit 6 (some .boolean) rm_X1_isFit [.ref (xa K 0), .int x1, .long x2] (xL K w ++ L) (xPi K post) 0 0 := by
  refine g_inI (ls0 := [(0, .ref (xa K 0)), (1, .int x1), (2, .long x2)]) (by decide) (Nat.le_of_ble_eq_true rfl) rfl (fun Γ hl C hn ret => ?_)
  exact k_X1_isFit_0 C ret x1 x2 w L h
def rm_X1_fits : Room := { frames := 365, cells := 0, slots := 0, locals := 8795 }
def B_X1_fits_31 (r5 : Int64 → Int32 → Int32 → Wd → va_W → Prop) (N : Nat) (post : Int32 → Wd → va_W → Prop) (x1 : Int64) (x3 : Int32) (x4 : Int32) (w : Wd) (L : va_W) : Prop :=
  r5 x1 x3 (x4 + 1) w L
set_option maxHeartbeats 4000000 in
theorem k_X1_fits_31 {Γ : gT} {K : gK} {N : Nat} {post : Int32 → Wd → va_W → Prop} (C : gC Γ K RX1 cX1_fits 5 rm_X1_fits) (ret : gRi Γ K cX1_fits (some .int) (xPi K post) 0 0) {r5 : Int64 → Int32 → Int32 → Wd → va_W → Prop} (hr5 : ∀ (x1 : Int64) (x3 : Int32) (x4 : Int32) (w : Wd) (L : va_W), r5 x1 x3 x4 w L → gJ Γ K 0 0 (xL K w ++ L) 5 [(0, .ref (xa K 0)), (1, .long x1), (3, .int x3), (4, .int x4)] []) (x1 : Int64) (x3 : Int32) (x4 : Int32) (w : Wd) (L : va_W) (h : B_X1_fits_31 r5 N post x1 x3 x4 w L) : gJ Γ K 0 0 (xL K w ++ L) 31 [(0, .ref (xa K 0)), (1, .long x1), (3, .int x3), (4, .int x4)] [] := by
  unfold B_X1_fits_31 at h
  refine g_iinc C 3 (x4 + 1) (lt := [(4, .int (x4 + 1)), (0, .ref (xa K 0)), (1, .long x1), (3, .int x3)]) rfl rfl dX1_fits_31 (by decide) rfl ?_
  refine g_goto C 5 dX1_fits_34 (by decide) ?_
  refine g_sub [1, 2, 3, 0] rfl ?_
  exact hr5 x1 x3 (x4 + 1) w L h
def B_X1_fits_5s (r5 : Int64 → Int32 → Int32 → Wd → va_W → Prop) (N : Nat) (post : Int32 → Wd → va_W → Prop) (x1 : Int64) (x3 : Int32) (x4 : Int32) (w : Wd) (L : va_W) : Prop :=
  ((xi w 3) ≤ x4 →
    post x3 w L) ∧
  (¬ (xi w 3) ≤ x4 →
    B_X1_isFit N x4 x1 (fun (v3 : Int32) (w1 : Wd) (L2 : va_W) =>
  (v3 = 0 →
      B_X1_fits_31 r5 N post x1 x3 x4 w1 L2) ∧
    (¬ v3 = 0 →
      B_X1_fits_31 r5 N post x1 (x3 ||| (1 <<< (x4 &&& 31))) x4 w1 L2)) w L)
def B_X1_fits_5 (N : Nat) (post : Int32 → Wd → va_W → Prop) : Nat → Int64 → Int32 → Int32 → Wd → va_W → Prop
  | 0, _, _, _, _, _ => False
  | n + 1, x1, x3, x4, w, L => B_X1_fits_5s (B_X1_fits_5 N post n) N post x1 x3 x4 w L
set_option maxHeartbeats 4000000 in
theorem k_X1_fits_5s {Γ : gT} {K : gK} {N : Nat} {post : Int32 → Wd → va_W → Prop} (C : gC Γ K RX1 cX1_fits 5 rm_X1_fits) (ret : gRi Γ K cX1_fits (some .int) (xPi K post) 0 0) {r5 : Int64 → Int32 → Int32 → Wd → va_W → Prop} (hr5 : ∀ (x1 : Int64) (x3 : Int32) (x4 : Int32) (w : Wd) (L : va_W), r5 x1 x3 x4 w L → gJ Γ K 0 0 (xL K w ++ L) 5 [(0, .ref (xa K 0)), (1, .long x1), (3, .int x3), (4, .int x4)] []) (x1 : Int64) (x3 : Int32) (x4 : Int32) (w : Wd) (L : va_W) (h : B_X1_fits_5s r5 N post x1 x3 x4 w L) : gJ Γ K 0 0 (xL K w ++ L) 5 [(0, .ref (xa K 0)), (1, .long x1), (3, .int x3), (4, .int x4)] [] := by
  unfold B_X1_fits_5s at h
  refine g_iload C 3 rfl dX1_fits_5 ?_
  refine g_aload_n C 0 rfl dX1_fits_7 ?_
  refine xg_lawMany C q278 (xi w 3) rfl dX1_fits_8 ?_
  refine g_icmp_ge C 37 dX1_fits_11 (by decide) (fun hc => ?_) (fun hc => ?_)
  · replace h := h.1 hc
    refine g_iload_n C 2 rfl dX1_fits_37 ?_
    exact ret _ _ _ _ _ rfl rfl dX1_fits_38 ⟨_, _, rfl, h⟩
  · replace h := h.2 hc
    refine g_aload_n C 0 rfl dX1_fits_14 ?_
    refine g_iload C 3 rfl dX1_fits_15 ?_
    refine g_lload_n C 1 rfl dX1_fits_17 ?_
    refine g_callVi C (As := [.int x4, .long x1]) (rest := []) (m_X1_isFit h) (lw_V q909 q911 qs28 q78 q912) (ci := 0) (qi := 0) rfl rfl ⟨rfl, rfl⟩ ⟨Nat.le_of_ble_eq_true rfl, Nat.le_of_ble_eq_true rfl⟩ 2 rfl (by decide +kernel) rfl (Nat.le_of_ble_eq_true rfl) ⟨Nat.zero_le _, Nat.zero_le _⟩ dX1_fits_18 ?_
    rintro v3 _ ⟨w1, L2, rfl, h⟩
    refine g_if_eq C 31 dX1_fits_21 (by decide) (fun hc => ?_) (fun hc => ?_)
    · replace h := h.1 hc
      exact k_X1_fits_31 C ret hr5 x1 x3 x4 w1 L2 h
    · replace h := h.2 hc
      refine g_iload_n C 2 rfl dX1_fits_24 ?_
      refine g_iconst C 1 (by decide) dX1_fits_25 ?_
      refine g_iload C 3 rfl dX1_fits_26 ?_
      refine g_ishl C dX1_fits_28 ?_
      refine g_ior C dX1_fits_29 ?_
      refine g_istore_n C rfl (lt := [(3, .int (x3 ||| (1 <<< (x4 &&& 31)))), (0, .ref (xa K 0)), (1, .long x1), (4, .int x4)]) dX1_fits_30 (by decide) rfl ?_
      refine g_sub [1, 2, 0, 3] rfl ?_
      exact k_X1_fits_31 C ret hr5 x1 (x3 ||| (1 <<< (x4 &&& 31))) x4 w1 L2 h
theorem k_X1_fits_5 {Γ : gT} {K : gK} {N : Nat} {post : Int32 → Wd → va_W → Prop} (C : gC Γ K RX1 cX1_fits 5 rm_X1_fits) (ret : gRi Γ K cX1_fits (some .int) (xPi K post) 0 0) : ∀ (n : Nat) (x1 : Int64) (x3 : Int32) (x4 : Int32) (w : Wd) (L : va_W) (h : B_X1_fits_5 N post n x1 x3 x4 w L), gJ Γ K 0 0 (xL K w ++ L) 5 [(0, .ref (xa K 0)), (1, .long x1), (3, .int x3), (4, .int x4)] [] := by
  intro n
  induction n with
  | zero => intro x1 x3 x4 w L h; exact h.elim
  | succ n ih => intro x1 x3 x4 w L h; exact k_X1_fits_5s C ret ih x1 x3 x4 w L h
def B_X1_fits_0 (N : Nat) (post : Int32 → Wd → va_W → Prop) (x1 : Int64) (w : Wd) (L : va_W) : Prop :=
  B_X1_fits_5 N post N x1 0 0 w L
set_option maxHeartbeats 4000000 in
theorem k_X1_fits_0 {Γ : gT} {K : gK} {N : Nat} {post : Int32 → Wd → va_W → Prop} (C : gC Γ K RX1 cX1_fits 5 rm_X1_fits) (ret : gRi Γ K cX1_fits (some .int) (xPi K post) 0 0) (x1 : Int64) (w : Wd) (L : va_W) (h : B_X1_fits_0 N post x1 w L) : gJ Γ K 0 0 (xL K w ++ L) 0 [(0, .ref (xa K 0)), (1, .long x1)] [] := by
  unfold B_X1_fits_0 at h
  refine g_iconst C 0 (by decide) dX1_fits_0 ?_
  refine g_istore_n C rfl (lt := [(3, .int 0), (0, .ref (xa K 0)), (1, .long x1)]) dX1_fits_1 (by decide) rfl ?_
  refine g_iconst C 0 (by decide) dX1_fits_2 ?_
  refine g_istore C (lt := [(4, .int 0), (3, .int 0), (0, .ref (xa K 0)), (1, .long x1)]) dX1_fits_3 (by decide) rfl ?_
  refine g_sub [2, 3, 1, 0] rfl ?_
  exact k_X1_fits_5 C ret N x1 0 0 w L h
def B_X1_fits (N : Nat) (x1 : Int64) (post : Int32 → Wd → va_W → Prop) (w : Wd) (L : va_W) : Prop := B_X1_fits_0 N post x1 w L
theorem m_X1_fits {l : Launch} {K : gK} {N : Nat} {post : Int32 → Wd → va_W → Prop} {x1 : Int64} {w : Wd} {L : va_W} (h : B_X1_fits N x1 post w L) : gMi l K yX1_fits cX1_fits 5 (some .int) rm_X1_fits [.ref (xa K 0), .long x1] (xL K w ++ L) (xPi K post) 0 0 := by
  refine g_inI (ls0 := [(0, .ref (xa K 0)), (1, .long x1)]) (by decide) (Nat.le_of_ble_eq_true rfl) rfl (fun Γ hl C hn ret => ?_)
  exact k_X1_fits_0 C ret x1 w L h
def rm_X1_whatIf : Room := { frames := 366, cells := 0, slots := 0, locals := 8817 }
def B_X1_whatIf_19 (N : Nat) (post : Int32 → Wd → va_W → Prop) (w : Wd) (L : va_W) : Prop :=
  post (-1000) w L
set_option maxHeartbeats 4000000 in
theorem k_X1_whatIf_19 {Γ : gT} {K : gK} {N : Nat} {post : Int32 → Wd → va_W → Prop} (C : gC Γ K RX1 cX1_whatIf 6 rm_X1_whatIf) (ret : gRi Γ K cX1_whatIf (some .int) (xPi K post) 0 0) (w : Wd) (L : va_W) (h : B_X1_whatIf_19 N post w L) : gJ Γ K 0 0 (xL K w ++ L) 19 [] [] := by
  unfold B_X1_whatIf_19 at h
  refine g_sipush C (-1000) (by decide) dX1_whatIf_19 ?_
  exact ret _ _ _ _ _ rfl rfl dX1_whatIf_22 ⟨_, _, rfl, h⟩
def B_X1_whatIf_0 (N : Nat) (post : Int32 → Wd → va_W → Prop) (x1 : Int32) (x2 : Int64) (x4 : Int32) (w : Wd) (L : va_W) : Prop :=
  B_X1_isLaw N x1 (fun (v3 : Int32) (w1 : Wd) (L2 : va_W) =>
  (v3 = 0 →
    B_X1_whatIf_19 N post w1 L2) ∧
  (¬ v3 = 0 →
    B_X1_in N x4 0 7 (fun (v6 : Int32) (w4 : Wd) (L5 : va_W) =>
  (v6 = 0 →
      B_X1_whatIf_19 N post w4 L5) ∧
    (¬ v6 = 0 →
      B_X1_go N x1 x2 24 x4 (fun (w7 : Wd) (L8 : va_W) =>
  B_X4_there N (fun (v11 : Int32) (w9 : Wd) (L10 : va_W) =>
  B_X1_go N x1 x2 24 0 (fun (w12 : Wd) (L13 : va_W) =>
  B_X4_there N (fun (v16 : Int32) (w14 : Wd) (L15 : va_W) =>
  post (v11 - v16) w14 L15) w12 L13) w9 L10) w7 L8) w4 L5)) w1 L2)) w L
set_option maxHeartbeats 4000000 in
theorem k_X1_whatIf_0 {Γ : gT} {K : gK} {N : Nat} {post : Int32 → Wd → va_W → Prop} (C : gC Γ K RX1 cX1_whatIf 6 rm_X1_whatIf) (ret : gRi Γ K cX1_whatIf (some .int) (xPi K post) 0 0) (x1 : Int32) (x2 : Int64) (x4 : Int32) (w : Wd) (L : va_W) (h : B_X1_whatIf_0 N post x1 x2 x4 w L) : gJ Γ K 0 0 (xL K w ++ L) 0 [(0, .ref (xa K 0)), (1, .int x1), (2, .long x2), (4, .int x4)] [] := by
  unfold B_X1_whatIf_0 at h
  refine g_aload_n C 0 rfl dX1_whatIf_0 ?_
  refine g_iload_n C 1 rfl dX1_whatIf_1 ?_
  refine g_callVi C (As := [.int x1]) (rest := []) (m_X1_isLaw h) (lw_V q721 q723 qs16 q78 q724) (ci := 0) (qi := 0) rfl rfl ⟨rfl, rfl⟩ ⟨Nat.le_of_ble_eq_true rfl, Nat.le_of_ble_eq_true rfl⟩ 1 rfl (by decide +kernel) rfl (Nat.le_of_ble_eq_true rfl) ⟨Nat.zero_le _, Nat.zero_le _⟩ dX1_whatIf_2 ?_
  rintro v3 _ ⟨w1, L2, rfl, h⟩
  refine g_if_eq C 19 dX1_whatIf_5 (by decide) (fun hc => ?_) (fun hc => ?_)
  · replace h := h.1 hc
    refine g_sub [] rfl ?_
    exact k_X1_whatIf_19 C ret w1 L2 h
  · replace h := h.2 hc
    refine g_iload C 3 rfl dX1_whatIf_8 ?_
    refine g_iconst C 0 (by decide) dX1_whatIf_10 ?_
    refine g_bipush C 7 (by decide) dX1_whatIf_11 ?_
    refine g_callSi C (As := [.int x4, .int 0, .int 7]) (rest := []) (m_X1_in h) (Cn := "") (b := 0) (lw_S q657 q658 q78 q659) ⟨rfl, rfl⟩ ⟨Nat.le_of_ble_eq_true rfl, Nat.le_of_ble_eq_true rfl⟩ 3 rfl (by decide +kernel) rfl (Nat.le_of_ble_eq_true rfl) ⟨Nat.zero_le _, Nat.zero_le _⟩ dX1_whatIf_13 ?_
    rintro v6 _ ⟨w4, L5, rfl, h⟩
    refine g_if_ne C 23 dX1_whatIf_16 (by decide) (fun hc => ?_) (fun hc => ?_)
    · replace h := h.2 hc
      refine g_aload_n C 0 rfl dX1_whatIf_23 ?_
      refine g_iload_n C 1 rfl dX1_whatIf_24 ?_
      refine g_lload_n C 2 rfl dX1_whatIf_25 ?_
      refine g_bipush C 24 (by decide) dX1_whatIf_26 ?_
      refine g_iload C 3 rfl dX1_whatIf_28 ?_
      refine g_callVv C (As := [.int x1, .long x2, .int 24, .int x4]) (rest := []) (m_X1_go h) (lw_V q725 q727 qs17 q78 q728) (ci := 0) (qi := 0) rfl rfl ⟨rfl, rfl⟩ ⟨Nat.le_of_ble_eq_true rfl, Nat.le_of_ble_eq_true rfl⟩ 4 rfl (by decide +kernel) rfl (Nat.le_of_ble_eq_true rfl) ⟨Nat.zero_le _, Nat.zero_le _⟩ dX1_whatIf_30 ?_
      rintro _ ⟨w7, L8, rfl, h⟩
      refine g_aload_n C 0 rfl dX1_whatIf_33 ?_
      refine xg_colony C q292 dX1_whatIf_34 ?_
      refine g_callVi C (As := []) (rest := []) (m_X4_there h) (lw_V q882 q796 q797 q83 q798) (ci := 1) (qi := 1) rfl rfl ⟨rfl, rfl⟩ ⟨Nat.le_of_ble_eq_true rfl, Nat.le_of_ble_eq_true rfl⟩ 0 rfl (by decide +kernel) rfl (Nat.le_of_ble_eq_true rfl) ⟨Nat.zero_le _, Nat.zero_le _⟩ dX1_whatIf_37 ?_
      rintro v11 _ ⟨w9, L10, rfl, h⟩
      refine g_istore C (lt := [(5, .int v11), (0, .ref (xa K 0)), (1, .int x1), (2, .long x2), (4, .int x4)]) dX1_whatIf_40 (by decide) rfl ?_
      refine g_aload_n C 1 rfl dX1_whatIf_42 ?_
      refine g_iload_n C 2 rfl dX1_whatIf_43 ?_
      refine g_lload_n C 3 rfl dX1_whatIf_44 ?_
      refine g_bipush C 24 (by decide) dX1_whatIf_45 ?_
      refine g_iconst C 0 (by decide) dX1_whatIf_47 ?_
      refine g_callVv C (As := [.int x1, .long x2, .int 24, .int 0]) (rest := []) (m_X1_go h) (lw_V q725 q727 qs17 q78 q728) (ci := 0) (qi := 0) rfl rfl ⟨rfl, rfl⟩ ⟨Nat.le_of_ble_eq_true rfl, Nat.le_of_ble_eq_true rfl⟩ 4 rfl (by decide +kernel) rfl (Nat.le_of_ble_eq_true rfl) ⟨Nat.zero_le _, Nat.zero_le _⟩ dX1_whatIf_48 ?_
      rintro _ ⟨w12, L13, rfl, h⟩
      refine g_iload C 0 rfl dX1_whatIf_51 ?_
      refine g_aload_n C 1 rfl dX1_whatIf_53 ?_
      refine xg_colony C q292 dX1_whatIf_54 ?_
      refine g_callVi C (As := []) (rest := [.int v11]) (m_X4_there h) (lw_V q882 q796 q797 q83 q798) (ci := 1) (qi := 1) rfl rfl ⟨rfl, rfl⟩ ⟨Nat.le_of_ble_eq_true rfl, Nat.le_of_ble_eq_true rfl⟩ 0 rfl (by decide +kernel) rfl (Nat.le_of_ble_eq_true rfl) ⟨Nat.zero_le _, Nat.zero_le _⟩ dX1_whatIf_57 ?_
      rintro v16 _ ⟨w14, L15, rfl, h⟩
      refine g_isub C dX1_whatIf_60 ?_
      exact ret _ _ _ _ _ rfl rfl dX1_whatIf_61 ⟨_, _, rfl, h⟩
    · replace h := h.1 hc
      refine g_sub [] rfl ?_
      exact k_X1_whatIf_19 C ret w4 L5 h
def B_X1_whatIf (N : Nat) (x1 : Int32) (x2 : Int64) (x4 : Int32) (post : Int32 → Wd → va_W → Prop) (w : Wd) (L : va_W) : Prop := B_X1_whatIf_0 N post x1 x2 x4 w L
theorem m_X1_whatIf {l : Launch} {K : gK} {N : Nat} {post : Int32 → Wd → va_W → Prop} {x1 : Int32} {x2 : Int64} {x4 : Int32} {w : Wd} {L : va_W} (h : B_X1_whatIf N x1 x2 x4 post w L) : gMi l K yX1_whatIf cX1_whatIf 6 (some .int) rm_X1_whatIf [.ref (xa K 0), .int x1, .long x2, .int x4] (xL K w ++ L) (xPi K post) 0 0 := by
  refine g_inI (ls0 := [(0, .ref (xa K 0)), (1, .int x1), (2, .long x2), (4, .int x4)]) (by decide) (Nat.le_of_ble_eq_true rfl) rfl (fun Γ hl C hn ret => ?_)
  exact k_X1_whatIf_0 C ret x1 x2 x4 w L h
def rm_X1_toldBy : Room := { frames := 365, cells := 0, slots := 0, locals := 8792 }
def B_X1_toldBy_0 (N : Nat) (post : Int32 → Wd → va_W → Prop) (x1 : Int32) (x2 : Int32) (x3 : Int64) (w : Wd) (L : va_W) : Prop :=
  vp_in x2 6 ∧ vp_in x1 6 ∧ B_X4_begin N (xQ w x2.toNatClampNeg) x3 (if (xA w 14 x1.toNatClampNeg) < (xi w 4) then (xA w 14 x1.toNatClampNeg) else (xi w 4)) 1 (fun (w1 : Wd) (L2 : va_W) =>
  vp_in x1 6 ∧ B_X4_go N (xA w1 15 x1.toNatClampNeg) (fun (w3 : Wd) (L4 : va_W) =>
  B_X4_there N (fun (v7 : Int32) (w5 : Wd) (L6 : va_W) =>
  post v7 w5 L6) w3 L4) (xsi w1 13 0) L2) w L
set_option maxHeartbeats 4000000 in
theorem k_X1_toldBy_0 {Γ : gT} {K : gK} {N : Nat} {post : Int32 → Wd → va_W → Prop} (C : gC Γ K RX1 cX1_toldBy 5 rm_X1_toldBy) (ret : gRi Γ K cX1_toldBy (some .int) (xPi K post) 0 0) (x1 : Int32) (x2 : Int32) (x3 : Int64) (w : Wd) (L : va_W) (h : B_X1_toldBy_0 N post x1 x2 x3 w L) : gJ Γ K 0 0 (xL K w ++ L) 0 [(0, .ref (xa K 0)), (1, .int x1), (2, .int x2), (3, .long x3)] [] := by
  unfold B_X1_toldBy_0 at h
  refine g_aload_n C 0 rfl dX1_toldBy_0 ?_
  refine xg_colony C q292 dX1_toldBy_1 ?_
  refine g_aload_n C 0 rfl dX1_toldBy_4 ?_
  refine xg_laws C q277 dX1_toldBy_5 ?_
  refine g_iload_n C 2 rfl dX1_toldBy_8 ?_
  obtain ⟨hb, h⟩ := h
  refine xld_8 C hb (xQ w x2.toNatClampNeg) rfl dX1_toldBy_9 ?_
  refine g_lload_n C 3 rfl dX1_toldBy_10 ?_
  refine g_aload_n C 0 rfl dX1_toldBy_11 ?_
  refine xg_animals C q283 (xi w 4) rfl dX1_toldBy_12 ?_
  refine g_aload_n C 0 rfl dX1_toldBy_15 ?_
  refine xg_trialAnimals C q296 dX1_toldBy_16 ?_
  refine g_iload_n C 1 rfl dX1_toldBy_19 ?_
  obtain ⟨hb, h⟩ := h
  refine xld_14 C hb (xA w 14 x1.toNatClampNeg) rfl dX1_toldBy_20 ?_
  refine g_mmin C q937 q410 q87 q411 ⟨Nat.le_of_ble_eq_true rfl, (by generalize xQ w x2.toNatClampNeg = zq0; cases zq0 <;> exact Nat.le_of_ble_eq_true rfl)⟩ ⟨Nat.zero_le _, Nat.zero_le _⟩ dX1_toldBy_21 ?_
  refine g_iconst C 1 (by decide) dX1_toldBy_24 ?_
  refine g_callVv C (As := [va_rf (xQ w x2.toNatClampNeg), .long x3, .int (if (xA w 14 x1.toNatClampNeg) < (xi w 4) then (xA w 14 x1.toNatClampNeg) else (xi w 4)), .int 1]) (rest := []) (m_X4_begin h) (lw_V q729 q730 q731 q83 q732) (ci := 1) (qi := 1) rfl rfl ⟨rfl, rfl⟩ ⟨Nat.le_of_ble_eq_true rfl, Nat.le_of_ble_eq_true rfl⟩ 4 rfl (by decide +kernel) rfl (Nat.le_of_ble_eq_true rfl) ⟨Nat.zero_le _, Nat.zero_le _⟩ dX1_toldBy_25 ?_
  rintro _ ⟨w1, L2, rfl, h⟩
  refine g_aload_n C 0 rfl dX1_toldBy_28 ?_
  refine xg_colony C q292 dX1_toldBy_29 ?_
  refine g_iconst C 0 (by decide) dX1_toldBy_32 ?_
  refine xpN_c_chance C nf_X1_341 dX1_toldBy_33 ?_
  refine g_aload_n C 0 rfl dX1_toldBy_36 ?_
  refine xg_colony C q292 dX1_toldBy_37 ?_
  refine g_aload_n C 0 rfl dX1_toldBy_40 ?_
  refine xg_trialMonths C q297 dX1_toldBy_41 ?_
  refine g_iload_n C 1 rfl dX1_toldBy_44 ?_
  obtain ⟨hb, h⟩ := h
  refine xld_15 C hb (xA w1 15 x1.toNatClampNeg) rfl dX1_toldBy_45 ?_
  refine g_callVv C (As := [.int (xA w1 15 x1.toNatClampNeg)]) (rest := []) (m_X4_go h) (lw_V q738 q739 q740 q83 q741) (ci := 1) (qi := 1) rfl rfl ⟨rfl, rfl⟩ ⟨Nat.le_of_ble_eq_true rfl, Nat.le_of_ble_eq_true rfl⟩ 1 rfl (by decide +kernel) rfl (Nat.le_of_ble_eq_true rfl) ⟨Nat.zero_le _, Nat.zero_le _⟩ dX1_toldBy_46 ?_
  rintro _ ⟨w3, L4, rfl, h⟩
  refine g_aload_n C 0 rfl dX1_toldBy_49 ?_
  refine xg_colony C q292 dX1_toldBy_50 ?_
  refine g_callVi C (As := []) (rest := []) (m_X4_there h) (lw_V q882 q796 q797 q83 q798) (ci := 1) (qi := 1) rfl rfl ⟨rfl, rfl⟩ ⟨Nat.le_of_ble_eq_true rfl, Nat.le_of_ble_eq_true rfl⟩ 0 rfl (by decide +kernel) rfl (Nat.le_of_ble_eq_true rfl) ⟨Nat.zero_le _, Nat.zero_le _⟩ dX1_toldBy_53 ?_
  rintro v7 _ ⟨w5, L6, rfl, h⟩
  exact ret _ _ _ _ _ rfl rfl dX1_toldBy_56 ⟨_, _, rfl, h⟩
def B_X1_toldBy (N : Nat) (x1 : Int32) (x2 : Int32) (x3 : Int64) (post : Int32 → Wd → va_W → Prop) (w : Wd) (L : va_W) : Prop := B_X1_toldBy_0 N post x1 x2 x3 w L
theorem m_X1_toldBy {l : Launch} {K : gK} {N : Nat} {post : Int32 → Wd → va_W → Prop} {x1 : Int32} {x2 : Int32} {x3 : Int64} {w : Wd} {L : va_W} (h : B_X1_toldBy N x1 x2 x3 post w L) : gMi l K yX1_toldBy cX1_toldBy 5 (some .int) rm_X1_toldBy [.ref (xa K 0), .int x1, .int x2, .long x3] (xL K w ++ L) (xPi K post) 0 0 := by
  refine g_inI (ls0 := [(0, .ref (xa K 0)), (1, .int x1), (2, .int x2), (3, .long x3)]) (by decide) (Nat.le_of_ble_eq_true rfl) rfl (fun Γ hl C hn ret => ?_)
  exact k_X1_toldBy_0 C ret x1 x2 x3 w L h
def rm_X1_tells : Room := { frames := 366, cells := 0, slots := 0, locals := 8816 }
def B_X1_tells_27 (N : Nat) (post : Int32 → Wd → va_W → Prop) (s0 : Int32) (w : Wd) (L : va_W) : Prop :=
  post s0 w L
set_option maxHeartbeats 4000000 in
theorem k_X1_tells_27 {Γ : gT} {K : gK} {N : Nat} {post : Int32 → Wd → va_W → Prop} (C : gC Γ K RX1 cX1_tells 5 rm_X1_tells) (ret : gRi Γ K cX1_tells (some .int) (xPi K post) 0 0) (s0 : Int32) (w : Wd) (L : va_W) (h : B_X1_tells_27 N post s0 w L) : gJ Γ K 0 0 (xL K w ++ L) 27 [] [.int s0] := by
  unfold B_X1_tells_27 at h
  exact ret _ _ _ _ _ rfl rfl dX1_tells_27 ⟨_, _, rfl, h⟩
def B_X1_tells_26 (N : Nat) (post : Int32 → Wd → va_W → Prop) (w : Wd) (L : va_W) : Prop :=
  B_X1_tells_27 N post (-1) w L
set_option maxHeartbeats 4000000 in
theorem k_X1_tells_26 {Γ : gT} {K : gK} {N : Nat} {post : Int32 → Wd → va_W → Prop} (C : gC Γ K RX1 cX1_tells 5 rm_X1_tells) (ret : gRi Γ K cX1_tells (some .int) (xPi K post) 0 0) (w : Wd) (L : va_W) (h : B_X1_tells_26 N post w L) : gJ Γ K 0 0 (xL K w ++ L) 26 [] [] := by
  unfold B_X1_tells_26 at h
  refine g_iconst C (-1) (by decide) dX1_tells_26 ?_
  exact k_X1_tells_27 C ret (-1) w L h
def B_X1_tells_0 (N : Nat) (post : Int32 → Wd → va_W → Prop) (x1 : Int32) (x2 : Int32) (x3 : Int64) (w : Wd) (L : va_W) : Prop :=
  B_X1_isTrial N x1 (fun (v3 : Int32) (w1 : Wd) (L2 : va_W) =>
  (v3 = 0 →
    B_X1_tells_26 N post w1 L2) ∧
  (¬ v3 = 0 →
    B_X1_isLaw N x2 (fun (v6 : Int32) (w4 : Wd) (L5 : va_W) =>
  (v6 = 0 →
      B_X1_tells_26 N post w4 L5) ∧
    (¬ v6 = 0 →
      B_X1_toldBy N x1 x2 x3 (fun (v9 : Int32) (w7 : Wd) (L8 : va_W) =>
  B_X1_tells_27 N post v9 w7 L8) w4 L5)) w1 L2)) w L
set_option maxHeartbeats 4000000 in
theorem k_X1_tells_0 {Γ : gT} {K : gK} {N : Nat} {post : Int32 → Wd → va_W → Prop} (C : gC Γ K RX1 cX1_tells 5 rm_X1_tells) (ret : gRi Γ K cX1_tells (some .int) (xPi K post) 0 0) (x1 : Int32) (x2 : Int32) (x3 : Int64) (w : Wd) (L : va_W) (h : B_X1_tells_0 N post x1 x2 x3 w L) : gJ Γ K 0 0 (xL K w ++ L) 0 [(0, .ref (xa K 0)), (1, .int x1), (2, .int x2), (3, .long x3)] [] := by
  unfold B_X1_tells_0 at h
  refine g_aload_n C 0 rfl dX1_tells_0 ?_
  refine g_iload_n C 1 rfl dX1_tells_1 ?_
  refine g_callVi C (As := [.int x1]) (rest := []) (m_X1_isTrial h) (lw_V q929 q931 qs29 q78 q932) (ci := 0) (qi := 0) rfl rfl ⟨rfl, rfl⟩ ⟨Nat.le_of_ble_eq_true rfl, Nat.le_of_ble_eq_true rfl⟩ 1 rfl (by decide +kernel) rfl (Nat.le_of_ble_eq_true rfl) ⟨Nat.zero_le _, Nat.zero_le _⟩ dX1_tells_2 ?_
  rintro v3 _ ⟨w1, L2, rfl, h⟩
  refine g_if_eq C 26 dX1_tells_5 (by decide) (fun hc => ?_) (fun hc => ?_)
  · replace h := h.1 hc
    refine g_sub [] rfl ?_
    exact k_X1_tells_26 C ret w1 L2 h
  · replace h := h.2 hc
    refine g_aload_n C 0 rfl dX1_tells_8 ?_
    refine g_iload_n C 2 rfl dX1_tells_9 ?_
    refine g_callVi C (As := [.int x2]) (rest := []) (m_X1_isLaw h) (lw_V q721 q723 qs16 q78 q724) (ci := 0) (qi := 0) rfl rfl ⟨rfl, rfl⟩ ⟨Nat.le_of_ble_eq_true rfl, Nat.le_of_ble_eq_true rfl⟩ 1 rfl (by decide +kernel) rfl (Nat.le_of_ble_eq_true rfl) ⟨Nat.zero_le _, Nat.zero_le _⟩ dX1_tells_10 ?_
    rintro v6 _ ⟨w4, L5, rfl, h⟩
    refine g_if_eq C 26 dX1_tells_13 (by decide) (fun hc => ?_) (fun hc => ?_)
    · replace h := h.1 hc
      refine g_sub [] rfl ?_
      exact k_X1_tells_26 C ret w4 L5 h
    · replace h := h.2 hc
      refine g_aload_n C 0 rfl dX1_tells_16 ?_
      refine g_iload_n C 1 rfl dX1_tells_17 ?_
      refine g_iload_n C 2 rfl dX1_tells_18 ?_
      refine g_lload_n C 3 rfl dX1_tells_19 ?_
      refine g_callVi C (As := [.int x1, .int x2, .long x3]) (rest := []) (m_X1_toldBy h) (lw_V q933 q935 qs30 q78 q936) (ci := 0) (qi := 0) rfl rfl ⟨rfl, rfl⟩ ⟨Nat.le_of_ble_eq_true rfl, Nat.le_of_ble_eq_true rfl⟩ 3 rfl (by decide +kernel) rfl (Nat.le_of_ble_eq_true rfl) ⟨Nat.zero_le _, Nat.zero_le _⟩ dX1_tells_20 ?_
      rintro v9 _ ⟨w7, L8, rfl, h⟩
      refine g_goto C 27 dX1_tells_23 (by decide) ?_
      refine g_sub [] rfl ?_
      exact k_X1_tells_27 C ret v9 w7 L8 h
def B_X1_tells (N : Nat) (x1 : Int32) (x2 : Int32) (x3 : Int64) (post : Int32 → Wd → va_W → Prop) (w : Wd) (L : va_W) : Prop := B_X1_tells_0 N post x1 x2 x3 w L
theorem m_X1_tells {l : Launch} {K : gK} {N : Nat} {post : Int32 → Wd → va_W → Prop} {x1 : Int32} {x2 : Int32} {x3 : Int64} {w : Wd} {L : va_W} (h : B_X1_tells N x1 x2 x3 post w L) : gMi l K yX1_tells cX1_tells 5 (some .int) rm_X1_tells [.ref (xa K 0), .int x1, .int x2, .long x3] (xL K w ++ L) (xPi K post) 0 0 := by
  refine g_inI (ls0 := [(0, .ref (xa K 0)), (1, .int x1), (2, .int x2), (3, .long x3)]) (by decide) (Nat.le_of_ble_eq_true rfl) rfl (fun Γ hl C hn ret => ?_)
  exact k_X1_tells_0 C ret x1 x2 x3 w L h
def rm_X1_partedBy : Room := { frames := 366, cells := 0, slots := 0, locals := 8816 }
def B_X1_partedBy_82 (r6 : Int32 → Int32 → Int64 → Int32 → Int32 → Wd → va_W → Prop) (r45 : Int32 → Int32 → Int64 → Int32 → Int32 → Int32 → Wd → va_W → Prop) (N : Nat) (post : Int32 → Wd → va_W → Prop) (x1 : Int32) (x2 : Int32) (x3 : Int64) (x5 : Int32) (x6 : Int32) (x7 : Int32) (w : Wd) (L : va_W) : Prop :=
  r45 x1 x2 x3 x5 x6 (x7 + 1) w L
set_option maxHeartbeats 4000000 in
theorem k_X1_partedBy_82 {Γ : gT} {K : gK} {N : Nat} {post : Int32 → Wd → va_W → Prop} (C : gC Γ K RX1 cX1_partedBy 8 rm_X1_partedBy) (ret : gRi Γ K cX1_partedBy (some .int) (xPi K post) 0 0) {r6 : Int32 → Int32 → Int64 → Int32 → Int32 → Wd → va_W → Prop} (hr6 : ∀ (x1 : Int32) (x2 : Int32) (x3 : Int64) (x5 : Int32) (x6 : Int32) (w : Wd) (L : va_W), r6 x1 x2 x3 x5 x6 w L → gJ Γ K 0 0 (xL K w ++ L) 6 [(0, .ref (xa K 0)), (1, .int x1), (2, .int x2), (3, .long x3), (5, .int x5), (6, .int x6)] []) {r45 : Int32 → Int32 → Int64 → Int32 → Int32 → Int32 → Wd → va_W → Prop} (hr45 : ∀ (x1 : Int32) (x2 : Int32) (x3 : Int64) (x5 : Int32) (x6 : Int32) (x7 : Int32) (w : Wd) (L : va_W), r45 x1 x2 x3 x5 x6 x7 w L → gJ Γ K 0 0 (xL K w ++ L) 45 [(0, .ref (xa K 0)), (1, .int x1), (2, .int x2), (3, .long x3), (5, .int x5), (6, .int x6), (7, .int x7)] []) (x1 : Int32) (x2 : Int32) (x3 : Int64) (x5 : Int32) (x6 : Int32) (x7 : Int32) (w : Wd) (L : va_W) (h : B_X1_partedBy_82 r6 r45 N post x1 x2 x3 x5 x6 x7 w L) : gJ Γ K 0 0 (xL K w ++ L) 82 [(0, .ref (xa K 0)), (1, .int x1), (2, .int x2), (3, .long x3), (5, .int x5), (6, .int x6), (7, .int x7)] [] := by
  unfold B_X1_partedBy_82 at h
  refine g_iinc C 6 (x7 + 1) (lt := [(7, .int (x7 + 1)), (0, .ref (xa K 0)), (1, .int x1), (2, .int x2), (3, .long x3), (5, .int x5), (6, .int x6)]) rfl rfl dX1_partedBy_82 (by decide) rfl ?_
  refine g_goto C 45 dX1_partedBy_85 (by decide) ?_
  refine g_sub [1, 2, 3, 4, 5, 6, 0] rfl ?_
  exact hr45 x1 x2 x3 x5 x6 (x7 + 1) w L h
def B_X1_partedBy_88 (r6 : Int32 → Int32 → Int64 → Int32 → Int32 → Wd → va_W → Prop) (N : Nat) (post : Int32 → Wd → va_W → Prop) (x1 : Int32) (x2 : Int32) (x3 : Int64) (x5 : Int32) (x6 : Int32) (w : Wd) (L : va_W) : Prop :=
  r6 x1 x2 x3 x5 (x6 + 1) w L
set_option maxHeartbeats 4000000 in
theorem k_X1_partedBy_88 {Γ : gT} {K : gK} {N : Nat} {post : Int32 → Wd → va_W → Prop} (C : gC Γ K RX1 cX1_partedBy 8 rm_X1_partedBy) (ret : gRi Γ K cX1_partedBy (some .int) (xPi K post) 0 0) {r6 : Int32 → Int32 → Int64 → Int32 → Int32 → Wd → va_W → Prop} (hr6 : ∀ (x1 : Int32) (x2 : Int32) (x3 : Int64) (x5 : Int32) (x6 : Int32) (w : Wd) (L : va_W), r6 x1 x2 x3 x5 x6 w L → gJ Γ K 0 0 (xL K w ++ L) 6 [(0, .ref (xa K 0)), (1, .int x1), (2, .int x2), (3, .long x3), (5, .int x5), (6, .int x6)] []) (x1 : Int32) (x2 : Int32) (x3 : Int64) (x5 : Int32) (x6 : Int32) (w : Wd) (L : va_W) (h : B_X1_partedBy_88 r6 N post x1 x2 x3 x5 x6 w L) : gJ Γ K 0 0 (xL K w ++ L) 88 [(0, .ref (xa K 0)), (1, .int x1), (2, .int x2), (3, .long x3), (5, .int x5), (6, .int x6)] [] := by
  unfold B_X1_partedBy_88 at h
  refine g_iinc C 5 (x6 + 1) (lt := [(6, .int (x6 + 1)), (0, .ref (xa K 0)), (1, .int x1), (2, .int x2), (3, .long x3), (5, .int x5)]) rfl rfl dX1_partedBy_88 (by decide) rfl ?_
  refine g_goto C 6 dX1_partedBy_91 (by decide) ?_
  refine g_sub [1, 2, 3, 4, 5, 0] rfl ?_
  exact hr6 x1 x2 x3 x5 (x6 + 1) w L h
def B_X1_partedBy_45s (r6 : Int32 → Int32 → Int64 → Int32 → Int32 → Wd → va_W → Prop) (r45 : Int32 → Int32 → Int64 → Int32 → Int32 → Int32 → Wd → va_W → Prop) (N : Nat) (post : Int32 → Wd → va_W → Prop) (x1 : Int32) (x2 : Int32) (x3 : Int64) (x5 : Int32) (x6 : Int32) (x7 : Int32) (w : Wd) (L : va_W) : Prop :=
  (x6 ≤ x7 →
    B_X1_partedBy_88 r6 N post x1 x2 x3 x5 x6 w L) ∧
  (¬ x6 ≤ x7 →
    (((x2 >>> (x7 &&& 31)) &&& 1) = (1 : Int32) →
      vp_in x7 6 ∧ vp_in x6 6 ∧ ((xA w 16 x7.toNatClampNeg) = (xA w 16 x6.toNatClampNeg) →
        B_X1_partedBy_82 r6 r45 N post x1 x2 x3 x5 x6 x7 w L) ∧
      (¬ (xA w 16 x7.toNatClampNeg) = (xA w 16 x6.toNatClampNeg) →
        B_X1_partedBy_82 r6 r45 N post x1 x2 x3 (x5 + 1) x6 x7 w L)) ∧
    (¬ ((x2 >>> (x7 &&& 31)) &&& 1) = (1 : Int32) →
      B_X1_partedBy_82 r6 r45 N post x1 x2 x3 x5 x6 x7 w L))
def B_X1_partedBy_45 (r6 : Int32 → Int32 → Int64 → Int32 → Int32 → Wd → va_W → Prop) (N : Nat) (post : Int32 → Wd → va_W → Prop) : Nat → Int32 → Int32 → Int64 → Int32 → Int32 → Int32 → Wd → va_W → Prop
  | 0, _, _, _, _, _, _, _, _ => False
  | n + 1, x1, x2, x3, x5, x6, x7, w, L => B_X1_partedBy_45s r6 (B_X1_partedBy_45 r6 N post n) N post x1 x2 x3 x5 x6 x7 w L
set_option maxHeartbeats 4000000 in
theorem k_X1_partedBy_45s {Γ : gT} {K : gK} {N : Nat} {post : Int32 → Wd → va_W → Prop} (C : gC Γ K RX1 cX1_partedBy 8 rm_X1_partedBy) (ret : gRi Γ K cX1_partedBy (some .int) (xPi K post) 0 0) {r6 : Int32 → Int32 → Int64 → Int32 → Int32 → Wd → va_W → Prop} (hr6 : ∀ (x1 : Int32) (x2 : Int32) (x3 : Int64) (x5 : Int32) (x6 : Int32) (w : Wd) (L : va_W), r6 x1 x2 x3 x5 x6 w L → gJ Γ K 0 0 (xL K w ++ L) 6 [(0, .ref (xa K 0)), (1, .int x1), (2, .int x2), (3, .long x3), (5, .int x5), (6, .int x6)] []) {r45 : Int32 → Int32 → Int64 → Int32 → Int32 → Int32 → Wd → va_W → Prop} (hr45 : ∀ (x1 : Int32) (x2 : Int32) (x3 : Int64) (x5 : Int32) (x6 : Int32) (x7 : Int32) (w : Wd) (L : va_W), r45 x1 x2 x3 x5 x6 x7 w L → gJ Γ K 0 0 (xL K w ++ L) 45 [(0, .ref (xa K 0)), (1, .int x1), (2, .int x2), (3, .long x3), (5, .int x5), (6, .int x6), (7, .int x7)] []) (x1 : Int32) (x2 : Int32) (x3 : Int64) (x5 : Int32) (x6 : Int32) (x7 : Int32) (w : Wd) (L : va_W) (h : B_X1_partedBy_45s r6 r45 N post x1 x2 x3 x5 x6 x7 w L) : gJ Γ K 0 0 (xL K w ++ L) 45 [(0, .ref (xa K 0)), (1, .int x1), (2, .int x2), (3, .long x3), (5, .int x5), (6, .int x6), (7, .int x7)] [] := by
  unfold B_X1_partedBy_45s at h
  refine g_iload C 6 rfl dX1_partedBy_45 ?_
  refine g_iload C 5 rfl dX1_partedBy_47 ?_
  refine g_icmp_ge C 88 dX1_partedBy_49 (by decide) (fun hc => ?_) (fun hc => ?_)
  · replace h := h.1 hc
    refine g_sub [0, 1, 2, 3, 4, 5] rfl ?_
    exact k_X1_partedBy_88 C ret hr6 x1 x2 x3 x5 x6 w L h
  · replace h := h.2 hc
    refine g_iload_n C 2 rfl dX1_partedBy_52 ?_
    refine g_iload C 6 rfl dX1_partedBy_53 ?_
    refine g_ishr C dX1_partedBy_55 ?_
    refine g_iconst C 1 (by decide) dX1_partedBy_56 ?_
    refine g_iand C dX1_partedBy_57 ?_
    refine g_iconst C 1 (by decide) dX1_partedBy_58 ?_
    refine g_icmp_ne C 82 dX1_partedBy_59 (by decide) (fun hc => ?_) (fun hc => ?_)
    · replace h := h.2 hc
      exact k_X1_partedBy_82 C ret hr6 hr45 x1 x2 x3 x5 x6 x7 w L h
    · replace h := h.1 hc
      refine g_aload_n C 0 rfl dX1_partedBy_62 ?_
      refine xg_tellings C q300 dX1_partedBy_63 ?_
      refine g_iload C 6 rfl dX1_partedBy_66 ?_
      obtain ⟨hb, h⟩ := h
      refine xld_16 C hb (xA w 16 x7.toNatClampNeg) rfl dX1_partedBy_68 ?_
      refine g_aload_n C 0 rfl dX1_partedBy_69 ?_
      refine xg_tellings C q300 dX1_partedBy_70 ?_
      refine g_iload C 5 rfl dX1_partedBy_73 ?_
      obtain ⟨hb, h⟩ := h
      refine xld_16 C hb (xA w 16 x6.toNatClampNeg) rfl dX1_partedBy_75 ?_
      refine g_icmp_eq C 82 dX1_partedBy_76 (by decide) (fun hc => ?_) (fun hc => ?_)
      · replace h := h.1 hc
        exact k_X1_partedBy_82 C ret hr6 hr45 x1 x2 x3 x5 x6 x7 w L h
      · replace h := h.2 hc
        refine g_iinc C 4 (x5 + 1) (lt := [(5, .int (x5 + 1)), (0, .ref (xa K 0)), (1, .int x1), (2, .int x2), (3, .long x3), (6, .int x6), (7, .int x7)]) rfl rfl dX1_partedBy_79 (by decide) rfl ?_
        refine g_sub [1, 2, 3, 4, 0, 5, 6] rfl ?_
        exact k_X1_partedBy_82 C ret hr6 hr45 x1 x2 x3 (x5 + 1) x6 x7 w L h
theorem k_X1_partedBy_45 {Γ : gT} {K : gK} {N : Nat} {post : Int32 → Wd → va_W → Prop} (C : gC Γ K RX1 cX1_partedBy 8 rm_X1_partedBy) (ret : gRi Γ K cX1_partedBy (some .int) (xPi K post) 0 0) {r6 : Int32 → Int32 → Int64 → Int32 → Int32 → Wd → va_W → Prop} (hr6 : ∀ (x1 : Int32) (x2 : Int32) (x3 : Int64) (x5 : Int32) (x6 : Int32) (w : Wd) (L : va_W), r6 x1 x2 x3 x5 x6 w L → gJ Γ K 0 0 (xL K w ++ L) 6 [(0, .ref (xa K 0)), (1, .int x1), (2, .int x2), (3, .long x3), (5, .int x5), (6, .int x6)] []) : ∀ (n : Nat) (x1 : Int32) (x2 : Int32) (x3 : Int64) (x5 : Int32) (x6 : Int32) (x7 : Int32) (w : Wd) (L : va_W) (h : B_X1_partedBy_45 r6 N post n x1 x2 x3 x5 x6 x7 w L), gJ Γ K 0 0 (xL K w ++ L) 45 [(0, .ref (xa K 0)), (1, .int x1), (2, .int x2), (3, .long x3), (5, .int x5), (6, .int x6), (7, .int x7)] [] := by
  intro n
  induction n with
  | zero => intro x1 x2 x3 x5 x6 x7 w L h; exact h.elim
  | succ n ih => intro x1 x2 x3 x5 x6 x7 w L h; exact k_X1_partedBy_45s C ret hr6 ih x1 x2 x3 x5 x6 x7 w L h
def B_X1_partedBy_6s (r6 : Int32 → Int32 → Int64 → Int32 → Int32 → Wd → va_W → Prop) (N : Nat) (post : Int32 → Wd → va_W → Prop) (x1 : Int32) (x2 : Int32) (x3 : Int64) (x5 : Int32) (x6 : Int32) (w : Wd) (L : va_W) : Prop :=
  ((xi w 3) ≤ x6 →
    post x5 w L) ∧
  (¬ (xi w 3) ≤ x6 →
    (((x2 >>> (x6 &&& 31)) &&& 1) = 0 →
      B_X1_partedBy_88 r6 N post x1 x2 x3 x5 x6 w L) ∧
    (¬ ((x2 >>> (x6 &&& 31)) &&& 1) = 0 →
      B_X1_toldBy N x1 x6 x3 (fun (v3 : Int32) (w1 : Wd) (L2 : va_W) =>
  vp_in x6 6 ∧ ∀ w4 : Wd, w4 = (xsA w1 16 x6.toNatClampNeg v3) → B_X1_partedBy_45 r6 N post N x1 x2 x3 x5 x6 0 w4 L2) w L))
def B_X1_partedBy_6 (N : Nat) (post : Int32 → Wd → va_W → Prop) : Nat → Int32 → Int32 → Int64 → Int32 → Int32 → Wd → va_W → Prop
  | 0, _, _, _, _, _, _, _ => False
  | n + 1, x1, x2, x3, x5, x6, w, L => B_X1_partedBy_6s (B_X1_partedBy_6 N post n) N post x1 x2 x3 x5 x6 w L
set_option maxHeartbeats 4000000 in
theorem k_X1_partedBy_6s {Γ : gT} {K : gK} {N : Nat} {post : Int32 → Wd → va_W → Prop} (C : gC Γ K RX1 cX1_partedBy 8 rm_X1_partedBy) (ret : gRi Γ K cX1_partedBy (some .int) (xPi K post) 0 0) {r6 : Int32 → Int32 → Int64 → Int32 → Int32 → Wd → va_W → Prop} (hr6 : ∀ (x1 : Int32) (x2 : Int32) (x3 : Int64) (x5 : Int32) (x6 : Int32) (w : Wd) (L : va_W), r6 x1 x2 x3 x5 x6 w L → gJ Γ K 0 0 (xL K w ++ L) 6 [(0, .ref (xa K 0)), (1, .int x1), (2, .int x2), (3, .long x3), (5, .int x5), (6, .int x6)] []) (x1 : Int32) (x2 : Int32) (x3 : Int64) (x5 : Int32) (x6 : Int32) (w : Wd) (L : va_W) (h : B_X1_partedBy_6s r6 N post x1 x2 x3 x5 x6 w L) : gJ Γ K 0 0 (xL K w ++ L) 6 [(0, .ref (xa K 0)), (1, .int x1), (2, .int x2), (3, .long x3), (5, .int x5), (6, .int x6)] [] := by
  unfold B_X1_partedBy_6s at h
  refine g_iload C 5 rfl dX1_partedBy_6 ?_
  refine g_aload_n C 0 rfl dX1_partedBy_8 ?_
  refine xg_lawMany C q278 (xi w 3) rfl dX1_partedBy_9 ?_
  refine g_icmp_ge C 94 dX1_partedBy_12 (by decide) (fun hc => ?_) (fun hc => ?_)
  · replace h := h.1 hc
    refine g_iload C 4 rfl dX1_partedBy_94 ?_
    exact ret _ _ _ _ _ rfl rfl dX1_partedBy_96 ⟨_, _, rfl, h⟩
  · replace h := h.2 hc
    refine g_iload_n C 2 rfl dX1_partedBy_15 ?_
    refine g_iload C 5 rfl dX1_partedBy_16 ?_
    refine g_ishr C dX1_partedBy_18 ?_
    refine g_iconst C 1 (by decide) dX1_partedBy_19 ?_
    refine g_iand C dX1_partedBy_20 ?_
    refine g_if_ne C 27 dX1_partedBy_21 (by decide) (fun hc => ?_) (fun hc => ?_)
    · replace h := h.2 hc
      refine g_aload_n C 0 rfl dX1_partedBy_27 ?_
      refine xg_tellings C q300 dX1_partedBy_28 ?_
      refine g_iload C 5 rfl dX1_partedBy_31 ?_
      refine g_aload_n C 0 rfl dX1_partedBy_33 ?_
      refine g_iload_n C 1 rfl dX1_partedBy_34 ?_
      refine g_iload C 5 rfl dX1_partedBy_35 ?_
      refine g_lload_n C 3 rfl dX1_partedBy_37 ?_
      refine g_callVi C (As := [.int x1, .int x6, .long x3]) (rest := [.int x6, .ref (xa K 16)]) (m_X1_toldBy h) (lw_V q933 q935 qs30 q78 q936) (ci := 0) (qi := 0) rfl rfl ⟨rfl, rfl⟩ ⟨Nat.le_of_ble_eq_true rfl, Nat.le_of_ble_eq_true rfl⟩ 3 rfl (by decide +kernel) rfl (Nat.le_of_ble_eq_true rfl) ⟨Nat.zero_le _, Nat.zero_le _⟩ dX1_partedBy_38 ?_
      rintro v3 _ ⟨w1, L2, rfl, h⟩
      obtain ⟨hb, h⟩ := h
      refine xst_16 C hb dX1_partedBy_41 ?_
      obtain ⟨w4, ew4⟩ : ∃ z, z = (xsA w1 16 x6.toNatClampNeg v3) := ⟨_, rfl⟩
      replace h := h w4 ew4
      rw [← ew4]
      refine g_iconst C 0 (by decide) dX1_partedBy_42 ?_
      refine g_istore C (lt := [(7, .int 0), (0, .ref (xa K 0)), (1, .int x1), (2, .int x2), (3, .long x3), (5, .int x5), (6, .int x6)]) dX1_partedBy_43 (by decide) rfl ?_
      refine g_sub [1, 2, 3, 4, 5, 6, 0] rfl ?_
      exact k_X1_partedBy_45 C ret hr6 N x1 x2 x3 x5 x6 0 w4 L2 h
    · replace h := h.1 hc
      refine g_goto C 88 dX1_partedBy_24 (by decide) ?_
      exact k_X1_partedBy_88 C ret hr6 x1 x2 x3 x5 x6 w L h
theorem k_X1_partedBy_6 {Γ : gT} {K : gK} {N : Nat} {post : Int32 → Wd → va_W → Prop} (C : gC Γ K RX1 cX1_partedBy 8 rm_X1_partedBy) (ret : gRi Γ K cX1_partedBy (some .int) (xPi K post) 0 0) : ∀ (n : Nat) (x1 : Int32) (x2 : Int32) (x3 : Int64) (x5 : Int32) (x6 : Int32) (w : Wd) (L : va_W) (h : B_X1_partedBy_6 N post n x1 x2 x3 x5 x6 w L), gJ Γ K 0 0 (xL K w ++ L) 6 [(0, .ref (xa K 0)), (1, .int x1), (2, .int x2), (3, .long x3), (5, .int x5), (6, .int x6)] [] := by
  intro n
  induction n with
  | zero => intro x1 x2 x3 x5 x6 w L h; exact h.elim
  | succ n ih => intro x1 x2 x3 x5 x6 w L h; exact k_X1_partedBy_6s C ret ih x1 x2 x3 x5 x6 w L h
def B_X1_partedBy_0 (N : Nat) (post : Int32 → Wd → va_W → Prop) (x1 : Int32) (x2 : Int32) (x3 : Int64) (w : Wd) (L : va_W) : Prop :=
  B_X1_partedBy_6 N post N x1 x2 x3 0 0 w L
set_option maxHeartbeats 4000000 in
theorem k_X1_partedBy_0 {Γ : gT} {K : gK} {N : Nat} {post : Int32 → Wd → va_W → Prop} (C : gC Γ K RX1 cX1_partedBy 8 rm_X1_partedBy) (ret : gRi Γ K cX1_partedBy (some .int) (xPi K post) 0 0) (x1 : Int32) (x2 : Int32) (x3 : Int64) (w : Wd) (L : va_W) (h : B_X1_partedBy_0 N post x1 x2 x3 w L) : gJ Γ K 0 0 (xL K w ++ L) 0 [(0, .ref (xa K 0)), (1, .int x1), (2, .int x2), (3, .long x3)] [] := by
  unfold B_X1_partedBy_0 at h
  refine g_iconst C 0 (by decide) dX1_partedBy_0 ?_
  refine g_istore C (lt := [(5, .int 0), (0, .ref (xa K 0)), (1, .int x1), (2, .int x2), (3, .long x3)]) dX1_partedBy_1 (by decide) rfl ?_
  refine g_iconst C 0 (by decide) dX1_partedBy_3 ?_
  refine g_istore C (lt := [(6, .int 0), (5, .int 0), (0, .ref (xa K 0)), (1, .int x1), (2, .int x2), (3, .long x3)]) dX1_partedBy_4 (by decide) rfl ?_
  refine g_sub [2, 3, 4, 5, 1, 0] rfl ?_
  exact k_X1_partedBy_6 C ret N x1 x2 x3 0 0 w L h
def B_X1_partedBy (N : Nat) (x1 : Int32) (x2 : Int32) (x3 : Int64) (post : Int32 → Wd → va_W → Prop) (w : Wd) (L : va_W) : Prop := B_X1_partedBy_0 N post x1 x2 x3 w L
theorem m_X1_partedBy {l : Launch} {K : gK} {N : Nat} {post : Int32 → Wd → va_W → Prop} {x1 : Int32} {x2 : Int32} {x3 : Int64} {w : Wd} {L : va_W} (h : B_X1_partedBy N x1 x2 x3 post w L) : gMi l K yX1_partedBy cX1_partedBy 8 (some .int) rm_X1_partedBy [.ref (xa K 0), .int x1, .int x2, .long x3] (xL K w ++ L) (xPi K post) 0 0 := by
  refine g_inI (ls0 := [(0, .ref (xa K 0)), (1, .int x1), (2, .int x2), (3, .long x3)]) (by decide) (Nat.le_of_ble_eq_true rfl) rfl (fun Γ hl C hn ret => ?_)
  exact k_X1_partedBy_0 C ret x1 x2 x3 w L h
def rm_X1_parted : Room := { frames := 367, cells := 0, slots := 0, locals := 8843 }
def B_X1_parted_27 (N : Nat) (post : Int32 → Wd → va_W → Prop) (s0 : Int32) (w : Wd) (L : va_W) : Prop :=
  post s0 w L
set_option maxHeartbeats 4000000 in
theorem k_X1_parted_27 {Γ : gT} {K : gK} {N : Nat} {post : Int32 → Wd → va_W → Prop} (C : gC Γ K RX1 cX1_parted 5 rm_X1_parted) (ret : gRi Γ K cX1_parted (some .int) (xPi K post) 0 0) (s0 : Int32) (w : Wd) (L : va_W) (h : B_X1_parted_27 N post s0 w L) : gJ Γ K 0 0 (xL K w ++ L) 27 [] [.int s0] := by
  unfold B_X1_parted_27 at h
  exact ret _ _ _ _ _ rfl rfl dX1_parted_27 ⟨_, _, rfl, h⟩
def B_X1_parted_26 (N : Nat) (post : Int32 → Wd → va_W → Prop) (w : Wd) (L : va_W) : Prop :=
  B_X1_parted_27 N post (-1) w L
set_option maxHeartbeats 4000000 in
theorem k_X1_parted_26 {Γ : gT} {K : gK} {N : Nat} {post : Int32 → Wd → va_W → Prop} (C : gC Γ K RX1 cX1_parted 5 rm_X1_parted) (ret : gRi Γ K cX1_parted (some .int) (xPi K post) 0 0) (w : Wd) (L : va_W) (h : B_X1_parted_26 N post w L) : gJ Γ K 0 0 (xL K w ++ L) 26 [] [] := by
  unfold B_X1_parted_26 at h
  refine g_iconst C (-1) (by decide) dX1_parted_26 ?_
  exact k_X1_parted_27 C ret (-1) w L h
def B_X1_parted_0 (N : Nat) (post : Int32 → Wd → va_W → Prop) (x1 : Int32) (x2 : Int32) (x3 : Int64) (w : Wd) (L : va_W) : Prop :=
  B_X1_isTrial N x1 (fun (v3 : Int32) (w1 : Wd) (L2 : va_W) =>
  (v3 = 0 →
    B_X1_parted_26 N post w1 L2) ∧
  (¬ v3 = 0 →
    B_X1_areLaws N x2 (fun (v6 : Int32) (w4 : Wd) (L5 : va_W) =>
  (v6 = 0 →
      B_X1_parted_26 N post w4 L5) ∧
    (¬ v6 = 0 →
      B_X1_partedBy N x1 x2 x3 (fun (v9 : Int32) (w7 : Wd) (L8 : va_W) =>
  B_X1_parted_27 N post v9 w7 L8) w4 L5)) w1 L2)) w L
set_option maxHeartbeats 4000000 in
theorem k_X1_parted_0 {Γ : gT} {K : gK} {N : Nat} {post : Int32 → Wd → va_W → Prop} (C : gC Γ K RX1 cX1_parted 5 rm_X1_parted) (ret : gRi Γ K cX1_parted (some .int) (xPi K post) 0 0) (x1 : Int32) (x2 : Int32) (x3 : Int64) (w : Wd) (L : va_W) (h : B_X1_parted_0 N post x1 x2 x3 w L) : gJ Γ K 0 0 (xL K w ++ L) 0 [(0, .ref (xa K 0)), (1, .int x1), (2, .int x2), (3, .long x3)] [] := by
  unfold B_X1_parted_0 at h
  refine g_aload_n C 0 rfl dX1_parted_0 ?_
  refine g_iload_n C 1 rfl dX1_parted_1 ?_
  refine g_callVi C (As := [.int x1]) (rest := []) (m_X1_isTrial h) (lw_V q929 q931 qs29 q78 q932) (ci := 0) (qi := 0) rfl rfl ⟨rfl, rfl⟩ ⟨Nat.le_of_ble_eq_true rfl, Nat.le_of_ble_eq_true rfl⟩ 1 rfl (by decide +kernel) rfl (Nat.le_of_ble_eq_true rfl) ⟨Nat.zero_le _, Nat.zero_le _⟩ dX1_parted_2 ?_
  rintro v3 _ ⟨w1, L2, rfl, h⟩
  refine g_if_eq C 26 dX1_parted_5 (by decide) (fun hc => ?_) (fun hc => ?_)
  · replace h := h.1 hc
    refine g_sub [] rfl ?_
    exact k_X1_parted_26 C ret w1 L2 h
  · replace h := h.2 hc
    refine g_aload_n C 0 rfl dX1_parted_8 ?_
    refine g_iload_n C 2 rfl dX1_parted_9 ?_
    refine g_callVi C (As := [.int x2]) (rest := []) (m_X1_areLaws h) (lw_V q942 q944 qs31 q78 q945) (ci := 0) (qi := 0) rfl rfl ⟨rfl, rfl⟩ ⟨Nat.le_of_ble_eq_true rfl, Nat.le_of_ble_eq_true rfl⟩ 1 rfl (by decide +kernel) rfl (Nat.le_of_ble_eq_true rfl) ⟨Nat.zero_le _, Nat.zero_le _⟩ dX1_parted_10 ?_
    rintro v6 _ ⟨w4, L5, rfl, h⟩
    refine g_if_eq C 26 dX1_parted_13 (by decide) (fun hc => ?_) (fun hc => ?_)
    · replace h := h.1 hc
      refine g_sub [] rfl ?_
      exact k_X1_parted_26 C ret w4 L5 h
    · replace h := h.2 hc
      refine g_aload_n C 0 rfl dX1_parted_16 ?_
      refine g_iload_n C 1 rfl dX1_parted_17 ?_
      refine g_iload_n C 2 rfl dX1_parted_18 ?_
      refine g_lload_n C 3 rfl dX1_parted_19 ?_
      refine g_callVi C (As := [.int x1, .int x2, .long x3]) (rest := []) (m_X1_partedBy h) (lw_V q946 q948 qs32 q78 q949) (ci := 0) (qi := 0) rfl rfl ⟨rfl, rfl⟩ ⟨Nat.le_of_ble_eq_true rfl, Nat.le_of_ble_eq_true rfl⟩ 3 rfl (by decide +kernel) rfl (Nat.le_of_ble_eq_true rfl) ⟨Nat.zero_le _, Nat.zero_le _⟩ dX1_parted_20 ?_
      rintro v9 _ ⟨w7, L8, rfl, h⟩
      refine g_goto C 27 dX1_parted_23 (by decide) ?_
      refine g_sub [] rfl ?_
      exact k_X1_parted_27 C ret v9 w7 L8 h
def B_X1_parted (N : Nat) (x1 : Int32) (x2 : Int32) (x3 : Int64) (post : Int32 → Wd → va_W → Prop) (w : Wd) (L : va_W) : Prop := B_X1_parted_0 N post x1 x2 x3 w L
theorem m_X1_parted {l : Launch} {K : gK} {N : Nat} {post : Int32 → Wd → va_W → Prop} {x1 : Int32} {x2 : Int32} {x3 : Int64} {w : Wd} {L : va_W} (h : B_X1_parted N x1 x2 x3 post w L) : gMi l K yX1_parted cX1_parted 5 (some .int) rm_X1_parted [.ref (xa K 0), .int x1, .int x2, .long x3] (xL K w ++ L) (xPi K post) 0 0 := by
  refine g_inI (ls0 := [(0, .ref (xa K 0)), (1, .int x1), (2, .int x2), (3, .long x3)]) (by decide) (Nat.le_of_ble_eq_true rfl) rfl (fun Γ hl C hn ret => ?_)
  exact k_X1_parted_0 C ret x1 x2 x3 w L h
def rm_X1_next : Room := { frames := 367, cells := 0, slots := 0, locals := 8843 }
def B_X1_next_56 (r19 : Int32 → Int64 → Int32 → Int32 → Int32 → Wd → va_W → Prop) (N : Nat) (post : Int32 → Wd → va_W → Prop) (x1 : Int32) (x2 : Int64) (x4 : Int32) (x5 : Int32) (x6 : Int32) (w : Wd) (L : va_W) : Prop :=
  r19 x1 x2 x4 x5 (x6 + 1) w L
set_option maxHeartbeats 4000000 in
theorem k_X1_next_56 {Γ : gT} {K : gK} {N : Nat} {post : Int32 → Wd → va_W → Prop} (C : gC Γ K RX1 cX1_next 8 rm_X1_next) (ret : gRi Γ K cX1_next (some .int) (xPi K post) 0 0) {r19 : Int32 → Int64 → Int32 → Int32 → Int32 → Wd → va_W → Prop} (hr19 : ∀ (x1 : Int32) (x2 : Int64) (x4 : Int32) (x5 : Int32) (x6 : Int32) (w : Wd) (L : va_W), r19 x1 x2 x4 x5 x6 w L → gJ Γ K 0 0 (xL K w ++ L) 19 [(0, .ref (xa K 0)), (1, .int x1), (2, .long x2), (4, .int x4), (5, .int x5), (6, .int x6)] []) (x1 : Int32) (x2 : Int64) (x4 : Int32) (x5 : Int32) (x6 : Int32) (w : Wd) (L : va_W) (h : B_X1_next_56 r19 N post x1 x2 x4 x5 x6 w L) : gJ Γ K 0 0 (xL K w ++ L) 56 [(0, .ref (xa K 0)), (1, .int x1), (2, .long x2), (4, .int x4), (5, .int x5), (6, .int x6)] [] := by
  unfold B_X1_next_56 at h
  refine g_iinc C 5 (x6 + 1) (lt := [(6, .int (x6 + 1)), (0, .ref (xa K 0)), (1, .int x1), (2, .long x2), (4, .int x4), (5, .int x5)]) rfl rfl dX1_next_56 (by decide) rfl ?_
  refine g_goto C 19 dX1_next_59 (by decide) ?_
  refine g_sub [1, 2, 3, 4, 5, 0] rfl ?_
  exact hr19 x1 x2 x4 x5 (x6 + 1) w L h
def B_X1_next_19s (r19 : Int32 → Int64 → Int32 → Int32 → Int32 → Wd → va_W → Prop) (N : Nat) (post : Int32 → Wd → va_W → Prop) (x1 : Int32) (x2 : Int64) (x4 : Int32) (x5 : Int32) (x6 : Int32) (w : Wd) (L : va_W) : Prop :=
  ((xi w 8) ≤ x6 →
    post x4 w L) ∧
  (¬ (xi w 8) ≤ x6 →
    B_X1_partedBy N x6 x1 x2 (fun (v3 : Int32) (w1 : Wd) (L2 : va_W) =>
  (x5 < v3 →
      B_X1_next_56 r19 N post x1 x2 x6 v3 x6 w1 L2) ∧
    (¬ x5 < v3 →
      B_X1_next_56 r19 N post x1 x2 x4 x5 x6 w1 L2)) w L)
def B_X1_next_19 (N : Nat) (post : Int32 → Wd → va_W → Prop) : Nat → Int32 → Int64 → Int32 → Int32 → Int32 → Wd → va_W → Prop
  | 0, _, _, _, _, _, _, _ => False
  | n + 1, x1, x2, x4, x5, x6, w, L => B_X1_next_19s (B_X1_next_19 N post n) N post x1 x2 x4 x5 x6 w L
set_option maxHeartbeats 4000000 in
theorem k_X1_next_19s {Γ : gT} {K : gK} {N : Nat} {post : Int32 → Wd → va_W → Prop} (C : gC Γ K RX1 cX1_next 8 rm_X1_next) (ret : gRi Γ K cX1_next (some .int) (xPi K post) 0 0) {r19 : Int32 → Int64 → Int32 → Int32 → Int32 → Wd → va_W → Prop} (hr19 : ∀ (x1 : Int32) (x2 : Int64) (x4 : Int32) (x5 : Int32) (x6 : Int32) (w : Wd) (L : va_W), r19 x1 x2 x4 x5 x6 w L → gJ Γ K 0 0 (xL K w ++ L) 19 [(0, .ref (xa K 0)), (1, .int x1), (2, .long x2), (4, .int x4), (5, .int x5), (6, .int x6)] []) (x1 : Int32) (x2 : Int64) (x4 : Int32) (x5 : Int32) (x6 : Int32) (w : Wd) (L : va_W) (h : B_X1_next_19s r19 N post x1 x2 x4 x5 x6 w L) : gJ Γ K 0 0 (xL K w ++ L) 19 [(0, .ref (xa K 0)), (1, .int x1), (2, .long x2), (4, .int x4), (5, .int x5), (6, .int x6)] [] := by
  unfold B_X1_next_19s at h
  refine g_iload C 5 rfl dX1_next_19 ?_
  refine g_aload_n C 0 rfl dX1_next_21 ?_
  refine xg_trials C q299 (xi w 8) rfl dX1_next_22 ?_
  refine g_icmp_ge C 62 dX1_next_25 (by decide) (fun hc => ?_) (fun hc => ?_)
  · replace h := h.1 hc
    refine g_iload C 3 rfl dX1_next_62 ?_
    exact ret _ _ _ _ _ rfl rfl dX1_next_64 ⟨_, _, rfl, h⟩
  · replace h := h.2 hc
    refine g_aload_n C 0 rfl dX1_next_28 ?_
    refine g_iload C 5 rfl dX1_next_29 ?_
    refine g_iload_n C 1 rfl dX1_next_31 ?_
    refine g_lload_n C 2 rfl dX1_next_32 ?_
    refine g_callVi C (As := [.int x6, .int x1, .long x2]) (rest := []) (m_X1_partedBy h) (lw_V q946 q948 qs32 q78 q949) (ci := 0) (qi := 0) rfl rfl ⟨rfl, rfl⟩ ⟨Nat.le_of_ble_eq_true rfl, Nat.le_of_ble_eq_true rfl⟩ 3 rfl (by decide +kernel) rfl (Nat.le_of_ble_eq_true rfl) ⟨Nat.zero_le _, Nat.zero_le _⟩ dX1_next_33 ?_
    rintro v3 _ ⟨w1, L2, rfl, h⟩
    refine g_istore C (lt := [(7, .int v3), (0, .ref (xa K 0)), (1, .int x1), (2, .long x2), (4, .int x4), (5, .int x5), (6, .int x6)]) dX1_next_36 (by decide) rfl ?_
    refine g_iload C 0 rfl dX1_next_38 ?_
    refine g_iload C 5 rfl dX1_next_40 ?_
    refine g_icmp_gt C 48 dX1_next_42 (by decide) (fun hc => ?_) (fun hc => ?_)
    · replace h := h.1 hc
      refine g_iload C 6 rfl dX1_next_48 ?_
      refine g_istore C (lt := [(4, .int x6), (7, .int v3), (0, .ref (xa K 0)), (1, .int x1), (2, .long x2), (5, .int x5), (6, .int x6)]) dX1_next_50 (by decide) rfl ?_
      refine g_iload C 1 rfl dX1_next_52 ?_
      refine g_istore C (lt := [(5, .int v3), (4, .int x6), (7, .int v3), (0, .ref (xa K 0)), (1, .int x1), (2, .long x2), (6, .int x6)]) dX1_next_54 (by decide) rfl ?_
      refine g_sub [3, 4, 5, 1, 0, 6] rfl ?_
      exact k_X1_next_56 C ret hr19 x1 x2 x6 v3 x6 w1 L2 h
    · replace h := h.2 hc
      refine g_goto C 56 dX1_next_45 (by decide) ?_
      refine g_sub [1, 2, 3, 4, 5, 6] rfl ?_
      exact k_X1_next_56 C ret hr19 x1 x2 x4 x5 x6 w1 L2 h
theorem k_X1_next_19 {Γ : gT} {K : gK} {N : Nat} {post : Int32 → Wd → va_W → Prop} (C : gC Γ K RX1 cX1_next 8 rm_X1_next) (ret : gRi Γ K cX1_next (some .int) (xPi K post) 0 0) : ∀ (n : Nat) (x1 : Int32) (x2 : Int64) (x4 : Int32) (x5 : Int32) (x6 : Int32) (w : Wd) (L : va_W) (h : B_X1_next_19 N post n x1 x2 x4 x5 x6 w L), gJ Γ K 0 0 (xL K w ++ L) 19 [(0, .ref (xa K 0)), (1, .int x1), (2, .long x2), (4, .int x4), (5, .int x5), (6, .int x6)] [] := by
  intro n
  induction n with
  | zero => intro x1 x2 x4 x5 x6 w L h; exact h.elim
  | succ n ih => intro x1 x2 x4 x5 x6 w L h; exact k_X1_next_19s C ret ih x1 x2 x4 x5 x6 w L h
def B_X1_next_0 (N : Nat) (post : Int32 → Wd → va_W → Prop) (x1 : Int32) (x2 : Int64) (w : Wd) (L : va_W) : Prop :=
  B_X1_areLaws N x1 (fun (v3 : Int32) (w1 : Wd) (L2 : va_W) =>
  (v3 = 0 →
    post (-1) w1 L2) ∧
  (¬ v3 = 0 →
    B_X1_next_19 N post N x1 x2 (-1) (-1) 0 w1 L2)) w L
set_option maxHeartbeats 4000000 in
theorem k_X1_next_0 {Γ : gT} {K : gK} {N : Nat} {post : Int32 → Wd → va_W → Prop} (C : gC Γ K RX1 cX1_next 8 rm_X1_next) (ret : gRi Γ K cX1_next (some .int) (xPi K post) 0 0) (x1 : Int32) (x2 : Int64) (w : Wd) (L : va_W) (h : B_X1_next_0 N post x1 x2 w L) : gJ Γ K 0 0 (xL K w ++ L) 0 [(0, .ref (xa K 0)), (1, .int x1), (2, .long x2)] [] := by
  unfold B_X1_next_0 at h
  refine g_aload_n C 0 rfl dX1_next_0 ?_
  refine g_iload_n C 1 rfl dX1_next_1 ?_
  refine g_callVi C (As := [.int x1]) (rest := []) (m_X1_areLaws h) (lw_V q942 q944 qs31 q78 q945) (ci := 0) (qi := 0) rfl rfl ⟨rfl, rfl⟩ ⟨Nat.le_of_ble_eq_true rfl, Nat.le_of_ble_eq_true rfl⟩ 1 rfl (by decide +kernel) rfl (Nat.le_of_ble_eq_true rfl) ⟨Nat.zero_le _, Nat.zero_le _⟩ dX1_next_2 ?_
  rintro v3 _ ⟨w1, L2, rfl, h⟩
  refine g_if_ne C 10 dX1_next_5 (by decide) (fun hc => ?_) (fun hc => ?_)
  · replace h := h.2 hc
    refine g_iconst C (-1) (by decide) dX1_next_10 ?_
    refine g_istore C (lt := [(4, .int (-1)), (0, .ref (xa K 0)), (1, .int x1), (2, .long x2)]) dX1_next_11 (by decide) rfl ?_
    refine g_iconst C (-1) (by decide) dX1_next_13 ?_
    refine g_istore C (lt := [(5, .int (-1)), (4, .int (-1)), (0, .ref (xa K 0)), (1, .int x1), (2, .long x2)]) dX1_next_14 (by decide) rfl ?_
    refine g_iconst C 0 (by decide) dX1_next_16 ?_
    refine g_istore C (lt := [(6, .int 0), (5, .int (-1)), (4, .int (-1)), (0, .ref (xa K 0)), (1, .int x1), (2, .long x2)]) dX1_next_17 (by decide) rfl ?_
    refine g_sub [3, 4, 5, 2, 1, 0] rfl ?_
    exact k_X1_next_19 C ret N x1 x2 (-1) (-1) 0 w1 L2 h
  · replace h := h.1 hc
    refine g_iconst C (-1) (by decide) dX1_next_8 ?_
    exact ret _ _ _ _ _ rfl rfl dX1_next_9 ⟨_, _, rfl, h⟩
def B_X1_next (N : Nat) (x1 : Int32) (x2 : Int64) (post : Int32 → Wd → va_W → Prop) (w : Wd) (L : va_W) : Prop := B_X1_next_0 N post x1 x2 w L
theorem m_X1_next {l : Launch} {K : gK} {N : Nat} {post : Int32 → Wd → va_W → Prop} {x1 : Int32} {x2 : Int64} {w : Wd} {L : va_W} (h : B_X1_next N x1 x2 post w L) : gMi l K yX1_next cX1_next 8 (some .int) rm_X1_next [.ref (xa K 0), .int x1, .long x2] (xL K w ++ L) (xPi K post) 0 0 := by
  refine g_inI (ls0 := [(0, .ref (xa K 0)), (1, .int x1), (2, .long x2)]) (by decide) (Nat.le_of_ble_eq_true rfl) rfl (fun Γ hl C hn ret => ?_)
  exact k_X1_next_0 C ret x1 x2 w L h
