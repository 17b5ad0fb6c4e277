set_option maxRecDepth 100000
def rm_X5_clause : Room := { frames := 58, cells := 0, slots := 0, locals := 1380 }
def B_X5_clause_161 (N : Nat) (post : Wd → va_W → Prop) (w : Wd) (L : va_W) : Prop :=
  post w L
set_option maxHeartbeats 4000000 in
theorem k_X5_clause_161 {Γ : gT} {K : gK} {N : Nat} {post : Wd → va_W → Prop} (C : gC Γ K RX5 cX5_clause 5 rm_X5_clause) (ret : gRv Γ K cX5_clause (none) (mPv K post) 0 0) (w : Wd) (L : va_W) (h : B_X5_clause_161 N post w L) : gJ Γ K 0 0 (mL K w ++ L) 161 [] [] := by
  unfold B_X5_clause_161 at h
  exact ret rfl _ _ _ dX5_clause_161 ⟨_, _, rfl, h⟩
def B_X5_clause_134 (N : Nat) (post : Wd → va_W → Prop) (x1 : Int32) (x2 : Int32) (x3 : Int32) (w : Wd) (L : va_W) : Prop :=
  ((xi w 6) = (-1 : Int32) →
    ((xi w 10) = 0 →
      (x1 = (xi w 8) →
        (x2 = 0 →
          B_X5_clause_161 N post w L) ∧
        (¬ x2 = 0 →
          post (xsi (xsi w 10 1) 9 x3) L)) ∧
      (¬ x1 = (xi w 8) →
        B_X5_clause_161 N post w L)) ∧
    (¬ (xi w 10) = 0 →
      B_X5_clause_161 N post w L)) ∧
  (¬ (xi w 6) = (-1 : Int32) →
    B_X5_clause_161 N post w L)
set_option maxHeartbeats 4000000 in
theorem k_X5_clause_134 {Γ : gT} {K : gK} {N : Nat} {post : Wd → va_W → Prop} (C : gC Γ K RX5 cX5_clause 5 rm_X5_clause) (ret : gRv Γ K cX5_clause (none) (mPv K post) 0 0) (x1 : Int32) (x2 : Int32) (x3 : Int32) (w : Wd) (L : va_W) (h : B_X5_clause_134 N post x1 x2 x3 w L) : gJ Γ K 0 0 (mL K w ++ L) 134 [(0, .ref (ma K 0)), (1, .int x1), (2, .int x2), (3, .int x3)] [] := by
  unfold B_X5_clause_134 at h
  refine g_aload_n C 0 rfl dX5_clause_134 ?_
  refine mg_fault C q1007 (xi w 6) rfl dX5_clause_135 ?_
  refine g_iconst C (-1) (by decide) dX5_clause_138 ?_
  refine g_icmp_ne C 161 dX5_clause_139 (by decide) (fun hc => ?_) (fun hc => ?_)
  · replace h := h.2 hc
    refine g_sub [] rfl ?_
    exact k_X5_clause_161 C ret w L h
  · replace h := h.1 hc
    refine g_aload_n C 0 rfl dX5_clause_142 ?_
    refine mg_hasFound C q1013 (xi w 10) rfl dX5_clause_143 ?_
    refine g_if_ne C 161 dX5_clause_146 (by decide) (fun hc => ?_) (fun hc => ?_)
    · replace h := h.2 hc
      refine g_sub [] rfl ?_
      exact k_X5_clause_161 C ret w L h
    · replace h := h.1 hc
      refine g_iload_n C 1 rfl dX5_clause_149 ?_
      refine g_aload_n C 0 rfl dX5_clause_150 ?_
      refine mg_label C q1009 (xi w 8) rfl dX5_clause_151 ?_
      refine g_icmp_ne C 161 dX5_clause_154 (by decide) (fun hc => ?_) (fun hc => ?_)
      · replace h := h.2 hc
        refine g_sub [] rfl ?_
        exact k_X5_clause_161 C ret w L h
      · replace h := h.1 hc
        refine g_iload_n C 2 rfl dX5_clause_157 ?_
        refine g_if_ne C 162 dX5_clause_158 (by decide) (fun hc => ?_) (fun hc => ?_)
        · replace h := h.2 hc
          refine g_aload_n C 0 rfl dX5_clause_162 ?_
          refine g_iconst C 1 (by decide) dX5_clause_163 ?_
          refine mp_hasFound C q1013 (Or.inr rfl) dX5_clause_164 ?_
          refine g_aload_n C 0 rfl dX5_clause_167 ?_
          refine g_iload_n C 3 rfl dX5_clause_168 ?_
          refine mp_found C q1010 dX5_clause_169 ?_
          exact ret rfl _ _ _ dX5_clause_172 ⟨_, _, rfl, h⟩
        · replace h := h.1 hc
          refine g_sub [] rfl ?_
          exact k_X5_clause_161 C ret w L h
def B_X5_clause_64 (N : Nat) (post : Wd → va_W → Prop) (x1 : Int32) (w : Wd) (L : va_W) : Prop :=
  B_X5_condition_out N 0 0 (fun (v3 : Int32) (w1 : Wd) (L2 : va_W) =>
  B_X5_takes N 63 (fun (v6 : Int32) (w4 : Wd) (L5 : va_W) =>
  (v6 = 0 →
    post w4 L5) ∧
  (¬ v6 = 0 →
    B_X5_sum N (fun (v9 : Int32) (w7 : Wd) (L8 : va_W) =>
  B_X5_clause_134 N post x1 v3 v9 w7 L8) w4 L5)) w1 L2) w L
set_option maxHeartbeats 4000000 in
theorem k_X5_clause_64 {Γ : gT} {K : gK} {N : Nat} {post : Wd → va_W → Prop} (C : gC Γ K RX5 cX5_clause 5 rm_X5_clause) (ret : gRv Γ K cX5_clause (none) (mPv K post) 0 0) (x1 : Int32) (w : Wd) (L : va_W) (h : B_X5_clause_64 N post x1 w L) : gJ Γ K 0 0 (mL K w ++ L) 64 [(0, .ref (ma K 0)), (1, .int x1)] [] := by
  unfold B_X5_clause_64 at h
  refine g_aload_n C 0 rfl dX5_clause_64 ?_
  refine g_iconst C 0 (by decide) dX5_clause_65 ?_
  refine g_iconst C 0 (by decide) dX5_clause_66 ?_
  refine g_callVi C (As := [.int 0, .int 0]) (rest := []) (m_X5_condition_out h) (lw_V q1216 q1218 qs39 q84 q1219) (ci := 12) (qi := 0) rfl rfl ⟨rfl, rfl⟩ ⟨Nat.le_of_ble_eq_true rfl, Nat.le_of_ble_eq_true rfl⟩ 2 rfl (by decide +kernel) rfl (Nat.le_of_ble_eq_true rfl) ⟨Nat.zero_le _, Nat.zero_le _⟩ dX5_clause_67 ?_
  rintro v3 _ ⟨w1, L2, rfl, h⟩
  refine g_istore_n C rfl (lt := [(2, .int v3), (0, .ref (ma K 0)), (1, .int x1)]) dX5_clause_70 (by decide) rfl ?_
  refine g_aload_n C 1 rfl dX5_clause_71 ?_
  refine g_bipush C 63 (by decide) dX5_clause_72 ?_
  refine g_callVi C (As := [.int 63]) (rest := []) (m_X5_takes h) (lw_V q1212 q1214 qs38 q84 q1215) (ci := 12) (qi := 0) rfl rfl ⟨rfl, rfl⟩ ⟨Nat.le_of_ble_eq_true rfl, Nat.le_of_ble_eq_true rfl⟩ 1 rfl (by decide +kernel) rfl (Nat.le_of_ble_eq_true rfl) ⟨Nat.zero_le _, Nat.zero_le _⟩ dX5_clause_74 ?_
  rintro v6 _ ⟨w4, L5, rfl, h⟩
  refine g_if_ne C 81 dX5_clause_77 (by decide) (fun hc => ?_) (fun hc => ?_)
  · replace h := h.2 hc
    refine g_aload_n C 1 rfl dX5_clause_81 ?_
    refine g_callVi C (As := []) (rest := []) (m_X5_sum h) (lw_V q1228 q1230 qs42 q84 q1231) (ci := 12) (qi := 0) rfl rfl ⟨rfl, rfl⟩ ⟨Nat.le_of_ble_eq_true rfl, Nat.le_of_ble_eq_true rfl⟩ 0 rfl (by decide +kernel) rfl (Nat.le_of_ble_eq_true rfl) ⟨Nat.zero_le _, Nat.zero_le _⟩ dX5_clause_82 ?_
    rintro v9 _ ⟨w7, L8, rfl, h⟩
    refine g_istore_n C rfl (lt := [(3, .int v9), (2, .int v3), (0, .ref (ma K 0)), (1, .int x1)]) dX5_clause_85 (by decide) rfl ?_
    refine g_goto C 134 dX5_clause_86 (by decide) ?_
    refine g_sub [2, 3, 1, 0] rfl ?_
    exact k_X5_clause_134 C ret x1 v3 v9 w7 L8 h
  · replace h := h.1 hc
    exact ret rfl _ _ _ dX5_clause_80 ⟨_, _, rfl, h⟩
def B_X5_clause_0 (N : Nat) (post : Wd → va_W → Prop) (w : Wd) (L : va_W) : Prop :=
  B_X5_look N (fun (v3 : Int32) (w1 : Wd) (L2 : va_W) =>
  B_X5_isAmong_s0 N v3 (fun (v6 : Int32) (w4 : Wd) (L5 : va_W) =>
  (v6 = 0 →
    B_X5_fails N (fun (v33 : Int32) (w31 : Wd) (L32 : va_W) =>
  post w31 L32) w4 L5) ∧
  (¬ v6 = 0 →
    B_X5_takes N 58 (fun (v9 : Int32) (w7 : Wd) (L8 : va_W) =>
  (v9 = 0 →
      post w7 L8) ∧
    (¬ v9 = 0 →
      B_X5_look N (fun (v12 : Int32) (w10 : Wd) (L11 : va_W) =>
  (v12 = (33 : Int32) →
        B_X5_clause_64 N post v3 w10 L11) ∧
      (¬ v12 = (33 : Int32) →
        (v12 = (40 : Int32) →
          B_X5_clause_64 N post v3 w10 L11) ∧
        (¬ v12 = (40 : Int32) →
          B_X5_sum N (fun (v15 : Int32) (w13 : Wd) (L14 : va_W) =>
  ((xi w13 6) = (-1 : Int32) →
            B_X5_look N (fun (v18 : Int32) (w16 : Wd) (L17 : va_W) =>
  B_X5_isSign N v18 (fun (v21 : Int32) (w19 : Wd) (L20 : va_W) =>
  (v21 = 0 →
              B_X5_clause_134 N post v3 1 v15 w19 L20) ∧
            (¬ v21 = 0 →
              B_X5_condition_out N 1 v15 (fun (v24 : Int32) (w22 : Wd) (L23 : va_W) =>
  B_X5_takes N 63 (fun (v27 : Int32) (w25 : Wd) (L26 : va_W) =>
  (v27 = 0 →
                post w25 L26) ∧
              (¬ v27 = 0 →
                B_X5_sum N (fun (v30 : Int32) (w28 : Wd) (L29 : va_W) =>
  B_X5_clause_134 N post v3 v24 v30 w28 L29) w25 L26)) w22 L23) w19 L20)) w16 L17) w13 L14) ∧
          (¬ (xi w13 6) = (-1 : Int32) →
            B_X5_clause_134 N post v3 1 v15 w13 L14)) w10 L11))) w7 L8)) (xsi w4 5 ((xi w4 5) + 1)) L5)) w1 L2) w L
set_option maxHeartbeats 4000000 in
theorem k_X5_clause_0 {Γ : gT} {K : gK} {N : Nat} {post : Wd → va_W → Prop} (C : gC Γ K RX5 cX5_clause 5 rm_X5_clause) (ret : gRv Γ K cX5_clause (none) (mPv K post) 0 0) (w : Wd) (L : va_W) (h : B_X5_clause_0 N post w L) : gJ Γ K 0 0 (mL K w ++ L) 0 [(0, .ref (ma K 0))] [] := by
  unfold B_X5_clause_0 at h
  refine g_aload_n C 0 rfl dX5_clause_0 ?_
  refine g_callVi C (As := []) (rest := []) (m_X5_look h) (lw_V q1199 q1201 qs36 q84 q1202) (ci := 12) (qi := 0) rfl rfl ⟨rfl, rfl⟩ ⟨Nat.le_of_ble_eq_true rfl, Nat.le_of_ble_eq_true rfl⟩ 0 rfl (by decide +kernel) rfl (Nat.le_of_ble_eq_true rfl) ⟨Nat.zero_le _, Nat.zero_le _⟩ dX5_clause_1 ?_
  rintro v3 _ ⟨w1, L2, rfl, h⟩
  refine g_istore_n C rfl (lt := [(1, .int v3), (0, .ref (ma K 0))]) dX5_clause_4 (by decide) rfl ?_
  refine g_ldcS_OneBearsModel_26 C dX5_clause_5 ?_
  refine g_iload_n C 0 rfl dX5_clause_7 ?_
  refine g_callSi C (As := [.ref (kS K 0), .int v3]) (rest := []) (m_X5_isAmong_s0 h) (Cn := "") (b := 0) (lw_S q1203 q1204 q84 q1205) ⟨rfl, rfl⟩ ⟨Nat.le_of_ble_eq_true rfl, Nat.le_of_ble_eq_true rfl⟩ 2 rfl (by decide +kernel) rfl (Nat.le_of_ble_eq_true rfl) ⟨Nat.zero_le _, Nat.zero_le _⟩ dX5_clause_8 ?_
  rintro v6 _ ⟨w4, L5, rfl, h⟩
  refine g_if_ne C 20 dX5_clause_11 (by decide) (fun hc => ?_) (fun hc => ?_)
  · replace h := h.2 hc
    refine g_aload_n C 1 rfl dX5_clause_20 ?_
    refine g_dup C rfl dX5_clause_21 ?_
    refine mg_at C q1006 (xi w4 5) rfl dX5_clause_22 ?_
    refine g_iconst C 1 (by decide) dX5_clause_25 ?_
    refine g_iadd C dX5_clause_26 ?_
    refine mp_at C q1006 dX5_clause_27 ?_
    refine g_aload_n C 1 rfl dX5_clause_30 ?_
    refine g_bipush C 58 (by decide) dX5_clause_31 ?_
    refine g_callVi C (As := [.int 58]) (rest := []) (m_X5_takes h) (lw_V q1212 q1214 qs38 q84 q1215) (ci := 12) (qi := 0) rfl rfl ⟨rfl, rfl⟩ ⟨Nat.le_of_ble_eq_true rfl, Nat.le_of_ble_eq_true rfl⟩ 1 rfl (by decide +kernel) rfl (Nat.le_of_ble_eq_true rfl) ⟨Nat.zero_le _, Nat.zero_le _⟩ dX5_clause_33 ?_
    rintro v9 _ ⟨w7, L8, rfl, h⟩
    refine g_if_ne C 40 dX5_clause_36 (by decide) (fun hc => ?_) (fun hc => ?_)
    · replace h := h.2 hc
      refine g_iconst C 1 (by decide) dX5_clause_40 ?_
      refine g_istore_n C rfl (lt := [(2, .int 1), (1, .int v3), (0, .ref (ma K 0))]) dX5_clause_41 (by decide) rfl ?_
      refine g_iconst C 0 (by decide) dX5_clause_42 ?_
      refine g_istore_n C rfl (lt := [(3, .int 0), (2, .int 1), (1, .int v3), (0, .ref (ma K 0))]) dX5_clause_43 (by decide) rfl ?_
      refine g_aload_n C 3 rfl dX5_clause_44 ?_
      refine g_callVi C (As := []) (rest := []) (m_X5_look h) (lw_V q1199 q1201 qs36 q84 q1202) (ci := 12) (qi := 0) rfl rfl ⟨rfl, rfl⟩ ⟨Nat.le_of_ble_eq_true rfl, Nat.le_of_ble_eq_true rfl⟩ 0 rfl (by decide +kernel) rfl (Nat.le_of_ble_eq_true rfl) ⟨Nat.zero_le _, Nat.zero_le _⟩ dX5_clause_45 ?_
      rintro v12 _ ⟨w10, L11, rfl, h⟩
      refine g_istore C (lt := [(4, .int v12), (3, .int 0), (2, .int 1), (1, .int v3), (0, .ref (ma K 0))]) dX5_clause_48 (by decide) rfl ?_
      refine g_iload C 0 rfl dX5_clause_50 ?_
      refine g_bipush C 33 (by decide) dX5_clause_52 ?_
      refine g_icmp_eq C 64 dX5_clause_54 (by decide) (fun hc => ?_) (fun hc => ?_)
      · replace h := h.1 hc
        refine g_sub [4, 3] rfl ?_
        exact k_X5_clause_64 C ret v3 w10 L11 h
      · replace h := h.2 hc
        refine g_iload C 0 rfl dX5_clause_57 ?_
        refine g_bipush C 40 (by decide) dX5_clause_59 ?_
        refine g_icmp_ne C 89 dX5_clause_61 (by decide) (fun hc => ?_) (fun hc => ?_)
        · replace h := h.2 hc
          refine g_aload_n C 4 rfl dX5_clause_89 ?_
          refine g_callVi C (As := []) (rest := []) (m_X5_sum h) (lw_V q1228 q1230 qs42 q84 q1231) (ci := 12) (qi := 0) rfl rfl ⟨rfl, rfl⟩ ⟨Nat.le_of_ble_eq_true rfl, Nat.le_of_ble_eq_true rfl⟩ 0 rfl (by decide +kernel) rfl (Nat.le_of_ble_eq_true rfl) ⟨Nat.zero_le _, Nat.zero_le _⟩ dX5_clause_90 ?_
          rintro v15 _ ⟨w13, L14, rfl, h⟩
          refine g_istore_n C rfl (lt := [(3, .int v15), (4, .int v12), (2, .int 1), (1, .int v3), (0, .ref (ma K 0))]) dX5_clause_93 (by decide) rfl ?_
          refine g_aload_n C 4 rfl dX5_clause_94 ?_
          refine mg_fault C q1007 (xi w13 6) rfl dX5_clause_95 ?_
          refine g_iconst C (-1) (by decide) dX5_clause_98 ?_
          refine g_icmp_ne C 134 dX5_clause_99 (by decide) (fun hc => ?_) (fun hc => ?_)
          · replace h := h.2 hc
            refine g_sub [4, 3, 2, 0] rfl ?_
            exact k_X5_clause_134 C ret v3 1 v15 w13 L14 h
          · replace h := h.1 hc
            refine g_aload_n C 4 rfl dX5_clause_102 ?_
            refine g_callVi C (As := []) (rest := []) (m_X5_look h) (lw_V q1199 q1201 qs36 q84 q1202) (ci := 12) (qi := 0) rfl rfl ⟨rfl, rfl⟩ ⟨Nat.le_of_ble_eq_true rfl, Nat.le_of_ble_eq_true rfl⟩ 0 rfl (by decide +kernel) rfl (Nat.le_of_ble_eq_true rfl) ⟨Nat.zero_le _, Nat.zero_le _⟩ dX5_clause_103 ?_
            rintro v18 _ ⟨w16, L17, rfl, h⟩
            refine g_callSi C (As := [.int v18]) (rest := []) (m_X5_isSign h) (Cn := "") (b := 0) (lw_S q1255 q1256 q84 q1257) ⟨rfl, rfl⟩ ⟨Nat.le_of_ble_eq_true rfl, Nat.le_of_ble_eq_true rfl⟩ 1 rfl (by decide +kernel) rfl (Nat.le_of_ble_eq_true rfl) ⟨Nat.zero_le _, Nat.zero_le _⟩ dX5_clause_106 ?_
            rintro v21 _ ⟨w19, L20, rfl, h⟩
            refine g_if_eq C 134 dX5_clause_109 (by decide) (fun hc => ?_) (fun hc => ?_)
            · replace h := h.1 hc
              refine g_sub [4, 3, 2, 0] rfl ?_
              exact k_X5_clause_134 C ret v3 1 v15 w19 L20 h
            · replace h := h.2 hc
              refine g_aload_n C 4 rfl dX5_clause_112 ?_
              refine g_iconst C 1 (by decide) dX5_clause_113 ?_
              refine g_iload_n C 0 rfl dX5_clause_114 ?_
              refine g_callVi C (As := [.int 1, .int v15]) (rest := []) (m_X5_condition_out h) (lw_V q1216 q1218 qs39 q84 q1219) (ci := 12) (qi := 0) rfl rfl ⟨rfl, rfl⟩ ⟨Nat.le_of_ble_eq_true rfl, Nat.le_of_ble_eq_true rfl⟩ 2 rfl (by decide +kernel) rfl (Nat.le_of_ble_eq_true rfl) ⟨Nat.zero_le _, Nat.zero_le _⟩ dX5_clause_115 ?_
              rintro v24 _ ⟨w22, L23, rfl, h⟩
              refine g_istore_n C rfl (lt := [(2, .int v24), (3, .int v15), (4, .int v12), (1, .int v3), (0, .ref (ma K 0))]) dX5_clause_118 (by decide) rfl ?_
              refine g_aload_n C 4 rfl dX5_clause_119 ?_
              refine g_bipush C 63 (by decide) dX5_clause_120 ?_
              refine g_callVi C (As := [.int 63]) (rest := []) (m_X5_takes h) (lw_V q1212 q1214 qs38 q84 q1215) (ci := 12) (qi := 0) rfl rfl ⟨rfl, rfl⟩ ⟨Nat.le_of_ble_eq_true rfl, Nat.le_of_ble_eq_true rfl⟩ 1 rfl (by decide +kernel) rfl (Nat.le_of_ble_eq_true rfl) ⟨Nat.zero_le _, Nat.zero_le _⟩ dX5_clause_122 ?_
              rintro v27 _ ⟨w25, L26, rfl, h⟩
              refine g_if_ne C 129 dX5_clause_125 (by decide) (fun hc => ?_) (fun hc => ?_)
              · replace h := h.2 hc
                refine g_aload_n C 4 rfl dX5_clause_129 ?_
                refine g_callVi C (As := []) (rest := []) (m_X5_sum h) (lw_V q1228 q1230 qs42 q84 q1231) (ci := 12) (qi := 0) rfl rfl ⟨rfl, rfl⟩ ⟨Nat.le_of_ble_eq_true rfl, Nat.le_of_ble_eq_true rfl⟩ 0 rfl (by decide +kernel) rfl (Nat.le_of_ble_eq_true rfl) ⟨Nat.zero_le _, Nat.zero_le _⟩ dX5_clause_130 ?_
                rintro v30 _ ⟨w28, L29, rfl, h⟩
                refine g_istore_n C rfl (lt := [(3, .int v30), (2, .int v24), (4, .int v12), (1, .int v3), (0, .ref (ma K 0))]) dX5_clause_133 (by decide) rfl ?_
                refine g_sub [4, 3, 1, 0] rfl ?_
                exact k_X5_clause_134 C ret v3 v24 v30 w28 L29 h
              · replace h := h.1 hc
                exact ret rfl _ _ _ dX5_clause_128 ⟨_, _, rfl, h⟩
        · replace h := h.1 hc
          refine g_sub [4, 3] rfl ?_
          exact k_X5_clause_64 C ret v3 w10 L11 h
    · replace h := h.1 hc
      exact ret rfl _ _ _ dX5_clause_39 ⟨_, _, rfl, h⟩
  · replace h := h.1 hc
    refine g_aload_n C 1 rfl dX5_clause_14 ?_
    refine g_callVi C (As := []) (rest := []) (m_X5_fails h) (lw_V q1208 q1210 qs37 q84 q1211) (ci := 12) (qi := 0) rfl rfl ⟨rfl, rfl⟩ ⟨Nat.le_of_ble_eq_true rfl, Nat.le_of_ble_eq_true rfl⟩ 0 rfl (by decide +kernel) rfl (Nat.le_of_ble_eq_true rfl) ⟨Nat.zero_le _, Nat.zero_le _⟩ dX5_clause_15 ?_
    rintro v33 _ ⟨w31, L32, rfl, h⟩
    refine g_pop C rfl dX5_clause_18 ?_
    exact ret rfl _ _ _ dX5_clause_19 ⟨_, _, rfl, h⟩
def B_X5_clause (N : Nat) (post : Wd → va_W → Prop) (w : Wd) (L : va_W) : Prop := B_X5_clause_0 N post w L
theorem m_X5_clause {l : Launch} {K : gK} {N : Nat} {post : Wd → va_W → Prop} {w : Wd} {L : va_W} (h : B_X5_clause N post w L) : gMv l K yX5_clause cX5_clause 5 (none) rm_X5_clause [.ref (ma K 0)] (mL K w ++ L) (mPv K post) 0 0 := by
  refine g_inV (ls0 := [(0, .ref (ma K 0))]) (by decide) (Nat.le_of_ble_eq_true rfl) rfl (fun Γ hl C hn ret => ?_)
  exact k_X5_clause_0 C ret w L h
def rm_X5_goThrough : Room := { frames := 59, cells := 0, slots := 0, locals := 1404 }
def B_X5_goThrough_105 (N : Nat) (post : Wd → va_W → Prop) (w : Wd) (L : va_W) : Prop :=
  post w L
set_option maxHeartbeats 4000000 in
theorem k_X5_goThrough_105 {Γ : gT} {K : gK} {N : Nat} {post : Wd → va_W → Prop} (C : gC Γ K RX5 cX5_goThrough 5 rm_X5_goThrough) (ret : gRv Γ K cX5_goThrough (none) (mPv K post) 0 0) (w : Wd) (L : va_W) (h : B_X5_goThrough_105 N post w L) : gJ Γ K 0 0 (mL K w ++ L) 105 [] [] := by
  unfold B_X5_goThrough_105 at h
  exact ret rfl _ _ _ dX5_goThrough_105 ⟨_, _, rfl, h⟩
def B_X5_goThrough_84 (N : Nat) (post : Wd → va_W → Prop) (w : Wd) (L : va_W) : Prop :=
  ((xi w 6) = (-1 : Int32) →
    B_X5_look N (fun (v3 : Int32) (w1 : Wd) (L2 : va_W) =>
  (v3 = (-1 : Int32) →
      B_X5_goThrough_105 N post w1 L2) ∧
    (¬ v3 = (-1 : Int32) →
      B_X5_fails N (fun (v6 : Int32) (w4 : Wd) (L5 : va_W) =>
  B_X5_goThrough_105 N post w4 L5) w1 L2)) w L) ∧
  (¬ (xi w 6) = (-1 : Int32) →
    B_X5_goThrough_105 N post w L)
set_option maxHeartbeats 4000000 in
theorem k_X5_goThrough_84 {Γ : gT} {K : gK} {N : Nat} {post : Wd → va_W → Prop} (C : gC Γ K RX5 cX5_goThrough 5 rm_X5_goThrough) (ret : gRv Γ K cX5_goThrough (none) (mPv K post) 0 0) (w : Wd) (L : va_W) (h : B_X5_goThrough_84 N post w L) : gJ Γ K 0 0 (mL K w ++ L) 84 [(0, .ref (ma K 0))] [] := by
  unfold B_X5_goThrough_84 at h
  refine g_aload_n C 0 rfl dX5_goThrough_84 ?_
  refine mg_fault C q1007 (xi w 6) rfl dX5_goThrough_85 ?_
  refine g_iconst C (-1) (by decide) dX5_goThrough_88 ?_
  refine g_icmp_ne C 105 dX5_goThrough_89 (by decide) (fun hc => ?_) (fun hc => ?_)
  · replace h := h.2 hc
    refine g_sub [] rfl ?_
    exact k_X5_goThrough_105 C ret w L h
  · replace h := h.1 hc
    refine g_aload_n C 0 rfl dX5_goThrough_92 ?_
    refine g_callVi C (As := []) (rest := []) (m_X5_look h) (lw_V q1199 q1201 qs36 q84 q1202) (ci := 12) (qi := 0) rfl rfl ⟨rfl, rfl⟩ ⟨Nat.le_of_ble_eq_true rfl, Nat.le_of_ble_eq_true rfl⟩ 0 rfl (by decide +kernel) rfl (Nat.le_of_ble_eq_true rfl) ⟨Nat.zero_le _, Nat.zero_le _⟩ dX5_goThrough_93 ?_
    rintro v3 _ ⟨w1, L2, rfl, h⟩
    refine g_iconst C (-1) (by decide) dX5_goThrough_96 ?_
    refine g_icmp_eq C 105 dX5_goThrough_97 (by decide) (fun hc => ?_) (fun hc => ?_)
    · replace h := h.1 hc
      refine g_sub [] rfl ?_
      exact k_X5_goThrough_105 C ret w1 L2 h
    · replace h := h.2 hc
      refine g_aload_n C 0 rfl dX5_goThrough_100 ?_
      refine g_callVi C (As := []) (rest := []) (m_X5_fails h) (lw_V q1208 q1210 qs37 q84 q1211) (ci := 12) (qi := 0) rfl rfl ⟨rfl, rfl⟩ ⟨Nat.le_of_ble_eq_true rfl, Nat.le_of_ble_eq_true rfl⟩ 0 rfl (by decide +kernel) rfl (Nat.le_of_ble_eq_true rfl) ⟨Nat.zero_le _, Nat.zero_le _⟩ dX5_goThrough_101 ?_
      rintro v6 _ ⟨w4, L5, rfl, h⟩
      refine g_pop C rfl dX5_goThrough_104 ?_
      refine g_sub [] rfl ?_
      exact k_X5_goThrough_105 C ret w4 L5 h
def B_X5_goThrough_50s (r50 : Wd → va_W → Prop) (N : Nat) (post : Wd → va_W → Prop) (w : Wd) (L : va_W) : Prop :=
  ((xi w 6) = (-1 : Int32) →
    B_X5_look N (fun (v3 : Int32) (w1 : Wd) (L2 : va_W) =>
  (v3 = (59 : Int32) →
      B_X5_clause N (fun (w4 : Wd) (L5 : va_W) =>
  r50 w4 L5) (xsi w1 5 ((xi w1 5) + 1)) L2) ∧
    (¬ v3 = (59 : Int32) →
      B_X5_goThrough_84 N post w1 L2)) w L) ∧
  (¬ (xi w 6) = (-1 : Int32) →
    B_X5_goThrough_84 N post w L)
def B_X5_goThrough_50 (N : Nat) (post : Wd → va_W → Prop) : Nat → Wd → va_W → Prop
  | 0, _, _ => False
  | n + 1, w, L => B_X5_goThrough_50s (B_X5_goThrough_50 N post n) N post w L
set_option maxHeartbeats 4000000 in
theorem k_X5_goThrough_50s {Γ : gT} {K : gK} {N : Nat} {post : Wd → va_W → Prop} (C : gC Γ K RX5 cX5_goThrough 5 rm_X5_goThrough) (ret : gRv Γ K cX5_goThrough (none) (mPv K post) 0 0) {r50 : Wd → va_W → Prop} (hr50 : ∀ (w : Wd) (L : va_W), r50 w L → gJ Γ K 0 0 (mL K w ++ L) 50 [(0, .ref (ma K 0))] []) (w : Wd) (L : va_W) (h : B_X5_goThrough_50s r50 N post w L) : gJ Γ K 0 0 (mL K w ++ L) 50 [(0, .ref (ma K 0))] [] := by
  unfold B_X5_goThrough_50s at h
  refine g_aload_n C 0 rfl dX5_goThrough_50 ?_
  refine mg_fault C q1007 (xi w 6) rfl dX5_goThrough_51 ?_
  refine g_iconst C (-1) (by decide) dX5_goThrough_54 ?_
  refine g_icmp_ne C 84 dX5_goThrough_55 (by decide) (fun hc => ?_) (fun hc => ?_)
  · replace h := h.2 hc
    exact k_X5_goThrough_84 C ret w L h
  · replace h := h.1 hc
    refine g_aload_n C 0 rfl dX5_goThrough_58 ?_
    refine g_callVi C (As := []) (rest := []) (m_X5_look h) (lw_V q1199 q1201 qs36 q84 q1202) (ci := 12) (qi := 0) rfl rfl ⟨rfl, rfl⟩ ⟨Nat.le_of_ble_eq_true rfl, Nat.le_of_ble_eq_true rfl⟩ 0 rfl (by decide +kernel) rfl (Nat.le_of_ble_eq_true rfl) ⟨Nat.zero_le _, Nat.zero_le _⟩ dX5_goThrough_59 ?_
    rintro v3 _ ⟨w1, L2, rfl, h⟩
    refine g_bipush C 59 (by decide) dX5_goThrough_62 ?_
    refine g_icmp_ne C 84 dX5_goThrough_64 (by decide) (fun hc => ?_) (fun hc => ?_)
    · replace h := h.2 hc
      exact k_X5_goThrough_84 C ret w1 L2 h
    · replace h := h.1 hc
      refine g_aload_n C 0 rfl dX5_goThrough_67 ?_
      refine g_dup C rfl dX5_goThrough_68 ?_
      refine mg_at C q1006 (xi w1 5) rfl dX5_goThrough_69 ?_
      refine g_iconst C 1 (by decide) dX5_goThrough_72 ?_
      refine g_iadd C dX5_goThrough_73 ?_
      refine mp_at C q1006 dX5_goThrough_74 ?_
      refine g_aload_n C 0 rfl dX5_goThrough_77 ?_
      refine g_callVv C (As := []) (rest := []) (m_X5_clause h) (lw_V q1195 q1197 qs35 q84 q1198) (ci := 12) (qi := 0) rfl rfl ⟨rfl, rfl⟩ ⟨Nat.le_of_ble_eq_true rfl, Nat.le_of_ble_eq_true rfl⟩ 0 rfl (by decide +kernel) rfl (Nat.le_of_ble_eq_true rfl) ⟨Nat.zero_le _, Nat.zero_le _⟩ dX5_goThrough_78 ?_
      rintro _ ⟨w4, L5, rfl, h⟩
      refine g_goto C 50 dX5_goThrough_81 (by decide) ?_
      exact hr50 w4 L5 h
theorem k_X5_goThrough_50 {Γ : gT} {K : gK} {N : Nat} {post : Wd → va_W → Prop} (C : gC Γ K RX5 cX5_goThrough 5 rm_X5_goThrough) (ret : gRv Γ K cX5_goThrough (none) (mPv K post) 0 0) : ∀ (n : Nat) (w : Wd) (L : va_W) (h : B_X5_goThrough_50 N post n w L), gJ Γ K 0 0 (mL K w ++ L) 50 [(0, .ref (ma K 0))] [] := by
  intro n
  induction n with
  | zero => intro w L h; exact h.elim
  | succ n ih => intro w L h; exact k_X5_goThrough_50s C ret ih w L h
def B_X5_goThrough_0 (N : Nat) (post : Wd → va_W → Prop) (x1 : Int32) (x2 : Int32) (x3 : Int32) (x4 : Int32) (w : Wd) (L : va_W) : Prop :=
  B_X5_clause N (fun (w1 : Wd) (L2 : va_W) =>
  B_X5_goThrough_50 N post N w1 L2) (xsi (xsi (xsi (xsi (xsi (xsi (xsi (xsi (xsi w 27 x1) 3 x2) 4 x3) 8 x4) 5 0) 6 (-1)) 7 0) 10 0) 9 0) L
set_option maxHeartbeats 4000000 in
theorem k_X5_goThrough_0 {Γ : gT} {K : gK} {N : Nat} {post : Wd → va_W → Prop} (C : gC Γ K RX5 cX5_goThrough 5 rm_X5_goThrough) (ret : gRv Γ K cX5_goThrough (none) (mPv K post) 0 0) (x1 : Int32) (x2 : Int32) (x3 : Int32) (x4 : Int32) (w : Wd) (L : va_W) (h : B_X5_goThrough_0 N post x1 x2 x3 x4 w L) : gJ Γ K 0 0 (mL K w ++ L) 0 [(0, .ref (ma K 0)), (1, .ref (ma K (msel x1))), (2, .int x2), (3, .int x3), (4, .int x4)] [] := by
  unfold B_X5_goThrough_0 at h
  refine g_aload_n C 0 rfl dX5_goThrough_0 ?_
  refine g_aload_n C 1 rfl dX5_goThrough_1 ?_
  refine mp_text C q1001 dX5_goThrough_2 ?_
  refine g_aload_n C 0 rfl dX5_goThrough_5 ?_
  refine g_iload_n C 2 rfl dX5_goThrough_6 ?_
  refine mp_begins C q1004 dX5_goThrough_7 ?_
  refine g_aload_n C 0 rfl dX5_goThrough_10 ?_
  refine g_iload_n C 3 rfl dX5_goThrough_11 ?_
  refine mp_ends C q1005 dX5_goThrough_12 ?_
  refine g_aload_n C 0 rfl dX5_goThrough_15 ?_
  refine g_iload C 4 rfl dX5_goThrough_16 ?_
  refine mp_label C q1009 dX5_goThrough_18 ?_
  refine g_aload_n C 0 rfl dX5_goThrough_21 ?_
  refine g_iconst C 0 (by decide) dX5_goThrough_22 ?_
  refine mp_at C q1006 dX5_goThrough_23 ?_
  refine g_aload_n C 0 rfl dX5_goThrough_26 ?_
  refine g_iconst C (-1) (by decide) dX5_goThrough_27 ?_
  refine mp_fault C q1007 dX5_goThrough_28 ?_
  refine g_aload_n C 0 rfl dX5_goThrough_31 ?_
  refine g_iconst C 0 (by decide) dX5_goThrough_32 ?_
  refine mp_deep C q1008 dX5_goThrough_33 ?_
  refine g_aload_n C 0 rfl dX5_goThrough_36 ?_
  refine g_iconst C 0 (by decide) dX5_goThrough_37 ?_
  refine mp_hasFound C q1013 (Or.inl rfl) dX5_goThrough_38 ?_
  refine g_aload_n C 0 rfl dX5_goThrough_41 ?_
  refine g_iconst C 0 (by decide) dX5_goThrough_42 ?_
  refine mp_found C q1010 dX5_goThrough_43 ?_
  refine g_aload_n C 0 rfl dX5_goThrough_46 ?_
  refine g_callVv C (As := []) (rest := []) (m_X5_clause h) (lw_V q1195 q1197 qs35 q84 q1198) (ci := 12) (qi := 0) rfl rfl ⟨rfl, rfl⟩ ⟨Nat.le_of_ble_eq_true rfl, Nat.le_of_ble_eq_true rfl⟩ 0 rfl (by decide +kernel) rfl (Nat.le_of_ble_eq_true rfl) ⟨Nat.zero_le _, Nat.zero_le _⟩ dX5_goThrough_47 ?_
  rintro _ ⟨w1, L2, rfl, h⟩
  refine g_sub [0] rfl ?_
  exact k_X5_goThrough_50 C ret N w1 L2 h
def B_X5_goThrough (N : Nat) (x1 : Int32) (x2 : Int32) (x3 : Int32) (x4 : Int32) (post : Wd → va_W → Prop) (w : Wd) (L : va_W) : Prop := B_X5_goThrough_0 N post x1 x2 x3 x4 w L
theorem m_X5_goThrough {l : Launch} {K : gK} {N : Nat} {post : Wd → va_W → Prop} {x1 : Int32} {x2 : Int32} {x3 : Int32} {x4 : Int32} {w : Wd} {L : va_W} (h : B_X5_goThrough N x1 x2 x3 x4 post w L) : gMv l K yX5_goThrough cX5_goThrough 5 (none) rm_X5_goThrough [.ref (ma K 0), .ref (ma K (msel x1)), .int x2, .int x3, .int x4] (mL K w ++ L) (mPv K post) 0 0 := by
  refine g_inV (ls0 := [(0, .ref (ma K 0)), (1, .ref (ma K (msel x1))), (2, .int x2), (3, .int x3), (4, .int x4)]) (by decide) (Nat.le_of_ble_eq_true rfl) rfl (fun Γ hl C hn ret => ?_)
  exact k_X5_goThrough_0 C ret x1 x2 x3 x4 w L h
def rm_X5_fault : Room := { frames := 60, cells := 0, slots := 0, locals := 1428 }
def B_X5_fault_0 (N : Nat) (post : Int32 → Wd → va_W → Prop) (w : Wd) (L : va_W) : Prop :=
  B_X5_goThrough N 0 0 (xi w 1) 0 (fun (w1 : Wd) (L2 : va_W) =>
  post (xi w1 6) w1 L2) (xsi w 0 0) L
set_option maxHeartbeats 4000000 in
theorem k_X5_fault_0 {Γ : gT} {K : gK} {N : Nat} {post : Int32 → Wd → va_W → Prop} (C : gC Γ K RX5 cX5_fault 1 rm_X5_fault) (ret : gRi Γ K cX5_fault (some .int) (mPi K post) 0 0) (w : Wd) (L : va_W) (h : B_X5_fault_0 N post w L) : gJ Γ K 0 0 (mL K w ++ L) 0 [(0, .ref (ma K 0))] [] := by
  unfold B_X5_fault_0 at h
  refine g_aload_n C 0 rfl dX5_fault_0 ?_
  refine g_iconst C 0 (by decide) dX5_fault_1 ?_
  refine mp_thrown C q996 dX5_fault_2 ?_
  refine g_aload_n C 0 rfl dX5_fault_5 ?_
  refine g_aload_n C 0 rfl dX5_fault_6 ?_
  refine mg_tape C q997 dX5_fault_7 ?_
  refine g_iconst C 0 (by decide) dX5_fault_10 ?_
  refine g_aload_n C 0 rfl dX5_fault_11 ?_
  refine mg_length C q1002 (xi w 1) rfl dX5_fault_12 ?_
  refine g_iconst C 0 (by decide) dX5_fault_15 ?_
  refine g_callVv C (As := [.ref (ma K (msel 0)), .int 0, .int (xi w 1), .int 0]) (rest := []) (m_X5_goThrough h) (lw_V q1191 q1193 qs34 q84 q1194) (ci := 12) (qi := 0) rfl rfl ⟨rfl, rfl⟩ ⟨Nat.le_of_ble_eq_true rfl, Nat.le_of_ble_eq_true rfl⟩ 4 rfl (by decide +kernel) rfl (Nat.le_of_ble_eq_true rfl) ⟨Nat.zero_le _, Nat.zero_le _⟩ dX5_fault_16 ?_
  rintro _ ⟨w1, L2, rfl, h⟩
  refine g_aload_n C 0 rfl dX5_fault_19 ?_
  refine mg_fault C q1007 (xi w1 6) rfl dX5_fault_20 ?_
  exact ret _ _ _ _ _ rfl rfl dX5_fault_23 ⟨_, _, rfl, h⟩
def B_X5_fault (N : Nat) (post : Int32 → Wd → va_W → Prop) (w : Wd) (L : va_W) : Prop := B_X5_fault_0 N post w L
theorem m_X5_fault {l : Launch} {K : gK} {N : Nat} {post : Int32 → Wd → va_W → Prop} {w : Wd} {L : va_W} (h : B_X5_fault N post w L) : gMi l K yX5_fault cX5_fault 1 (some .int) rm_X5_fault [.ref (ma K 0)] (mL K w ++ L) (mPi K post) 0 0 := by
  refine g_inI (ls0 := [(0, .ref (ma K 0))]) (by decide) (Nat.le_of_ble_eq_true rfl) rfl (fun Γ hl C hn ret => ?_)
  exact k_X5_fault_0 C ret w L h
def rm_X5_law : Room := { frames := 60, cells := 0, slots := 0, locals := 1428 }
def B_X5_law_42s (r42 : Int32 → Wd → va_W → Prop) (N : Nat) (post : Int32 → Wd → va_W → Prop) (x1 : Int32) (w : Wd) (L : va_W) : Prop :=
  ((xi w 1) ≤ x1 →
    vp_in (xi w 2) 6 ∧ ∀ w1 : Wd, w1 = (xsA w 3 (xi w 2).toNatClampNeg (xi w 1)) → post (((xi w1 2) + 1) - 1) (xsi (xsi w1 1 0) 2 ((xi w1 2) + 1)) L) ∧
  (¬ (xi w 1) ≤ x1 →
    vp_in x1 120 ∧ vp_in ((120 * (xi w 2)) + x1) 720 ∧ ∀ w2 : Wd, w2 = (xsA w 2 ((120 * (xi w 2)) + x1).toNatClampNeg (vp_nar .byte (xA w 1 x1.toNatClampNeg))) → r42 (x1 + 1) w2 L)
def B_X5_law_42 (N : Nat) (post : Int32 → Wd → va_W → Prop) : Nat → Int32 → Wd → va_W → Prop
  | 0, _, _, _ => False
  | n + 1, x1, w, L => B_X5_law_42s (B_X5_law_42 N post n) N post x1 w L
set_option maxHeartbeats 4000000 in
theorem k_X5_law_42s {Γ : gT} {K : gK} {N : Nat} {post : Int32 → Wd → va_W → Prop} (C : gC Γ K RX5 cX5_law 2 rm_X5_law) (ret : gRi Γ K cX5_law (some .int) (mPi K post) 0 0) {r42 : Int32 → Wd → va_W → Prop} (hr42 : ∀ (x1 : Int32) (w : Wd) (L : va_W), r42 x1 w L → gJ Γ K 0 0 (mL K w ++ L) 42 [(0, .ref (ma K 0)), (1, .int x1)] []) (x1 : Int32) (w : Wd) (L : va_W) (h : B_X5_law_42s r42 N post x1 w L) : gJ Γ K 0 0 (mL K w ++ L) 42 [(0, .ref (ma K 0)), (1, .int x1)] [] := by
  unfold B_X5_law_42s at h
  refine g_iload_n C 1 rfl dX5_law_42 ?_
  refine g_aload_n C 0 rfl dX5_law_43 ?_
  refine mg_length C q1002 (xi w 1) rfl dX5_law_44 ?_
  refine g_icmp_ge C 76 dX5_law_47 (by decide) (fun hc => ?_) (fun hc => ?_)
  · replace h := h.1 hc
    refine g_aload_n C 0 rfl dX5_law_76 ?_
    refine mg_textLong C q999 dX5_law_77 ?_
    refine g_aload_n C 0 rfl dX5_law_80 ?_
    refine mg_laws C q1003 (xi w 2) rfl dX5_law_81 ?_
    refine g_aload_n C 0 rfl dX5_law_84 ?_
    refine mg_length C q1002 (xi w 1) rfl dX5_law_85 ?_
    obtain ⟨hb, h⟩ := h
    refine mst_3 C hb dX5_law_88 ?_
    obtain ⟨w1, ew1⟩ : ∃ z, z = (xsA w 3 (xi w 2).toNatClampNeg (xi w 1)) := ⟨_, rfl⟩
    replace h := h w1 ew1
    rw [← ew1]
    refine g_aload_n C 0 rfl dX5_law_89 ?_
    refine g_iconst C 0 (by decide) dX5_law_90 ?_
    refine mp_length C q1002 dX5_law_91 ?_
    refine g_aload_n C 0 rfl dX5_law_94 ?_
    refine g_dup C rfl dX5_law_95 ?_
    refine mg_laws C q1003 (xi w1 2) rfl dX5_law_96 ?_
    refine g_iconst C 1 (by decide) dX5_law_99 ?_
    refine g_iadd C dX5_law_100 ?_
    refine mp_laws C q1003 dX5_law_101 ?_
    refine g_aload_n C 0 rfl dX5_law_104 ?_
    refine mg_laws C q1003 (((xi w1 2) + 1)) rfl dX5_law_105 ?_
    refine g_iconst C 1 (by decide) dX5_law_108 ?_
    refine g_isub C dX5_law_109 ?_
    exact ret _ _ _ _ _ rfl rfl dX5_law_110 ⟨_, _, rfl, h⟩
  · replace h := h.2 hc
    refine g_aload_n C 0 rfl dX5_law_50 ?_
    refine mg_texts C q998 dX5_law_51 ?_
    refine g_bipush C 120 (by decide) dX5_law_54 ?_
    refine g_aload_n C 0 rfl dX5_law_56 ?_
    refine mg_laws C q1003 (xi w 2) rfl dX5_law_57 ?_
    refine g_imul C dX5_law_60 ?_
    refine g_iload_n C 1 rfl dX5_law_61 ?_
    refine g_iadd C dX5_law_62 ?_
    refine g_aload_n C 0 rfl dX5_law_63 ?_
    refine mg_tape C q997 dX5_law_64 ?_
    refine g_iload_n C 1 rfl dX5_law_67 ?_
    obtain ⟨hb, h⟩ := h
    refine mld_1 C hb (xA w 1 x1.toNatClampNeg) rfl dX5_law_68 ?_
    obtain ⟨hb, h⟩ := h
    refine mst_2 C hb dX5_law_69 ?_
    obtain ⟨w2, ew2⟩ : ∃ z, z = (xsA w 2 ((120 * (xi w 2)) + x1).toNatClampNeg (vp_nar .byte (xA w 1 x1.toNatClampNeg))) := ⟨_, rfl⟩
    replace h := h w2 ew2
    rw [← ew2]
    refine g_iinc C 1 (x1 + 1) (lt := [(1, .int (x1 + 1)), (0, .ref (ma K 0))]) rfl rfl dX5_law_70 (by decide) rfl ?_
    refine g_goto C 42 dX5_law_73 (by decide) ?_
    refine g_sub [1, 0] rfl ?_
    exact hr42 (x1 + 1) w2 L h
theorem k_X5_law_42 {Γ : gT} {K : gK} {N : Nat} {post : Int32 → Wd → va_W → Prop} (C : gC Γ K RX5 cX5_law 2 rm_X5_law) (ret : gRi Γ K cX5_law (some .int) (mPi K post) 0 0) : ∀ (n : Nat) (x1 : Int32) (w : Wd) (L : va_W) (h : B_X5_law_42 N post n x1 w L), gJ Γ K 0 0 (mL K w ++ L) 42 [(0, .ref (ma K 0)), (1, .int x1)] [] := by
  intro n
  induction n with
  | zero => intro x1 w L h; exact h.elim
  | succ n ih => intro x1 w L h; exact k_X5_law_42s C ret ih x1 w L h
def B_X5_law_0 (N : Nat) (post : Int32 → Wd → va_W → Prop) (w : Wd) (L : va_W) : Prop :=
  ∀ w1 : Wd, w1 = (xsi w 0 0) → ((xi w 2) = (6 : Int32) →
    post (-1) w1 L) ∧
  (¬ (xi w 2) = (6 : Int32) →
    B_X5_goThrough N 0 0 (xi w1 1) 0 (fun (w2 : Wd) (L3 : va_W) =>
  ((xi w2 6) = (-1 : Int32) →
      B_X5_law_42 N post N 0 w2 L3) ∧
    (¬ (xi w2 6) = (-1 : Int32) →
      post (-1) w2 L3)) w1 L)
set_option maxHeartbeats 4000000 in
theorem k_X5_law_0 {Γ : gT} {K : gK} {N : Nat} {post : Int32 → Wd → va_W → Prop} (C : gC Γ K RX5 cX5_law 2 rm_X5_law) (ret : gRi Γ K cX5_law (some .int) (mPi K post) 0 0) (w : Wd) (L : va_W) (h : B_X5_law_0 N post w L) : gJ Γ K 0 0 (mL K w ++ L) 0 [(0, .ref (ma K 0))] [] := by
  unfold B_X5_law_0 at h
  refine g_aload_n C 0 rfl dX5_law_0 ?_
  refine g_iconst C 0 (by decide) dX5_law_1 ?_
  refine mp_thrown C q996 dX5_law_2 ?_
  refine g_aload_n C 0 rfl dX5_law_5 ?_
  refine mg_laws C q1003 (xi w 2) rfl dX5_law_6 ?_
  refine g_bipush C 6 (by decide) dX5_law_9 ?_
  obtain ⟨w1, ew1⟩ : ∃ z, z = (xsi w 0 0) := ⟨_, rfl⟩
  replace h := h w1 ew1
  rw [← ew1]
  refine g_icmp_ne C 16 dX5_law_11 (by decide) (fun hc => ?_) (fun hc => ?_)
  · replace h := h.2 hc
    refine g_aload_n C 0 rfl dX5_law_16 ?_
    refine g_aload_n C 0 rfl dX5_law_17 ?_
    refine mg_tape C q997 dX5_law_18 ?_
    refine g_iconst C 0 (by decide) dX5_law_21 ?_
    refine g_aload_n C 0 rfl dX5_law_22 ?_
    refine mg_length C q1002 (xi w1 1) rfl dX5_law_23 ?_
    refine g_iconst C 0 (by decide) dX5_law_26 ?_
    refine g_callVv C (As := [.ref (ma K (msel 0)), .int 0, .int (xi w1 1), .int 0]) (rest := []) (m_X5_goThrough h) (lw_V q1191 q1193 qs34 q84 q1194) (ci := 12) (qi := 0) rfl rfl ⟨rfl, rfl⟩ ⟨Nat.le_of_ble_eq_true rfl, Nat.le_of_ble_eq_true rfl⟩ 4 rfl (by decide +kernel) rfl (Nat.le_of_ble_eq_true rfl) ⟨Nat.zero_le _, Nat.zero_le _⟩ dX5_law_27 ?_
    rintro _ ⟨w2, L3, rfl, h⟩
    refine g_aload_n C 0 rfl dX5_law_30 ?_
    refine mg_fault C q1007 (xi w2 6) rfl dX5_law_31 ?_
    refine g_iconst C (-1) (by decide) dX5_law_34 ?_
    refine g_icmp_eq C 40 dX5_law_35 (by decide) (fun hc => ?_) (fun hc => ?_)
    · replace h := h.1 hc
      refine g_iconst C 0 (by decide) dX5_law_40 ?_
      refine g_istore_n C rfl (lt := [(1, .int 0), (0, .ref (ma K 0))]) dX5_law_41 (by decide) rfl ?_
      refine g_sub [1, 0] rfl ?_
      exact k_X5_law_42 C ret N 0 w2 L3 h
    · replace h := h.2 hc
      refine g_iconst C (-1) (by decide) dX5_law_38 ?_
      exact ret _ _ _ _ _ rfl rfl dX5_law_39 ⟨_, _, rfl, h⟩
  · replace h := h.1 hc
    refine g_iconst C (-1) (by decide) dX5_law_14 ?_
    exact ret _ _ _ _ _ rfl rfl dX5_law_15 ⟨_, _, rfl, h⟩
def B_X5_law (N : Nat) (post : Int32 → Wd → va_W → Prop) (w : Wd) (L : va_W) : Prop := B_X5_law_0 N post w L
theorem m_X5_law {l : Launch} {K : gK} {N : Nat} {post : Int32 → Wd → va_W → Prop} {w : Wd} {L : va_W} (h : B_X5_law N post w L) : gMi l K yX5_law cX5_law 2 (some .int) rm_X5_law [.ref (ma K 0)] (mL K w ++ L) (mPi K post) 0 0 := by
  refine g_inI (ls0 := [(0, .ref (ma K 0))]) (by decide) (Nat.le_of_ble_eq_true rfl) rfl (fun Γ hl C hn ret => ?_)
  exact k_X5_law_0 C ret w L h
def rm_X5_worthOf : Room := { frames := 60, cells := 0, slots := 0, locals := 1428 }
def B_X5_worthOf_0 (N : Nat) (post : Int32 → Wd → va_W → Prop) (x1 : Int32) (x2 : Int32) (w : Wd) (L : va_W) : Prop :=
  vp_in x1 6 ∧ B_X5_goThrough N 1 (120 * x1) (xA w 3 x1.toNatClampNeg) x2 (fun (w1 : Wd) (L2 : va_W) =>
  post (xi w1 9) w1 L2) w L
set_option maxHeartbeats 4000000 in
theorem k_X5_worthOf_0 {Γ : gT} {K : gK} {N : Nat} {post : Int32 → Wd → va_W → Prop} (C : gC Γ K RX5 cX5_worthOf 3 rm_X5_worthOf) (ret : gRi Γ K cX5_worthOf (some .int) (mPi K post) 0 0) (x1 : Int32) (x2 : Int32) (w : Wd) (L : va_W) (h : B_X5_worthOf_0 N post x1 x2 w L) : gJ Γ K 0 0 (mL K w ++ L) 0 [(0, .ref (ma K 0)), (1, .int x1), (2, .int x2)] [] := by
  unfold B_X5_worthOf_0 at h
  refine g_aload_n C 0 rfl dX5_worthOf_0 ?_
  refine g_aload_n C 0 rfl dX5_worthOf_1 ?_
  refine mg_texts C q998 dX5_worthOf_2 ?_
  refine g_bipush C 120 (by decide) dX5_worthOf_5 ?_
  refine g_iload_n C 1 rfl dX5_worthOf_7 ?_
  refine g_imul C dX5_worthOf_8 ?_
  refine g_aload_n C 0 rfl dX5_worthOf_9 ?_
  refine mg_textLong C q999 dX5_worthOf_10 ?_
  refine g_iload_n C 1 rfl dX5_worthOf_13 ?_
  obtain ⟨hb, h⟩ := h
  refine mld_3 C hb (xA w 3 x1.toNatClampNeg) rfl dX5_worthOf_14 ?_
  refine g_iload_n C 2 rfl dX5_worthOf_15 ?_
  refine g_callVv C (As := [.ref (ma K (msel 1)), .int (120 * x1), .int (xA w 3 x1.toNatClampNeg), .int x2]) (rest := []) (m_X5_goThrough h) (lw_V q1191 q1193 qs34 q84 q1194) (ci := 12) (qi := 0) rfl rfl ⟨rfl, rfl⟩ ⟨Nat.le_of_ble_eq_true rfl, Nat.le_of_ble_eq_true rfl⟩ 4 rfl (by decide +kernel) rfl (Nat.le_of_ble_eq_true rfl) ⟨Nat.zero_le _, Nat.zero_le _⟩ dX5_worthOf_16 ?_
  rintro _ ⟨w1, L2, rfl, h⟩
  refine g_aload_n C 0 rfl dX5_worthOf_19 ?_
  refine mg_found C q1010 (xi w1 9) rfl dX5_worthOf_20 ?_
  exact ret _ _ _ _ _ rfl rfl dX5_worthOf_23 ⟨_, _, rfl, h⟩
def B_X5_worthOf (N : Nat) (x1 : Int32) (x2 : Int32) (post : Int32 → Wd → va_W → Prop) (w : Wd) (L : va_W) : Prop := B_X5_worthOf_0 N post x1 x2 w L
theorem m_X5_worthOf {l : Launch} {K : gK} {N : Nat} {post : Int32 → Wd → va_W → Prop} {x1 : Int32} {x2 : Int32} {w : Wd} {L : va_W} (h : B_X5_worthOf N x1 x2 post w L) : gMi l K yX5_worthOf cX5_worthOf 3 (some .int) rm_X5_worthOf [.ref (ma K 0), .int x1, .int x2] (mL K w ++ L) (mPi K post) 0 0 := by
  refine g_inI (ls0 := [(0, .ref (ma K 0)), (1, .int x1), (2, .int x2)]) (by decide) (Nat.le_of_ble_eq_true rfl) rfl (fun Γ hl C hn ret => ?_)
  exact k_X5_worthOf_0 C ret x1 x2 w L h
