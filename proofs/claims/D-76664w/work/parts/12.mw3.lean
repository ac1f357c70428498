/-! WALKS OF THE REFERENCE: copies of the market -/
theorem g_X3_86 : xfg RX3 86 3 38 := ⟨_, _, _, rfl, by decide, in_X3, q1718, rfl⟩
theorem m_X3_263 : xcv RX3 263 3 yX3_keeps cX3_keeps 4 (none) 2 := ⟨_, _, _, rfl, lw_V q1976 q1978 qs68 q102 q1979, rfl, by decide +kernel, by decide +kernel, by decide +kernel⟩
theorem g_X3_76 : xfg RX3 76 3 35 := ⟨_, _, _, rfl, by decide, in_X3, q1715, rfl⟩
theorem g_X3_95 : xfg RX3 95 3 46 := ⟨_, _, _, rfl, by decide, in_X3, q1726, rfl⟩
set_option maxHeartbeats 4000000 in
theorem t_keeps (l : Launch) (G : xG_T) (n : Nat) (hn : 103 ≤ n) (I : xI_T) (L : xL_T) (a : Nat) (o : Nat) (N : Nat) (ha : a < 103) (ht : TyM a = some (.inr (0, N))) (hoN : o + 31 ≤ N) (hN : N < 1000) (h72 : a ≠ 72) : CM l 0 yX3_keeps cX3_keeps 4 (none) G n [.ref (xb G + 70), .ref (xb G + a), .int (nI o)] I L (none) (m_keeps I a o) (L) := by
  refine Cg.intro (cls := RX3) (pad := 1) (lv := [some (.ref (xb G + 70)), some (.ref (xb G + a)), some (.int (nI o)), none]) rfl (by decide) (Nat.le_of_ble_eq_true rfl) rfl (fun Θ h => ?_)
  refine x_iconst h dX3_keeps_0 (0) rfl ?_
  refine x_istore_n h dX3_keeps_1 rfl (by decide) [some (.ref (xb G + 70)), some (.ref (xb G + a)), some (.int (nI o)), some (.int 0)] rfl ?_
  have lp2 : ∀ (d : Nat) (k : Nat) (J : xI_T), 31 - k < d → (k ≤ 31) → (J = cpy2 I a o 72 0 k) → X Θ 0 0 n TyM J L FM 2 [some (.ref (xb G + 70)), some (.ref (xb G + a)), some (.int (nI o)), some (.int (nI k))] [] := by
    intro d
    induction d with
    | zero =>
      intro k J hlt
      exact absurd hlt (Nat.not_lt_zero _)
    | succ d ih =>
      intro k J hlt hk hJ
      refine x_iload_n h dX3_keeps_2 rfl ?_
      refine x_bipush h dX3_keeps_3 (31) rfl ?_
      refine x_icmp_ge h 25 dX3_keeps_5 rfl (fun c5 => ?_) (fun c5 => ?_)
      · skip
        have hk5 : k = 31 := Nat.le_antisymm hk (nleN rfl (by decide) (by omega) c5)
        subst hk5
        exact x_vret h dX3_keeps_25 rfl (xpE.to (by subst_vars; first | with_reducible rfl | (simp only [m_keeps, *]; done) | (simp only [m_keeps, ix, *]; rfl) | (simp [m_keeps, ix, up2_ap, bec_k, bec_i, *]; done)) (by subst_vars; first | with_reducible rfl | (simp only [m_keeps, *]; done) | (simp only [m_keeps, ix, *]; rfl) | (simp [m_keeps, ix, up2_ap, bec_k, bec_i, *]; done)) rfl rfl)
      · skip
        have hk5 : k < 31 := nltN rfl (by decide) (by omega) c5
        refine x_aload_n h dX3_keeps_8 rfl ?_
        refine x_iload_n h dX3_keeps_9 rfl ?_
        refine x_iload_n h dX3_keeps_10 rfl ?_
        refine x_iaddE h (nI (o + k)) (nI_add o k) dX3_keeps_11 ?_
        refine x_aload_n h dX3_keeps_12 rfl ?_
        refine x_getr h (j := 72) g_X3_22 (mlt hn rfl) rfl (by decide) rfl dX3_keeps_13 ?_
        refine x_iload_n h dX3_keeps_16 rfl ?_
        refine x_iald h (mlt hn rfl) rfl (vp_in_nI (by omega) (by first | decide | omega)) (k) (nI_clamp (by omega)) dX3_keeps_17 ?_
        refine x_iast h (Nat.lt_of_lt_of_le ha hn) ht (vp_in_nI (by omega) (by first | decide | omega)) (o + k) (nI_clamp (by omega)) dX3_keeps_18 (fun J18 eJ18 => ?_)
        refine x_iinc h dX3_keeps_19 (by decide) rfl (nI (k + 1)) (nI_1 k) [some (.ref (xb G + 70)), some (.ref (xb G + a)), some (.int (nI o)), some (.int (nI (k + 1)))] rfl ?_
        refine x_goto h 2 dX3_keeps_22 rfl ?_
        exact ih (k + 1) J18 (by omega) (by omega) (by rw [eJ18, hJ]; have z := cpy2_up (I := I) (a := a) (o := o) (b := 72) (p := 0) (c := k) (Or.inl h72); rw [Nat.zero_add] at z; exact z)
  exact lp2 32 0 I (by decide) (by decide) cpy2_z.symm
set_option maxHeartbeats 4000000 in
theorem t_laysBack (l : Launch) (G : xG_T) (n : Nat) (hn : 103 ≤ n) (I : xI_T) (L : xL_T) (a : Nat) (o : Nat) (N : Nat) (ha : a < 103) (ht : TyM a = some (.inr (0, N))) (hoN : o + 31 ≤ N) (hN : N < 1000) (h72 : a ≠ 72) : CM l 0 yX3_laysBack cX3_laysBack 4 (none) G n [.ref (xb G + 70), .ref (xb G + a), .int (nI o)] I L (none) (m_lays I a o) (L) := by
  refine Cg.intro (cls := RX3) (pad := 1) (lv := [some (.ref (xb G + 70)), some (.ref (xb G + a)), some (.int (nI o)), none]) rfl (by decide) (Nat.le_of_ble_eq_true rfl) rfl (fun Θ h => ?_)
  refine x_iconst h dX3_laysBack_0 (0) rfl ?_
  refine x_istore_n h dX3_laysBack_1 rfl (by decide) [some (.ref (xb G + 70)), some (.ref (xb G + a)), some (.int (nI o)), some (.int 0)] rfl ?_
  have lp2 : ∀ (d : Nat) (k : Nat) (J : xI_T), 31 - k < d → (k ≤ 31) → (J = cpy2 I 72 0 a o k) → X Θ 0 0 n TyM J L FM 2 [some (.ref (xb G + 70)), some (.ref (xb G + a)), some (.int (nI o)), some (.int (nI k))] [] := by
    intro d
    induction d with
    | zero =>
      intro k J hlt
      exact absurd hlt (Nat.not_lt_zero _)
    | succ d ih =>
      intro k J hlt hk hJ
      refine x_iload_n h dX3_laysBack_2 rfl ?_
      refine x_bipush h dX3_laysBack_3 (31) rfl ?_
      refine x_icmp_ge h 25 dX3_laysBack_5 rfl (fun c5 => ?_) (fun c5 => ?_)
      · skip
        have hk5 : k = 31 := Nat.le_antisymm hk (nleN rfl (by decide) (by omega) c5)
        subst hk5
        exact x_vret h dX3_laysBack_25 rfl (xpE.to (by subst_vars; first | with_reducible rfl | (simp only [m_lays, *]; done) | (simp only [m_lays, ix, *]; rfl) | (simp [m_lays, ix, up2_ap, bec_k, bec_i, *]; done)) (by subst_vars; first | with_reducible rfl | (simp only [m_lays, *]; done) | (simp only [m_lays, ix, *]; rfl) | (simp [m_lays, ix, up2_ap, bec_k, bec_i, *]; done)) rfl rfl)
      · skip
        have hk5 : k < 31 := nltN rfl (by decide) (by omega) c5
        refine x_aload_n h dX3_laysBack_8 rfl ?_
        refine x_getr h (j := 72) g_X3_22 (mlt hn rfl) rfl (by decide) rfl dX3_laysBack_9 ?_
        refine x_iload_n h dX3_laysBack_12 rfl ?_
        refine x_aload_n h dX3_laysBack_13 rfl ?_
        refine x_iload_n h dX3_laysBack_14 rfl ?_
        refine x_iload_n h dX3_laysBack_15 rfl ?_
        refine x_iaddE h (nI (o + k)) (nI_add o k) dX3_laysBack_16 ?_
        refine x_iald h (Nat.lt_of_lt_of_le ha hn) ht (vp_in_nI (by omega) (by first | decide | omega)) (o + k) (nI_clamp (by omega)) dX3_laysBack_17 ?_
        refine x_iast h (mlt hn rfl) rfl (vp_in_nI (by omega) (by first | decide | omega)) (k) (nI_clamp (by omega)) dX3_laysBack_18 (fun J18 eJ18 => ?_)
        refine x_iinc h dX3_laysBack_19 (by decide) rfl (nI (k + 1)) (nI_1 k) [some (.ref (xb G + 70)), some (.ref (xb G + a)), some (.int (nI o)), some (.int (nI (k + 1)))] rfl ?_
        refine x_goto h 2 dX3_laysBack_22 rfl ?_
        exact ih (k + 1) J18 (by omega) (by omega) (by rw [eJ18, hJ]; have z := cpy2_up (I := I) (a := 72) (o := 0) (b := a) (p := o) (c := k) (Or.inl (Ne.symm h72)); rw [Nat.zero_add] at z; exact z)
  exact lp2 32 0 I (by decide) (by decide) cpy2_z.symm
set_option maxHeartbeats 4000000 in
theorem t_ends (l : Launch) (G : xG_T) (n : Nat) (hn : 103 ≤ n) (I : xI_T) (L : xL_T)   : CM l 1 yX3_ends cX3_ends 2 (none) G n [.ref (xb G + 70)] I L (none) (m_ends I) (L) := by
  refine Cg.intro (cls := RX3) (pad := 1) (lv := [some (.ref (xb G + 70)), none]) rfl (by decide) (Nat.le_of_ble_eq_true rfl) rfl (fun Θ h => ?_)
  refine x_aload_n h dX3_ends_0 rfl ?_
  refine x_getr h (j := 72) g_X3_22 (mlt hn rfl) rfl (by decide) rfl dX3_ends_1 ?_
  refine x_bipush h dX3_ends_4 (8) rfl ?_
  refine x_bipush h dX3_ends_6 (99) rfl ?_
  refine x_aload_n h dX3_ends_8 rfl ?_
  refine x_getr h (j := 72) g_X3_22 (mlt hn rfl) rfl (by decide) rfl dX3_ends_9 ?_
  refine x_bipush h dX3_ends_12 (8) rfl ?_
  refine x_iald h (mlt hn rfl) rfl (xk rfl) 8 rfl dX3_ends_14 ?_
  refine x_iconst h dX3_ends_15 (1) rfl ?_
  refine x_iadd h dX3_ends_16 ?_
  refine x_mmin h q1992 (by decide) ⟨by decide, by decide⟩ (Nat.le_of_ble_eq_true rfl) dX3_ends_17 ?_
  refine x_iast h (mlt hn rfl) rfl (xk rfl) 8 rfl dX3_ends_20 (fun J20 eJ20 => ?_)
  refine x_bipush h dX3_ends_21 (9) rfl ?_
  refine x_istore_n h dX3_ends_23 rfl (by decide) [some (.ref (xb G + 70)), some (.int 9)] rfl ?_
  have lp24 : ∀ (d : Nat) (k : Nat) (J : xI_T), 18 - k < d → (9 ≤ k) → (k ≤ 18) → (J = fil2 J20 72 9 k 0) → X Θ 0 0 n TyM J L FM 24 [some (.ref (xb G + 70)), some (.int (nI k))] [] := by
    intro d
    induction d with
    | zero =>
      intro k J hlt
      exact absurd hlt (Nat.not_lt_zero _)
    | succ d ih =>
      intro k J hlt hk9 hk hJ
      refine x_iload_n h dX3_ends_24 rfl ?_
      refine x_bipush h dX3_ends_25 (18) rfl ?_
      refine x_icmp_ge h 43 dX3_ends_27 rfl (fun c27 => ?_) (fun c27 => ?_)
      · skip
        have hk5 : k = 18 := Nat.le_antisymm hk (nleN rfl (by decide) (by omega) c27)
        subst hk5
        exact x_vret h dX3_ends_43 rfl (xpE.to (by subst_vars; first | with_reducible rfl | (simp only [m_ends, *]; done) | (simp only [m_ends, ix, *]; rfl) | (simp [m_ends, ix, up2_ap, bec_k, bec_i, *]; done)) (by subst_vars; first | with_reducible rfl | (simp only [m_ends, *]; done) | (simp only [m_ends, ix, *]; rfl) | (simp [m_ends, ix, up2_ap, bec_k, bec_i, *]; done)) rfl rfl)
      · skip
        have hk5 : k < 18 := nltN rfl (by decide) (by omega) c27
        refine x_aload_n h dX3_ends_30 rfl ?_
        refine x_getr h (j := 72) g_X3_22 (mlt hn rfl) rfl (by decide) rfl dX3_ends_31 ?_
        refine x_iload_n h dX3_ends_34 rfl ?_
        refine x_iconst h dX3_ends_35 (0) rfl ?_
        refine x_iast h (mlt hn rfl) rfl (vp_in_nI (by omega) (by first | decide | omega)) (k) (nI_clamp (by omega)) dX3_ends_36 (fun J36 eJ36 => ?_)
        refine x_iinc h dX3_ends_37 (by decide) rfl (nI (k + 1)) (nI_1 k) [some (.ref (xb G + 70)), some (.int (nI (k + 1)))] rfl ?_
        refine x_goto h 24 dX3_ends_40 rfl ?_
        exact ih (k + 1) J36 (by omega) (by omega) (by omega) (by rw [eJ36, hJ]; exact fil2_up (by omega))
  exact lp24 10 9 J20 (by decide) (by decide) (by decide) fil2_z.symm
set_option maxHeartbeats 4000000 in
theorem t_begins (l : Launch) (G : xG_T) (n : Nat) (hn : 103 ≤ n) (I : xI_T) (L : xL_T)   : CM l 1 yX3_begins cX3_begins 2 (none) G n [.ref (xb G + 70)] I L (none) (m_begins I) (L) := by
  refine Cg.intro (cls := RX3) (pad := 1) (lv := [some (.ref (xb G + 70)), none]) rfl (by decide) (Nat.le_of_ble_eq_true rfl) rfl (fun Θ h => ?_)
  refine x_aload_n h dX3_begins_0 rfl ?_
  refine x_aload_n h dX3_begins_1 rfl ?_
  refine x_getr h (j := 93) g_X3_86 (mlt hn rfl) rfl (by decide) rfl dX3_begins_2 ?_
  refine x_iconst h dX3_begins_5 (0) rfl ?_
  refine x_callVEv h (As := [.ref _, .int _]) (t_keeps l G n hn _ _ 93 0 31 (Nat.le_of_ble_eq_true rfl) rfl (Nat.le_of_ble_eq_true rfl) (Nat.le_of_ble_eq_true rfl) (by decide)) m_X3_263 (mlt hn rfl) rfl dX3_begins_6 ⟨by decide, by decide⟩ ⟨by decide, by decide⟩ rfl (Nat.le_of_ble_eq_true rfl) ?_
  refine x_nmI (fun J6 eJ6 => ?_)
  refine x_aload_n h dX3_begins_9 rfl ?_
  refine x_iconst h dX3_begins_10 (0) rfl ?_
  refine x_puti h p_X3_241 (mlt hn rfl) rfl rfl rfl rfl dX3_begins_11 (fun J11 eJ11 => ?_)
  refine x_iconst h dX3_begins_14 (0) rfl ?_
  refine x_istore_n h dX3_begins_15 rfl (by decide) [some (.ref (xb G + 70)), some (.int 0)] rfl ?_
  have lp16 : ∀ (d : Nat) (k : Nat) (J : xI_T), 64 - k < d → (k ≤ 64) → (J = fil2 J11 95 0 k 0) → X Θ 0 0 n TyM J L FM 16 [some (.ref (xb G + 70)), some (.int (nI k))] [] := by
    intro d
    induction d with
    | zero =>
      intro k J hlt
      exact absurd hlt (Nat.not_lt_zero _)
    | succ d ih =>
      intro k J hlt hk hJ
      refine x_iload_n h dX3_begins_16 rfl ?_
      refine x_bipush h dX3_begins_17 (64) rfl ?_
      refine x_icmp_ge h 35 dX3_begins_19 rfl (fun c19 => ?_) (fun c19 => ?_)
      · skip
        have hk5 : k = 64 := Nat.le_antisymm hk (nleN rfl (by decide) (by omega) c19)
        subst hk5
        exact x_vret h dX3_begins_35 rfl (xpE.to (by subst_vars; first | with_reducible rfl | (simp only [m_begins, *]; done) | (simp only [m_begins, ix, *]; rfl) | (simp [m_begins, ix, up2_ap, bec_k, bec_i, *]; done)) (by subst_vars; first | with_reducible rfl | (simp only [m_begins, *]; done) | (simp only [m_begins, ix, *]; rfl) | (simp [m_begins, ix, up2_ap, bec_k, bec_i, *]; done)) rfl rfl)
      · skip
        have hk5 : k < 64 := nltN rfl (by decide) (by omega) c19
        refine x_aload_n h dX3_begins_22 rfl ?_
        refine x_getr h (j := 95) g_X3_92 (mlt hn rfl) rfl (by decide) rfl dX3_begins_23 ?_
        refine x_iload_n h dX3_begins_26 rfl ?_
        refine x_iconst h dX3_begins_27 (0) rfl ?_
        refine x_iast h (mlt hn rfl) rfl (vp_in_nI (by omega) (by first | decide | omega)) (k) (nI_clamp (by omega)) dX3_begins_28 (fun J28 eJ28 => ?_)
        refine x_iinc h dX3_begins_29 (by decide) rfl (nI (k + 1)) (nI_1 k) [some (.ref (xb G + 70)), some (.int (nI (k + 1)))] rfl ?_
        refine x_goto h 16 dX3_begins_32 rfl ?_
        exact ih (k + 1) J28 (by omega) (by omega) (by rw [eJ28, hJ]; exact fil2_up (by omega))
  exact lp16 65 0 J11 (by decide) (by decide) fil2_z.symm
set_option maxHeartbeats 4000000 in
theorem t_noBytes (l : Launch) (G : xG_T) (n : Nat) (hn : 103 ≤ n) (I : xI_T) (L : xL_T) (s : Int32) (hs : vp_in s 6) : CM l 0 yX3_noBytes cX3_noBytes 2 (some .int) G n [.ref (xb G + 70), .int s] I L (some (.int (m_noB I s))) (I) (L) := by
  refine Cg.intro (cls := RX3) (pad := 0) (lv := [some (.ref (xb G + 70)), some (.int s)]) rfl (by decide) (Nat.le_of_ble_eq_true rfl) rfl (fun Θ h => ?_)
  refine x_aload_n h dX3_noBytes_0 rfl ?_
  refine x_getr h (j := 90) g_X3_76 (mlt hn rfl) rfl (by decide) rfl dX3_noBytes_1 ?_
  refine x_iload_n h dX3_noBytes_4 rfl ?_
  refine x_iald h (mlt hn rfl) rfl hs _ rfl dX3_noBytes_5 ?_
  refine x_iconst h dX3_noBytes_6 (-1) rfl ?_
  refine x_icmp_ne h 15 dX3_noBytes_7 rfl (fun c7 => ?_) (fun c7 => ?_)
  · skip
    refine x_aload_n h dX3_noBytes_15 rfl ?_
    refine x_getr h (j := 90) g_X3_76 (mlt hn rfl) rfl (by decide) rfl dX3_noBytes_16 ?_
    refine x_iload_n h dX3_noBytes_19 rfl ?_
    refine x_iald h (mlt hn rfl) rfl hs _ rfl dX3_noBytes_20 ?_
    refine x_if_eq h 29 dX3_noBytes_21 rfl (fun c21 => ?_) (fun c21 => ?_)
    · skip
      refine x_iconst h dX3_noBytes_29 (0) rfl ?_
      exact x_iret h dX3_noBytes_30 rfl (xpE.to (by subst_vars; first | with_reducible rfl | (simp only [m_noB, *]; done) | (simp only [m_noB, ix, *]; rfl) | (simp [m_noB, ix, up2_ap, bec_k, bec_i, *]; done)) (by subst_vars; first | with_reducible rfl | (simp only [m_noB, *]; done) | (simp only [m_noB, ix, *]; rfl) | (simp [m_noB, ix, up2_ap, bec_k, bec_i, *]; done)) rfl rfl)
    · skip
      refine x_bipush h dX3_noBytes_24 (-12) rfl ?_
      refine x_goto h 30 dX3_noBytes_26 rfl ?_
      exact x_iret h dX3_noBytes_30 rfl (xpE.to (by subst_vars; first | with_reducible rfl | (simp only [m_noB, *]; done) | (simp only [m_noB, ix, *]; rfl) | (simp [m_noB, ix, up2_ap, bec_k, bec_i, *]; done)) (by subst_vars; first | with_reducible rfl | (simp only [m_noB, *]; done) | (simp only [m_noB, ix, *]; rfl) | (simp [m_noB, ix, up2_ap, bec_k, bec_i, *]; done)) rfl rfl)
  · skip
    refine x_bipush h dX3_noBytes_10 (-11) rfl ?_
    refine x_goto h 30 dX3_noBytes_12 rfl ?_
    exact x_iret h dX3_noBytes_30 rfl (xpE.to (by subst_vars; first | with_reducible rfl | (simp only [m_noB, *]; done) | (simp only [m_noB, ix, *]; rfl) | (simp [m_noB, ix, up2_ap, bec_k, bec_i, *]; done)) (by subst_vars; first | with_reducible rfl | (simp only [m_noB, *]; done) | (simp only [m_noB, ix, *]; rfl) | (simp [m_noB, ix, up2_ap, bec_k, bec_i, *]; done)) rfl rfl)
set_option maxHeartbeats 4000000 in
theorem t_swaps (l : Launch) (G : xG_T) (n : Nat) (hn : 103 ≤ n) (I : xI_T) (L : xL_T) (k : Nat) (hk : k + 1 < 21) : CM l 0 yX3_swaps cX3_swaps 3 (none) G n [.ref (xb G + 70), .int (nI k)] I L (none) (m_swaps I k) (L) := by
  refine Cg.intro (cls := RX3) (pad := 1) (lv := [some (.ref (xb G + 70)), some (.int (nI k)), none]) rfl (by decide) (Nat.le_of_ble_eq_true rfl) rfl (fun Θ h => ?_)
  refine x_aload_n h dX3_swaps_0 rfl ?_
  refine x_getr h (j := 96) g_X3_95 (mlt hn rfl) rfl (by decide) rfl dX3_swaps_1 ?_
  refine x_iload_n h dX3_swaps_4 rfl ?_
  refine x_iald h (mlt hn rfl) rfl (vp_in_nI (by omega) (by first | decide | omega)) (k) (nI_clamp (by omega)) dX3_swaps_5 ?_
  refine x_nmi (fun v6 ev6 => ?_)
  refine x_istore_n h dX3_swaps_6 rfl (by decide) [some (.ref (xb G + 70)), some (.int (nI k)), some (.int v6)] rfl ?_
  refine x_aload_n h dX3_swaps_7 rfl ?_
  refine x_getr h (j := 96) g_X3_95 (mlt hn rfl) rfl (by decide) rfl dX3_swaps_8 ?_
  refine x_iload_n h dX3_swaps_11 rfl ?_
  refine x_aload_n h dX3_swaps_12 rfl ?_
  refine x_getr h (j := 96) g_X3_95 (mlt hn rfl) rfl (by decide) rfl dX3_swaps_13 ?_
  refine x_iload_n h dX3_swaps_16 rfl ?_
  refine x_iconst h dX3_swaps_17 (1) rfl ?_
  refine x_iaddE h (nI (k + 1)) (nI_1 k) dX3_swaps_18 ?_
  refine x_iald h (mlt hn rfl) rfl (vp_in_nI (by omega) (by first | decide | omega)) (k + 1) (nI_clamp (by omega)) dX3_swaps_19 ?_
  refine x_iast h (mlt hn rfl) rfl (vp_in_nI (by omega) (by first | decide | omega)) (k) (nI_clamp (by omega)) dX3_swaps_20 (fun J20 eJ20 => ?_)
  refine x_aload_n h dX3_swaps_21 rfl ?_
  refine x_getr h (j := 96) g_X3_95 (mlt hn rfl) rfl (by decide) rfl dX3_swaps_22 ?_
  refine x_iload_n h dX3_swaps_25 rfl ?_
  refine x_iconst h dX3_swaps_26 (1) rfl ?_
  refine x_iaddE h (nI (k + 1)) (nI_1 k) dX3_swaps_27 ?_
  refine x_iload_n h dX3_swaps_28 rfl ?_
  refine x_iast h (mlt hn rfl) rfl (vp_in_nI (by omega) (by first | decide | omega)) (k + 1) (nI_clamp (by omega)) dX3_swaps_29 (fun J29 eJ29 => ?_)
  exact x_vret h dX3_swaps_30 rfl (xpE.to rfl (by subst_vars; simp only [m_swaps]) rfl rfl)
