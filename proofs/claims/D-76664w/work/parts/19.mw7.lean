/-! WALKS OF THE REFERENCE: pairs, in deed -/
theorem m_X3_127 : xcs RX3 127 yX3_isShelf cX3_isShelf 1 (some .boolean) 1 := ⟨lw_S q1858 q1859 q102 q1860, by decide +kernel, by decide +kernel, by decide +kernel⟩
theorem m_X3_276 : xcv RX3 276 3 yX3_noBytes cX3_noBytes 2 (some .int) 1 := ⟨_, _, _, rfl, lw_V q1964 q1966 qs65 q102 q1967, rfl, by decide +kernel, by decide +kernel, by decide +kernel⟩
theorem g_X3_58 : xfg RX3 58 3 23 := ⟨_, _, _, rfl, by decide, in_X3, q1703, rfl⟩
theorem m_X3_282 : xcv RX3 282 3 yX3_ends cX3_ends 2 (none) 0 := ⟨_, _, _, rfl, lw_V q2021 q2023 qs76 q102 q2024, rfl, by decide +kernel, by decide +kernel, by decide +kernel⟩
set_option maxHeartbeats 4000000 in
theorem t_isPair (l : Launch) (G : xG_T) (n : Nat) (hn : 103 ≤ n) (I : xI_T) (L : xL_T) (ab : Int32)  : CM l 2 yX3_isPair cX3_isPair 2 (some .boolean) G n [.ref (xb G + 70), .int ab] I L (some (.int (m_pair I ab))) (I) (L) := by
  refine Cg.intro (cls := RX3) (pad := 0) (lv := [some (.ref (xb G + 70)), some (.int ab)]) rfl (by decide) (Nat.le_of_ble_eq_true rfl) rfl (fun Θ h => ?_)
  refine x_iload_n h dX3_isPair_0 rfl ?_
  refine x_if_lt h 41 dX3_isPair_1 rfl (fun c1 => ?_) (fun c1 => ?_)
  · skip
    refine x_iconst h dX3_isPair_41 (0) rfl ?_
    exact x_zret h dX3_isPair_42 rfl rfl (xpE.to (by unfold m_pair irm; first | rw [if_pos c1] | rw [if_neg c1, if_pos c12] | rw [if_neg c1, if_neg c12, if_pos c23] | rw [if_neg c1, if_neg c12, if_neg c23, if_pos c34] | rw [if_neg c1, if_neg c12, if_neg c23, if_neg c34]) rfl rfl rfl)
  · skip
    refine x_aload_n h dX3_isPair_4 rfl ?_
    refine x_iload_n h dX3_isPair_5 rfl ?_
    refine x_bipush h dX3_isPair_6 (10) rfl ?_
    refine x_idiv h dX3_isPair_8 (by decide) ?_
    refine x_callVEi h (As := [.int _]) (t_isBuyer l G n hn _ _ _ ) m_X3_137 (mlt hn rfl) rfl dX3_isPair_9 ⟨by decide, by decide⟩ ⟨by decide, by decide⟩ rfl (Nat.le_of_ble_eq_true rfl) ?_
    refine x_if_eq h 41 dX3_isPair_12 rfl (fun c12 => ?_) (fun c12 => ?_)
    · skip
      refine x_iconst h dX3_isPair_41 (0) rfl ?_
      exact x_zret h dX3_isPair_42 rfl rfl (xpE.to (by unfold m_pair irm; first | rw [if_pos c1] | rw [if_neg c1, if_pos c12] | rw [if_neg c1, if_neg c12, if_pos c23] | rw [if_neg c1, if_neg c12, if_neg c23, if_pos c34] | rw [if_neg c1, if_neg c12, if_neg c23, if_neg c34]) rfl rfl rfl)
    · skip
      refine x_aload_n h dX3_isPair_15 rfl ?_
      refine x_iload_n h dX3_isPair_16 rfl ?_
      refine x_bipush h dX3_isPair_17 (10) rfl ?_
      refine x_irem h dX3_isPair_19 (by decide) ?_
      refine x_callVEi h (As := [.int _]) (t_isBuyer l G n hn _ _ _ ) m_X3_137 (mlt hn rfl) rfl dX3_isPair_20 ⟨by decide, by decide⟩ ⟨by decide, by decide⟩ rfl (Nat.le_of_ble_eq_true rfl) ?_
      refine x_if_eq h 41 dX3_isPair_23 rfl (fun c23 => ?_) (fun c23 => ?_)
      · skip
        refine x_iconst h dX3_isPair_41 (0) rfl ?_
        exact x_zret h dX3_isPair_42 rfl rfl (xpE.to (by unfold m_pair irm; first | rw [if_pos c1] | rw [if_neg c1, if_pos c12] | rw [if_neg c1, if_neg c12, if_pos c23] | rw [if_neg c1, if_neg c12, if_neg c23, if_pos c34] | rw [if_neg c1, if_neg c12, if_neg c23, if_neg c34]) rfl rfl rfl)
      · skip
        refine x_iload_n h dX3_isPair_26 rfl ?_
        refine x_bipush h dX3_isPair_27 (10) rfl ?_
        refine x_idiv h dX3_isPair_29 (by decide) ?_
        refine x_iload_n h dX3_isPair_30 rfl ?_
        refine x_bipush h dX3_isPair_31 (10) rfl ?_
        refine x_irem h dX3_isPair_33 (by decide) ?_
        refine x_icmp_eq h 41 dX3_isPair_34 rfl (fun c34 => ?_) (fun c34 => ?_)
        · skip
          refine x_iconst h dX3_isPair_41 (0) rfl ?_
          exact x_zret h dX3_isPair_42 rfl rfl (xpE.to (by unfold m_pair irm; first | rw [if_pos c1] | rw [if_neg c1, if_pos c12] | rw [if_neg c1, if_neg c12, if_pos c23] | rw [if_neg c1, if_neg c12, if_neg c23, if_pos c34] | rw [if_neg c1, if_neg c12, if_neg c23, if_neg c34]) rfl rfl rfl)
        · skip
          refine x_iconst h dX3_isPair_37 (1) rfl ?_
          refine x_goto h 42 dX3_isPair_38 rfl ?_
          exact x_zret h dX3_isPair_42 rfl rfl (xpE.to (by unfold m_pair irm; first | rw [if_pos c1] | rw [if_neg c1, if_pos c12] | rw [if_neg c1, if_neg c12, if_pos c23] | rw [if_neg c1, if_neg c12, if_neg c23, if_pos c34] | rw [if_neg c1, if_neg c12, if_neg c23, if_neg c34]) rfl rfl rfl)
set_option maxHeartbeats 4000000 in
theorem t_areShelves (l : Launch) (G : xG_T) (n : Nat) (hn : 103 ≤ n) (I : xI_T) (L : xL_T) (ss : Int32)  : CM l 2 yX3_areShelves cX3_areShelves 2 (some .boolean) G n [.ref (xb G + 70), .int ss] I L (some (.int (m_areS ss))) (I) (L) := by
  refine Cg.intro (cls := RX3) (pad := 0) (lv := [some (.ref (xb G + 70)), some (.int ss)]) rfl (by decide) (Nat.le_of_ble_eq_true rfl) rfl (fun Θ h => ?_)
  refine x_iload_n h dX3_areShelves_0 rfl ?_
  refine x_if_lt h 28 dX3_areShelves_1 rfl (fun c1 => ?_) (fun c1 => ?_)
  · skip
    refine x_iconst h dX3_areShelves_28 (0) rfl ?_
    exact x_zret h dX3_areShelves_29 rfl rfl (xpE.to (by subst_vars; first | with_reducible rfl | (simp only [m_areS, irm, *]; done) | (simp only [m_areS, irm, ix, *]; rfl) | (simp [m_areS, irm, ix, up2_ap, bec_k, bec_i, *]; done)) (by subst_vars; first | with_reducible rfl | (simp only [m_areS, irm, *]; done) | (simp only [m_areS, irm, ix, *]; rfl) | (simp [m_areS, irm, ix, up2_ap, bec_k, bec_i, *]; done)) rfl rfl)
  · skip
    refine x_iload_n h dX3_areShelves_4 rfl ?_
    refine x_bipush h dX3_areShelves_5 (10) rfl ?_
    refine x_idiv h dX3_areShelves_7 (by decide) ?_
    refine x_callSEi h (As := [.int _]) (t_isShelf l G n hn _ _ _ ) m_X3_127 dX3_areShelves_8 ⟨by decide, by decide⟩ ⟨by decide, by decide⟩ rfl (Nat.le_of_ble_eq_true rfl) ?_
    refine x_if_eq h 28 dX3_areShelves_11 rfl (fun c11 => ?_) (fun c11 => ?_)
    · skip
      refine x_iconst h dX3_areShelves_28 (0) rfl ?_
      exact x_zret h dX3_areShelves_29 rfl rfl (xpE.to (by subst_vars; first | with_reducible rfl | (simp only [m_areS, irm, *]; done) | (simp only [m_areS, irm, ix, *]; rfl) | (simp [m_areS, irm, ix, up2_ap, bec_k, bec_i, *]; done)) (by subst_vars; first | with_reducible rfl | (simp only [m_areS, irm, *]; done) | (simp only [m_areS, irm, ix, *]; rfl) | (simp [m_areS, irm, ix, up2_ap, bec_k, bec_i, *]; done)) rfl rfl)
    · skip
      refine x_iload_n h dX3_areShelves_14 rfl ?_
      refine x_bipush h dX3_areShelves_15 (10) rfl ?_
      refine x_irem h dX3_areShelves_17 (by decide) ?_
      refine x_callSEi h (As := [.int _]) (t_isShelf l G n hn _ _ _ ) m_X3_127 dX3_areShelves_18 ⟨by decide, by decide⟩ ⟨by decide, by decide⟩ rfl (Nat.le_of_ble_eq_true rfl) ?_
      refine x_if_eq h 28 dX3_areShelves_21 rfl (fun c21 => ?_) (fun c21 => ?_)
      · skip
        refine x_iconst h dX3_areShelves_28 (0) rfl ?_
        exact x_zret h dX3_areShelves_29 rfl rfl (xpE.to (by subst_vars; first | with_reducible rfl | (simp only [m_areS, irm, *]; done) | (simp only [m_areS, irm, ix, *]; rfl) | (simp [m_areS, irm, ix, up2_ap, bec_k, bec_i, *]; done)) (by subst_vars; first | with_reducible rfl | (simp only [m_areS, irm, *]; done) | (simp only [m_areS, irm, ix, *]; rfl) | (simp [m_areS, irm, ix, up2_ap, bec_k, bec_i, *]; done)) rfl rfl)
      · skip
        refine x_iconst h dX3_areShelves_24 (1) rfl ?_
        refine x_goto h 29 dX3_areShelves_25 rfl ?_
        exact x_zret h dX3_areShelves_29 rfl rfl (xpE.to (by subst_vars; first | with_reducible rfl | (simp only [m_areS, irm, *]; done) | (simp only [m_areS, irm, ix, *]; rfl) | (simp [m_areS, irm, ix, up2_ap, bec_k, bec_i, *]; done)) (by subst_vars; first | with_reducible rfl | (simp only [m_areS, irm, *]; done) | (simp only [m_areS, irm, ix, *]; rfl) | (simp [m_areS, irm, ix, up2_ap, bec_k, bec_i, *]; done)) rfl rfl)
set_option maxHeartbeats 4000000 in
theorem t_noRows (l : Launch) (G : xG_T) (n : Nat) (hn : 103 ≤ n) (I : xI_T) (L : xL_T) (ss : Int32) (h1 : vp_in (ss / 10) 6) (h2 : vp_in (irm ss 10) 6) : CM l 1 yX3_noRows cX3_noRows 3 (some .int) G n [.ref (xb G + 70), .int ss] I L (some (.int (m_noR I ss))) (I) (L) := by
  refine Cg.intro (cls := RX3) (pad := 1) (lv := [some (.ref (xb G + 70)), some (.int ss), none]) rfl (by decide) (Nat.le_of_ble_eq_true rfl) rfl (fun Θ h => ?_)
  refine x_aload_n h dX3_noRows_0 rfl ?_
  refine x_iload_n h dX3_noRows_1 rfl ?_
  refine x_bipush h dX3_noRows_2 (10) rfl ?_
  refine x_idiv h dX3_noRows_4 (by decide) ?_
  refine x_callVEi h (As := [.int _]) (t_noBytes l G n hn _ _ _ h1) m_X3_276 (mlt hn rfl) rfl dX3_noRows_5 ⟨by decide, by decide⟩ ⟨by decide, by decide⟩ rfl (Nat.le_of_ble_eq_true rfl) ?_
  refine x_nmi (fun v8 ev8 => ?_)
  refine x_istore_n h dX3_noRows_8 rfl (by decide) [some (.ref (xb G + 70)), some (.int ss), some (.int v8)] rfl ?_
  refine x_iload_n h dX3_noRows_9 rfl ?_
  refine x_if_ge h 17 dX3_noRows_10 rfl (fun c10 => ?_) (fun c10 => ?_)
  · skip
    have n10 := Int32.not_lt.mpr c10
    refine x_aload_n h dX3_noRows_17 rfl ?_
    refine x_iload_n h dX3_noRows_18 rfl ?_
    refine x_bipush h dX3_noRows_19 (10) rfl ?_
    refine x_irem h dX3_noRows_21 (by decide) ?_
    refine x_callVEi h (As := [.int _]) (t_noBytes l G n hn _ _ _ h2) m_X3_276 (mlt hn rfl) rfl dX3_noRows_22 ⟨by decide, by decide⟩ ⟨by decide, by decide⟩ rfl (Nat.le_of_ble_eq_true rfl) ?_
    exact x_iret h dX3_noRows_25 rfl (xpE.to (by subst_vars; unfold m_noR; simp only [c10, n10, if_true, if_false]; try rfl) rfl rfl rfl)
  · skip
    have n10 := Int32.not_le.mp c10
    refine x_iload_n h dX3_noRows_13 rfl ?_
    refine x_goto h 25 dX3_noRows_14 rfl ?_
    exact x_iret h dX3_noRows_25 rfl (xpE.to (by subst_vars; unfold m_noR; simp only [c10, n10, if_true, if_false]; try rfl) rfl rfl rfl)
set_option maxHeartbeats 4000000 in
theorem t_comes (l : Launch) (G : xG_T) (n : Nat) (hn : 103 ≤ n) (I : xI_T) (L : xL_T) (o : Int32) (hT : Wtop I) : CM l 5 yX3_comes cX3_comes 2 (some .int) G n [.ref (xb G + 70), .int o] I L (some (.int ((m_comes I o).1))) ((m_comes I o).2) (L) := by
  refine Cg.intro (cls := RX3) (pad := 0) (lv := [some (.ref (xb G + 70)), some (.int o)]) rfl (by decide) (Nat.le_of_ble_eq_true rfl) rfl (fun Θ h => ?_)
  refine x_aload_n h dX3_comes_0 rfl ?_
  refine x_iload_n h dX3_comes_1 rfl ?_
  refine x_callVEi h (As := [.int _]) (t_isBuyer l G n hn _ _ _ ) m_X3_137 (mlt hn rfl) rfl dX3_comes_2 ⟨by decide, by decide⟩ ⟨by decide, by decide⟩ rfl (Nat.le_of_ble_eq_true rfl) ?_
  refine x_if_ne h 10 dX3_comes_5 rfl (fun c5 => ?_) (fun c5 => ?_)
  · skip
    refine x_aload_n h dX3_comes_10 rfl ?_
    refine x_iconst h dX3_comes_11 (0) rfl ?_
    refine x_puti h p_X3_241 (mlt hn rfl) rfl rfl rfl rfl dX3_comes_12 (fun J12 eJ12 => ?_)
    refine x_aload_n h dX3_comes_15 rfl ?_
    refine x_iload_n h dX3_comes_16 rfl ?_
    refine x_callVEi h (As := [.int _]) (t_goesIn l G n hn _ _ _ (isB_in hT.1.1 c5) (by rw [eJ12]; exact hT.1.mv (up2_k _ _ (by decide)) (up2_k _ _ (by decide)) (fun j _ _ => up2_i _ _ (by decide))) (by rw [eJ12]; exact hT.2.up rfl (by decide))) m_X3_260 (mlt hn rfl) rfl dX3_comes_17 ⟨by decide, by decide⟩ ⟨by decide, by decide⟩ rfl (Nat.le_of_ble_eq_true rfl) ?_
    refine x_nmI (fun J17 eJ17 => ?_)
    refine x_if_eq h 33 dX3_comes_20 rfl (fun c20 => ?_) (fun c20 => ?_)
    · skip
      refine x_aload_n h dX3_comes_33 rfl ?_
      refine x_getr h (j := 84) g_X3_58 (mlt hn rfl) rfl (by decide) rfl dX3_comes_34 ?_
      refine x_iconst h dX3_comes_37 (1) rfl ?_
      refine x_dup2_11 h dX3_comes_38 rfl rfl ?_
      refine x_iald h (mlt hn rfl) rfl (xk rfl) 1 rfl dX3_comes_39 ?_
      refine x_aload_n h dX3_comes_40 rfl ?_
      refine x_geti h g_X3_244 (mlt hn rfl) rfl rfl dX3_comes_41 ?_
      refine x_iadd h dX3_comes_44 ?_
      refine x_iast h (mlt hn rfl) rfl (xk rfl) 1 rfl dX3_comes_45 (fun J45 eJ45 => ?_)
      refine x_aload_n h dX3_comes_46 rfl ?_
      refine x_getr h (j := 84) g_X3_58 (mlt hn rfl) rfl (by decide) rfl dX3_comes_47 ?_
      refine x_iconst h dX3_comes_50 (2) rfl ?_
      refine x_dup2_11 h dX3_comes_51 rfl rfl ?_
      refine x_iald h (mlt hn rfl) rfl (xk rfl) 2 rfl dX3_comes_52 ?_
      refine x_aload_n h dX3_comes_53 rfl ?_
      refine x_geti h g_X3_241 (mlt hn rfl) rfl rfl dX3_comes_54 ?_
      refine x_iadd h dX3_comes_57 ?_
      refine x_iast h (mlt hn rfl) rfl (xk rfl) 2 rfl dX3_comes_58 (fun J58 eJ58 => ?_)
      refine x_aload_n h dX3_comes_59 rfl ?_
      refine x_geti h g_X3_244 (mlt hn rfl) rfl rfl dX3_comes_60 ?_
      exact x_iret h dX3_comes_63 rfl (xpE.to (by subst_vars; first | with_reducible rfl | (simp only [m_comes, *]; done) | (simp only [m_comes, ix, *]; rfl) | (simp [m_comes, ix, up2_ap, bec_k, bec_i, *]; done)) (by subst_vars; first | with_reducible rfl | (simp only [m_comes, *]; done) | (simp only [m_comes, ix, *]; rfl) | (simp [m_comes, ix, up2_ap, bec_k, bec_i, *]; done)) rfl rfl)
    · skip
      refine x_aload_n h dX3_comes_23 rfl ?_
      refine x_getr h (j := 84) g_X3_58 (mlt hn rfl) rfl (by decide) rfl dX3_comes_24 ?_
      refine x_iconst h dX3_comes_27 (0) rfl ?_
      refine x_dup2_11 h dX3_comes_28 rfl rfl ?_
      refine x_iald h (mlt hn rfl) rfl (xk rfl) 0 rfl dX3_comes_29 ?_
      refine x_iconst h dX3_comes_30 (1) rfl ?_
      refine x_iadd h dX3_comes_31 ?_
      refine x_iast h (mlt hn rfl) rfl (xk rfl) 0 rfl dX3_comes_32 (fun J32 eJ32 => ?_)
      refine x_aload_n h dX3_comes_33 rfl ?_
      refine x_getr h (j := 84) g_X3_58 (mlt hn rfl) rfl (by decide) rfl dX3_comes_34 ?_
      refine x_iconst h dX3_comes_37 (1) rfl ?_
      refine x_dup2_11 h dX3_comes_38 rfl rfl ?_
      refine x_iald h (mlt hn rfl) rfl (xk rfl) 1 rfl dX3_comes_39 ?_
      refine x_aload_n h dX3_comes_40 rfl ?_
      refine x_geti h g_X3_244 (mlt hn rfl) rfl rfl dX3_comes_41 ?_
      refine x_iadd h dX3_comes_44 ?_
      refine x_iast h (mlt hn rfl) rfl (xk rfl) 1 rfl dX3_comes_45 (fun J45 eJ45 => ?_)
      refine x_aload_n h dX3_comes_46 rfl ?_
      refine x_getr h (j := 84) g_X3_58 (mlt hn rfl) rfl (by decide) rfl dX3_comes_47 ?_
      refine x_iconst h dX3_comes_50 (2) rfl ?_
      refine x_dup2_11 h dX3_comes_51 rfl rfl ?_
      refine x_iald h (mlt hn rfl) rfl (xk rfl) 2 rfl dX3_comes_52 ?_
      refine x_aload_n h dX3_comes_53 rfl ?_
      refine x_geti h g_X3_241 (mlt hn rfl) rfl rfl dX3_comes_54 ?_
      refine x_iadd h dX3_comes_57 ?_
      refine x_iast h (mlt hn rfl) rfl (xk rfl) 2 rfl dX3_comes_58 (fun J58 eJ58 => ?_)
      refine x_aload_n h dX3_comes_59 rfl ?_
      refine x_geti h g_X3_244 (mlt hn rfl) rfl rfl dX3_comes_60 ?_
      exact x_iret h dX3_comes_63 rfl (xpE.to (by subst_vars; first | with_reducible rfl | (simp only [m_comes, *]; done) | (simp only [m_comes, ix, *]; rfl) | (simp [m_comes, ix, up2_ap, bec_k, bec_i, *]; done)) (by subst_vars; first | with_reducible rfl | (simp only [m_comes, *]; done) | (simp only [m_comes, ix, *]; rfl) | (simp [m_comes, ix, up2_ap, bec_k, bec_i, *]; done)) rfl rfl)
  · skip
    refine x_iconst h dX3_comes_8 (-1) rfl ?_
    exact x_iret h dX3_comes_9 rfl (xpE.to (by subst_vars; first | with_reducible rfl | (simp only [m_comes, *]; done) | (simp only [m_comes, ix, *]; rfl) | (simp [m_comes, ix, up2_ap, bec_k, bec_i, *]; done)) (by subst_vars; first | with_reducible rfl | (simp only [m_comes, *]; done) | (simp only [m_comes, ix, *]; rfl) | (simp [m_comes, ix, up2_ap, bec_k, bec_i, *]; done)) rfl rfl)
set_option maxHeartbeats 4000000 in
theorem t_evening (l : Launch) (G : xG_T) (n : Nat) (hn : 103 ≤ n) (I : xI_T) (L : xL_T)   : CM l 2 yX3_evening cX3_evening 1 (some .int) G n [.ref (xb G + 70)] I L (some (.int ((m_even I).1))) ((m_even I).2) (L) := by
  refine Cg.intro (cls := RX3) (pad := 0) (lv := [some (.ref (xb G + 70))]) rfl (by decide) (Nat.le_of_ble_eq_true rfl) rfl (fun Θ h => ?_)
  refine x_aload_n h dX3_evening_0 rfl ?_
  refine x_callVEv h (As := []) (t_ends l G n hn _ _  ) m_X3_282 (mlt hn rfl) rfl dX3_evening_1 ⟨by decide, by decide⟩ ⟨by decide, by decide⟩ rfl (Nat.le_of_ble_eq_true rfl) ?_
  refine x_nmI (fun J1 eJ1 => ?_)
  refine x_aload_n h dX3_evening_4 rfl ?_
  refine x_getr h (j := 84) g_X3_58 (mlt hn rfl) rfl (by decide) rfl dX3_evening_5 ?_
  refine x_iconst h dX3_evening_8 (3) rfl ?_
  refine x_dup2_11 h dX3_evening_9 rfl rfl ?_
  refine x_iald h (mlt hn rfl) rfl (xk rfl) 3 rfl dX3_evening_10 ?_
  refine x_iconst h dX3_evening_11 (1) rfl ?_
  refine x_iadd h dX3_evening_12 ?_
  refine x_iast h (mlt hn rfl) rfl (xk rfl) 3 rfl dX3_evening_13 (fun J13 eJ13 => ?_)
  refine x_aload_n h dX3_evening_14 rfl ?_
  refine x_getr h (j := 72) g_X3_22 (mlt hn rfl) rfl (by decide) rfl dX3_evening_15 ?_
  refine x_bipush h dX3_evening_18 (8) rfl ?_
  refine x_iald h (mlt hn rfl) rfl (xk rfl) 8 rfl dX3_evening_20 ?_
  exact x_iret h dX3_evening_21 rfl (xpE.to (by subst_vars; first | with_reducible rfl | (simp only [m_even, *]; done) | (simp only [m_even, ix, *]; rfl) | (simp [m_even, ix, up2_ap, bec_k, bec_i, *]; done)) (by subst_vars; first | with_reducible rfl | (simp only [m_even, *]; done) | (simp only [m_even, ix, *]; rfl) | (simp [m_even, ix, up2_ap, bec_k, bec_i, *]; done)) rfl rfl)
set_option maxHeartbeats 4000000 in
theorem t_gives (l : Launch) (G : xG_T) (n : Nat) (hn : 103 ≤ n) (I : xI_T) (L : xL_T) (o : Int32) (p : Int32) (v : Int32) (hT : Wtop I) : CM l 2 yX3_gives cX3_gives 4 (some .int) G n [.ref (xb G + 70), .int o, .int p, .int v] I L (some (.int ((m_gives I o p v).1))) ((m_gives I o p v).2) (L) := by
  refine Cg.intro (cls := RX3) (pad := 0) (lv := [some (.ref (xb G + 70)), some (.int o), some (.int p), some (.int v)]) rfl (by decide) (Nat.le_of_ble_eq_true rfl) rfl (fun Θ h => ?_)
  refine x_aload_n h dX3_gives_0 rfl ?_
  refine x_iload_n h dX3_gives_1 rfl ?_
  refine x_callVEi h (As := [.int _]) (t_isBuyer l G n hn _ _ _ ) m_X3_137 (mlt hn rfl) rfl dX3_gives_2 ⟨by decide, by decide⟩ ⟨by decide, by decide⟩ rfl (Nat.le_of_ble_eq_true rfl) ?_
  refine x_if_eq h 32 dX3_gives_5 rfl (fun c5 => ?_) (fun c5 => ?_)
  · skip
    refine x_iconst h dX3_gives_32 (-1) rfl ?_
    exact x_iret h dX3_gives_33 rfl (xpE.to (by subst_vars; first | with_reducible rfl | (simp only [m_gives, *]; done) | (simp only [m_gives, ix, *]; rfl) | (simp [m_gives, ix, up2_ap, bec_k, bec_i, *]; done)) (by subst_vars; first | with_reducible rfl | (simp only [m_gives, *]; done) | (simp only [m_gives, ix, *]; rfl) | (simp [m_gives, ix, up2_ap, bec_k, bec_i, *]; done)) rfl rfl)
  · skip
    refine x_aload_n h dX3_gives_8 rfl ?_
    refine x_iload_n h dX3_gives_9 rfl ?_
    refine x_callVEi h (As := [.int _]) (t_isBuyer l G n hn _ _ _ ) m_X3_137 (mlt hn rfl) rfl dX3_gives_10 ⟨by decide, by decide⟩ ⟨by decide, by decide⟩ rfl (Nat.le_of_ble_eq_true rfl) ?_
    refine x_if_eq h 32 dX3_gives_13 rfl (fun c13 => ?_) (fun c13 => ?_)
    · skip
      refine x_iconst h dX3_gives_32 (-1) rfl ?_
      exact x_iret h dX3_gives_33 rfl (xpE.to (by subst_vars; first | with_reducible rfl | (simp only [m_gives, *]; done) | (simp only [m_gives, ix, *]; rfl) | (simp [m_gives, ix, up2_ap, bec_k, bec_i, *]; done)) (by subst_vars; first | with_reducible rfl | (simp only [m_gives, *]; done) | (simp only [m_gives, ix, *]; rfl) | (simp [m_gives, ix, up2_ap, bec_k, bec_i, *]; done)) rfl rfl)
    · skip
      refine x_iload_n h dX3_gives_16 rfl ?_
      refine x_iload_n h dX3_gives_17 rfl ?_
      refine x_icmp_eq h 32 dX3_gives_18 rfl (fun c18 => ?_) (fun c18 => ?_)
      · skip
        refine x_iconst h dX3_gives_32 (-1) rfl ?_
        exact x_iret h dX3_gives_33 rfl (xpE.to (by subst_vars; first | with_reducible rfl | (simp only [m_gives, *]; done) | (simp only [m_gives, ix, *]; rfl) | (simp [m_gives, ix, up2_ap, bec_k, bec_i, *]; done)) (by subst_vars; first | with_reducible rfl | (simp only [m_gives, *]; done) | (simp only [m_gives, ix, *]; rfl) | (simp [m_gives, ix, up2_ap, bec_k, bec_i, *]; done)) rfl rfl)
      · skip
        refine x_iload_n h dX3_gives_21 rfl ?_
        refine x_iconst h dX3_gives_22 (1) rfl ?_
        refine x_sipush h dX3_gives_23 (999) rfl ?_
        refine x_callSEi h (As := [.int _, .int _, .int _]) (t_within l G n hn _ _ _ _ _ ) m_X3_119 dX3_gives_26 ⟨by decide, by decide⟩ ⟨by decide, by decide⟩ rfl (Nat.le_of_ble_eq_true rfl) ?_
        refine x_if_ne h 34 dX3_gives_29 rfl (fun c29 => ?_) (fun c29 => ?_)
        · skip
          refine x_aload_n h dX3_gives_34 rfl ?_
          refine x_getr h (j := 72) g_X3_22 (mlt hn rfl) rfl (by decide) rfl dX3_gives_35 ?_
          refine x_iload_n h dX3_gives_38 rfl ?_
          refine x_iald h (mlt hn rfl) rfl (xin_mono (isB_in hT.1.1 c5) (by decide)) _ rfl dX3_gives_39 ?_
          refine x_iload_n h dX3_gives_40 rfl ?_
          refine x_icmp_ge h 47 dX3_gives_41 rfl (fun c41 => ?_) (fun c41 => ?_)
          · skip
            have n41 := Int32.not_lt.mpr c41
            refine x_aload_n h dX3_gives_47 rfl ?_
            refine x_getr h (j := 72) g_X3_22 (mlt hn rfl) rfl (by decide) rfl dX3_gives_48 ?_
            refine x_iload_n h dX3_gives_51 rfl ?_
            refine x_dup2_11 h dX3_gives_52 rfl rfl ?_
            refine x_iald h (mlt hn rfl) rfl (xin_mono (isB_in hT.1.1 c5) (by decide)) _ rfl dX3_gives_53 ?_
            refine x_iload_n h dX3_gives_54 rfl ?_
            refine x_isub h dX3_gives_55 ?_
            refine x_iast h (mlt hn rfl) rfl (xin_mono (isB_in hT.1.1 c5) (by decide)) _ rfl dX3_gives_56 (fun J56 eJ56 => ?_)
            refine x_aload_n h dX3_gives_57 rfl ?_
            refine x_getr h (j := 72) g_X3_22 (mlt hn rfl) rfl (by decide) rfl dX3_gives_58 ?_
            refine x_iload_n h dX3_gives_61 rfl ?_
            refine x_sipush h dX3_gives_62 (999) rfl ?_
            refine x_aload_n h dX3_gives_65 rfl ?_
            refine x_getr h (j := 72) g_X3_22 (mlt hn rfl) rfl (by decide) rfl dX3_gives_66 ?_
            refine x_iload_n h dX3_gives_69 rfl ?_
            refine x_iald h (mlt hn rfl) rfl (xin_mono (isB_in hT.1.1 c13) (by decide)) _ rfl dX3_gives_70 ?_
            refine x_iload_n h dX3_gives_71 rfl ?_
            refine x_iadd h dX3_gives_72 ?_
            refine x_mmin h q1992 (by decide) ⟨by decide, by decide⟩ (Nat.le_of_ble_eq_true rfl) dX3_gives_73 ?_
            refine x_iast h (mlt hn rfl) rfl (xin_mono (isB_in hT.1.1 c13) (by decide)) _ rfl dX3_gives_76 (fun J76 eJ76 => ?_)
            refine x_aload_n h dX3_gives_77 rfl ?_
            refine x_getr h (j := 84) g_X3_58 (mlt hn rfl) rfl (by decide) rfl dX3_gives_78 ?_
            refine x_iconst h dX3_gives_81 (4) rfl ?_
            refine x_dup2_11 h dX3_gives_82 rfl rfl ?_
            refine x_iald h (mlt hn rfl) rfl (xk rfl) 4 rfl dX3_gives_83 ?_
            refine x_iload_n h dX3_gives_84 rfl ?_
            refine x_iadd h dX3_gives_85 ?_
            refine x_iast h (mlt hn rfl) rfl (xk rfl) 4 rfl dX3_gives_86 (fun J86 eJ86 => ?_)
            refine x_aload_n h dX3_gives_87 rfl ?_
            refine x_getr h (j := 72) g_X3_22 (mlt hn rfl) rfl (by decide) rfl dX3_gives_88 ?_
            refine x_iload_n h dX3_gives_91 rfl ?_
            refine x_iald h (mlt hn rfl) rfl (xin_mono (isB_in hT.1.1 c5) (by decide)) _ rfl dX3_gives_92 ?_
            exact x_iret h dX3_gives_93 rfl (xpE.to (by subst_vars; first | with_reducible rfl | (simp only [m_gives, *]; done) | (simp only [m_gives, ix, *]; rfl) | (simp [m_gives, ix, up2_ap, bec_k, bec_i, *]; done)) (by subst_vars; first | with_reducible rfl | (simp only [m_gives, *]; done) | (simp only [m_gives, ix, *]; rfl) | (simp [m_gives, ix, up2_ap, bec_k, bec_i, *]; done)) rfl rfl)
          · skip
            have n41 := Int32.not_le.mp c41
            refine x_bipush h dX3_gives_44 (-5) rfl ?_
            exact x_iret h dX3_gives_46 rfl (xpE.to (by subst_vars; first | with_reducible rfl | (simp only [m_gives, *]; done) | (simp only [m_gives, ix, *]; rfl) | (simp [m_gives, ix, up2_ap, bec_k, bec_i, *]; done)) (by subst_vars; first | with_reducible rfl | (simp only [m_gives, *]; done) | (simp only [m_gives, ix, *]; rfl) | (simp [m_gives, ix, up2_ap, bec_k, bec_i, *]; done)) rfl rfl)
        · skip
          refine x_iconst h dX3_gives_32 (-1) rfl ?_
          exact x_iret h dX3_gives_33 rfl (xpE.to (by subst_vars; first | with_reducible rfl | (simp only [m_gives, *]; done) | (simp only [m_gives, ix, *]; rfl) | (simp [m_gives, ix, up2_ap, bec_k, bec_i, *]; done)) (by subst_vars; first | with_reducible rfl | (simp only [m_gives, *]; done) | (simp only [m_gives, ix, *]; rfl) | (simp [m_gives, ix, up2_ap, bec_k, bec_i, *]; done)) rfl rfl)
set_option maxHeartbeats 4000000 in
theorem t_led (l : Launch) (G : xG_T) (n : Nat) (hn : 103 ≤ n) (I : xI_T) (L : xL_T) (w : Int32)  : CM l 1 yX3_led cX3_led 2 (some .int) G n [.ref (xb G + 70), .int w] I L (some (.int (m_led I w))) (I) (L) := by
  refine Cg.intro (cls := RX3) (pad := 0) (lv := [some (.ref (xb G + 70)), some (.int w)]) rfl (by decide) (Nat.le_of_ble_eq_true rfl) rfl (fun Θ h => ?_)
  refine x_iload_n h dX3_led_0 rfl ?_
  refine x_iconst h dX3_led_1 (0) rfl ?_
  refine x_iconst h dX3_led_2 (4) rfl ?_
  refine x_callSEi h (As := [.int _, .int _, .int _]) (t_within l G n hn _ _ _ _ _ ) m_X3_119 dX3_led_3 ⟨by decide, by decide⟩ ⟨by decide, by decide⟩ rfl (Nat.le_of_ble_eq_true rfl) ?_
  refine x_if_eq h 18 dX3_led_6 rfl (fun c6 => ?_) (fun c6 => ?_)
  · skip
    refine x_iconst h dX3_led_18 (-1) rfl ?_
    exact x_iret h dX3_led_19 rfl (xpE.to (by subst_vars; first | with_reducible rfl | (simp only [m_led, *]; done) | (simp only [m_led, ix, *]; rfl) | (simp [m_led, ix, up2_ap, bec_k, bec_i, *]; done)) (by subst_vars; first | with_reducible rfl | (simp only [m_led, *]; done) | (simp only [m_led, ix, *]; rfl) | (simp [m_led, ix, up2_ap, bec_k, bec_i, *]; done)) rfl rfl)
  · skip
    refine x_aload_n h dX3_led_9 rfl ?_
    refine x_getr h (j := 84) g_X3_58 (mlt hn rfl) rfl (by decide) rfl dX3_led_10 ?_
    refine x_iload_n h dX3_led_13 rfl ?_
    refine x_iald h (mlt hn rfl) rfl (xinR c6 (by decide)) _ rfl dX3_led_14 ?_
    refine x_goto h 19 dX3_led_15 rfl ?_
    exact x_iret h dX3_led_19 rfl (xpE.to (by subst_vars; first | with_reducible rfl | (simp only [m_led, *]; done) | (simp only [m_led, ix, *]; rfl) | (simp [m_led, ix, up2_ap, bec_k, bec_i, *]; done)) (by subst_vars; first | with_reducible rfl | (simp only [m_led, *]; done) | (simp only [m_led, ix, *]; rfl) | (simp [m_led, ix, up2_ap, bec_k, bec_i, *]; done)) rfl rfl)
