/-! WALKS OF THE REFERENCE: a coming of the row, flows -/
theorem m_X3_288 : xcv RX3 288 3 yX3_purseBehind cX3_purseBehind 3 (some .int) 1 := ⟨_, _, _, rfl, lw_V q2033 q2035 qs78 q102 q2036, rfl, by decide +kernel, by decide +kernel, by decide +kernel⟩
theorem m_X3_308 : xcv RX3 308 3 yX3_isPair cX3_isPair 2 (some .boolean) 1 := ⟨_, _, _, rfl, lw_V q2066 q2068 qs82 q102 q2069, rfl, by decide +kernel, by decide +kernel, by decide +kernel⟩
set_option maxHeartbeats 4000000 in
theorem t_coming (l : Launch) (G : xG_T) (n : Nat) (hn : 103 ≤ n) (I : xI_T) (L : xL_T) (s : Int32) (k : Int32) (w : Int32) (hT : Wtop I) : CM l 7 yX3_coming cX3_coming 5 (some .int) G n [.ref (xb G + 70), .int s, .int k, .int w] I L (some (.int ((m_coming I L s k w).1))) ((m_coming I L s k w).2) (L) := by
  refine Cg.intro (cls := RX3) (pad := 1) (lv := [some (.ref (xb G + 70)), some (.int s), some (.int k), some (.int w), none]) rfl (by decide) (Nat.le_of_ble_eq_true rfl) rfl (fun Θ h => ?_)
  have cut22 : ∀ (_u : Unit), (m_coming I L s k w = m_comingB I L s k w) → (vp_in s 6) → (¬ k < 0) → X Θ 0 0 n TyM I L FM 22 [some (.ref (xb G + 70)), some (.int s), some (.int k), some (.int w), none] [] := by
    intro _u hm hs hk
    refine x_aload_n h dX3_coming_22 rfl ?_
    refine x_iload_n h dX3_coming_23 rfl ?_
    refine x_callVEi h (As := [.int _]) (t_noBytes l G n hn _ _ _ hs) m_X3_276 (mlt hn rfl) rfl dX3_coming_24 ⟨by decide, by decide⟩ ⟨by decide, by decide⟩ rfl (Nat.le_of_ble_eq_true rfl) ?_
    refine x_nmi (fun v27 ev27 => ?_)
    refine x_istore h dX3_coming_27 (by decide) [some (.ref (xb G + 70)), some (.int s), some (.int k), some (.int w), some (.int v27)] rfl ?_
    refine x_iload h dX3_coming_29 rfl ?_
    refine x_if_ge h 37 dX3_coming_31 rfl (fun c31 => ?_) (fun c31 => ?_)
    · skip
      have n31 := Int32.not_lt.mpr c31
      refine x_aload_n h dX3_coming_37 rfl ?_
      refine x_iload_n h dX3_coming_38 rfl ?_
      refine x_callVEv h (As := [.int _]) (t_reads l G n hn _ _ _ hs hT.1.1) m_X3_279 (mlt hn rfl) rfl dX3_coming_39 ⟨by decide, by decide⟩ ⟨by decide, by decide⟩ rfl (Nat.le_of_ble_eq_true rfl) ?_
      refine x_nmI (fun J39 eJ39 => ?_)
      refine x_iload_n h dX3_coming_42 rfl ?_
      refine x_aload_n h dX3_coming_43 rfl ?_
      refine x_geti h g_X3_257 (mlt hn rfl) rfl rfl dX3_coming_44 ?_
      refine x_icmp_lt h 53 dX3_coming_47 rfl (fun c47 => ?_) (fun c47 => ?_)
      · skip
        have n47 := Int32.not_le.mpr c47
        refine x_aload_n h dX3_coming_53 rfl ?_
        have hkz : vp_in k 20 := coming_k hk c47 (by rw [eJ39]; exact hT.reads.2.2.1)
        refine x_callVEv h (As := []) (t_begins l G n hn _ _  ) m_X3_267 (mlt hn rfl) rfl dX3_coming_54 ⟨by decide, by decide⟩ ⟨by decide, by decide⟩ rfl (Nat.le_of_ble_eq_true rfl) ?_
        refine x_nmI (fun J54 eJ54 => ?_)
        refine x_aload_n h dX3_coming_57 rfl ?_
        refine x_callVEv h (As := []) (t_goes l G n hn _ _  (by rw [eJ54, eJ39]; exact hT.reads.begins)) m_X3_270 (mlt hn rfl) rfl dX3_coming_58 ⟨by decide, by decide⟩ ⟨by decide, by decide⟩ rfl (Nat.le_of_ble_eq_true rfl) ?_
        refine x_nmI (fun J58 eJ58 => ?_)
        have hB : m_comingB I L s k w = (m_pick3 (m_lays J58 93 0) w k, m_lays J58 93 0) := by unfold m_comingB; rw [if_neg (by rw [← ev27]; exact n31), ← eJ39, if_neg n47, eJ58, eJ54]; rfl
        refine x_aload_n h dX3_coming_61 rfl ?_
        refine x_aload_n h dX3_coming_62 rfl ?_
        refine x_getr h (j := 93) g_X3_86 (mlt hn rfl) rfl (by decide) rfl dX3_coming_63 ?_
        refine x_iconst h dX3_coming_66 (0) rfl ?_
        refine x_callVEv h (As := [.ref _, .int _]) (t_laysBack l G n hn _ _ 93 0 31 (Nat.le_of_ble_eq_true rfl) rfl (Nat.le_of_ble_eq_true rfl) (Nat.le_of_ble_eq_true rfl) (by decide)) m_X3_273 (mlt hn rfl) rfl dX3_coming_67 ⟨by decide, by decide⟩ ⟨by decide, by decide⟩ rfl (Nat.le_of_ble_eq_true rfl) ?_
        refine x_nmI (fun J67 eJ67 => ?_)
        refine x_iload_n h dX3_coming_70 rfl ?_
        refine x_if_ne h 83 dX3_coming_71 rfl (fun c71 => ?_) (fun c71 => ?_)
        · skip
          refine x_iload_n h dX3_coming_83 rfl ?_
          refine x_iconst h dX3_coming_84 (1) rfl ?_
          refine x_icmp_ne h 97 dX3_coming_85 rfl (fun c85 => ?_) (fun c85 => ?_)
          · skip
            refine x_aload_n h dX3_coming_97 rfl ?_
            refine x_getr h (j := 99) g_X3_104 (mlt hn rfl) rfl (by decide) rfl dX3_coming_98 ?_
            refine x_iload_n h dX3_coming_101 rfl ?_
            refine x_iald h (mlt hn rfl) rfl (xin_mono hkz (by decide)) _ rfl dX3_coming_102 ?_
            exact x_iret h dX3_coming_103 rfl (xpE.to (by rw [hm, hB, eJ67]; unfold m_pick3; first | rw [if_pos c71] | rw [if_neg c71, if_pos c85] | rw [if_neg c71, if_neg c85]) (by rw [hm, hB, eJ67]) rfl rfl)
          · skip
            refine x_aload_n h dX3_coming_88 rfl ?_
            refine x_getr h (j := 98) g_X3_101 (mlt hn rfl) rfl (by decide) rfl dX3_coming_89 ?_
            refine x_iload_n h dX3_coming_92 rfl ?_
            refine x_iald h (mlt hn rfl) rfl (xin_mono hkz (by decide)) _ rfl dX3_coming_93 ?_
            refine x_goto h 103 dX3_coming_94 rfl ?_
            exact x_iret h dX3_coming_103 rfl (xpE.to (by rw [hm, hB, eJ67]; unfold m_pick3; first | rw [if_pos c71] | rw [if_neg c71, if_pos c85] | rw [if_neg c71, if_neg c85]) (by rw [hm, hB, eJ67]) rfl rfl)
        · skip
          refine x_aload_n h dX3_coming_74 rfl ?_
          refine x_getr h (j := 97) g_X3_98 (mlt hn rfl) rfl (by decide) rfl dX3_coming_75 ?_
          refine x_iload_n h dX3_coming_78 rfl ?_
          refine x_iald h (mlt hn rfl) rfl (xin_mono hkz (by decide)) _ rfl dX3_coming_79 ?_
          refine x_goto h 103 dX3_coming_80 rfl ?_
          exact x_iret h dX3_coming_103 rfl (xpE.to (by rw [hm, hB, eJ67]; unfold m_pick3; first | rw [if_pos c71] | rw [if_neg c71, if_pos c85] | rw [if_neg c71, if_neg c85]) (by rw [hm, hB, eJ67]) rfl rfl)
      · skip
        have n47 := Int32.not_lt.mp c47
        refine x_bipush h dX3_coming_50 (-2) rfl ?_
        exact x_iret h dX3_coming_52 rfl (xpE.to (by rw [hm]; unfold m_comingB; rw [if_neg (by rw [← ev27]; exact n31), ← eJ39, if_pos n47]) (by rw [hm]; unfold m_comingB; rw [if_neg (by rw [← ev27]; exact n31), ← eJ39, if_pos n47]) rfl rfl)
    · skip
      have n31 := Int32.not_le.mp c31
      refine x_iload h dX3_coming_34 rfl ?_
      exact x_iret h dX3_coming_36 rfl (xpE.to (by rw [hm]; unfold m_comingB; rw [if_pos (by rw [← ev27]; exact n31), ev27]) (by rw [hm]; unfold m_comingB; rw [if_pos (by rw [← ev27]; exact n31)]) rfl rfl)
  refine x_iload_n h dX3_coming_0 rfl ?_
  refine x_callSEi h (As := [.int _]) (t_isShelf l G n hn _ _ _ ) m_X3_127 dX3_coming_1 ⟨by decide, by decide⟩ ⟨by decide, by decide⟩ rfl (Nat.le_of_ble_eq_true rfl) ?_
  refine x_if_eq h 20 dX3_coming_4 rfl (fun c4 => ?_) (fun c4 => ?_)
  · skip
    refine x_iconst h dX3_coming_20 (-1) rfl ?_
    exact x_iret h dX3_coming_21 rfl (xpE.to (by subst_vars; first | with_reducible rfl | (simp only [m_coming, *]; done) | (simp only [m_coming, ix, *]; rfl) | (simp [m_coming, ix, up2_ap, bec_k, bec_i, *]; done)) (by subst_vars; first | with_reducible rfl | (simp only [m_coming, *]; done) | (simp only [m_coming, ix, *]; rfl) | (simp [m_coming, ix, up2_ap, bec_k, bec_i, *]; done)) rfl rfl)
  · skip
    refine x_iload_n h dX3_coming_7 rfl ?_
    refine x_if_lt h 20 dX3_coming_8 rfl (fun c8 => ?_) (fun c8 => ?_)
    · skip
      refine x_iconst h dX3_coming_20 (-1) rfl ?_
      exact x_iret h dX3_coming_21 rfl (xpE.to (by subst_vars; first | with_reducible rfl | (simp only [m_coming, *]; done) | (simp only [m_coming, ix, *]; rfl) | (simp [m_coming, ix, up2_ap, bec_k, bec_i, *]; done)) (by subst_vars; first | with_reducible rfl | (simp only [m_coming, *]; done) | (simp only [m_coming, ix, *]; rfl) | (simp [m_coming, ix, up2_ap, bec_k, bec_i, *]; done)) rfl rfl)
    · skip
      refine x_iload_n h dX3_coming_11 rfl ?_
      refine x_iconst h dX3_coming_12 (0) rfl ?_
      refine x_iconst h dX3_coming_13 (2) rfl ?_
      refine x_callSEi h (As := [.int _, .int _, .int _]) (t_within l G n hn _ _ _ _ _ ) m_X3_119 dX3_coming_14 ⟨by decide, by decide⟩ ⟨by decide, by decide⟩ rfl (Nat.le_of_ble_eq_true rfl) ?_
      refine x_if_ne h 22 dX3_coming_17 rfl (fun c17 => ?_) (fun c17 => ?_)
      · skip
        exact cut22 () (by unfold m_coming; rw [if_neg c4, if_neg c8, if_neg c17]; rfl) (inR_s c4) c8
      · skip
        refine x_iconst h dX3_coming_20 (-1) rfl ?_
        exact x_iret h dX3_coming_21 rfl (xpE.to (by subst_vars; first | with_reducible rfl | (simp only [m_coming, *]; done) | (simp only [m_coming, ix, *]; rfl) | (simp [m_coming, ix, up2_ap, bec_k, bec_i, *]; done)) (by subst_vars; first | with_reducible rfl | (simp only [m_coming, *]; done) | (simp only [m_coming, ix, *]; rfl) | (simp [m_coming, ix, up2_ap, bec_k, bec_i, *]; done)) rfl rfl)
set_option maxHeartbeats 4000000 in
theorem t_flow (l : Launch) (G : xG_T) (n : Nat) (hn : 103 ≤ n) (I : xI_T) (L : xL_T) (s : Int32) (ab : Int32) (hT : Wtop I) : CM l 7 yX3_flow cX3_flow 4 (some .int) G n [.ref (xb G + 70), .int s, .int ab] I L (some (.int ((m_flow I L s ab).1))) ((m_flow I L s ab).2) (L) := by
  refine Cg.intro (cls := RX3) (pad := 1) (lv := [some (.ref (xb G + 70)), some (.int s), some (.int ab), none]) rfl (by decide) (Nat.le_of_ble_eq_true rfl) rfl (fun Θ h => ?_)
  have cut17 : ∀ (_u : Unit), (m_flow I L s ab = m_flowB I L s ab) → (vp_in s 6) → (¬ m_pair I ab = 0) → X Θ 0 0 n TyM I L FM 17 [some (.ref (xb G + 70)), some (.int s), some (.int ab), none] [] := by
    intro _u hm hs hp
    refine x_aload_n h dX3_flow_17 rfl ?_
    refine x_iload_n h dX3_flow_18 rfl ?_
    refine x_callVEi h (As := [.int _]) (t_noBytes l G n hn _ _ _ hs) m_X3_276 (mlt hn rfl) rfl dX3_flow_19 ⟨by decide, by decide⟩ ⟨by decide, by decide⟩ rfl (Nat.le_of_ble_eq_true rfl) ?_
    refine x_nmi (fun v22 ev22 => ?_)
    refine x_istore_n h dX3_flow_22 rfl (by decide) [some (.ref (xb G + 70)), some (.int s), some (.int ab), some (.int v22)] rfl ?_
    refine x_iload_n h dX3_flow_23 rfl ?_
    refine x_if_ge h 29 dX3_flow_24 rfl (fun c24 => ?_) (fun c24 => ?_)
    · skip
      have n24 := Int32.not_lt.mpr c24
      refine x_aload_n h dX3_flow_29 rfl ?_
      refine x_iload_n h dX3_flow_30 rfl ?_
      refine x_callVEv h (As := [.int _]) (t_reads l G n hn _ _ _ hs hT.1.1) m_X3_279 (mlt hn rfl) rfl dX3_flow_31 ⟨by decide, by decide⟩ ⟨by decide, by decide⟩ rfl (Nat.le_of_ble_eq_true rfl) ?_
      refine x_nmI (fun J31 eJ31 => ?_)
      refine x_aload_n h dX3_flow_34 rfl ?_
      refine x_iconst h dX3_flow_35 (0) rfl ?_
      refine x_callVEi h (As := [.int _]) (t_purseBehind l G n hn _ _ _ (by rw [eJ31]; exact hT.reads) (xk rfl)) m_X3_288 (mlt hn rfl) rfl dX3_flow_36 ⟨by decide, by decide⟩ ⟨by decide, by decide⟩ rfl (Nat.le_of_ble_eq_true rfl) ?_
      refine x_nmI (fun J36 eJ36 => ?_)
      have hB : m_flowB I L s ab = (J36 95 (ix (8 * (ab / 10) + irm ab 10)), J36) := by unfold m_flowB; rw [if_neg (by rw [← ev22]; exact n24), eJ36, eJ31]
      refine x_pop h dX3_flow_39 rfl ?_
      refine x_aload_n h dX3_flow_40 rfl ?_
      refine x_getr h (j := 95) g_X3_92 (mlt hn rfl) rfl (by decide) rfl dX3_flow_41 ?_
      refine x_bipush h dX3_flow_44 (8) rfl ?_
      refine x_iload_n h dX3_flow_46 rfl ?_
      refine x_bipush h dX3_flow_47 (10) rfl ?_
      refine x_idiv h dX3_flow_49 (by decide) ?_
      refine x_imul h dX3_flow_50 ?_
      refine x_iload_n h dX3_flow_51 rfl ?_
      refine x_bipush h dX3_flow_52 (10) rfl ?_
      refine x_irem h dX3_flow_54 (by decide) ?_
      refine x_iadd h dX3_flow_55 ?_
      refine x_iald h (mlt hn rfl) rfl (pair_in hT.1.1 hp) _ rfl dX3_flow_56 ?_
      exact x_iret h dX3_flow_57 rfl (xpE.to (by rw [hm, hB]; rfl) (by rw [hm, hB]) rfl rfl)
    · skip
      have n24 := Int32.not_le.mp c24
      refine x_iload_n h dX3_flow_27 rfl ?_
      exact x_iret h dX3_flow_28 rfl (xpE.to (by rw [hm]; unfold m_flowB; rw [if_pos (by rw [← ev22]; exact n24), ev22]) (by rw [hm]; unfold m_flowB; rw [if_pos (by rw [← ev22]; exact n24)]) rfl rfl)
  refine x_iload_n h dX3_flow_0 rfl ?_
  refine x_callSEi h (As := [.int _]) (t_isShelf l G n hn _ _ _ ) m_X3_127 dX3_flow_1 ⟨by decide, by decide⟩ ⟨by decide, by decide⟩ rfl (Nat.le_of_ble_eq_true rfl) ?_
  refine x_if_eq h 15 dX3_flow_4 rfl (fun c4 => ?_) (fun c4 => ?_)
  · skip
    refine x_iconst h dX3_flow_15 (-1) rfl ?_
    exact x_iret h dX3_flow_16 rfl (xpE.to (by subst_vars; first | with_reducible rfl | (simp only [m_flow, *]; done) | (simp only [m_flow, ix, *]; rfl) | (simp [m_flow, ix, up2_ap, bec_k, bec_i, *]; done)) (by subst_vars; first | with_reducible rfl | (simp only [m_flow, *]; done) | (simp only [m_flow, ix, *]; rfl) | (simp [m_flow, ix, up2_ap, bec_k, bec_i, *]; done)) rfl rfl)
  · skip
    refine x_aload_n h dX3_flow_7 rfl ?_
    refine x_iload_n h dX3_flow_8 rfl ?_
    refine x_callVEi h (As := [.int _]) (t_isPair l G n hn _ _ _ ) m_X3_308 (mlt hn rfl) rfl dX3_flow_9 ⟨by decide, by decide⟩ ⟨by decide, by decide⟩ rfl (Nat.le_of_ble_eq_true rfl) ?_
    refine x_if_ne h 17 dX3_flow_12 rfl (fun c12 => ?_) (fun c12 => ?_)
    · skip
      exact cut17 () (by unfold m_flow; rw [if_neg c4, if_neg c12]; rfl) (inR_s c4) c12
    · skip
      refine x_iconst h dX3_flow_15 (-1) rfl ?_
      exact x_iret h dX3_flow_16 rfl (xpE.to (by subst_vars; first | with_reducible rfl | (simp only [m_flow, *]; done) | (simp only [m_flow, ix, *]; rfl) | (simp [m_flow, ix, up2_ap, bec_k, bec_i, *]; done)) (by subst_vars; first | with_reducible rfl | (simp only [m_flow, *]; done) | (simp only [m_flow, ix, *]; rfl) | (simp [m_flow, ix, up2_ap, bec_k, bec_i, *]; done)) rfl rfl)
