/-! WALKS OF THE REFERENCE: a market in thought -/
theorem m_X3_279 : xcv RX3 279 3 yX3_reads cX3_reads 2 (none) 1 := ⟨_, _, _, rfl, lw_V q1968 q1970 qs66 q102 q1971, rfl, by decide +kernel, by decide +kernel, by decide +kernel⟩
set_option maxHeartbeats 4000000 in
theorem t_market (l : Launch) (G : xG_T) (n : Nat) (hn : 103 ≤ n) (I : xI_T) (L : xL_T) (s : Int32) (o : Int32) (w : Int32) (hT : Wtop I) : CM l 7 yX3_market cX3_market 6 (some .int) G n [.ref (xb G + 70), .int s, .int o, .int w] I L (some (.int ((m_market I L s o w).1))) ((m_market I L s o w).2) (L) := by
  refine Cg.intro (cls := RX3) (pad := 2) (lv := [some (.ref (xb G + 70)), some (.int s), some (.int o), some (.int w), none, none]) rfl (by decide) (Nat.le_of_ble_eq_true rfl) rfl (fun Θ h => ?_)
  have cut38 : ∀ (_u : Unit), (m_market I L s o w = m_marketB I L s o w) → (vp_in s 6) → (¬ w = 0 → ¬ w = 1 → ¬ w = 2 → vp_in o 8) → X Θ 0 0 n TyM I L FM 38 [some (.ref (xb G + 70)), some (.int s), some (.int o), some (.int w), none, none] [] := by
    intro _u hm hs hw
    refine x_aload_n h dX3_market_38 rfl ?_
    refine x_iload_n h dX3_market_39 rfl ?_
    refine x_callVEi h (As := [.int _]) (t_noBytes l G n hn _ _ _ hs) m_X3_276 (mlt hn rfl) rfl dX3_market_40 ⟨by decide, by decide⟩ ⟨by decide, by decide⟩ rfl (Nat.le_of_ble_eq_true rfl) ?_
    refine x_nmi (fun v43 ev43 => ?_)
    refine x_istore h dX3_market_43 (by decide) [some (.ref (xb G + 70)), some (.int s), some (.int o), some (.int w), some (.int v43), none] rfl ?_
    refine x_iload h dX3_market_45 rfl ?_
    refine x_if_ge h 53 dX3_market_47 rfl (fun c47 => ?_) (fun c47 => ?_)
    · skip
      have n47 := Int32.not_lt.mpr c47
      refine x_aload_n h dX3_market_53 rfl ?_
      refine x_iload_n h dX3_market_54 rfl ?_
      refine x_callVEv h (As := [.int _]) (t_reads l G n hn _ _ _ hs hT.1.1) m_X3_279 (mlt hn rfl) rfl dX3_market_55 ⟨by decide, by decide⟩ ⟨by decide, by decide⟩ rfl (Nat.le_of_ble_eq_true rfl) ?_
      refine x_nmI (fun J55 eJ55 => ?_)
      refine x_aload_n h dX3_market_58 rfl ?_
      refine x_callVEv h (As := []) (t_begins l G n hn _ _  ) m_X3_267 (mlt hn rfl) rfl dX3_market_59 ⟨by decide, by decide⟩ ⟨by decide, by decide⟩ rfl (Nat.le_of_ble_eq_true rfl) ?_
      refine x_nmI (fun J59 eJ59 => ?_)
      refine x_aload_n h dX3_market_62 rfl ?_
      refine x_callVEv h (As := []) (t_goes l G n hn _ _  (by rw [eJ59, eJ55]; exact hT.reads.begins)) m_X3_270 (mlt hn rfl) rfl dX3_market_63 ⟨by decide, by decide⟩ ⟨by decide, by decide⟩ rfl (Nat.le_of_ble_eq_true rfl) ?_
      refine x_nmI (fun J63 eJ63 => ?_)
      have hB : m_marketB I L s o w = (m_1pick J63 w o, m_lays J63 93 0) := by unfold m_marketB; rw [if_neg (by rw [← ev43]; exact n47), eJ63, eJ59, eJ55]; rfl
      refine x_iload_n h dX3_market_66 rfl ?_
      refine x_if_ne h 77 dX3_market_67 rfl (fun c67 => ?_) (fun c67 => ?_)
      · skip
        refine x_iload_n h dX3_market_77 rfl ?_
        refine x_iconst h dX3_market_78 (1) rfl ?_
        refine x_icmp_ne h 89 dX3_market_79 rfl (fun c79 => ?_) (fun c79 => ?_)
        · skip
          refine x_iload_n h dX3_market_89 rfl ?_
          refine x_iconst h dX3_market_90 (2) rfl ?_
          refine x_icmp_ne h 104 dX3_market_91 rfl (fun c91 => ?_) (fun c91 => ?_)
          · skip
            refine x_aload_n h dX3_market_104 rfl ?_
            refine x_getr h (j := 72) g_X3_22 (mlt hn rfl) rfl (by decide) rfl dX3_market_105 ?_
            refine x_iload_n h dX3_market_108 rfl ?_
            refine x_iald h (mlt hn rfl) rfl (xin_mono (hw c67 c79 c91) (by decide)) _ rfl dX3_market_109 ?_
            refine x_nmi (fun v110 ev110 => ?_)
            refine x_istore h dX3_market_110 (by decide) [some (.ref (xb G + 70)), some (.int s), some (.int o), some (.int w), some (.int v43), some (.int v110)] rfl ?_
            refine x_aload_n h dX3_market_112 rfl ?_
            refine x_aload_n h dX3_market_113 rfl ?_
            refine x_getr h (j := 93) g_X3_86 (mlt hn rfl) rfl (by decide) rfl dX3_market_114 ?_
            refine x_iconst h dX3_market_117 (0) rfl ?_
            refine x_callVEv h (As := [.ref _, .int _]) (t_laysBack l G n hn _ _ 93 0 31 (Nat.le_of_ble_eq_true rfl) rfl (Nat.le_of_ble_eq_true rfl) (Nat.le_of_ble_eq_true rfl) (by decide)) m_X3_273 (mlt hn rfl) rfl dX3_market_118 ⟨by decide, by decide⟩ ⟨by decide, by decide⟩ rfl (Nat.le_of_ble_eq_true rfl) ?_
            refine x_nmI (fun J118 eJ118 => ?_)
            refine x_iload h dX3_market_121 rfl ?_
            exact x_iret h dX3_market_123 rfl (xpE.to (by rw [hm, hB, ev110]; unfold m_1pick; first | rw [if_pos c67] | rw [if_neg c67, if_pos c79] | rw [if_neg c67, if_neg c79, if_pos c91] | rw [if_neg c67, if_neg c79, if_neg c91]) (by rw [hm, hB, eJ118]) rfl rfl)
          · skip
            refine x_aload_n h dX3_market_94 rfl ?_
            refine x_getr h (j := 72) g_X3_22 (mlt hn rfl) rfl (by decide) rfl dX3_market_95 ?_
            refine x_bipush h dX3_market_98 (18) rfl ?_
            refine x_iald h (mlt hn rfl) rfl (xk rfl) 18 rfl dX3_market_100 ?_
            refine x_goto h 110 dX3_market_101 rfl ?_
            refine x_nmi (fun v110 ev110 => ?_)
            refine x_istore h dX3_market_110 (by decide) [some (.ref (xb G + 70)), some (.int s), some (.int o), some (.int w), some (.int v43), some (.int v110)] rfl ?_
            refine x_aload_n h dX3_market_112 rfl ?_
            refine x_aload_n h dX3_market_113 rfl ?_
            refine x_getr h (j := 93) g_X3_86 (mlt hn rfl) rfl (by decide) rfl dX3_market_114 ?_
            refine x_iconst h dX3_market_117 (0) rfl ?_
            refine x_callVEv h (As := [.ref _, .int _]) (t_laysBack l G n hn _ _ 93 0 31 (Nat.le_of_ble_eq_true rfl) rfl (Nat.le_of_ble_eq_true rfl) (Nat.le_of_ble_eq_true rfl) (by decide)) m_X3_273 (mlt hn rfl) rfl dX3_market_118 ⟨by decide, by decide⟩ ⟨by decide, by decide⟩ rfl (Nat.le_of_ble_eq_true rfl) ?_
            refine x_nmI (fun J118 eJ118 => ?_)
            refine x_iload h dX3_market_121 rfl ?_
            exact x_iret h dX3_market_123 rfl (xpE.to (by rw [hm, hB, ev110]; unfold m_1pick; first | rw [if_pos c67] | rw [if_neg c67, if_pos c79] | rw [if_neg c67, if_neg c79, if_pos c91] | rw [if_neg c67, if_neg c79, if_neg c91]) (by rw [hm, hB, eJ118]) rfl rfl)
        · skip
          refine x_aload_n h dX3_market_82 rfl ?_
          refine x_geti h g_X3_241 (mlt hn rfl) rfl rfl dX3_market_83 ?_
          refine x_goto h 110 dX3_market_86 rfl ?_
          refine x_nmi (fun v110 ev110 => ?_)
          refine x_istore h dX3_market_110 (by decide) [some (.ref (xb G + 70)), some (.int s), some (.int o), some (.int w), some (.int v43), some (.int v110)] rfl ?_
          refine x_aload_n h dX3_market_112 rfl ?_
          refine x_aload_n h dX3_market_113 rfl ?_
          refine x_getr h (j := 93) g_X3_86 (mlt hn rfl) rfl (by decide) rfl dX3_market_114 ?_
          refine x_iconst h dX3_market_117 (0) rfl ?_
          refine x_callVEv h (As := [.ref _, .int _]) (t_laysBack l G n hn _ _ 93 0 31 (Nat.le_of_ble_eq_true rfl) rfl (Nat.le_of_ble_eq_true rfl) (Nat.le_of_ble_eq_true rfl) (by decide)) m_X3_273 (mlt hn rfl) rfl dX3_market_118 ⟨by decide, by decide⟩ ⟨by decide, by decide⟩ rfl (Nat.le_of_ble_eq_true rfl) ?_
          refine x_nmI (fun J118 eJ118 => ?_)
          refine x_iload h dX3_market_121 rfl ?_
          exact x_iret h dX3_market_123 rfl (xpE.to (by rw [hm, hB, ev110]; unfold m_1pick; first | rw [if_pos c67] | rw [if_neg c67, if_pos c79] | rw [if_neg c67, if_neg c79, if_pos c91] | rw [if_neg c67, if_neg c79, if_neg c91]) (by rw [hm, hB, eJ118]) rfl rfl)
      · skip
        refine x_aload_n h dX3_market_70 rfl ?_
        refine x_geti h g_X3_257 (mlt hn rfl) rfl rfl dX3_market_71 ?_
        refine x_goto h 110 dX3_market_74 rfl ?_
        refine x_nmi (fun v110 ev110 => ?_)
        refine x_istore h dX3_market_110 (by decide) [some (.ref (xb G + 70)), some (.int s), some (.int o), some (.int w), some (.int v43), some (.int v110)] rfl ?_
        refine x_aload_n h dX3_market_112 rfl ?_
        refine x_aload_n h dX3_market_113 rfl ?_
        refine x_getr h (j := 93) g_X3_86 (mlt hn rfl) rfl (by decide) rfl dX3_market_114 ?_
        refine x_iconst h dX3_market_117 (0) rfl ?_
        refine x_callVEv h (As := [.ref _, .int _]) (t_laysBack l G n hn _ _ 93 0 31 (Nat.le_of_ble_eq_true rfl) rfl (Nat.le_of_ble_eq_true rfl) (Nat.le_of_ble_eq_true rfl) (by decide)) m_X3_273 (mlt hn rfl) rfl dX3_market_118 ⟨by decide, by decide⟩ ⟨by decide, by decide⟩ rfl (Nat.le_of_ble_eq_true rfl) ?_
        refine x_nmI (fun J118 eJ118 => ?_)
        refine x_iload h dX3_market_121 rfl ?_
        exact x_iret h dX3_market_123 rfl (xpE.to (by rw [hm, hB, ev110]; unfold m_1pick; first | rw [if_pos c67] | rw [if_neg c67, if_pos c79] | rw [if_neg c67, if_neg c79, if_pos c91] | rw [if_neg c67, if_neg c79, if_neg c91]) (by rw [hm, hB, eJ118]) rfl rfl)
    · skip
      have n47 := Int32.not_le.mp c47
      refine x_iload h dX3_market_50 rfl ?_
      exact x_iret h dX3_market_52 rfl (xpE.to (by rw [hm]; unfold m_marketB; rw [if_pos (by rw [← ev43]; exact n47), ev43]) (by rw [hm]; unfold m_marketB; rw [if_pos (by rw [← ev43]; exact n47)]) rfl rfl)
  refine x_iload_n h dX3_market_0 rfl ?_
  refine x_callSEi h (As := [.int _]) (t_isShelf l G n hn _ _ _ ) m_X3_127 dX3_market_1 ⟨by decide, by decide⟩ ⟨by decide, by decide⟩ rfl (Nat.le_of_ble_eq_true rfl) ?_
  refine x_if_eq h 36 dX3_market_4 rfl (fun c4 => ?_) (fun c4 => ?_)
  · skip
    refine x_iconst h dX3_market_36 (-1) rfl ?_
    exact x_iret h dX3_market_37 rfl (xpE.to (by subst_vars; first | with_reducible rfl | (simp only [m_market, *]; done) | (simp only [m_market, ix, *]; rfl) | (simp [m_market, ix, up2_ap, bec_k, bec_i, *]; done)) (by subst_vars; first | with_reducible rfl | (simp only [m_market, *]; done) | (simp only [m_market, ix, *]; rfl) | (simp [m_market, ix, up2_ap, bec_k, bec_i, *]; done)) rfl rfl)
  · skip
    refine x_iload_n h dX3_market_7 rfl ?_
    refine x_iconst h dX3_market_8 (0) rfl ?_
    refine x_iconst h dX3_market_9 (3) rfl ?_
    refine x_callSEi h (As := [.int _, .int _, .int _]) (t_within l G n hn _ _ _ _ _ ) m_X3_119 dX3_market_10 ⟨by decide, by decide⟩ ⟨by decide, by decide⟩ rfl (Nat.le_of_ble_eq_true rfl) ?_
    refine x_if_eq h 36 dX3_market_13 rfl (fun c13 => ?_) (fun c13 => ?_)
    · skip
      refine x_iconst h dX3_market_36 (-1) rfl ?_
      exact x_iret h dX3_market_37 rfl (xpE.to (by subst_vars; first | with_reducible rfl | (simp only [m_market, *]; done) | (simp only [m_market, ix, *]; rfl) | (simp [m_market, ix, up2_ap, bec_k, bec_i, *]; done)) (by subst_vars; first | with_reducible rfl | (simp only [m_market, *]; done) | (simp only [m_market, ix, *]; rfl) | (simp [m_market, ix, up2_ap, bec_k, bec_i, *]; done)) rfl rfl)
    · skip
      refine x_iload_n h dX3_market_16 rfl ?_
      refine x_iconst h dX3_market_17 (3) rfl ?_
      refine x_icmp_ne h 32 dX3_market_18 rfl (fun c18 => ?_) (fun c18 => ?_)
      · skip
        refine x_iload_n h dX3_market_32 rfl ?_
        refine x_if_eq h 38 dX3_market_33 rfl (fun c33 => ?_) (fun c33 => ?_)
        · skip
          exact cut38 () (by unfold m_market; first | (rw [if_neg c4, if_neg c13, if_neg (fun z => c26 z.2), if_neg (fun z => z.1 c18)]; rfl) | (rw [if_neg c4, if_neg c13, if_neg (fun z => c18 z.1), if_neg (fun z => z.2 c33)]; rfl)) (inR_s c4) (fun z0 z1 z2 => by first | exact isB_in hT.1.1 c26 | exact absurd ((inR_03 c13).resolve_left z0 |>.resolve_left z1 |>.resolve_left z2) c18)
        · skip
          refine x_iconst h dX3_market_36 (-1) rfl ?_
          exact x_iret h dX3_market_37 rfl (xpE.to (by subst_vars; first | with_reducible rfl | (simp only [m_market, *]; done) | (simp only [m_market, ix, *]; rfl) | (simp [m_market, ix, up2_ap, bec_k, bec_i, *]; done)) (by subst_vars; first | with_reducible rfl | (simp only [m_market, *]; done) | (simp only [m_market, ix, *]; rfl) | (simp [m_market, ix, up2_ap, bec_k, bec_i, *]; done)) rfl rfl)
      · skip
        refine x_aload_n h dX3_market_21 rfl ?_
        refine x_iload_n h dX3_market_22 rfl ?_
        refine x_callVEi h (As := [.int _]) (t_isBuyer l G n hn _ _ _ ) m_X3_137 (mlt hn rfl) rfl dX3_market_23 ⟨by decide, by decide⟩ ⟨by decide, by decide⟩ rfl (Nat.le_of_ble_eq_true rfl) ?_
        refine x_if_eq h 36 dX3_market_26 rfl (fun c26 => ?_) (fun c26 => ?_)
        · skip
          refine x_iconst h dX3_market_36 (-1) rfl ?_
          exact x_iret h dX3_market_37 rfl (xpE.to (by subst_vars; first | with_reducible rfl | (simp only [m_market, *]; done) | (simp only [m_market, ix, *]; rfl) | (simp [m_market, ix, up2_ap, bec_k, bec_i, *]; done)) (by subst_vars; first | with_reducible rfl | (simp only [m_market, *]; done) | (simp only [m_market, ix, *]; rfl) | (simp [m_market, ix, up2_ap, bec_k, bec_i, *]; done)) rfl rfl)
        · skip
          refine x_goto h 38 dX3_market_29 rfl ?_
          exact cut38 () (by unfold m_market; first | (rw [if_neg c4, if_neg c13, if_neg (fun z => c26 z.2), if_neg (fun z => z.1 c18)]; rfl) | (rw [if_neg c4, if_neg c13, if_neg (fun z => c18 z.1), if_neg (fun z => z.2 c33)]; rfl)) (inR_s c4) (fun z0 z1 z2 => by first | exact isB_in hT.1.1 c26 | exact absurd ((inR_03 c13).resolve_left z0 |>.resolve_left z1 |>.resolve_left z2) c18)
