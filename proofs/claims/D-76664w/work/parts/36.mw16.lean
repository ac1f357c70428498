/-! WALKS OF THE REFERENCE: what fits, the rest -/
theorem m_X3_329 : xcv RX3 329 3 yX3_wanted cX3_wanted 8 (some .int) 3 := ⟨_, _, _, rfl, lw_V q2106 q2108 qs89 q102 q2109, rfl, by decide +kernel, by decide +kernel, by decide +kernel⟩
theorem m_X3_323 : xcv RX3 323 3 yX3_thirds cX3_thirds 5 (some .int) 1 := ⟨_, _, _, rfl, lw_V q2098 q2100 qs87 q102 q2101, rfl, by decide +kernel, by decide +kernel, by decide +kernel⟩
theorem m_X3_326 : xcv RX3 326 3 yX3_whose cX3_whose 6 (some .int) 2 := ⟨_, _, _, rfl, lw_V q2102 q2104 qs88 q102 q2105, rfl, by decide +kernel, by decide +kernel, by decide +kernel⟩
set_option maxHeartbeats 4000000 in
theorem t_wanted (l : Launch) (G : xG_T) (n : Nat) (hn : 103 ≤ n) (I : xI_T) (L : xL_T) (s : Int32) (o : Nat) (b : Int32) (hA : Wall I) (hL : Wsh I) (hs : vp_in s 6) (ho : o < 8) : CM l 7 yX3_wanted cX3_wanted 8 (some .int) G n [.ref (xb G + 70), .int s, .int (nI o), .int b] I L (some (.int ((m_wanted I L s o b).1))) ((m_wanted I L s o b).2) (L) := by
  refine Cg.intro (cls := RX3) (pad := 4) (lv := [some (.ref (xb G + 70)), some (.int s), some (.int (nI o)), some (.int b), none, none, none, none]) rfl (by decide) (Nat.le_of_ble_eq_true rfl) rfl (fun Θ h => ?_)
  refine x_aload_n h dX3_wanted_0 rfl ?_
  refine x_getr h (j := 71) g_X3_9 (mlt hn rfl) rfl (by decide) rfl dX3_wanted_1 ?_
  refine x_iload_n h dX3_wanted_4 rfl ?_
  refine x_iald h (mlt hn rfl) rfl (vp_in_nI (by omega) (by first | decide | omega)) (o) (nI_clamp (by omega)) dX3_wanted_5 ?_
  refine x_nmi (fun v6 ev6 => ?_)
  refine x_istore h dX3_wanted_6 (by decide) [some (.ref (xb G + 70)), some (.int s), some (.int (nI o)), some (.int b), some (.int v6), none, none, none] rfl ?_
  refine x_iconst h dX3_wanted_8 (0) rfl ?_
  refine x_istore h dX3_wanted_9 (by decide) [some (.ref (xb G + 70)), some (.int s), some (.int (nI o)), some (.int b), some (.int v6), some (.int 0), none, none] rfl ?_
  refine x_bipush h dX3_wanted_11 (-2) rfl ?_
  refine x_istore h dX3_wanted_13 (by decide) [some (.ref (xb G + 70)), some (.int s), some (.int (nI o)), some (.int b), some (.int v6), some (.int 0), some (.int (-2)), none] rfl ?_
  refine x_bipush h dX3_wanted_15 (9) rfl ?_
  refine x_istore h dX3_wanted_17 (by decide) [some (.ref (xb G + 70)), some (.int s), some (.int (nI o)), some (.int b), some (.int v6), some (.int 0), some (.int (-2)), some (.int 9)] rfl ?_
  have lp19 : ∀ (d : Nat) (k : Nat) (w : Int32) (y : (Int32 × Int32) × xI_T), 11 - k < d → (k ≤ 10) → (w = nI (10 - k) - 1) → (y = m_waGo L s o k ((0, -2), I)) → (Wall y.2) → (Wsh y.2) → X Θ 0 0 n TyM y.2 L FM 19 [some (.ref (xb G + 70)), some (.int s), some (.int (nI o)), some (.int b), some (.int v6), some (.int y.1.1), some (.int y.1.2), some (.int w)] [] := by
    intro d
    induction d with
    | zero =>
      intro k w y hlt
      exact absurd hlt (Nat.not_lt_zero _)
    | succ d ih =>
      intro k w y hlt hk hw hy hAy hSy
      refine x_iload h dX3_wanted_19 rfl ?_
      refine x_if_lt h 58 dX3_wanted_21 rfl (fun c21 => ?_) (fun c21 => ?_)
      · skip
        have hk10 : k = 10 := wa_0 hk hw c21
        refine x_aload_n h dX3_wanted_58 rfl ?_
        refine x_getr h (j := 71) g_X3_9 (mlt hn rfl) rfl (by decide) rfl dX3_wanted_59 ?_
        refine x_iload_n h dX3_wanted_62 rfl ?_
        refine x_iload h dX3_wanted_63 rfl ?_
        refine x_iast h (mlt hn rfl) rfl (vp_in_nI (by omega) (by first | decide | omega)) (o) (nI_clamp (by omega)) dX3_wanted_65 (fun J65 eJ65 => ?_)
        refine x_iload_n h dX3_wanted_66 rfl ?_
        refine x_if_eq h 75 dX3_wanted_67 rfl (fun c67 => ?_) (fun c67 => ?_)
        · skip
          refine x_iload h dX3_wanted_75 rfl ?_
          exact x_iret h dX3_wanted_77 rfl (xpE.to (by rw [hy, hk10]; first | (simp only [m_wanted, if_pos c67]; done) | (simp only [m_wanted, if_neg c67]; done)) (by rw [eJ65, ev6, hy, hk10]; rfl) rfl rfl)
        · skip
          refine x_iload h dX3_wanted_70 rfl ?_
          refine x_goto h 77 dX3_wanted_72 rfl ?_
          exact x_iret h dX3_wanted_77 rfl (xpE.to (by rw [hy, hk10]; first | (simp only [m_wanted, if_pos c67]; done) | (simp only [m_wanted, if_neg c67]; done)) (by rw [eJ65, ev6, hy, hk10]; rfl) rfl rfl)
      · skip
        have hw9 := wa_1 hk hw c21
        refine x_aload_n h dX3_wanted_24 rfl ?_
        refine x_getr h (j := 71) g_X3_9 (mlt hn rfl) rfl (by decide) rfl dX3_wanted_25 ?_
        refine x_iload_n h dX3_wanted_28 rfl ?_
        refine x_iload h dX3_wanted_29 rfl ?_
        refine x_iast h (mlt hn rfl) rfl (vp_in_nI (by omega) (by first | decide | omega)) (o) (nI_clamp (by omega)) dX3_wanted_31 (fun J31 eJ31 => ?_)
        refine x_aload_n h dX3_wanted_32 rfl ?_
        refine x_iload_n h dX3_wanted_33 rfl ?_
        refine x_callVEi h (As := [.int _]) (t_unlike l G n hn _ _ _ (by rw [eJ31]; exact hAy.w71) hs (by rw [eJ31]; exact (hSy.up (by decide)) s hs)) m_X3_320 (mlt hn rfl) rfl dX3_wanted_34 ⟨by decide, by decide⟩ ⟨by decide, by decide⟩ rfl (Nat.le_of_ble_eq_true rfl) ?_
        refine x_nmI (fun J34 eJ34 => ?_)
        refine x_bipush h dX3_wanted_37 (-2) rfl ?_
        refine x_icmp_eq h 45 dX3_wanted_39 rfl (fun c39 => ?_) (fun c39 => ?_)
        · skip
          obtain ⟨v45, ev45⟩ : ∃ z9 : Int32, z9 = y.1.1 + (1) := ⟨_, rfl⟩
          refine x_iinc h dX3_wanted_45 (by decide) rfl v45 ev45.symm [some (.ref (xb G + 70)), some (.int s), some (.int (nI o)), some (.int b), some (.int v6), some (.int v45), some (.int y.1.2), some (.int w)] rfl ?_
          refine x_iload h dX3_wanted_48 rfl ?_
          refine x_istore h dX3_wanted_50 (by decide) [some (.ref (xb G + 70)), some (.int s), some (.int (nI o)), some (.int b), some (.int v6), some (.int v45), some (.int w), some (.int w)] rfl ?_
          obtain ⟨v52, ev52⟩ : ∃ z9 : Int32, z9 = w + (-1) := ⟨_, rfl⟩
          refine x_iinc h dX3_wanted_52 (by decide) rfl v52 ev52.symm [some (.ref (xb G + 70)), some (.int s), some (.int (nI o)), some (.int b), some (.int v6), some (.int v45), some (.int w), some (.int v52)] rfl ?_
          refine x_goto h 19 dX3_wanted_55 rfl ?_
          exact ih (k + 1) (v52) (((v45), (w)), J34) (by omega) (by omega) (wa_2 hw9.1 hw9.2 ev52) (by show _ = (if (m_unl (up2 (m_waGo L s o k ((0, -2), I)).2 71 o (nI (9 - k))) L s).1 = -2 then ((m_waGo L s o k ((0, -2), I)).1.1 + 1, nI (9 - k)) else (m_waGo L s o k ((0, -2), I)).1, (m_unl (up2 (m_waGo L s o k ((0, -2), I)).2 71 o (nI (9 - k))) L s).2); rw [← hy, ← hw9.2, ← eJ31, ← eJ34]; first | (rw [ev45, if_pos c39]; done) | (rw [if_neg c39]; done)) (by show Wall J34; rw [eJ34, eJ31]; exact hAy.w71.unl) (by show Wsh J34; rw [eJ34, eJ31]; exact (hSy.up (by decide)).unl)
        · skip
          refine x_goto h 52 dX3_wanted_42 rfl ?_
          obtain ⟨v52, ev52⟩ : ∃ z9 : Int32, z9 = w + (-1) := ⟨_, rfl⟩
          refine x_iinc h dX3_wanted_52 (by decide) rfl v52 ev52.symm [some (.ref (xb G + 70)), some (.int s), some (.int (nI o)), some (.int b), some (.int v6), some (.int y.1.1), some (.int y.1.2), some (.int v52)] rfl ?_
          refine x_goto h 19 dX3_wanted_55 rfl ?_
          exact ih (k + 1) (v52) (((y.1.1), (y.1.2)), J34) (by omega) (by omega) (wa_2 hw9.1 hw9.2 ev52) (by show _ = (if (m_unl (up2 (m_waGo L s o k ((0, -2), I)).2 71 o (nI (9 - k))) L s).1 = -2 then ((m_waGo L s o k ((0, -2), I)).1.1 + 1, nI (9 - k)) else (m_waGo L s o k ((0, -2), I)).1, (m_unl (up2 (m_waGo L s o k ((0, -2), I)).2 71 o (nI (9 - k))) L s).2); rw [← hy, ← hw9.2, ← eJ31, ← eJ34]; first | (rw [ev45, if_pos c39]; done) | (rw [if_neg c39]; done)) (by show Wall J34; rw [eJ34, eJ31]; exact hAy.w71.unl) (by show Wsh J34; rw [eJ34, eJ31]; exact (hSy.up (by decide)).unl)
  exact lp19 12 0 9 ((0, -2), I) (by decide) (by decide) (by decide) rfl hA hL
set_option maxHeartbeats 4000000 in
theorem t_fits (l : Launch) (G : xG_T) (n : Nat) (hn : 103 ≤ n) (I : xI_T) (L : xL_T) (ss : Int32) (b : Int32) (w : Int32) (hT : Wtop I) (hL : Wsh I) : CM l 8 yX3_fits cX3_fits 5 (some .int) G n [.ref (xb G + 70), .int ss, .int b, .int w] I L (some (.int ((m_fits I L ss b w).1))) ((m_fits I L ss b w).2) (L) := by
  refine Cg.intro (cls := RX3) (pad := 1) (lv := [some (.ref (xb G + 70)), some (.int ss), some (.int b), some (.int w), none]) rfl (by decide) (Nat.le_of_ble_eq_true rfl) rfl (fun Θ h => ?_)
  have cut44 : ∀ (_u : Unit), (m_fits I L ss b w = m_fitsB I L ss b w) → (vp_in (ss / 10) 6 ∧ vp_in (irm ss 10) 6) → (¬ inR w 0 3 = 0) → (¬ b < 0) → (1 < w → vp_in b 8) → X Θ 0 0 n TyM I L FM 44 [some (.ref (xb G + 70)), some (.int ss), some (.int b), some (.int w), none] [] := by
    intro _u hm hi hw3 hb0 hB
    refine x_aload_n h dX3_fits_44 rfl ?_
    refine x_iload_n h dX3_fits_45 rfl ?_
    refine x_callVEi h (As := [.int _]) (t_noRows l G n hn _ _ _ hi.1 hi.2) m_X3_317 (mlt hn rfl) rfl dX3_fits_46 ⟨by decide, by decide⟩ ⟨by decide, by decide⟩ rfl (Nat.le_of_ble_eq_true rfl) ?_
    refine x_nmi (fun v49 ev49 => ?_)
    refine x_istore h dX3_fits_49 (by decide) [some (.ref (xb G + 70)), some (.int ss), some (.int b), some (.int w), some (.int v49)] rfl ?_
    refine x_iload h dX3_fits_51 rfl ?_
    refine x_if_ge h 59 dX3_fits_53 rfl (fun c53 => ?_) (fun c53 => ?_)
    · skip
      have n53 := Int32.not_lt.mpr c53
      refine x_aload_n h dX3_fits_59 rfl ?_
      refine x_iload_n h dX3_fits_60 rfl ?_
      refine x_bipush h dX3_fits_61 (10) rfl ?_
      refine x_idiv h dX3_fits_63 (by decide) ?_
      refine x_callVEv h (As := [.int _]) (t_reads l G n hn _ _ _ hi.1 hT.1.1) m_X3_279 (mlt hn rfl) rfl dX3_fits_64 ⟨by decide, by decide⟩ ⟨by decide, by decide⟩ rfl (Nat.le_of_ble_eq_true rfl) ?_
      refine x_nmI (fun J64 eJ64 => ?_)
      refine x_iload_n h dX3_fits_67 rfl ?_
      refine x_iconst h dX3_fits_68 (1) rfl ?_
      refine x_icmp_ne h 82 dX3_fits_69 rfl (fun c69 => ?_) (fun c69 => ?_)
      · skip
        refine x_iload_n h dX3_fits_82 rfl ?_
        refine x_if_ne h 97 dX3_fits_83 rfl (fun c83 => ?_) (fun c83 => ?_)
        · skip
          refine x_iload_n h dX3_fits_97 rfl ?_
          refine x_iconst h dX3_fits_98 (1) rfl ?_
          refine x_icmp_ne h 114 dX3_fits_99 rfl (fun c99 => ?_) (fun c99 => ?_)
          · skip
            obtain ⟨o, ho, rfl⟩ : ∃ o : Nat, o < 8 ∧ b = nI o := vp_in_of (hB (w_gt1 hw3 c83 c69)) (by decide)
            have eo : ix (nI o) = o := ix_n (by omega)
            refine x_aload_n h dX3_fits_114 rfl ?_
            refine x_iload_n h dX3_fits_115 rfl ?_
            refine x_bipush h dX3_fits_116 (10) rfl ?_
            refine x_irem h dX3_fits_118 (by decide) ?_
            refine x_iload_n h dX3_fits_119 rfl ?_
            refine x_iload_n h dX3_fits_120 rfl ?_
            refine x_iconst h dX3_fits_121 (3) rfl ?_
            refine x_icmp_ne h 129 dX3_fits_122 rfl (fun c122 => ?_) (fun c122 => ?_)
            · skip
              have e3 : (if w = 3 then (1 : Int32) else 0) = 0 := if_neg c122
              refine x_iconst h dX3_fits_129 (0) rfl ?_
              refine x_callVEi h (As := [.int _, .int _, .int _]) (t_wanted l G n hn _ _ _ o _ (by rw [eJ64]; exact hT.reads) (by rw [eJ64]; exact hL.reads) hi.2 ho) m_X3_329 (mlt hn rfl) rfl dX3_fits_130 ⟨by decide, by decide⟩ ⟨by decide, by decide⟩ rfl (Nat.le_of_ble_eq_true rfl) ?_
              refine x_nmI (fun J130 eJ130 => ?_)
              have hE : m_fitsB I L ss (nI o) w = m_wanted J64 L (irm ss 10) o (if w = 3 then 1 else 0) := by rw [fitsB_4 (by rw [← ev49]; exact n53) c83 c69, ← eJ64, eo]
              exact x_iret h dX3_fits_133 rfl (xpE.to (by first | (rw [hm, hE, e3]; rfl) | (rw [hm, hE]; rfl) | rw [hm, hE, e3] | rw [hm, hE]) (by first | (rw [hm, hE, e3]; exact eJ130) | (rw [hm, hE]; exact eJ108) | (rw [hm, hE]; exact eJ91)) rfl rfl)
            · skip
              have e3 : (if w = 3 then (1 : Int32) else 0) = 1 := if_pos c122
              refine x_iconst h dX3_fits_125 (1) rfl ?_
              refine x_goto h 130 dX3_fits_126 rfl ?_
              refine x_callVEi h (As := [.int _, .int _, .int _]) (t_wanted l G n hn _ _ _ o _ (by rw [eJ64]; exact hT.reads) (by rw [eJ64]; exact hL.reads) hi.2 ho) m_X3_329 (mlt hn rfl) rfl dX3_fits_130 ⟨by decide, by decide⟩ ⟨by decide, by decide⟩ rfl (Nat.le_of_ble_eq_true rfl) ?_
              refine x_nmI (fun J130 eJ130 => ?_)
              have hE : m_fitsB I L ss (nI o) w = m_wanted J64 L (irm ss 10) o (if w = 3 then 1 else 0) := by rw [fitsB_4 (by rw [← ev49]; exact n53) c83 c69, ← eJ64, eo]
              exact x_iret h dX3_fits_133 rfl (xpE.to (by first | (rw [hm, hE, e3]; rfl) | (rw [hm, hE]; rfl) | rw [hm, hE, e3] | rw [hm, hE]) (by first | (rw [hm, hE, e3]; exact eJ130) | (rw [hm, hE]; exact eJ108) | (rw [hm, hE]; exact eJ91)) rfl rfl)
          · skip
            exact absurd c99 c69
        · skip
          refine x_aload_n h dX3_fits_86 rfl ?_
          refine x_iload_n h dX3_fits_87 rfl ?_
          refine x_bipush h dX3_fits_88 (10) rfl ?_
          refine x_irem h dX3_fits_90 (by decide) ?_
          refine x_callVEi h (As := [.int _]) (t_thirds l G n hn _ _ _ (by rw [eJ64]; exact hT.reads) (by rw [eJ64]; exact hL.reads) hi.2) m_X3_323 (mlt hn rfl) rfl dX3_fits_91 ⟨by decide, by decide⟩ ⟨by decide, by decide⟩ rfl (Nat.le_of_ble_eq_true rfl) ?_
          refine x_nmI (fun J91 eJ91 => ?_)
          have hE : m_fitsB I L ss b w = m_thirds J64 L (irm ss 10) := by rw [fitsB_2 (by rw [← ev49]; exact n53) c83, ← eJ64]
          refine x_goto h 133 dX3_fits_94 rfl ?_
          exact x_iret h dX3_fits_133 rfl (xpE.to (by first | (rw [hm, hE, e3]; rfl) | (rw [hm, hE]; rfl) | rw [hm, hE, e3] | rw [hm, hE]) (by first | (rw [hm, hE, e3]; exact eJ130) | (rw [hm, hE]; exact eJ108) | (rw [hm, hE]; exact eJ91)) rfl rfl)
      · skip
        refine x_iload_n h dX3_fits_72 rfl ?_
        refine x_aload_n h dX3_fits_73 rfl ?_
        refine x_geti h g_X3_257 (mlt hn rfl) rfl rfl dX3_fits_74 ?_
        refine x_icmp_lt h 82 dX3_fits_77 rfl (fun c77 => ?_) (fun c77 => ?_)
        · skip
          obtain ⟨p, hp, rfl⟩ : ∃ p : Nat, p < 20 ∧ b = nI p := vp_in_of (coming_k hb0 c77 (by rw [eJ64]; exact hT.reads.2.2.1)) (by decide)
          have ep : ix (nI p) = p := ix_n (by omega)
          refine x_iload_n h dX3_fits_82 rfl ?_
          refine x_if_ne h 97 dX3_fits_83 rfl (fun c83 => ?_) (fun c83 => ?_)
          · skip
            refine x_iload_n h dX3_fits_97 rfl ?_
            refine x_iconst h dX3_fits_98 (1) rfl ?_
            refine x_icmp_ne h 114 dX3_fits_99 rfl (fun c99 => ?_) (fun c99 => ?_)
            · skip
              exact absurd c69 c99
            · skip
              refine x_aload_n h dX3_fits_102 rfl ?_
              refine x_iload_n h dX3_fits_103 rfl ?_
              refine x_bipush h dX3_fits_104 (10) rfl ?_
              refine x_irem h dX3_fits_106 (by decide) ?_
              refine x_iload_n h dX3_fits_107 rfl ?_
              refine x_callVEi h (As := [.int _, .int _]) (t_whose l G n hn _ _ _ p (by rw [eJ64]; exact hT.reads) (by rw [eJ64]; exact hL.reads) hi.2 hp) m_X3_326 (mlt hn rfl) rfl dX3_fits_108 ⟨by decide, by decide⟩ ⟨by decide, by decide⟩ rfl (Nat.le_of_ble_eq_true rfl) ?_
              refine x_nmI (fun J108 eJ108 => ?_)
              have hE : m_fitsB I L ss (nI p) w = m_whose J64 L (irm ss 10) p := by rw [fitsB_3 (by rw [← ev49]; exact n53) c69 (by rw [← eJ64]; exact c77), ← eJ64, ep]
              refine x_goto h 133 dX3_fits_111 rfl ?_
              exact x_iret h dX3_fits_133 rfl (xpE.to (by first | (rw [hm, hE, e3]; rfl) | (rw [hm, hE]; rfl) | rw [hm, hE, e3] | rw [hm, hE]) (by first | (rw [hm, hE, e3]; exact eJ130) | (rw [hm, hE]; exact eJ108) | (rw [hm, hE]; exact eJ91)) rfl rfl)
          · skip
            exact absurd (c69.symm.trans c83) (by decide)
        · skip
          refine x_iconst h dX3_fits_80 (-1) rfl ?_
          exact x_iret h dX3_fits_81 rfl (xpE.to (by rw [hm, fitsB_1 (by rw [← ev49]; exact n53) c69 (by rw [← eJ64]; exact c77)]) (by rw [hm, fitsB_1 (by rw [← ev49]; exact n53) c69 (by rw [← eJ64]; exact c77)]; exact eJ64) rfl rfl)
    · skip
      have n53 := Int32.not_le.mp c53
      refine x_iload h dX3_fits_56 rfl ?_
      exact x_iret h dX3_fits_58 rfl (xpE.to (by rw [hm, fitsB_0 (by rw [← ev49]; exact n53), ev49]) (by rw [hm, fitsB_0 (by rw [← ev49]; exact n53)]) rfl rfl)
  refine x_aload_n h dX3_fits_0 rfl ?_
  refine x_iload_n h dX3_fits_1 rfl ?_
  refine x_callVEi h (As := [.int _]) (t_areShelves l G n hn _ _ _ ) m_X3_314 (mlt hn rfl) rfl dX3_fits_2 ⟨by decide, by decide⟩ ⟨by decide, by decide⟩ rfl (Nat.le_of_ble_eq_true rfl) ?_
  refine x_if_eq h 42 dX3_fits_5 rfl (fun c5 => ?_) (fun c5 => ?_)
  · skip
    refine x_iconst h dX3_fits_42 (-1) rfl ?_
    exact x_iret h dX3_fits_43 rfl (xpE.to (by subst_vars; first | with_reducible rfl | (simp only [m_fits, *]; done) | (simp only [m_fits, ix, *]; rfl) | (simp [m_fits, ix, up2_ap, bec_k, bec_i, *]; done)) (by subst_vars; first | with_reducible rfl | (simp only [m_fits, *]; done) | (simp only [m_fits, ix, *]; rfl) | (simp [m_fits, ix, up2_ap, bec_k, bec_i, *]; done)) rfl rfl)
  · skip
    refine x_iload_n h dX3_fits_8 rfl ?_
    refine x_iconst h dX3_fits_9 (0) rfl ?_
    refine x_iconst h dX3_fits_10 (3) rfl ?_
    refine x_callSEi h (As := [.int _, .int _, .int _]) (t_within l G n hn _ _ _ _ _ ) m_X3_119 dX3_fits_11 ⟨by decide, by decide⟩ ⟨by decide, by decide⟩ rfl (Nat.le_of_ble_eq_true rfl) ?_
    refine x_if_eq h 42 dX3_fits_14 rfl (fun c14 => ?_) (fun c14 => ?_)
    · skip
      refine x_iconst h dX3_fits_42 (-1) rfl ?_
      exact x_iret h dX3_fits_43 rfl (xpE.to (by subst_vars; first | with_reducible rfl | (simp only [m_fits, *]; done) | (simp only [m_fits, ix, *]; rfl) | (simp [m_fits, ix, up2_ap, bec_k, bec_i, *]; done)) (by subst_vars; first | with_reducible rfl | (simp only [m_fits, *]; done) | (simp only [m_fits, ix, *]; rfl) | (simp [m_fits, ix, up2_ap, bec_k, bec_i, *]; done)) rfl rfl)
    · skip
      refine x_iload_n h dX3_fits_17 rfl ?_
      refine x_if_lt h 42 dX3_fits_18 rfl (fun c18 => ?_) (fun c18 => ?_)
      · skip
        refine x_iconst h dX3_fits_42 (-1) rfl ?_
        exact x_iret h dX3_fits_43 rfl (xpE.to (by subst_vars; first | with_reducible rfl | (simp only [m_fits, *]; done) | (simp only [m_fits, ix, *]; rfl) | (simp [m_fits, ix, up2_ap, bec_k, bec_i, *]; done)) (by subst_vars; first | with_reducible rfl | (simp only [m_fits, *]; done) | (simp only [m_fits, ix, *]; rfl) | (simp [m_fits, ix, up2_ap, bec_k, bec_i, *]; done)) rfl rfl)
      · skip
        refine x_iload_n h dX3_fits_21 rfl ?_
        refine x_if_ne h 29 dX3_fits_22 rfl (fun c22 => ?_) (fun c22 => ?_)
        · skip
          have hz0 : ¬ (w = 0 ∧ ¬ b = 0) := fun q => c22 q.1
          refine x_iload_n h dX3_fits_29 rfl ?_
          refine x_iconst h dX3_fits_30 (1) rfl ?_
          refine x_icmp_le h 44 dX3_fits_31 rfl (fun c31 => ?_) (fun c31 => ?_)
          · skip
            have n31 := Int32.not_lt.mpr c31
            have hz1 : ¬ (1 < w ∧ m_isB I b = 0) := fun q => n31 q.1
            have hB1 : 1 < w → vp_in b 8 := fun q => absurd q n31
            exact cut44 () (by unfold m_fits; rw [if_neg c5, if_neg c14, if_neg c18, if_neg hz0, if_neg hz1]; rfl) (areS_in c5) c14 c18 hB1
          · skip
            have n31 := Int32.not_le.mp c31
            refine x_aload_n h dX3_fits_34 rfl ?_
            refine x_iload_n h dX3_fits_35 rfl ?_
            refine x_callVEi h (As := [.int _]) (t_isBuyer l G n hn _ _ _ ) m_X3_137 (mlt hn rfl) rfl dX3_fits_36 ⟨by decide, by decide⟩ ⟨by decide, by decide⟩ rfl (Nat.le_of_ble_eq_true rfl) ?_
            refine x_if_ne h 44 dX3_fits_39 rfl (fun c39 => ?_) (fun c39 => ?_)
            · skip
              have hz1 : ¬ (1 < w ∧ m_isB I b = 0) := fun q => c39 q.2
              have hB1 : 1 < w → vp_in b 8 := fun _ => isB_in hT.1.1 c39
              exact cut44 () (by unfold m_fits; rw [if_neg c5, if_neg c14, if_neg c18, if_neg hz0, if_neg hz1]; rfl) (areS_in c5) c14 c18 hB1
            · skip
              refine x_iconst h dX3_fits_42 (-1) rfl ?_
              exact x_iret h dX3_fits_43 rfl (xpE.to (by subst_vars; first | with_reducible rfl | (simp only [m_fits, *]; done) | (simp only [m_fits, ix, *]; rfl) | (simp [m_fits, ix, up2_ap, bec_k, bec_i, *]; done)) (by subst_vars; first | with_reducible rfl | (simp only [m_fits, *]; done) | (simp only [m_fits, ix, *]; rfl) | (simp [m_fits, ix, up2_ap, bec_k, bec_i, *]; done)) rfl rfl)
        · skip
          refine x_iload_n h dX3_fits_25 rfl ?_
          refine x_if_ne h 42 dX3_fits_26 rfl (fun c26 => ?_) (fun c26 => ?_)
          · skip
            refine x_iconst h dX3_fits_42 (-1) rfl ?_
            exact x_iret h dX3_fits_43 rfl (xpE.to (by subst_vars; first | with_reducible rfl | (simp only [m_fits, *]; done) | (simp only [m_fits, ix, *]; rfl) | (simp [m_fits, ix, up2_ap, bec_k, bec_i, *]; done)) (by subst_vars; first | with_reducible rfl | (simp only [m_fits, *]; done) | (simp only [m_fits, ix, *]; rfl) | (simp [m_fits, ix, up2_ap, bec_k, bec_i, *]; done)) rfl rfl)
          · skip
            have hz0 : ¬ (w = 0 ∧ ¬ b = 0) := fun q => q.2 c26
            refine x_iload_n h dX3_fits_29 rfl ?_
            refine x_iconst h dX3_fits_30 (1) rfl ?_
            refine x_icmp_le h 44 dX3_fits_31 rfl (fun c31 => ?_) (fun c31 => ?_)
            · skip
              have n31 := Int32.not_lt.mpr c31
              have hz1 : ¬ (1 < w ∧ m_isB I b = 0) := fun q => n31 q.1
              have hB1 : 1 < w → vp_in b 8 := fun q => absurd q n31
              exact cut44 () (by unfold m_fits; rw [if_neg c5, if_neg c14, if_neg c18, if_neg hz0, if_neg hz1]; rfl) (areS_in c5) c14 c18 hB1
            · skip
              have n31 := Int32.not_le.mp c31
              refine x_aload_n h dX3_fits_34 rfl ?_
              refine x_iload_n h dX3_fits_35 rfl ?_
              refine x_callVEi h (As := [.int _]) (t_isBuyer l G n hn _ _ _ ) m_X3_137 (mlt hn rfl) rfl dX3_fits_36 ⟨by decide, by decide⟩ ⟨by decide, by decide⟩ rfl (Nat.le_of_ble_eq_true rfl) ?_
              refine x_if_ne h 44 dX3_fits_39 rfl (fun c39 => ?_) (fun c39 => ?_)
              · skip
                have hz1 : ¬ (1 < w ∧ m_isB I b = 0) := fun q => c39 q.2
                have hB1 : 1 < w → vp_in b 8 := fun _ => isB_in hT.1.1 c39
                exact cut44 () (by unfold m_fits; rw [if_neg c5, if_neg c14, if_neg c18, if_neg hz0, if_neg hz1]; rfl) (areS_in c5) c14 c18 hB1
              · skip
                refine x_iconst h dX3_fits_42 (-1) rfl ?_
                exact x_iret h dX3_fits_43 rfl (xpE.to (by subst_vars; first | with_reducible rfl | (simp only [m_fits, *]; done) | (simp only [m_fits, ix, *]; rfl) | (simp [m_fits, ix, up2_ap, bec_k, bec_i, *]; done)) (by subst_vars; first | with_reducible rfl | (simp only [m_fits, *]; done) | (simp only [m_fits, ix, *]; rfl) | (simp [m_fits, ix, up2_ap, bec_k, bec_i, *]; done)) rfl rfl)
