/-! WALKS OF THE COMPONENT: judged, fitting -/
theorem m_X0_355 : xcs RX0 355 yX0_areShelves cX0_areShelves 1 (some .boolean) 1 := ⟨lw_S q1026 q1027 q99 q1028, by decide +kernel, by decide +kernel, by decide +kernel⟩
theorem m_X0_358 : xcv RX0 358 0 yX0_layBoth cX0_layBoth 3 (some .int) 1 := ⟨_, _, _, rfl, lw_V q1029 q1031 qs39 q99 q1032, rfl, by decide +kernel, by decide +kernel, by decide +kernel⟩
theorem m_X0_371 : xcv RX0 371 0 yX0_whose cX0_whose 5 (some .int) 1 := ⟨_, _, _, rfl, lw_V q1053 q1055 qs44 q99 q1056, rfl, by decide +kernel, by decide +kernel, by decide +kernel⟩
theorem m_X0_367 : xcv RX0 367 0 yX0_wanted cX0_wanted 6 (some .int) 2 := ⟨_, _, _, rfl, lw_V q1049 q1051 qs43 q99 q1052, rfl, by decide +kernel, by decide +kernel, by decide +kernel⟩
theorem m_X0_364 : xcv RX0 364 0 yX0_thirds cX0_thirds 4 (some .int) 0 := ⟨_, _, _, rfl, lw_V q1045 q1047 qs42 q99 q1048, rfl, by decide +kernel, by decide +kernel, by decide +kernel⟩
set_option maxHeartbeats 4000000 in
theorem k0_judge (l : Launch) (hl : l.stackTraces = false) (G : xG_T) (n : Nat) (Ty : Nat → xs_T) (F : xF_T) (hC : WC n Ty F) (I : xI_T) (L : xL_T) (J : xI_T) (M : xL_T) (ss : Int32) (hQ : QS n Ty I F J) (hSh : ∀ s : Nat, s < 6 → shK n Ty I L F J M s) : Cg l (280) 6 2020 yX0_judge cX0_judge 3 (some .int) G idC [.ref (xb G + 0), .int ss] n Ty I L F (xpX n Ty L F (aR (fun r I2 => r = (m_judge J M ss).1 ∧ Fr q2set I I2))) := by
  refine Cg.intro (cls := RX0) (pad := 1) (lv := [some (.ref (xb G + 0)), some (.int ss), none]) rfl (by decide) (Nat.le_of_ble_eq_true rfl) rfl (fun Θ h => ?_)
  have hI0 : I 0 1 = J 70 0 := hQ.1.1.1
  have hb := hQ.2.2.1.1
  obtain ⟨nb, hnb, enb, enx, hnI⟩ := hQ.nb
  have ekB : ∀ o : Int32, k_isB I o = m_isB J o := isB_k hI0
  refine x_iload_n h dX0_judge_0 rfl ?_
  refine x_callSEi h (As := [.int _]) (k0_areShelves l G n _ _ hC _ _ _ ) m_X0_355 dX0_judge_1 ⟨by decide, by decide⟩ ⟨by decide, by decide⟩ rfl (Nat.le_of_ble_eq_true rfl) ?_
  refine x_if_ne h 9 dX0_judge_4 rfl (fun c4 => ?_) (fun c4 => ?_)
  · skip
    obtain ⟨s1, s2, hs1, hs2, e1, e2⟩ := areS_n c4
    refine x_aload_n h dX0_judge_9 rfl ?_
    refine x_iload_n h dX0_judge_10 rfl ?_
    refine x_callVXi h (As := [.int _]) (k0_layBoth l hl G n _ _ hC _ _ J M ss s1 s2 hQ hSh hs1 hs2 e1 e2) m_X0_358 (mlt hC.1 rfl) (hC.2.1 _ _ rfl) dX0_judge_11 ⟨by decide, by decide⟩ ⟨by decide, by decide⟩ rfl (Nat.le_of_ble_eq_true rfl) (fun v11 n11 Ty11 J11 hn11 hT11 hp11 => ?_)
    have hC11 := hC.grow hn11 hT11
    refine x_istore_n h dX0_judge_14 rfl (by decide) [some (.ref (xb G + 0)), some (.int ss), some (.int v11)] rfl ?_
    refine x_iload_n h dX0_judge_15 rfl ?_
    refine x_if_ge h 23 dX0_judge_16 rfl (fun c16 => ?_) (fun c16 => ?_)
    · skip
      have hnr : ¬ m_noR J ss < 0 := by rw [← hp11.1]; exact Int32.not_lt.mpr c16
      obtain ⟨z, zs, h45, hR, hS⟩ := hp11.2.1 (Int32.not_lt.mpr c16)
      have hQ2 : QS n11 Ty11 J11 F (m_reads J M (nI s1)) := (hQ.grow hC.1 hn11 hT11).fr hp11.2.2.q reads_pj
      have h70 : m_reads J M (nI s1) 70 0 = J 70 0 := reads_pj 70 0 (Or.inl ⟨rfl, by decide⟩)
      have hz20 := hR.2.1
      have hE := judge_2 (L := M) c4 hnr
      rw [e1, e2] at hE
      refine x_aload_n h dX0_judge_23 rfl ?_
      refine x_aload_n h dX0_judge_24 rfl ?_
      refine x_callVRr h (As := []) (k0_layNow l G n11 _ _ hC11 _ _ (m_reads J M (nI s1)) hQ2.1 hQ2.2.2.1) m_X0_291 (mlt hC11.1 rfl) (hC11.2.1 _ _ rfl) dX0_judge_25 ⟨by decide, by decide⟩ ⟨by decide, by decide⟩ rfl (Nat.le_of_ble_eq_true rfl) (fun J25 hp25 => ?_)
      refine x_callVRi h (As := [.ref _]) (k0_wrongIn l G n11 _ _ hC11 _ _ _ M s2 z zs (UN.base hQ2 hR h45 hS hp25.1 hp25.2) hs2) m_X0_361 (mlt hC11.1 rfl) (hC11.2.1 _ _ rfl) dX0_judge_28 ⟨by decide, by decide⟩ ⟨by decide, by decide⟩ rfl (Nat.le_of_ble_eq_true rfl) (fun v28 J28 hp28 => ?_)
      have hE : v28 = (m_judge J M ss).1 := by rw [hE]; exact hp28.1
      have hW : Fr q2set I J28 := hp11.2.2.tr ((hp25.2.sub fun _ _ z => lset_2 z).tr (hp28.2.sub fun _ _ z => cset_2 z))
      refine x_wid h (by decide) (by decide) ?_
      exact x_iret h dX0_judge_31 rfl ⟨hn11, hT11, rfl, rfl, _, rfl, hE, hW⟩
    · skip
      have hnr : m_noR J ss < 0 := by rw [← hp11.1]; exact Int32.not_le.mp c16
      have hE : v11 = (m_judge J M ss).1 := by rw [judge_1 c4 hnr]; exact hp11.1
      have hW : Fr q2set I J11 := hp11.2.2
      refine x_iload_n h dX0_judge_19 rfl ?_
      refine x_goto h 31 dX0_judge_20 rfl ?_
      refine x_wid h (by decide) (by decide) ?_
      exact x_iret h dX0_judge_31 rfl ⟨hn11, hT11, rfl, rfl, _, rfl, hE, hW⟩
  · skip
    have d4 : m_areS ss = 0 := c4
    have hz : (m_judge J M ss).1 = -1 := by rw [judge_0 d4]
    refine x_iconst h dX0_judge_7 (-1) rfl ?_
    refine x_wid h (by decide) (by decide) ?_
    exact x_iret h dX0_judge_8 rfl ⟨Nat.le_refl _, fun _ _ => rfl, rfl, rfl, _, rfl, hz.symm, Fr.rf⟩
set_option maxHeartbeats 4000000 in
theorem k0_fits (l : Launch) (hl : l.stackTraces = false) (G : xG_T) (n : Nat) (Ty : Nat → xs_T) (F : xF_T) (hC : WC n Ty F) (I : xI_T) (L : xL_T) (J : xI_T) (M : xL_T) (ss o w : Int32) (hQ : QS n Ty I F J) (hSh : ∀ s : Nat, s < 6 → shK n Ty I L F J M s) : Cg l (285) 6 2020 yX0_fits cX0_fits 5 (some .int) G idC [.ref (xb G + 0), .int ss, .int o, .int w] n Ty I L F (xpX n Ty L F (aR (fun r I2 => r = (m_fits J M ss o w).1 ∧ Fr q2set I I2))) := by
  refine Cg.intro (cls := RX0) (pad := 1) (lv := [some (.ref (xb G + 0)), some (.int ss), some (.int o), some (.int w), none]) rfl (by decide) (Nat.le_of_ble_eq_true rfl) rfl (fun Θ h => ?_)
  have hI0 : I 0 1 = J 70 0 := hQ.1.1.1
  have hb := hQ.2.2.1.1
  obtain ⟨nb, hnb, enb, enx, hnI⟩ := hQ.nb
  have ekB : ∀ o : Int32, k_isB I o = m_isB J o := isB_k hI0
  have cut43 : ∀ (_u : Unit), (m_fits J M ss o w = m_fitsB J M ss o w) → (¬ o < 0) → (1 < w → ¬ m_isB J o = 0) → (¬ m_areS ss = 0) → (¬ inR w 0 3 = 0) → (w = 0 → o = 0) → X Θ 0 0 n Ty I L F 43 [some (.ref (xb G + 0)), some (.int ss), some (.int o), some (.int w), none] [] := by
    intro _u hm h0 hu c4 c13 hw0
    refine x_aload_n h dX0_fits_43 rfl ?_
    refine x_iload_n h dX0_fits_44 rfl ?_
    obtain ⟨s1, s2, hs1, hs2, e1, e2⟩ := areS_n c4
    obtain ⟨o9, ho31, eo⟩ := nI_of h0
    refine x_callVXi h (As := [.int _]) (k0_layBoth l hl G n _ _ hC _ _ J M ss s1 s2 hQ hSh hs1 hs2 e1 e2) m_X0_358 (mlt hC.1 rfl) (hC.2.1 _ _ rfl) dX0_fits_45 ⟨by decide, by decide⟩ ⟨by decide, by decide⟩ rfl (Nat.le_of_ble_eq_true rfl) (fun v45 n45 Ty45 J45 hn45 hT45 hp45 => ?_)
    have hC45 := hC.grow hn45 hT45
    refine x_istore h dX0_fits_48 (by decide) [some (.ref (xb G + 0)), some (.int ss), some (.int o), some (.int w), some (.int v45)] rfl ?_
    refine x_iload h dX0_fits_50 rfl ?_
    refine x_if_ge h 58 dX0_fits_52 rfl (fun c52 => ?_) (fun c52 => ?_)
    · skip
      have hnr : ¬ m_noR J ss < 0 := by rw [← hp45.1]; exact Int32.not_lt.mpr c52
      obtain ⟨z, zs, h45, hR, hS⟩ := hp45.2.1 (Int32.not_lt.mpr c52)
      have hQ2 : QS n45 Ty45 J45 F (m_reads J M (nI s1)) := (hQ.grow hC.1 hn45 hT45).fr hp45.2.2.q reads_pj
      have h70 : m_reads J M (nI s1) 70 0 = J 70 0 := reads_pj 70 0 (Or.inl ⟨rfl, by decide⟩)
      have hz20 := hR.2.1
      refine x_iload_n h dX0_fits_58 rfl ?_
      refine x_if_ne h 67 dX0_fits_59 rfl (fun c59 => ?_) (fun c59 => ?_)
      · skip
        refine x_iload_n h dX0_fits_67 rfl ?_
        refine x_iconst h dX0_fits_68 (1) rfl ?_
        refine x_icmp_le h 88 dX0_fits_69 rfl (fun c69 => ?_) (fun c69 => ?_)
        · skip
          have d69 : w = 1 := fit_1 c13 c59 c69
          refine x_iload_n h dX0_fits_88 rfl ?_
          refine x_eqi (nI o9) eo ?_
          refine x_aload_n h dX0_fits_89 rfl ?_
          refine x_geti h g_X0_275 (mlt hC45.1 rfl) (hC45.2.1 _ _ rfl) rfl dX0_fits_90 ?_
          refine x_eqi (nI z) hR.1 ?_
          refine x_icmp_lt h 100 dX0_fits_93 rfl (fun c93 => ?_) (fun c93 => ?_)
          · skip
            have hoz : o9 < z := (nI_ltI (by omega) (by omega)).mp c93
            have hE : m_fits J M ss o w = m_whose (m_reads J M (nI s1)) M (nI s2) o9 := by rw [hm]; unfold m_fitsB; rw [e1, e2, if_neg hnr, if_neg (fun q => by rw [h45, eo] at q; exact nI_ge hoz (by omega) q.2), if_neg c59, if_pos d69, eo, ix_n (show o9 < 2147483648 by omega)]
            refine x_aload_n h dX0_fits_100 rfl ?_
            refine x_iload_n h dX0_fits_101 rfl ?_
            refine x_eqi (nI o9) eo ?_
            refine x_callVRi h (As := [.int _]) (k0_whose l G n45 _ _ hC45 _ _ (m_reads J M (nI s1)) M s2 z zs o9 hQ2 hR h45 hS hs2 hoz) m_X0_371 (mlt hC45.1 rfl) (hC45.2.1 _ _ rfl) dX0_fits_102 ⟨by decide, by decide⟩ ⟨by decide, by decide⟩ rfl (Nat.le_of_ble_eq_true rfl) (fun v102 J102 hp102 => ?_)
            have hW : Fr q2set I J102 := hp45.2.2.tr hp102.2
            have hv : v102 = (m_fits J M ss o w).1 := by rw [hE]; exact hp102.1
            refine x_wid h (by decide) (by decide) ?_
            exact x_iret h dX0_fits_105 rfl ⟨hn45, hT45, rfl, rfl, _, rfl, hv, hW⟩
          · skip
            have hoz : ¬ o9 < z := fun y => c93 ((nI_ltI (by omega) (by omega)).mpr y)
            have hE : m_fits J M ss o w = (-1, m_reads J M (nI s1)) := by rw [hm]; unfold m_fitsB; rw [e1, e2, if_neg hnr, if_pos ⟨d69, by rw [h45, eo]; exact (nI_leI (by omega) (by omega)).mpr (by omega)⟩]
            have hW : Fr q2set I J45 := hp45.2.2
            have hv : (-1 : Int32) = (m_fits J M ss o w).1 := by rw [hE]
            refine x_iconst h dX0_fits_96 (-1) rfl ?_
            refine x_goto h 105 dX0_fits_97 rfl ?_
            refine x_wid h (by decide) (by decide) ?_
            exact x_iret h dX0_fits_105 rfl ⟨hn45, hT45, rfl, rfl, _, rfl, hv, hW⟩
        · skip
          have d69 := Int32.not_le.mp c69
          obtain ⟨y, hy, hy8, ey⟩ := isB_y hb (hu d69)
          have ey2 : ix o = y := by rw [ey]; exact ix_n (by omega)
          have dn1 : ¬ w = 1 := fun q => by rw [q] at d69; exact absurd d69 (by decide)
          refine x_aload_n h dX0_fits_72 rfl ?_
          refine x_iload_n h dX0_fits_73 rfl ?_
          refine x_eqi (nI y) ey ?_
          refine x_iload_n h dX0_fits_74 rfl ?_
          refine x_iconst h dX0_fits_75 (3) rfl ?_
          refine x_icmp_ne h 83 dX0_fits_76 rfl (fun c76 => ?_) (fun c76 => ?_)
          · skip
            have d76 := c76
            refine x_iconst h dX0_fits_83 (0) rfl ?_
            refine x_callVRi h (As := [.int _, .int _]) (k0_wanted l G n45 _ _ hC45 _ _ (m_reads J M (nI s1)) M s2 z zs y _ hQ2 hR h45 hS hs2 hy8) m_X0_367 (mlt hC45.1 rfl) (hC45.2.1 _ _ rfl) dX0_fits_84 ⟨by decide, by decide⟩ ⟨by decide, by decide⟩ rfl (Nat.le_of_ble_eq_true rfl) (fun v84 J84 hp84 => ?_)
            have hE : m_fits J M ss o w = m_wanted (m_reads J M (nI s1)) M (nI s2) y (if w = 3 then 1 else 0) := by rw [hm]; unfold m_fitsB; rw [e1, e2, if_neg hnr, if_neg (fun q => dn1 q.1), if_neg c59, if_neg dn1, ey2]
            refine x_wid h (by decide) (by decide) ?_
            exact x_iret h dX0_fits_87 rfl ⟨hn45, hT45, rfl, rfl, _, rfl, by rw [hE]; first | (rw [if_neg d76]; exact hp84.1) | (rw [if_pos d76]; exact hp84.1), hp45.2.2.tr hp84.2⟩
          · skip
            have d76 := c76
            refine x_iconst h dX0_fits_79 (1) rfl ?_
            refine x_goto h 84 dX0_fits_80 rfl ?_
            refine x_callVRi h (As := [.int _, .int _]) (k0_wanted l G n45 _ _ hC45 _ _ (m_reads J M (nI s1)) M s2 z zs y _ hQ2 hR h45 hS hs2 hy8) m_X0_367 (mlt hC45.1 rfl) (hC45.2.1 _ _ rfl) dX0_fits_84 ⟨by decide, by decide⟩ ⟨by decide, by decide⟩ rfl (Nat.le_of_ble_eq_true rfl) (fun v84 J84 hp84 => ?_)
            have hE : m_fits J M ss o w = m_wanted (m_reads J M (nI s1)) M (nI s2) y (if w = 3 then 1 else 0) := by rw [hm]; unfold m_fitsB; rw [e1, e2, if_neg hnr, if_neg (fun q => dn1 q.1), if_neg c59, if_neg dn1, ey2]
            refine x_wid h (by decide) (by decide) ?_
            exact x_iret h dX0_fits_87 rfl ⟨hn45, hT45, rfl, rfl, _, rfl, by rw [hE]; first | (rw [if_neg d76]; exact hp84.1) | (rw [if_pos d76]; exact hp84.1), hp45.2.2.tr hp84.2⟩
      · skip
        have d59 : w = 0 := c59
        have hE : m_fits J M ss o w = m_thirds (m_reads J M (nI s1)) M (nI s2) := by rw [hm]; unfold m_fitsB; rw [e1, e2, if_neg hnr, if_neg (fun y => by rw [d59] at y; exact absurd y.1 (by decide)), if_pos d59]
        refine x_aload_n h dX0_fits_62 rfl ?_
        refine x_callVRi h (As := []) (k0_thirds l G n45 _ _ hC45 _ _ (m_reads J M (nI s1)) M s2 z zs hQ2 hR h45 hS hs2) m_X0_364 (mlt hC45.1 rfl) (hC45.2.1 _ _ rfl) dX0_fits_63 ⟨by decide, by decide⟩ ⟨by decide, by decide⟩ rfl (Nat.le_of_ble_eq_true rfl) (fun v63 J63 hp63 => ?_)
        refine x_wid h (by decide) (by decide) ?_
        exact x_iret h dX0_fits_66 rfl ⟨hn45, hT45, rfl, rfl, _, rfl, by rw [hE]; exact hp63.1, hp45.2.2.tr hp63.2⟩
    · skip
      have hnr : m_noR J ss < 0 := by rw [← hp45.1]; exact Int32.not_le.mp c52
      have hE : m_fits J M ss o w = (m_noR J ss, J) := by rw [hm]; unfold m_fitsB; rw [e1, e2, if_pos hnr]
      refine x_iload h dX0_fits_55 rfl ?_
      refine x_wid h (by decide) (by decide) ?_
      exact x_iret h dX0_fits_57 rfl ⟨hn45, hT45, rfl, rfl, _, rfl, by rw [hE]; exact hp45.1, hp45.2.2⟩
  refine x_iload_n h dX0_fits_0 rfl ?_
  refine x_callSEi h (As := [.int _]) (k0_areShelves l G n _ _ hC _ _ _ ) m_X0_355 dX0_fits_1 ⟨by decide, by decide⟩ ⟨by decide, by decide⟩ rfl (Nat.le_of_ble_eq_true rfl) ?_
  refine x_if_eq h 41 dX0_fits_4 rfl (fun c4 => ?_) (fun c4 => ?_)
  · skip
    have hz : (m_fits J M ss o w).1 = -1 := by unfold m_fits; rw [if_pos c4]
    refine x_iconst h dX0_fits_41 (-1) rfl ?_
    refine x_wid h (by decide) (by decide) ?_
    exact x_iret h dX0_fits_42 rfl ⟨Nat.le_refl _, fun _ _ => rfl, rfl, rfl, _, rfl, hz.symm, Fr.rf⟩
  · skip
    refine x_iload_n h dX0_fits_7 rfl ?_
    refine x_iconst h dX0_fits_8 (0) rfl ?_
    refine x_iconst h dX0_fits_9 (3) rfl ?_
    refine x_callSEi h (As := [.int _, .int _, .int _]) (k0_in l G n _ _ hC _ _ _ _ _ ) m_X0_7 dX0_fits_10 ⟨by decide, by decide⟩ ⟨by decide, by decide⟩ rfl (Nat.le_of_ble_eq_true rfl) ?_
    refine x_if_eq h 41 dX0_fits_13 rfl (fun c13 => ?_) (fun c13 => ?_)
    · skip
      have hz : (m_fits J M ss o w).1 = -1 := by unfold m_fits; rw [if_neg c4, if_pos c13]
      refine x_iconst h dX0_fits_41 (-1) rfl ?_
      refine x_wid h (by decide) (by decide) ?_
      exact x_iret h dX0_fits_42 rfl ⟨Nat.le_refl _, fun _ _ => rfl, rfl, rfl, _, rfl, hz.symm, Fr.rf⟩
    · skip
      refine x_iload_n h dX0_fits_16 rfl ?_
      refine x_if_ne h 24 dX0_fits_17 rfl (fun c17 => ?_) (fun c17 => ?_)
      · skip
        have dw : ¬ (w = 0 ∧ ¬ o = 0) := fun y => c17 y.1
        have dw0 : w = 0 → o = 0 := fun y => absurd y c17
        refine x_iload_n h dX0_fits_24 rfl ?_
        refine x_if_lt h 41 dX0_fits_25 rfl (fun c25 => ?_) (fun c25 => ?_)
        · skip
          have hz : (m_fits J M ss o w).1 = -1 := by unfold m_fits; rw [if_neg c4, if_neg c13, if_pos c25]
          refine x_iconst h dX0_fits_41 (-1) rfl ?_
          refine x_wid h (by decide) (by decide) ?_
          exact x_iret h dX0_fits_42 rfl ⟨Nat.le_refl _, fun _ _ => rfl, rfl, rfl, _, rfl, hz.symm, Fr.rf⟩
        · skip
          have d25 := c25
          refine x_iload_n h dX0_fits_28 rfl ?_
          refine x_iconst h dX0_fits_29 (1) rfl ?_
          refine x_icmp_le h 43 dX0_fits_30 rfl (fun c30 => ?_) (fun c30 => ?_)
          · skip
            have d38 : ¬ (1 < w ∧ m_isB J o = 0) := fun y => Int32.not_lt.mpr c30 y.1
            have du : 1 < w → ¬ m_isB J o = 0 := fun y => absurd y (Int32.not_lt.mpr c30)
            exact cut43 () (by unfold m_fits; rw [if_neg c4, if_neg c13, if_neg d25, if_neg dw, if_neg d38]; rfl) d25 du c4 c13 dw0
          · skip
            have d30 := Int32.not_le.mp c30
            refine x_aload_n h dX0_fits_33 rfl ?_
            refine x_iload_n h dX0_fits_34 rfl ?_
            refine x_callVEi h (As := [.int _]) (k0_isBuyer l G n _ _ hC _ _ _ ) m_X0_11 (mlt hC.1 rfl) (hC.2.1 _ _ rfl) dX0_fits_35 ⟨by decide, by decide⟩ ⟨by decide, by decide⟩ rfl (Nat.le_of_ble_eq_true rfl) ?_
            refine x_if_ne h 43 dX0_fits_38 rfl (fun c38 => ?_) (fun c38 => ?_)
            · skip
              have du : 1 < w → ¬ m_isB J o = 0 := fun _ y => c38 ((ekB o).trans y)
              have d38 : ¬ (1 < w ∧ m_isB J o = 0) := fun y => c38 ((ekB o).trans y.2)
              exact cut43 () (by unfold m_fits; rw [if_neg c4, if_neg c13, if_neg d25, if_neg dw, if_neg d38]; rfl) d25 du c4 c13 dw0
            · skip
              have e38 : m_isB J o = 0 := (ekB o).symm.trans (c38)
              have hz : (m_fits J M ss o w).1 = -1 := by unfold m_fits; rw [if_neg c4, if_neg c13, if_neg d25, if_neg dw, if_pos ⟨d30, e38⟩]
              refine x_iconst h dX0_fits_41 (-1) rfl ?_
              refine x_wid h (by decide) (by decide) ?_
              exact x_iret h dX0_fits_42 rfl ⟨Nat.le_refl _, fun _ _ => rfl, rfl, rfl, _, rfl, hz.symm, Fr.rf⟩
      · skip
        have d17 : w = 0 := c17
        refine x_iload_n h dX0_fits_20 rfl ?_
        refine x_if_ne h 41 dX0_fits_21 rfl (fun c21 => ?_) (fun c21 => ?_)
        · skip
          have hz : (m_fits J M ss o w).1 = -1 := by unfold m_fits; rw [if_neg c4, if_neg c13]; by_cases q : o < 0; rw [if_pos q]; rw [if_neg q, if_pos ⟨d17, c21⟩]
          refine x_iconst h dX0_fits_41 (-1) rfl ?_
          refine x_wid h (by decide) (by decide) ?_
          exact x_iret h dX0_fits_42 rfl ⟨Nat.le_refl _, fun _ _ => rfl, rfl, rfl, _, rfl, hz.symm, Fr.rf⟩
        · skip
          have dw : ¬ (w = 0 ∧ ¬ o = 0) := fun y => y.2 c21
          have dw0 : w = 0 → o = 0 := fun _ => c21
          refine x_iload_n h dX0_fits_24 rfl ?_
          refine x_if_lt h 41 dX0_fits_25 rfl (fun c25 => ?_) (fun c25 => ?_)
          · skip
            have hz : (m_fits J M ss o w).1 = -1 := by unfold m_fits; rw [if_neg c4, if_neg c13, if_pos c25]
            refine x_iconst h dX0_fits_41 (-1) rfl ?_
            refine x_wid h (by decide) (by decide) ?_
            exact x_iret h dX0_fits_42 rfl ⟨Nat.le_refl _, fun _ _ => rfl, rfl, rfl, _, rfl, hz.symm, Fr.rf⟩
          · skip
            have d25 := c25
            refine x_iload_n h dX0_fits_28 rfl ?_
            refine x_iconst h dX0_fits_29 (1) rfl ?_
            refine x_icmp_le h 43 dX0_fits_30 rfl (fun c30 => ?_) (fun c30 => ?_)
            · skip
              have d38 : ¬ (1 < w ∧ m_isB J o = 0) := fun y => Int32.not_lt.mpr c30 y.1
              have du : 1 < w → ¬ m_isB J o = 0 := fun y => absurd y (Int32.not_lt.mpr c30)
              exact cut43 () (by unfold m_fits; rw [if_neg c4, if_neg c13, if_neg d25, if_neg dw, if_neg d38]; rfl) d25 du c4 c13 dw0
            · skip
              have d30 := Int32.not_le.mp c30
              refine x_aload_n h dX0_fits_33 rfl ?_
              refine x_iload_n h dX0_fits_34 rfl ?_
              refine x_callVEi h (As := [.int _]) (k0_isBuyer l G n _ _ hC _ _ _ ) m_X0_11 (mlt hC.1 rfl) (hC.2.1 _ _ rfl) dX0_fits_35 ⟨by decide, by decide⟩ ⟨by decide, by decide⟩ rfl (Nat.le_of_ble_eq_true rfl) ?_
              refine x_if_ne h 43 dX0_fits_38 rfl (fun c38 => ?_) (fun c38 => ?_)
              · skip
                have du : 1 < w → ¬ m_isB J o = 0 := fun _ y => c38 ((ekB o).trans y)
                have d38 : ¬ (1 < w ∧ m_isB J o = 0) := fun y => c38 ((ekB o).trans y.2)
                exact cut43 () (by unfold m_fits; rw [if_neg c4, if_neg c13, if_neg d25, if_neg dw, if_neg d38]; rfl) d25 du c4 c13 dw0
              · skip
                have e38 : m_isB J o = 0 := (ekB o).symm.trans (c38)
                have hz : (m_fits J M ss o w).1 = -1 := by unfold m_fits; rw [if_neg c4, if_neg c13, if_neg d25, if_neg dw, if_pos ⟨d30, e38⟩]
                refine x_iconst h dX0_fits_41 (-1) rfl ?_
                refine x_wid h (by decide) (by decide) ?_
                exact x_iret h dX0_fits_42 rfl ⟨Nat.le_refl _, fun _ _ => rfl, rfl, rfl, _, rfl, hz.symm, Fr.rf⟩
