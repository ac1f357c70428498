/-! WALKS OF THE COMPONENT: rows in thought, asked -/
theorem w_X0_298 : xcvW RX0 298 0 yX0_layRow cX0_layRow 4 (some .int) [(5, 72, 75, 45), (5, 72, 79, 47)] 1 := ⟨_, _, _, rfl, lw_VW q851 q853 qs20 q99 q854, rfl, by decide +kernel, by decide +kernel, by decide +kernel⟩
theorem m_X0_336 : xcv RX0 336 0 yX0_areTwo cX0_areTwo 2 (some .boolean) 1 := ⟨_, _, _, rfl, lw_V q1002 q1004 qs35 q99 q1005, rfl, by decide +kernel, by decide +kernel, by decide +kernel⟩
set_option maxHeartbeats 4000000 in
theorem k0_market (l : Launch) (hl : l.stackTraces = false) (G : xG_T) (n : Nat) (Ty : Nat → xs_T) (F : xF_T) (hC : WC n Ty F) (I : xI_T) (L : xL_T) (J : xI_T) (M : xL_T) (s o w : Int32) (hQ : QS n Ty I F J) (hSh : ∀ s : Nat, s < 6 → shK n Ty I L F J M s) : Cg l (280) 3 1010 yX0_market cX0_market 6 (some .int) G idC [.ref (xb G + 0), .int s, .int o, .int w] n Ty I L F (xpX n Ty L F (aR (fun r I2 => r = (m_market J M s o w).1 ∧ Fr q2set I I2))) := by
  refine Cg.intro (cls := RX0) (pad := 2) (lv := [some (.ref (xb G + 0)), some (.int s), some (.int o), some (.int w), none, none]) rfl (by decide) (Nat.le_of_ble_eq_true rfl) rfl (fun Θ h => ?_)
  have hI0 : I 0 1 = J 70 0 := hQ.1.1.1
  have hb := hQ.2.2.1.1
  obtain ⟨nb, hnb, enb, enx, hnI⟩ := hQ.nb
  have ekB : ∀ o : Int32, k_isB I o = m_isB J o := isB_k hI0
  refine x_iload_n h dX0_market_0 rfl ?_
  refine x_callSEi h (As := [.int _]) (k0_isShelf l G n _ _ hC _ _ _ ) m_X0_29 dX0_market_1 ⟨by decide, by decide⟩ ⟨by decide, by decide⟩ rfl (Nat.le_of_ble_eq_true rfl) ?_
  refine x_if_eq h 36 dX0_market_4 rfl (fun c4 => ?_) (fun c4 => ?_)
  · skip
    have hz : (m_market J M s o w).1 = -1 := by unfold m_market; rw [if_pos c4]
    refine x_iconst h dX0_market_36 (-1) rfl ?_
    refine x_wid h (by decide) (by decide) ?_
    exact x_iret h dX0_market_37 rfl ⟨Nat.le_refl _, fun _ _ => rfl, rfl, rfl, _, rfl, hz.symm, Fr.rf⟩
  · skip
    refine x_iload_n h dX0_market_7 rfl ?_
    refine x_iconst h dX0_market_8 (0) rfl ?_
    refine x_iconst h dX0_market_9 (3) rfl ?_
    refine x_callSEi h (As := [.int _, .int _, .int _]) (k0_in l G n _ _ hC _ _ _ _ _ ) m_X0_7 dX0_market_10 ⟨by decide, by decide⟩ ⟨by decide, by decide⟩ rfl (Nat.le_of_ble_eq_true rfl) ?_
    refine x_if_eq h 36 dX0_market_13 rfl (fun c13 => ?_) (fun c13 => ?_)
    · skip
      have hz : (m_market J M s o w).1 = -1 := by unfold m_market; rw [if_neg c4, if_pos c13]
      refine x_iconst h dX0_market_36 (-1) rfl ?_
      refine x_wid h (by decide) (by decide) ?_
      exact x_iret h dX0_market_37 rfl ⟨Nat.le_refl _, fun _ _ => rfl, rfl, rfl, _, rfl, hz.symm, Fr.rf⟩
    · skip
      refine x_iload_n h dX0_market_16 rfl ?_
      refine x_iconst h dX0_market_17 (3) rfl ?_
      refine x_icmp_ne h 32 dX0_market_18 rfl (fun c18 => ?_) (fun c18 => ?_)
      · skip
        refine x_iload_n h dX0_market_32 rfl ?_
        refine x_if_eq h 38 dX0_market_33 rfl (fun c33 => ?_) (fun c33 => ?_)
        · skip
          have hm := market_B (J := J) (M := M) c4 c13 (Or.inr ⟨c18, c33⟩)
          have hyo : ¬ w = 0 → ¬ w = 1 → ¬ w = 2 → ∃ y : Nat, y < ix (J 70 0) ∧ y < 8 ∧ o = nI y := fun h0 h1 h2 => absurd (in03 c13 h0 h1 h2) c18
          obtain ⟨s9, hs9, rfl⟩ := isB_s c4
          refine x_aload_n h dX0_market_38 rfl ?_
          refine x_iload_n h dX0_market_39 rfl ?_
          refine x_callVWXi h (As := [.int _]) (k0_layRow l hl G n _ _ hC _ _ J M s9 hs9 (hSh s9 hs9) hI0 hb) w_X0_298 (mlt hC.1 rfl) (hC.2.1 _ _ rfl) dX0_market_40 ⟨by decide, by decide⟩ ⟨by decide, by decide⟩ rfl (Nat.le_of_ble_eq_true rfl) (fun v40 n40 Ty40 J40 hn40 hT40 hp40 => ?_)
          have hC40 := hC.grow hn40 hT40
          refine x_istore h dX0_market_43 (by decide) [some (.ref (xb G + 0)), some (.int (nI s9)), some (.int o), some (.int w), some (.int v40), none] rfl ?_
          refine x_iload h dX0_market_45 rfl ?_
          refine x_if_ge h 53 dX0_market_47 rfl (fun c47 => ?_) (fun c47 => ?_)
          · skip
            have hnb0 : ¬ m_noB J (nI s9) < 0 := by rw [← hp40.1]; exact Int32.not_lt.mpr c47
            obtain ⟨z, h45, hR⟩ := hp40.2.1 (noB_z hp40.1 (Int32.not_lt.mpr c47))
            have hz20 := hR.2.1
            have hQ2 := lay_Q (M := M) (s := nI s9) hQ hC hn40 hT40 hp40.2.2
            have hm2 := hm
            unfold m_marketB at hm2
            rw [if_neg hnb0] at hm2
            have h70 : m_reads J M (nI s9) 70 0 = J 70 0 := reads_pj 70 0 (Or.inl ⟨rfl, by decide⟩)
            have hfr0 : Fr q2set I J40 := hp40.2.2.sub fun _ _ z => rset_q z
            generalize m_reads J M (nI s9) = K0 at h45 hR hQ2 hm2 h70
            have hnK : ix (K0 70 0) < 9 := by rw [h70, enx]; exact hnb
            have hWa := hQ2.wall hR h45
            refine x_aload_n h dX0_market_53 rfl ?_
            refine x_callVRr h (As := []) (k0_behindRow l G n40 _ _ hC40 _ _ K0 z hQ2.1 hQ2.2.1 hQ2.2.2.1 hQ2.2.2.2 hR) m_X0_302 (mlt hC40.1 rfl) (hC40.2.1 _ _ rfl) dX0_market_54 ⟨by decide, by decide⟩ ⟨by decide, by decide⟩ rfl (Nat.le_of_ble_eq_true rfl) (fun J54 hp54 => ?_)
            have hbe := beh_1 hp54 h45 hz20
            refine x_astore h dX0_market_57 (by decide) [some (.ref (xb G + 0)), some (.int (nI s9)), some (.int o), some (.int w), some (.int v40), some (.ref (xb G + 34))] rfl ?_
            refine x_iload_n h dX0_market_59 rfl ?_
            refine x_if_ne h 70 dX0_market_60 rfl (fun c60 => ?_) (fun c60 => ?_)
            · skip
              refine x_iload_n h dX0_market_70 rfl ?_
              refine x_iconst h dX0_market_71 (1) rfl ?_
              refine x_icmp_ne h 83 dX0_market_72 rfl (fun c72 => ?_) (fun c72 => ?_)
              · skip
                refine x_iload_n h dX0_market_83 rfl ?_
                refine x_iconst h dX0_market_84 (2) rfl ?_
                refine x_icmp_ne h 96 dX0_market_85 rfl (fun c85 => ?_) (fun c85 => ?_)
                · skip
                  refine x_aload h dX0_market_96 rfl ?_
                  refine x_getrN h (j := 35) g_X0_207 (mlt hC40.1 rfl) (hC40.2.1 _ _ rfl) (by decide) (hC40.2.2 _ _ _ rfl) dX0_market_98 ?_
                  refine x_iload_n h dX0_market_101 rfl ?_
                  obtain ⟨y, hy, hy8, ey⟩ := hyo c60 c72 c85
                  refine x_iald h (mlt hC40.1 rfl) (hC40.2.1 _ _ rfl) (by rw [ey]; exact vp_in_nI hy8 (by decide)) _ rfl dX0_market_102 ?_
                  refine x_wid h (by decide) (by decide) ?_
                  exact x_iret h dX0_market_103 rfl ⟨hn40, hT40, rfl, rfl, _, rfl, by rw [hm2]; show _ = m_1pick (m_behind K0) _ _; unfold m_1pick; first | (rw [if_pos c60]; done) | (rw [if_neg c60, if_pos c72]; exact hbe.1.2.2.2.2.2) | (rw [if_neg c60, if_neg c72, if_pos c85]; exact hbe.1.2.1.1) | (rw [if_neg c60, if_neg c72, if_neg c85]; rw [ey, ix_n (by omega), nI_clamp (by omega)]; exact (hbe.1.1 y (by rw [behind_70 (Or.inl (by decide)), h70]; exact hy)).1), (hfr0.tr (hp54.2.2.2.sub fun _ _ z => bset_2 z))⟩
                · skip
                  refine x_aload h dX0_market_88 rfl ?_
                  refine x_getiN h g_X0_252 (mlt hC40.1 rfl) (hC40.2.1 _ _ rfl) rfl dX0_market_90 ?_
                  refine x_goto h 103 dX0_market_93 rfl ?_
                  refine x_wid h (by decide) (by decide) ?_
                  exact x_iret h dX0_market_103 rfl ⟨hn40, hT40, rfl, rfl, _, rfl, by rw [hm2]; show _ = m_1pick (m_behind K0) _ _; unfold m_1pick; first | (rw [if_pos c60]; done) | (rw [if_neg c60, if_pos c72]; exact hbe.1.2.2.2.2.2) | (rw [if_neg c60, if_neg c72, if_pos c85]; exact hbe.1.2.1.1) | (rw [if_neg c60, if_neg c72, if_neg c85]; rw [ey, ix_n (by omega), nI_clamp (by omega)]; exact (hbe.1.1 y (by rw [behind_70 (Or.inl (by decide)), h70]; exact hy)).1), (hfr0.tr (hp54.2.2.2.sub fun _ _ z => bset_2 z))⟩
              · skip
                refine x_aload h dX0_market_75 rfl ?_
                refine x_getiN h g_X0_213 (mlt hC40.1 rfl) (hC40.2.1 _ _ rfl) rfl dX0_market_77 ?_
                refine x_goto h 103 dX0_market_80 rfl ?_
                refine x_wid h (by decide) (by decide) ?_
                exact x_iret h dX0_market_103 rfl ⟨hn40, hT40, rfl, rfl, _, rfl, by rw [hm2]; show _ = m_1pick (m_behind K0) _ _; unfold m_1pick; first | (rw [if_pos c60]; done) | (rw [if_neg c60, if_pos c72]; exact hbe.1.2.2.2.2.2) | (rw [if_neg c60, if_neg c72, if_pos c85]; exact hbe.1.2.1.1) | (rw [if_neg c60, if_neg c72, if_neg c85]; rw [ey, ix_n (by omega), nI_clamp (by omega)]; exact (hbe.1.1 y (by rw [behind_70 (Or.inl (by decide)), h70]; exact hy)).1), (hfr0.tr (hp54.2.2.2.sub fun _ _ z => bset_2 z))⟩
            · skip
              refine x_aload_n h dX0_market_63 rfl ?_
              refine x_geti h g_X0_275 (mlt hC40.1 rfl) (hC40.2.1 _ _ rfl) rfl dX0_market_64 ?_
              refine x_eqi (m_behind K0 70 45) (by rw [behind_70 (Or.inr (by decide)), h45, hp54.2.2.2 0 19 (by unfold bset lset cset; omega)]; exact hR.1) ?_
              refine x_goto h 103 dX0_market_67 rfl ?_
              refine x_wid h (by decide) (by decide) ?_
              exact x_iret h dX0_market_103 rfl ⟨hn40, hT40, rfl, rfl, _, rfl, by rw [hm2]; show _ = m_1pick (m_behind K0) _ _; unfold m_1pick; first | (rw [if_pos c60]; done) | (rw [if_neg c60, if_pos c72]; exact hbe.1.2.2.2.2.2) | (rw [if_neg c60, if_neg c72, if_pos c85]; exact hbe.1.2.1.1) | (rw [if_neg c60, if_neg c72, if_neg c85]; rw [ey, ix_n (by omega), nI_clamp (by omega)]; exact (hbe.1.1 y (by rw [behind_70 (Or.inl (by decide)), h70]; exact hy)).1), (hfr0.tr (hp54.2.2.2.sub fun _ _ z => bset_2 z))⟩
          · skip
            have hnb1 : m_noB J (nI s9) < 0 := by rw [← hp40.1]; exact Int32.not_le.mp c47
            refine x_iload h dX0_market_50 rfl ?_
            refine x_wid h (by decide) (by decide) ?_
            exact x_iret h dX0_market_52 rfl ⟨hn40, hT40, rfl, rfl, _, rfl, by rw [hm]; unfold m_marketB; rw [if_pos hnb1]; exact hp40.1, hp40.2.2.sub fun _ _ z => rset_q z⟩
        · skip
          have hz : (m_market J M s o w).1 = -1 := by unfold m_market; rw [if_neg c4, if_neg c13, if_neg (fun z => c18 z.1), if_pos ⟨c18, c33⟩]
          refine x_iconst h dX0_market_36 (-1) rfl ?_
          refine x_wid h (by decide) (by decide) ?_
          exact x_iret h dX0_market_37 rfl ⟨Nat.le_refl _, fun _ _ => rfl, rfl, rfl, _, rfl, hz.symm, Fr.rf⟩
      · skip
        have e3 : w = 3 := c18
        refine x_aload_n h dX0_market_21 rfl ?_
        refine x_iload_n h dX0_market_22 rfl ?_
        refine x_callVEi h (As := [.int _]) (k0_isBuyer l G n _ _ hC _ _ _ ) m_X0_11 (mlt hC.1 rfl) (hC.2.1 _ _ rfl) dX0_market_23 ⟨by decide, by decide⟩ ⟨by decide, by decide⟩ rfl (Nat.le_of_ble_eq_true rfl) ?_
        refine x_if_eq h 36 dX0_market_26 rfl (fun c26 => ?_) (fun c26 => ?_)
        · skip
          have d26 : m_isB J o = 0 := by rw [← ekB]; exact c26
          have hz : (m_market J M s o w).1 = -1 := by unfold m_market; rw [if_neg c4, if_neg c13, if_pos ⟨e3, d26⟩]
          refine x_iconst h dX0_market_36 (-1) rfl ?_
          refine x_wid h (by decide) (by decide) ?_
          exact x_iret h dX0_market_37 rfl ⟨Nat.le_refl _, fun _ _ => rfl, rfl, rfl, _, rfl, hz.symm, Fr.rf⟩
        · skip
          have d26 : ¬ m_isB J o = 0 := by rw [← ekB]; exact c26
          have hm := market_B (J := J) (M := M) c4 c13 (Or.inl ⟨e3, d26⟩)
          obtain ⟨y, hy, hy8, ey⟩ := isB_y hb d26
          have hyo : ¬ w = 0 → ¬ w = 1 → ¬ w = 2 → ∃ y : Nat, y < ix (J 70 0) ∧ y < 8 ∧ o = nI y := fun _ _ _ => ⟨y, hy, hy8, ey⟩
          obtain ⟨s9, hs9, rfl⟩ := isB_s c4
          refine x_goto h 38 dX0_market_29 rfl ?_
          refine x_aload_n h dX0_market_38 rfl ?_
          refine x_iload_n h dX0_market_39 rfl ?_
          refine x_callVWXi h (As := [.int _]) (k0_layRow l hl G n _ _ hC _ _ J M s9 hs9 (hSh s9 hs9) hI0 hb) w_X0_298 (mlt hC.1 rfl) (hC.2.1 _ _ rfl) dX0_market_40 ⟨by decide, by decide⟩ ⟨by decide, by decide⟩ rfl (Nat.le_of_ble_eq_true rfl) (fun v40 n40 Ty40 J40 hn40 hT40 hp40 => ?_)
          have hC40 := hC.grow hn40 hT40
          refine x_istore h dX0_market_43 (by decide) [some (.ref (xb G + 0)), some (.int (nI s9)), some (.int o), some (.int w), some (.int v40), none] rfl ?_
          refine x_iload h dX0_market_45 rfl ?_
          refine x_if_ge h 53 dX0_market_47 rfl (fun c47 => ?_) (fun c47 => ?_)
          · skip
            have hnb0 : ¬ m_noB J (nI s9) < 0 := by rw [← hp40.1]; exact Int32.not_lt.mpr c47
            obtain ⟨z, h45, hR⟩ := hp40.2.1 (noB_z hp40.1 (Int32.not_lt.mpr c47))
            have hz20 := hR.2.1
            have hQ2 := lay_Q (M := M) (s := nI s9) hQ hC hn40 hT40 hp40.2.2
            have hm2 := hm
            unfold m_marketB at hm2
            rw [if_neg hnb0] at hm2
            have h70 : m_reads J M (nI s9) 70 0 = J 70 0 := reads_pj 70 0 (Or.inl ⟨rfl, by decide⟩)
            have hfr0 : Fr q2set I J40 := hp40.2.2.sub fun _ _ z => rset_q z
            generalize m_reads J M (nI s9) = K0 at h45 hR hQ2 hm2 h70
            have hnK : ix (K0 70 0) < 9 := by rw [h70, enx]; exact hnb
            have hWa := hQ2.wall hR h45
            refine x_aload_n h dX0_market_53 rfl ?_
            refine x_callVRr h (As := []) (k0_behindRow l G n40 _ _ hC40 _ _ K0 z hQ2.1 hQ2.2.1 hQ2.2.2.1 hQ2.2.2.2 hR) m_X0_302 (mlt hC40.1 rfl) (hC40.2.1 _ _ rfl) dX0_market_54 ⟨by decide, by decide⟩ ⟨by decide, by decide⟩ rfl (Nat.le_of_ble_eq_true rfl) (fun J54 hp54 => ?_)
            have hbe := beh_1 hp54 h45 hz20
            refine x_astore h dX0_market_57 (by decide) [some (.ref (xb G + 0)), some (.int (nI s9)), some (.int o), some (.int w), some (.int v40), some (.ref (xb G + 34))] rfl ?_
            refine x_iload_n h dX0_market_59 rfl ?_
            refine x_if_ne h 70 dX0_market_60 rfl (fun c60 => ?_) (fun c60 => ?_)
            · skip
              refine x_iload_n h dX0_market_70 rfl ?_
              refine x_iconst h dX0_market_71 (1) rfl ?_
              refine x_icmp_ne h 83 dX0_market_72 rfl (fun c72 => ?_) (fun c72 => ?_)
              · skip
                refine x_iload_n h dX0_market_83 rfl ?_
                refine x_iconst h dX0_market_84 (2) rfl ?_
                refine x_icmp_ne h 96 dX0_market_85 rfl (fun c85 => ?_) (fun c85 => ?_)
                · skip
                  refine x_aload h dX0_market_96 rfl ?_
                  refine x_getrN h (j := 35) g_X0_207 (mlt hC40.1 rfl) (hC40.2.1 _ _ rfl) (by decide) (hC40.2.2 _ _ _ rfl) dX0_market_98 ?_
                  refine x_iload_n h dX0_market_101 rfl ?_
                  obtain ⟨y, hy, hy8, ey⟩ := hyo c60 c72 c85
                  refine x_iald h (mlt hC40.1 rfl) (hC40.2.1 _ _ rfl) (by rw [ey]; exact vp_in_nI hy8 (by decide)) _ rfl dX0_market_102 ?_
                  refine x_wid h (by decide) (by decide) ?_
                  exact x_iret h dX0_market_103 rfl ⟨hn40, hT40, rfl, rfl, _, rfl, by rw [hm2]; show _ = m_1pick (m_behind K0) _ _; unfold m_1pick; first | (rw [if_pos c60]; done) | (rw [if_neg c60, if_pos c72]; exact hbe.1.2.2.2.2.2) | (rw [if_neg c60, if_neg c72, if_pos c85]; exact hbe.1.2.1.1) | (rw [if_neg c60, if_neg c72, if_neg c85]; rw [ey, ix_n (by omega), nI_clamp (by omega)]; exact (hbe.1.1 y (by rw [behind_70 (Or.inl (by decide)), h70]; exact hy)).1), (hfr0.tr (hp54.2.2.2.sub fun _ _ z => bset_2 z))⟩
                · skip
                  refine x_aload h dX0_market_88 rfl ?_
                  refine x_getiN h g_X0_252 (mlt hC40.1 rfl) (hC40.2.1 _ _ rfl) rfl dX0_market_90 ?_
                  refine x_goto h 103 dX0_market_93 rfl ?_
                  refine x_wid h (by decide) (by decide) ?_
                  exact x_iret h dX0_market_103 rfl ⟨hn40, hT40, rfl, rfl, _, rfl, by rw [hm2]; show _ = m_1pick (m_behind K0) _ _; unfold m_1pick; first | (rw [if_pos c60]; done) | (rw [if_neg c60, if_pos c72]; exact hbe.1.2.2.2.2.2) | (rw [if_neg c60, if_neg c72, if_pos c85]; exact hbe.1.2.1.1) | (rw [if_neg c60, if_neg c72, if_neg c85]; rw [ey, ix_n (by omega), nI_clamp (by omega)]; exact (hbe.1.1 y (by rw [behind_70 (Or.inl (by decide)), h70]; exact hy)).1), (hfr0.tr (hp54.2.2.2.sub fun _ _ z => bset_2 z))⟩
              · skip
                refine x_aload h dX0_market_75 rfl ?_
                refine x_getiN h g_X0_213 (mlt hC40.1 rfl) (hC40.2.1 _ _ rfl) rfl dX0_market_77 ?_
                refine x_goto h 103 dX0_market_80 rfl ?_
                refine x_wid h (by decide) (by decide) ?_
                exact x_iret h dX0_market_103 rfl ⟨hn40, hT40, rfl, rfl, _, rfl, by rw [hm2]; show _ = m_1pick (m_behind K0) _ _; unfold m_1pick; first | (rw [if_pos c60]; done) | (rw [if_neg c60, if_pos c72]; exact hbe.1.2.2.2.2.2) | (rw [if_neg c60, if_neg c72, if_pos c85]; exact hbe.1.2.1.1) | (rw [if_neg c60, if_neg c72, if_neg c85]; rw [ey, ix_n (by omega), nI_clamp (by omega)]; exact (hbe.1.1 y (by rw [behind_70 (Or.inl (by decide)), h70]; exact hy)).1), (hfr0.tr (hp54.2.2.2.sub fun _ _ z => bset_2 z))⟩
            · skip
              refine x_aload_n h dX0_market_63 rfl ?_
              refine x_geti h g_X0_275 (mlt hC40.1 rfl) (hC40.2.1 _ _ rfl) rfl dX0_market_64 ?_
              refine x_eqi (m_behind K0 70 45) (by rw [behind_70 (Or.inr (by decide)), h45, hp54.2.2.2 0 19 (by unfold bset lset cset; omega)]; exact hR.1) ?_
              refine x_goto h 103 dX0_market_67 rfl ?_
              refine x_wid h (by decide) (by decide) ?_
              exact x_iret h dX0_market_103 rfl ⟨hn40, hT40, rfl, rfl, _, rfl, by rw [hm2]; show _ = m_1pick (m_behind K0) _ _; unfold m_1pick; first | (rw [if_pos c60]; done) | (rw [if_neg c60, if_pos c72]; exact hbe.1.2.2.2.2.2) | (rw [if_neg c60, if_neg c72, if_pos c85]; exact hbe.1.2.1.1) | (rw [if_neg c60, if_neg c72, if_neg c85]; rw [ey, ix_n (by omega), nI_clamp (by omega)]; exact (hbe.1.1 y (by rw [behind_70 (Or.inl (by decide)), h70]; exact hy)).1), (hfr0.tr (hp54.2.2.2.sub fun _ _ z => bset_2 z))⟩
          · skip
            have hnb1 : m_noB J (nI s9) < 0 := by rw [← hp40.1]; exact Int32.not_le.mp c47
            refine x_iload h dX0_market_50 rfl ?_
            refine x_wid h (by decide) (by decide) ?_
            exact x_iret h dX0_market_52 rfl ⟨hn40, hT40, rfl, rfl, _, rfl, by rw [hm]; unfold m_marketB; rw [if_pos hnb1]; exact hp40.1, hp40.2.2.sub fun _ _ z => rset_q z⟩
set_option maxHeartbeats 4000000 in
theorem k0_flow (l : Launch) (hl : l.stackTraces = false) (G : xG_T) (n : Nat) (Ty : Nat → xs_T) (F : xF_T) (hC : WC n Ty F) (I : xI_T) (L : xL_T) (J : xI_T) (M : xL_T) (s o : Int32) (hQ : QS n Ty I F J) (hSh : ∀ s : Nat, s < 6 → shK n Ty I L F J M s) : Cg l (280) 3 1010 yX0_flow cX0_flow 4 (some .int) G idC [.ref (xb G + 0), .int s, .int o] n Ty I L F (xpX n Ty L F (aR (fun r I2 => r = (m_flow J M s o).1 ∧ Fr q2set I I2))) := by
  refine Cg.intro (cls := RX0) (pad := 1) (lv := [some (.ref (xb G + 0)), some (.int s), some (.int o), none]) rfl (by decide) (Nat.le_of_ble_eq_true rfl) rfl (fun Θ h => ?_)
  have hI0 : I 0 1 = J 70 0 := hQ.1.1.1
  have hb := hQ.2.2.1.1
  obtain ⟨nb, hnb, enb, enx, hnI⟩ := hQ.nb
  have ekB : ∀ o : Int32, k_isB I o = m_isB J o := isB_k hI0
  refine x_iload_n h dX0_flow_0 rfl ?_
  refine x_callSEi h (As := [.int _]) (k0_isShelf l G n _ _ hC _ _ _ ) m_X0_29 dX0_flow_1 ⟨by decide, by decide⟩ ⟨by decide, by decide⟩ rfl (Nat.le_of_ble_eq_true rfl) ?_
  refine x_if_eq h 15 dX0_flow_4 rfl (fun c4 => ?_) (fun c4 => ?_)
  · skip
    have hz : (m_flow J M s o).1 = -1 := by unfold m_flow; rw [if_pos c4]
    refine x_iconst h dX0_flow_15 (-1) rfl ?_
    refine x_wid h (by decide) (by decide) ?_
    exact x_iret h dX0_flow_16 rfl ⟨Nat.le_refl _, fun _ _ => rfl, rfl, rfl, _, rfl, hz.symm, Fr.rf⟩
  · skip
    refine x_aload_n h dX0_flow_7 rfl ?_
    refine x_iload_n h dX0_flow_8 rfl ?_
    refine x_callVEi h (As := [.int _]) (k0_areTwo l G n _ _ hC _ _ _ ) m_X0_336 (mlt hC.1 rfl) (hC.2.1 _ _ rfl) dX0_flow_9 ⟨by decide, by decide⟩ ⟨by decide, by decide⟩ rfl (Nat.le_of_ble_eq_true rfl) ?_
    refine x_if_ne h 17 dX0_flow_12 rfl (fun c12 => ?_) (fun c12 => ?_)
    · skip
      have d12 : ¬ m_pair J o = 0 := by rw [← two_k hI0]; exact c12
      have hm : m_flow J M s o = m_flowB J M s o := by unfold m_flow; rw [if_neg c4, if_neg d12]; rfl
      obtain ⟨s9, hs9, rfl⟩ := isB_s c4
      obtain ⟨a9, b9, ha9, hb9, hbo, ea9, eb9, -⟩ := pair_s hb d12
      refine x_aload_n h dX0_flow_17 rfl ?_
      refine x_iload_n h dX0_flow_18 rfl ?_
      refine x_callVWXi h (As := [.int _]) (k0_layRow l hl G n _ _ hC _ _ J M s9 hs9 (hSh s9 hs9) hI0 hb) w_X0_298 (mlt hC.1 rfl) (hC.2.1 _ _ rfl) dX0_flow_19 ⟨by decide, by decide⟩ ⟨by decide, by decide⟩ rfl (Nat.le_of_ble_eq_true rfl) (fun v19 n19 Ty19 J19 hn19 hT19 hp19 => ?_)
      have hC19 := hC.grow hn19 hT19
      refine x_istore_n h dX0_flow_22 rfl (by decide) [some (.ref (xb G + 0)), some (.int (nI s9)), some (.int o), some (.int v19)] rfl ?_
      refine x_iload_n h dX0_flow_23 rfl ?_
      refine x_if_ge h 29 dX0_flow_24 rfl (fun c24 => ?_) (fun c24 => ?_)
      · skip
        have hnb0 : ¬ m_noB J (nI s9) < 0 := by rw [← hp19.1]; exact Int32.not_lt.mpr c24
        obtain ⟨z, h45, hR⟩ := hp19.2.1 (noB_z hp19.1 (Int32.not_lt.mpr c24))
        have hz20 := hR.2.1
        have hQ2 := lay_Q (M := M) (s := nI s9) hQ hC hn19 hT19 hp19.2.2
        have hm2 := hm
        unfold m_flowB at hm2
        rw [if_neg hnb0] at hm2
        have h70 : m_reads J M (nI s9) 70 0 = J 70 0 := reads_pj 70 0 (Or.inl ⟨rfl, by decide⟩)
        have hfr0 : Fr q2set I J19 := hp19.2.2.sub fun _ _ z => rset_q z
        generalize m_reads J M (nI s9) = K0 at h45 hR hQ2 hm2 h70
        have hnK : ix (K0 70 0) < 9 := by rw [h70, enx]; exact hnb
        have hWa := hQ2.wall hR h45
        refine x_aload_n h dX0_flow_29 rfl ?_
        refine x_callVRr h (As := []) (k0_behindRow l G n19 _ _ hC19 _ _ K0 z hQ2.1 hQ2.2.1 hQ2.2.2.1 hQ2.2.2.2 hR) m_X0_302 (mlt hC19.1 rfl) (hC19.2.1 _ _ rfl) dX0_flow_30 ⟨by decide, by decide⟩ ⟨by decide, by decide⟩ rfl (Nat.le_of_ble_eq_true rfl) (fun J30 hp30 => ?_)
        have hbe := beh_1 hp30 h45 hz20
        refine x_pop h dX0_flow_33 rfl ?_
        refine x_aload_n h dX0_flow_34 rfl ?_
        refine x_getr h (j := 13) g_X0_180 (mlt hC19.1 rfl) (hC19.2.1 _ _ rfl) (by decide) (hC19.2.2 _ _ _ rfl) dX0_flow_35 ?_
        refine x_iload_n h dX0_flow_38 rfl ?_
        refine x_bipush h dX0_flow_39 (10) rfl ?_
        refine x_idiv h dX0_flow_41 (by decide) ?_
        refine x_eqi (nI a9) ea9 ?_
        have hpa := paid_at hC19 a9 ha9
        refine x_aaldr h (q := 14 + a9) (mlt hC19.1 rfl) (hC19.2.1 _ _ rfl) (by decide) rfl rfl (vp_in_nI ha9 (by decide)) (a9) (nI_clamp (by omega)) hpa.1 dX0_flow_42 ?_
        refine x_iload_n h dX0_flow_43 rfl ?_
        refine x_bipush h dX0_flow_44 (10) rfl ?_
        refine x_irem h dX0_flow_46 (by decide) ?_
        refine x_eqi (nI b9) eb9 ?_
        refine x_iald h (Nat.lt_of_lt_of_le (show 14 + a9 < 103 by omega) hC19.1) hpa.2 (vp_in_nI hb9 (by decide)) (b9) (nI_clamp (by omega)) dX0_flow_47 ?_
        refine x_wid h (by decide) (by decide) ?_
        exact x_iret h dX0_flow_48 rfl ⟨hn19, hT19, rfl, rfl, _, rfl, by rw [hm2]; show _ = m_lays (m_behind K0) 93 0 95 _; rw [lays_o (by decide), hbo]; exact hbe.2 a9 b9 ha9 hb9, (hfr0.tr (hp30.2.2.2.sub fun _ _ z => bset_2 z))⟩
      · skip
        have hnb1 : m_noB J (nI s9) < 0 := by rw [← hp19.1]; exact Int32.not_le.mp c24
        refine x_iload_n h dX0_flow_27 rfl ?_
        refine x_wid h (by decide) (by decide) ?_
        exact x_iret h dX0_flow_28 rfl ⟨hn19, hT19, rfl, rfl, _, rfl, by rw [hm]; unfold m_flowB; rw [if_pos hnb1]; exact hp19.1, hp19.2.2.sub fun _ _ z => rset_q z⟩
    · skip
      have d12 : m_pair J o = 0 := by rw [← two_k hI0]; exact c12
      have hz : (m_flow J M s o).1 = -1 := by unfold m_flow; rw [if_neg c4, if_pos d12]
      refine x_iconst h dX0_flow_15 (-1) rfl ?_
      refine x_wid h (by decide) (by decide) ?_
      exact x_iret h dX0_flow_16 rfl ⟨Nat.le_refl _, fun _ _ => rfl, rfl, rfl, _, rfl, hz.symm, Fr.rf⟩
set_option maxHeartbeats 4000000 in
theorem k0_coming (l : Launch) (hl : l.stackTraces = false) (G : xG_T) (n : Nat) (Ty : Nat → xs_T) (F : xF_T) (hC : WC n Ty F) (I : xI_T) (L : xL_T) (J : xI_T) (M : xL_T) (s o w : Int32) (hQ : QS n Ty I F J) (hSh : ∀ s : Nat, s < 6 → shK n Ty I L F J M s) : Cg l (280) 3 1010 yX0_coming cX0_coming 5 (some .int) G idC [.ref (xb G + 0), .int s, .int o, .int w] n Ty I L F (xpX n Ty L F (aR (fun r I2 => r = (m_coming J M s o w).1 ∧ Fr q2set I I2))) := by
  refine Cg.intro (cls := RX0) (pad := 1) (lv := [some (.ref (xb G + 0)), some (.int s), some (.int o), some (.int w), none]) rfl (by decide) (Nat.le_of_ble_eq_true rfl) rfl (fun Θ h => ?_)
  have hI0 : I 0 1 = J 70 0 := hQ.1.1.1
  have hb := hQ.2.2.1.1
  obtain ⟨nb, hnb, enb, enx, hnI⟩ := hQ.nb
  have ekB : ∀ o : Int32, k_isB I o = m_isB J o := isB_k hI0
  refine x_iload_n h dX0_coming_0 rfl ?_
  refine x_callSEi h (As := [.int _]) (k0_isShelf l G n _ _ hC _ _ _ ) m_X0_29 dX0_coming_1 ⟨by decide, by decide⟩ ⟨by decide, by decide⟩ rfl (Nat.le_of_ble_eq_true rfl) ?_
  refine x_if_eq h 20 dX0_coming_4 rfl (fun c4 => ?_) (fun c4 => ?_)
  · skip
    have hz : (m_coming J M s o w).1 = -1 := by unfold m_coming; rw [if_pos c4]
    refine x_iconst h dX0_coming_20 (-1) rfl ?_
    refine x_wid h (by decide) (by decide) ?_
    exact x_iret h dX0_coming_21 rfl ⟨Nat.le_refl _, fun _ _ => rfl, rfl, rfl, _, rfl, hz.symm, Fr.rf⟩
  · skip
    refine x_iload_n h dX0_coming_7 rfl ?_
    refine x_if_lt h 20 dX0_coming_8 rfl (fun c8 => ?_) (fun c8 => ?_)
    · skip
      have hz : (m_coming J M s o w).1 = -1 := by unfold m_coming; rw [if_neg c4, if_pos c8]
      refine x_iconst h dX0_coming_20 (-1) rfl ?_
      refine x_wid h (by decide) (by decide) ?_
      exact x_iret h dX0_coming_21 rfl ⟨Nat.le_refl _, fun _ _ => rfl, rfl, rfl, _, rfl, hz.symm, Fr.rf⟩
    · skip
      refine x_iload_n h dX0_coming_11 rfl ?_
      refine x_iconst h dX0_coming_12 (0) rfl ?_
      refine x_iconst h dX0_coming_13 (2) rfl ?_
      refine x_callSEi h (As := [.int _, .int _, .int _]) (k0_in l G n _ _ hC _ _ _ _ _ ) m_X0_7 dX0_coming_14 ⟨by decide, by decide⟩ ⟨by decide, by decide⟩ rfl (Nat.le_of_ble_eq_true rfl) ?_
      refine x_if_ne h 22 dX0_coming_17 rfl (fun c17 => ?_) (fun c17 => ?_)
      · skip
        have hm : m_coming J M s o w = m_comingB J M s o w := by unfold m_coming; rw [if_neg c4, if_neg c8, if_neg c17]; rfl
        obtain ⟨s9, hs9, rfl⟩ := isB_s c4
        obtain ⟨k, hk31, rfl⟩ := nI_of c8
        refine x_aload_n h dX0_coming_22 rfl ?_
        refine x_iload_n h dX0_coming_23 rfl ?_
        refine x_callVWXi h (As := [.int _]) (k0_layRow l hl G n _ _ hC _ _ J M s9 hs9 (hSh s9 hs9) hI0 hb) w_X0_298 (mlt hC.1 rfl) (hC.2.1 _ _ rfl) dX0_coming_24 ⟨by decide, by decide⟩ ⟨by decide, by decide⟩ rfl (Nat.le_of_ble_eq_true rfl) (fun v24 n24 Ty24 J24 hn24 hT24 hp24 => ?_)
        have hC24 := hC.grow hn24 hT24
        refine x_istore h dX0_coming_27 (by decide) [some (.ref (xb G + 0)), some (.int (nI s9)), some (.int (nI k)), some (.int w), some (.int v24)] rfl ?_
        refine x_iload h dX0_coming_29 rfl ?_
        refine x_if_ge h 37 dX0_coming_31 rfl (fun c31 => ?_) (fun c31 => ?_)
        · skip
          have hnb0 : ¬ m_noB J (nI s9) < 0 := by rw [← hp24.1]; exact Int32.not_lt.mpr c31
          obtain ⟨z, h45, hR⟩ := hp24.2.1 (noB_z hp24.1 (Int32.not_lt.mpr c31))
          have hz20 := hR.2.1
          have hQ2 := lay_Q (M := M) (s := nI s9) hQ hC hn24 hT24 hp24.2.2
          have hm2 := hm
          unfold m_comingB at hm2
          rw [if_neg hnb0] at hm2
          have h70 : m_reads J M (nI s9) 70 0 = J 70 0 := reads_pj 70 0 (Or.inl ⟨rfl, by decide⟩)
          have hfr0 : Fr q2set I J24 := hp24.2.2.sub fun _ _ z => rset_q z
          generalize m_reads J M (nI s9) = K0 at h45 hR hQ2 hm2 h70
          have hnK : ix (K0 70 0) < 9 := by rw [h70, enx]; exact hnb
          have hWa := hQ2.wall hR h45
          refine x_iload_n h dX0_coming_37 rfl ?_
          refine x_aload_n h dX0_coming_38 rfl ?_
          refine x_geti h g_X0_275 (mlt hC24.1 rfl) (hC24.2.1 _ _ rfl) rfl dX0_coming_39 ?_
          refine x_eqi (nI z) hR.1 ?_
          refine x_icmp_lt h 48 dX0_coming_42 rfl (fun c42 => ?_) (fun c42 => ?_)
          · skip
            have hkz : k < z := (nI_ltI hk31 (by omega)).mp c42
            rw [if_neg (by rw [h45]; exact Int32.not_le.mpr c42)] at hm2
            refine x_aload_n h dX0_coming_48 rfl ?_
            refine x_iload_n h dX0_coming_49 rfl ?_
            refine x_iconst h dX0_coming_50 (1) rfl ?_
            refine x_iaddE h (nI (k + 1)) (nI_add k 1) dX0_coming_51 ?_
            refine x_puti h p_X0_275 (mlt hC24.1 rfl) (hC24.2.1 _ _ rfl) rfl rfl rfl dX0_coming_52 (fun J52 eJ52 => ?_)
            refine x_aload_n h dX0_coming_55 rfl ?_
            have hR2 : RW J52 K0 (k + 1) := by rw [eJ52]; exact cut_R hR hkz
            have hf52 : Fr q2set J24 J52 := by rw [eJ52]; exact Fr.rf.up (rset_q (Or.inr ⟨rfl, rfl⟩))
            have hQ3 := hQ2.fr hf52.q (fun _ _ _ => rfl)
            refine x_callVRr h (As := []) (k0_behindRow l G n24 _ _ hC24 _ _ K0 (k + 1) hQ3.1 hQ3.2.1 hQ3.2.2.1 hQ3.2.2.2 hR2) m_X0_302 (mlt hC24.1 rfl) (hC24.2.1 _ _ rfl) dX0_coming_56 ⟨by decide, by decide⟩ ⟨by decide, by decide⟩ rfl (Nat.le_of_ble_eq_true rfl) (fun J56 hp56 => ?_)
            have hv := hp56.2.2.1 k rfl
            have e9 : ∀ q : Nat, q = 97 ∨ q = 98 ∨ q = 99 → m_lays (m_behind K0) 93 0 q k = m_goGo (k + 1) (m_begins K0) q k := fun q hq => by rw [lays_o (by omega), behind_z h45 (by omega), show z = k + 1 + (z - (k + 1)) by omega]; exact goGo_9 hq _
            refine x_pop h dX0_coming_59 rfl ?_
            refine x_iload_n h dX0_coming_60 rfl ?_
            refine x_if_ne h 71 dX0_coming_61 rfl (fun c61 => ?_) (fun c61 => ?_)
            · skip
              refine x_iload_n h dX0_coming_71 rfl ?_
              refine x_iconst h dX0_coming_72 (1) rfl ?_
              refine x_icmp_ne h 83 dX0_coming_73 rfl (fun c73 => ?_) (fun c73 => ?_)
              · skip
                refine x_aload_n h dX0_coming_83 rfl ?_
                refine x_geti h g_X0_246 (mlt hC24.1 rfl) (hC24.2.1 _ _ rfl) rfl dX0_coming_84 ?_
                refine x_wid h (by decide) (by decide) ?_
                exact x_iret h dX0_coming_87 rfl ⟨hn24, hT24, rfl, rfl, _, rfl, by rw [hm2]; show _ = m_pick3 _ _ _; unfold m_pick3; rw [ix_n (by omega)]; first | (rw [if_pos c61, e9 97 (Or.inl rfl)]; exact hv.1) | (rw [if_neg c61, if_pos c73, e9 98 (Or.inr (Or.inl rfl))]; exact hv.2.1) | (rw [if_neg c61, if_neg c73, e9 99 (Or.inr (Or.inr rfl))]; exact hv.2.2), ((hfr0.tr hf52).tr (hp56.2.2.2.sub fun _ _ z => bset_2 z))⟩
              · skip
                refine x_aload_n h dX0_coming_76 rfl ?_
                refine x_geti h g_X0_240 (mlt hC24.1 rfl) (hC24.2.1 _ _ rfl) rfl dX0_coming_77 ?_
                refine x_goto h 87 dX0_coming_80 rfl ?_
                refine x_wid h (by decide) (by decide) ?_
                exact x_iret h dX0_coming_87 rfl ⟨hn24, hT24, rfl, rfl, _, rfl, by rw [hm2]; show _ = m_pick3 _ _ _; unfold m_pick3; rw [ix_n (by omega)]; first | (rw [if_pos c61, e9 97 (Or.inl rfl)]; exact hv.1) | (rw [if_neg c61, if_pos c73, e9 98 (Or.inr (Or.inl rfl))]; exact hv.2.1) | (rw [if_neg c61, if_neg c73, e9 99 (Or.inr (Or.inr rfl))]; exact hv.2.2), ((hfr0.tr hf52).tr (hp56.2.2.2.sub fun _ _ z => bset_2 z))⟩
            · skip
              refine x_aload_n h dX0_coming_64 rfl ?_
              refine x_geti h g_X0_243 (mlt hC24.1 rfl) (hC24.2.1 _ _ rfl) rfl dX0_coming_65 ?_
              refine x_goto h 87 dX0_coming_68 rfl ?_
              refine x_wid h (by decide) (by decide) ?_
              exact x_iret h dX0_coming_87 rfl ⟨hn24, hT24, rfl, rfl, _, rfl, by rw [hm2]; show _ = m_pick3 _ _ _; unfold m_pick3; rw [ix_n (by omega)]; first | (rw [if_pos c61, e9 97 (Or.inl rfl)]; exact hv.1) | (rw [if_neg c61, if_pos c73, e9 98 (Or.inr (Or.inl rfl))]; exact hv.2.1) | (rw [if_neg c61, if_neg c73, e9 99 (Or.inr (Or.inr rfl))]; exact hv.2.2), ((hfr0.tr hf52).tr (hp56.2.2.2.sub fun _ _ z => bset_2 z))⟩
          · skip
            rw [if_pos (by rw [h45]; exact Int32.not_lt.mp c42)] at hm2
            refine x_bipush h dX0_coming_45 (-2) rfl ?_
            refine x_wid h (by decide) (by decide) ?_
            exact x_iret h dX0_coming_47 rfl ⟨hn24, hT24, rfl, rfl, _, rfl, by rw [hm2], hfr0⟩
        · skip
          have hnb1 : m_noB J (nI s9) < 0 := by rw [← hp24.1]; exact Int32.not_le.mp c31
          refine x_iload h dX0_coming_34 rfl ?_
          refine x_wid h (by decide) (by decide) ?_
          exact x_iret h dX0_coming_36 rfl ⟨hn24, hT24, rfl, rfl, _, rfl, by rw [hm]; unfold m_comingB; rw [if_pos hnb1]; exact hp24.1, hp24.2.2.sub fun _ _ z => rset_q z⟩
      · skip
        have d17 : inR w 0 2 = 0 := c17
        have hz : (m_coming J M s o w).1 = -1 := by unfold m_coming; rw [if_neg c4, if_neg c8, if_pos d17]
        refine x_iconst h dX0_coming_20 (-1) rfl ?_
        refine x_wid h (by decide) (by decide) ?_
        exact x_iret h dX0_coming_21 rfl ⟨Nat.le_refl _, fun _ _ => rfl, rfl, rfl, _, rfl, hz.symm, Fr.rf⟩
