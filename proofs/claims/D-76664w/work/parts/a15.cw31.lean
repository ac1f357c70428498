/-! WALKS OF THE COMPONENT: mend, undo, redo -/
theorem m_X0_103 : xcs RX0 103 yX0_mayBe cX0_mayBe 2 (some .boolean) 2 := ⟨lw_S q345 q346 q99 q347, by decide +kernel, by decide +kernel, by decide +kernel⟩
theorem m_X0_110 : xcv RX0 110 0 yX0_become cX0_become 6 (some .int) 4 := ⟨_, _, _, rfl, lw_V q352 q354 qs7 q99 q355, rfl, by decide +kernel, by decide +kernel, by decide +kernel⟩
theorem g_X0_69 : xfg RX0 69 0 7 := ⟨_, _, _, rfl, by decide, in_X0, q713, rfl⟩
theorem g_X0_88 : xfgN RX0 88 5 0 := ⟨_, _, _, _, rfl, by decide, in_X5, q363, rfl⟩
theorem g_X0_91 : xfgN RX0 91 5 1 := ⟨_, _, _, _, rfl, by decide, in_X5, q365, rfl⟩
theorem g_X0_93 : xfgN RX0 93 5 2 := ⟨_, _, _, _, rfl, by decide, in_X5, q367, rfl⟩
theorem g_X0_96 : xfgN RX0 96 5 3 := ⟨_, _, _, _, rfl, by decide, in_X5, q369, rfl⟩
set_option maxHeartbeats 4000000 in
theorem k0_mend (l : Launch) (hl : l.stackTraces = false) (G : xG_T) (n : Nat) (Ty : Nat → xs_T) (F : xF_T) (hC : WC n Ty F) (I : xI_T) (L : xL_T) (J : xI_T) (M : xL_T) (b w v : Int32) (hT : TOP n Ty I L F J M) : Cg l (6) 1 4 yX0_mend cX0_mend 4 (some .int) G idC [.ref (xb G + 0), .int b, .int w, .int v] n Ty I L F (pT n Ty (.int ((m_mend J b w v).1)) ((m_mend J b w v).2) (M)) := by
  refine Cg.intro (cls := RX0) (pad := 0) (lv := [some (.ref (xb G + 0)), some (.int b), some (.int w), some (.int v)]) rfl (by decide) (Nat.le_of_ble_eq_true rfl) rfl (fun Θ h => ?_)
  have hQ := hT.Q
  have hI0 : I 0 1 = J 70 0 := hQ.1.1.1
  have hb := hQ.2.2.1.1
  obtain ⟨nb, hnb, enb, enx, hnI⟩ := hQ.nb
  have ekB : ∀ o : Int32, k_isB I o = m_isB J o := isB_k hI0
  have ⟨tC, tNU, tNO, tBY, tKL, tWW, tRB, tBU, tCH, tTA, tLE, tIM, tBO, tTR, tSH, tFR⟩ := hT
  refine x_aload_n h dX0_mend_0 rfl ?_
  refine x_iload_n h dX0_mend_1 rfl ?_
  refine x_iload_n h dX0_mend_2 rfl ?_
  refine x_callVEi h (As := [.int _, .int _]) (k0_isOf l G n _ _ hC _ _ J b w hI0) m_X0_99 (mlt hC.1 rfl) (hC.2.1 _ _ rfl) dX0_mend_3 ⟨by decide, by decide⟩ ⟨by decide, by decide⟩ rfl (Nat.le_of_ble_eq_true rfl) ?_
  refine x_if_eq h 33 dX0_mend_6 rfl (fun c6 => ?_) (fun c6 => ?_)
  · skip
    have hz : m_mend J b w v = (-1, J) := by unfold m_mend; rw [if_pos c6]
    refine x_iconst h dX0_mend_33 (-1) rfl ?_
    refine x_wid h (by decide) (by decide) ?_
    exact x_iret h dX0_mend_34 rfl (by rw [hz]; first | exact ⟨rfl, grw.rf, hT⟩ | exact ⟨rfl, hg27, hT27⟩)
  · skip
    refine x_iload_n h dX0_mend_9 rfl ?_
    refine x_iload_n h dX0_mend_10 rfl ?_
    refine x_callSEi h (As := [.int _, .int _]) (k0_mayBe l G n _ _ hC _ _ w v) m_X0_103 dX0_mend_11 ⟨by decide, by decide⟩ ⟨by decide, by decide⟩ rfl (Nat.le_of_ble_eq_true rfl) ?_
    refine x_if_eq h 33 dX0_mend_14 rfl (fun c14 => ?_) (fun c14 => ?_)
    · skip
      have hz : m_mend J b w v = (-1, J) := by unfold m_mend; rw [if_neg c6, if_pos c14]
      refine x_iconst h dX0_mend_33 (-1) rfl ?_
      refine x_wid h (by decide) (by decide) ?_
      exact x_iret h dX0_mend_34 rfl (by rw [hz]; first | exact ⟨rfl, grw.rf, hT⟩ | exact ⟨rfl, hg27, hT27⟩)
    · skip
      have hz : m_mend J b w v = (m_get J b w, if m_get J b w = v then J else m_note (m_shf (m_bec J b w v)) b w (m_get J b w) v) := by unfold m_mend; rw [if_neg c6, if_neg c14]; by_cases y : m_get J b w = v; rw [if_pos y, if_pos y]; rw [if_neg y, if_neg y]
      refine x_aload_n h dX0_mend_17 rfl ?_
      refine x_iload_n h dX0_mend_18 rfl ?_
      refine x_iload_n h dX0_mend_19 rfl ?_
      refine x_aload_n h dX0_mend_20 rfl ?_
      refine x_iload_n h dX0_mend_21 rfl ?_
      refine x_iload_n h dX0_mend_22 rfl ?_
      refine x_callVEi h (As := [.int _, .int _]) (k0_valueOf l G n _ _ hC _ _ J b w tNU tBY tWW c6) m_X0_106 (mlt hC.1 rfl) (hC.2.1 _ _ rfl) dX0_mend_23 ⟨by decide, by decide⟩ ⟨by decide, by decide⟩ rfl (Nat.le_of_ble_eq_true rfl) ?_
      refine x_iload_n h dX0_mend_26 rfl ?_
      refine x_callVPi h (As := [.int _, .int _, .int _, .int _]) (k0_become l hl G n _ _ hC _ _ J M b w (m_get J b w) v hT c6 (fit_W c14) rfl) m_X0_110 (mlt hC.1 rfl) (hC.2.1 _ _ rfl) dX0_mend_27 ⟨by decide, by decide⟩ ⟨by decide, by decide⟩ rfl (Nat.le_of_ble_eq_true rfl) (fun n27 Ty27 J27 L27 F27 hg27 hT27 => ?_)
      have hC27 : WC n27 Ty27 F27 := hT27.1
      refine x_goto h 34 dX0_mend_30 rfl ?_
      refine x_wid h (by decide) (by decide) ?_
      exact x_iret h dX0_mend_34 rfl (by rw [hz]; first | exact ⟨rfl, grw.rf, hT⟩ | exact ⟨rfl, hg27, hT27⟩)
set_option maxHeartbeats 4000000 in
theorem k0_undo (l : Launch) (G : xG_T) (n : Nat) (Ty : Nat → xs_T) (F : xF_T) (hC : WC n Ty F) (I : xI_T) (L : xL_T) (J : xI_T) (M : xL_T)  (hT : TOP n Ty I L F J M) : Cg l (4) 0 0 yX0_undo cX0_undo 1 (some .int) G idC [.ref (xb G + 0)] n Ty I L F (pT n Ty (.int ((m_undo J).1)) ((m_undo J).2) (M)) := by
  refine Cg.intro (cls := RX0) (pad := 0) (lv := [some (.ref (xb G + 0))]) rfl (by decide) (Nat.le_of_ble_eq_true rfl) rfl (fun Θ h => ?_)
  have hQ := hT.Q
  have hI0 : I 0 1 = J 70 0 := hQ.1.1.1
  have hb := hQ.2.2.1.1
  obtain ⟨nb, hnb, enb, enx, hnI⟩ := hQ.nb
  have ekB : ∀ o : Int32, k_isB I o = m_isB J o := isB_k hI0
  have ⟨tC, tNU, tNO, tBY, tKL, tWW, tRB, tBU, tCH, tTA, tLE, tIM, tBO, tTR, tSH, tFR⟩ := hT
  obtain ⟨d0, u0, ⟨ch1, ch2, ch3, ch4, ch5⟩, chc, chw⟩ := tCH
  refine x_aload_n h dX0_undo_0 rfl ?_
  refine x_geti h g_X0_72 (mlt hC.1 rfl) (hC.2.1 _ _ rfl) rfl dX0_undo_1 ?_
  refine x_eqi (nI d0) ch4 ?_
  refine x_if_ne h 10 dX0_undo_4 rfl (fun c4 => ?_) (fun c4 => ?_)
  · skip
    have hd1 : 1 ≤ d0 := Nat.pos_of_ne_zero fun z => c4 (by rw [z]; rfl)
    obtain ⟨q9, hq9, ⟨q93, q9n⟩, q9T, e1, e2, e3, e4, ⟨ok1, ok2, ok3⟩⟩ := chc (d0 - 1) (by omega)
    generalize hb9 : J 87 (4 * (d0 - 1)) = b9 at e2 ok1
    generalize hw9 : J 87 (4 * (d0 - 1) + 1) = w9 at e1 ok1 ok2 ok3
    generalize hx9 : J 87 (4 * (d0 - 1) + 2) = x9 at e3 ok2
    have hz : m_undo J = (nI (d0 - 1), m_bec (up2 J 70 29 (nI (d0 - 1))) b9 w9 x9) := by unfold m_undo; rw [if_neg (fun z => c4 (ch2.symm.trans z)), ch2]; simp only [nI_m1 hd1]; rw [ix_40 (show d0 - 1 < 40 by omega), show ix (4 * nI (d0 - 1) + 1) = 4 * (d0 - 1) + 1 from ix_4 (j := 1) (by omega) (by decide), show ix (4 * nI (d0 - 1) + 2) = 4 * (d0 - 1) + 2 from ix_4 (j := 2) (by omega) (by decide), hb9, hw9, hx9]
    refine x_aload_n h dX0_undo_10 rfl ?_
    refine x_dup h dX0_undo_11 rfl ?_
    refine x_geti h g_X0_72 (mlt hC.1 rfl) (hC.2.1 _ _ rfl) rfl dX0_undo_12 ?_
    refine x_eqi (nI d0) ch4 ?_
    refine x_iconst h dX0_undo_15 (1) rfl ?_
    refine x_isubE h (nI (d0 - 1)) (nI_m1 hd1) dX0_undo_16 ?_
    refine x_puti h p_X0_72 (mlt hC.1 rfl) (hC.2.1 _ _ rfl) rfl rfl rfl dX0_undo_17 (fun J17 eJ17 => ?_)
    refine x_aload_n h dX0_undo_20 rfl ?_
    refine x_dup h dX0_undo_21 rfl ?_
    refine x_geti h g_X0_69 (mlt hC.1 rfl) (hC.2.1 _ _ rfl) rfl dX0_undo_22 ?_
    refine x_eqi (nI u0) (by rw [eJ17, up2_k _ _ (by decide)]; exact ch5) ?_
    refine x_iconst h dX0_undo_25 (1) rfl ?_
    refine x_iaddE h (nI (u0 + 1)) (nI_add u0 1) dX0_undo_26 ?_
    refine x_puti h p_X0_69 (mlt hC.1 rfl) (hC.2.1 _ _ rfl) rfl rfl rfl dX0_undo_27 (fun J27 eJ27 => ?_)
    have hT1 : TOP n Ty J27 L F (up2 J 70 29 (nI (d0 - 1))) M := hT.ch9 grw.rf (fun c s _ z => by rw [eJ27, up2_n _ _ (by omega), eJ17, up2_n _ _ (by omega)]) (fun _ _ _ _ => rfl) (fun q k z => up2_n _ _ (by omega)) (TCh.mv chc chw (d0 - 1) (u0 + 1) (by omega) ch1 (up2_s _ _ _ _) (by rw [up2_k _ _ (by decide), ch3, show d0 - 1 + (u0 + 1) = d0 + u0 by omega]) (by rw [eJ27, up2_k _ _ (by decide), eJ17, up2_s]) (by rw [eJ27, up2_s]) (fun q k z _ _ => by rw [eJ27, up2_i _ _ (by omega), eJ17, up2_i _ _ (by omega)]) (fun q k z => up2_n _ _ (by omega)))
    have h27 : ∀ k : Nat, J27 q9 k = I q9 k := fun k => by rw [eJ27, up2_i _ _ (by omega), eJ17, up2_i _ _ (by omega)]
    have h276 : J27 0 6 = nI (d0 - 1) := by rw [eJ27, up2_k _ _ (by decide), eJ17, up2_s]
    obtain ⟨q0, hq70, hqn, hq0⟩ := hT1.cell (show ¬ m_isOf (up2 J 70 29 (nI (d0 - 1))) b9 w9 = 0 by rw [isOf_w (up2_k _ _ (by decide))]; exact ok1)
    refine x_aload_n h dX0_undo_30 rfl ?_
    refine x_aload_n h dX0_undo_31 rfl ?_
    refine x_getr h (j := 2) g_X0_75 (mlt hC.1 rfl) (hC.2.1 _ _ rfl) (by decide) (hC.2.2 _ _ _ rfl) dX0_undo_32 ?_
    refine x_aload_n h dX0_undo_35 rfl ?_
    refine x_geti h g_X0_72 (mlt hC.1 rfl) (hC.2.1 _ _ rfl) rfl dX0_undo_36 ?_
    refine x_eqi (nI (d0 - 1)) h276 ?_
    refine x_aaldr h (q := q9) (mlt hC.1 rfl) (hC.2.1 _ _ rfl) (by decide) rfl rfl (vp_in_nI (show d0 - 1 < 40 by omega) (by decide)) (d0 - 1) (nI_clamp (by omega)) hq9 dX0_undo_39 ?_
    refine x_getiN h g_X0_88 q9n q9T rfl dX0_undo_40 ?_
    refine x_eqi (w9) ((h27 0).trans e1) ?_
    refine x_aload_n h dX0_undo_43 rfl ?_
    refine x_getr h (j := 2) g_X0_75 (mlt hC.1 rfl) (hC.2.1 _ _ rfl) (by decide) (hC.2.2 _ _ _ rfl) dX0_undo_44 ?_
    refine x_aload_n h dX0_undo_47 rfl ?_
    refine x_geti h g_X0_72 (mlt hC.1 rfl) (hC.2.1 _ _ rfl) rfl dX0_undo_48 ?_
    refine x_eqi (nI (d0 - 1)) h276 ?_
    refine x_aaldr h (q := q9) (mlt hC.1 rfl) (hC.2.1 _ _ rfl) (by decide) rfl rfl (vp_in_nI (show d0 - 1 < 40 by omega) (by decide)) (d0 - 1) (nI_clamp (by omega)) hq9 dX0_undo_51 ?_
    refine x_getiN h g_X0_91 q9n q9T rfl dX0_undo_52 ?_
    refine x_eqi (b9) ((h27 1).trans e2) ?_
    refine x_aload_n h dX0_undo_55 rfl ?_
    refine x_getr h (j := 2) g_X0_75 (mlt hC.1 rfl) (hC.2.1 _ _ rfl) (by decide) (hC.2.2 _ _ _ rfl) dX0_undo_56 ?_
    refine x_aload_n h dX0_undo_59 rfl ?_
    refine x_geti h g_X0_72 (mlt hC.1 rfl) (hC.2.1 _ _ rfl) rfl dX0_undo_60 ?_
    refine x_eqi (nI (d0 - 1)) h276 ?_
    refine x_aaldr h (q := q9) (mlt hC.1 rfl) (hC.2.1 _ _ rfl) (by decide) rfl rfl (vp_in_nI (show d0 - 1 < 40 by omega) (by decide)) (d0 - 1) (nI_clamp (by omega)) hq9 dX0_undo_63 ?_
    refine x_getiN h g_X0_93 q9n q9T rfl dX0_undo_64 ?_
    refine x_eqi (x9) ((h27 2).trans e3) ?_
    refine x_callVEv h (As := [.int _, .int _, .int _]) (k0_setTo l G n _ _ hC _ _ b9 w9 x9 q0 hq0) m_X0_84 (mlt hC.1 rfl) (hC.2.1 _ _ rfl) dX0_undo_67 ⟨by decide, by decide⟩ ⟨by decide, by decide⟩ rfl (Nat.le_of_ble_eq_true rfl) ?_
    refine x_nmI (fun J67 eJ67 => ?_)
    have hT2 : TOP n Ty J67 L F (m_bec (up2 J 70 29 (nI (d0 - 1))) b9 w9 x9) M := by rw [eJ67]; exact hT1.set (by rw [isOf_w (up2_k _ _ (by decide))]; exact ok1) ok2 hq0
    refine x_aload_n h dX0_undo_70 rfl ?_
    refine x_geti h g_X0_72 (mlt hC.1 rfl) (hC.2.1 _ _ rfl) rfl dX0_undo_71 ?_
    refine x_eqi (nI (d0 - 1)) (by rw [eJ67, kset_o (by omega) (by omega)]; exact h276) ?_
    exact x_iret h dX0_undo_74 rfl (by rw [hz]; exact ⟨rfl, grw.rf, hT2⟩)
  · skip
    have hz : m_undo J = (-5, J) := by unfold m_undo; rw [if_pos (ch2.trans c4)]
    refine x_bipush h dX0_undo_7 (-5) rfl ?_
    exact x_iret h dX0_undo_9 rfl (by rw [hz]; exact ⟨rfl, grw.rf, hT⟩)
set_option maxHeartbeats 4000000 in
theorem k0_redo (l : Launch) (G : xG_T) (n : Nat) (Ty : Nat → xs_T) (F : xF_T) (hC : WC n Ty F) (I : xI_T) (L : xL_T) (J : xI_T) (M : xL_T)  (hT : TOP n Ty I L F J M) : Cg l (4) 0 0 yX0_redo cX0_redo 1 (some .int) G idC [.ref (xb G + 0)] n Ty I L F (pT n Ty (.int ((m_redo J).1)) ((m_redo J).2) (M)) := by
  refine Cg.intro (cls := RX0) (pad := 0) (lv := [some (.ref (xb G + 0))]) rfl (by decide) (Nat.le_of_ble_eq_true rfl) rfl (fun Θ h => ?_)
  have hQ := hT.Q
  have hI0 : I 0 1 = J 70 0 := hQ.1.1.1
  have hb := hQ.2.2.1.1
  obtain ⟨nb, hnb, enb, enx, hnI⟩ := hQ.nb
  have ekB : ∀ o : Int32, k_isB I o = m_isB J o := isB_k hI0
  have ⟨tC, tNU, tNO, tBY, tKL, tWW, tRB, tBU, tCH, tTA, tLE, tIM, tBO, tTR, tSH, tFR⟩ := hT
  obtain ⟨d0, u0, ⟨ch1, ch2, ch3, ch4, ch5⟩, chc, chw⟩ := tCH
  refine x_aload_n h dX0_redo_0 rfl ?_
  refine x_geti h g_X0_69 (mlt hC.1 rfl) (hC.2.1 _ _ rfl) rfl dX0_redo_1 ?_
  refine x_eqi (nI u0) ch5 ?_
  refine x_if_ne h 10 dX0_redo_4 rfl (fun c4 => ?_) (fun c4 => ?_)
  · skip
    have hu1 : 1 ≤ u0 := Nat.pos_of_ne_zero fun z => c4 (by rw [z]; rfl)
    obtain ⟨q9, hq9, ⟨q93, q9n⟩, q9T, e1, e2, e3, e4, ⟨ok1, ok2, ok3⟩⟩ := chc d0 (by omega)
    generalize hb9 : J 87 (4 * d0) = b9 at e2 ok1
    generalize hw9 : J 87 (4 * d0 + 1) = w9 at e1 ok1 ok2 ok3
    generalize hx9 : J 87 (4 * d0 + 3) = x9 at e4 ok3
    obtain ⟨q0, hq70, hqn, hq0⟩ := hT.cell ok1
    have hz : m_redo J = (nI (u0 - 1), up2 (m_bec J b9 w9 x9) 70 29 (nI (d0 + 1))) := by unfold m_redo; rw [if_neg (fun z => by rw [ch2, ch3] at z; have y := congrArg ix z; rw [ix_n (by omega), ix_n (by omega)] at y; omega), ch2, ch3]; simp only [nI_1]; rw [ix_40 (show d0 < 40 by omega), show ix (4 * nI d0 + 1) = 4 * d0 + 1 from ix_4 (j := 1) (by omega) (by decide), show ix (4 * nI d0 + 3) = 4 * d0 + 3 from ix_4 (j := 3) (by omega) (by decide), hb9, hw9, hx9, pk_sub (by omega), show d0 + u0 - (d0 + 1) = u0 - 1 by omega]
    refine x_aload_n h dX0_redo_10 rfl ?_
    refine x_aload_n h dX0_redo_11 rfl ?_
    refine x_getr h (j := 2) g_X0_75 (mlt hC.1 rfl) (hC.2.1 _ _ rfl) (by decide) (hC.2.2 _ _ _ rfl) dX0_redo_12 ?_
    refine x_aload_n h dX0_redo_15 rfl ?_
    refine x_geti h g_X0_72 (mlt hC.1 rfl) (hC.2.1 _ _ rfl) rfl dX0_redo_16 ?_
    refine x_eqi (nI d0) ch4 ?_
    refine x_aaldr h (q := q9) (mlt hC.1 rfl) (hC.2.1 _ _ rfl) (by decide) rfl rfl (vp_in_nI (show d0 < 40 by omega) (by decide)) (d0) (nI_clamp (by omega)) hq9 dX0_redo_19 ?_
    refine x_getiN h g_X0_88 q9n q9T rfl dX0_redo_20 ?_
    refine x_eqi (w9) e1 ?_
    refine x_aload_n h dX0_redo_23 rfl ?_
    refine x_getr h (j := 2) g_X0_75 (mlt hC.1 rfl) (hC.2.1 _ _ rfl) (by decide) (hC.2.2 _ _ _ rfl) dX0_redo_24 ?_
    refine x_aload_n h dX0_redo_27 rfl ?_
    refine x_geti h g_X0_72 (mlt hC.1 rfl) (hC.2.1 _ _ rfl) rfl dX0_redo_28 ?_
    refine x_eqi (nI d0) ch4 ?_
    refine x_aaldr h (q := q9) (mlt hC.1 rfl) (hC.2.1 _ _ rfl) (by decide) rfl rfl (vp_in_nI (show d0 < 40 by omega) (by decide)) (d0) (nI_clamp (by omega)) hq9 dX0_redo_31 ?_
    refine x_getiN h g_X0_91 q9n q9T rfl dX0_redo_32 ?_
    refine x_eqi (b9) e2 ?_
    refine x_aload_n h dX0_redo_35 rfl ?_
    refine x_getr h (j := 2) g_X0_75 (mlt hC.1 rfl) (hC.2.1 _ _ rfl) (by decide) (hC.2.2 _ _ _ rfl) dX0_redo_36 ?_
    refine x_aload_n h dX0_redo_39 rfl ?_
    refine x_geti h g_X0_72 (mlt hC.1 rfl) (hC.2.1 _ _ rfl) rfl dX0_redo_40 ?_
    refine x_eqi (nI d0) ch4 ?_
    refine x_aaldr h (q := q9) (mlt hC.1 rfl) (hC.2.1 _ _ rfl) (by decide) rfl rfl (vp_in_nI (show d0 < 40 by omega) (by decide)) (d0) (nI_clamp (by omega)) hq9 dX0_redo_43 ?_
    refine x_getiN h g_X0_96 q9n q9T rfl dX0_redo_44 ?_
    refine x_eqi (x9) e4 ?_
    refine x_callVEv h (As := [.int _, .int _, .int _]) (k0_setTo l G n _ _ hC _ _ b9 w9 x9 q0 hq0) m_X0_84 (mlt hC.1 rfl) (hC.2.1 _ _ rfl) dX0_redo_47 ⟨by decide, by decide⟩ ⟨by decide, by decide⟩ rfl (Nat.le_of_ble_eq_true rfl) ?_
    refine x_nmI (fun J47 eJ47 => ?_)
    have hT2 : TOP n Ty J47 L F (m_bec J b9 w9 x9) M := by rw [eJ47]; exact hT.set ok1 ok3 hq0
    have hk6 : J47 0 6 = nI d0 := by rw [eJ47, kset_o (by omega) (by omega)]; exact ch4
    have hk7 : J47 0 7 = nI u0 := by rw [eJ47, kset_o (by omega) (by omega)]; exact ch5
    refine x_aload_n h dX0_redo_50 rfl ?_
    refine x_dup h dX0_redo_51 rfl ?_
    refine x_geti h g_X0_72 (mlt hC.1 rfl) (hC.2.1 _ _ rfl) rfl dX0_redo_52 ?_
    refine x_eqi (nI d0) hk6 ?_
    refine x_iconst h dX0_redo_55 (1) rfl ?_
    refine x_iaddE h (nI (d0 + 1)) (nI_add d0 1) dX0_redo_56 ?_
    refine x_puti h p_X0_72 (mlt hC.1 rfl) (hC.2.1 _ _ rfl) rfl rfl rfl dX0_redo_57 (fun J57 eJ57 => ?_)
    refine x_aload_n h dX0_redo_60 rfl ?_
    refine x_dup h dX0_redo_61 rfl ?_
    refine x_geti h g_X0_69 (mlt hC.1 rfl) (hC.2.1 _ _ rfl) rfl dX0_redo_62 ?_
    refine x_eqi (nI u0) (by rw [eJ57, up2_k _ _ (by decide)]; exact hk7) ?_
    refine x_iconst h dX0_redo_65 (1) rfl ?_
    refine x_isubE h (nI (u0 - 1)) (nI_m1 hu1) dX0_redo_66 ?_
    refine x_puti h p_X0_69 (mlt hC.1 rfl) (hC.2.1 _ _ rfl) rfl rfl rfl dX0_redo_67 (fun J67 eJ67 => ?_)
    have hT3 : TOP n Ty J67 L F (up2 (m_bec J b9 w9 x9) 70 29 (nI (d0 + 1))) M := by
      obtain ⟨d1, u1, ⟨g1, g2, g3, g4, g5⟩, gc, gw⟩ := hT2.2.2.2.2.2.2.2.2.1
      have hdd : d1 = d0 := by have y := congrArg ix (g4.symm.trans hk6); rwa [ix_n (by omega), ix_n (by omega)] at y
      have huu : u1 = u0 := by have y := congrArg ix (g5.symm.trans hk7); rwa [ix_n (by omega), ix_n (by omega)] at y
      subst hdd huu
      exact hT2.ch9 grw.rf (fun c s _ z => by rw [eJ67, up2_n _ _ (by omega), eJ57, up2_n _ _ (by omega)]) (fun _ _ _ _ => rfl) (fun q k z => up2_n _ _ (by omega)) (TCh.mv gc gw (d1 + 1) (u1 - 1) (by omega) g1 (up2_s _ _ _ _) (by rw [up2_k _ _ (by decide), g3, show d1 + 1 + (u1 - 1) = d1 + u1 by omega]) (by rw [eJ67, up2_k _ _ (by decide), eJ57, up2_s]) (by rw [eJ67, up2_s]) (fun q k z _ _ => by rw [eJ67, up2_i _ _ (by omega), eJ57, up2_i _ _ (by omega)]) (fun q k z => up2_n _ _ (by omega)))
    refine x_aload_n h dX0_redo_70 rfl ?_
    refine x_geti h g_X0_69 (mlt hC.1 rfl) (hC.2.1 _ _ rfl) rfl dX0_redo_71 ?_
    refine x_eqi (nI (u0 - 1)) (by rw [eJ67, up2_s]) ?_
    exact x_iret h dX0_redo_74 rfl (by rw [hz]; exact ⟨rfl, grw.rf, hT3⟩)
  · skip
    have hu0 : u0 = 0 := by have y := congrArg ix (show nI u0 = 0 from c4); rw [ix_n (by omega), show ix (0 : Int32) = 0 from rfl] at y; exact y
    have hz : m_redo J = (-5, J) := by unfold m_redo; rw [if_pos (by rw [ch2, ch3, hu0]; rfl)]
    refine x_bipush h dX0_redo_7 (-5) rfl ?_
    exact x_iret h dX0_redo_9 rfl (by rw [hz]; exact ⟨rfl, grw.rf, hT⟩)
