/-! WALKS OF THE COMPONENT: bodies kept -/
theorem m_X0_462 : xcv RX0 462 0 yX0_isBody cX0_isBody 2 (some .boolean) 1 := ⟨_, _, _, rfl, lw_V q1213 q1215 qs47 q99 q1216, rfl, by decide +kernel, by decide +kernel, by decide +kernel⟩
theorem g_X0_201 : xfg RX0 201 0 41 := ⟨_, _, _, rfl, by decide, in_X0, q751, rfl⟩
set_option maxHeartbeats 4000000 in
theorem k0_keep (l : Launch) (G : xG_T) (n : Nat) (Ty : Nat → xs_T) (F : xF_T) (hC : WC n Ty F) (I : xI_T) (L : xL_T) (J : xI_T) (M : xL_T) (s b : Int32) (hT : TOP n Ty I L F J M) : Cg l (3) 0 0 yX0_keep cX0_keep 3 (some .int) G idC [.ref (xb G + 0), .int s, .int b] n Ty I L F (pT n Ty (.int ((m_keep J s b).1)) ((m_keep J s b).2) (M)) := by
  refine Cg.intro (cls := RX0) (pad := 0) (lv := [some (.ref (xb G + 0)), some (.int s), some (.int b)]) rfl (by decide) (Nat.le_of_ble_eq_true rfl) rfl (fun Θ h => ?_)
  have hQ := hT.Q
  have hI0 : I 0 1 = J 70 0 := hQ.1.1.1
  have hb := hQ.2.2.1.1
  obtain ⟨nb, hnb, enb, enx, hnI⟩ := hQ.nb
  have ekB : ∀ o : Int32, k_isB I o = m_isB J o := isB_k hI0
  have ⟨tC, tNU, tNO, tBY, tKL, tWW, tRB, tBU, tCH, tTA, tLE, tIM, tBO, tTR, tSH, tFR⟩ := hT
  refine x_iload_n h dX0_keep_0 rfl ?_
  refine x_callSEi h (As := [.int _]) (k0_isShelf l G n _ _ hC _ _ _ ) m_X0_29 dX0_keep_1 ⟨by decide, by decide⟩ ⟨by decide, by decide⟩ rfl (Nat.le_of_ble_eq_true rfl) ?_
  refine x_if_eq h 20 dX0_keep_4 rfl (fun c4 => ?_) (fun c4 => ?_)
  · skip
    have hm : m_keep J s b = (-1, J) := by unfold m_keep; rw [if_pos c4]
    refine x_iconst h dX0_keep_20 (-1) rfl ?_
    exact x_iret h dX0_keep_21 rfl (by rw [hm]; exact ⟨rfl, grw.rf, hT⟩)
  · skip
    obtain ⟨s9, hs9, rfl⟩ := isB_s c4
    have ⟨m, ⟨m1, m2, m3⟩, hbo, _⟩ := tBO
    refine x_iload_n h dX0_keep_7 rfl ?_
    refine x_iconst h dX0_keep_8 (-1) rfl ?_
    refine x_icmp_eq h 22 dX0_keep_9 rfl (fun c9 => ?_) (fun c9 => ?_)
    · skip
      have e9 : b = -1 := c9
      have hok : ¬ inR b (-1) (J 70 31 - 1) = 0 := by rw [m2, e9]; exact keep_m m1
      have hb0 : b < 0 := by rw [e9]; decide
      refine x_aload_n h dX0_keep_22 rfl ?_
      refine x_getr h (j := 33) g_X0_32 (mlt hC.1 rfl) (hC.2.1 _ _ rfl) (by decide) (hC.2.2 _ _ _ rfl) dX0_keep_23 ?_
      refine x_iload_n h dX0_keep_26 rfl ?_
      refine x_iload_n h dX0_keep_27 rfl ?_
      refine x_if_ge h 35 dX0_keep_28 rfl (fun c28 => ?_) (fun c28 => ?_)
      · skip
        exact absurd hb0 (Int32.not_lt.mpr c28)
      · skip
        refine x_null h dX0_keep_31 ?_
        refine x_goto h 41 dX0_keep_32 rfl ?_
        refine x_aastN h (mlt hC.1 rfl) (hC.2.1 _ _ rfl) (by decide) rfl (vp_in_nI hs9 (by decide)) (s9) (nI_clamp (by omega)) dX0_keep_41 (fun Q41 eQ41 => ?_)
        have hQ41 : WC n Ty Q41 := by rw [eQ41]; exact hC.up (by omega)
        refine x_iconst h dX0_keep_42 (1) rfl ?_
        exact x_iret h dX0_keep_43 rfl (by have hm : m_keep J (nI s9) (b) = (1, up2 (up2 J 90 s9 (if (b) < 0 then -1 else 10 + (b))) 91 s9 0) := (by unfold m_keep; rw [if_neg c4, if_neg hok, ix_n (by omega)]); rw [hm]; first | (rw [if_pos hb0, eQ41]; exact ⟨rfl, grw.rf, hT.keep hs9 (Or.inl ⟨rfl, rfl⟩)⟩) | (rw [if_neg hb0, eQ41]; exact ⟨rfl, grw.rf, hT.keep hs9 (Or.inr ⟨q, x, c9_, rfl, hq, ⟨hq3, hqn⟩, hc7, hqT, by omega, by rw [m2, ix_n (by omega)]; exact hx, nI_add 10 x⟩)⟩))
    · skip
      have e9 : ¬ b = -1 := c9
      refine x_aload_n h dX0_keep_12 rfl ?_
      refine x_iload_n h dX0_keep_13 rfl ?_
      refine x_callVEi h (As := [.int _]) (k0_isBody l G n _ _ hC _ _ _ ) m_X0_462 (mlt hC.1 rfl) (hC.2.1 _ _ rfl) dX0_keep_14 ⟨by decide, by decide⟩ ⟨by decide, by decide⟩ rfl (Nat.le_of_ble_eq_true rfl) ?_
      refine x_if_ne h 22 dX0_keep_17 rfl (fun c17 => ?_) (fun c17 => ?_)
      · skip
        obtain ⟨x, hx, ex, hok⟩ := keep_1 m1 m2 m3 c17
        subst ex
        have hb0 : ¬ nI x < 0 := not_lt_nI (by omega)
        obtain ⟨q, c9_, hq, ⟨hq3, hqn⟩, hc7, hqT, -⟩ := hbo x hx
        obtain ⟨C9, T9, N9, hcl9, hca9⟩ := held_c hc7
        refine x_aload_n h dX0_keep_22 rfl ?_
        refine x_getr h (j := 33) g_X0_32 (mlt hC.1 rfl) (hC.2.1 _ _ rfl) (by decide) (hC.2.2 _ _ _ rfl) dX0_keep_23 ?_
        refine x_iload_n h dX0_keep_26 rfl ?_
        refine x_iload_n h dX0_keep_27 rfl ?_
        refine x_if_ge h 35 dX0_keep_28 rfl (fun c28 => ?_) (fun c28 => ?_)
        · skip
          refine x_aload_n h dX0_keep_35 rfl ?_
          refine x_getr h (j := 32) g_X0_201 (mlt hC.1 rfl) (hC.2.1 _ _ rfl) (by decide) (hC.2.2 _ _ _ rfl) dX0_keep_36 ?_
          refine x_iload_n h dX0_keep_39 rfl ?_
          refine x_aaldr h (q := q) (mlt hC.1 rfl) (hC.2.1 _ _ rfl) (by decide) rfl rfl (vp_in_nI (show x < 50 by omega) (by decide)) (x) (nI_clamp (by omega)) hq dX0_keep_40 ?_
          refine x_aast h (mlt hC.1 rfl) (hC.2.1 _ _ rfl) (by decide) rfl hqn hqT hcl9 (Or.inr hca9) (vp_in_nI hs9 (by decide)) (s9) (nI_clamp (by omega)) dX0_keep_41 (fun Q41 eQ41 => ?_)
          have hQ41 : WC n Ty Q41 := by rw [eQ41]; exact hC.up (by omega)
          refine x_iconst h dX0_keep_42 (1) rfl ?_
          exact x_iret h dX0_keep_43 rfl (by have hm : m_keep J (nI s9) ((nI x)) = (1, up2 (up2 J 90 s9 (if ((nI x)) < 0 then -1 else 10 + ((nI x)))) 91 s9 0) := (by unfold m_keep; rw [if_neg c4, if_neg hok, ix_n (by omega)]); rw [hm]; first | (rw [if_pos hb0, eQ41]; exact ⟨rfl, grw.rf, hT.keep hs9 (Or.inl ⟨rfl, rfl⟩)⟩) | (rw [if_neg hb0, eQ41]; exact ⟨rfl, grw.rf, hT.keep hs9 (Or.inr ⟨q, x, c9_, rfl, hq, ⟨hq3, hqn⟩, hc7, hqT, by omega, by rw [m2, ix_n (by omega)]; exact hx, nI_add 10 x⟩)⟩))
        · skip
          exact absurd (Int32.not_le.mp c28) hb0
      · skip
        have hm : m_keep J (nI s9) b = (-1, J) := by unfold m_keep; rw [if_neg c4, if_pos (keep_0 m1 m2 m3 e9 c17)]
        refine x_iconst h dX0_keep_20 (-1) rfl ?_
        exact x_iret h dX0_keep_21 rfl (by rw [hm]; exact ⟨rfl, grw.rf, hT⟩)
