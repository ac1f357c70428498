/-! WALKS OF THE COMPONENT: what one gives -/
theorem p_X0_42 : xfpN RX0 42 4 0 (tyX4 0) := ⟨_, _, _, _, tyX4, rfl, by decide, in_X4, q165, rfl, tyX4_ok, nmX4, tyX4_ok 0 (by decide), rfl⟩
theorem p_X0_397 : xfp RX0 397 0 30 (tyX0 30) false := ⟨_, _, _, tyX0, rfl, by decide, in_X0, q738, rfl, tyX0_ok, nmX0, tyX0_ok 30 (by decide), rfl⟩
set_option maxHeartbeats 4000000 in
theorem k0_gives_2 (l : Launch) (G : xG_T) (n : Nat) (Ty : Nat → xs_T) (F : xF_T) (hC : WC n Ty F) (I : xI_T) (L : xL_T) (J : xI_T) (M : xL_T) (o p v : Int32) (hT : TOP n Ty I L F J M) : Cg l (3) 0 0 yX0_gives_2 cX0_gives_2 6 (some .int) G idC [.ref (xb G + 0), .int o, .int p, .int v] n Ty I L F (pT n Ty (.int ((m_gives J o p v).1)) ((m_gives J o p v).2) (M)) := by
  refine Cg.intro (cls := RX0) (pad := 2) (lv := [some (.ref (xb G + 0)), some (.int o), some (.int p), some (.int v), none, none]) rfl (by decide) (Nat.le_of_ble_eq_true rfl) rfl (fun Θ h => ?_)
  have hQ := hT.Q
  have hI0 : I 0 1 = J 70 0 := hQ.1.1.1
  have hb := hQ.2.2.1.1
  obtain ⟨nb, hnb, enb, enx, hnI⟩ := hQ.nb
  have ekB : ∀ o : Int32, k_isB I o = m_isB J o := isB_k hI0
  have ⟨tC, tNU, tNO, tBY, tKL, tWW, tRB, tBU, tCH, tTA, tLE, tIM, tBO, tTR, tSH, tFR⟩ := hT
  refine x_aload_n h dX0_gives_2_0 rfl ?_
  refine x_iload_n h dX0_gives_2_1 rfl ?_
  refine x_callVEi h (As := [.int _]) (k0_isBuyer l G n _ _ hC _ _ _ ) m_X0_11 (mlt hC.1 rfl) (hC.2.1 _ _ rfl) dX0_gives_2_2 ⟨by decide, by decide⟩ ⟨by decide, by decide⟩ rfl (Nat.le_of_ble_eq_true rfl) ?_
  refine x_if_eq h 32 dX0_gives_2_5 rfl (fun c5 => ?_) (fun c5 => ?_)
  · skip
    have d5 : m_isB J o = 0 := by rw [← ekB]; exact c5
    have hz : m_gives J o p v = (-1, J) := by unfold m_gives; rw [if_pos d5]
    refine x_iconst h dX0_gives_2_32 (-1) rfl ?_
    exact x_iret h dX0_gives_2_33 rfl (by rw [hz]; exact ⟨rfl, grw.rf, hT⟩)
  · skip
    have d5 : ¬ m_isB J o = 0 := by rw [← ekB]; exact c5
    refine x_aload_n h dX0_gives_2_8 rfl ?_
    refine x_iload_n h dX0_gives_2_9 rfl ?_
    refine x_callVEi h (As := [.int _]) (k0_isBuyer l G n _ _ hC _ _ _ ) m_X0_11 (mlt hC.1 rfl) (hC.2.1 _ _ rfl) dX0_gives_2_10 ⟨by decide, by decide⟩ ⟨by decide, by decide⟩ rfl (Nat.le_of_ble_eq_true rfl) ?_
    refine x_if_eq h 32 dX0_gives_2_13 rfl (fun c13 => ?_) (fun c13 => ?_)
    · skip
      have d13 : m_isB J p = 0 := by rw [← ekB]; exact c13
      have hz : m_gives J o p v = (-1, J) := by unfold m_gives; rw [if_neg d5, if_pos d13]
      refine x_iconst h dX0_gives_2_32 (-1) rfl ?_
      exact x_iret h dX0_gives_2_33 rfl (by rw [hz]; exact ⟨rfl, grw.rf, hT⟩)
    · skip
      have d13 : ¬ m_isB J p = 0 := by rw [← ekB]; exact c13
      refine x_iload_n h dX0_gives_2_16 rfl ?_
      refine x_iload_n h dX0_gives_2_17 rfl ?_
      refine x_icmp_eq h 32 dX0_gives_2_18 rfl (fun c18 => ?_) (fun c18 => ?_)
      · skip
        have hz : m_gives J o p v = (-1, J) := by unfold m_gives; rw [if_neg d5, if_neg d13, if_pos c18]
        refine x_iconst h dX0_gives_2_32 (-1) rfl ?_
        exact x_iret h dX0_gives_2_33 rfl (by rw [hz]; exact ⟨rfl, grw.rf, hT⟩)
      · skip
        refine x_iload_n h dX0_gives_2_21 rfl ?_
        refine x_iconst h dX0_gives_2_22 (1) rfl ?_
        refine x_sipush h dX0_gives_2_23 (999) rfl ?_
        refine x_callSEi h (As := [.int _, .int _, .int _]) (k0_in l G n _ _ hC _ _ _ _ _ ) m_X0_7 dX0_gives_2_26 ⟨by decide, by decide⟩ ⟨by decide, by decide⟩ rfl (Nat.le_of_ble_eq_true rfl) ?_
        refine x_if_ne h 34 dX0_gives_2_29 rfl (fun c29 => ?_) (fun c29 => ?_)
        · skip
          obtain ⟨x, hx, hx8, rfl⟩ := isB_y hb d5
          obtain ⟨y, hy, hy8, rfl⟩ := isB_y hb d13
          have hz := gives_1 d5 d13 c18 c29 hx8 hy8
          obtain ⟨q1, hq1, ⟨g1, g1n⟩, g1T, g10, -⟩ := tBY x hx
          obtain ⟨q2, hq2, ⟨g2, g2n⟩, g2T, g20, -⟩ := tBY y hy
          have hxy : x ≠ y := fun e => c18 (by rw [e])
          have q21 : q2 ≠ q1 := fun e => hxy (tBU x y hx hy (by rw [hq1, hq2, e]))
          refine x_aload_n h dX0_gives_2_34 rfl ?_
          refine x_getr h (j := 1) g_X0_15 (mlt hC.1 rfl) (hC.2.1 _ _ rfl) (by decide) (hC.2.2 _ _ _ rfl) dX0_gives_2_35 ?_
          refine x_iload_n h dX0_gives_2_38 rfl ?_
          refine x_aaldr h (q := q1) (mlt hC.1 rfl) (hC.2.1 _ _ rfl) (by decide) rfl rfl (vp_in_nI hx8 (by decide)) (x) (nI_clamp (by omega)) hq1 dX0_gives_2_39 ?_
          refine x_astore h dX0_gives_2_40 (by decide) [some (.ref (xb G + 0)), some (.int (nI x)), some (.int (nI y)), some (.int v), some (.ref (xb G + q1)), none] rfl ?_
          refine x_aload_n h dX0_gives_2_42 rfl ?_
          refine x_getr h (j := 1) g_X0_15 (mlt hC.1 rfl) (hC.2.1 _ _ rfl) (by decide) (hC.2.2 _ _ _ rfl) dX0_gives_2_43 ?_
          refine x_iload_n h dX0_gives_2_46 rfl ?_
          refine x_aaldr h (q := q2) (mlt hC.1 rfl) (hC.2.1 _ _ rfl) (by decide) rfl rfl (vp_in_nI hy8 (by decide)) (y) (nI_clamp (by omega)) hq2 dX0_gives_2_47 ?_
          refine x_astore h dX0_gives_2_48 (by decide) [some (.ref (xb G + 0)), some (.int (nI x)), some (.int (nI y)), some (.int v), some (.ref (xb G + q1)), some (.ref (xb G + q2))] rfl ?_
          refine x_aload h dX0_gives_2_50 rfl ?_
          refine x_getiN h g_X0_42 g1n g1T rfl dX0_gives_2_52 ?_
          refine x_iload_n h dX0_gives_2_55 rfl ?_
          refine x_icmp_ge h 62 dX0_gives_2_56 rfl (fun c56 => ?_) (fun c56 => ?_)
          · skip
            rw [if_neg (by rw [← g10]; exact Int32.not_lt.mpr c56)] at hz
            generalize hK : up2 (up2 (up2 J 72 x (J 72 x - v)) 72 y (jmin 999 (J 72 y + v))) 84 4 (J 84 4 + v) = K at hz
            refine x_aload h dX0_gives_2_62 rfl ?_
            refine x_dup h dX0_gives_2_64 rfl ?_
            refine x_getiN h g_X0_42 g1n g1T rfl dX0_gives_2_65 ?_
            refine x_iload_n h dX0_gives_2_68 rfl ?_
            refine x_isub h dX0_gives_2_69 ?_
            refine x_putiN h p_X0_42 g1n g1T rfl rfl rfl dX0_gives_2_70 (fun J70 eJ70 => ?_)
            refine x_aload h dX0_gives_2_73 rfl ?_
            refine x_sipush h dX0_gives_2_75 (999) rfl ?_
            refine x_aload h dX0_gives_2_78 rfl ?_
            refine x_getiN h g_X0_42 g2n g2T rfl dX0_gives_2_80 ?_
            refine x_iload_n h dX0_gives_2_83 rfl ?_
            refine x_iadd h dX0_gives_2_84 ?_
            refine x_mmin h q903 (by decide) ⟨by decide, by decide⟩ (Nat.le_of_ble_eq_true rfl) dX0_gives_2_85 ?_
            refine x_putiN h p_X0_42 g2n g2T rfl rfl rfl dX0_gives_2_88 (fun J88 eJ88 => ?_)
            refine x_aload_n h dX0_gives_2_91 rfl ?_
            refine x_dup h dX0_gives_2_92 rfl ?_
            refine x_geti h g_X0_397 (mlt hC.1 rfl) (hC.2.1 _ _ rfl) rfl dX0_gives_2_93 ?_
            refine x_iload_n h dX0_gives_2_96 rfl ?_
            refine x_iadd h dX0_gives_2_97 ?_
            refine x_puti h p_X0_397 (mlt hC.1 rfl) (hC.2.1 _ _ rfl) rfl rfl rfl dX0_gives_2_98 (fun J98 eJ98 => ?_)
            refine x_aload h dX0_gives_2_101 rfl ?_
            refine x_getiN h g_X0_42 g1n g1T rfl dX0_gives_2_103 ?_
            have e98 : J98 = up2 (up2 (up2 I q1 0 (J 72 x - v)) q2 0 (jmin 999 (J 72 y + v))) 0 30 (J 84 4 + v) := by rw [eJ98, eJ88, eJ70, up2_i _ _ (show (0 : Nat) ≠ q2 by omega), up2_i _ _ (show (0 : Nat) ≠ q1 by omega), up2_i _ _ q21, g10, g20, tLE.2.2.2.2]
            have id : ∀ q k : Nat, 103 ≤ q → q < n → ¬ (Ty q = some (.inl 4) ∧ k = 0) → J98 q k = I q k := fun q k z1 z2 z => by rw [e98, up2_n _ _ (by omega), up2_n _ _ (fun e => z ⟨by rw [e.1]; exact g2T, e.2⟩), up2_n _ _ (fun e => z ⟨by rw [e.1]; exact g1T, e.2⟩)]
            have hI : ∀ q k : Nat, ¬ ((q = 0 ∧ k = 30) ∨ 103 ≤ q) → J98 q k = I q k := fun q k z => by rw [e98, up2_n _ _ (by omega), up2_n _ _ (by omega), up2_n _ _ (by omega)]
            have hJ : ∀ q k : Nat, ¬ ((q = 72 ∧ k < 8) ∨ (q = 84 ∧ k = 4)) → (m_gives J (nI x) (nI y) v).2 q k = J q k := fun q k z => by rw [hz]; show K q k = J q k; rw [← hK, up2_n _ _ (by omega), up2_n _ _ (by omega), up2_n _ _ (by omega)]
            have hJ2 : ∀ q k : Nat, (m_gives J (nI x) (nI y) v).2 q k = K q k := fun q k => by rw [hz]
            have dI := dynI.b (Ty := Ty) (I := I) (I' := J98) id
            have dA := dynA.b (Ty := Ty) (I := I) (I' := J98) (L := L) id
            exact x_iret h dX0_gives_2_106 rfl ⟨congrArg (fun z => some (Value.int z)) ((by rw [hz, ← hK, e98, up2_i _ _ (show q1 ≠ 0 by omega), up2_i _ _ (Ne.symm q21), up2_s, up2_i _ _ (show (72 : Nat) ≠ 84 by decide), up2_k _ _ hxy, up2_s])), grw.rf, ⟨tC, tNU.w (fun k _ _ => hI 0 k (by omega)) (fun q k _ => hJ q k (by omega)), tNO.w tWW (fun q k _ => hI q k (by omega)) (fun q k _ => hJ q k (by omega)), tBY.pur (fun q k z1 z2 z3 z4 => id q k z1 z2 (fun e => absurd e.2 (by omega))) (fun b q hb9 hq z1 z2 z3 => by rw [e98, up2_i _ _ (show q ≠ 0 by omega), hJ2, ← hK, up2_i _ _ (show (72 : Nat) ≠ 84 by decide)]; by_cases e2 : b = y; rw [e2] at hq ⊢; rw [show q = q2 from Option.some.inj (hq.symm.trans hq2), up2_s, up2_s]; have n2 : q ≠ q2 := fun e => e2 (tBU b y hb9 hy (by rw [hq, hq2, e])); rw [up2_i _ _ n2, up2_k _ _ e2]; by_cases e1 : b = x; rw [e1] at hq ⊢; rw [show q = q1 from Option.some.inj (hq.symm.trans hq1), up2_s, up2_s]; have n1 : q ≠ q1 := fun e => e1 (tBU b x hb9 hx (by rw [hq, hq1, e])); rw [up2_i _ _ n1, up2_k _ _ e1]; obtain ⟨q9, a1, -, -, a4, -⟩ := tBY b hb9; rw [show q = q9 from Option.some.inj (hq.symm.trans a1)]; exact a4) (hJ 70 0 (by omega)) (fun k => hJ 71 k (by omega)), tKL.w grw.rf dI dynF.rf rfl (fun q k _ => hJ q k (by omega)), tWW.w (fun q k _ => hJ q k (by omega)), tRB.w (fun k => hI 23 k (by omega)) (fun k => hJ 101 k (by omega)), tBU.w (fun _ _ => rfl) (hJ 70 0 (by omega)), tCH.w grw.rf dI ⟨hI 0 6 (by omega), hI 0 7 (by omega)⟩ (fun _ => rfl) (fun q k _ => hJ q k (by omega)), tTA.w (fun q k _ => hI q k (by omega)) (fun q k _ => hJ q k (by omega)), ⟨(hI 0 26 (by omega)).trans (tLE.1.trans (hJ 84 0 (by omega)).symm), (hI 0 27 (by omega)).trans (tLE.2.1.trans (hJ 84 1 (by omega)).symm), (hI 0 28 (by omega)).trans (tLE.2.2.1.trans (hJ 84 2 (by omega)).symm), (hI 0 29 (by omega)).trans (tLE.2.2.2.1.trans (hJ 84 3 (by omega)).symm), by rw [e98, up2_s, hJ2, ← hK, up2_s]⟩, tIM.w (fun q k _ => hI q k (by omega)) (fun q k _ => hJ q k (by omega)) (by rw [hJ 70 0 (by omega)]; exact Nat.le_refl _), tBO.w grw.rf dI dynF.rf (hI 0 42 (by omega)) (fun _ => rfl) (fun q k _ => hJ q k (by omega)), tTR.w (fun q k _ => hI q k (by omega)) (fun q k _ => hJ q k (by omega)), tSH.w grw.rf dA dynF.rf ⟨fun _ => rfl, fun _ _ z => z⟩ (fun q k _ => hJ q k (by omega)) (fun _ => rfl) (by rw [hJ 70 31 (by omega)]; exact Nat.le_refl _), tFR.w (fun k => hI 9 k (by omega)) (fun q k _ => hJ q k (by omega))⟩⟩
          · skip
            rw [if_pos (by rw [← g10]; exact Int32.not_le.mp c56)] at hz
            refine x_bipush h dX0_gives_2_59 (-5) rfl ?_
            exact x_iret h dX0_gives_2_61 rfl (by rw [hz]; exact ⟨rfl, grw.rf, hT⟩)
        · skip
          have hz : m_gives J o p v = (-1, J) := by unfold m_gives; rw [if_neg d5, if_neg d13, if_neg c18, if_pos c29]
          refine x_iconst h dX0_gives_2_32 (-1) rfl ?_
          exact x_iret h dX0_gives_2_33 rfl (by rw [hz]; exact ⟨rfl, grw.rf, hT⟩)
