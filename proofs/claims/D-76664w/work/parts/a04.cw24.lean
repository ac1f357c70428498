/-! WALKS OF THE COMPONENT: letters, evenings -/
theorem g_X0_117 : xfg RX0 117 0 8 := ⟨_, _, _, rfl, by decide, in_X0, q715, rfl⟩
theorem p_X0_114 : xfp RX0 114 0 9 (tyX0 9) false := ⟨_, _, _, tyX0, rfl, by decide, in_X0, q717, rfl, tyX0_ok, nmX0, tyX0_ok 9 (by decide), rfl⟩
theorem p_X0_394 : xfp RX0 394 0 29 (tyX0 29) false := ⟨_, _, _, tyX0, rfl, by decide, in_X0, q737, rfl, tyX0_ok, nmX0, tyX0_ok 29 (by decide), rfl⟩
theorem p_X0_66 : xfp RX0 66 0 4 (tyX0 4) false := ⟨_, _, _, tyX0, rfl, by decide, in_X0, q710, rfl, tyX0_ok, nmX0, tyX0_ok 4 (by decide), rfl⟩
def pT (n : Nat) (Ty : Nat → xs_T) (r : Value) (J : xI_T) (M : xL_T) : xP_T := fun v n' Ty' I' L' F' => v = some r ∧ grw n n' Ty Ty' ∧ TOP n' Ty' I' L' F' J M
set_option maxHeartbeats 4000000 in
theorem k0_feed (l : Launch) (G : xG_T) (n : Nat) (Ty : Nat → xs_T) (F : xF_T) (hC : WC n Ty F) (I : xI_T) (L : xL_T) (J : xI_T) (M : xL_T) (c : Int32) (hT : TOP n Ty I L F J M) : Cg l (2) 0 0 yX0_feed cX0_feed 2 (some .int) G idC [.ref (xb G + 0), .int c] n Ty I L F (pT n Ty (.int ((m_feed J c).1)) ((m_feed J c).2) (M)) := by
  refine Cg.intro (cls := RX0) (pad := 0) (lv := [some (.ref (xb G + 0)), some (.int c)]) rfl (by decide) (Nat.le_of_ble_eq_true rfl) rfl (fun Θ h => ?_)
  have hQ := hT.Q
  have hI0 : I 0 1 = J 70 0 := hQ.1.1.1
  have hb := hQ.2.2.1.1
  obtain ⟨nb, hnb, enb, enx, hnI⟩ := hQ.nb
  have ekB : ∀ o : Int32, k_isB I o = m_isB J o := isB_k hI0
  have ⟨tC, tNU, tNO, tBY, tKL, tWW, tRB, tBU, tCH, tTA, tLE, tIM, tBO, tTR, tSH, tFR⟩ := hT
  obtain ⟨t9, ta0, ta1, ta2, ta3⟩ := tTA
  have tTA : TTa I J := ⟨t9, ta0, ta1, ta2, ta3⟩
  refine x_iload_n h dX0_feed_0 rfl ?_
  refine x_iconst h dX0_feed_1 (0) rfl ?_
  refine x_sipush h dX0_feed_2 (255) rfl ?_
  refine x_callSEi h (As := [.int _, .int _, .int _]) (k0_in l G n _ _ hC _ _ _ _ _ ) m_X0_7 dX0_feed_5 ⟨by decide, by decide⟩ ⟨by decide, by decide⟩ rfl (Nat.le_of_ble_eq_true rfl) ?_
  refine x_if_ne h 13 dX0_feed_8 rfl (fun c8 => ?_) (fun c8 => ?_)
  · skip
    refine x_aload_n h dX0_feed_13 rfl ?_
    refine x_geti h g_X0_114 (mlt hC.1 rfl) (hC.2.1 _ _ rfl) rfl dX0_feed_14 ?_
    refine x_eqi (nI t9) ta2 ?_
    refine x_bipush h dX0_feed_17 (120) rfl ?_
    refine x_icmp_ne h 25 dX0_feed_19 rfl (fun c19 => ?_) (fun c19 => ?_)
    · skip
      have ht9 : t9 < 120 := Nat.lt_of_le_of_ne ta0 fun y => c19 (by rw [y]; rfl)
      have hz : m_feed J c = (nI (t9 + 1), up2 (up2 J 70 5 (nI (t9 + 1))) 73 t9 c) := by unfold m_feed; rw [if_neg c8, if_neg (fun y => c19 (ta1.symm.trans y)), ta1, nI_1, ix_n (by omega)]
      obtain ⟨c9, -, hc255, ec⟩ := inR_nat 0 255 c8 rfl rfl (by decide)
      refine x_aload_n h dX0_feed_25 rfl ?_
      refine x_getr h (j := 3) g_X0_117 (mlt hC.1 rfl) (hC.2.1 _ _ rfl) (by decide) (hC.2.2 _ _ _ rfl) dX0_feed_26 ?_
      refine x_aload_n h dX0_feed_29 rfl ?_
      refine x_geti h g_X0_114 (mlt hC.1 rfl) (hC.2.1 _ _ rfl) rfl dX0_feed_30 ?_
      refine x_eqi (nI t9) ta2 ?_
      refine x_iload_n h dX0_feed_33 rfl ?_
      refine x_i2b h dX0_feed_34 ?_
      refine x_bast h (mlt hC.1 rfl) (hC.2.1 _ _ rfl) (vp_in_nI ht9 (by decide)) (t9) (nI_clamp (by omega)) dX0_feed_35 (fun J35 eJ35 => ?_)
      refine x_aload_n h dX0_feed_36 rfl ?_
      refine x_dup h dX0_feed_37 rfl ?_
      refine x_geti h g_X0_114 (mlt hC.1 rfl) (hC.2.1 _ _ rfl) rfl dX0_feed_38 ?_
      refine x_eqi (nI t9) (by rw [eJ35, up2_i _ _ (by decide)]; exact ta2) ?_
      refine x_iconst h dX0_feed_41 (1) rfl ?_
      refine x_iaddE h (nI (t9 + 1)) (nI_add t9 1) dX0_feed_42 ?_
      refine x_puti h p_X0_114 (mlt hC.1 rfl) (hC.2.1 _ _ rfl) rfl rfl rfl dX0_feed_43 (fun J43 eJ43 => ?_)
      refine x_aload_n h dX0_feed_46 rfl ?_
      refine x_geti h g_X0_114 (mlt hC.1 rfl) (hC.2.1 _ _ rfl) rfl dX0_feed_47 ?_
      refine x_eqi (nI (t9 + 1)) (by rw [eJ43, up2_s]) ?_
      have hI : ∀ q k : Nat, ¬ (q = 3 ∨ (q = 0 ∧ k = 9)) → J43 q k = I q k := fun q k z => by rw [eJ43, eJ35, up2_n _ _ (by omega), up2_n _ _ (by omega)]
      have hz2 : (m_feed J c).2 = up2 (up2 J 70 5 (nI (t9 + 1))) 73 t9 c := by rw [hz]
      have hJ : ∀ q k : Nat, ¬ (q = 73 ∨ (q = 70 ∧ k = 5)) → (m_feed J c).2 q k = J q k := fun q k z => by rw [hz2, up2_n _ _ (by omega), up2_n _ _ (by omega)]
      have i3 : ∀ k : Nat, J43 3 k = up2 I 3 t9 (c.toInt8.toInt32) 3 k := fun k => by rw [eJ43, up2_i _ _ (by decide), eJ35, pk_vb]
      have j73 : ∀ k : Nat, (m_feed J c).2 73 k = up2 J 73 t9 c 73 k := fun k => by rw [hz2]; by_cases e : k = t9; rw [e, up2_s, up2_s]; rw [up2_k _ _ e, up2_k _ _ e, up2_i _ _ (by decide)]
      have id : ∀ q k : Nat, 103 ≤ q → q < n → J43 q k = I q k := fun q k z _ => hI q k (by omega)
      have dI := dynI.of (Ty := Ty) id
      have dB := dynB.of (Ty := Ty) id
      have dA := dynA.of (Ty := Ty) (L := L) id (fun _ _ _ _ => rfl)
      exact x_iret h dX0_feed_50 rfl ⟨by rw [hz], grw.rf, ⟨tC, tNU.w (fun k _ _ => hI 0 k (by omega)) (fun q k _ => hJ q k (by omega)), tNO.w tWW (fun q k _ => hI q k (by omega)) (fun q k _ => hJ q k (by omega)), tBY.w tWW grw.rf dB (fun _ _ => rfl) (fun q k _ => hJ q k (by omega)), tKL.w grw.rf dI dynF.rf rfl (fun q k _ => hJ q k (by omega)), tWW.w (fun q k _ => hJ q k (by omega)), tRB.w (fun k => hI 23 k (by omega)) (fun k => hJ 101 k (by omega)), tBU.w (fun _ _ => rfl) (hJ 70 0 (by omega)), tCH.w grw.rf dI ⟨hI 0 6 (by omega), hI 0 7 (by omega)⟩ (fun _ => rfl) (fun q k _ => hJ q k (by omega)), ⟨t9 + 1, by omega, by rw [hz2, up2_i _ _ (by decide), up2_s], by rw [eJ43, up2_s], fun k hk => by rw [i3, j73]; by_cases e : k = t9; rw [e, up2_s, up2_s]; exact ⟨c9, hc255, ec, by rw [ec]⟩; rw [up2_k _ _ e, up2_k _ _ e]; exact ta3 k (by omega)⟩, tLE.w (fun k _ _ => hI 0 k (by omega)) (fun k => hJ 84 k (by omega)), tIM.w (fun q k _ => hI q k (by omega)) (fun q k _ => hJ q k (by omega)) (by rw [hJ 70 0 (by omega)]; exact Nat.le_refl _), tBO.w grw.rf dI dynF.rf (hI 0 42 (by omega)) (fun _ => rfl) (fun q k _ => hJ q k (by omega)), tTR.w (fun q k _ => hI q k (by omega)) (fun q k _ => hJ q k (by omega)), tSH.w grw.rf dA dynF.rf ⟨fun _ => rfl, fun _ _ z => z⟩ (fun q k _ => hJ q k (by omega)) (fun _ => rfl) (by rw [hJ 70 31 (by omega)]; exact Nat.le_refl _), tFR.w (fun k => hI 9 k (by omega)) (fun q k _ => hJ q k (by omega))⟩⟩
    · skip
      have hz : m_feed J c = (-3, J) := by unfold m_feed; rw [if_neg c8, if_pos (ta1.trans c19)]
      refine x_bipush h dX0_feed_22 (-3) rfl ?_
      exact x_iret h dX0_feed_24 rfl (by rw [hz]; exact ⟨rfl, grw.rf, hT⟩)
  · skip
    have hz : m_feed J c = (-1, J) := by unfold m_feed; rw [if_pos c8]
    refine x_iconst h dX0_feed_11 (-1) rfl ?_
    exact x_iret h dX0_feed_12 rfl (by rw [hz]; exact ⟨rfl, grw.rf, hT⟩)
set_option maxHeartbeats 4000000 in
theorem k0_evening (l : Launch) (G : xG_T) (n : Nat) (Ty : Nat → xs_T) (F : xF_T) (hC : WC n Ty F) (I : xI_T) (L : xL_T) (J : xI_T) (M : xL_T)  (hT : TOP n Ty I L F J M) : Cg l (2) 0 0 yX0_evening cX0_evening 1 (some .int) G idC [.ref (xb G + 0)] n Ty I L F (pT n Ty (.int ((m_even J).1)) ((m_even J).2) (M)) := by
  refine Cg.intro (cls := RX0) (pad := 0) (lv := [some (.ref (xb G + 0))]) rfl (by decide) (Nat.le_of_ble_eq_true rfl) rfl (fun Θ h => ?_)
  have hQ := hT.Q
  have hI0 : I 0 1 = J 70 0 := hQ.1.1.1
  have hb := hQ.2.2.1.1
  obtain ⟨nb, hnb, enb, enx, hnI⟩ := hQ.nb
  have ekB : ∀ o : Int32, k_isB I o = m_isB J o := isB_k hI0
  have ⟨tC, tNU, tNO, tBY, tKL, tWW, tRB, tBU, tCH, tTA, tLE, tIM, tBO, tTR, tSH, tFR⟩ := hT
  refine x_aload_n h dX0_evening_0 rfl ?_
  refine x_getr h (j := 6) g_X0_170 (mlt hC.1 rfl) (hC.2.1 _ _ rfl) (by decide) (hC.2.2 _ _ _ rfl) dX0_evening_1 ?_
  refine x_callVEv h (As := []) (k2_evening l G n _ _ hC _ _ 6 (hC.mk (by unfold isMk; omega))) m_X0_305 (mlt hC.1 rfl) (hC.2.1 _ _ rfl) dX0_evening_4 ⟨by decide, by decide⟩ ⟨by decide, by decide⟩ rfl (Nat.le_of_ble_eq_true rfl) ?_
  refine x_nmI (fun J4 eJ4 => ?_)
  refine x_aload_n h dX0_evening_7 rfl ?_
  refine x_geti h g_X0_66 (mlt hC.1 rfl) (hC.2.1 _ _ rfl) rfl dX0_evening_8 ?_
  refine x_eqi (J 72 8) (by rw [eJ4, keve_o (by omega) (by omega)]; exact tNU.2.2.1) ?_
  refine x_bipush h dX0_evening_11 (99) rfl ?_
  refine x_icmp_ge h 26 dX0_evening_13 rfl (fun c13 => ?_) (fun c13 => ?_)
  · skip
    have d9 : (if J 72 8 < 99 then J 72 8 + 1 else J 72 8) = J 72 8 := if_neg (Int32.not_lt.mpr c13)
    refine x_aload_n h dX0_evening_26 rfl ?_
    refine x_dup h dX0_evening_27 rfl ?_
    refine x_geti h g_X0_394 (mlt hC.1 rfl) (hC.2.1 _ _ rfl) rfl dX0_evening_28 ?_
    refine x_iconst h dX0_evening_31 (1) rfl ?_
    refine x_iadd h dX0_evening_32 ?_
    refine x_puti h p_X0_394 (mlt hC.1 rfl) (hC.2.1 _ _ rfl) rfl rfl rfl dX0_evening_33 (fun J33 eJ33 => ?_)
    refine x_aload_n h dX0_evening_36 rfl ?_
    refine x_geti h g_X0_66 (mlt hC.1 rfl) (hC.2.1 _ _ rfl) rfl dX0_evening_37 ?_
    refine x_eqi (m_ends J 72 8) (by rw [ends_8, (fmt_day tWW.2.2).1, d9, eJ33]; first | (rw [up2_k _ _ (by decide), eJ23, up2_s]; done) | (rw [up2_k _ _ (by decide), eJ4, keve_o (by omega) (by omega)]; exact tNU.2.2.1)) ?_
    have e4 : J33 0 4 = m_ends J 72 8 := by rw [ends_8, (fmt_day tWW.2.2).1, d9, eJ33]; first | (rw [up2_k _ _ (by decide), eJ23, up2_s]; done) | (rw [up2_k _ _ (by decide), eJ4, keve_o (by omega) (by omega)]; exact tNU.2.2.1)
    have e29 : J33 0 29 = I 0 29 + 1 := by rw [eJ33, up2_s]; first | (rw [eJ23, up2_k _ _ (by decide), eJ4, keve_o (by omega) (by omega)]; done) | (rw [eJ4, keve_o (by omega) (by omega)]; done)
    have h6 : ∀ q k : Nat, q ≠ 0 → J33 q k = k_eve I 6 q k := fun q k z => by rw [eJ33, up2_i _ _ z]; first | (rw [eJ23, up2_i _ _ z, eJ4]; done) | (rw [eJ4]; done)
    have hI : ∀ q k : Nat, ¬ ((q = 0 ∧ (k = 4 ∨ k = 29)) ∨ (q = 6 ∧ (k = 6 ∨ k = 8)) ∨ q = 9) → J33 q k = I q k := fun q k z => by by_cases y : q = 0; rw [eJ33, up2_n _ _ (by omega)]; (first | (rw [eJ23, up2_n _ _ (by omega), eJ4, keve_o (by omega) (by omega)]) | (rw [eJ4, keve_o (by omega) (by omega)])); rw [h6 q k y, keve_o (by omega) (by omega)]
    have hJ : ∀ q k : Nat, ¬ ((q = 72 ∧ 8 ≤ k ∧ k < 18) ∨ (q = 84 ∧ k = 3)) → (m_even J).2 q k = J q k := fun q k z => by show up2 (m_ends J) 84 3 (m_ends J 84 3 + 1) q k = J q k; rw [up2_n _ _ (by omega), ends_o (by omega)]
    have hE : ∀ k : Nat, (m_even J).2 72 k = m_ends J 72 k := fun k => by show up2 (m_ends J) 84 3 (m_ends J 84 3 + 1) 72 k = _; rw [up2_i _ _ (by decide)]
    have hE84 : (m_even J).2 84 3 = J 84 3 + 1 := by show up2 (m_ends J) 84 3 (m_ends J 84 3 + 1) 84 3 = _; rw [up2_s, ends_o (by omega)]
    have id : ∀ q k : Nat, 103 ≤ q → q < n → J33 q k = I q k := fun q k z _ => hI q k (by omega)
    have dI := dynI.of (Ty := Ty) id
    have dB := dynB.of (Ty := Ty) id
    have dA := dynA.of (Ty := Ty) (L := L) id (fun _ _ _ _ => rfl)
    exact x_iret h dX0_evening_40 rfl ⟨congrArg (fun z => some (Value.int z)) ((by show m_ends J 72 8 = up2 (m_ends J) 84 3 (m_ends J 84 3 + 1) 72 8; rw [up2_i _ _ (by decide)])), grw.rf, ⟨tC, ⟨(hI 0 1 (by omega)).trans (tNU.1.trans (hJ 70 0 (by omega)).symm), (hI 0 2 (by omega)).trans (tNU.2.1.trans (hJ 70 2 (by omega)).symm), by rw [e4, hE], (hI 0 3 (by omega)).trans (tNU.2.2.2.1.trans (hJ 70 3 (by omega)).symm), by rw [hJ 70 3 (by omega)]; exact tNU.2.2.2.2⟩, ⟨by rw [hI 6 5 (by omega), hJ 72 18 (by omega)]; exact tNO.1, by rw [h6 6 6 (by decide), keve_6, hE, ends_9 (by decide) (by decide)], fun k hk => by rw [hJ 70 0 (by omega), enx] at hk; rw [h6 9 k (by decide), keve_3 (g := 6) (by omega), hE, ends_9 (by omega) (by omega)], fun k hk => by rw [hJ 72 18 (by omega)] at hk; have h5 := ix_7 tWW.1.2.2.2.1; rw [hI 10 k (by omega), hI 11 k (by omega), hJ 72 _ (by omega), hJ 72 _ (by omega), hJ 70 0 (by omega)]; exact tNO.2.2.2 k hk⟩, tBY.w tWW grw.rf dB (fun _ _ => rfl) (fun q k _ => hJ q k (by omega)), tKL.w grw.rf dI dynF.rf rfl (fun q k _ => hJ q k (by omega)), ⟨tWW.1.mv (hJ _ _ (by omega)) (hJ _ _ (by omega)) fun j _ _ => hJ _ _ (by omega), tWW.2.1.mv (hJ _ _ (by omega)) fun q j _ _ => hJ _ _ (by omega), by rw [hE, ends_8]; exact (fmt_day tWW.2.2).2⟩, tRB.w (fun k => hI 23 k (by omega)) (fun k => hJ 101 k (by omega)), tBU.w (fun _ _ => rfl) (hJ 70 0 (by omega)), tCH.w grw.rf dI ⟨hI 0 6 (by omega), hI 0 7 (by omega)⟩ (fun _ => rfl) (fun q k _ => hJ q k (by omega)), tTA.w (fun q k _ => hI q k (by omega)) (fun q k _ => hJ q k (by omega)), ⟨(hI 0 26 (by omega)).trans (tLE.1.trans (hJ 84 0 (by omega)).symm), (hI 0 27 (by omega)).trans (tLE.2.1.trans (hJ 84 1 (by omega)).symm), (hI 0 28 (by omega)).trans (tLE.2.2.1.trans (hJ 84 2 (by omega)).symm), by rw [e29, hE84, tLE.2.2.2.1], (hI 0 30 (by omega)).trans (tLE.2.2.2.2.trans (hJ 84 4 (by omega)).symm)⟩, tIM.w (fun q k _ => hI q k (by omega)) (fun q k _ => hJ q k (by omega)) (by rw [hJ 70 0 (by omega)]; exact Nat.le_refl _), tBO.w grw.rf dI dynF.rf (hI 0 42 (by omega)) (fun _ => rfl) (fun q k _ => hJ q k (by omega)), tTR.w (fun q k _ => hI q k (by omega)) (fun q k _ => hJ q k (by omega)), tSH.w grw.rf dA dynF.rf ⟨fun _ => rfl, fun _ _ z => z⟩ (fun q k _ => hJ q k (by omega)) (fun _ => rfl) (by rw [hJ 70 31 (by omega)]; exact Nat.le_refl _), fun b h1 h2 => ⟨by rw [h6 9 b (by decide), keve_3 (g := 6) (by omega), hE, ends_9 (by omega) (by omega)], by rw [hJ 71 _ (by omega)]; exact (tFR b (by rw [hJ 70 0 (by omega)] at h1; exact h1) h2).2⟩⟩⟩
  · skip
    have d9 : (if J 72 8 < 99 then J 72 8 + 1 else J 72 8) = J 72 8 + 1 := if_pos (Int32.not_le.mp c13)
    refine x_aload_n h dX0_evening_16 rfl ?_
    refine x_dup h dX0_evening_17 rfl ?_
    refine x_geti h g_X0_66 (mlt hC.1 rfl) (hC.2.1 _ _ rfl) rfl dX0_evening_18 ?_
    refine x_eqi (J 72 8) (by rw [eJ4, keve_o (by omega) (by omega)]; exact tNU.2.2.1) ?_
    refine x_iconst h dX0_evening_21 (1) rfl ?_
    refine x_iadd h dX0_evening_22 ?_
    refine x_puti h p_X0_66 (mlt hC.1 rfl) (hC.2.1 _ _ rfl) rfl rfl rfl dX0_evening_23 (fun J23 eJ23 => ?_)
    refine x_aload_n h dX0_evening_26 rfl ?_
    refine x_dup h dX0_evening_27 rfl ?_
    refine x_geti h g_X0_394 (mlt hC.1 rfl) (hC.2.1 _ _ rfl) rfl dX0_evening_28 ?_
    refine x_iconst h dX0_evening_31 (1) rfl ?_
    refine x_iadd h dX0_evening_32 ?_
    refine x_puti h p_X0_394 (mlt hC.1 rfl) (hC.2.1 _ _ rfl) rfl rfl rfl dX0_evening_33 (fun J33 eJ33 => ?_)
    refine x_aload_n h dX0_evening_36 rfl ?_
    refine x_geti h g_X0_66 (mlt hC.1 rfl) (hC.2.1 _ _ rfl) rfl dX0_evening_37 ?_
    refine x_eqi (m_ends J 72 8) (by rw [ends_8, (fmt_day tWW.2.2).1, d9, eJ33]; first | (rw [up2_k _ _ (by decide), eJ23, up2_s]; done) | (rw [up2_k _ _ (by decide), eJ4, keve_o (by omega) (by omega)]; exact tNU.2.2.1)) ?_
    have e4 : J33 0 4 = m_ends J 72 8 := by rw [ends_8, (fmt_day tWW.2.2).1, d9, eJ33]; first | (rw [up2_k _ _ (by decide), eJ23, up2_s]; done) | (rw [up2_k _ _ (by decide), eJ4, keve_o (by omega) (by omega)]; exact tNU.2.2.1)
    have e29 : J33 0 29 = I 0 29 + 1 := by rw [eJ33, up2_s]; first | (rw [eJ23, up2_k _ _ (by decide), eJ4, keve_o (by omega) (by omega)]; done) | (rw [eJ4, keve_o (by omega) (by omega)]; done)
    have h6 : ∀ q k : Nat, q ≠ 0 → J33 q k = k_eve I 6 q k := fun q k z => by rw [eJ33, up2_i _ _ z]; first | (rw [eJ23, up2_i _ _ z, eJ4]; done) | (rw [eJ4]; done)
    have hI : ∀ q k : Nat, ¬ ((q = 0 ∧ (k = 4 ∨ k = 29)) ∨ (q = 6 ∧ (k = 6 ∨ k = 8)) ∨ q = 9) → J33 q k = I q k := fun q k z => by by_cases y : q = 0; rw [eJ33, up2_n _ _ (by omega)]; (first | (rw [eJ23, up2_n _ _ (by omega), eJ4, keve_o (by omega) (by omega)]) | (rw [eJ4, keve_o (by omega) (by omega)])); rw [h6 q k y, keve_o (by omega) (by omega)]
    have hJ : ∀ q k : Nat, ¬ ((q = 72 ∧ 8 ≤ k ∧ k < 18) ∨ (q = 84 ∧ k = 3)) → (m_even J).2 q k = J q k := fun q k z => by show up2 (m_ends J) 84 3 (m_ends J 84 3 + 1) q k = J q k; rw [up2_n _ _ (by omega), ends_o (by omega)]
    have hE : ∀ k : Nat, (m_even J).2 72 k = m_ends J 72 k := fun k => by show up2 (m_ends J) 84 3 (m_ends J 84 3 + 1) 72 k = _; rw [up2_i _ _ (by decide)]
    have hE84 : (m_even J).2 84 3 = J 84 3 + 1 := by show up2 (m_ends J) 84 3 (m_ends J 84 3 + 1) 84 3 = _; rw [up2_s, ends_o (by omega)]
    have id : ∀ q k : Nat, 103 ≤ q → q < n → J33 q k = I q k := fun q k z _ => hI q k (by omega)
    have dI := dynI.of (Ty := Ty) id
    have dB := dynB.of (Ty := Ty) id
    have dA := dynA.of (Ty := Ty) (L := L) id (fun _ _ _ _ => rfl)
    exact x_iret h dX0_evening_40 rfl ⟨congrArg (fun z => some (Value.int z)) ((by show m_ends J 72 8 = up2 (m_ends J) 84 3 (m_ends J 84 3 + 1) 72 8; rw [up2_i _ _ (by decide)])), grw.rf, ⟨tC, ⟨(hI 0 1 (by omega)).trans (tNU.1.trans (hJ 70 0 (by omega)).symm), (hI 0 2 (by omega)).trans (tNU.2.1.trans (hJ 70 2 (by omega)).symm), by rw [e4, hE], (hI 0 3 (by omega)).trans (tNU.2.2.2.1.trans (hJ 70 3 (by omega)).symm), by rw [hJ 70 3 (by omega)]; exact tNU.2.2.2.2⟩, ⟨by rw [hI 6 5 (by omega), hJ 72 18 (by omega)]; exact tNO.1, by rw [h6 6 6 (by decide), keve_6, hE, ends_9 (by decide) (by decide)], fun k hk => by rw [hJ 70 0 (by omega), enx] at hk; rw [h6 9 k (by decide), keve_3 (g := 6) (by omega), hE, ends_9 (by omega) (by omega)], fun k hk => by rw [hJ 72 18 (by omega)] at hk; have h5 := ix_7 tWW.1.2.2.2.1; rw [hI 10 k (by omega), hI 11 k (by omega), hJ 72 _ (by omega), hJ 72 _ (by omega), hJ 70 0 (by omega)]; exact tNO.2.2.2 k hk⟩, tBY.w tWW grw.rf dB (fun _ _ => rfl) (fun q k _ => hJ q k (by omega)), tKL.w grw.rf dI dynF.rf rfl (fun q k _ => hJ q k (by omega)), ⟨tWW.1.mv (hJ _ _ (by omega)) (hJ _ _ (by omega)) fun j _ _ => hJ _ _ (by omega), tWW.2.1.mv (hJ _ _ (by omega)) fun q j _ _ => hJ _ _ (by omega), by rw [hE, ends_8]; exact (fmt_day tWW.2.2).2⟩, tRB.w (fun k => hI 23 k (by omega)) (fun k => hJ 101 k (by omega)), tBU.w (fun _ _ => rfl) (hJ 70 0 (by omega)), tCH.w grw.rf dI ⟨hI 0 6 (by omega), hI 0 7 (by omega)⟩ (fun _ => rfl) (fun q k _ => hJ q k (by omega)), tTA.w (fun q k _ => hI q k (by omega)) (fun q k _ => hJ q k (by omega)), ⟨(hI 0 26 (by omega)).trans (tLE.1.trans (hJ 84 0 (by omega)).symm), (hI 0 27 (by omega)).trans (tLE.2.1.trans (hJ 84 1 (by omega)).symm), (hI 0 28 (by omega)).trans (tLE.2.2.1.trans (hJ 84 2 (by omega)).symm), by rw [e29, hE84, tLE.2.2.2.1], (hI 0 30 (by omega)).trans (tLE.2.2.2.2.trans (hJ 84 4 (by omega)).symm)⟩, tIM.w (fun q k _ => hI q k (by omega)) (fun q k _ => hJ q k (by omega)) (by rw [hJ 70 0 (by omega)]; exact Nat.le_refl _), tBO.w grw.rf dI dynF.rf (hI 0 42 (by omega)) (fun _ => rfl) (fun q k _ => hJ q k (by omega)), tTR.w (fun q k _ => hI q k (by omega)) (fun q k _ => hJ q k (by omega)), tSH.w grw.rf dA dynF.rf ⟨fun _ => rfl, fun _ _ z => z⟩ (fun q k _ => hJ q k (by omega)) (fun _ => rfl) (by rw [hJ 70 31 (by omega)]; exact Nat.le_refl _), fun b h1 h2 => ⟨by rw [h6 9 b (by decide), keve_3 (g := 6) (by omega), hE, ends_9 (by omega) (by omega)], by rw [hJ 71 _ (by omega)]; exact (tFR b (by rw [hJ 70 0 (by omega)] at h1; exact h1) h2).2⟩⟩⟩
