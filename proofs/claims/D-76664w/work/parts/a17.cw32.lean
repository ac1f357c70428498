/-! WALKS OF THE COMPONENT: a buyer -/
theorem n_X0_19 : xnw RX0 19 4 4 := ⟨_, _, _, tyX4, rfl, in_X4, tyX4_ok, q156, q157, q103, rfl, fun k hk => match k, hk with | 0, _ => rfl | 1, _ => rfl | 2, _ => rfl | 3, _ => rfl | j + 4, hj => absurd hj (by omega)⟩
theorem i_X0_21 : xci RX0 21 yX4_init cX4_init 3 2 := ⟨lw_meth q160, q103, q158, q159, rfl, by decide +kernel, by decide +kernel, by decide +kernel⟩
theorem p_X0_1 : xfp RX0 1 0 1 (tyX0 1) false := ⟨_, _, _, tyX0, rfl, by decide, in_X0, q707, rfl, tyX0_ok, nmX0, tyX0_ok 1 (by decide), rfl⟩
theorem m_X0_25 : xcv RX0 25 0 yX0_add cX0_add 3 (some (.object "ThirdAfter$Buyer")) 2 := ⟨_, _, _, rfl, lw_V q151 q153 qs0 q99 q155, rfl, by decide +kernel, by decide +kernel, by decide +kernel⟩
set_option maxHeartbeats 4000000 in
theorem k0_add (l : Launch) (G : xG_T) (n : Nat) (Ty : Nat → xs_T) (F : xF_T) (hC : WC n Ty F) (I : xI_T) (L : xL_T) (J : xI_T) (M : xL_T) (w q : Int32) (nb : Nat) (hT : TOP n Ty I L F J M) (hnb : nb < 8) (enb : J 70 0 = nI nb) : Cg l (3) 1 4 yX0_add cX0_add 3 (some (.object "ThirdAfter$Buyer")) G idC [.ref (xb G + 0), .int w, .int q] n Ty I L F (pA G n Ty F nb (m_newBuyer J 100 w q) M) := by
  refine Cg.intro (cls := RX0) (pad := 0) (lv := [some (.ref (xb G + 0)), some (.int w), some (.int q)]) rfl (by decide) (Nat.le_of_ble_eq_true rfl) rfl (fun Θ h => ?_)
  refine x_aload_n h dX0_add_0 rfl ?_
  refine x_getr h (j := 1) g_X0_15 (mlt hC.1 rfl) (hC.2.1 _ _ rfl) (by decide) (hC.2.2 _ _ _ rfl) dX0_add_1 ?_
  refine x_aload_n h dX0_add_4 rfl ?_
  refine x_geti h g_X0_1 (mlt hC.1 rfl) (hC.2.1 _ _ rfl) rfl dX0_add_5 ?_
  refine x_eqi (nI nb) (hT.2.1.1.trans enb) ?_
  refine x_new h n_X0_19 (Or.inr hC.1) ⟨Nat.le_of_ble_eq_true rfl, Nat.le_of_ble_eq_true rfl⟩ dX0_add_8 ?_
  refine x_nmW (fun n8 Ty8 J8 F8 en8 eT8 eJ8 eF8 => ?_)
  have hC8 : WC n8 Ty8 F8 := by rw [en8, eT8, eF8]; exact hC.nw
  have hl8 : n < n8 := by rw [en8]; exact Nat.lt_succ_self _
  have ht8 : Ty8 n = some (.inl 4) := by rw [eT8, nwT_ap, if_pos rfl]
  have hg8 : grw n n8 Ty Ty8 := by rw [en8, eT8]; exact grw.nw
  refine x_dup h dX0_add_11 rfl ?_
  refine x_iload_n h dX0_add_12 rfl ?_
  refine x_iload_n h dX0_add_13 rfl ?_
  refine x_callIEv h (As := [.int _, .int _]) (k4_init l G n8 Ty8 F8 J8 L n w q hl8 ht8) i_X0_21 dX0_add_14 ⟨by decide, by decide⟩ ⟨by decide, by decide⟩ rfl (Nat.le_of_ble_eq_true rfl) ?_
  refine x_nmI (fun J14 eJ14 => ?_)
  refine x_aast h (mlt hC8.1 rfl) (hC8.2.1 _ _ rfl) (by decide) rfl hl8 ht8 rfl (Or.inl rfl) (vp_in_nI hnb (by decide)) (nb) (nI_clamp (by omega)) dX0_add_17 (fun Q17 eQ17 => ?_)
  have hQ17 : WC n8 Ty8 Q17 := by rw [eQ17]; exact hC8.up (by omega)
  have hn103 : 103 ≤ n := hC.1
  have h14 : ∀ c s : Nat, c ≠ n → J14 c s = I c s := fun c s z => by rw [eJ14, up2_i _ _ z, up2_i _ _ z, up2_i _ _ z, eJ8, nw1_r _ _ _ z]
  have h01 : J14 0 1 = nI nb := by rw [h14 0 1 (by omega)]; exact hT.2.1.1.trans enb
  refine x_aload_n h dX0_add_18 rfl ?_
  refine x_dup h dX0_add_19 rfl ?_
  refine x_geti h g_X0_1 (mlt hQ17.1 rfl) (hQ17.2.1 _ _ rfl) rfl dX0_add_20 ?_
  refine x_eqi (nI nb) h01 ?_
  refine x_iconst h dX0_add_23 (1) rfl ?_
  refine x_iaddE h (nI (nb + 1)) (nI_add nb 1) dX0_add_24 ?_
  refine x_puti h p_X0_1 (mlt hQ17.1 rfl) (hQ17.2.1 _ _ rfl) rfl rfl rfl dX0_add_25 (fun J25 eJ25 => ?_)
  refine x_aload_n h dX0_add_28 rfl ?_
  refine x_getr h (j := 1) g_X0_15 (mlt hQ17.1 rfl) (hQ17.2.1 _ _ rfl) (by decide) (hQ17.2.2 _ _ _ rfl) dX0_add_29 ?_
  refine x_aload_n h dX0_add_32 rfl ?_
  refine x_geti h g_X0_1 (mlt hQ17.1 rfl) (hQ17.2.1 _ _ rfl) rfl dX0_add_33 ?_
  refine x_eqi (nI (nb + 1)) (by rw [eJ25, up2_s]) ?_
  refine x_iconst h dX0_add_36 (1) rfl ?_
  refine x_isubE h (nI nb) (nI_pred nb) dX0_add_37 ?_
  refine x_aaldr h (q := n) (mlt hQ17.1 rfl) (hQ17.2.1 _ _ rfl) (by decide) rfl rfl (vp_in_nI hnb (by decide)) (nb) (nI_clamp (by omega)) (by rw [eQ17, up2_s]) dX0_add_38 ?_
  refine x_wid h (by decide) (by decide) ?_
  exact x_aret h dX0_add_39 (Or.inl ⟨_, rfl⟩) rfl ⟨rfl, hg8, hl8, ht8, ⟨by rw [eQ17, up2_s], fun c s z z2 => by rw [eQ17, up2_n _ _ (by omega), eF8, nw1_r _ _ _ (by omega)]⟩, hT.buyer hnb enb hg8 hl8 ht8 (fun c s z z2 => by rw [eJ25, up2_n _ _ z2, h14 c s (by omega)]) (by rw [eJ25, up2_s]) ⟨by rw [eJ25, up2_i _ _ (by omega), eJ14, up2_k _ _ (by decide), up2_k _ _ (by decide), up2_s], by rw [eJ25, up2_i _ _ (by omega), eJ14, up2_k _ _ (by decide), up2_s], by rw [eJ25, up2_i _ _ (by omega), eJ14, up2_s], by rw [eJ25, up2_i _ _ (by omega), eJ14, up2_k _ _ (by decide), up2_k _ _ (by decide), up2_k _ _ (by decide), eJ8, nw1_ap, if_pos rfl]⟩ (fun c s z z2 => by rw [eQ17, up2_n _ _ z2, eF8, nw1_r _ _ _ (by omega)]) (by rw [eQ17, up2_s])⟩
set_option maxHeartbeats 4000000 in
theorem k0_buyer (l : Launch) (hl : l.stackTraces = false) (G : xG_T) (n : Nat) (Ty : Nat → xs_T) (F : xF_T) (hC : WC n Ty F) (I : xI_T) (L : xL_T) (J : xI_T) (M : xL_T) (w q : Int32) (hT : TOP n Ty I L F J M) : Cg l (4) 1 4 yX0_buyer cX0_buyer 3 (some .int) G idC [.ref (xb G + 0), .int w, .int q] n Ty I L F (pT n Ty (.int ((m_buyer J w q).1)) ((m_buyer J w q).2) (M)) := by
  refine Cg.intro (cls := RX0) (pad := 0) (lv := [some (.ref (xb G + 0)), some (.int w), some (.int q)]) rfl (by decide) (Nat.le_of_ble_eq_true rfl) rfl (fun Θ h => ?_)
  have hQ := hT.Q
  have hI0 : I 0 1 = J 70 0 := hQ.1.1.1
  have hb := hQ.2.2.1.1
  obtain ⟨nb, hnb, enb, enx, hnI⟩ := hQ.nb
  have ekB : ∀ o : Int32, k_isB I o = m_isB J o := isB_k hI0
  have ⟨tC, tNU, tNO, tBY, tKL, tWW, tRB, tBU, tCH, tTA, tLE, tIM, tBO, tTR, tSH, tFR⟩ := hT
  refine x_iload_n h dX0_buyer_0 rfl ?_
  refine x_iconst h dX0_buyer_1 (0) rfl ?_
  refine x_bipush h dX0_buyer_2 (9) rfl ?_
  refine x_callSEi h (As := [.int _, .int _, .int _]) (k0_in l G n _ _ hC _ _ _ _ _ ) m_X0_7 dX0_buyer_4 ⟨by decide, by decide⟩ ⟨by decide, by decide⟩ rfl (Nat.le_of_ble_eq_true rfl) ?_
  refine x_if_eq h 20 dX0_buyer_7 rfl (fun c7 => ?_) (fun c7 => ?_)
  · skip
    have hz : m_buyer J w q = (-1, J) := by unfold m_buyer; rw [if_pos c7]
    refine x_iconst h dX0_buyer_20 (-1) rfl ?_
    refine x_wid h (by decide) (by decide) ?_
    exact x_iret h dX0_buyer_21 rfl (by rw [hz]; exact ⟨rfl, grw.rf, hT⟩)
  · skip
    refine x_iload_n h dX0_buyer_10 rfl ?_
    refine x_iconst h dX0_buyer_11 (0) rfl ?_
    refine x_bipush h dX0_buyer_12 (9) rfl ?_
    refine x_callSEi h (As := [.int _, .int _, .int _]) (k0_in l G n _ _ hC _ _ _ _ _ ) m_X0_7 dX0_buyer_14 ⟨by decide, by decide⟩ ⟨by decide, by decide⟩ rfl (Nat.le_of_ble_eq_true rfl) ?_
    refine x_if_ne h 22 dX0_buyer_17 rfl (fun c17 => ?_) (fun c17 => ?_)
    · skip
      refine x_aload_n h dX0_buyer_22 rfl ?_
      refine x_geti h g_X0_1 (mlt hC.1 rfl) (hC.2.1 _ _ rfl) rfl dX0_buyer_23 ?_
      refine x_eqi (nI nb) hnI ?_
      refine x_bipush h dX0_buyer_26 (8) rfl ?_
      refine x_icmp_ne h 34 dX0_buyer_28 rfl (fun c28 => ?_) (fun c28 => ?_)
      · skip
        have hn8 : nb < 8 := Nat.lt_of_le_of_ne (by omega) (fun z => c28 (by rw [z]; rfl))
        have hz : m_buyer J w q = (nI nb, m_newBuyer J 100 w q) := by unfold m_buyer; rw [if_neg c7, if_neg c17, if_neg (by rw [enb]; exact c28), enb]
        refine x_aload_n h dX0_buyer_34 rfl ?_
        refine x_iload_n h dX0_buyer_35 rfl ?_
        refine x_iload_n h dX0_buyer_36 rfl ?_
        refine x_callVPa h (As := [.int _, .int _]) (k0_add l G n _ _ hC _ _ J M w q nb hT hn8 enb) m_X0_25 (mlt hC.1 rfl) (hC.2.1 _ _ rfl) dX0_buyer_37 ⟨by decide, by decide⟩ ⟨by omega, by omega⟩ rfl (Nat.le_of_ble_eq_true rfl) (fun n37 Ty37 J37 L37 F37 hg37 hl37 ht37 hf37 hT37 => ?_)
        have hC37 : WC n37 Ty37 F37 := hT37.1
        refine x_pop h dX0_buyer_40 rfl ?_
        refine x_aload_n h dX0_buyer_41 rfl ?_
        refine x_geti h g_X0_1 (mlt hC37.1 rfl) (hC37.2.1 _ _ rfl) rfl dX0_buyer_42 ?_
        refine x_eqi (nI (nb + 1)) (hT37.2.1.1.trans (by rw [newBuyer_1 hn8 enb, up2_s])) ?_
        refine x_iconst h dX0_buyer_45 (1) rfl ?_
        refine x_isubE h (nI nb) (nI_pred nb) dX0_buyer_46 ?_
        refine x_wid h (by decide) (by decide) ?_
        exact x_iret h dX0_buyer_47 rfl (by rw [hz]; exact ⟨rfl, hg37, hT37⟩)
      · skip
        have hz : m_buyer J w q = (-3, J) := by unfold m_buyer; rw [if_neg c7, if_neg c17, if_pos (by rw [enb]; exact c28)]
        refine x_bipush h dX0_buyer_31 (-3) rfl ?_
        refine x_wid h (by decide) (by decide) ?_
        exact x_iret h dX0_buyer_33 rfl (by rw [hz]; exact ⟨rfl, grw.rf, hT⟩)
    · skip
      have hz : m_buyer J w q = (-1, J) := by unfold m_buyer; rw [if_neg c7, if_pos c17]
      refine x_iconst h dX0_buyer_20 (-1) rfl ?_
      refine x_wid h (by decide) (by decide) ?_
      exact x_iret h dX0_buyer_21 rfl (by rw [hz]; exact ⟨rfl, grw.rf, hT⟩)
