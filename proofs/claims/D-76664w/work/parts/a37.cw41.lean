/-! WALKS OF THE COMPONENT: a body more -/
theorem m_X0_455 : xcv RX0 455 0 yX0_made cX0_made 2 (some (.object "ThirdAfter$Latch")) 1 := ⟨_, _, _, rfl, lw_V q1100 q1102 qs46 q99 q1103, rfl, by decide +kernel, by decide +kernel, by decide +kernel⟩
theorem p_X0_428 : xfp RX0 428 0 42 (tyX0 42) false := ⟨_, _, _, tyX0, rfl, by decide, in_X0, q752, rfl, tyX0_ok, nmX0, tyX0_ok 42 (by decide), rfl⟩
set_option maxHeartbeats 4000000 in
theorem k0_body (l : Launch) (hl : l.stackTraces = false) (G : xG_T) (n : Nat) (Ty : Nat → xs_T) (F : xF_T) (hC : WC n Ty F) (I : xI_T) (L : xL_T) (J : xI_T) (M : xL_T) (k : Int32) (hT : TOP n Ty I L F J M) : Cg l (8) 1 5 yX0_body cX0_body 2 (some .int) G idC [.ref (xb G + 0), .int k] n Ty I L F (pT n Ty (.int ((m_body J k).1)) ((m_body J k).2) (M)) := by
  refine Cg.intro (cls := RX0) (pad := 0) (lv := [some (.ref (xb G + 0)), some (.int k)]) rfl (by decide) (Nat.le_of_ble_eq_true rfl) rfl (fun Θ h => ?_)
  have hQ := hT.Q
  have hI0 : I 0 1 = J 70 0 := hQ.1.1.1
  have hb := hQ.2.2.1.1
  obtain ⟨nb, hnb, enb, enx, hnI⟩ := hQ.nb
  have ekB : ∀ o : Int32, k_isB I o = m_isB J o := isB_k hI0
  have ⟨tC, tNU, tNO, tBY, tKL, tWW, tRB, tBU, tCH, tTA, tLE, tIM, tBO, tTR, tSH, tFR⟩ := hT
  refine x_iload_n h dX0_body_0 rfl ?_
  refine x_iconst h dX0_body_1 (0) rfl ?_
  refine x_bipush h dX0_body_2 (7) rfl ?_
  refine x_callSEi h (As := [.int _, .int _, .int _]) (k0_in l G n _ _ hC _ _ _ _ _ ) m_X0_7 dX0_body_4 ⟨by decide, by decide⟩ ⟨by decide, by decide⟩ rfl (Nat.le_of_ble_eq_true rfl) ?_
  refine x_if_ne h 12 dX0_body_7 rfl (fun c7 => ?_) (fun c7 => ?_)
  · skip
    have ⟨m, ⟨m1, m2, m3⟩, hbo, _⟩ := tBO
    refine x_aload_n h dX0_body_12 rfl ?_
    refine x_geti h g_X0_428 (mlt hC.1 rfl) (hC.2.1 _ _ rfl) rfl dX0_body_13 ?_
    refine x_eqi (nI m) m3 ?_
    refine x_bipush h dX0_body_16 (50) rfl ?_
    refine x_icmp_ne h 24 dX0_body_18 rfl (fun c18 => ?_) (fun c18 => ?_)
    · skip
      have h50 : ¬ nI m = 50 := c18
      have hm50 : m < 50 := Nat.lt_of_le_of_ne m1 (fun z => h50 (by rw [z]; rfl))
      rcases eight c7 with rfl | rfl | rfl | rfl | rfl | rfl | rfl | rfl
      · skip
        have hm : m_body J 0 = (nI m, up2 (up2 J 88 m (nI 0)) 70 31 (nI (m + 1))) := by unfold m_body; rw [if_neg c7, m2, if_neg h50, ix_n (by omega), nI_1]; rfl
        have hn103 : 103 ≤ n := hC.1
        refine x_aload_n h dX0_body_24 rfl ?_
        refine x_getr h (j := 32) g_X0_201 (mlt hC.1 rfl) (hC.2.1 _ _ rfl) (by decide) (hC.2.2 _ _ _ rfl) dX0_body_25 ?_
        refine x_aload_n h dX0_body_28 rfl ?_
        refine x_geti h g_X0_428 (mlt hC.1 rfl) (hC.2.1 _ _ rfl) rfl dX0_body_29 ?_
        refine x_eqi (nI m) m3 ?_
        refine x_aload_n h dX0_body_32 rfl ?_
        refine x_iload_n h dX0_body_33 rfl ?_
        refine x_callVErm h (As := [.int _]) (k0_made0 l G n _ _ hC _ _) m_X0_455 (mlt hC.1 rfl) (hC.2.1 _ _ rfl) dX0_body_34 ⟨by decide, by decide⟩ ⟨by omega, by omega⟩ rfl (Nat.le_of_ble_eq_true rfl) ?_
        refine x_nmW (fun n34 Ty34 J34 F34 en34 eT34 eJ34 eF34 => ?_)
        have hl34 : n < n34 := by rw [en34]; exact Nat.lt_succ_self _
        have ht34 : Ty34 n = some (.inl 15) := by rw [eT34, nwT_ap, if_pos rfl]
        have hg34 : grw n n34 Ty Ty34 := by rw [en34, eT34]; exact grw.nw
        have hF34 : ∀ c k : Nat, c < n → F34 c k = F c k := fun c k z => by rw [eF34, up2_i _ _ (by omega), nw1_r _ _ _ (by omega)]
        have hC34 : WC n34 Ty34 F34 := hC.gw hg34 hF34
        have h34 : J34 0 42 = nI m := by rw [eJ34, up2_i _ _ (by omega), nw1_r _ _ _ (by omega)]; exact m3
        refine x_aast h (mlt hC34.1 rfl) (hC34.2.1 _ _ rfl) (by decide) rfl hl34 ht34 rfl (Or.inl rfl) (vp_in_nI hm50 (by decide)) (m) (nI_clamp (by omega)) dX0_body_37 (fun Q37 eQ37 => ?_)
        have hQ37 : WC n34 Ty34 Q37 := by rw [eQ37]; exact hC34.up (by omega)
        refine x_aload_n h dX0_body_38 rfl ?_
        refine x_dup h dX0_body_39 rfl ?_
        refine x_geti h g_X0_428 (mlt hQ37.1 rfl) (hQ37.2.1 _ _ rfl) rfl dX0_body_40 ?_
        refine x_eqi (nI m) h34 ?_
        refine x_iconst h dX0_body_43 (1) rfl ?_
        refine x_iaddE h (nI (m + 1)) (nI_add m 1) dX0_body_44 ?_
        refine x_puti h p_X0_428 (mlt hQ37.1 rfl) (hQ37.2.1 _ _ rfl) rfl rfl rfl dX0_body_45 (fun J45 eJ45 => ?_)
        refine x_aload_n h dX0_body_48 rfl ?_
        refine x_geti h g_X0_428 (mlt hQ37.1 rfl) (hQ37.2.1 _ _ rfl) rfl dX0_body_49 ?_
        refine x_eqi (nI (m + 1)) (by rw [eJ45, up2_s]) ?_
        refine x_iconst h dX0_body_52 (1) rfl ?_
        refine x_isubE h (nI m) (nI_pred m) dX0_body_53 ?_
        refine x_wid h (by decide) (by decide) ?_
        exact x_iret h dX0_body_54 rfl (by rw [hm]; exact ⟨rfl, hg34, hT.body (K := 0) hm50 m2 (by decide) hg34 hl34 ht34 (fun c s z y => by rw [eJ45, up2_n _ _ y, eJ34, up2_i _ _ (by omega), nw1_r _ _ _ (by omega)]) (by rw [eJ45, up2_s]) (by rw [eJ45, up2_i _ _ (by omega), eJ34, up2_s]; exact m3) (fun c s z y => by rw [eQ37, up2_n _ _ y]; exact hF34 c s z) (by rw [eQ37, up2_s]) (by rw [eQ37, up2_i _ _ (by omega), eF34, up2_s])⟩)
      · skip
        have hm : m_body J 1 = (nI m, up2 (up2 J 88 m (nI 1)) 70 31 (nI (m + 1))) := by unfold m_body; rw [if_neg c7, m2, if_neg h50, ix_n (by omega), nI_1]; rfl
        have hn103 : 103 ≤ n := hC.1
        refine x_aload_n h dX0_body_24 rfl ?_
        refine x_getr h (j := 32) g_X0_201 (mlt hC.1 rfl) (hC.2.1 _ _ rfl) (by decide) (hC.2.2 _ _ _ rfl) dX0_body_25 ?_
        refine x_aload_n h dX0_body_28 rfl ?_
        refine x_geti h g_X0_428 (mlt hC.1 rfl) (hC.2.1 _ _ rfl) rfl dX0_body_29 ?_
        refine x_eqi (nI m) m3 ?_
        refine x_aload_n h dX0_body_32 rfl ?_
        refine x_iload_n h dX0_body_33 rfl ?_
        refine x_callVErm h (As := [.int _]) (k0_made1 l G n _ _ hC _ _) m_X0_455 (mlt hC.1 rfl) (hC.2.1 _ _ rfl) dX0_body_34 ⟨by decide, by decide⟩ ⟨by omega, by omega⟩ rfl (Nat.le_of_ble_eq_true rfl) ?_
        refine x_nmW (fun n34 Ty34 J34 F34 en34 eT34 eJ34 eF34 => ?_)
        have hl34 : n < n34 := by rw [en34]; exact Nat.lt_succ_self _
        have ht34 : Ty34 n = some (.inl 16) := by rw [eT34, nwT_ap, if_pos rfl]
        have hg34 : grw n n34 Ty Ty34 := by rw [en34, eT34]; exact grw.nw
        have hF34 : ∀ c k : Nat, c < n → F34 c k = F c k := fun c k z => by rw [eF34, up2_i _ _ (by omega), up2_i _ _ (by omega), nw1_r _ _ _ (by omega)]
        have hC34 : WC n34 Ty34 F34 := hC.gw hg34 hF34
        have h34 : J34 0 42 = nI m := by rw [eJ34, up2_i _ _ (by omega), nw1_r _ _ _ (by omega)]; exact m3
        refine x_aast h (mlt hC34.1 rfl) (hC34.2.1 _ _ rfl) (by decide) rfl hl34 ht34 rfl (Or.inr q2265) (vp_in_nI hm50 (by decide)) (m) (nI_clamp (by omega)) dX0_body_37 (fun Q37 eQ37 => ?_)
        have hQ37 : WC n34 Ty34 Q37 := by rw [eQ37]; exact hC34.up (by omega)
        refine x_aload_n h dX0_body_38 rfl ?_
        refine x_dup h dX0_body_39 rfl ?_
        refine x_geti h g_X0_428 (mlt hQ37.1 rfl) (hQ37.2.1 _ _ rfl) rfl dX0_body_40 ?_
        refine x_eqi (nI m) h34 ?_
        refine x_iconst h dX0_body_43 (1) rfl ?_
        refine x_iaddE h (nI (m + 1)) (nI_add m 1) dX0_body_44 ?_
        refine x_puti h p_X0_428 (mlt hQ37.1 rfl) (hQ37.2.1 _ _ rfl) rfl rfl rfl dX0_body_45 (fun J45 eJ45 => ?_)
        refine x_aload_n h dX0_body_48 rfl ?_
        refine x_geti h g_X0_428 (mlt hQ37.1 rfl) (hQ37.2.1 _ _ rfl) rfl dX0_body_49 ?_
        refine x_eqi (nI (m + 1)) (by rw [eJ45, up2_s]) ?_
        refine x_iconst h dX0_body_52 (1) rfl ?_
        refine x_isubE h (nI m) (nI_pred m) dX0_body_53 ?_
        refine x_wid h (by decide) (by decide) ?_
        exact x_iret h dX0_body_54 rfl (by rw [hm]; exact ⟨rfl, hg34, hT.body (K := 1) hm50 m2 (by decide) hg34 hl34 ht34 (fun c s z y => by rw [eJ45, up2_n _ _ y, eJ34, up2_i _ _ (by omega), nw1_r _ _ _ (by omega)]) (by rw [eJ45, up2_s]) (by rw [eJ45, up2_i _ _ (by omega), eJ34, up2_s]; exact m3) (fun c s z y => by rw [eQ37, up2_n _ _ y]; exact hF34 c s z) (by rw [eQ37, up2_s]) (by rw [eQ37, up2_i _ _ (by omega), eF34, up2_s])⟩)
      · skip
        have hm : m_body J 2 = (nI m, up2 (up2 J 88 m (nI 2)) 70 31 (nI (m + 1))) := by unfold m_body; rw [if_neg c7, m2, if_neg h50, ix_n (by omega), nI_1]; rfl
        have hn103 : 103 ≤ n := hC.1
        refine x_aload_n h dX0_body_24 rfl ?_
        refine x_getr h (j := 32) g_X0_201 (mlt hC.1 rfl) (hC.2.1 _ _ rfl) (by decide) (hC.2.2 _ _ _ rfl) dX0_body_25 ?_
        refine x_aload_n h dX0_body_28 rfl ?_
        refine x_geti h g_X0_428 (mlt hC.1 rfl) (hC.2.1 _ _ rfl) rfl dX0_body_29 ?_
        refine x_eqi (nI m) m3 ?_
        refine x_aload_n h dX0_body_32 rfl ?_
        refine x_iload_n h dX0_body_33 rfl ?_
        refine x_callVErm h (As := [.int _]) (k0_made2 l G n _ _ hC _ _) m_X0_455 (mlt hC.1 rfl) (hC.2.1 _ _ rfl) dX0_body_34 ⟨by decide, by decide⟩ ⟨by omega, by omega⟩ rfl (Nat.le_of_ble_eq_true rfl) ?_
        refine x_nmW (fun n34 Ty34 J34 F34 en34 eT34 eJ34 eF34 => ?_)
        have hl34 : n < n34 := by rw [en34]; exact Nat.lt_succ_self _
        have ht34 : Ty34 n = some (.inl 17) := by rw [eT34, nwT_ap, if_pos rfl]
        have hg34 : grw n n34 Ty Ty34 := by rw [en34, eT34]; exact grw.nw
        have hF34 : ∀ c k : Nat, c < n → F34 c k = F c k := fun c k z => by rw [eF34, up2_i _ _ (by omega), up2_i _ _ (by omega), nw1_r _ _ _ (by omega)]
        have hC34 : WC n34 Ty34 F34 := hC.gw hg34 hF34
        have h34 : J34 0 42 = nI m := by rw [eJ34, up2_i _ _ (by omega), nw1_r _ _ _ (by omega)]; exact m3
        refine x_aast h (mlt hC34.1 rfl) (hC34.2.1 _ _ rfl) (by decide) rfl hl34 ht34 rfl (Or.inr q2269) (vp_in_nI hm50 (by decide)) (m) (nI_clamp (by omega)) dX0_body_37 (fun Q37 eQ37 => ?_)
        have hQ37 : WC n34 Ty34 Q37 := by rw [eQ37]; exact hC34.up (by omega)
        refine x_aload_n h dX0_body_38 rfl ?_
        refine x_dup h dX0_body_39 rfl ?_
        refine x_geti h g_X0_428 (mlt hQ37.1 rfl) (hQ37.2.1 _ _ rfl) rfl dX0_body_40 ?_
        refine x_eqi (nI m) h34 ?_
        refine x_iconst h dX0_body_43 (1) rfl ?_
        refine x_iaddE h (nI (m + 1)) (nI_add m 1) dX0_body_44 ?_
        refine x_puti h p_X0_428 (mlt hQ37.1 rfl) (hQ37.2.1 _ _ rfl) rfl rfl rfl dX0_body_45 (fun J45 eJ45 => ?_)
        refine x_aload_n h dX0_body_48 rfl ?_
        refine x_geti h g_X0_428 (mlt hQ37.1 rfl) (hQ37.2.1 _ _ rfl) rfl dX0_body_49 ?_
        refine x_eqi (nI (m + 1)) (by rw [eJ45, up2_s]) ?_
        refine x_iconst h dX0_body_52 (1) rfl ?_
        refine x_isubE h (nI m) (nI_pred m) dX0_body_53 ?_
        refine x_wid h (by decide) (by decide) ?_
        exact x_iret h dX0_body_54 rfl (by rw [hm]; exact ⟨rfl, hg34, hT.body (K := 2) hm50 m2 (by decide) hg34 hl34 ht34 (fun c s z y => by rw [eJ45, up2_n _ _ y, eJ34, up2_i _ _ (by omega), nw1_r _ _ _ (by omega)]) (by rw [eJ45, up2_s]) (by rw [eJ45, up2_i _ _ (by omega), eJ34, up2_s]; exact m3) (fun c s z y => by rw [eQ37, up2_n _ _ y]; exact hF34 c s z) (by rw [eQ37, up2_s]) (by rw [eQ37, up2_i _ _ (by omega), eF34, up2_s])⟩)
      · skip
        have hm : m_body J 3 = (nI m, up2 (up2 J 88 m (nI 3)) 70 31 (nI (m + 1))) := by unfold m_body; rw [if_neg c7, m2, if_neg h50, ix_n (by omega), nI_1]; rfl
        have hn103 : 103 ≤ n := hC.1
        refine x_aload_n h dX0_body_24 rfl ?_
        refine x_getr h (j := 32) g_X0_201 (mlt hC.1 rfl) (hC.2.1 _ _ rfl) (by decide) (hC.2.2 _ _ _ rfl) dX0_body_25 ?_
        refine x_aload_n h dX0_body_28 rfl ?_
        refine x_geti h g_X0_428 (mlt hC.1 rfl) (hC.2.1 _ _ rfl) rfl dX0_body_29 ?_
        refine x_eqi (nI m) m3 ?_
        refine x_aload_n h dX0_body_32 rfl ?_
        refine x_iload_n h dX0_body_33 rfl ?_
        refine x_callVErm h (As := [.int _]) (k0_made3 l G n _ _ hC _ _) m_X0_455 (mlt hC.1 rfl) (hC.2.1 _ _ rfl) dX0_body_34 ⟨by decide, by decide⟩ ⟨by omega, by omega⟩ rfl (Nat.le_of_ble_eq_true rfl) ?_
        refine x_nmW (fun n34 Ty34 J34 F34 en34 eT34 eJ34 eF34 => ?_)
        have hl34 : n < n34 := by rw [en34]; exact Nat.lt_succ_self _
        have ht34 : Ty34 n = some (.inl 18) := by rw [eT34, nwT_ap, if_pos rfl]
        have hg34 : grw n n34 Ty Ty34 := by rw [en34, eT34]; exact grw.nw
        have hF34 : ∀ c k : Nat, c < n → F34 c k = F c k := fun c k z => by rw [eF34, up2_i _ _ (by omega), up2_i _ _ (by omega), up2_i _ _ (by omega), nw1_r _ _ _ (by omega)]
        have hC34 : WC n34 Ty34 F34 := hC.gw hg34 hF34
        have h34 : J34 0 42 = nI m := by rw [eJ34, up2_i _ _ (by omega), nw1_r _ _ _ (by omega)]; exact m3
        refine x_aast h (mlt hC34.1 rfl) (hC34.2.1 _ _ rfl) (by decide) rfl hl34 ht34 rfl (Or.inr q2266) (vp_in_nI hm50 (by decide)) (m) (nI_clamp (by omega)) dX0_body_37 (fun Q37 eQ37 => ?_)
        have hQ37 : WC n34 Ty34 Q37 := by rw [eQ37]; exact hC34.up (by omega)
        refine x_aload_n h dX0_body_38 rfl ?_
        refine x_dup h dX0_body_39 rfl ?_
        refine x_geti h g_X0_428 (mlt hQ37.1 rfl) (hQ37.2.1 _ _ rfl) rfl dX0_body_40 ?_
        refine x_eqi (nI m) h34 ?_
        refine x_iconst h dX0_body_43 (1) rfl ?_
        refine x_iaddE h (nI (m + 1)) (nI_add m 1) dX0_body_44 ?_
        refine x_puti h p_X0_428 (mlt hQ37.1 rfl) (hQ37.2.1 _ _ rfl) rfl rfl rfl dX0_body_45 (fun J45 eJ45 => ?_)
        refine x_aload_n h dX0_body_48 rfl ?_
        refine x_geti h g_X0_428 (mlt hQ37.1 rfl) (hQ37.2.1 _ _ rfl) rfl dX0_body_49 ?_
        refine x_eqi (nI (m + 1)) (by rw [eJ45, up2_s]) ?_
        refine x_iconst h dX0_body_52 (1) rfl ?_
        refine x_isubE h (nI m) (nI_pred m) dX0_body_53 ?_
        refine x_wid h (by decide) (by decide) ?_
        exact x_iret h dX0_body_54 rfl (by rw [hm]; exact ⟨rfl, hg34, hT.body (K := 3) hm50 m2 (by decide) hg34 hl34 ht34 (fun c s z y => by rw [eJ45, up2_n _ _ y, eJ34, up2_i _ _ (by omega), nw1_r _ _ _ (by omega)]) (by rw [eJ45, up2_s]) (by rw [eJ45, up2_i _ _ (by omega), eJ34, up2_s]; exact m3) (fun c s z y => by rw [eQ37, up2_n _ _ y]; exact hF34 c s z) (by rw [eQ37, up2_s]) (by rw [eQ37, up2_i _ _ (by omega), eF34, up2_s])⟩)
      · skip
        have hm : m_body J 4 = (nI m, up2 (up2 J 88 m (nI 4)) 70 31 (nI (m + 1))) := by unfold m_body; rw [if_neg c7, m2, if_neg h50, ix_n (by omega), nI_1]; rfl
        have hn103 : 103 ≤ n := hC.1
        refine x_aload_n h dX0_body_24 rfl ?_
        refine x_getr h (j := 32) g_X0_201 (mlt hC.1 rfl) (hC.2.1 _ _ rfl) (by decide) (hC.2.2 _ _ _ rfl) dX0_body_25 ?_
        refine x_aload_n h dX0_body_28 rfl ?_
        refine x_geti h g_X0_428 (mlt hC.1 rfl) (hC.2.1 _ _ rfl) rfl dX0_body_29 ?_
        refine x_eqi (nI m) m3 ?_
        refine x_aload_n h dX0_body_32 rfl ?_
        refine x_iload_n h dX0_body_33 rfl ?_
        refine x_callVErm h (As := [.int _]) (k0_made4 l G n _ _ hC _ _) m_X0_455 (mlt hC.1 rfl) (hC.2.1 _ _ rfl) dX0_body_34 ⟨by decide, by decide⟩ ⟨by omega, by omega⟩ rfl (Nat.le_of_ble_eq_true rfl) ?_
        refine x_nmW (fun n34 Ty34 J34 F34 en34 eT34 eJ34 eF34 => ?_)
        have hl34 : n < n34 := by rw [en34]; exact Nat.lt_succ_self _
        have ht34 : Ty34 n = some (.inl 19) := by rw [eT34, nwT_ap, if_pos rfl]
        have hg34 : grw n n34 Ty Ty34 := by rw [en34, eT34]; exact grw.nw
        have hF34 : ∀ c k : Nat, c < n → F34 c k = F c k := fun c k z => by rw [eF34, up2_i _ _ (by omega), up2_i _ _ (by omega), up2_i _ _ (by omega), nw1_r _ _ _ (by omega)]
        have hC34 : WC n34 Ty34 F34 := hC.gw hg34 hF34
        have h34 : J34 0 42 = nI m := by rw [eJ34, up2_i _ _ (by omega), nw1_r _ _ _ (by omega)]; exact m3
        refine x_aast h (mlt hC34.1 rfl) (hC34.2.1 _ _ rfl) (by decide) rfl hl34 ht34 rfl (Or.inr q2271) (vp_in_nI hm50 (by decide)) (m) (nI_clamp (by omega)) dX0_body_37 (fun Q37 eQ37 => ?_)
        have hQ37 : WC n34 Ty34 Q37 := by rw [eQ37]; exact hC34.up (by omega)
        refine x_aload_n h dX0_body_38 rfl ?_
        refine x_dup h dX0_body_39 rfl ?_
        refine x_geti h g_X0_428 (mlt hQ37.1 rfl) (hQ37.2.1 _ _ rfl) rfl dX0_body_40 ?_
        refine x_eqi (nI m) h34 ?_
        refine x_iconst h dX0_body_43 (1) rfl ?_
        refine x_iaddE h (nI (m + 1)) (nI_add m 1) dX0_body_44 ?_
        refine x_puti h p_X0_428 (mlt hQ37.1 rfl) (hQ37.2.1 _ _ rfl) rfl rfl rfl dX0_body_45 (fun J45 eJ45 => ?_)
        refine x_aload_n h dX0_body_48 rfl ?_
        refine x_geti h g_X0_428 (mlt hQ37.1 rfl) (hQ37.2.1 _ _ rfl) rfl dX0_body_49 ?_
        refine x_eqi (nI (m + 1)) (by rw [eJ45, up2_s]) ?_
        refine x_iconst h dX0_body_52 (1) rfl ?_
        refine x_isubE h (nI m) (nI_pred m) dX0_body_53 ?_
        refine x_wid h (by decide) (by decide) ?_
        exact x_iret h dX0_body_54 rfl (by rw [hm]; exact ⟨rfl, hg34, hT.body (K := 4) hm50 m2 (by decide) hg34 hl34 ht34 (fun c s z y => by rw [eJ45, up2_n _ _ y, eJ34, up2_i _ _ (by omega), nw1_r _ _ _ (by omega)]) (by rw [eJ45, up2_s]) (by rw [eJ45, up2_i _ _ (by omega), eJ34, up2_s]; exact m3) (fun c s z y => by rw [eQ37, up2_n _ _ y]; exact hF34 c s z) (by rw [eQ37, up2_s]) (by rw [eQ37, up2_i _ _ (by omega), eF34, up2_s])⟩)
      · skip
        have hm : m_body J 5 = (nI m, up2 (up2 J 88 m (nI 5)) 70 31 (nI (m + 1))) := by unfold m_body; rw [if_neg c7, m2, if_neg h50, ix_n (by omega), nI_1]; rfl
        have hn103 : 103 ≤ n := hC.1
        refine x_aload_n h dX0_body_24 rfl ?_
        refine x_getr h (j := 32) g_X0_201 (mlt hC.1 rfl) (hC.2.1 _ _ rfl) (by decide) (hC.2.2 _ _ _ rfl) dX0_body_25 ?_
        refine x_aload_n h dX0_body_28 rfl ?_
        refine x_geti h g_X0_428 (mlt hC.1 rfl) (hC.2.1 _ _ rfl) rfl dX0_body_29 ?_
        refine x_eqi (nI m) m3 ?_
        refine x_aload_n h dX0_body_32 rfl ?_
        refine x_iload_n h dX0_body_33 rfl ?_
        refine x_callVErm h (As := [.int _]) (k0_made5 l G n _ _ hC _ _) m_X0_455 (mlt hC.1 rfl) (hC.2.1 _ _ rfl) dX0_body_34 ⟨by decide, by decide⟩ ⟨by omega, by omega⟩ rfl (Nat.le_of_ble_eq_true rfl) ?_
        refine x_nmW (fun n34 Ty34 J34 F34 en34 eT34 eJ34 eF34 => ?_)
        have hl34 : n < n34 := by rw [en34]; exact Nat.lt_succ_self _
        have ht34 : Ty34 n = some (.inl 20) := by rw [eT34, nwT_ap, if_pos rfl]
        have hg34 : grw n n34 Ty Ty34 := by rw [en34, eT34]; exact grw.nw
        have hF34 : ∀ c k : Nat, c < n → F34 c k = F c k := fun c k z => by rw [eF34, up2_i _ _ (by omega), up2_i _ _ (by omega), up2_i _ _ (by omega), up2_i _ _ (by omega), nw1_r _ _ _ (by omega)]
        have hC34 : WC n34 Ty34 F34 := hC.gw hg34 hF34
        have h34 : J34 0 42 = nI m := by rw [eJ34, up2_i _ _ (by omega), nw1_r _ _ _ (by omega)]; exact m3
        refine x_aast h (mlt hC34.1 rfl) (hC34.2.1 _ _ rfl) (by decide) rfl hl34 ht34 rfl (Or.inr q2267) (vp_in_nI hm50 (by decide)) (m) (nI_clamp (by omega)) dX0_body_37 (fun Q37 eQ37 => ?_)
        have hQ37 : WC n34 Ty34 Q37 := by rw [eQ37]; exact hC34.up (by omega)
        refine x_aload_n h dX0_body_38 rfl ?_
        refine x_dup h dX0_body_39 rfl ?_
        refine x_geti h g_X0_428 (mlt hQ37.1 rfl) (hQ37.2.1 _ _ rfl) rfl dX0_body_40 ?_
        refine x_eqi (nI m) h34 ?_
        refine x_iconst h dX0_body_43 (1) rfl ?_
        refine x_iaddE h (nI (m + 1)) (nI_add m 1) dX0_body_44 ?_
        refine x_puti h p_X0_428 (mlt hQ37.1 rfl) (hQ37.2.1 _ _ rfl) rfl rfl rfl dX0_body_45 (fun J45 eJ45 => ?_)
        refine x_aload_n h dX0_body_48 rfl ?_
        refine x_geti h g_X0_428 (mlt hQ37.1 rfl) (hQ37.2.1 _ _ rfl) rfl dX0_body_49 ?_
        refine x_eqi (nI (m + 1)) (by rw [eJ45, up2_s]) ?_
        refine x_iconst h dX0_body_52 (1) rfl ?_
        refine x_isubE h (nI m) (nI_pred m) dX0_body_53 ?_
        refine x_wid h (by decide) (by decide) ?_
        exact x_iret h dX0_body_54 rfl (by rw [hm]; exact ⟨rfl, hg34, hT.body (K := 5) hm50 m2 (by decide) hg34 hl34 ht34 (fun c s z y => by rw [eJ45, up2_n _ _ y, eJ34, up2_i _ _ (by omega), nw1_r _ _ _ (by omega)]) (by rw [eJ45, up2_s]) (by rw [eJ45, up2_i _ _ (by omega), eJ34, up2_s]; exact m3) (fun c s z y => by rw [eQ37, up2_n _ _ y]; exact hF34 c s z) (by rw [eQ37, up2_s]) (by rw [eQ37, up2_i _ _ (by omega), eF34, up2_s])⟩)
      · skip
        have hm : m_body J 6 = (nI m, up2 (up2 J 88 m (nI 6)) 70 31 (nI (m + 1))) := by unfold m_body; rw [if_neg c7, m2, if_neg h50, ix_n (by omega), nI_1]; rfl
        have hn103 : 103 ≤ n := hC.1
        refine x_aload_n h dX0_body_24 rfl ?_
        refine x_getr h (j := 32) g_X0_201 (mlt hC.1 rfl) (hC.2.1 _ _ rfl) (by decide) (hC.2.2 _ _ _ rfl) dX0_body_25 ?_
        refine x_aload_n h dX0_body_28 rfl ?_
        refine x_geti h g_X0_428 (mlt hC.1 rfl) (hC.2.1 _ _ rfl) rfl dX0_body_29 ?_
        refine x_eqi (nI m) m3 ?_
        refine x_aload_n h dX0_body_32 rfl ?_
        refine x_iload_n h dX0_body_33 rfl ?_
        refine x_callVErm h (As := [.int _]) (k0_made6 l G n _ _ hC _ _) m_X0_455 (mlt hC.1 rfl) (hC.2.1 _ _ rfl) dX0_body_34 ⟨by decide, by decide⟩ ⟨by omega, by omega⟩ rfl (Nat.le_of_ble_eq_true rfl) ?_
        refine x_nmW (fun n34 Ty34 J34 F34 en34 eT34 eJ34 eF34 => ?_)
        have hl34 : n < n34 := by rw [en34]; exact Nat.lt_succ_self _
        have ht34 : Ty34 n = some (.inl 21) := by rw [eT34, nwT_ap, if_pos rfl]
        have hg34 : grw n n34 Ty Ty34 := by rw [en34, eT34]; exact grw.nw
        have hF34 : ∀ c k : Nat, c < n → F34 c k = F c k := fun c k z => by rw [eF34, up2_i _ _ (by omega), up2_i _ _ (by omega), nw1_r _ _ _ (by omega)]
        have hC34 : WC n34 Ty34 F34 := hC.gw hg34 hF34
        have h34 : J34 0 42 = nI m := by rw [eJ34, up2_i _ _ (by omega), nw1_r _ _ _ (by omega)]; exact m3
        refine x_aast h (mlt hC34.1 rfl) (hC34.2.1 _ _ rfl) (by decide) rfl hl34 ht34 rfl (Or.inr q2268) (vp_in_nI hm50 (by decide)) (m) (nI_clamp (by omega)) dX0_body_37 (fun Q37 eQ37 => ?_)
        have hQ37 : WC n34 Ty34 Q37 := by rw [eQ37]; exact hC34.up (by omega)
        refine x_aload_n h dX0_body_38 rfl ?_
        refine x_dup h dX0_body_39 rfl ?_
        refine x_geti h g_X0_428 (mlt hQ37.1 rfl) (hQ37.2.1 _ _ rfl) rfl dX0_body_40 ?_
        refine x_eqi (nI m) h34 ?_
        refine x_iconst h dX0_body_43 (1) rfl ?_
        refine x_iaddE h (nI (m + 1)) (nI_add m 1) dX0_body_44 ?_
        refine x_puti h p_X0_428 (mlt hQ37.1 rfl) (hQ37.2.1 _ _ rfl) rfl rfl rfl dX0_body_45 (fun J45 eJ45 => ?_)
        refine x_aload_n h dX0_body_48 rfl ?_
        refine x_geti h g_X0_428 (mlt hQ37.1 rfl) (hQ37.2.1 _ _ rfl) rfl dX0_body_49 ?_
        refine x_eqi (nI (m + 1)) (by rw [eJ45, up2_s]) ?_
        refine x_iconst h dX0_body_52 (1) rfl ?_
        refine x_isubE h (nI m) (nI_pred m) dX0_body_53 ?_
        refine x_wid h (by decide) (by decide) ?_
        exact x_iret h dX0_body_54 rfl (by rw [hm]; exact ⟨rfl, hg34, hT.body (K := 6) hm50 m2 (by decide) hg34 hl34 ht34 (fun c s z y => by rw [eJ45, up2_n _ _ y, eJ34, up2_i _ _ (by omega), nw1_r _ _ _ (by omega)]) (by rw [eJ45, up2_s]) (by rw [eJ45, up2_i _ _ (by omega), eJ34, up2_s]; exact m3) (fun c s z y => by rw [eQ37, up2_n _ _ y]; exact hF34 c s z) (by rw [eQ37, up2_s]) (by rw [eQ37, up2_i _ _ (by omega), eF34, up2_s])⟩)
      · skip
        have hm : m_body J 7 = (nI m, up2 (up2 J 88 m (nI 7)) 70 31 (nI (m + 1))) := by unfold m_body; rw [if_neg c7, m2, if_neg h50, ix_n (by omega), nI_1]; rfl
        have hn103 : 103 ≤ n := hC.1
        refine x_aload_n h dX0_body_24 rfl ?_
        refine x_getr h (j := 32) g_X0_201 (mlt hC.1 rfl) (hC.2.1 _ _ rfl) (by decide) (hC.2.2 _ _ _ rfl) dX0_body_25 ?_
        refine x_aload_n h dX0_body_28 rfl ?_
        refine x_geti h g_X0_428 (mlt hC.1 rfl) (hC.2.1 _ _ rfl) rfl dX0_body_29 ?_
        refine x_eqi (nI m) m3 ?_
        refine x_aload_n h dX0_body_32 rfl ?_
        refine x_iload_n h dX0_body_33 rfl ?_
        refine x_callVErm h (As := [.int _]) (k0_made7 l G n _ _ hC _ _) m_X0_455 (mlt hC.1 rfl) (hC.2.1 _ _ rfl) dX0_body_34 ⟨by decide, by decide⟩ ⟨by omega, by omega⟩ rfl (Nat.le_of_ble_eq_true rfl) ?_
        refine x_nmW (fun n34 Ty34 J34 F34 en34 eT34 eJ34 eF34 => ?_)
        have hl34 : n < n34 := by rw [en34]; exact Nat.lt_succ_self _
        have ht34 : Ty34 n = some (.inl 22) := by rw [eT34, nwT_ap, if_pos rfl]
        have hg34 : grw n n34 Ty Ty34 := by rw [en34, eT34]; exact grw.nw
        have hF34 : ∀ c k : Nat, c < n → F34 c k = F c k := fun c k z => by rw [eF34, up2_i _ _ (by omega), up2_i _ _ (by omega), up2_i _ _ (by omega), up2_i _ _ (by omega), nw1_r _ _ _ (by omega)]
        have hC34 : WC n34 Ty34 F34 := hC.gw hg34 hF34
        have h34 : J34 0 42 = nI m := by rw [eJ34, up2_i _ _ (by omega), nw1_r _ _ _ (by omega)]; exact m3
        refine x_aast h (mlt hC34.1 rfl) (hC34.2.1 _ _ rfl) (by decide) rfl hl34 ht34 rfl (Or.inr q2270) (vp_in_nI hm50 (by decide)) (m) (nI_clamp (by omega)) dX0_body_37 (fun Q37 eQ37 => ?_)
        have hQ37 : WC n34 Ty34 Q37 := by rw [eQ37]; exact hC34.up (by omega)
        refine x_aload_n h dX0_body_38 rfl ?_
        refine x_dup h dX0_body_39 rfl ?_
        refine x_geti h g_X0_428 (mlt hQ37.1 rfl) (hQ37.2.1 _ _ rfl) rfl dX0_body_40 ?_
        refine x_eqi (nI m) h34 ?_
        refine x_iconst h dX0_body_43 (1) rfl ?_
        refine x_iaddE h (nI (m + 1)) (nI_add m 1) dX0_body_44 ?_
        refine x_puti h p_X0_428 (mlt hQ37.1 rfl) (hQ37.2.1 _ _ rfl) rfl rfl rfl dX0_body_45 (fun J45 eJ45 => ?_)
        refine x_aload_n h dX0_body_48 rfl ?_
        refine x_geti h g_X0_428 (mlt hQ37.1 rfl) (hQ37.2.1 _ _ rfl) rfl dX0_body_49 ?_
        refine x_eqi (nI (m + 1)) (by rw [eJ45, up2_s]) ?_
        refine x_iconst h dX0_body_52 (1) rfl ?_
        refine x_isubE h (nI m) (nI_pred m) dX0_body_53 ?_
        refine x_wid h (by decide) (by decide) ?_
        exact x_iret h dX0_body_54 rfl (by rw [hm]; exact ⟨rfl, hg34, hT.body (K := 7) hm50 m2 (by decide) hg34 hl34 ht34 (fun c s z y => by rw [eJ45, up2_n _ _ y, eJ34, up2_i _ _ (by omega), nw1_r _ _ _ (by omega)]) (by rw [eJ45, up2_s]) (by rw [eJ45, up2_i _ _ (by omega), eJ34, up2_s]; exact m3) (fun c s z y => by rw [eQ37, up2_n _ _ y]; exact hF34 c s z) (by rw [eQ37, up2_s]) (by rw [eQ37, up2_i _ _ (by omega), eF34, up2_s])⟩)
    · skip
      have hm : m_body J k = (-3, J) := by unfold m_body; rw [if_neg c7, if_pos (by rw [m2]; exact c18)]
      refine x_bipush h dX0_body_21 (-3) rfl ?_
      refine x_wid h (by decide) (by decide) ?_
      exact x_iret h dX0_body_23 rfl (by rw [hm]; exact ⟨rfl, grw.rf, hT⟩)
  · skip
    have hm : m_body J k = (-1, J) := by unfold m_body; rw [if_pos c7]
    refine x_iconst h dX0_body_10 (-1) rfl ?_
    refine x_wid h (by decide) (by decide) ?_
    exact x_iret h dX0_body_11 rfl (by rw [hm]; exact ⟨rfl, grw.rf, hT⟩)
