/-! WALKS OF THE COMPONENT: by turns asked -/
theorem p_X0_374 : xfp RX0 374 0 24 (tyX0 24) false := ⟨_, _, _, tyX0, rfl, by decide, in_X0, q732, rfl, tyX0_ok, nmX0, tyX0_ok 24 (by decide), rfl⟩
theorem p_X0_377 : xfp RX0 377 0 25 (tyX0 25) false := ⟨_, _, _, tyX0, rfl, by decide, in_X0, q733, rfl, tyX0_ok, nmX0, tyX0_ok 25 (by decide), rfl⟩
set_option maxHeartbeats 4000000 in
theorem k0_byTurns (l : Launch) (G : xG_T) (n : Nat) (Ty : Nat → xs_T) (F : xF_T) (hC : WC n Ty F) (I : xI_T) (L : xL_T) (J : xI_T) (o t w : Int32) (hQ : QS n Ty I F J) : CR l (275) yX0_byTurns cX0_byTurns 5 (some .int) G n Ty F [.ref (xb G + 0), .int o, .int t, .int w] I L (aR (fun r I2 => r = (m_byTurns J o t w).1 ∧ Fr q2set I I2)) := by
  refine Cg.intro (cls := RX0) (pad := 1) (lv := [some (.ref (xb G + 0)), some (.int o), some (.int t), some (.int w), none]) rfl (by decide) (Nat.le_of_ble_eq_true rfl) rfl (fun Θ h => ?_)
  have hI0 : I 0 1 = J 70 0 := hQ.1.1.1
  have hb := hQ.2.2.1.1
  obtain ⟨nb, hnb, enb, enx, hnI⟩ := hQ.nb
  have ekB : ∀ o : Int32, k_isB I o = m_isB J o := isB_k hI0
  refine x_aload_n h dX0_byTurns_0 rfl ?_
  refine x_iload_n h dX0_byTurns_1 rfl ?_
  refine x_callVEi h (As := [.int _]) (k0_areTwo l G n _ _ hC _ _ _ ) m_X0_336 (mlt hC.1 rfl) (hC.2.1 _ _ rfl) dX0_byTurns_2 ⟨by decide, by decide⟩ ⟨by decide, by decide⟩ rfl (Nat.le_of_ble_eq_true rfl) ?_
  refine x_if_eq h 26 dX0_byTurns_5 rfl (fun c5 => ?_) (fun c5 => ?_)
  · skip
    have hz : (m_byTurns J o t w).1 = -2000000000 := by unfold m_byTurns; rw [if_pos (by rw [← two_k hI0]; exact c5)]
    refine x_ldcw h dX0_byTurns_26 q1061 ?_
    exact x_iret h dX0_byTurns_29 rfl ⟨rfl, rfl, rfl, rfl, _, rfl, hz.symm, Fr.rf⟩
  · skip
    have d5 : ¬ m_pair J o = 0 := by rw [← two_k hI0]; exact c5
    refine x_iload_n h dX0_byTurns_8 rfl ?_
    refine x_iconst h dX0_byTurns_9 (1) rfl ?_
    refine x_iconst h dX0_byTurns_10 (5) rfl ?_
    refine x_callSEi h (As := [.int _, .int _, .int _]) (k0_in l G n _ _ hC _ _ _ _ _ ) m_X0_7 dX0_byTurns_11 ⟨by decide, by decide⟩ ⟨by decide, by decide⟩ rfl (Nat.le_of_ble_eq_true rfl) ?_
    refine x_if_eq h 26 dX0_byTurns_14 rfl (fun c14 => ?_) (fun c14 => ?_)
    · skip
      have hz : (m_byTurns J o t w).1 = -2000000000 := by unfold m_byTurns; rw [if_neg d5, if_pos c14]
      refine x_ldcw h dX0_byTurns_26 q1061 ?_
      exact x_iret h dX0_byTurns_29 rfl ⟨rfl, rfl, rfl, rfl, _, rfl, hz.symm, Fr.rf⟩
    · skip
      refine x_iload_n h dX0_byTurns_17 rfl ?_
      refine x_iconst h dX0_byTurns_18 (0) rfl ?_
      refine x_iconst h dX0_byTurns_19 (1) rfl ?_
      refine x_callSEi h (As := [.int _, .int _, .int _]) (k0_in l G n _ _ hC _ _ _ _ _ ) m_X0_7 dX0_byTurns_20 ⟨by decide, by decide⟩ ⟨by decide, by decide⟩ rfl (Nat.le_of_ble_eq_true rfl) ?_
      refine x_if_ne h 30 dX0_byTurns_23 rfl (fun c23 => ?_) (fun c23 => ?_)
      · skip
        obtain ⟨e9, he5, rfl⟩ : ∃ e : Nat, e < 5 ∧ t = nI (1 + e) := by obtain ⟨j, h1, h5, e⟩ := inR_nat 1 5 c14 rfl rfl (by decide); exact ⟨j - 1, by omega, by rw [e, show 1 + (j - 1) = j by omega]⟩
        have hm := byTurns_B d5 c14 c23 he5
        obtain ⟨a9, b9, ha9, hb9, hbo, ea9, eb9, ha10, hb10, hab⟩ := pair_s hb d5
        have hS0 := sh_W (w := 0 - J 70 43) hQ.2.2.1 hQ.2.2.2
        have hsT := sh_turn (w := 0 - J 70 43) (a := nI a9) (b := nI b9)
        refine x_aload_n h dX0_byTurns_30 rfl ?_
        refine x_iload_n h dX0_byTurns_31 rfl ?_
        refine x_bipush h dX0_byTurns_32 (10) rfl ?_
        refine x_idiv h dX0_byTurns_34 (by decide) ?_
        refine x_eqi (nI a9) ea9 ?_
        refine x_puti h p_X0_374 (mlt hC.1 rfl) (hC.2.1 _ _ rfl) rfl rfl rfl dX0_byTurns_35 (fun J35 eJ35 => ?_)
        refine x_aload_n h dX0_byTurns_38 rfl ?_
        refine x_iload_n h dX0_byTurns_39 rfl ?_
        refine x_bipush h dX0_byTurns_40 (10) rfl ?_
        refine x_irem h dX0_byTurns_42 (by decide) ?_
        refine x_eqi (nI b9) eb9 ?_
        refine x_puti h p_X0_377 (mlt hC.1 rfl) (hC.2.1 _ _ rfl) rfl rfl rfl dX0_byTurns_43 (fun J43 eJ43 => ?_)
        refine x_aload_n h dX0_byTurns_46 rfl ?_
        have hf43 : Fr q2set I J43 := by rw [eJ43, eJ35]; exact (Fr.rf.up (by unfold q2set qset bset lset cset; omega)).up (by unfold q2set qset bset lset cset; omega)
        have hQ43 := hQ.fr hf43.q (fun _ _ _ => rfl)
        refine x_callVRr h (As := []) (k0_layNow l G n _ _ hC _ _ J hQ43.1 hQ.2.2.1) m_X0_291 (mlt hC.1 rfl) (hC.2.1 _ _ rfl) dX0_byTurns_47 ⟨by decide, by decide⟩ ⟨by decide, by decide⟩ rfl (Nat.le_of_ble_eq_true rfl) (fun J47 hp47 => ?_)
        have hR47 := hp47.1 (sh (0 - J 70 43) J) (sh_L rfl rfl (fun _ _ => rfl) (fun _ _ => rfl))
        have hf47 : Fr q2set I J47 := hf43.tr (hp47.2.sub fun _ _ z => lset_2 z)
        have h24 : J47 0 24 = nI a9 := by rw [hp47.2 0 24 (by unfold lset; omega), eJ43, eJ35, up2_k _ _ (by decide), up2_s]
        have h25 : J47 0 25 = nI b9 := by rw [hp47.2 0 25 (by unfold lset; omega), eJ43, up2_s]
        have sh70 : sh (0 - J 70 43) J 70 0 = J 70 0 := sh_o (by decide)
        have hS47 : KS n Ty J47 F (sh (0 - J 70 43) J) := (hQ.fr hf47.q (fun _ _ _ => rfl)).2.1.tr4 Fr.rf (fun q k y1 _ => sh_g y1)
        refine x_pop h dX0_byTurns_50 rfl ?_
        refine x_aload_n h dX0_byTurns_51 rfl ?_
        refine x_iconst h dX0_byTurns_52 (0) rfl ?_
        refine x_eqi (nI 0) rfl ?_
        refine x_iload_n h dX0_byTurns_53 rfl ?_
        refine x_callVRi h (As := [.int _, .int _]) (k0_best (1 + e9) l G n _ _ hC _ _ (sh (0 - J 70 43) J) 0 34 a9 b9 (by omega) rfl hS47 hR47 hS0.1 hS0.2 h24 h25 (by rw [sh70]; exact ha10) (by rw [sh70]; exact hb10)) m_X0_380 (mlt hC.1 rfl) (hC.2.1 _ _ rfl) dX0_byTurns_54 ⟨by omega, by decide⟩ ⟨by decide, by decide⟩ rfl (Nat.le_of_ble_eq_true rfl) (fun v54 J54 hp54 => ?_)
        have hv54 : v54 = jmax (m_turn (nI a9) (nI b9) e9 1 J).1 (m_comesAt (nI a9) (nI b9) e9 0 (m_turn (nI a9) (nI b9) e9 1 J).2).1 := by rw [hp54.1, hsT, Nat.add_comm, turn_s]; rfl
        have hf54 : Fr q2set I J54 := hf47.tr (hp54.2.sub (fun q k z => by unfold tset at z; unfold q2set qset bset lset cset; omega))
        refine x_istore h dX0_byTurns_57 (by decide) [some (.ref (xb G + 0)), some (.int o), some (.int (nI (1 + e9))), some (.int w), some (.int v54)] rfl ?_
        refine x_iload_n h dX0_byTurns_59 rfl ?_
        refine x_if_ne h 66 dX0_byTurns_60 rfl (fun c60 => ?_) (fun c60 => ?_)
        · skip
          have d60 : ¬ w = 0 := c60
          refine x_aload_n h dX0_byTurns_66 rfl ?_
          refine x_getr h (j := 12) g_X0_174 (mlt hC.1 rfl) (hC.2.1 _ _ rfl) (by decide) (hC.2.2 _ _ _ rfl) dX0_byTurns_67 ?_
          refine x_iconst h dX0_byTurns_70 (1) rfl ?_
          refine x_aaldr h (q := 40) (mlt hC.1 rfl) (hC.2.1 _ _ rfl) (by decide) rfl rfl (xk rfl) 1 rfl (hC.2.2 _ _ _ rfl) dX0_byTurns_71 ?_
          refine x_aload_n h dX0_byTurns_72 rfl ?_
          refine x_getr h (j := 12) g_X0_174 (mlt hC.1 rfl) (hC.2.1 _ _ rfl) (by decide) (hC.2.2 _ _ _ rfl) dX0_byTurns_73 ?_
          refine x_iconst h dX0_byTurns_76 (0) rfl ?_
          refine x_aaldr h (q := 34) (mlt hC.1 rfl) (hC.2.1 _ _ rfl) (by decide) rfl rfl (xk rfl) 0 rfl (hC.2.2 _ _ _ rfl) dX0_byTurns_77 ?_
          refine x_callVEv h (As := [.ref _]) (k2_likeThat l G n _ _ hC _ _ 40 34 (hC.mk (by unfold isMk; omega)) (hC.mk (by unfold isMk; omega))) m_X0_216 (mlt hC.1 rfl) (hC.2.1 _ _ rfl) dX0_byTurns_78 ⟨by decide, by decide⟩ ⟨by decide, by decide⟩ rfl (Nat.le_of_ble_eq_true rfl) ?_
          refine x_nmI (fun J78 eJ78 => ?_)
          have hR78 : RC J78 (sh (0 - J 70 43) J) 40 := by rw [eJ78]; exact like_R (hR47.mv31 hS0.1 (fun q k h1 h2 => hp54.2 q k (by unfold tset; omega)) rfl rfl rfl (fun _ _ => rfl) (fun _ _ => rfl)) hS0.1 (by omega)
          have hf78 : Fr q2set I J78 := hf54.tr (by rw [eJ78]; exact fun q k z => klike_o (by unfold q2set qset bset lset cset at z; omega))
          have hS78 : KS n Ty J78 F (sh (0 - J 70 43) J) := (hQ.fr hf78.q (fun _ _ _ => rfl)).2.1.tr4 Fr.rf (fun q k y1 _ => sh_g y1)
          refine x_aload_n h dX0_byTurns_81 rfl ?_
          refine x_iconst h dX0_byTurns_82 (1) rfl ?_
          refine x_eqi (nI 1) rfl ?_
          refine x_iload_n h dX0_byTurns_83 rfl ?_
          refine x_iconst h dX0_byTurns_84 (1) rfl ?_
          refine x_isubE h (nI e9) (by rw [Nat.add_comm]; exact nI_pred e9) dX0_byTurns_85 ?_
          refine x_callVRi h (As := [.int _, .int _]) (k0_best e9 l G n _ _ hC _ _ (sh (0 - J 70 43) J) 1 40 a9 b9 (by omega) rfl hS78 hR78 hS0.1 hS0.2 (by rw [eJ78, klike_o (by omega), hp54.2 0 24 (by unfold tset; omega)]; exact h24) (by rw [eJ78, klike_o (by omega), hp54.2 0 25 (by unfold tset; omega)]; exact h25) (by rw [sh70]; exact ha10) (by rw [sh70]; exact hb10)) m_X0_380 (mlt hC.1 rfl) (hC.2.1 _ _ rfl) dX0_byTurns_86 ⟨by omega, by decide⟩ ⟨by decide, by decide⟩ rfl (Nat.le_of_ble_eq_true rfl) (fun v86 J86 hp86 => ?_)
          have hv86 : v86 = (m_turn (nI a9) (nI b9) e9 1 J).1 := by rw [hp86.1, hsT]
          have hf86 : Fr q2set I J86 := hf78.tr (hp86.2.sub (fun q k z => by unfold tset at z; unfold q2set qset bset lset cset; omega))
          refine x_iload h dX0_byTurns_89 rfl ?_
          refine x_icmp_ne h 98 dX0_byTurns_91 rfl (fun c91 => ?_) (fun c91 => ?_)
          · skip
            have d91 : ¬ ¬ (m_turn (nI a9) (nI b9) e9 1 J).1 < (m_comesAt (nI a9) (nI b9) e9 0 (m_turn (nI a9) (nI b9) e9 1 J).2).1 := fun y => c91 (by rw [hv86, hv54]; exact jmax_c.mpr y)
            refine x_iconst h dX0_byTurns_98 (1) rfl ?_
            exact x_iret h dX0_byTurns_99 rfl ⟨rfl, rfl, rfl, rfl, _, rfl, by rw [hm]; unfold m_byTurnsB; rw [if_neg d60, ea9, eb9]; first | (rw [if_neg d91]; done) | (rw [if_pos (Classical.not_not.mp d91)]; done), hf86⟩
          · skip
            have d91 : ¬ (m_turn (nI a9) (nI b9) e9 1 J).1 < (m_comesAt (nI a9) (nI b9) e9 0 (m_turn (nI a9) (nI b9) e9 1 J).2).1 := jmax_c.mp (by rw [← hv54, ← hv86]; exact c91)
            refine x_iconst h dX0_byTurns_94 (0) rfl ?_
            refine x_goto h 99 dX0_byTurns_95 rfl ?_
            exact x_iret h dX0_byTurns_99 rfl ⟨rfl, rfl, rfl, rfl, _, rfl, by rw [hm]; unfold m_byTurnsB; rw [if_neg d60, ea9, eb9]; first | (rw [if_neg d91]; done) | (rw [if_pos (Classical.not_not.mp d91)]; done), hf86⟩
        · skip
          have d60 := c60
          refine x_iload h dX0_byTurns_63 rfl ?_
          exact x_iret h dX0_byTurns_65 rfl ⟨rfl, rfl, rfl, rfl, _, rfl, by rw [hm]; unfold m_byTurnsB; rw [if_pos d60, ea9, eb9]; exact hv54, hf54⟩
      · skip
        have hz : (m_byTurns J o t w).1 = -2000000000 := by unfold m_byTurns; rw [if_neg d5, if_neg c14, if_pos c23]
        refine x_ldcw h dX0_byTurns_26 q1061 ?_
        exact x_iret h dX0_byTurns_29 rfl ⟨rfl, rfl, rfl, rfl, _, rfl, hz.symm, Fr.rf⟩
