/-! WALKS OF THE COMPONENT: a coming -/
theorem p_X0_243 : xfp RX0 243 0 15 (tyX0 15) false := ⟨_, _, _, tyX0, rfl, by decide, in_X0, q723, rfl, tyX0_ok, nmX0, tyX0_ok 15 (by decide), rfl⟩
theorem p_X0_246 : xfp RX0 246 0 17 (tyX0 17) false := ⟨_, _, _, tyX0, rfl, by decide, in_X0, q725, rfl, tyX0_ok, nmX0, tyX0_ok 17 (by decide), rfl⟩
theorem m_X0_249 : xcv RX0 249 0 yX0_counts cX0_counts 2 (some .boolean) 1 := ⟨_, _, _, rfl, lw_V q891 q893 qs26 q99 q894, rfl, by decide +kernel, by decide +kernel, by decide +kernel⟩
theorem g_X0_252 : xfgN RX0 252 2 5 := ⟨_, _, _, _, rfl, by decide, in_X2, q669, rfl⟩
theorem g_X0_211 : xfgN RX0 211 2 7 := ⟨_, _, _, _, rfl, by decide, in_X2, q673, rfl⟩
theorem m_X0_268 : xcv RX0 268 0 yX0_buysFor cX0_buysFor 5 (some .int) 3 := ⟨_, _, _, rfl, lw_V q904 q906 qs28 q99 q907, rfl, by decide +kernel, by decide +kernel, by decide +kernel⟩
theorem g_X0_246 : xfg RX0 246 0 17 := ⟨_, _, _, rfl, by decide, in_X0, q725, rfl⟩
theorem m_X0_272 : xcv RX0 272 2 yX2_owe cX2_owe 3 (none) 2 := ⟨_, _, _, rfl, lw_V q937 q938 q939 q101 q940, rfl, by decide +kernel, by decide +kernel, by decide +kernel⟩
theorem p_X0_226 : xfpN RX0 226 2 6 (tyX2 6) := ⟨_, _, _, _, tyX2, rfl, by decide, in_X2, q671, rfl, tyX2_ok, nmX2, tyX2_ok 6 (by decide), rfl⟩
theorem g_X0_255 : xfgN RX0 255 2 3 := ⟨_, _, _, _, rfl, by decide, in_X2, q665, rfl⟩
theorem g_X0_258 : xfgN RX0 258 2 4 := ⟨_, _, _, _, rfl, by decide, in_X2, q667, rfl⟩
theorem m_X0_261 : xcv RX0 261 2 yX2_takeOldest cX2_takeOldest 2 (none) 0 := ⟨_, _, _, rfl, lw_V q895 q896 q897 q101 q898, rfl, by decide +kernel, by decide +kernel, by decide +kernel⟩
theorem g_X0_243 : xfg RX0 243 0 15 := ⟨_, _, _, rfl, by decide, in_X0, q723, rfl⟩
theorem m_X0_264 : xcv RX0 264 0 yX0_pays cX0_pays 6 (none) 4 := ⟨_, _, _, rfl, lw_V q899 q901 qs27 q99 q902, rfl, by decide +kernel, by decide +kernel, by decide +kernel⟩
def goF (g : Nat) (I J I' J' : xI_T) : Prop := RC I' J' g ∧ RQ I' J' ∧ (RP I J → RP I' J') ∧ Fr (cset g) I I' 
set_option maxHeartbeats 4000000 in
theorem k0_comesIn (l : Launch) (G : xG_T) (n : Nat) (Ty : Nat → xs_T) (F : xF_T) (hC : WC n Ty F) (I : xI_T) (L : xL_T) (J : xI_T) (g x : Nat) (hg : mkT n Ty F g) (hg34 : 34 ≤ g ∧ g + 5 < 70) (hS : KS n Ty I F J) (hR : RC I J g) (hM : Wmk J) (hW : Wlaw J) (hx : x < ix (J 70 0)) : CR l (261) yX0_comesIn cX0_comesIn 6 (none) G n Ty F [.ref (xb G + 0), .ref (xb G + g), .int (nI x)] I L (aV (fun I2 => goF g I J I2 (m_goes1 J (nI x)))) := by
  refine Cg.intro (cls := RX0) (pad := 3) (lv := [some (.ref (xb G + 0)), some (.ref (xb G + g)), some (.int (nI x)), none, none, none]) rfl (by decide) (Nat.le_of_ble_eq_true rfl) rfl (fun Θ h => ?_)
  have hb8 : ix (J 70 0) ≤ 8 := by obtain ⟨z, hz, ez⟩ := vp_in_of hM.1 (by decide); rw [ez, ix_n (by omega)]; omega
  have hx8 : x < 8 := by omega
  have hc : vp_in (nI x) 8 := vp_in_nI hx8 (by decide)
  have hnn := none_R hR hb8 hg34.1
  refine x_aload_n h dX0_comesIn_0 rfl ?_
  refine x_bipush h dX0_comesIn_1 (8) rfl ?_
  refine x_puti h p_X0_243 (mlt hC.1 rfl) (hC.2.1 _ _ rfl) rfl rfl rfl dX0_comesIn_3 (fun J3 eJ3 => ?_)
  refine x_aload_n h dX0_comesIn_6 rfl ?_
  refine x_iconst h dX0_comesIn_7 (0) rfl ?_
  refine x_puti h p_X0_240 (mlt hC.1 rfl) (hC.2.1 _ _ rfl) rfl rfl rfl dX0_comesIn_8 (fun J8 eJ8 => ?_)
  refine x_aload_n h dX0_comesIn_11 rfl ?_
  refine x_iconst h dX0_comesIn_12 (0) rfl ?_
  refine x_puti h p_X0_246 (mlt hC.1 rfl) (hC.2.1 _ _ rfl) rfl rfl rfl dX0_comesIn_13 (fun J13 eJ13 => ?_)
  have h13 : J13 = k_none I := by rw [eJ13, eJ8, eJ3]; rfl
  refine x_aload_n h dX0_comesIn_16 rfl ?_
  refine x_iload_n h dX0_comesIn_17 rfl ?_
  refine x_callVEi h (As := [.int _]) (k0_counts l G n _ _ hC _ _ J x (by rw [h13]; exact hS.1.mv (fun q k z => knone_o (by omega)) (knone_o (by omega)) (knone_o (by omega)) rfl rfl (fun _ _ => rfl)) hb8 hx) m_X0_249 (mlt hC.1 rfl) (hC.2.1 _ _ rfl) dX0_comesIn_18 ⟨by decide, by decide⟩ ⟨by decide, by decide⟩ rfl (Nat.le_of_ble_eq_true rfl) ?_
  refine x_if_ne h 25 dX0_comesIn_21 rfl (fun c21 => ?_) (fun c21 => ?_)
  · skip
    have ho : ¬ m_out J (nI x) = true := fun z => by rw [if_pos z] at c21; exact c21 rfl
    refine x_aload_n h dX0_comesIn_25 rfl ?_
    refine x_getrN h (j := g + 1) g_X0_207 hg.l0 hg.1.2 (by decide) hg.2.2.1 dX0_comesIn_26 ?_
    refine x_iload_n h dX0_comesIn_29 rfl ?_
    refine x_iald h hg.l1 hg.2.1.1 (vp_in_nI (show x < 8 by omega) (by decide)) (x) (nI_clamp (by omega)) dX0_comesIn_30 ?_
    refine x_nmi (fun v31 ev31 => ?_)
    refine x_istore_n h dX0_comesIn_31 rfl (by decide) [some (.ref (xb G + 0)), some (.ref (xb G + g)), some (.int (nI x)), some (.int v31), none, none] rfl ?_
    have lp32 : ∀ (d : Nat) (e : Nat) (A K : xI_T), e < d → (m_payAll (nI x) 7 (m_none J) = m_payAll (nI x) e K) → (ix (K 72 18) < e) → (Wmk K) → (Wlaw K) → (RC A K g) → (RQ A K) → (RP I J → RP A K) → (Fr (cset g) I A) → (∀ q j : Nat, gz q j → K q j = J q j) → X Θ 0 0 n Ty A L F 32 [some (.ref (xb G + 0)), some (.ref (xb G + g)), some (.int (nI x)), some (.int v31), none, none] [] := by
      intro d
      induction d with
      | zero =>
        intro e A K hlt
        exact absurd hlt (Nat.not_lt_zero _)
      | succ d ih =>
        intro e A K hlt hJ he hMK hWK hRK hQK hPK hFK hGK
        have h0K : K 70 0 = J 70 0 := hGK 70 0 ⟨by decide, by decide, by decide, by decide, fun _ => Or.inl (by decide)⟩
        have hb8K : ix (K 70 0) ≤ 8 := by rw [h0K]; exact hb8
        have hxK : x < ix (K 70 0) := by rw [h0K]; exact hx
        refine x_aload_n h dX0_comesIn_32 rfl ?_
        refine x_getiN h g_X0_252 hg.l0 hg.1.2 rfl dX0_comesIn_33 ?_
        refine x_aload_n h dX0_comesIn_36 rfl ?_
        refine x_getiN h g_X0_211 hg.l0 hg.1.2 rfl dX0_comesIn_37 ?_
        refine x_icmp_lt h 91 dX0_comesIn_40 rfl (fun c40 => ?_) (fun c40 => ?_)
        · skip
          have hlt2 : K 72 18 < K 70 2 := by rw [← hRK.2.1.1, ← hRK.2.2.2.1]; exact c40
          have hz7 : m_payAll (nI x) 7 (m_none J) = K := by rw [hJ]; obtain ⟨e2, rfl⟩ : ∃ z : Nat, e = z + 1 := ⟨e - 1, by omega⟩; exact payAll_0 hlt2
          obtain ⟨z, hz5, ez⟩ := vp_in_of (third_5 hMK hlt2) (by decide)
          refine x_aload_n h dX0_comesIn_91 rfl ?_
          refine x_aload_n h dX0_comesIn_92 rfl ?_
          refine x_aload_n h dX0_comesIn_93 rfl ?_
          refine x_iload_n h dX0_comesIn_94 rfl ?_
          refine x_iload_n h dX0_comesIn_95 rfl ?_
          refine x_callVRi h (As := [.ref _, .int _, .int _]) (k0_buysFor l G n _ _ hC _ _ K g x v31 hg hg34.1 (hS.fr hFK ⟨by omega, by omega⟩ hGK) hRK hWK hb8K hxK) m_X0_268 (mlt hC.1 rfl) (hC.2.1 _ _ rfl) dX0_comesIn_96 ⟨by decide, by decide⟩ ⟨by decide, by decide⟩ rfl (Nat.le_of_ble_eq_true rfl) (fun v96 J96 hp96 => ?_)
          refine x_puti h p_X0_246 (mlt hC.1 rfl) (hC.2.1 _ _ rfl) rfl rfl rfl dX0_comesIn_99 (fun J99 eJ99 => ?_)
          refine x_aload_n h dX0_comesIn_102 rfl ?_
          refine x_iload_n h dX0_comesIn_103 rfl ?_
          refine x_aload_n h dX0_comesIn_104 rfl ?_
          refine x_geti h g_X0_246 (mlt hC.1 rfl) (hC.2.1 _ _ rfl) rfl dX0_comesIn_105 ?_
          refine x_eqi (v96) (by rw [eJ99]; exact up2_s _ _ _ _) ?_
          refine x_callVEv h (As := [.int _, .int _]) (k2_owe l G n _ _ hC _ _ g (nI x) v96 hg (by rw [eJ99, up2_i _ _ (by omega), hp96.2 g 5 (by omega), hRK.2.1.1, ez]; exact vp_in_nI hz5 (by decide))) m_X0_272 hg.l0 hg.1.2 dX0_comesIn_108 ⟨by decide, by decide⟩ ⟨by decide, by decide⟩ rfl (Nat.le_of_ble_eq_true rfl) ?_
          refine x_nmI (fun J108 eJ108 => ?_)
          refine x_aload_n h dX0_comesIn_111 rfl ?_
          refine x_dup h dX0_comesIn_112 rfl ?_
          refine x_getiN h g_X0_226 hg.l0 hg.1.2 rfl dX0_comesIn_113 ?_
          refine x_iconst h dX0_comesIn_116 (1) rfl ?_
          refine x_iadd h dX0_comesIn_117 ?_
          refine x_putiN h p_X0_226 hg.l0 hg.1.2 rfl rfl rfl dX0_comesIn_118 (fun J118 eJ118 => ?_)
          refine x_aload_n h dX0_comesIn_121 rfl ?_
          refine x_getrN h (j := g + 3) g_X0_220 hg.l0 hg.1.2 (by decide) hg.2.2.2.2.1 dX0_comesIn_122 ?_
          refine x_iload_n h dX0_comesIn_125 rfl ?_
          refine x_dup2_11 h dX0_comesIn_126 rfl rfl ?_
          refine x_iald h hg.l3 hg.2.1.2.2.1 (vp_in_nI (show x < 8 by omega) (by decide)) (x) (nI_clamp (by omega)) dX0_comesIn_127 ?_
          refine x_iconst h dX0_comesIn_128 (1) rfl ?_
          refine x_iadd h dX0_comesIn_129 ?_
          refine x_iast h hg.l3 hg.2.1.2.2.1 (vp_in_nI (show x < 8 by omega) (by decide)) (x) (nI_clamp (by omega)) dX0_comesIn_130 (fun J130 eJ130 => ?_)
          have hpur : m_none J 72 (ix (nI x)) = v31 := by rw [ix_n (by omega), none_i (by decide), ev31, h13, knone_o (by omega)]; exact (hR.1 x hx).1.symm
          have eK : J130 = k_book J96 g x v96 := by rw [eJ130, eJ118, eJ108, eJ99]; rfl
          have hR96 : RC J96 K g := hRK.mv (fun q k h1 h2 => hp96.2 q k (by omega)) rfl rfl rfl (fun _ _ => rfl) (fun _ => rfl) hb8K
          have hQ96 : RQ J96 K := by unfold RQ; rw [hp96.2 0 15 (by decide), hp96.2 0 16 (by decide), hp96.2 0 17 (by decide)]; exact hQK
          have hP96 : RP A K → RP J96 K := fun q s t hs ht => by rw [hp96.2 _ _ (by omega)]; exact q s t hs ht
          have hbk := book_R (v := v96) (K := (m_buys K (nI x) v31).2) hR96 hQ96 hb8K hxK ez hz5 hg34.1 (fun q j h1 h2 => buys_o h1 h2)
          exact x_vret h dX0_comesIn_131 rfl ⟨rfl, rfl, rfl, rfl, rfl, by rw [goes1_1 (by rw [none_out hx8]; exact ho), hz7, hpur, ← hp96.1, eK]; exact ⟨hbk.1, hbk.2.1, fun q => hbk.2.2 (hP96 (hPK q)), fun q k z => by rw [kbook_o z, hp96.2 q k (fun y => z (by unfold cset; omega))]; exact hFK q k z⟩⟩
        · skip
          have hlt2 : ¬ K 72 18 < K 70 2 := by rw [← hRK.2.1.1, ← hRK.2.2.2.1]; exact c40
          have h0 := third_0 hMK hlt2
          obtain ⟨z, hz5, ez⟩ : ∃ z : Nat, z ≤ 4 ∧ K 72 18 = nI (z + 1) := open_s hMK h0
          obtain ⟨e2, rfl⟩ : ∃ z : Nat, e = z + 1 := ⟨e - 1, by omega⟩
          obtain ⟨d1, d2, w, hwK, hwe⟩ := hRK.2.1.2 0 (by rw [ez, ix_n (by omega)]; omega)
          have hw8 : w < 8 := by omega
          have hpp := pays_R hRK hQK hb8K ez hz5 hxK hg34.1
          refine x_aload_n h dX0_comesIn_43 rfl ?_
          refine x_getrN h (j := g + 4) g_X0_255 hg.l0 hg.1.2 (by decide) hg.2.2.2.2.2.1 dX0_comesIn_44 ?_
          refine x_iconst h dX0_comesIn_47 (0) rfl ?_
          refine x_iald h hg.l4 hg.2.1.2.2.2.1 (xk rfl) 0 rfl dX0_comesIn_48 ?_
          refine x_nmi (fun v49 ev49 => ?_)
          refine x_istore h dX0_comesIn_49 (by decide) [some (.ref (xb G + 0)), some (.ref (xb G + g)), some (.int (nI x)), some (.int v31), some (.int v49), none] rfl ?_
          refine x_aload_n h dX0_comesIn_51 rfl ?_
          refine x_getrN h (j := g + 5) g_X0_258 hg.l0 hg.1.2 (by decide) hg.2.2.2.2.2.2 dX0_comesIn_52 ?_
          refine x_iconst h dX0_comesIn_55 (0) rfl ?_
          refine x_iald h hg.l5 hg.2.1.2.2.2.2 (xk rfl) 0 rfl dX0_comesIn_56 ?_
          refine x_nmi (fun v57 ev57 => ?_)
          refine x_istore h dX0_comesIn_57 (by decide) [some (.ref (xb G + 0)), some (.ref (xb G + g)), some (.int (nI x)), some (.int v31), some (.int v49), some (.int v57)] rfl ?_
          have e49 : v49 = K 72 19 := ev49.trans d1
          have e57 : v57 = K 72 25 := ev57.trans d2
          have e49w : v49 = nI w := e49.trans hwe
          refine x_aload_n h dX0_comesIn_59 rfl ?_
          refine x_callVEv h (As := []) (k2_takeOldest l G n _ _ hC _ _ g hg z (by rw [hRK.2.1.1, ez]; exact nI_pred z) hz5) m_X0_261 hg.l0 hg.1.2 dX0_comesIn_60 ⟨by decide, by decide⟩ ⟨by decide, by decide⟩ rfl (Nat.le_of_ble_eq_true rfl) ?_
          refine x_nmI (fun J60 eJ60 => ?_)
          refine x_aload_n h dX0_comesIn_63 rfl ?_
          refine x_geti h g_X0_243 (mlt hC.1 rfl) (hC.2.1 _ _ rfl) rfl dX0_comesIn_64 ?_
          refine x_bipush h dX0_comesIn_67 (8) rfl ?_
          refine x_icmp_ne h 78 dX0_comesIn_69 rfl (fun c69 => ?_) (fun c69 => ?_)
          · skip
            have hkf : k_first (k_take A g) v49 = J60 := by rw [← eJ60]; unfold k_first; rw [if_neg c69]
            refine x_aload_n h dX0_comesIn_78 rfl ?_
            refine x_aload_n h dX0_comesIn_79 rfl ?_
            refine x_iload h dX0_comesIn_80 rfl ?_
            refine x_iload h dX0_comesIn_82 rfl ?_
            refine x_iload_n h dX0_comesIn_84 rfl ?_
            refine x_callVEv h (As := [.ref _, .int _, .int _, .int _]) (k0_pays l G n _ _ hC _ _ g v49 v57 (nI x) hg (by rw [e49w]; exact vp_in_nI hw8 (by decide)) hc) m_X0_264 (mlt hC.1 rfl) (hC.2.1 _ _ rfl) dX0_comesIn_85 ⟨by decide, by decide⟩ ⟨by decide, by decide⟩ rfl (Nat.le_of_ble_eq_true rfl) ?_
            refine x_nmI (fun J85 eJ85 => ?_)
            have eI85 : J85 = k_pays (k_first (k_take A g) v49) g v49 v57 (nI x) := by rw [hkf]; first | (rw [← eJ75]; exact eJ85) | exact eJ85
            rw [← e49, ← e57] at hpp
            refine x_goto h 32 dX0_comesIn_88 rfl ?_
            refine x_wk (lv := [some (.ref (xb G + 0)), some (.ref (xb G + g)), some (.int (nI x)), some (.int v31), none, none]) ?_ ⟨rfl, rfl, rfl, rfl, trivial⟩
            exact ih e2 J85 (m_pays K (nI x)) (by omega) (by rw [hJ]; exact payAll_1 hlt2) (by rw [pays_18 hMK hc h0]; exact ix_pred hMK.2.2.2.1 h0 he) (hMK.pays hc h0) hWK.pays (by rw [eI85]; exact hpp.1) (by rw [eI85]; exact hpp.2.1) (fun q => by rw [eI85]; exact hpp.2.2 (hPK q)) (by rw [eI85, e49w]; exact paysF hw8 (by omega) hFK) (fun q j h => (pays_o h).trans (hGK q j h))
          · skip
            have hkf : k_first (k_take A g) v49 = up2 J60 0 15 v49 := by rw [← eJ60]; unfold k_first; rw [if_pos c69]
            refine x_aload_n h dX0_comesIn_72 rfl ?_
            refine x_iload h dX0_comesIn_73 rfl ?_
            refine x_puti h p_X0_243 (mlt hC.1 rfl) (hC.2.1 _ _ rfl) rfl rfl rfl dX0_comesIn_75 (fun J75 eJ75 => ?_)
            refine x_aload_n h dX0_comesIn_78 rfl ?_
            refine x_aload_n h dX0_comesIn_79 rfl ?_
            refine x_iload h dX0_comesIn_80 rfl ?_
            refine x_iload h dX0_comesIn_82 rfl ?_
            refine x_iload_n h dX0_comesIn_84 rfl ?_
            refine x_callVEv h (As := [.ref _, .int _, .int _, .int _]) (k0_pays l G n _ _ hC _ _ g v49 v57 (nI x) hg (by rw [e49w]; exact vp_in_nI hw8 (by decide)) hc) m_X0_264 (mlt hC.1 rfl) (hC.2.1 _ _ rfl) dX0_comesIn_85 ⟨by decide, by decide⟩ ⟨by decide, by decide⟩ rfl (Nat.le_of_ble_eq_true rfl) ?_
            refine x_nmI (fun J85 eJ85 => ?_)
            have eI85 : J85 = k_pays (k_first (k_take A g) v49) g v49 v57 (nI x) := by rw [hkf]; first | (rw [← eJ75]; exact eJ85) | exact eJ85
            rw [← e49, ← e57] at hpp
            refine x_goto h 32 dX0_comesIn_88 rfl ?_
            refine x_wk (lv := [some (.ref (xb G + 0)), some (.ref (xb G + g)), some (.int (nI x)), some (.int v31), none, none]) ?_ ⟨rfl, rfl, rfl, rfl, trivial⟩
            exact ih e2 J85 (m_pays K (nI x)) (by omega) (by rw [hJ]; exact payAll_1 hlt2) (by rw [pays_18 hMK hc h0]; exact ix_pred hMK.2.2.2.1 h0 he) (hMK.pays hc h0) hWK.pays (by rw [eI85]; exact hpp.1) (by rw [eI85]; exact hpp.2.1) (fun q => by rw [eI85]; exact hpp.2.2 (hPK q)) (by rw [eI85, e49w]; exact paysF hw8 (by omega) hFK) (fun q j h => (pays_o h).trans (hGK q j h))
    exact lp32 8 7 J13 (m_none J) (by decide) rfl (ix_7 hM.none.2.2.2.1) hM.none hW.none (by rw [h13]; exact hnn.1) (by rw [h13]; exact hnn.2.1) (fun q => by rw [h13]; exact hnn.2.2 q) (by rw [h13]; exact fun q k z => knone_o (by unfold cset at z; omega)) (fun q j h => none_o h)
  · skip
    have ho : m_out J (nI x) = true := by by_cases z : m_out J (nI x) = true; exact z; rw [if_neg z] at c21; exact absurd c21 (by decide)
    exact x_vret h dX0_comesIn_24 rfl ⟨rfl, rfl, rfl, rfl, rfl, by rw [goes1_0 (by rw [none_out hx8]; exact ho), h13]; exact ⟨hnn.1, hnn.2.1, hnn.2.2, fun q k z => knone_o (by unfold cset at z; omega)⟩⟩
