/-! WALKS OF THE COMPONENT: orders -/
theorem m_X0_325 : xcs RX0 325 yX0_has cX0_has 2 (some .boolean) 2 := ⟨lw_S q995 q996 q99 q997, by decide +kernel, by decide +kernel, by decide +kernel⟩
theorem p_X0_275 : xfp RX0 275 0 19 (tyX0 19) false := ⟨_, _, _, tyX0, rfl, by decide, in_X0, q727, rfl, tyX0_ok, nmX0, tyX0_ok 19 (by decide), rfl⟩
theorem m_X0_328 : xcv RX0 328 0 yX0_orderOn cX0_orderOn 5 (none) 2 := ⟨_, _, _, rfl, lw_V q991 q993 qs34 q99 q994, rfl, by decide +kernel, by decide +kernel, by decide +kernel⟩
theorem m_X0_302 : xcv RX0 302 0 yX0_behindRow cX0_behindRow 2 (some (.object "ThirdAfter$Market")) 0 := ⟨_, _, _, rfl, lw_V q864 q866 qs21 q99 q867, rfl, by decide +kernel, by decide +kernel, by decide +kernel⟩
theorem g_X0_322 : xfg RX0 322 0 21 := ⟨_, _, _, rfl, by decide, in_X0, q729, rfl⟩
theorem p_X0_322 : xfp RX0 322 0 21 (tyX0 21) false := ⟨_, _, _, tyX0, rfl, by decide, in_X0, q729, rfl, tyX0_ok, nmX0, tyX0_ok 21 (by decide), rfl⟩
theorem g_X0_187 : xfg RX0 187 0 20 := ⟨_, _, _, rfl, by decide, in_X0, q728, rfl⟩
set_option maxHeartbeats 4000000 in
theorem k0_ordS (l : Launch) (G : xG_T) (n : Nat) (Ty : Nat → xs_T) (F : xF_T) (hC : WC n Ty F) (I : xI_T) (L : xL_T) (e : Nat) (IH : OrdC e) (J : xI_T) (i t y : Nat) (hit : i + pcn t ≤ 5) (hte : pcn t < e + 1) (ht : t < 256) (hQ : QS n Ty I F J) (hR : RO I J i) (hy : y < ix (J 70 0)) : CR l (264 + (e + 1)) yX0_orderOn cX0_orderOn 5 (none) G n Ty F [.ref (xb G + 0), .int (nI t), .int (nI y)] I L (aV (fun I2 => RO I2 (m_ord (nI y) (e + 1) i (nI t) J) i ∧ Fr oset I I2)) := by
  refine Cg.intro (cls := RX0) (pad := 2) (lv := [some (.ref (xb G + 0)), some (.int (nI t)), some (.int (nI y)), none, none]) rfl (by decide) (Nat.le_of_ble_eq_true rfl) rfl (fun Θ h => ?_)
  obtain ⟨nb, hnb, enb, enx, hnI⟩ := hQ.nb
  have hy8 : y < 8 := by omega
  refine x_iload_n h dX0_orderOn_0 rfl ?_
  refine x_if_ne h 61 dX0_orderOn_1 rfl (fun c1 => ?_) (fun c1 => ?_)
  · skip
    have hE : m_ord (nI y) (e + 1) i (nI t) J = itI (m_ordF (nI y) e i (nI t)) nb J := by rw [ord_1 c1, enx]
    have hp1 : 1 ≤ pcn t := Nat.pos_of_ne_zero (fun z => c1 (by rw [pcn_0 ht z]; rfl))
    refine x_iconst h dX0_orderOn_61 (0) rfl ?_
    refine x_istore_n h dX0_orderOn_62 rfl (by decide) [some (.ref (xb G + 0)), some (.int (nI t)), some (.int (nI y)), some (.int 0), none] rfl ?_
    have lp63 : ∀ (d : Nat) (k : Nat) (A : xI_T), nb - k < d → (k ≤ nb) → (RO A (itI (m_ordF (nI y) e i (nI t)) k J) i) → (Fr oset I A) → (ordK i J (itI (m_ordF (nI y) e i (nI t)) k J)) → X Θ 0 0 n Ty A L F 63 [some (.ref (xb G + 0)), some (.int (nI t)), some (.int (nI y)), some (.int (nI k)), none] [] := by
      intro d
      induction d with
      | zero =>
        intro k A hlt
        exact absurd hlt (Nat.not_lt_zero _)
      | succ d ih =>
        intro k A hlt hk hA hf hK
        have h01 : A 0 1 = nI nb := by rw [hf 0 1 (by unfold oset bset lset cset; omega)]; exact hnI
        refine x_iload_n h dX0_orderOn_63 rfl ?_
        refine x_aload_n h dX0_orderOn_64 rfl ?_
        refine x_geti h g_X0_1 (mlt hC.1 rfl) (hC.2.1 _ _ rfl) rfl dX0_orderOn_65 ?_
        refine x_icmp_ge h 130 dX0_orderOn_68 rfl (fun c68 => ?_) (fun c68 => ?_)
        · skip
          have hkb : k = nb := Nat.le_antisymm hk (nleN h01 (by omega) (by omega) c68)
          exact x_vret h dX0_orderOn_130 rfl ⟨rfl, rfl, rfl, rfl, rfl, by rw [hE, ← hkb]; exact hA, hf⟩
        · skip
          have hkb : k < nb := nltN h01 (by omega) (by omega) c68
          refine x_iload_n h dX0_orderOn_71 rfl ?_
          refine x_iload_n h dX0_orderOn_72 rfl ?_
          refine x_callSEi h (As := [.int _, .int _]) (k0_has l G n _ _ hC _ _ _ _ ) m_X0_325 dX0_orderOn_73 ⟨by omega, by decide⟩ ⟨by decide, by decide⟩ rfl (Nat.le_of_ble_eq_true rfl) ?_
          refine x_if_ne h 82 dX0_orderOn_76 rfl (fun c76 => ?_) (fun c76 => ?_)
          · skip
            have g76 : ¬ (nI t >>> (nI k &&& 31)) &&& 1 = 0 := fun z => c76 ((has_0 ht (by omega)).mpr z)
            obtain ⟨u, hu, eu, pu⟩ := ordb ht (by omega) g76
            have h19 : A 0 19 = nI i := hA.1
            refine x_aload_n h dX0_orderOn_82 rfl ?_
            refine x_getr h (j := 22) g_X0_183 (mlt hC.1 rfl) (hC.2.1 _ _ rfl) (by decide) (hC.2.2 _ _ _ rfl) dX0_orderOn_83 ?_
            refine x_aload_n h dX0_orderOn_86 rfl ?_
            refine x_geti h g_X0_275 (mlt hC.1 rfl) (hC.2.1 _ _ rfl) rfl dX0_orderOn_87 ?_
            refine x_eqi (nI i) h19 ?_
            refine x_iload_n h dX0_orderOn_90 rfl ?_
            refine x_iast h (mlt hC.1 rfl) (hC.2.1 _ _ rfl) (vp_in_nI (show i < 21 by omega) (by decide)) (i) (nI_clamp (by omega)) dX0_orderOn_91 (fun J91 eJ91 => ?_)
            refine x_aload_n h dX0_orderOn_92 rfl ?_
            refine x_dup h dX0_orderOn_93 rfl ?_
            refine x_geti h g_X0_275 (mlt hC.1 rfl) (hC.2.1 _ _ rfl) rfl dX0_orderOn_94 ?_
            refine x_eqi (nI i) (by rw [eJ91, up2_i _ _ (by decide)]; exact h19) ?_
            refine x_iconst h dX0_orderOn_97 (1) rfl ?_
            refine x_iaddE h (nI (i + 1)) (nI_add i 1) dX0_orderOn_98 ?_
            refine x_puti h p_X0_275 (mlt hC.1 rfl) (hC.2.1 _ _ rfl) rfl rfl rfl dX0_orderOn_99 (fun J99 eJ99 => ?_)
            refine x_aload_n h dX0_orderOn_102 rfl ?_
            refine x_iload_n h dX0_orderOn_103 rfl ?_
            refine x_iconst h dX0_orderOn_104 (1) rfl ?_
            refine x_iload_n h dX0_orderOn_105 rfl ?_
            refine x_ishl h dX0_orderOn_106 ?_
            refine x_iconst h dX0_orderOn_107 (-1) rfl ?_
            refine x_ixor h dX0_orderOn_108 ?_
            refine x_iand h dX0_orderOn_109 ?_
            refine x_eqi (nI u) eu ?_
            refine x_iload_n h dX0_orderOn_110 rfl ?_
            refine x_callVRv h (As := [.int _, .int _]) (IH l G n _ _ hC _ _ (up2 (itI (m_ordF (nI y) e i (nI t)) k J) 100 i (nI k)) (i + 1) u y (by omega) (by omega) hu (QS.mv (hQ.fr hf.oq hK.pj) (fun q j z => by rw [eJ99, eJ91, up2_n _ _ (by unfold pI at z; omega), up2_n _ _ (by unfold pI at z; omega)]) (fun q j z => up2_n _ _ (by unfold pJ at z; omega))) (by rw [eJ99, eJ91]; exact node_1 hA (by rw [hK.pj 70 0 (by unfold pJ; omega), enx]; exact hkb)) (by rw [up2_i _ _ (by decide), hK.pj 70 0 (by unfold pJ; omega)]; exact hy)) m_X0_328 (mlt hC.1 rfl) (hC.2.1 _ _ rfl) dX0_orderOn_111 ⟨by omega, by decide⟩ ⟨by decide, by decide⟩ rfl (Nat.le_of_ble_eq_true rfl) (fun J111 hp111 => ?_)
            rw [eJ99, eJ91] at hp111
            refine x_aload_n h dX0_orderOn_114 rfl ?_
            refine x_dup h dX0_orderOn_115 rfl ?_
            refine x_geti h g_X0_275 (mlt hC.1 rfl) (hC.2.1 _ _ rfl) rfl dX0_orderOn_116 ?_
            refine x_iconst h dX0_orderOn_119 (1) rfl ?_
            refine x_isub h dX0_orderOn_120 ?_
            refine x_puti h p_X0_275 (mlt hC.1 rfl) (hC.2.1 _ _ rfl) rfl rfl rfl dX0_orderOn_121 (fun J121 eJ121 => ?_)
            refine x_iinc h dX0_orderOn_124 (by decide) rfl (nI (k + 1)) (nI_1 k) [some (.ref (xb G + 0)), some (.int (nI t)), some (.int (nI y)), some (.int (nI (k + 1))), none] rfl ?_
            refine x_goto h 63 dX0_orderOn_127 rfl ?_
            exact ih (k + 1) J121 (by omega) (by omega) (by show RO _ (m_ordF (nI y) e i (nI t) k (itI (m_ordF (nI y) e i (nI t)) k J)) i; unfold m_ordF; first | (rw [if_pos g76]; exact hA) | (rw [if_neg g76, eu]; rw [eJ121]; rw [← show nI i = J111 0 19 - 1 by rw [hp111.1.1]; exact (nI_pred i).symm]; exact node_2 hp111.1)) (by first | (rw [eJ121]; exact (hf.tr (((Fr.rf.up (Or.inr (Or.inr (Or.inl rfl)))).up (Or.inr (Or.inl ⟨rfl, Or.inl rfl⟩))).tr (hp111.2.up (Or.inr (Or.inl ⟨rfl, Or.inl rfl⟩)))))) | exact hf) (ordF_K (fun left I => ord_K e (i + 1) left I) hK)
          · skip
            have g76 : (nI t >>> (nI k &&& 31)) &&& 1 = 0 := (has_0 ht (by omega)).mp c76
            refine x_goto h 124 dX0_orderOn_79 rfl ?_
            refine x_iinc h dX0_orderOn_124 (by decide) rfl (nI (k + 1)) (nI_1 k) [some (.ref (xb G + 0)), some (.int (nI t)), some (.int (nI y)), some (.int (nI (k + 1))), none] rfl ?_
            refine x_goto h 63 dX0_orderOn_127 rfl ?_
            exact ih (k + 1) A (by omega) (by omega) (by show RO _ (m_ordF (nI y) e i (nI t) k (itI (m_ordF (nI y) e i (nI t)) k J)) i; unfold m_ordF; first | (rw [if_pos g76]; exact hA) | (rw [if_neg g76, eu]; rw [eJ121]; rw [← show nI i = J111 0 19 - 1 by rw [hp111.1.1]; exact (nI_pred i).symm]; exact node_2 hp111.1)) (by first | (rw [eJ121]; exact (hf.tr (((Fr.rf.up (Or.inr (Or.inr (Or.inl rfl)))).up (Or.inr (Or.inl ⟨rfl, Or.inl rfl⟩))).tr (hp111.2.up (Or.inr (Or.inl ⟨rfl, Or.inl rfl⟩)))))) | exact hf) (ordF_K (fun left I => ord_K e (i + 1) left I) hK)
    exact lp63 (nb + 1) 0 I (by omega) (by omega) hR Fr.rf ordK.rf
  · skip
    have hE : m_ord (nI y) (e + 1) i (nI t) J = m_ordL (nI y) i J := ord_0 c1
    have hQr := hQ.mv (I' := I) (J' := ordR i J) (fun _ _ _ => rfl) ordR_pj
    refine x_aload_n h dX0_orderOn_4 rfl ?_
    refine x_callVRr h (As := []) (k0_behindRow l G n _ _ hC _ _ (ordR i J) i hQr.1 hQr.2.1 hQr.2.2.1 hQr.2.2.2 (hR.row (by omega))) m_X0_302 (mlt hC.1 rfl) (hC.2.1 _ _ rfl) dX0_orderOn_5 ⟨by omega, by decide⟩ ⟨by decide, by decide⟩ rfl (Nat.le_of_ble_eq_true rfl) (fun J5 hp5 => ?_)
    have hv5 : J5 35 y = (m_pursB (ordR i J) (nI y)).1 := beh_p hp5 ordR_45 (by omega) (by rw [ordR_o (by decide) (by decide)]; exact hy) (by rw [ordR_o (by decide) (by decide), enx]; exact hnb)
    have hR5 : RO J5 (m_pursB (ordR i J) (nI y)).2 i := leaf_1 hR hp5.2.2.2 (nI y) (by omega)
    have hf5 : Fr oset I J5 := hp5.2.2.2.sub (fun q k z => by unfold oset; exact Or.inl z)
    refine x_getrN h (j := 35) g_X0_207 (mlt hC.1 rfl) (hC.2.1 _ _ rfl) (by decide) (hC.2.2 _ _ _ rfl) dX0_orderOn_8 ?_
    refine x_iload_n h dX0_orderOn_11 rfl ?_
    refine x_iald h (mlt hC.1 rfl) (hC.2.1 _ _ rfl) (vp_in_nI hy8 (by decide)) (y) (nI_clamp (by omega)) dX0_orderOn_12 ?_
    refine x_nmi (fun v13 ev13 => ?_)
    refine x_istore_n h dX0_orderOn_13 rfl (by decide) [some (.ref (xb G + 0)), some (.int (nI t)), some (.int (nI y)), some (.int v13), none] rfl ?_
    refine x_iload_n h dX0_orderOn_14 rfl ?_
    refine x_aload_n h dX0_orderOn_15 rfl ?_
    refine x_geti h g_X0_322 (mlt hC.1 rfl) (hC.2.1 _ _ rfl) rfl dX0_orderOn_16 ?_
    refine x_icmp_gt h 23 dX0_orderOn_19 rfl (fun c19 => ?_) (fun c19 => ?_)
    · skip
      have hv : v13 = (m_pursB (ordR i J) (nI y)).1 := ev13.trans hv5
      refine x_aload_n h dX0_orderOn_23 rfl ?_
      refine x_iload_n h dX0_orderOn_24 rfl ?_
      refine x_puti h p_X0_322 (mlt hC.1 rfl) (hC.2.1 _ _ rfl) rfl rfl rfl dX0_orderOn_25 (fun J25 eJ25 => ?_)
      refine x_iconst h dX0_orderOn_28 (0) rfl ?_
      refine x_istore h dX0_orderOn_29 (by decide) [some (.ref (xb G + 0)), some (.int (nI t)), some (.int (nI y)), some (.int v13), some (.int 0)] rfl ?_
      have lp31 : ∀ (d : Nat) (k : Nat) (A : xI_T), i - k < d → (k ≤ i) → (A = cpy2 J25 23 0 22 0 k) → X Θ 0 0 n Ty A L F 31 [some (.ref (xb G + 0)), some (.int (nI t)), some (.int (nI y)), some (.int v13), some (.int (nI k))] [] := by
        intro d
        induction d with
        | zero =>
          intro k A hlt
          exact absurd hlt (Nat.not_lt_zero _)
        | succ d ih =>
          intro k A hlt hk hA
          have h19 : A 0 19 = nI i := by rw [hA, cpy2_ap, if_neg (by omega), eJ25, up2_k _ _ (by decide)]; exact hR5.1
          refine x_iload h dX0_orderOn_31 rfl ?_
          refine x_aload_n h dX0_orderOn_33 rfl ?_
          refine x_geti h g_X0_275 (mlt hC.1 rfl) (hC.2.1 _ _ rfl) rfl dX0_orderOn_34 ?_
          refine x_icmp_ge h 60 dX0_orderOn_37 rfl (fun c37 => ?_) (fun c37 => ?_)
          · skip
            have hki : k = i := Nat.le_antisymm hk (nleN h19 (by omega) (by omega) c37)
            exact x_vret h dX0_orderOn_60 rfl ⟨rfl, rfl, rfl, rfl, rfl, by rw [hE]; show RO A (if (m_pursB (ordR i J) (nI y)).1 ≤ (m_pursB (ordR i J) (nI y)).2 70 52 then (m_pursB (ordR i J) (nI y)).2 else cpy2 (up2 (m_pursB (ordR i J) (nI y)).2 70 52 (m_pursB (ordR i J) (nI y)).1) 101 0 100 0 i) i; rw [if_neg (by rw [← hv, ← hR5.2.2.1]; exact Int32.not_le.mpr c19), hA, hki, eJ25, hv]; exact leaf_2 hR5 (by omega), by rw [hA, hki, eJ25]; exact hf5.tr ((Fr.rf.up (Or.inr (Or.inl ⟨rfl, Or.inr rfl⟩))).tr (fun q j z => by rw [cpy2_ap, if_neg (fun w => z (Or.inr (Or.inr (Or.inr w.1))))]))⟩
          · skip
            have hki : k < i := nltN h19 (by omega) (by omega) c37
            refine x_aload_n h dX0_orderOn_40 rfl ?_
            refine x_getr h (j := 23) g_X0_187 (mlt hC.1 rfl) (hC.2.1 _ _ rfl) (by decide) (hC.2.2 _ _ _ rfl) dX0_orderOn_41 ?_
            refine x_iload h dX0_orderOn_44 rfl ?_
            refine x_aload_n h dX0_orderOn_46 rfl ?_
            refine x_getr h (j := 22) g_X0_183 (mlt hC.1 rfl) (hC.2.1 _ _ rfl) (by decide) (hC.2.2 _ _ _ rfl) dX0_orderOn_47 ?_
            refine x_iload h dX0_orderOn_50 rfl ?_
            refine x_iald h (mlt hC.1 rfl) (hC.2.1 _ _ rfl) (vp_in_nI (show k < 21 by omega) (by decide)) (k) (nI_clamp (by omega)) dX0_orderOn_52 ?_
            refine x_iast h (mlt hC.1 rfl) (hC.2.1 _ _ rfl) (vp_in_nI (show k < 5 by omega) (by decide)) (k) (nI_clamp (by omega)) dX0_orderOn_53 (fun J53 eJ53 => ?_)
            refine x_iinc h dX0_orderOn_54 (by decide) rfl (nI (k + 1)) (nI_1 k) [some (.ref (xb G + 0)), some (.int (nI t)), some (.int (nI y)), some (.int v13), some (.int (nI (k + 1)))] rfl ?_
            refine x_goto h 31 dX0_orderOn_57 rfl ?_
            exact ih (k + 1) J53 (by omega) (by omega) (by rw [eJ53, hA]; have z := cpy2_up (I := J25) (a := 23) (o := 0) (b := 22) (p := 0) (c := k) (Or.inl (by decide)); rw [Nat.zero_add] at z; exact z)
      exact lp31 (i + 1) 0 J25 (by omega) (by omega) cpy2_z.symm
    · skip
      have hv : v13 = (m_pursB (ordR i J) (nI y)).1 := ev13.trans hv5
      exact x_vret h dX0_orderOn_22 rfl ⟨rfl, rfl, rfl, rfl, rfl, by rw [hE]; show RO J5 (if (m_pursB (ordR i J) (nI y)).1 ≤ (m_pursB (ordR i J) (nI y)).2 70 52 then (m_pursB (ordR i J) (nI y)).2 else _) i; rw [if_pos (by rw [← hv, ← hR5.2.2.1]; exact Int32.not_lt.mp c19)]; exact hR5, hf5⟩
theorem k0_ords : ∀ e : Nat, OrdC e
  | 0 => fun l G n Ty F hC I L J i t y h1 h2 h3 h4 h5 h6 => absurd h2 (Nat.not_lt_zero _)
  | e + 1 => fun l G n Ty F hC I L J i t y h1 h2 h3 h4 h5 h6 => k0_ordS l G n Ty F hC I L e (k0_ords e) J i t y h1 h2 h3 h4 h5 h6
