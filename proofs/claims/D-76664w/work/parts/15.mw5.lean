/-! WALKS OF THE REFERENCE: a coming -/
theorem p_X3_247 : xfp RX3 247 3 42 (tyX3 42) false := ⟨_, _, _, tyX3, rfl, by decide, in_X3, q1722, rfl, tyX3_ok, nmX3, tyX3_ok 42 (by decide), rfl⟩
theorem m_X3_254 : xcv RX3 254 3 yX3_buysFor cX3_buysFor 4 (some .int) 2 := ⟨_, _, _, rfl, lw_V q1993 q1995 qs72 q102 q1996, rfl, by decide +kernel, by decide +kernel, by decide +kernel⟩
theorem g_X3_247 : xfg RX3 247 3 42 := ⟨_, _, _, rfl, by decide, in_X3, q1722, rfl⟩
theorem m_X3_250 : xcv RX3 250 3 yX3_pays cX3_pays 5 (none) 1 := ⟨_, _, _, rfl, lw_V q1988 q1990 qs71 q102 q1991, rfl, by decide +kernel, by decide +kernel, by decide +kernel⟩
set_option maxHeartbeats 4000000 in
theorem t_goesIn (l : Launch) (G : xG_T) (n : Nat) (hn : 103 ≤ n) (I : xI_T) (L : xL_T) (c : Int32) (hc : vp_in c 8) (hM : Wmk I) (hW : Wlaw I) : CM l 4 yX3_goesIn cX3_goesIn 3 (some .boolean) G n [.ref (xb G + 70), .int c] I L (some (.int (m_goes1R I c))) (m_goes1 I c) (L) := by
  refine Cg.intro (cls := RX3) (pad := 1) (lv := [some (.ref (xb G + 70)), some (.int c), none]) rfl (by decide) (Nat.le_of_ble_eq_true rfl) rfl (fun Θ h => ?_)
  refine x_aload_n h dX3_goesIn_0 rfl ?_
  refine x_bipush h dX3_goesIn_1 (8) rfl ?_
  refine x_puti h p_X3_238 (mlt hn rfl) rfl rfl rfl rfl dX3_goesIn_3 (fun J3 eJ3 => ?_)
  refine x_aload_n h dX3_goesIn_6 rfl ?_
  refine x_iconst h dX3_goesIn_7 (0) rfl ?_
  refine x_puti h p_X3_244 (mlt hn rfl) rfl rfl rfl rfl dX3_goesIn_8 (fun J8 eJ8 => ?_)
  refine x_aload_n h dX3_goesIn_11 rfl ?_
  refine x_iconst h dX3_goesIn_12 (0) rfl ?_
  refine x_puti h p_X3_247 (mlt hn rfl) rfl rfl rfl rfl dX3_goesIn_13 (fun J13 eJ13 => ?_)
  have h13 : J13 = m_none I := by rw [eJ13, eJ8, eJ3]; simp only [m_none]
  have cut38 : ∀ (_u : Unit), (¬ m_out (m_none I) c = true) → X Θ 0 0 n TyM J13 L FM 38 [some (.ref (xb G + 70)), some (.int c), none] [] := by
    intro _u ho
    refine x_aload_n h dX3_goesIn_38 rfl ?_
    refine x_getr h (j := 72) g_X3_22 (mlt hn rfl) rfl (by decide) rfl dX3_goesIn_39 ?_
    refine x_iload_n h dX3_goesIn_42 rfl ?_
    refine x_iald h (mlt hn rfl) rfl (xin_mono hc (by decide)) _ rfl dX3_goesIn_43 ?_
    refine x_nmi (fun v44 ev44 => ?_)
    refine x_istore_n h dX3_goesIn_44 rfl (by decide) [some (.ref (xb G + 70)), some (.int c), some (.int v44)] rfl ?_
    have lp45 : ∀ (d : Nat) (e : Nat) (J : xI_T), e < d → (m_payAll c 7 (m_none I) = m_payAll c e J) → (ix (J 72 18) < e) → (Wmk J) → (Wlaw J) → X Θ 0 0 n TyM J L FM 45 [some (.ref (xb G + 70)), some (.int c), some (.int v44)] [] := by
      intro d
      induction d with
      | zero =>
        intro e J hlt
        exact absurd hlt (Nat.not_lt_zero _)
      | succ d ih =>
        intro e J hlt hJ he hMJ hWJ
        refine x_aload_n h dX3_goesIn_45 rfl ?_
        refine x_getr h (j := 72) g_X3_22 (mlt hn rfl) rfl (by decide) rfl dX3_goesIn_46 ?_
        refine x_bipush h dX3_goesIn_49 (18) rfl ?_
        refine x_iald h (mlt hn rfl) rfl (xk rfl) 18 rfl dX3_goesIn_51 ?_
        refine x_aload_n h dX3_goesIn_52 rfl ?_
        refine x_geti h g_X3_15 (mlt hn rfl) rfl rfl dX3_goesIn_53 ?_
        refine x_icmp_lt h 67 dX3_goesIn_56 rfl (fun c56 => ?_) (fun c56 => ?_)
        · skip
          have hz : m_payAll c 7 (m_none I) = J := by rw [hJ]; obtain ⟨e2, rfl⟩ : ∃ z : Nat, e = z + 1 := ⟨e - 1, by omega⟩; exact payAll_0 c56
          refine x_aload_n h dX3_goesIn_67 rfl ?_
          refine x_aload_n h dX3_goesIn_68 rfl ?_
          refine x_iload_n h dX3_goesIn_69 rfl ?_
          refine x_iload_n h dX3_goesIn_70 rfl ?_
          refine x_callVEi h (As := [.int _, .int _]) (t_buysFor l G n hn _ _ _ _ hc hWJ) m_X3_254 (mlt hn rfl) rfl dX3_goesIn_71 ⟨by decide, by decide⟩ ⟨by decide, by decide⟩ rfl (Nat.le_of_ble_eq_true rfl) ?_
          refine x_nmI (fun J71 eJ71 => ?_)
          refine x_puti h p_X3_247 (mlt hn rfl) rfl rfl rfl rfl dX3_goesIn_74 (fun J74 eJ74 => ?_)
          have h18 : J74 72 18 = J 72 18 := by rw [eJ74, up2_i _ _ (by decide), eJ71]; exact buys_o (by decide) (by decide)
          have h5 : vp_in (J74 72 18) 5 := by rw [h18]; exact third_5 hMJ c56
          refine x_aload_n h dX3_goesIn_77 rfl ?_
          refine x_getr h (j := 72) g_X3_22 (mlt hn rfl) rfl (by decide) rfl dX3_goesIn_78 ?_
          refine x_bipush h dX3_goesIn_81 (19) rfl ?_
          refine x_aload_n h dX3_goesIn_83 rfl ?_
          refine x_getr h (j := 72) g_X3_22 (mlt hn rfl) rfl (by decide) rfl dX3_goesIn_84 ?_
          refine x_bipush h dX3_goesIn_87 (18) rfl ?_
          refine x_iald h (mlt hn rfl) rfl (xk rfl) 18 rfl dX3_goesIn_89 ?_
          refine x_iadd h dX3_goesIn_90 ?_
          refine x_iload_n h dX3_goesIn_91 rfl ?_
          refine x_iast h (mlt hn rfl) rfl (xin_c 19 rfl h5 (by decide) (by decide)) _ rfl dX3_goesIn_92 (fun J92 eJ92 => ?_)
          have h92 : J92 72 18 = J74 72 18 := by rw [eJ92]; exact up2_k _ _ (Ne.symm (ne_18 h5))
          refine x_aload_n h dX3_goesIn_93 rfl ?_
          refine x_getr h (j := 72) g_X3_22 (mlt hn rfl) rfl (by decide) rfl dX3_goesIn_94 ?_
          refine x_bipush h dX3_goesIn_97 (25) rfl ?_
          refine x_aload_n h dX3_goesIn_99 rfl ?_
          refine x_getr h (j := 72) g_X3_22 (mlt hn rfl) rfl (by decide) rfl dX3_goesIn_100 ?_
          refine x_bipush h dX3_goesIn_103 (18) rfl ?_
          refine x_iald h (mlt hn rfl) rfl (xk rfl) 18 rfl dX3_goesIn_105 ?_
          refine x_iadd h dX3_goesIn_106 ?_
          refine x_aload_n h dX3_goesIn_107 rfl ?_
          refine x_geti h g_X3_247 (mlt hn rfl) rfl rfl dX3_goesIn_108 ?_
          refine x_iast h (mlt hn rfl) rfl (xin_c 25 rfl (by rw [h92]; exact h5) (by decide) (by decide)) _ rfl dX3_goesIn_111 (fun J111 eJ111 => ?_)
          refine x_aload_n h dX3_goesIn_112 rfl ?_
          refine x_getr h (j := 72) g_X3_22 (mlt hn rfl) rfl (by decide) rfl dX3_goesIn_113 ?_
          refine x_bipush h dX3_goesIn_116 (18) rfl ?_
          refine x_dup2_11 h dX3_goesIn_118 rfl rfl ?_
          refine x_iald h (mlt hn rfl) rfl (xk rfl) 18 rfl dX3_goesIn_119 ?_
          refine x_iconst h dX3_goesIn_120 (1) rfl ?_
          refine x_iadd h dX3_goesIn_121 ?_
          refine x_iast h (mlt hn rfl) rfl (xk rfl) 18 rfl dX3_goesIn_122 (fun J122 eJ122 => ?_)
          refine x_aload_n h dX3_goesIn_123 rfl ?_
          refine x_getr h (j := 72) g_X3_22 (mlt hn rfl) rfl (by decide) rfl dX3_goesIn_124 ?_
          refine x_bipush h dX3_goesIn_127 (9) rfl ?_
          refine x_dup2_11 h dX3_goesIn_129 rfl rfl ?_
          refine x_iald h (mlt hn rfl) rfl (xk rfl) 9 rfl dX3_goesIn_130 ?_
          refine x_iconst h dX3_goesIn_131 (1) rfl ?_
          refine x_iadd h dX3_goesIn_132 ?_
          refine x_iast h (mlt hn rfl) rfl (xk rfl) 9 rfl dX3_goesIn_133 (fun J133 eJ133 => ?_)
          refine x_aload_n h dX3_goesIn_134 rfl ?_
          refine x_getr h (j := 72) g_X3_22 (mlt hn rfl) rfl (by decide) rfl dX3_goesIn_135 ?_
          refine x_bipush h dX3_goesIn_138 (10) rfl ?_
          refine x_iload_n h dX3_goesIn_140 rfl ?_
          refine x_iadd h dX3_goesIn_141 ?_
          refine x_dup2_11 h dX3_goesIn_142 rfl rfl ?_
          refine x_iald h (mlt hn rfl) rfl (xin_c 10 rfl hc (by decide) (by decide)) _ rfl dX3_goesIn_143 ?_
          refine x_iconst h dX3_goesIn_144 (1) rfl ?_
          refine x_iadd h dX3_goesIn_145 ?_
          refine x_iast h (mlt hn rfl) rfl (xin_c 10 rfl hc (by decide) (by decide)) _ rfl dX3_goesIn_146 (fun J146 eJ146 => ?_)
          refine x_iconst h dX3_goesIn_147 (1) rfl ?_
          exact x_zret h dX3_goesIn_148 rfl rfl (xpE.to (by unfold m_goes1R; rw [if_neg ho]) (by rw [goes1_1 ho, hz, eJ146, eJ133, eJ122, eJ111, eJ92, eJ74, eJ71, ev44, h13]; simp only [m_book1]) rfl rfl)
        · skip
          obtain ⟨e2, rfl⟩ : ∃ z : Nat, e = z + 1 := ⟨e - 1, by omega⟩
          refine x_aload_n h dX3_goesIn_59 rfl ?_
          refine x_iload_n h dX3_goesIn_60 rfl ?_
          refine x_callVEv h (As := [.int _]) (t_pays l G n hn _ _ _ hc hMJ (third_0 hMJ c56)) m_X3_250 (mlt hn rfl) rfl dX3_goesIn_61 ⟨by decide, by decide⟩ ⟨by decide, by decide⟩ rfl (Nat.le_of_ble_eq_true rfl) ?_
          refine x_nmI (fun J61 eJ61 => ?_)
          refine x_goto h 45 dX3_goesIn_64 rfl ?_
          exact ih e2 J61 (by omega) (by rw [hJ, eJ61]; exact payAll_1 c56) (by rw [eJ61, pays_18 hMJ hc (third_0 hMJ c56)]; exact ix_pred hMJ.2.2.2.1 (third_0 hMJ c56) he) (by rw [eJ61]; exact hMJ.pays hc (third_0 hMJ c56)) (by rw [eJ61]; exact hWJ.pays)
    exact lp45 8 7 J13 (by decide) (by rw [h13]) (by rw [h13]; exact ix_7 hM.none.2.2.2.1) (by rw [h13]; exact hM.none) (by rw [h13]; exact hW.none)
  refine x_aload_n h dX3_goesIn_16 rfl ?_
  refine x_getr h (j := 71) g_X3_9 (mlt hn rfl) rfl (by decide) rfl dX3_goesIn_17 ?_
  refine x_bipush h dX3_goesIn_20 (16) rfl ?_
  refine x_iload_n h dX3_goesIn_22 rfl ?_
  refine x_iadd h dX3_goesIn_23 ?_
  refine x_iald h (mlt hn rfl) rfl (by (try simp [eJ3, eJ8, eJ13, up2_ap, cpy2_ap, fil2_ap]); exact xin_c 16 rfl hc (by decide) (by decide)) _ rfl dX3_goesIn_24 ?_
  refine x_iconst h dX3_goesIn_25 (1) rfl ?_
  refine x_icmp_ne h 38 dX3_goesIn_26 rfl (fun c26 => ?_) (fun c26 => ?_)
  · skip
    exact cut38 () (by rw [← h13]; unfold m_out; simp only [decide_eq_true_eq]; first | exact fun z => c26 z.1 | exact fun z => c33 z.2)
  · skip
    refine x_aload_n h dX3_goesIn_29 rfl ?_
    refine x_geti h g_X3_19 (mlt hn rfl) rfl rfl dX3_goesIn_30 ?_
    refine x_if_ne h 38 dX3_goesIn_33 rfl (fun c33 => ?_) (fun c33 => ?_)
    · skip
      exact cut38 () (by rw [← h13]; unfold m_out; simp only [decide_eq_true_eq]; first | exact fun z => c26 z.1 | exact fun z => c33 z.2)
    · skip
      refine x_iconst h dX3_goesIn_36 (0) rfl ?_
      exact x_zret h dX3_goesIn_37 rfl rfl (xpE.to (by unfold m_goes1R; rw [if_pos (by rw [← h13]; unfold m_out; simp only [decide_eq_true_eq]; exact ⟨c26, c33⟩)]) (by rw [goes1_0 (by rw [← h13]; unfold m_out; simp only [decide_eq_true_eq]; exact ⟨c26, c33⟩)]; exact h13) rfl rfl)
