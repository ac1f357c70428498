/-! WALKS OF THE REFERENCE: mend, undo, redo, feed, pays -/
theorem m_X3_140 : xcv RX3 140 3 yX3_isOf cX3_isOf 3 (some .boolean) 2 := ⟨_, _, _, rfl, lw_V q1870 q1872 qs50 q102 q1873, rfl, by decide +kernel, by decide +kernel, by decide +kernel⟩
theorem m_X3_144 : xcs RX3 144 yX3_isFit cX3_isFit 2 (some .boolean) 2 := ⟨lw_S q1878 q1879 q102 q1880, by decide +kernel, by decide +kernel, by decide +kernel⟩
theorem m_X3_147 : xcv RX3 147 3 yX3_get cX3_get 3 (some .int) 2 := ⟨_, _, _, rfl, lw_V q1881 q1883 qs52 q102 q1884, rfl, by decide +kernel, by decide +kernel, by decide +kernel⟩
theorem m_X3_150 : xcv RX3 150 3 yX3_becomes cX3_becomes 4 (none) 3 := ⟨_, _, _, rfl, lw_V q1885 q1887 qs53 q102 q1888, rfl, by decide +kernel, by decide +kernel, by decide +kernel⟩
theorem g_X3_67 : xfg RX3 67 3 30 := ⟨_, _, _, rfl, by decide, in_X3, q1710, rfl⟩
theorem g_X3_154 : xfg RX3 154 3 29 := ⟨_, _, _, rfl, by decide, in_X3, q1709, rfl⟩
theorem p_X3_154 : xfp RX3 154 3 29 (tyX3 29) false := ⟨_, _, _, tyX3, rfl, by decide, in_X3, q1709, rfl, tyX3_ok, nmX3, tyX3_ok 29 (by decide), rfl⟩
theorem p_X3_157 : xfp RX3 157 3 28 (tyX3 28) false := ⟨_, _, _, tyX3, rfl, by decide, in_X3, q1708, rfl, tyX3_ok, nmX3, tyX3_ok 28 (by decide), rfl⟩
theorem g_X3_157 : xfg RX3 157 3 28 := ⟨_, _, _, rfl, by decide, in_X3, q1708, rfl⟩
theorem g_X3_160 : xfg RX3 160 3 5 := ⟨_, _, _, rfl, by decide, in_X3, q1685, rfl⟩
theorem g_X3_25 : xfg RX3 25 3 6 := ⟨_, _, _, rfl, by decide, in_X3, q1686, rfl⟩
theorem p_X3_160 : xfp RX3 160 3 5 (tyX3 5) false := ⟨_, _, _, tyX3, rfl, by decide, in_X3, q1685, rfl, tyX3_ok, nmX3, tyX3_ok 5 (by decide), rfl⟩
theorem g_X3_238 : xfg RX3 238 3 40 := ⟨_, _, _, rfl, by decide, in_X3, q1720, rfl⟩
theorem g_X3_241 : xfg RX3 241 3 43 := ⟨_, _, _, rfl, by decide, in_X3, q1723, rfl⟩
theorem p_X3_241 : xfp RX3 241 3 43 (tyX3 43) false := ⟨_, _, _, tyX3, rfl, by decide, in_X3, q1723, rfl, tyX3_ok, nmX3, tyX3_ok 43 (by decide), rfl⟩
theorem g_X3_244 : xfg RX3 244 3 41 := ⟨_, _, _, rfl, by decide, in_X3, q1721, rfl⟩
theorem p_X3_244 : xfp RX3 244 3 41 (tyX3 41) false := ⟨_, _, _, tyX3, rfl, by decide, in_X3, q1721, rfl, tyX3_ok, nmX3, tyX3_ok 41 (by decide), rfl⟩
theorem g_X3_92 : xfg RX3 92 3 44 := ⟨_, _, _, rfl, by decide, in_X3, q1724, rfl⟩
theorem p_X3_238 : xfp RX3 238 3 40 (tyX3 40) false := ⟨_, _, _, tyX3, rfl, by decide, in_X3, q1720, rfl, tyX3_ok, nmX3, tyX3_ok 40 (by decide), rfl⟩
set_option maxHeartbeats 4000000 in
theorem t_mend (l : Launch) (G : xG_T) (n : Nat) (hn : 103 ≤ n) (I : xI_T) (L : xL_T) (b : Int32) (w : Int32) (v : Int32) (hb : vp_in (I 70 0) 9) (hd : vp_in (I 70 29) 41) : CM l 3 yX3_mend cX3_mend 6 (some .int) G n [.ref (xb G + 70), .int b, .int w, .int v] I L (some (.int ((m_mend I b w v).1))) ((m_mend I b w v).2) (L) := by
  refine Cg.intro (cls := RX3) (pad := 2) (lv := [some (.ref (xb G + 70)), some (.int b), some (.int w), some (.int v), none, none]) rfl (by decide) (Nat.le_of_ble_eq_true rfl) rfl (fun Θ h => ?_)
  refine x_aload_n h dX3_mend_0 rfl ?_
  refine x_iload_n h dX3_mend_1 rfl ?_
  refine x_iload_n h dX3_mend_2 rfl ?_
  refine x_callVEi h (As := [.int _, .int _]) (t_isOf l G n hn _ _ _ _ ) m_X3_140 (mlt hn rfl) rfl dX3_mend_3 ⟨by decide, by decide⟩ ⟨by decide, by decide⟩ rfl (Nat.le_of_ble_eq_true rfl) ?_
  refine x_if_eq h 17 dX3_mend_6 rfl (fun c6 => ?_) (fun c6 => ?_)
  · skip
    refine x_iconst h dX3_mend_17 (-1) rfl ?_
    exact x_iret h dX3_mend_18 rfl (xpE.to (by subst_vars; first | with_reducible rfl | (simp only [m_mend, m_note, *]; done) | (simp only [m_mend, m_note, ix, *]; rfl) | (simp [m_mend, m_note, ix, up2_ap, bec_k, bec_i, *]; done)) (by subst_vars; first | with_reducible rfl | (simp only [m_mend, m_note, *]; done) | (simp only [m_mend, m_note, ix, *]; rfl) | (simp [m_mend, m_note, ix, up2_ap, bec_k, bec_i, *]; done)) rfl rfl)
  · skip
    refine x_iload_n h dX3_mend_9 rfl ?_
    refine x_iload_n h dX3_mend_10 rfl ?_
    refine x_callSEi h (As := [.int _, .int _]) (t_isFit l G n hn _ _ _ _ ) m_X3_144 dX3_mend_11 ⟨by decide, by decide⟩ ⟨by decide, by decide⟩ rfl (Nat.le_of_ble_eq_true rfl) ?_
    refine x_if_ne h 19 dX3_mend_14 rfl (fun c14 => ?_) (fun c14 => ?_)
    · skip
      refine x_aload_n h dX3_mend_19 rfl ?_
      refine x_iload_n h dX3_mend_20 rfl ?_
      refine x_iload_n h dX3_mend_21 rfl ?_
      have hk : okw w b := isOf_ok hb c6
      refine x_callVEi h (As := [.int _, .int _]) (t_get l G n hn _ _ _ _ hk) m_X3_147 (mlt hn rfl) rfl dX3_mend_22 ⟨by decide, by decide⟩ ⟨by decide, by decide⟩ rfl (Nat.le_of_ble_eq_true rfl) ?_
      refine x_nmi (fun v25 ev25 => ?_)
      refine x_istore h dX3_mend_25 (by decide) [some (.ref (xb G + 70)), some (.int b), some (.int w), some (.int v), some (.int v25), none] rfl ?_
      refine x_iload h dX3_mend_27 rfl ?_
      refine x_iload_n h dX3_mend_29 rfl ?_
      refine x_icmp_ne h 36 dX3_mend_30 rfl (fun c30 => ?_) (fun c30 => ?_)
      · skip
        refine x_aload_n h dX3_mend_36 rfl ?_
        refine x_iload_n h dX3_mend_37 rfl ?_
        refine x_iload_n h dX3_mend_38 rfl ?_
        refine x_iload_n h dX3_mend_39 rfl ?_
        refine x_callVEv h (As := [.int _, .int _, .int _]) (t_becomes l G n hn _ _ _ _ _ hk) m_X3_150 (mlt hn rfl) rfl dX3_mend_40 ⟨by decide, by decide⟩ ⟨by decide, by decide⟩ rfl (Nat.le_of_ble_eq_true rfl) ?_
        refine x_nmI (fun J40 eJ40 => ?_)
        have cut95 : ∀ (J : xI_T), (J = m_shf J40) → (vp_in (J 70 29) 40) → X Θ 0 0 n TyM J L FM 95 [some (.ref (xb G + 70)), some (.int b), some (.int w), some (.int v), some (.int v25), none] [] := by
          intro J hJ h40
          refine x_aload_n h dX3_mend_95 rfl ?_
          refine x_getr h (j := 87) g_X3_67 (mlt hn rfl) rfl (by decide) rfl dX3_mend_96 ?_
          refine x_iconst h dX3_mend_99 (4) rfl ?_
          refine x_aload_n h dX3_mend_100 rfl ?_
          refine x_geti h g_X3_154 (mlt hn rfl) rfl rfl dX3_mend_101 ?_
          refine x_imul h dX3_mend_104 ?_
          refine x_iload_n h dX3_mend_105 rfl ?_
          refine x_iast h (mlt hn rfl) rfl (xin_40 h40) _ rfl dX3_mend_106 (fun J106 eJ106 => ?_)
          refine x_aload_n h dX3_mend_107 rfl ?_
          refine x_getr h (j := 87) g_X3_67 (mlt hn rfl) rfl (by decide) rfl dX3_mend_108 ?_
          refine x_iconst h dX3_mend_111 (4) rfl ?_
          refine x_aload_n h dX3_mend_112 rfl ?_
          refine x_geti h g_X3_154 (mlt hn rfl) rfl rfl dX3_mend_113 ?_
          refine x_imul h dX3_mend_116 ?_
          refine x_iconst h dX3_mend_117 (1) rfl ?_
          refine x_iadd h dX3_mend_118 ?_
          refine x_iload_n h dX3_mend_119 rfl ?_
          refine x_iast h (mlt hn rfl) rfl (by (try simp [eJ40, eJ106, up2_ap, cpy2_ap, fil2_ap]); exact xin_4 h40 1 1 rfl (by decide)) _ rfl dX3_mend_120 (fun J120 eJ120 => ?_)
          refine x_aload_n h dX3_mend_121 rfl ?_
          refine x_getr h (j := 87) g_X3_67 (mlt hn rfl) rfl (by decide) rfl dX3_mend_122 ?_
          refine x_iconst h dX3_mend_125 (4) rfl ?_
          refine x_aload_n h dX3_mend_126 rfl ?_
          refine x_geti h g_X3_154 (mlt hn rfl) rfl rfl dX3_mend_127 ?_
          refine x_imul h dX3_mend_130 ?_
          refine x_iconst h dX3_mend_131 (2) rfl ?_
          refine x_iadd h dX3_mend_132 ?_
          refine x_iload h dX3_mend_133 rfl ?_
          refine x_iast h (mlt hn rfl) rfl (by (try simp [eJ40, eJ106, eJ120, up2_ap, cpy2_ap, fil2_ap]); exact xin_4 h40 2 2 rfl (by decide)) _ rfl dX3_mend_135 (fun J135 eJ135 => ?_)
          refine x_aload_n h dX3_mend_136 rfl ?_
          refine x_getr h (j := 87) g_X3_67 (mlt hn rfl) rfl (by decide) rfl dX3_mend_137 ?_
          refine x_iconst h dX3_mend_140 (4) rfl ?_
          refine x_aload_n h dX3_mend_141 rfl ?_
          refine x_geti h g_X3_154 (mlt hn rfl) rfl rfl dX3_mend_142 ?_
          refine x_imul h dX3_mend_145 ?_
          refine x_iconst h dX3_mend_146 (3) rfl ?_
          refine x_iadd h dX3_mend_147 ?_
          refine x_iload_n h dX3_mend_148 rfl ?_
          refine x_iast h (mlt hn rfl) rfl (by (try simp [eJ40, eJ106, eJ120, eJ135, up2_ap, cpy2_ap, fil2_ap]); exact xin_4 h40 3 3 rfl (by decide)) _ rfl dX3_mend_149 (fun J149 eJ149 => ?_)
          refine x_aload_n h dX3_mend_150 rfl ?_
          refine x_dup h dX3_mend_151 rfl ?_
          refine x_geti h g_X3_154 (mlt hn rfl) rfl rfl dX3_mend_152 ?_
          refine x_iconst h dX3_mend_155 (1) rfl ?_
          refine x_iadd h dX3_mend_156 ?_
          refine x_puti h p_X3_154 (mlt hn rfl) rfl rfl rfl rfl dX3_mend_157 (fun J157 eJ157 => ?_)
          refine x_aload_n h dX3_mend_160 rfl ?_
          refine x_aload_n h dX3_mend_161 rfl ?_
          refine x_geti h g_X3_154 (mlt hn rfl) rfl rfl dX3_mend_162 ?_
          refine x_puti h p_X3_157 (mlt hn rfl) rfl rfl rfl rfl dX3_mend_165 (fun J165 eJ165 => ?_)
          refine x_iload h dX3_mend_168 rfl ?_
          exact x_iret h dX3_mend_170 rfl (xpE.to (by subst_vars; first | with_reducible rfl | (simp only [m_mend, m_note, *]; done) | (simp only [m_mend, m_note, ix, *]; rfl) | (simp [m_mend, m_note, ix, up2_ap, bec_k, bec_i, *]; done)) (by subst_vars; first | with_reducible rfl | (simp only [m_mend, m_note, *]; done) | (simp only [m_mend, m_note, ix, *]; rfl) | (simp [m_mend, m_note, ix, up2_ap, bec_k, bec_i, *]; done)) rfl rfl)
        refine x_aload_n h dX3_mend_43 rfl ?_
        refine x_geti h g_X3_154 (mlt hn rfl) rfl rfl dX3_mend_44 ?_
        refine x_bipush h dX3_mend_47 (40) rfl ?_
        refine x_icmp_ne h 95 dX3_mend_49 rfl (fun c49 => ?_) (fun c49 => ?_)
        · skip
          exact cut95 J40 (by unfold m_shf; first | (rw [if_pos c49]; subst_vars; rfl) | (rw [if_neg c49]; done)) (by first | exact xin_41 (by rw [eJ40, bec_k (by decide) (by decide)]; exact hd) c49 | (rw [eJ92, up2_s, hJ, cpy2_ap, if_neg (by decide), c49]; exact xk rfl))
        · skip
          refine x_iconst h dX3_mend_52 (0) rfl ?_
          refine x_istore h dX3_mend_53 (by decide) [some (.ref (xb G + 70)), some (.int b), some (.int w), some (.int v), some (.int v25), some (.int 0)] rfl ?_
          have lp55 : ∀ (d : Nat) (k : Nat) (J : xI_T), 156 - k < d → (k ≤ 156) → (J = cpy2 J40 87 0 87 4 k) → X Θ 0 0 n TyM J L FM 55 [some (.ref (xb G + 70)), some (.int b), some (.int w), some (.int v), some (.int v25), some (.int (nI k))] [] := by
            intro d
            induction d with
            | zero =>
              intro k J hlt
              exact absurd hlt (Nat.not_lt_zero _)
            | succ d ih =>
              intro k J hlt hk5 hJ
              refine x_iload h dX3_mend_55 rfl ?_
              refine x_sipush h dX3_mend_57 (156) rfl ?_
              refine x_icmp_ge h 85 dX3_mend_60 rfl (fun c60 => ?_) (fun c60 => ?_)
              · skip
                have hk6 : k = 156 := Nat.le_antisymm hk5 (nleN rfl (by decide) (by omega) c60)
                subst hk6
                refine x_aload_n h dX3_mend_85 rfl ?_
                refine x_dup h dX3_mend_86 rfl ?_
                refine x_geti h g_X3_154 (mlt hn rfl) rfl rfl dX3_mend_87 ?_
                refine x_iconst h dX3_mend_90 (1) rfl ?_
                refine x_isub h dX3_mend_91 ?_
                refine x_puti h p_X3_154 (mlt hn rfl) rfl rfl rfl rfl dX3_mend_92 (fun J92 eJ92 => ?_)
                refine x_wk (lv := [some (.ref (xb G + 70)), some (.int b), some (.int w), some (.int v), some (.int v25), none]) ?_ ⟨rfl, rfl, rfl, rfl, rfl, trivial⟩
                exact cut95 J92 (by unfold m_shf; first | (rw [if_pos c49]; subst_vars; rfl) | (rw [if_neg c49]; done)) (by first | exact xin_41 (by rw [eJ40, bec_k (by decide) (by decide)]; exact hd) c49 | (rw [eJ92, up2_s, hJ, cpy2_ap, if_neg (by decide), c49]; exact xk rfl))
              · skip
                have hk6 : k < 156 := nltN rfl (by decide) (by omega) c60
                refine x_aload_n h dX3_mend_63 rfl ?_
                refine x_getr h (j := 87) g_X3_67 (mlt hn rfl) rfl (by decide) rfl dX3_mend_64 ?_
                refine x_iload h dX3_mend_67 rfl ?_
                refine x_aload_n h dX3_mend_69 rfl ?_
                refine x_getr h (j := 87) g_X3_67 (mlt hn rfl) rfl (by decide) rfl dX3_mend_70 ?_
                refine x_iload h dX3_mend_73 rfl ?_
                refine x_iconst h dX3_mend_75 (4) rfl ?_
                refine x_iaddE h (nI (k + 4)) (nI_add k 4) dX3_mend_76 ?_
                refine x_iald h (mlt hn rfl) rfl (vp_in_nI (by omega) (by first | decide | omega)) (k + 4) (nI_clamp (by omega)) dX3_mend_77 ?_
                refine x_iast h (mlt hn rfl) rfl (vp_in_nI (by omega) (by first | decide | omega)) (k) (nI_clamp (by omega)) dX3_mend_78 (fun J78 eJ78 => ?_)
                refine x_iinc h dX3_mend_79 (by decide) rfl (nI (k + 1)) (nI_1 k) [some (.ref (xb G + 70)), some (.int b), some (.int w), some (.int v), some (.int v25), some (.int (nI (k + 1)))] rfl ?_
                refine x_goto h 55 dX3_mend_82 rfl ?_
                exact ih (k + 1) J78 (by omega) (by omega) (by rw [eJ78, hJ, Nat.add_comm k 4]; have z := cpy2_up (I := J40) (a := 87) (o := 0) (b := 87) (p := 4) (c := k) (Or.inr (by decide)); rw [Nat.zero_add] at z; exact z)
          exact lp55 157 0 J40 (by decide) (by decide) cpy2_z.symm
      · skip
        refine x_iload h dX3_mend_33 rfl ?_
        exact x_iret h dX3_mend_35 rfl (xpE.to (by subst_vars; first | with_reducible rfl | (simp only [m_mend, m_note, *]; done) | (simp only [m_mend, m_note, ix, *]; rfl) | (simp [m_mend, m_note, ix, up2_ap, bec_k, bec_i, *]; done)) (by subst_vars; first | with_reducible rfl | (simp only [m_mend, m_note, *]; done) | (simp only [m_mend, m_note, ix, *]; rfl) | (simp [m_mend, m_note, ix, up2_ap, bec_k, bec_i, *]; done)) rfl rfl)
    · skip
      refine x_iconst h dX3_mend_17 (-1) rfl ?_
      exact x_iret h dX3_mend_18 rfl (xpE.to (by subst_vars; first | with_reducible rfl | (simp only [m_mend, m_note, *]; done) | (simp only [m_mend, m_note, ix, *]; rfl) | (simp [m_mend, m_note, ix, up2_ap, bec_k, bec_i, *]; done)) (by subst_vars; first | with_reducible rfl | (simp only [m_mend, m_note, *]; done) | (simp only [m_mend, m_note, ix, *]; rfl) | (simp [m_mend, m_note, ix, up2_ap, bec_k, bec_i, *]; done)) rfl rfl)
set_option maxHeartbeats 4000000 in
theorem t_of (l : Launch) (G : xG_T) (n : Nat) (hn : 103 ≤ n) (I : xI_T) (L : xL_T) (b : Int32) (w : Int32) (hb : vp_in (I 70 0) 9) : CM l 3 yX3_of cX3_of 3 (some .int) G n [.ref (xb G + 70), .int b, .int w] I L (some (.int (m_of I b w))) (I) (L) := by
  refine Cg.intro (cls := RX3) (pad := 0) (lv := [some (.ref (xb G + 70)), some (.int b), some (.int w)]) rfl (by decide) (Nat.le_of_ble_eq_true rfl) rfl (fun Θ h => ?_)
  refine x_aload_n h dX3_of_0 rfl ?_
  refine x_iload_n h dX3_of_1 rfl ?_
  refine x_iload_n h dX3_of_2 rfl ?_
  refine x_callVEi h (As := [.int _, .int _]) (t_isOf l G n hn _ _ _ _ ) m_X3_140 (mlt hn rfl) rfl dX3_of_3 ⟨by decide, by decide⟩ ⟨by decide, by decide⟩ rfl (Nat.le_of_ble_eq_true rfl) ?_
  refine x_if_eq h 18 dX3_of_6 rfl (fun c6 => ?_) (fun c6 => ?_)
  · skip
    refine x_iconst h dX3_of_18 (-1) rfl ?_
    exact x_iret h dX3_of_19 rfl (xpE.to (by subst_vars; first | with_reducible rfl | (simp only [m_of, *]; done) | (simp only [m_of, ix, *]; rfl) | (simp [m_of, ix, up2_ap, bec_k, bec_i, *]; done)) (by subst_vars; first | with_reducible rfl | (simp only [m_of, *]; done) | (simp only [m_of, ix, *]; rfl) | (simp [m_of, ix, up2_ap, bec_k, bec_i, *]; done)) rfl rfl)
  · skip
    refine x_aload_n h dX3_of_9 rfl ?_
    refine x_iload_n h dX3_of_10 rfl ?_
    refine x_iload_n h dX3_of_11 rfl ?_
    refine x_callVEi h (As := [.int _, .int _]) (t_get l G n hn _ _ _ _ (isOf_ok hb c6)) m_X3_147 (mlt hn rfl) rfl dX3_of_12 ⟨by decide, by decide⟩ ⟨by decide, by decide⟩ rfl (Nat.le_of_ble_eq_true rfl) ?_
    refine x_goto h 19 dX3_of_15 rfl ?_
    exact x_iret h dX3_of_19 rfl (xpE.to (by subst_vars; first | with_reducible rfl | (simp only [m_of, *]; done) | (simp only [m_of, ix, *]; rfl) | (simp [m_of, ix, up2_ap, bec_k, bec_i, *]; done)) (by subst_vars; first | with_reducible rfl | (simp only [m_of, *]; done) | (simp only [m_of, ix, *]; rfl) | (simp [m_of, ix, up2_ap, bec_k, bec_i, *]; done)) rfl rfl)
set_option maxHeartbeats 4000000 in
theorem t_undo (l : Launch) (G : xG_T) (n : Nat) (hn : 103 ≤ n) (I : xI_T) (L : xL_T)  (hd : vp_in (I 70 29) 41) (hc : ∀ k : Nat, k < 40 → okw (I 87 (4 * k + 1)) (I 87 (4 * k))) : CM l 1 yX3_undo cX3_undo 1 (some .int) G n [.ref (xb G + 70)] I L (some (.int ((m_undo I).1))) ((m_undo I).2) (L) := by
  refine Cg.intro (cls := RX3) (pad := 0) (lv := [some (.ref (xb G + 70))]) rfl (by decide) (Nat.le_of_ble_eq_true rfl) rfl (fun Θ h => ?_)
  refine x_aload_n h dX3_undo_0 rfl ?_
  refine x_geti h g_X3_154 (mlt hn rfl) rfl rfl dX3_undo_1 ?_
  refine x_if_ne h 10 dX3_undo_4 rfl (fun c4 => ?_) (fun c4 => ?_)
  · skip
    have hp : vp_in (I 70 29 - 1) 40 := xin_p (N := 41) hd c4 (by decide)
    obtain ⟨q, hq, eq⟩ := vp_in_of hp (by decide)
    refine x_aload_n h dX3_undo_10 rfl ?_
    refine x_dup h dX3_undo_11 rfl ?_
    refine x_geti h g_X3_154 (mlt hn rfl) rfl rfl dX3_undo_12 ?_
    refine x_iconst h dX3_undo_15 (1) rfl ?_
    refine x_isub h dX3_undo_16 ?_
    refine x_puti h p_X3_154 (mlt hn rfl) rfl rfl rfl rfl dX3_undo_17 (fun J17 eJ17 => ?_)
    refine x_aload_n h dX3_undo_20 rfl ?_
    refine x_aload_n h dX3_undo_21 rfl ?_
    refine x_getr h (j := 87) g_X3_67 (mlt hn rfl) rfl (by decide) rfl dX3_undo_22 ?_
    refine x_iconst h dX3_undo_25 (4) rfl ?_
    refine x_aload_n h dX3_undo_26 rfl ?_
    refine x_geti h g_X3_154 (mlt hn rfl) rfl rfl dX3_undo_27 ?_
    refine x_imul h dX3_undo_30 ?_
    refine x_iald h (mlt hn rfl) rfl (by (try simp [eJ17, up2_ap, cpy2_ap, fil2_ap]); exact xin_40 hp) _ rfl dX3_undo_31 ?_
    refine x_aload_n h dX3_undo_32 rfl ?_
    refine x_getr h (j := 87) g_X3_67 (mlt hn rfl) rfl (by decide) rfl dX3_undo_33 ?_
    refine x_iconst h dX3_undo_36 (4) rfl ?_
    refine x_aload_n h dX3_undo_37 rfl ?_
    refine x_geti h g_X3_154 (mlt hn rfl) rfl rfl dX3_undo_38 ?_
    refine x_imul h dX3_undo_41 ?_
    refine x_iconst h dX3_undo_42 (1) rfl ?_
    refine x_iadd h dX3_undo_43 ?_
    refine x_iald h (mlt hn rfl) rfl (by (try simp [eJ17, up2_ap, cpy2_ap, fil2_ap]); exact xin_4 hp 1 1 rfl (by decide)) _ rfl dX3_undo_44 ?_
    refine x_aload_n h dX3_undo_45 rfl ?_
    refine x_getr h (j := 87) g_X3_67 (mlt hn rfl) rfl (by decide) rfl dX3_undo_46 ?_
    refine x_iconst h dX3_undo_49 (4) rfl ?_
    refine x_aload_n h dX3_undo_50 rfl ?_
    refine x_geti h g_X3_154 (mlt hn rfl) rfl rfl dX3_undo_51 ?_
    refine x_imul h dX3_undo_54 ?_
    refine x_iconst h dX3_undo_55 (2) rfl ?_
    refine x_iadd h dX3_undo_56 ?_
    refine x_iald h (mlt hn rfl) rfl (by (try simp [eJ17, up2_ap, cpy2_ap, fil2_ap]); exact xin_4 hp 2 2 rfl (by decide)) _ rfl dX3_undo_57 ?_
    refine x_callVEv h (As := [.int _, .int _, .int _]) (t_becomes l G n hn _ _ _ _ _ (by simp only [eJ17, up2_ap]; simp; rw [eq]; exact okc hc hq)) m_X3_150 (mlt hn rfl) rfl dX3_undo_58 ⟨by decide, by decide⟩ ⟨by decide, by decide⟩ rfl (Nat.le_of_ble_eq_true rfl) ?_
    refine x_nmI (fun J58 eJ58 => ?_)
    refine x_aload_n h dX3_undo_61 rfl ?_
    refine x_geti h g_X3_154 (mlt hn rfl) rfl rfl dX3_undo_62 ?_
    exact x_iret h dX3_undo_65 rfl (xpE.to (by subst_vars; first | with_reducible rfl | (simp only [m_undo, *]; done) | (simp only [m_undo, ix, *]; rfl) | (simp [m_undo, ix, up2_ap, bec_k, bec_i, *]; done)) (by subst_vars; first | with_reducible rfl | (simp only [m_undo, *]; done) | (simp only [m_undo, ix, *]; rfl) | (simp [m_undo, ix, up2_ap, bec_k, bec_i, *]; done)) rfl rfl)
  · skip
    refine x_bipush h dX3_undo_7 (-5) rfl ?_
    exact x_iret h dX3_undo_9 rfl (xpE.to (by subst_vars; first | with_reducible rfl | (simp only [m_undo, *]; done) | (simp only [m_undo, ix, *]; rfl) | (simp [m_undo, ix, up2_ap, bec_k, bec_i, *]; done)) (by subst_vars; first | with_reducible rfl | (simp only [m_undo, *]; done) | (simp only [m_undo, ix, *]; rfl) | (simp [m_undo, ix, up2_ap, bec_k, bec_i, *]; done)) rfl rfl)
set_option maxHeartbeats 4000000 in
theorem t_redo (l : Launch) (G : xG_T) (n : Nat) (hn : 103 ≤ n) (I : xI_T) (L : xL_T)  (hd : vp_in (I 70 29) 41) (hc : ∀ k : Nat, k < 40 → okw (I 87 (4 * k + 1)) (I 87 (4 * k))) (hh : vp_in (I 70 28) 41) (hle : I 70 29 ≤ I 70 28) : CM l 1 yX3_redo cX3_redo 1 (some .int) G n [.ref (xb G + 70)] I L (some (.int ((m_redo I).1))) ((m_redo I).2) (L) := by
  refine Cg.intro (cls := RX3) (pad := 0) (lv := [some (.ref (xb G + 70))]) rfl (by decide) (Nat.le_of_ble_eq_true rfl) rfl (fun Θ h => ?_)
  refine x_aload_n h dX3_redo_0 rfl ?_
  refine x_geti h g_X3_154 (mlt hn rfl) rfl rfl dX3_redo_1 ?_
  refine x_aload_n h dX3_redo_4 rfl ?_
  refine x_geti h g_X3_157 (mlt hn rfl) rfl rfl dX3_redo_5 ?_
  refine x_icmp_ne h 14 dX3_redo_8 rfl (fun c8 => ?_) (fun c8 => ?_)
  · skip
    have hp : vp_in (I 70 29) 40 := xin_lt hd hh hle c8
    have hok : okw (I 87 (ix (4 * I 70 29 + 1))) (I 87 (ix (4 * I 70 29))) := by obtain ⟨q, hq, eq⟩ := vp_in_of hp (by decide); rw [eq]; exact okc hc hq
    refine x_aload_n h dX3_redo_14 rfl ?_
    refine x_aload_n h dX3_redo_15 rfl ?_
    refine x_getr h (j := 87) g_X3_67 (mlt hn rfl) rfl (by decide) rfl dX3_redo_16 ?_
    refine x_iconst h dX3_redo_19 (4) rfl ?_
    refine x_aload_n h dX3_redo_20 rfl ?_
    refine x_geti h g_X3_154 (mlt hn rfl) rfl rfl dX3_redo_21 ?_
    refine x_imul h dX3_redo_24 ?_
    refine x_iald h (mlt hn rfl) rfl (xin_40 hp) _ rfl dX3_redo_25 ?_
    refine x_aload_n h dX3_redo_26 rfl ?_
    refine x_getr h (j := 87) g_X3_67 (mlt hn rfl) rfl (by decide) rfl dX3_redo_27 ?_
    refine x_iconst h dX3_redo_30 (4) rfl ?_
    refine x_aload_n h dX3_redo_31 rfl ?_
    refine x_geti h g_X3_154 (mlt hn rfl) rfl rfl dX3_redo_32 ?_
    refine x_imul h dX3_redo_35 ?_
    refine x_iconst h dX3_redo_36 (1) rfl ?_
    refine x_iadd h dX3_redo_37 ?_
    refine x_iald h (mlt hn rfl) rfl (xin_4 hp 1 1 rfl (by decide)) _ rfl dX3_redo_38 ?_
    refine x_aload_n h dX3_redo_39 rfl ?_
    refine x_getr h (j := 87) g_X3_67 (mlt hn rfl) rfl (by decide) rfl dX3_redo_40 ?_
    refine x_iconst h dX3_redo_43 (4) rfl ?_
    refine x_aload_n h dX3_redo_44 rfl ?_
    refine x_geti h g_X3_154 (mlt hn rfl) rfl rfl dX3_redo_45 ?_
    refine x_imul h dX3_redo_48 ?_
    refine x_iconst h dX3_redo_49 (3) rfl ?_
    refine x_iadd h dX3_redo_50 ?_
    refine x_iald h (mlt hn rfl) rfl (xin_4 hp 3 3 rfl (by decide)) _ rfl dX3_redo_51 ?_
    refine x_callVEv h (As := [.int _, .int _, .int _]) (t_becomes l G n hn _ _ _ _ _ hok) m_X3_150 (mlt hn rfl) rfl dX3_redo_52 ⟨by decide, by decide⟩ ⟨by decide, by decide⟩ rfl (Nat.le_of_ble_eq_true rfl) ?_
    refine x_nmI (fun J52 eJ52 => ?_)
    refine x_aload_n h dX3_redo_55 rfl ?_
    refine x_dup h dX3_redo_56 rfl ?_
    refine x_geti h g_X3_154 (mlt hn rfl) rfl rfl dX3_redo_57 ?_
    refine x_iconst h dX3_redo_60 (1) rfl ?_
    refine x_iadd h dX3_redo_61 ?_
    refine x_puti h p_X3_154 (mlt hn rfl) rfl rfl rfl rfl dX3_redo_62 (fun J62 eJ62 => ?_)
    refine x_aload_n h dX3_redo_65 rfl ?_
    refine x_geti h g_X3_157 (mlt hn rfl) rfl rfl dX3_redo_66 ?_
    refine x_aload_n h dX3_redo_69 rfl ?_
    refine x_geti h g_X3_154 (mlt hn rfl) rfl rfl dX3_redo_70 ?_
    refine x_isub h dX3_redo_73 ?_
    exact x_iret h dX3_redo_74 rfl (xpE.to (by subst_vars; first | with_reducible rfl | (simp only [m_redo, *]; done) | (simp only [m_redo, ix, *]; rfl) | (simp [m_redo, ix, up2_ap, bec_k, bec_i, *]; done)) (by subst_vars; first | with_reducible rfl | (simp only [m_redo, *]; done) | (simp only [m_redo, ix, *]; rfl) | (simp [m_redo, ix, up2_ap, bec_k, bec_i, *]; done)) rfl rfl)
  · skip
    refine x_bipush h dX3_redo_11 (-5) rfl ?_
    exact x_iret h dX3_redo_13 rfl (xpE.to (by subst_vars; first | with_reducible rfl | (simp only [m_redo, *]; done) | (simp only [m_redo, ix, *]; rfl) | (simp [m_redo, ix, up2_ap, bec_k, bec_i, *]; done)) (by subst_vars; first | with_reducible rfl | (simp only [m_redo, *]; done) | (simp only [m_redo, ix, *]; rfl) | (simp [m_redo, ix, up2_ap, bec_k, bec_i, *]; done)) rfl rfl)
set_option maxHeartbeats 4000000 in
theorem t_feed (l : Launch) (G : xG_T) (n : Nat) (hn : 103 ≤ n) (I : xI_T) (L : xL_T) (c : Int32) (ht : vp_in (I 70 5) 121) : CM l 1 yX3_feed cX3_feed 2 (some .int) G n [.ref (xb G + 70), .int c] I L (some (.int ((m_feed I c).1))) ((m_feed I c).2) (L) := by
  refine Cg.intro (cls := RX3) (pad := 0) (lv := [some (.ref (xb G + 70)), some (.int c)]) rfl (by decide) (Nat.le_of_ble_eq_true rfl) rfl (fun Θ h => ?_)
  refine x_iload_n h dX3_feed_0 rfl ?_
  refine x_iconst h dX3_feed_1 (0) rfl ?_
  refine x_sipush h dX3_feed_2 (255) rfl ?_
  refine x_callSEi h (As := [.int _, .int _, .int _]) (t_within l G n hn _ _ _ _ _ ) m_X3_119 dX3_feed_5 ⟨by decide, by decide⟩ ⟨by decide, by decide⟩ rfl (Nat.le_of_ble_eq_true rfl) ?_
  refine x_if_ne h 13 dX3_feed_8 rfl (fun c8 => ?_) (fun c8 => ?_)
  · skip
    refine x_aload_n h dX3_feed_13 rfl ?_
    refine x_geti h g_X3_160 (mlt hn rfl) rfl rfl dX3_feed_14 ?_
    refine x_bipush h dX3_feed_17 (120) rfl ?_
    refine x_icmp_ne h 25 dX3_feed_19 rfl (fun c19 => ?_) (fun c19 => ?_)
    · skip
      refine x_aload_n h dX3_feed_25 rfl ?_
      refine x_getr h (j := 73) g_X3_25 (mlt hn rfl) rfl (by decide) rfl dX3_feed_26 ?_
      refine x_aload_n h dX3_feed_29 rfl ?_
      refine x_dup h dX3_feed_30 rfl ?_
      refine x_geti h g_X3_160 (mlt hn rfl) rfl rfl dX3_feed_31 ?_
      refine x_dup_x1 h dX3_feed_34 rfl rfl ?_
      refine x_iconst h dX3_feed_35 (1) rfl ?_
      refine x_iadd h dX3_feed_36 ?_
      refine x_puti h p_X3_160 (mlt hn rfl) rfl rfl rfl rfl dX3_feed_37 (fun J37 eJ37 => ?_)
      refine x_iload_n h dX3_feed_40 rfl ?_
      refine x_iast h (mlt hn rfl) rfl (by (try simp [eJ37, up2_ap, cpy2_ap, fil2_ap]); exact xin_120 ht c19) _ rfl dX3_feed_41 (fun J41 eJ41 => ?_)
      refine x_aload_n h dX3_feed_42 rfl ?_
      refine x_geti h g_X3_160 (mlt hn rfl) rfl rfl dX3_feed_43 ?_
      exact x_iret h dX3_feed_46 rfl (xpE.to (by subst_vars; first | with_reducible rfl | (simp only [m_feed, *]; done) | (simp only [m_feed, ix, *]; rfl) | (simp [m_feed, ix, up2_ap, bec_k, bec_i, *]; done)) (by subst_vars; first | with_reducible rfl | (simp only [m_feed, *]; done) | (simp only [m_feed, ix, *]; rfl) | (simp [m_feed, ix, up2_ap, bec_k, bec_i, *]; done)) rfl rfl)
    · skip
      refine x_bipush h dX3_feed_22 (-3) rfl ?_
      exact x_iret h dX3_feed_24 rfl (xpE.to (by subst_vars; first | with_reducible rfl | (simp only [m_feed, *]; done) | (simp only [m_feed, ix, *]; rfl) | (simp [m_feed, ix, up2_ap, bec_k, bec_i, *]; done)) (by subst_vars; first | with_reducible rfl | (simp only [m_feed, *]; done) | (simp only [m_feed, ix, *]; rfl) | (simp [m_feed, ix, up2_ap, bec_k, bec_i, *]; done)) rfl rfl)
  · skip
    refine x_iconst h dX3_feed_11 (-1) rfl ?_
    exact x_iret h dX3_feed_12 rfl (xpE.to (by subst_vars; first | with_reducible rfl | (simp only [m_feed, *]; done) | (simp only [m_feed, ix, *]; rfl) | (simp [m_feed, ix, up2_ap, bec_k, bec_i, *]; done)) (by subst_vars; first | with_reducible rfl | (simp only [m_feed, *]; done) | (simp only [m_feed, ix, *]; rfl) | (simp [m_feed, ix, up2_ap, bec_k, bec_i, *]; done)) rfl rfl)
set_option maxHeartbeats 4000000 in
theorem t_both (l : Launch) (G : xG_T) (n : Nat) (hn : 103 ≤ n) (I : xI_T) (L : xL_T) (c : Int32) (x : Int32) (y : Int32)  : CM l 0 yX3_both cX3_both 3 (some .int) G n [.int c, .int x, .int y] I L (some (.int (m_both c x y))) (I) (L) := by
  refine Cg.intro (cls := RX3) (pad := 0) (lv := [some (.int c), some (.int x), some (.int y)]) rfl (by decide) (Nat.le_of_ble_eq_true rfl) rfl (fun Θ h => ?_)
  refine x_iload_n h dX3_both_0 rfl ?_
  by_cases s1_6 : c = 6
  · skip
    refine x_tabIn h 52 dX3_both_1 (by rw [s1_6]; decide) (by rw [s1_6]; decide) (by rw [s1_6]; rfl) rfl ?_
    refine x_iload_n h dX3_both_52 rfl ?_
    refine x_if_ne h 60 dX3_both_53 rfl (fun c53 => ?_) (fun c53 => ?_)
    · skip
      refine x_iconst h dX3_both_60 (1) rfl ?_
      refine x_goto h 65 dX3_both_61 rfl ?_
      exact x_iret h dX3_both_65 rfl (xpE.to (by subst_vars; first | with_reducible rfl | (simp only [m_both, *]; done) | (simp only [m_both, ix, *]; rfl) | (simp [m_both, ix, up2_ap, bec_k, bec_i, *]; done)) (by subst_vars; first | with_reducible rfl | (simp only [m_both, *]; done) | (simp only [m_both, ix, *]; rfl) | (simp [m_both, ix, up2_ap, bec_k, bec_i, *]; done)) rfl rfl)
    · skip
      refine x_iload_n h dX3_both_56 rfl ?_
      refine x_if_eq h 64 dX3_both_57 rfl (fun c57 => ?_) (fun c57 => ?_)
      · skip
        refine x_iconst h dX3_both_64 (0) rfl ?_
        exact x_iret h dX3_both_65 rfl (xpE.to (by subst_vars; first | with_reducible rfl | (simp only [m_both, *]; done) | (simp only [m_both, ix, *]; rfl) | (simp [m_both, ix, up2_ap, bec_k, bec_i, *]; done)) (by subst_vars; first | with_reducible rfl | (simp only [m_both, *]; done) | (simp only [m_both, ix, *]; rfl) | (simp [m_both, ix, up2_ap, bec_k, bec_i, *]; done)) rfl rfl)
      · skip
        refine x_iconst h dX3_both_60 (1) rfl ?_
        refine x_goto h 65 dX3_both_61 rfl ?_
        exact x_iret h dX3_both_65 rfl (xpE.to (by subst_vars; first | with_reducible rfl | (simp only [m_both, *]; done) | (simp only [m_both, ix, *]; rfl) | (simp [m_both, ix, up2_ap, bec_k, bec_i, *]; done)) (by subst_vars; first | with_reducible rfl | (simp only [m_both, *]; done) | (simp only [m_both, ix, *]; rfl) | (simp [m_both, ix, up2_ap, bec_k, bec_i, *]; done)) rfl rfl)
  by_cases s1_7 : c = 7
  · skip
    refine x_tabIn h 66 dX3_both_1 (by rw [s1_7]; decide) (by rw [s1_7]; decide) (by rw [s1_7]; rfl) rfl ?_
    refine x_iload_n h dX3_both_66 rfl ?_
    refine x_if_eq h 78 dX3_both_67 rfl (fun c67 => ?_) (fun c67 => ?_)
    · skip
      refine x_iconst h dX3_both_78 (0) rfl ?_
      exact x_iret h dX3_both_79 rfl (xpE.to (by subst_vars; first | with_reducible rfl | (simp only [m_both, *]; done) | (simp only [m_both, ix, *]; rfl) | (simp [m_both, ix, up2_ap, bec_k, bec_i, *]; done)) (by subst_vars; first | with_reducible rfl | (simp only [m_both, *]; done) | (simp only [m_both, ix, *]; rfl) | (simp [m_both, ix, up2_ap, bec_k, bec_i, *]; done)) rfl rfl)
    · skip
      refine x_iload_n h dX3_both_70 rfl ?_
      refine x_if_eq h 78 dX3_both_71 rfl (fun c71 => ?_) (fun c71 => ?_)
      · skip
        refine x_iconst h dX3_both_78 (0) rfl ?_
        exact x_iret h dX3_both_79 rfl (xpE.to (by subst_vars; first | with_reducible rfl | (simp only [m_both, *]; done) | (simp only [m_both, ix, *]; rfl) | (simp [m_both, ix, up2_ap, bec_k, bec_i, *]; done)) (by subst_vars; first | with_reducible rfl | (simp only [m_both, *]; done) | (simp only [m_both, ix, *]; rfl) | (simp [m_both, ix, up2_ap, bec_k, bec_i, *]; done)) rfl rfl)
      · skip
        refine x_iconst h dX3_both_74 (1) rfl ?_
        refine x_goto h 79 dX3_both_75 rfl ?_
        exact x_iret h dX3_both_79 rfl (xpE.to (by subst_vars; first | with_reducible rfl | (simp only [m_both, *]; done) | (simp only [m_both, ix, *]; rfl) | (simp [m_both, ix, up2_ap, bec_k, bec_i, *]; done)) (by subst_vars; first | with_reducible rfl | (simp only [m_both, *]; done) | (simp only [m_both, ix, *]; rfl) | (simp [m_both, ix, up2_ap, bec_k, bec_i, *]; done)) rfl rfl)
  by_cases s1_8 : c = 8
  · skip
    refine x_tabIn h 80 dX3_both_1 (by rw [s1_8]; decide) (by rw [s1_8]; decide) (by rw [s1_8]; rfl) rfl ?_
    refine x_iload_n h dX3_both_80 rfl ?_
    refine x_iload_n h dX3_both_81 rfl ?_
    refine x_icmp_ge h 89 dX3_both_82 rfl (fun c82 => ?_) (fun c82 => ?_)
    · skip
      refine x_iconst h dX3_both_89 (0) rfl ?_
      exact x_iret h dX3_both_90 rfl (xpE.to (by subst_vars; first | with_reducible rfl | (simp only [m_both, *]; done) | (simp only [m_both, ix, *]; rfl) | (simp [m_both, ix, up2_ap, bec_k, bec_i, *]; done)) (by subst_vars; first | with_reducible rfl | (simp only [m_both, *]; done) | (simp only [m_both, ix, *]; rfl) | (simp [m_both, ix, up2_ap, bec_k, bec_i, *]; done)) rfl rfl)
    · skip
      refine x_iconst h dX3_both_85 (1) rfl ?_
      refine x_goto h 90 dX3_both_86 rfl ?_
      exact x_iret h dX3_both_90 rfl (xpE.to (by subst_vars; first | with_reducible rfl | (simp only [m_both, *]; done) | (simp only [m_both, ix, *]; rfl) | (simp [m_both, ix, up2_ap, bec_k, bec_i, *]; done)) (by subst_vars; first | with_reducible rfl | (simp only [m_both, *]; done) | (simp only [m_both, ix, *]; rfl) | (simp [m_both, ix, up2_ap, bec_k, bec_i, *]; done)) rfl rfl)
  by_cases s1_9 : c = 9
  · skip
    refine x_tabIn h 91 dX3_both_1 (by rw [s1_9]; decide) (by rw [s1_9]; decide) (by rw [s1_9]; rfl) rfl ?_
    refine x_iload_n h dX3_both_91 rfl ?_
    refine x_iload_n h dX3_both_92 rfl ?_
    refine x_icmp_ne h 100 dX3_both_93 rfl (fun c93 => ?_) (fun c93 => ?_)
    · skip
      refine x_iconst h dX3_both_100 (0) rfl ?_
      exact x_iret h dX3_both_101 rfl (xpE.to (by subst_vars; first | with_reducible rfl | (simp only [m_both, *]; done) | (simp only [m_both, ix, *]; rfl) | (simp [m_both, ix, up2_ap, bec_k, bec_i, *]; done)) (by subst_vars; first | with_reducible rfl | (simp only [m_both, *]; done) | (simp only [m_both, ix, *]; rfl) | (simp [m_both, ix, up2_ap, bec_k, bec_i, *]; done)) rfl rfl)
    · skip
      refine x_iconst h dX3_both_96 (1) rfl ?_
      refine x_goto h 101 dX3_both_97 rfl ?_
      exact x_iret h dX3_both_101 rfl (xpE.to (by subst_vars; first | with_reducible rfl | (simp only [m_both, *]; done) | (simp only [m_both, ix, *]; rfl) | (simp [m_both, ix, up2_ap, bec_k, bec_i, *]; done)) (by subst_vars; first | with_reducible rfl | (simp only [m_both, *]; done) | (simp only [m_both, ix, *]; rfl) | (simp [m_both, ix, up2_ap, bec_k, bec_i, *]; done)) rfl rfl)
  by_cases s1_10 : c = 10
  · skip
    refine x_tabIn h 102 dX3_both_1 (by rw [s1_10]; decide) (by rw [s1_10]; decide) (by rw [s1_10]; rfl) rfl ?_
    refine x_iload_n h dX3_both_102 rfl ?_
    refine x_iload_n h dX3_both_103 rfl ?_
    refine x_icmp_le h 111 dX3_both_104 rfl (fun c104 => ?_) (fun c104 => ?_)
    · skip
      refine x_iconst h dX3_both_111 (0) rfl ?_
      exact x_iret h dX3_both_112 rfl (xpE.to (by subst_vars; first | with_reducible rfl | (simp only [m_both, *]; done) | (simp only [m_both, ix, *]; rfl) | (simp [m_both, ix, up2_ap, bec_k, bec_i, *]; done)) (by subst_vars; first | with_reducible rfl | (simp only [m_both, *]; done) | (simp only [m_both, ix, *]; rfl) | (simp [m_both, ix, up2_ap, bec_k, bec_i, *]; done)) rfl rfl)
    · skip
      refine x_iconst h dX3_both_107 (1) rfl ?_
      refine x_goto h 112 dX3_both_108 rfl ?_
      exact x_iret h dX3_both_112 rfl (xpE.to (by subst_vars; first | with_reducible rfl | (simp only [m_both, *]; done) | (simp only [m_both, ix, *]; rfl) | (simp [m_both, ix, up2_ap, bec_k, bec_i, *]; done)) (by subst_vars; first | with_reducible rfl | (simp only [m_both, *]; done) | (simp only [m_both, ix, *]; rfl) | (simp [m_both, ix, up2_ap, bec_k, bec_i, *]; done)) rfl rfl)
  by_cases s1_11 : c = 11
  · skip
    refine x_tabIn h 113 dX3_both_1 (by rw [s1_11]; decide) (by rw [s1_11]; decide) (by rw [s1_11]; rfl) rfl ?_
    refine x_iload_n h dX3_both_113 rfl ?_
    refine x_iload_n h dX3_both_114 rfl ?_
    refine x_iadd h dX3_both_115 ?_
    exact x_iret h dX3_both_116 rfl (xpE.to (by subst_vars; first | with_reducible rfl | (simp only [m_both, *]; done) | (simp only [m_both, ix, *]; rfl) | (simp [m_both, ix, up2_ap, bec_k, bec_i, *]; done)) (by subst_vars; first | with_reducible rfl | (simp only [m_both, *]; done) | (simp only [m_both, ix, *]; rfl) | (simp [m_both, ix, up2_ap, bec_k, bec_i, *]; done)) rfl rfl)
  by_cases s1_12 : c = 12
  · skip
    refine x_tabIn h 117 dX3_both_1 (by rw [s1_12]; decide) (by rw [s1_12]; decide) (by rw [s1_12]; rfl) rfl ?_
    refine x_iload_n h dX3_both_117 rfl ?_
    refine x_iload_n h dX3_both_118 rfl ?_
    refine x_isub h dX3_both_119 ?_
    exact x_iret h dX3_both_120 rfl (xpE.to (by subst_vars; first | with_reducible rfl | (simp only [m_both, *]; done) | (simp only [m_both, ix, *]; rfl) | (simp [m_both, ix, up2_ap, bec_k, bec_i, *]; done)) (by subst_vars; first | with_reducible rfl | (simp only [m_both, *]; done) | (simp only [m_both, ix, *]; rfl) | (simp [m_both, ix, up2_ap, bec_k, bec_i, *]; done)) rfl rfl)
  by_cases s1_13 : c = 13
  · skip
    refine x_tabIn h 121 dX3_both_1 (by rw [s1_13]; decide) (by rw [s1_13]; decide) (by rw [s1_13]; rfl) rfl ?_
    refine x_iload_n h dX3_both_121 rfl ?_
    refine x_iload_n h dX3_both_122 rfl ?_
    refine x_imul h dX3_both_123 ?_
    exact x_iret h dX3_both_124 rfl (xpE.to (by subst_vars; first | with_reducible rfl | (simp only [m_both, *]; done) | (simp only [m_both, ix, *]; rfl) | (simp [m_both, ix, up2_ap, bec_k, bec_i, *]; done)) (by subst_vars; first | with_reducible rfl | (simp only [m_both, *]; done) | (simp only [m_both, ix, *]; rfl) | (simp [m_both, ix, up2_ap, bec_k, bec_i, *]; done)) rfl rfl)
  by_cases s1_14 : c = 14
  · skip
    refine x_tabIn h 125 dX3_both_1 (by rw [s1_14]; decide) (by rw [s1_14]; decide) (by rw [s1_14]; rfl) rfl ?_
    refine x_iload_n h dX3_both_125 rfl ?_
    refine x_if_ne h 133 dX3_both_126 rfl (fun c126 => ?_) (fun c126 => ?_)
    · skip
      refine x_iload_n h dX3_both_133 rfl ?_
      refine x_iload_n h dX3_both_134 rfl ?_
      refine x_idiv h dX3_both_135 c126 ?_
      exact x_iret h dX3_both_136 rfl (xpE.to (by subst_vars; first | with_reducible rfl | (simp only [m_both, *]; done) | (simp only [m_both, ix, *]; rfl) | (simp [m_both, ix, up2_ap, bec_k, bec_i, *]; done)) (by subst_vars; first | with_reducible rfl | (simp only [m_both, *]; done) | (simp only [m_both, ix, *]; rfl) | (simp [m_both, ix, up2_ap, bec_k, bec_i, *]; done)) rfl rfl)
    · skip
      refine x_iconst h dX3_both_129 (0) rfl ?_
      refine x_goto h 136 dX3_both_130 rfl ?_
      exact x_iret h dX3_both_136 rfl (xpE.to (by subst_vars; first | with_reducible rfl | (simp only [m_both, *]; done) | (simp only [m_both, ix, *]; rfl) | (simp [m_both, ix, up2_ap, bec_k, bec_i, *]; done)) (by subst_vars; first | with_reducible rfl | (simp only [m_both, *]; done) | (simp only [m_both, ix, *]; rfl) | (simp [m_both, ix, up2_ap, bec_k, bec_i, *]; done)) rfl rfl)
  refine x_tabD h 137 dX3_both_1 rfl (fun j hj => match j, hj with | 0, _ => Or.inr (xsw_ne s1_6 rfl) | 1, _ => Or.inr (xsw_ne s1_7 rfl) | 2, _ => Or.inr (xsw_ne s1_8 rfl) | 3, _ => Or.inr (xsw_ne s1_9 rfl) | 4, _ => Or.inr (xsw_ne s1_10 rfl) | 5, _ => Or.inr (xsw_ne s1_11 rfl) | 6, _ => Or.inr (xsw_ne s1_12 rfl) | 7, _ => Or.inr (xsw_ne s1_13 rfl) | 8, _ => Or.inr (xsw_ne s1_14 rfl) | j + 9, hj => absurd hj (by simp)) rfl ?_
  refine x_iload_n h dX3_both_137 rfl ?_
  refine x_if_ne h 145 dX3_both_138 rfl (fun c138 => ?_) (fun c138 => ?_)
  · skip
    refine x_iload_n h dX3_both_145 rfl ?_
    refine x_iload_n h dX3_both_146 rfl ?_
    refine x_irem h dX3_both_147 c138 ?_
    exact x_iret h dX3_both_148 rfl (xpE.to (by subst_vars; first | with_reducible rfl | (simp only [m_both, *]; done) | (simp only [m_both, ix, *]; rfl) | (simp [m_both, ix, up2_ap, bec_k, bec_i, *]; done)) (by subst_vars; first | with_reducible rfl | (simp only [m_both, *]; done) | (simp only [m_both, ix, *]; rfl) | (simp [m_both, ix, up2_ap, bec_k, bec_i, *]; done)) rfl rfl)
  · skip
    refine x_iconst h dX3_both_141 (0) rfl ?_
    refine x_goto h 148 dX3_both_142 rfl ?_
    exact x_iret h dX3_both_148 rfl (xpE.to (by subst_vars; first | with_reducible rfl | (simp only [m_both, *]; done) | (simp only [m_both, ix, *]; rfl) | (simp [m_both, ix, up2_ap, bec_k, bec_i, *]; done)) (by subst_vars; first | with_reducible rfl | (simp only [m_both, *]; done) | (simp only [m_both, ix, *]; rfl) | (simp [m_both, ix, up2_ap, bec_k, bec_i, *]; done)) rfl rfl)
set_option maxHeartbeats 4000000 in
theorem t_book (l : Launch) (G : xG_T) (n : Nat) (hn : 103 ≤ n) (I : xI_T) (L : xL_T) (k : Int32) (w : Int32) (ho : vp_in (I 72 18) 6) : CM l 1 yX3_book cX3_book 3 (some .int) G n [.ref (xb G + 70), .int k, .int w] I L (some (.int (m_book I k w))) (I) (L) := by
  refine Cg.intro (cls := RX3) (pad := 0) (lv := [some (.ref (xb G + 70)), some (.int k), some (.int w)]) rfl (by decide) (Nat.le_of_ble_eq_true rfl) rfl (fun Θ h => ?_)
  refine x_iload_n h dX3_book_0 rfl ?_
  refine x_if_lt h 13 dX3_book_1 rfl (fun c1 => ?_) (fun c1 => ?_)
  · skip
    refine x_iconst h dX3_book_13 (-1) rfl ?_
    exact x_iret h dX3_book_14 rfl (xpE.to (by subst_vars; first | with_reducible rfl | (simp only [m_book, *]; done) | (simp only [m_book, ix, *]; rfl) | (simp [m_book, ix, up2_ap, bec_k, bec_i, *]; done)) (by subst_vars; first | with_reducible rfl | (simp only [m_book, *]; done) | (simp only [m_book, ix, *]; rfl) | (simp [m_book, ix, up2_ap, bec_k, bec_i, *]; done)) rfl rfl)
  · skip
    refine x_iload_n h dX3_book_4 rfl ?_
    refine x_iconst h dX3_book_5 (0) rfl ?_
    refine x_iconst h dX3_book_6 (1) rfl ?_
    refine x_callSEi h (As := [.int _, .int _, .int _]) (t_within l G n hn _ _ _ _ _ ) m_X3_119 dX3_book_7 ⟨by decide, by decide⟩ ⟨by decide, by decide⟩ rfl (Nat.le_of_ble_eq_true rfl) ?_
    refine x_if_ne h 15 dX3_book_10 rfl (fun c10 => ?_) (fun c10 => ?_)
    · skip
      refine x_iload_n h dX3_book_15 rfl ?_
      refine x_aload_n h dX3_book_16 rfl ?_
      refine x_getr h (j := 72) g_X3_22 (mlt hn rfl) rfl (by decide) rfl dX3_book_17 ?_
      refine x_bipush h dX3_book_20 (18) rfl ?_
      refine x_iald h (mlt hn rfl) rfl (xk rfl) 18 rfl dX3_book_22 ?_
      refine x_icmp_lt h 31 dX3_book_23 rfl (fun c23 => ?_) (fun c23 => ?_)
      · skip
        refine x_aload_n h dX3_book_31 rfl ?_
        refine x_getr h (j := 72) g_X3_22 (mlt hn rfl) rfl (by decide) rfl dX3_book_32 ?_
        refine x_bipush h dX3_book_35 (19) rfl ?_
        refine x_bipush h dX3_book_37 (6) rfl ?_
        refine x_iload_n h dX3_book_39 rfl ?_
        refine x_imul h dX3_book_40 ?_
        refine x_iadd h dX3_book_41 ?_
        refine x_iload_n h dX3_book_42 rfl ?_
        refine x_iadd h dX3_book_43 ?_
        refine x_iald h (mlt hn rfl) rfl (book_ix ho c1 c10 c23) _ rfl dX3_book_44 ?_
        exact x_iret h dX3_book_45 rfl (xpE.to (by subst_vars; first | with_reducible rfl | (simp only [m_book, *]; done) | (simp only [m_book, ix, *]; rfl) | (simp [m_book, ix, up2_ap, bec_k, bec_i, *]; done)) (by subst_vars; first | with_reducible rfl | (simp only [m_book, *]; done) | (simp only [m_book, ix, *]; rfl) | (simp [m_book, ix, up2_ap, bec_k, bec_i, *]; done)) rfl rfl)
      · skip
        refine x_bipush h dX3_book_26 (-2) rfl ?_
        refine x_goto h 45 dX3_book_28 rfl ?_
        exact x_iret h dX3_book_45 rfl (xpE.to (by subst_vars; first | with_reducible rfl | (simp only [m_book, *]; done) | (simp only [m_book, ix, *]; rfl) | (simp [m_book, ix, up2_ap, bec_k, bec_i, *]; done)) (by subst_vars; first | with_reducible rfl | (simp only [m_book, *]; done) | (simp only [m_book, ix, *]; rfl) | (simp [m_book, ix, up2_ap, bec_k, bec_i, *]; done)) rfl rfl)
    · skip
      refine x_iconst h dX3_book_13 (-1) rfl ?_
      exact x_iret h dX3_book_14 rfl (xpE.to (by subst_vars; first | with_reducible rfl | (simp only [m_book, *]; done) | (simp only [m_book, ix, *]; rfl) | (simp [m_book, ix, up2_ap, bec_k, bec_i, *]; done)) (by subst_vars; first | with_reducible rfl | (simp only [m_book, *]; done) | (simp only [m_book, ix, *]; rfl) | (simp [m_book, ix, up2_ap, bec_k, bec_i, *]; done)) rfl rfl)
set_option maxHeartbeats 4000000 in
theorem t_bitCount (l : Launch) (G : xG_T) (own : Nat → Prop) (n : Nat) (Ty : Nat → xs_T) (I : xI_T) (L : xL_T) (F : xF_T) (x : Int32) : Cg l 0 0 0 yJ13_bitCount cJ13_bitCount 1 (some .int) G own [.int x] n Ty I L F (xpE (some (.int (bitc x))) n Ty I L F) := by
  refine Cg.intro (cls := RJ13) (pad := 0) (lv := [some (.int x)]) rfl (by decide) (Nat.le_of_ble_eq_true rfl) rfl (fun Θ h => ?_)
  refine x_iload_n h dJ13_bitCount_0 rfl ?_
  refine x_iload_n h dJ13_bitCount_1 rfl ?_
  refine x_iconst h dJ13_bitCount_2 (1) rfl ?_
  refine x_iushr h dJ13_bitCount_3 ?_
  refine x_ldcw h dJ13_bitCount_4 q988 ?_
  refine x_iand h dJ13_bitCount_7 ?_
  refine x_isub h dJ13_bitCount_8 ?_
  refine x_nmi (fun v9 ev9 => ?_)
  refine x_istore_n h dJ13_bitCount_9 rfl (by decide) [some (.int v9)] rfl ?_
  refine x_iload_n h dJ13_bitCount_10 rfl ?_
  refine x_ldcw h dJ13_bitCount_11 q989 ?_
  refine x_iand h dJ13_bitCount_14 ?_
  refine x_iload_n h dJ13_bitCount_15 rfl ?_
  refine x_iconst h dJ13_bitCount_16 (2) rfl ?_
  refine x_iushr h dJ13_bitCount_17 ?_
  refine x_ldcw h dJ13_bitCount_18 q989 ?_
  refine x_iand h dJ13_bitCount_21 ?_
  refine x_iadd h dJ13_bitCount_22 ?_
  refine x_nmi (fun v23 ev23 => ?_)
  refine x_istore_n h dJ13_bitCount_23 rfl (by decide) [some (.int v23)] rfl ?_
  refine x_iload_n h dJ13_bitCount_24 rfl ?_
  refine x_iload_n h dJ13_bitCount_25 rfl ?_
  refine x_iconst h dJ13_bitCount_26 (4) rfl ?_
  refine x_iushr h dJ13_bitCount_27 ?_
  refine x_iadd h dJ13_bitCount_28 ?_
  refine x_ldcw h dJ13_bitCount_29 q990 ?_
  refine x_iand h dJ13_bitCount_32 ?_
  refine x_nmi (fun v33 ev33 => ?_)
  refine x_istore_n h dJ13_bitCount_33 rfl (by decide) [some (.int v33)] rfl ?_
  refine x_iload_n h dJ13_bitCount_34 rfl ?_
  refine x_iload_n h dJ13_bitCount_35 rfl ?_
  refine x_bipush h dJ13_bitCount_36 (8) rfl ?_
  refine x_iushr h dJ13_bitCount_38 ?_
  refine x_iadd h dJ13_bitCount_39 ?_
  refine x_nmi (fun v40 ev40 => ?_)
  refine x_istore_n h dJ13_bitCount_40 rfl (by decide) [some (.int v40)] rfl ?_
  refine x_iload_n h dJ13_bitCount_41 rfl ?_
  refine x_iload_n h dJ13_bitCount_42 rfl ?_
  refine x_bipush h dJ13_bitCount_43 (16) rfl ?_
  refine x_iushr h dJ13_bitCount_45 ?_
  refine x_iadd h dJ13_bitCount_46 ?_
  refine x_nmi (fun v47 ev47 => ?_)
  refine x_istore_n h dJ13_bitCount_47 rfl (by decide) [some (.int v47)] rfl ?_
  refine x_iload_n h dJ13_bitCount_48 rfl ?_
  refine x_bipush h dJ13_bitCount_49 (63) rfl ?_
  refine x_iand h dJ13_bitCount_51 ?_
  exact x_iret h dJ13_bitCount_52 rfl (xpE.to (by subst_vars; first | with_reducible rfl | (simp only [bitc, *]; done) | (simp only [bitc, ix, *]; rfl) | (simp [bitc, ix, up2_ap, bec_k, bec_i, *]; done)) (by subst_vars; first | with_reducible rfl | (simp only [bitc, *]; done) | (simp only [bitc, ix, *]; rfl) | (simp [bitc, ix, up2_ap, bec_k, bec_i, *]; done)) rfl rfl)
set_option maxHeartbeats 4000000 in
theorem t_pays (l : Launch) (G : xG_T) (n : Nat) (hn : 103 ≤ n) (I : xI_T) (L : xL_T) (c : Int32) (hc : vp_in c 8) (hM : Wmk I) (hop : ¬ I 72 18 = 0) : CM l 1 yX3_pays cX3_pays 5 (none) G n [.ref (xb G + 70), .int c] I L (none) (m_pays I c) (L) := by
  refine Cg.intro (cls := RX3) (pad := 3) (lv := [some (.ref (xb G + 70)), some (.int c), none, none, none]) rfl (by decide) (Nat.le_of_ble_eq_true rfl) rfl (fun Θ h => ?_)
  have ho := hM.2.2.2.1
  have hw : vp_in (I 72 19) 8 := hM.2.2.2.2 19 (by decide) (by decide)
  obtain ⟨z, hz, ez⟩ := vp_in_of (xin_p (N := 6) ho hop (by decide)) (by decide)
  refine x_aload_n h dX3_pays_0 rfl ?_
  refine x_getr h (j := 72) g_X3_22 (mlt hn rfl) rfl (by decide) rfl dX3_pays_1 ?_
  refine x_bipush h dX3_pays_4 (19) rfl ?_
  refine x_iald h (mlt hn rfl) rfl (xk rfl) 19 rfl dX3_pays_6 ?_
  refine x_nmi (fun v7 ev7 => ?_)
  refine x_istore_n h dX3_pays_7 rfl (by decide) [some (.ref (xb G + 70)), some (.int c), some (.int v7), none, none] rfl ?_
  refine x_aload_n h dX3_pays_8 rfl ?_
  refine x_getr h (j := 72) g_X3_22 (mlt hn rfl) rfl (by decide) rfl dX3_pays_9 ?_
  refine x_bipush h dX3_pays_12 (25) rfl ?_
  refine x_iald h (mlt hn rfl) rfl (xk rfl) 25 rfl dX3_pays_14 ?_
  refine x_nmi (fun v15 ev15 => ?_)
  refine x_istore_n h dX3_pays_15 rfl (by decide) [some (.ref (xb G + 70)), some (.int c), some (.int v7), some (.int v15), none] rfl ?_
  refine x_aload_n h dX3_pays_16 rfl ?_
  refine x_getr h (j := 72) g_X3_22 (mlt hn rfl) rfl (by decide) rfl dX3_pays_17 ?_
  refine x_bipush h dX3_pays_20 (18) rfl ?_
  refine x_dup2_11 h dX3_pays_22 rfl rfl ?_
  refine x_iald h (mlt hn rfl) rfl (xk rfl) 18 rfl dX3_pays_23 ?_
  refine x_iconst h dX3_pays_24 (1) rfl ?_
  refine x_isub h dX3_pays_25 ?_
  refine x_iast h (mlt hn rfl) rfl (xk rfl) 18 rfl dX3_pays_26 (fun J26 eJ26 => ?_)
  refine x_iconst h dX3_pays_27 (0) rfl ?_
  refine x_istore h dX3_pays_28 (by decide) [some (.ref (xb G + 70)), some (.int c), some (.int v7), some (.int v15), some (.int 0)] rfl ?_
  have lp30 : ∀ (d : Nat) (k : Nat) (J : xI_T), z - k < d → (k ≤ z) → (J = m_shift J26 k) → X Θ 0 0 n TyM J L FM 30 [some (.ref (xb G + 70)), some (.int c), some (.int v7), some (.int v15), some (.int (nI k))] [] := by
    intro d
    induction d with
    | zero =>
      intro k J hlt
      exact absurd hlt (Nat.not_lt_zero _)
    | succ d ih =>
      intro k J hlt hkz hJ
      have hz18 : J 72 18 = nI z := by rw [hJ, mshift_o (Or.inr (Or.inl (by decide))) (by omega), eJ26, up2_s]; exact ez
      refine x_iload h dX3_pays_30 rfl ?_
      refine x_aload_n h dX3_pays_32 rfl ?_
      refine x_getr h (j := 72) g_X3_22 (mlt hn rfl) rfl (by decide) rfl dX3_pays_33 ?_
      refine x_bipush h dX3_pays_36 (18) rfl ?_
      refine x_iald h (mlt hn rfl) rfl (xk rfl) 18 rfl dX3_pays_38 ?_
      refine x_icmp_ge h 88 dX3_pays_39 rfl (fun c39 => ?_) (fun c39 => ?_)
      · skip
        have hkz : k = z := Nat.le_antisymm hkz (nleN hz18 (by omega) (by omega) c39)
        subst hkz
        have ek : (I 72 18 - 1).toNatClampNeg = k := by rw [ez]; exact ix_n (by omega)
        clear ez ih hz18 c39 hlt
        refine x_aload_n h dX3_pays_88 rfl ?_
        refine x_geti h g_X3_238 (mlt hn rfl) rfl rfl dX3_pays_89 ?_
        refine x_bipush h dX3_pays_92 (8) rfl ?_
        refine x_icmp_ne h 102 dX3_pays_94 rfl (fun c94 => ?_) (fun c94 => ?_)
        · skip
          refine x_iload_n h dX3_pays_102 rfl ?_
          refine x_iload_n h dX3_pays_103 rfl ?_
          refine x_icmp_ne h 108 dX3_pays_104 rfl (fun c104 => ?_) (fun c104 => ?_)
          · skip
            refine x_iload_n h dX3_pays_108 rfl ?_
            refine x_aload_n h dX3_pays_109 rfl ?_
            refine x_getr h (j := 72) g_X3_22 (mlt hn rfl) rfl (by decide) rfl dX3_pays_110 ?_
            refine x_iload_n h dX3_pays_113 rfl ?_
            refine x_iald h (mlt hn rfl) rfl (by rw [ev7]; exact xin_mono hw (by decide)) _ rfl dX3_pays_114 ?_
            refine x_mmin h q1992 (by decide) ⟨by decide, by decide⟩ (Nat.le_of_ble_eq_true rfl) dX3_pays_115 ?_
            refine x_nmi (fun v118 ev118 => ?_)
            refine x_istore h dX3_pays_118 (by decide) [some (.ref (xb G + 70)), some (.int c), some (.int v7), some (.int v15), some (.int v118)] rfl ?_
            refine x_aload_n h dX3_pays_120 rfl ?_
            refine x_dup h dX3_pays_121 rfl ?_
            refine x_geti h g_X3_241 (mlt hn rfl) rfl rfl dX3_pays_122 ?_
            refine x_iload_n h dX3_pays_125 rfl ?_
            refine x_iload h dX3_pays_126 rfl ?_
            refine x_isub h dX3_pays_128 ?_
            refine x_iadd h dX3_pays_129 ?_
            refine x_puti h p_X3_241 (mlt hn rfl) rfl rfl rfl rfl dX3_pays_130 (fun J130 eJ130 => ?_)
            refine x_aload_n h dX3_pays_133 rfl ?_
            refine x_dup h dX3_pays_134 rfl ?_
            refine x_geti h g_X3_244 (mlt hn rfl) rfl rfl dX3_pays_135 ?_
            refine x_iload h dX3_pays_138 rfl ?_
            refine x_iadd h dX3_pays_140 ?_
            refine x_puti h p_X3_244 (mlt hn rfl) rfl rfl rfl rfl dX3_pays_141 (fun J141 eJ141 => ?_)
            refine x_aload_n h dX3_pays_144 rfl ?_
            refine x_getr h (j := 95) g_X3_92 (mlt hn rfl) rfl (by decide) rfl dX3_pays_145 ?_
            refine x_bipush h dX3_pays_148 (8) rfl ?_
            refine x_iload_n h dX3_pays_150 rfl ?_
            refine x_imul h dX3_pays_151 ?_
            refine x_iload_n h dX3_pays_152 rfl ?_
            refine x_iadd h dX3_pays_153 ?_
            refine x_dup2_11 h dX3_pays_154 rfl rfl ?_
            refine x_iald h (mlt hn rfl) rfl (by rw [ev7]; exact xin_88 hw hc) _ rfl dX3_pays_155 ?_
            refine x_iload h dX3_pays_156 rfl ?_
            refine x_iadd h dX3_pays_158 ?_
            refine x_iast h (mlt hn rfl) rfl (by rw [ev7]; exact xin_88 hw hc) _ rfl dX3_pays_159 (fun J159 eJ159 => ?_)
            refine x_aload_n h dX3_pays_160 rfl ?_
            refine x_getr h (j := 72) g_X3_22 (mlt hn rfl) rfl (by decide) rfl dX3_pays_161 ?_
            refine x_iload_n h dX3_pays_164 rfl ?_
            refine x_dup2_11 h dX3_pays_165 rfl rfl ?_
            refine x_iald h (mlt hn rfl) rfl (by rw [ev7]; exact xin_mono hw (by decide)) _ rfl dX3_pays_166 ?_
            refine x_iload h dX3_pays_167 rfl ?_
            refine x_isub h dX3_pays_169 ?_
            refine x_iast h (mlt hn rfl) rfl (by rw [ev7]; exact xin_mono hw (by decide)) _ rfl dX3_pays_170 (fun J170 eJ170 => ?_)
            refine x_aload_n h dX3_pays_171 rfl ?_
            refine x_getr h (j := 72) g_X3_22 (mlt hn rfl) rfl (by decide) rfl dX3_pays_172 ?_
            refine x_iload_n h dX3_pays_175 rfl ?_
            refine x_sipush h dX3_pays_176 (999) rfl ?_
            refine x_aload_n h dX3_pays_179 rfl ?_
            refine x_getr h (j := 72) g_X3_22 (mlt hn rfl) rfl (by decide) rfl dX3_pays_180 ?_
            refine x_iload_n h dX3_pays_183 rfl ?_
            refine x_iald h (mlt hn rfl) rfl (xin_mono hc (by decide)) _ rfl dX3_pays_184 ?_
            refine x_iload h dX3_pays_185 rfl ?_
            refine x_iadd h dX3_pays_187 ?_
            refine x_mmin h q1992 (by decide) ⟨by decide, by decide⟩ (Nat.le_of_ble_eq_true rfl) dX3_pays_188 ?_
            refine x_iast h (mlt hn rfl) rfl (xin_mono hc (by decide)) _ rfl dX3_pays_191 (fun J191 eJ191 => ?_)
            exact x_vret h dX3_pays_192 rfl (xpE.to (by subst_vars; first | with_reducible rfl | (simp only [m_pays, m_first, m_payTo, *]; done) | (simp only [m_pays, m_first, m_payTo, ix, *]; rfl) | (simp [m_pays, m_first, m_payTo, ix, up2_ap, bec_k, bec_i, *]; done)) (by subst_vars; first | with_reducible rfl | (simp only [m_pays, m_first, m_payTo, *]; done) | (simp only [m_pays, m_first, m_payTo, ix, *]; rfl) | (simp [m_pays, m_first, m_payTo, ix, up2_ap, bec_k, bec_i, *]; done)) rfl rfl)
          · skip
            exact x_vret h dX3_pays_107 rfl (xpE.to (by subst_vars; first | with_reducible rfl | (simp only [m_pays, m_first, m_payTo, *]; done) | (simp only [m_pays, m_first, m_payTo, ix, *]; rfl) | (simp [m_pays, m_first, m_payTo, ix, up2_ap, bec_k, bec_i, *]; done)) (by subst_vars; first | with_reducible rfl | (simp only [m_pays, m_first, m_payTo, *]; done) | (simp only [m_pays, m_first, m_payTo, ix, *]; rfl) | (simp [m_pays, m_first, m_payTo, ix, up2_ap, bec_k, bec_i, *]; done)) rfl rfl)
        · skip
          refine x_aload_n h dX3_pays_97 rfl ?_
          refine x_iload_n h dX3_pays_98 rfl ?_
          refine x_puti h p_X3_238 (mlt hn rfl) rfl rfl rfl rfl dX3_pays_99 (fun J99 eJ99 => ?_)
          refine x_iload_n h dX3_pays_102 rfl ?_
          refine x_iload_n h dX3_pays_103 rfl ?_
          refine x_icmp_ne h 108 dX3_pays_104 rfl (fun c104 => ?_) (fun c104 => ?_)
          · skip
            refine x_iload_n h dX3_pays_108 rfl ?_
            refine x_aload_n h dX3_pays_109 rfl ?_
            refine x_getr h (j := 72) g_X3_22 (mlt hn rfl) rfl (by decide) rfl dX3_pays_110 ?_
            refine x_iload_n h dX3_pays_113 rfl ?_
            refine x_iald h (mlt hn rfl) rfl (by rw [ev7]; exact xin_mono hw (by decide)) _ rfl dX3_pays_114 ?_
            refine x_mmin h q1992 (by decide) ⟨by decide, by decide⟩ (Nat.le_of_ble_eq_true rfl) dX3_pays_115 ?_
            refine x_nmi (fun v118 ev118 => ?_)
            refine x_istore h dX3_pays_118 (by decide) [some (.ref (xb G + 70)), some (.int c), some (.int v7), some (.int v15), some (.int v118)] rfl ?_
            refine x_aload_n h dX3_pays_120 rfl ?_
            refine x_dup h dX3_pays_121 rfl ?_
            refine x_geti h g_X3_241 (mlt hn rfl) rfl rfl dX3_pays_122 ?_
            refine x_iload_n h dX3_pays_125 rfl ?_
            refine x_iload h dX3_pays_126 rfl ?_
            refine x_isub h dX3_pays_128 ?_
            refine x_iadd h dX3_pays_129 ?_
            refine x_puti h p_X3_241 (mlt hn rfl) rfl rfl rfl rfl dX3_pays_130 (fun J130 eJ130 => ?_)
            refine x_aload_n h dX3_pays_133 rfl ?_
            refine x_dup h dX3_pays_134 rfl ?_
            refine x_geti h g_X3_244 (mlt hn rfl) rfl rfl dX3_pays_135 ?_
            refine x_iload h dX3_pays_138 rfl ?_
            refine x_iadd h dX3_pays_140 ?_
            refine x_puti h p_X3_244 (mlt hn rfl) rfl rfl rfl rfl dX3_pays_141 (fun J141 eJ141 => ?_)
            refine x_aload_n h dX3_pays_144 rfl ?_
            refine x_getr h (j := 95) g_X3_92 (mlt hn rfl) rfl (by decide) rfl dX3_pays_145 ?_
            refine x_bipush h dX3_pays_148 (8) rfl ?_
            refine x_iload_n h dX3_pays_150 rfl ?_
            refine x_imul h dX3_pays_151 ?_
            refine x_iload_n h dX3_pays_152 rfl ?_
            refine x_iadd h dX3_pays_153 ?_
            refine x_dup2_11 h dX3_pays_154 rfl rfl ?_
            refine x_iald h (mlt hn rfl) rfl (by rw [ev7]; exact xin_88 hw hc) _ rfl dX3_pays_155 ?_
            refine x_iload h dX3_pays_156 rfl ?_
            refine x_iadd h dX3_pays_158 ?_
            refine x_iast h (mlt hn rfl) rfl (by rw [ev7]; exact xin_88 hw hc) _ rfl dX3_pays_159 (fun J159 eJ159 => ?_)
            refine x_aload_n h dX3_pays_160 rfl ?_
            refine x_getr h (j := 72) g_X3_22 (mlt hn rfl) rfl (by decide) rfl dX3_pays_161 ?_
            refine x_iload_n h dX3_pays_164 rfl ?_
            refine x_dup2_11 h dX3_pays_165 rfl rfl ?_
            refine x_iald h (mlt hn rfl) rfl (by rw [ev7]; exact xin_mono hw (by decide)) _ rfl dX3_pays_166 ?_
            refine x_iload h dX3_pays_167 rfl ?_
            refine x_isub h dX3_pays_169 ?_
            refine x_iast h (mlt hn rfl) rfl (by rw [ev7]; exact xin_mono hw (by decide)) _ rfl dX3_pays_170 (fun J170 eJ170 => ?_)
            refine x_aload_n h dX3_pays_171 rfl ?_
            refine x_getr h (j := 72) g_X3_22 (mlt hn rfl) rfl (by decide) rfl dX3_pays_172 ?_
            refine x_iload_n h dX3_pays_175 rfl ?_
            refine x_sipush h dX3_pays_176 (999) rfl ?_
            refine x_aload_n h dX3_pays_179 rfl ?_
            refine x_getr h (j := 72) g_X3_22 (mlt hn rfl) rfl (by decide) rfl dX3_pays_180 ?_
            refine x_iload_n h dX3_pays_183 rfl ?_
            refine x_iald h (mlt hn rfl) rfl (xin_mono hc (by decide)) _ rfl dX3_pays_184 ?_
            refine x_iload h dX3_pays_185 rfl ?_
            refine x_iadd h dX3_pays_187 ?_
            refine x_mmin h q1992 (by decide) ⟨by decide, by decide⟩ (Nat.le_of_ble_eq_true rfl) dX3_pays_188 ?_
            refine x_iast h (mlt hn rfl) rfl (xin_mono hc (by decide)) _ rfl dX3_pays_191 (fun J191 eJ191 => ?_)
            exact x_vret h dX3_pays_192 rfl (xpE.to (by subst_vars; first | with_reducible rfl | (simp only [m_pays, m_first, m_payTo, *]; done) | (simp only [m_pays, m_first, m_payTo, ix, *]; rfl) | (simp [m_pays, m_first, m_payTo, ix, up2_ap, bec_k, bec_i, *]; done)) (by subst_vars; first | with_reducible rfl | (simp only [m_pays, m_first, m_payTo, *]; done) | (simp only [m_pays, m_first, m_payTo, ix, *]; rfl) | (simp [m_pays, m_first, m_payTo, ix, up2_ap, bec_k, bec_i, *]; done)) rfl rfl)
          · skip
            exact x_vret h dX3_pays_107 rfl (xpE.to (by subst_vars; first | with_reducible rfl | (simp only [m_pays, m_first, m_payTo, *]; done) | (simp only [m_pays, m_first, m_payTo, ix, *]; rfl) | (simp [m_pays, m_first, m_payTo, ix, up2_ap, bec_k, bec_i, *]; done)) (by subst_vars; first | with_reducible rfl | (simp only [m_pays, m_first, m_payTo, *]; done) | (simp only [m_pays, m_first, m_payTo, ix, *]; rfl) | (simp [m_pays, m_first, m_payTo, ix, up2_ap, bec_k, bec_i, *]; done)) rfl rfl)
      · skip
        have hkz : k < z := nltN hz18 (by omega) (by omega) c39
        refine x_aload_n h dX3_pays_42 rfl ?_
        refine x_getr h (j := 72) g_X3_22 (mlt hn rfl) rfl (by decide) rfl dX3_pays_43 ?_
        refine x_bipush h dX3_pays_46 (19) rfl ?_
        refine x_iload h dX3_pays_48 rfl ?_
        refine x_iaddE h (nI (19 + k)) (nI_add 19 k) dX3_pays_50 ?_
        refine x_aload_n h dX3_pays_51 rfl ?_
        refine x_getr h (j := 72) g_X3_22 (mlt hn rfl) rfl (by decide) rfl dX3_pays_52 ?_
        refine x_bipush h dX3_pays_55 (20) rfl ?_
        refine x_iload h dX3_pays_57 rfl ?_
        refine x_iaddE h (nI (20 + k)) (nI_add 20 k) dX3_pays_59 ?_
        refine x_iald h (mlt hn rfl) rfl (vp_in_nI (by omega) (by first | decide | omega)) (20 + k) (nI_clamp (by omega)) dX3_pays_60 ?_
        refine x_iast h (mlt hn rfl) rfl (vp_in_nI (by omega) (by first | decide | omega)) (19 + k) (nI_clamp (by omega)) dX3_pays_61 (fun J61 eJ61 => ?_)
        refine x_aload_n h dX3_pays_62 rfl ?_
        refine x_getr h (j := 72) g_X3_22 (mlt hn rfl) rfl (by decide) rfl dX3_pays_63 ?_
        refine x_bipush h dX3_pays_66 (25) rfl ?_
        refine x_iload h dX3_pays_68 rfl ?_
        refine x_iaddE h (nI (25 + k)) (nI_add 25 k) dX3_pays_70 ?_
        refine x_aload_n h dX3_pays_71 rfl ?_
        refine x_getr h (j := 72) g_X3_22 (mlt hn rfl) rfl (by decide) rfl dX3_pays_72 ?_
        refine x_bipush h dX3_pays_75 (26) rfl ?_
        refine x_iload h dX3_pays_77 rfl ?_
        refine x_iaddE h (nI (26 + k)) (nI_add 26 k) dX3_pays_79 ?_
        refine x_iald h (mlt hn rfl) rfl (vp_in_nI (by omega) (by first | decide | omega)) (26 + k) (nI_clamp (by omega)) dX3_pays_80 ?_
        refine x_iast h (mlt hn rfl) rfl (vp_in_nI (by omega) (by first | decide | omega)) (25 + k) (nI_clamp (by omega)) dX3_pays_81 (fun J81 eJ81 => ?_)
        refine x_iinc h dX3_pays_82 (by decide) rfl (nI (k + 1)) (nI_1 k) [some (.ref (xb G + 70)), some (.int c), some (.int v7), some (.int v15), some (.int (nI (k + 1)))] rfl ?_
        refine x_goto h 30 dX3_pays_85 rfl ?_
        exact ih (k + 1) J81 (by omega) (by omega) (by rw [eJ81, eJ61, hJ]; exact mshift_up (by omega))
  exact lp30 (z + 1) 0 J26 (by omega) (by omega) mshift_z.symm
