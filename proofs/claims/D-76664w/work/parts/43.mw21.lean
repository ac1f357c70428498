/-! WALKS OF THE REFERENCE: buyers off a row, images -/
theorem p_X3_342 : xfp RX3 342 3 24 (tyX3 24) false := ⟨_, _, _, tyX3, rfl, by decide, in_X3, q1704, rfl, tyX3_ok, nmX3, tyX3_ok 24 (by decide), rfl⟩
theorem p_X3_345 : xfp RX3 345 3 25 (tyX3 25) false := ⟨_, _, _, tyX3, rfl, by decide, in_X3, q1705, rfl, tyX3_ok, nmX3, tyX3_ok 25 (by decide), rfl⟩
theorem g_X3_61 : xfg RX3 61 3 26 := ⟨_, _, _, rfl, by decide, in_X3, q1706, rfl⟩
theorem g_X3_64 : xfg RX3 64 3 27 := ⟨_, _, _, rfl, by decide, in_X3, q1707, rfl⟩
theorem g_X3_342 : xfg RX3 342 3 24 := ⟨_, _, _, rfl, by decide, in_X3, q1704, rfl⟩
theorem g_X3_345 : xfg RX3 345 3 25 := ⟨_, _, _, rfl, by decide, in_X3, q1705, rfl⟩
set_option maxHeartbeats 4000000 in
theorem t_buyers (l : Launch) (G : xG_T) (n : Nat) (hn : 103 ≤ n) (I : xI_T) (L : xL_T) (s : Int32) (i : Int32) (z : Int32) (hT : Wtop I) (hL : Wsh I) : CM l 3 yX3_buyers cX3_buyers 9 (some .int) G n [.ref (xb G + 70), .int s, .int i, .int z] I L (some (.int ((m_buyers I L s i z).1))) ((m_buyers I L s i z).2) (L) := by
  refine Cg.intro (cls := RX3) (pad := 5) (lv := [some (.ref (xb G + 70)), some (.int s), some (.int i), some (.int z), none, none, none, none, none]) rfl (by decide) (Nat.le_of_ble_eq_true rfl) rfl (fun Θ h => ?_)
  have cut44 : ∀ (_u : Unit), (m_buyers I L s i z = m_buyGo L s i z 9 0 I) → (vp_in s 6) → (¬ inR z 1 8 = 0) → X Θ 0 0 n TyM I L FM 44 [some (.ref (xb G + 70)), some (.int s), some (.int i), some (.int z), none, none, none, none, none] [] := by
    intro _u hm hs hz
    refine x_iconst h dX3_buyers_44 (0) rfl ?_
    refine x_istore h dX3_buyers_45 (by decide) [some (.ref (xb G + 70)), some (.int s), some (.int i), some (.int z), some (.int 0), none, none, none, none] rfl ?_
    refine x_iconst h dX3_buyers_47 (0) rfl ?_
    refine x_istore h dX3_buyers_48 (by decide) [some (.ref (xb G + 70)), some (.int s), some (.int i), some (.int z), some (.int 0), some (.int 0), none, none, none] rfl ?_
    have lp50 : ∀ (d : Nat) (e k : Nat) (J : xI_T), e < d → (e + k = 8) → (m_buyGo L s i z 9 0 I = m_buyGo L s i z (e + 1) k J) → (vp_in (J 70 0) 9) → (Wsh J) → X Θ 0 0 n TyM J L FM 50 [some (.ref (xb G + 70)), some (.int s), some (.int i), some (.int z), some (.int (nI k)), some (.int (nI k)), none, none, none] [] := by
      intro d
      induction d with
      | zero =>
        intro e k J hlt
        exact absurd hlt (Nat.not_lt_zero _)
      | succ d ih =>
        intro e k J hlt he hJ hb hSJ
        refine x_iload h dX3_buyers_50 rfl ?_
        refine x_iload_n h dX3_buyers_52 rfl ?_
        refine x_icmp_ge h 204 dX3_buyers_53 rfl (fun c53 => ?_) (fun c53 => ?_)
        · skip
          refine x_iload h dX3_buyers_204 rfl ?_
          exact x_iret h dX3_buyers_206 rfl (xpE.to (by rw [hm, hJ, buyGo_0 c53]) (by rw [hm, hJ, buyGo_0 c53]) rfl rfl)
        · skip
          have hk8 : k < 8 := by obtain ⟨q, hq1, hq8, rfl⟩ := inR_nat 1 8 hz rfl rfl (by decide); have := nltN (N := q) (k := k) rfl (by omega) (by omega) c53; omega
          obtain ⟨e2, rfl⟩ : ∃ q : Nat, e = q + 1 := ⟨e - 1, by omega⟩
          refine x_iload_n h dX3_buyers_56 rfl ?_
          refine x_i2l h dX3_buyers_57 ?_
          refine x_ldc2 h dX3_buyers_58 q1861 ?_
          refine x_iload h dX3_buyers_61 rfl ?_
          refine x_i2l h dX3_buyers_63 ?_
          refine x_lmul h dX3_buyers_64 ?_
          refine x_ladd h dX3_buyers_65 ?_
          refine x_nml (fun v66 ev66 => ?_)
          refine x_lstore h dX3_buyers_66 (by decide) [some (.ref (xb G + 70)), some (.int s), some (.int i), some (.int z), some (.int (nI k)), some (.int (nI k)), some (.long v66), none, none] rfl ?_
          refine x_lload h dX3_buyers_68 rfl ?_
          refine x_lconst h dX3_buyers_70 (0) rfl ?_
          refine x_lcmp h dX3_buyers_71 ?_
          refine x_if_lt h 101 dX3_buyers_72 rfl (fun c72 => ?_) (fun c72 => ?_)
          · skip
            refine x_iload h dX3_buyers_101 rfl ?_
            exact x_iret h dX3_buyers_103 rfl (xpE.to (by rw [hm, hJ, buyGo_1 c53 ev66 (by first | exact Or.inl ((lg_cmp_lt _ _).mp c72) | exact Or.inr (Or.inl ((lg_cmp_gt _ _).mp c89)) | exact Or.inr (Or.inr c98))]) (by rw [hm, hJ, buyGo_1 c53 ev66 (by first | exact Or.inl ((lg_cmp_lt _ _).mp c72) | exact Or.inr (Or.inl ((lg_cmp_gt _ _).mp c89)) | exact Or.inr (Or.inr c98))]) rfl rfl)
          · skip
            refine x_lload h dX3_buyers_75 rfl ?_
            refine x_ldc2 h dX3_buyers_77 q1861 ?_
            refine x_ladd h dX3_buyers_80 ?_
            refine x_aload_n h dX3_buyers_81 rfl ?_
            refine x_getr h (j := 91) g_X3_79 (mlt hn rfl) rfl (by decide) rfl dX3_buyers_82 ?_
            refine x_iload_n h dX3_buyers_85 rfl ?_
            refine x_iald h (mlt hn rfl) rfl hs _ rfl dX3_buyers_86 ?_
            refine x_i2l h dX3_buyers_87 ?_
            refine x_lcmp h dX3_buyers_88 ?_
            refine x_if_gt h 101 dX3_buyers_89 rfl (fun c89 => ?_) (fun c89 => ?_)
            · skip
              refine x_iload h dX3_buyers_101 rfl ?_
              exact x_iret h dX3_buyers_103 rfl (xpE.to (by rw [hm, hJ, buyGo_1 c53 ev66 (by first | exact Or.inl ((lg_cmp_lt _ _).mp c72) | exact Or.inr (Or.inl ((lg_cmp_gt _ _).mp c89)) | exact Or.inr (Or.inr c98))]) (by rw [hm, hJ, buyGo_1 c53 ev66 (by first | exact Or.inl ((lg_cmp_lt _ _).mp c72) | exact Or.inr (Or.inl ((lg_cmp_gt _ _).mp c89)) | exact Or.inr (Or.inr c98))]) rfl rfl)
            · skip
              refine x_aload_n h dX3_buyers_92 rfl ?_
              refine x_geti h g_X3_116 (mlt hn rfl) rfl rfl dX3_buyers_93 ?_
              refine x_bipush h dX3_buyers_96 (8) rfl ?_
              refine x_icmp_ne h 104 dX3_buyers_98 rfl (fun c98 => ?_) (fun c98 => ?_)
              · skip
                have hn1 : ¬ (v66 < 0 ∨ (J 91 (ix s)).toInt64 < v66 + 3 ∨ J 70 0 = 8) := fun q => by rcases q with q | q | q; exact c72 ((lg_cmp_lt _ _).mpr q); exact c89 ((lg_cmp_gt _ _).mpr q); exact c98 q
                obtain ⟨a, ha3, efa, eva, hra⟩ := l_of (by rw [ev66, l_f (by omega)]; have := Int32.toInt_lt i; omega) (fun q => hn1 (Or.inl q)) (hSJ s hs) (fun q => hn1 (Or.inr (Or.inl q)))
                refine x_lload h dX3_buyers_104 rfl ?_
                refine x_l2i h dX3_buyers_106 ?_
                refine x_nmi (fun v107 ev107 => ?_)
                refine x_istore h dX3_buyers_107 (by decide) [some (.ref (xb G + 70)), some (.int s), some (.int i), some (.int z), some (.int (nI k)), some (.int (nI k)), some (.long v66), none, some (.int v107)] rfl ?_
                have ea : v107 = nI a := ev107.trans eva
                have ht0 : vp_in (60 * s + v107) 360 := by rw [ea]; exact told_in hs (vp_in_nI (by omega) (by decide))
                have ht1 : vp_in (60 * s + (v107 + 1)) 360 := told3 hs ha3 (k := 1) (by decide) ea rfl
                have ht2 : vp_in (60 * s + (v107 + 2)) 360 := told3 hs ha3 (k := 2) (by decide) ea rfl
                refine x_aload_n h dX3_buyers_109 rfl ?_
                refine x_iload_n h dX3_buyers_110 rfl ?_
                refine x_iload h dX3_buyers_111 rfl ?_
                refine x_callVEi h (As := [.int _, .int _]) (t_toldAt l G n hn _ _ _ _ ht0) m_X3_133 (mlt hn rfl) rfl dX3_buyers_113 ⟨by decide, by decide⟩ ⟨by decide, by decide⟩ rfl (Nat.le_of_ble_eq_true rfl) ?_
                refine x_iconst h dX3_buyers_116 (0) rfl ?_
                refine x_sipush h dX3_buyers_117 (999) rfl ?_
                refine x_callSEi h (As := [.int _, .int _, .int _]) (t_within l G n hn _ _ _ _ _ ) m_X3_119 dX3_buyers_120 ⟨by decide, by decide⟩ ⟨by decide, by decide⟩ rfl (Nat.le_of_ble_eq_true rfl) ?_
                refine x_if_eq h 162 dX3_buyers_123 rfl (fun c123 => ?_) (fun c123 => ?_)
                · skip
                  have hn2 : inR (m_told L s v107) 0 999 = 0 ∨ inR (m_told L s (v107 + 1)) 0 9 = 0 ∨ inR (m_told L s (v107 + 2)) 0 9 = 0 := Or.inl c123
                  refine x_iload h dX3_buyers_162 rfl ?_
                  exact x_iret h dX3_buyers_164 rfl (xpE.to (by rw [hm, hJ, buyGo_2 c53 ev66 hn1 ev107 hn2]) (by rw [hm, hJ, buyGo_2 c53 ev66 hn1 ev107 hn2]) rfl rfl)
                · skip
                  refine x_aload_n h dX3_buyers_126 rfl ?_
                  refine x_iload_n h dX3_buyers_127 rfl ?_
                  refine x_iload h dX3_buyers_128 rfl ?_
                  refine x_iconst h dX3_buyers_130 (1) rfl ?_
                  refine x_iadd h dX3_buyers_131 ?_
                  refine x_callVEi h (As := [.int _, .int _]) (t_toldAt l G n hn _ _ _ _ ht1) m_X3_133 (mlt hn rfl) rfl dX3_buyers_132 ⟨by decide, by decide⟩ ⟨by decide, by decide⟩ rfl (Nat.le_of_ble_eq_true rfl) ?_
                  refine x_iconst h dX3_buyers_135 (0) rfl ?_
                  refine x_bipush h dX3_buyers_136 (9) rfl ?_
                  refine x_callSEi h (As := [.int _, .int _, .int _]) (t_within l G n hn _ _ _ _ _ ) m_X3_119 dX3_buyers_138 ⟨by decide, by decide⟩ ⟨by decide, by decide⟩ rfl (Nat.le_of_ble_eq_true rfl) ?_
                  refine x_if_eq h 162 dX3_buyers_141 rfl (fun c141 => ?_) (fun c141 => ?_)
                  · skip
                    have hn2 : inR (m_told L s v107) 0 999 = 0 ∨ inR (m_told L s (v107 + 1)) 0 9 = 0 ∨ inR (m_told L s (v107 + 2)) 0 9 = 0 := Or.inr (Or.inl c141)
                    refine x_iload h dX3_buyers_162 rfl ?_
                    exact x_iret h dX3_buyers_164 rfl (xpE.to (by rw [hm, hJ, buyGo_2 c53 ev66 hn1 ev107 hn2]) (by rw [hm, hJ, buyGo_2 c53 ev66 hn1 ev107 hn2]) rfl rfl)
                  · skip
                    refine x_aload_n h dX3_buyers_144 rfl ?_
                    refine x_iload_n h dX3_buyers_145 rfl ?_
                    refine x_iload h dX3_buyers_146 rfl ?_
                    refine x_iconst h dX3_buyers_148 (2) rfl ?_
                    refine x_iadd h dX3_buyers_149 ?_
                    refine x_callVEi h (As := [.int _, .int _]) (t_toldAt l G n hn _ _ _ _ ht2) m_X3_133 (mlt hn rfl) rfl dX3_buyers_150 ⟨by decide, by decide⟩ ⟨by decide, by decide⟩ rfl (Nat.le_of_ble_eq_true rfl) ?_
                    refine x_iconst h dX3_buyers_153 (0) rfl ?_
                    refine x_bipush h dX3_buyers_154 (9) rfl ?_
                    refine x_callSEi h (As := [.int _, .int _, .int _]) (t_within l G n hn _ _ _ _ _ ) m_X3_119 dX3_buyers_156 ⟨by decide, by decide⟩ ⟨by decide, by decide⟩ rfl (Nat.le_of_ble_eq_true rfl) ?_
                    refine x_if_ne h 165 dX3_buyers_159 rfl (fun c159 => ?_) (fun c159 => ?_)
                    · skip
                      have hn2 : ¬ (inR (m_told L s v107) 0 999 = 0 ∨ inR (m_told L s (v107 + 1)) 0 9 = 0 ∨ inR (m_told L s (v107 + 2)) 0 9 = 0) := fun q => by rcases q with q | q | q; exact c123 q; exact c141 q; exact c159 q
                      refine x_aload_n h dX3_buyers_165 rfl ?_
                      refine x_aload_n h dX3_buyers_166 rfl ?_
                      refine x_iload_n h dX3_buyers_167 rfl ?_
                      refine x_iload h dX3_buyers_168 rfl ?_
                      refine x_callVEi h (As := [.int _, .int _]) (t_toldAt l G n hn _ _ _ _ ht0) m_X3_133 (mlt hn rfl) rfl dX3_buyers_170 ⟨by decide, by decide⟩ ⟨by decide, by decide⟩ rfl (Nat.le_of_ble_eq_true rfl) ?_
                      refine x_aload_n h dX3_buyers_173 rfl ?_
                      refine x_iload_n h dX3_buyers_174 rfl ?_
                      refine x_iload h dX3_buyers_175 rfl ?_
                      refine x_iconst h dX3_buyers_177 (1) rfl ?_
                      refine x_iadd h dX3_buyers_178 ?_
                      refine x_callVEi h (As := [.int _, .int _]) (t_toldAt l G n hn _ _ _ _ ht1) m_X3_133 (mlt hn rfl) rfl dX3_buyers_179 ⟨by decide, by decide⟩ ⟨by decide, by decide⟩ rfl (Nat.le_of_ble_eq_true rfl) ?_
                      refine x_aload_n h dX3_buyers_182 rfl ?_
                      refine x_iload_n h dX3_buyers_183 rfl ?_
                      refine x_iload h dX3_buyers_184 rfl ?_
                      refine x_iconst h dX3_buyers_186 (2) rfl ?_
                      refine x_iadd h dX3_buyers_187 ?_
                      refine x_callVEi h (As := [.int _, .int _]) (t_toldAt l G n hn _ _ _ _ ht2) m_X3_133 (mlt hn rfl) rfl dX3_buyers_188 ⟨by decide, by decide⟩ ⟨by decide, by decide⟩ rfl (Nat.le_of_ble_eq_true rfl) ?_
                      refine x_callVEi h (As := [.int _, .int _, .int _]) (t_newBuyer l G n hn _ _ _ _ _ (xin8 hb c98)) m_X3_123 (mlt hn rfl) rfl dX3_buyers_191 ⟨by decide, by decide⟩ ⟨by decide, by decide⟩ rfl (Nat.le_of_ble_eq_true rfl) ?_
                      refine x_nmI (fun J191 eJ191 => ?_)
                      refine x_pop h dX3_buyers_194 rfl ?_
                      refine x_iinc h dX3_buyers_195 (by decide) rfl (nI (k + 1)) (nI_1 k) [some (.ref (xb G + 70)), some (.int s), some (.int i), some (.int z), some (.int (nI (k + 1))), some (.int (nI k)), some (.long v66), none, some (.int v107)] rfl ?_
                      refine x_iinc h dX3_buyers_198 (by decide) rfl (nI (k + 1)) (nI_1 k) [some (.ref (xb G + 70)), some (.int s), some (.int i), some (.int z), some (.int (nI (k + 1))), some (.int (nI (k + 1))), some (.long v66), none, some (.int v107)] rfl ?_
                      refine x_goto h 50 dX3_buyers_201 rfl ?_
                      refine x_wk (lv := [some (.ref (xb G + 70)), some (.int s), some (.int i), some (.int z), some (.int (nI (k + 1))), some (.int (nI (k + 1))), none, none, none]) ?_ ⟨rfl, rfl, rfl, rfl, rfl, rfl, trivial⟩
                      exact ih e2 (k + 1) J191 (by omega) (by omega) (by rw [hJ, buyGo_3 c53 ev66 hn1 ev107 hn2, eJ191]) (by rw [eJ191]; exact nb_0 hb c98) (by rw [eJ191]; exact hSJ.newB)
                    · skip
                      have hn2 : inR (m_told L s v107) 0 999 = 0 ∨ inR (m_told L s (v107 + 1)) 0 9 = 0 ∨ inR (m_told L s (v107 + 2)) 0 9 = 0 := Or.inr (Or.inr c159)
                      refine x_iload h dX3_buyers_162 rfl ?_
                      exact x_iret h dX3_buyers_164 rfl (xpE.to (by rw [hm, hJ, buyGo_2 c53 ev66 hn1 ev107 hn2]) (by rw [hm, hJ, buyGo_2 c53 ev66 hn1 ev107 hn2]) rfl rfl)
              · skip
                refine x_iload h dX3_buyers_101 rfl ?_
                exact x_iret h dX3_buyers_103 rfl (xpE.to (by rw [hm, hJ, buyGo_1 c53 ev66 (by first | exact Or.inl ((lg_cmp_lt _ _).mp c72) | exact Or.inr (Or.inl ((lg_cmp_gt _ _).mp c89)) | exact Or.inr (Or.inr c98))]) (by rw [hm, hJ, buyGo_1 c53 ev66 (by first | exact Or.inl ((lg_cmp_lt _ _).mp c72) | exact Or.inr (Or.inl ((lg_cmp_gt _ _).mp c89)) | exact Or.inr (Or.inr c98))]) rfl rfl)
    exact lp50 9 8 0 I (by decide) (by decide) rfl hT.1.1 hL
  refine x_iload_n h dX3_buyers_0 rfl ?_
  refine x_callSEi h (As := [.int _]) (t_isShelf l G n hn _ _ _ ) m_X3_127 dX3_buyers_1 ⟨by decide, by decide⟩ ⟨by decide, by decide⟩ rfl (Nat.le_of_ble_eq_true rfl) ?_
  refine x_if_eq h 17 dX3_buyers_4 rfl (fun c4 => ?_) (fun c4 => ?_)
  · skip
    refine x_iconst h dX3_buyers_17 (-1) rfl ?_
    exact x_iret h dX3_buyers_18 rfl (xpE.to (by subst_vars; first | with_reducible rfl | (simp only [m_buyers, *]; done) | (simp only [m_buyers, ix, *]; rfl) | (simp [m_buyers, ix, up2_ap, bec_k, bec_i, *]; done)) (by subst_vars; first | with_reducible rfl | (simp only [m_buyers, *]; done) | (simp only [m_buyers, ix, *]; rfl) | (simp [m_buyers, ix, up2_ap, bec_k, bec_i, *]; done)) rfl rfl)
  · skip
    refine x_iload_n h dX3_buyers_7 rfl ?_
    refine x_iconst h dX3_buyers_8 (1) rfl ?_
    refine x_bipush h dX3_buyers_9 (8) rfl ?_
    refine x_callSEi h (As := [.int _, .int _, .int _]) (t_within l G n hn _ _ _ _ _ ) m_X3_119 dX3_buyers_11 ⟨by decide, by decide⟩ ⟨by decide, by decide⟩ rfl (Nat.le_of_ble_eq_true rfl) ?_
    refine x_if_ne h 19 dX3_buyers_14 rfl (fun c14 => ?_) (fun c14 => ?_)
    · skip
      refine x_aload_n h dX3_buyers_19 rfl ?_
      refine x_getr h (j := 90) g_X3_76 (mlt hn rfl) rfl (by decide) rfl dX3_buyers_20 ?_
      refine x_iload_n h dX3_buyers_23 rfl ?_
      refine x_iald h (mlt hn rfl) rfl (xin_mono (inR_s c4) (by decide)) _ rfl dX3_buyers_24 ?_
      refine x_iconst h dX3_buyers_25 (-1) rfl ?_
      refine x_icmp_ne h 31 dX3_buyers_26 rfl (fun c26 => ?_) (fun c26 => ?_)
      · skip
        refine x_aload_n h dX3_buyers_31 rfl ?_
        refine x_getr h (j := 90) g_X3_76 (mlt hn rfl) rfl (by decide) rfl dX3_buyers_32 ?_
        refine x_iload_n h dX3_buyers_35 rfl ?_
        refine x_iald h (mlt hn rfl) rfl (xin_mono (inR_s c4) (by decide)) _ rfl dX3_buyers_36 ?_
        refine x_iconst h dX3_buyers_37 (1) rfl ?_
        refine x_icmp_eq h 44 dX3_buyers_38 rfl (fun c38 => ?_) (fun c38 => ?_)
        · skip
          exact cut44 () (by unfold m_buyers; rw [if_neg c4, if_neg c14, if_neg c26, if_neg (not_not_intro c38)]) (inR_s c4) c14
        · skip
          refine x_bipush h dX3_buyers_41 (-12) rfl ?_
          exact x_iret h dX3_buyers_43 rfl (xpE.to (by subst_vars; first | with_reducible rfl | (simp only [m_buyers, *]; done) | (simp only [m_buyers, ix, *]; rfl) | (simp [m_buyers, ix, up2_ap, bec_k, bec_i, *]; done)) (by subst_vars; first | with_reducible rfl | (simp only [m_buyers, *]; done) | (simp only [m_buyers, ix, *]; rfl) | (simp [m_buyers, ix, up2_ap, bec_k, bec_i, *]; done)) rfl rfl)
      · skip
        refine x_iconst h dX3_buyers_29 (0) rfl ?_
        exact x_iret h dX3_buyers_30 rfl (xpE.to (by subst_vars; first | with_reducible rfl | (simp only [m_buyers, *]; done) | (simp only [m_buyers, ix, *]; rfl) | (simp [m_buyers, ix, up2_ap, bec_k, bec_i, *]; done)) (by subst_vars; first | with_reducible rfl | (simp only [m_buyers, *]; done) | (simp only [m_buyers, ix, *]; rfl) | (simp [m_buyers, ix, up2_ap, bec_k, bec_i, *]; done)) rfl rfl)
    · skip
      refine x_iconst h dX3_buyers_17 (-1) rfl ?_
      exact x_iret h dX3_buyers_18 rfl (xpE.to (by subst_vars; first | with_reducible rfl | (simp only [m_buyers, *]; done) | (simp only [m_buyers, ix, *]; rfl) | (simp [m_buyers, ix, up2_ap, bec_k, bec_i, *]; done)) (by subst_vars; first | with_reducible rfl | (simp only [m_buyers, *]; done) | (simp only [m_buyers, ix, *]; rfl) | (simp [m_buyers, ix, up2_ap, bec_k, bec_i, *]; done)) rfl rfl)
set_option maxHeartbeats 4000000 in
theorem t_image (l : Launch) (G : xG_T) (n : Nat) (hn : 103 ≤ n) (I : xI_T) (L : xL_T)   : CM l 1 yX3_image cX3_image 2 (some .int) G n [.ref (xb G + 70)] I L (some (.int ((m_image I).1))) ((m_image I).2) (L) := by
  refine Cg.intro (cls := RX3) (pad := 1) (lv := [some (.ref (xb G + 70)), none]) rfl (by decide) (Nat.le_of_ble_eq_true rfl) rfl (fun Θ h => ?_)
  refine x_aload_n h dX3_image_0 rfl ?_
  refine x_iconst h dX3_image_1 (1) rfl ?_
  refine x_puti h p_X3_342 (mlt hn rfl) rfl rfl rfl rfl dX3_image_2 (fun J2 eJ2 => ?_)
  refine x_aload_n h dX3_image_5 rfl ?_
  refine x_aload_n h dX3_image_6 rfl ?_
  refine x_geti h g_X3_116 (mlt hn rfl) rfl rfl dX3_image_7 ?_
  refine x_puti h p_X3_345 (mlt hn rfl) rfl rfl rfl rfl dX3_image_10 (fun J10 eJ10 => ?_)
  refine x_aload_n h dX3_image_13 rfl ?_
  refine x_aload_n h dX3_image_14 rfl ?_
  refine x_getr h (j := 85) g_X3_61 (mlt hn rfl) rfl (by decide) rfl dX3_image_15 ?_
  refine x_iconst h dX3_image_18 (0) rfl ?_
  refine x_callVEv h (As := [.ref _, .int _]) (t_keeps l G n hn _ _ 85 0 31 (Nat.le_of_ble_eq_true rfl) rfl (Nat.le_of_ble_eq_true rfl) (Nat.le_of_ble_eq_true rfl) (by decide)) m_X3_263 (mlt hn rfl) rfl dX3_image_19 ⟨by decide, by decide⟩ ⟨by decide, by decide⟩ rfl (Nat.le_of_ble_eq_true rfl) ?_
  refine x_nmI (fun J19 eJ19 => ?_)
  refine x_iconst h dX3_image_22 (0) rfl ?_
  refine x_istore_n h dX3_image_23 rfl (by decide) [some (.ref (xb G + 70)), some (.int 0)] rfl ?_
  have lp24 : ∀ (d : Nat) (k : Nat) (J : xI_T), 5 - k < d → (k ≤ 5) → (J = cpy2 J19 86 0 84 0 k) → X Θ 0 0 n TyM J L FM 24 [some (.ref (xb G + 70)), some (.int (nI k))] [] := by
    intro d
    induction d with
    | zero =>
      intro k J hlt
      exact absurd hlt (Nat.not_lt_zero _)
    | succ d ih =>
      intro k J hlt hk hJ
      refine x_iload_n h dX3_image_24 rfl ?_
      refine x_iconst h dX3_image_25 (5) rfl ?_
      refine x_icmp_ge h 47 dX3_image_26 rfl (fun c26 => ?_) (fun c26 => ?_)
      · skip
        have hkN : k = 5 := Nat.le_antisymm hk (nleN rfl (by decide) (by omega) c26)
        refine x_aload_n h dX3_image_47 rfl ?_
        refine x_getr h (j := 84) g_X3_58 (mlt hn rfl) rfl (by decide) rfl dX3_image_48 ?_
        refine x_iconst h dX3_image_51 (0) rfl ?_
        refine x_iald h (mlt hn rfl) rfl (xk rfl) 0 rfl dX3_image_52 ?_
        exact x_iret h dX3_image_53 rfl (xpE.to (by rw [hJ, hkN, cpy2_ap, if_neg (by decide), eJ19, keeps_o (Or.inl (by decide)), eJ10, eJ2, up2_i _ _ (by decide), up2_i _ _ (by decide)]; rfl) (by rw [hJ, hkN, eJ19, eJ10, eJ2]; simp only [m_image, up2_ap]; rfl) rfl rfl)
      · skip
        have hkN : k < 5 := nltN rfl (by decide) (by omega) c26
        refine x_aload_n h dX3_image_29 rfl ?_
        refine x_getr h (j := 86) g_X3_64 (mlt hn rfl) rfl (by decide) rfl dX3_image_30 ?_
        refine x_iload_n h dX3_image_33 rfl ?_
        refine x_aload_n h dX3_image_34 rfl ?_
        refine x_getr h (j := 84) g_X3_58 (mlt hn rfl) rfl (by decide) rfl dX3_image_35 ?_
        refine x_iload_n h dX3_image_38 rfl ?_
        refine x_iald h (mlt hn rfl) rfl (vp_in_nI (by omega) (by first | decide | omega)) (k) (nI_clamp (by omega)) dX3_image_39 ?_
        refine x_iast h (mlt hn rfl) rfl (vp_in_nI (by omega) (by first | decide | omega)) (k) (nI_clamp (by omega)) dX3_image_40 (fun J40 eJ40 => ?_)
        refine x_iinc h dX3_image_41 (by decide) rfl (nI (k + 1)) (nI_1 k) [some (.ref (xb G + 70)), some (.int (nI (k + 1)))] rfl ?_
        refine x_goto h 24 dX3_image_44 rfl ?_
        exact ih (k + 1) J40 (by omega) (by omega) (by rw [eJ40, hJ]; have z := cpy2_up (I := J19) (a := 86) (o := 0) (b := 84) (p := 0) (c := k) (Or.inl (by decide)); rw [Nat.zero_add] at z; exact z)
  exact lp24 6 0 J19 (by decide) (by decide) cpy2_z.symm
set_option maxHeartbeats 4000000 in
theorem t_back (l : Launch) (G : xG_T) (n : Nat) (hn : 103 ≤ n) (I : xI_T) (L : xL_T)   : CM l 1 yX3_back cX3_back 3 (some .int) G n [.ref (xb G + 70)] I L (some (.int ((m_back I).1))) ((m_back I).2) (L) := by
  refine Cg.intro (cls := RX3) (pad := 2) (lv := [some (.ref (xb G + 70)), none, none]) rfl (by decide) (Nat.le_of_ble_eq_true rfl) rfl (fun Θ h => ?_)
  refine x_aload_n h dX3_back_0 rfl ?_
  refine x_geti h g_X3_342 (mlt hn rfl) rfl rfl dX3_back_1 ?_
  refine x_if_ne h 10 dX3_back_4 rfl (fun c4 => ?_) (fun c4 => ?_)
  · skip
    refine x_iconst h dX3_back_10 (0) rfl ?_
    refine x_istore_n h dX3_back_11 rfl (by decide) [some (.ref (xb G + 70)), some (.int 0), none] rfl ?_
    have lp12 : ∀ (d : Nat) (k : Nat) (J : xI_T), 31 - k < d → (k ≤ 31) → (J = m_backN I k) → X Θ 0 0 n TyM J L FM 12 [some (.ref (xb G + 70)), some (.int (nI k)), none] [] := by
      intro d
      induction d with
      | zero =>
        intro k J hlt
        exact absurd hlt (Nat.not_lt_zero _)
      | succ d ih =>
        intro k J hlt hk hJ
        have h25 : J 70 25 = I 70 25 := by rw [hJ]; exact backN_o (by decide)
        refine x_iload_n h dX3_back_12 rfl ?_
        refine x_bipush h dX3_back_13 (31) rfl ?_
        refine x_icmp_ge h 77 dX3_back_15 rfl (fun c15 => ?_) (fun c15 => ?_)
        · skip
          have hkN : k = 31 := Nat.le_antisymm hk (nleN rfl (by decide) (by omega) c15)
          have hJ31 : J = m_backN I 31 := by rw [hJ, hkN]
          refine x_iconst h dX3_back_77 (0) rfl ?_
          refine x_istore_n h dX3_back_78 rfl (by decide) [some (.ref (xb G + 70)), some (.int 0), none] rfl ?_
          have lp79 : ∀ (d : Nat) (k : Nat) (K : xI_T), 5 - k < d → (k ≤ 5) → (K = cpy2 J 84 0 86 0 k) → X Θ 0 0 n TyM K L FM 79 [some (.ref (xb G + 70)), some (.int (nI k)), none] [] := by
            intro d
            induction d with
            | zero =>
              intro k K hlt
              exact absurd hlt (Nat.not_lt_zero _)
            | succ d ih =>
              intro k K hlt hk2 hK
              refine x_iload_n h dX3_back_79 rfl ?_
              refine x_iconst h dX3_back_80 (5) rfl ?_
              refine x_icmp_ge h 102 dX3_back_81 rfl (fun c81 => ?_) (fun c81 => ?_)
              · skip
                have hk5 : k = 5 := Nat.le_antisymm hk2 (nleN rfl (by decide) (by omega) c81)
                refine x_aload_n h dX3_back_102 rfl ?_
                refine x_getr h (j := 84) g_X3_58 (mlt hn rfl) rfl (by decide) rfl dX3_back_103 ?_
                refine x_iconst h dX3_back_106 (0) rfl ?_
                refine x_iald h (mlt hn rfl) rfl (xk rfl) 0 rfl dX3_back_107 ?_
                exact x_iret h dX3_back_108 rfl (xpE.to (by unfold m_back; rw [if_neg c4, hK, hk5, ← hJ31]) (by unfold m_back; rw [if_neg c4, hK, hk5, ← hJ31]) rfl rfl)
              · skip
                have hk5 : k < 5 := nltN rfl (by decide) (by omega) c81
                refine x_aload_n h dX3_back_84 rfl ?_
                refine x_getr h (j := 84) g_X3_58 (mlt hn rfl) rfl (by decide) rfl dX3_back_85 ?_
                refine x_iload_n h dX3_back_88 rfl ?_
                refine x_aload_n h dX3_back_89 rfl ?_
                refine x_getr h (j := 86) g_X3_64 (mlt hn rfl) rfl (by decide) rfl dX3_back_90 ?_
                refine x_iload_n h dX3_back_93 rfl ?_
                refine x_iald h (mlt hn rfl) rfl (vp_in_nI (by omega) (by first | decide | omega)) (k) (nI_clamp (by omega)) dX3_back_94 ?_
                refine x_iast h (mlt hn rfl) rfl (vp_in_nI (by omega) (by first | decide | omega)) (k) (nI_clamp (by omega)) dX3_back_95 (fun J95 eJ95 => ?_)
                refine x_iinc h dX3_back_96 (by decide) rfl (nI (k + 1)) (nI_1 k) [some (.ref (xb G + 70)), some (.int (nI (k + 1))), none] rfl ?_
                refine x_goto h 79 dX3_back_99 rfl ?_
                exact ih (k + 1) J95 (by omega) (by omega) (by rw [eJ95, hK]; have z := cpy2_up (I := J) (a := 84) (o := 0) (b := 86) (p := 0) (c := k) (Or.inl (by decide)); rw [Nat.zero_add] at z; exact z)
          exact lp79 6 0 J (by decide) (by decide) cpy2_z.symm
        · skip
          have hkN : k < 31 := nltN rfl (by decide) (by omega) c15
          refine x_iload_n h dX3_back_18 rfl ?_
          refine x_bipush h dX3_back_19 (8) rfl ?_
          refine x_icmp_ge h 32 dX3_back_21 rfl (fun c21 => ?_) (fun c21 => ?_)
          · skip
            have hA : ¬ (k < 8 ∧ I 70 25 ≤ nI k) := fun q => absurd c21 (nI_ge q.1 (by decide))
            refine x_iload_n h dX3_back_32 rfl ?_
            refine x_bipush h dX3_back_33 (10) rfl ?_
            refine x_aload_n h dX3_back_35 rfl ?_
            refine x_geti h g_X3_345 (mlt hn rfl) rfl rfl dX3_back_36 ?_
            refine x_iadd h dX3_back_39 ?_
            refine x_icmp_lt h 53 dX3_back_40 rfl (fun c40 => ?_) (fun c40 => ?_)
            · skip
              have hsn : ¬ sinc (I 70 25) k := fun q => q.elim hA (fun z => absurd c40 (Int32.not_lt.mpr (by rw [h25]; exact z.1)))
              refine x_iconst h dX3_back_53 (0) rfl ?_
              refine x_istore_n h dX3_back_54 rfl (by decide) [some (.ref (xb G + 70)), some (.int (nI k)), some (.int 0)] rfl ?_
              refine x_iload_n h dX3_back_55 rfl ?_
              refine x_if_ne h 71 dX3_back_56 rfl (fun c56 => ?_) (fun c56 => ?_)
              · exact absurd c56 (by decide)
              · skip
                refine x_aload_n h dX3_back_59 rfl ?_
                refine x_getr h (j := 72) g_X3_22 (mlt hn rfl) rfl (by decide) rfl dX3_back_60 ?_
                refine x_iload_n h dX3_back_63 rfl ?_
                refine x_aload_n h dX3_back_64 rfl ?_
                refine x_getr h (j := 85) g_X3_61 (mlt hn rfl) rfl (by decide) rfl dX3_back_65 ?_
                refine x_iload_n h dX3_back_68 rfl ?_
                refine x_iald h (mlt hn rfl) rfl (vp_in_nI (by omega) (by first | decide | omega)) (k) (nI_clamp (by omega)) dX3_back_69 ?_
                refine x_iast h (mlt hn rfl) rfl (vp_in_nI (by omega) (by first | decide | omega)) (k) (nI_clamp (by omega)) dX3_back_70 (fun J70 eJ70 => ?_)
                refine x_iinc h dX3_back_71 (by decide) rfl (nI (k + 1)) (nI_1 k) [some (.ref (xb G + 70)), some (.int (nI (k + 1))), some (.int 0)] rfl ?_
                refine x_goto h 12 dX3_back_74 rfl ?_
                refine x_wk (lv := [some (.ref (xb G + 70)), some (.int (nI (k + 1))), none]) ?_ ⟨rfl, rfl, trivial⟩
                exact ih (k + 1) J70 (by omega) (by omega) (by first | (rw [eJ70]; exact since_a hJ hsn) | exact since_b hJ hsn)
            · skip
              have h40 : 10 + I 70 25 ≤ nI k := by rw [← h25]; exact Int32.not_lt.mp c40
              refine x_iload_n h dX3_back_43 rfl ?_
              refine x_bipush h dX3_back_44 (18) rfl ?_
              refine x_icmp_ge h 53 dX3_back_46 rfl (fun c46 => ?_) (fun c46 => ?_)
              · skip
                have hsn : ¬ sinc (I 70 25) k := fun q => q.elim hA (fun z => absurd c46 (nI_ge z.2 (by decide)))
                refine x_iconst h dX3_back_53 (0) rfl ?_
                refine x_istore_n h dX3_back_54 rfl (by decide) [some (.ref (xb G + 70)), some (.int (nI k)), some (.int 0)] rfl ?_
                refine x_iload_n h dX3_back_55 rfl ?_
                refine x_if_ne h 71 dX3_back_56 rfl (fun c56 => ?_) (fun c56 => ?_)
                · exact absurd c56 (by decide)
                · skip
                  refine x_aload_n h dX3_back_59 rfl ?_
                  refine x_getr h (j := 72) g_X3_22 (mlt hn rfl) rfl (by decide) rfl dX3_back_60 ?_
                  refine x_iload_n h dX3_back_63 rfl ?_
                  refine x_aload_n h dX3_back_64 rfl ?_
                  refine x_getr h (j := 85) g_X3_61 (mlt hn rfl) rfl (by decide) rfl dX3_back_65 ?_
                  refine x_iload_n h dX3_back_68 rfl ?_
                  refine x_iald h (mlt hn rfl) rfl (vp_in_nI (by omega) (by first | decide | omega)) (k) (nI_clamp (by omega)) dX3_back_69 ?_
                  refine x_iast h (mlt hn rfl) rfl (vp_in_nI (by omega) (by first | decide | omega)) (k) (nI_clamp (by omega)) dX3_back_70 (fun J70 eJ70 => ?_)
                  refine x_iinc h dX3_back_71 (by decide) rfl (nI (k + 1)) (nI_1 k) [some (.ref (xb G + 70)), some (.int (nI (k + 1))), some (.int 0)] rfl ?_
                  refine x_goto h 12 dX3_back_74 rfl ?_
                  refine x_wk (lv := [some (.ref (xb G + 70)), some (.int (nI (k + 1))), none]) ?_ ⟨rfl, rfl, trivial⟩
                  exact ih (k + 1) J70 (by omega) (by omega) (by first | (rw [eJ70]; exact since_a hJ hsn) | exact since_b hJ hsn)
              · skip
                have hsn : sinc (I 70 25) k := Or.inr ⟨h40, nltN (c := 18) rfl (by decide) (by omega) c46⟩
                refine x_iconst h dX3_back_49 (1) rfl ?_
                refine x_goto h 54 dX3_back_50 rfl ?_
                refine x_istore_n h dX3_back_54 rfl (by decide) [some (.ref (xb G + 70)), some (.int (nI k)), some (.int 1)] rfl ?_
                refine x_iload_n h dX3_back_55 rfl ?_
                refine x_if_ne h 71 dX3_back_56 rfl (fun c56 => ?_) (fun c56 => ?_)
                · skip
                  refine x_iinc h dX3_back_71 (by decide) rfl (nI (k + 1)) (nI_1 k) [some (.ref (xb G + 70)), some (.int (nI (k + 1))), some (.int 1)] rfl ?_
                  refine x_goto h 12 dX3_back_74 rfl ?_
                  refine x_wk (lv := [some (.ref (xb G + 70)), some (.int (nI (k + 1))), none]) ?_ ⟨rfl, rfl, trivial⟩
                  exact ih (k + 1) J (by omega) (by omega) (by first | (rw [eJ70]; exact since_a hJ hsn) | exact since_b hJ hsn)
                · exact absurd c56 (by decide)
          · skip
            have h8 : k < 8 := nltN (c := 8) rfl (by decide) (by omega) c21
            refine x_iload_n h dX3_back_24 rfl ?_
            refine x_aload_n h dX3_back_25 rfl ?_
            refine x_geti h g_X3_345 (mlt hn rfl) rfl rfl dX3_back_26 ?_
            refine x_icmp_ge h 49 dX3_back_29 rfl (fun c29 => ?_) (fun c29 => ?_)
            · skip
              have hsn : sinc (I 70 25) k := Or.inl ⟨h8, by rw [← h25]; exact c29⟩
              refine x_iconst h dX3_back_49 (1) rfl ?_
              refine x_goto h 54 dX3_back_50 rfl ?_
              refine x_istore_n h dX3_back_54 rfl (by decide) [some (.ref (xb G + 70)), some (.int (nI k)), some (.int 1)] rfl ?_
              refine x_iload_n h dX3_back_55 rfl ?_
              refine x_if_ne h 71 dX3_back_56 rfl (fun c56 => ?_) (fun c56 => ?_)
              · skip
                refine x_iinc h dX3_back_71 (by decide) rfl (nI (k + 1)) (nI_1 k) [some (.ref (xb G + 70)), some (.int (nI (k + 1))), some (.int 1)] rfl ?_
                refine x_goto h 12 dX3_back_74 rfl ?_
                refine x_wk (lv := [some (.ref (xb G + 70)), some (.int (nI (k + 1))), none]) ?_ ⟨rfl, rfl, trivial⟩
                exact ih (k + 1) J (by omega) (by omega) (by first | (rw [eJ70]; exact since_a hJ hsn) | exact since_b hJ hsn)
              · exact absurd c56 (by decide)
            · skip
              have hA : ¬ (k < 8 ∧ I 70 25 ≤ nI k) := fun q => c29 (by rw [h25]; exact q.2)
              refine x_iload_n h dX3_back_32 rfl ?_
              refine x_bipush h dX3_back_33 (10) rfl ?_
              refine x_aload_n h dX3_back_35 rfl ?_
              refine x_geti h g_X3_345 (mlt hn rfl) rfl rfl dX3_back_36 ?_
              refine x_iadd h dX3_back_39 ?_
              refine x_icmp_lt h 53 dX3_back_40 rfl (fun c40 => ?_) (fun c40 => ?_)
              · skip
                have hsn : ¬ sinc (I 70 25) k := fun q => q.elim hA (fun z => absurd c40 (Int32.not_lt.mpr (by rw [h25]; exact z.1)))
                refine x_iconst h dX3_back_53 (0) rfl ?_
                refine x_istore_n h dX3_back_54 rfl (by decide) [some (.ref (xb G + 70)), some (.int (nI k)), some (.int 0)] rfl ?_
                refine x_iload_n h dX3_back_55 rfl ?_
                refine x_if_ne h 71 dX3_back_56 rfl (fun c56 => ?_) (fun c56 => ?_)
                · exact absurd c56 (by decide)
                · skip
                  refine x_aload_n h dX3_back_59 rfl ?_
                  refine x_getr h (j := 72) g_X3_22 (mlt hn rfl) rfl (by decide) rfl dX3_back_60 ?_
                  refine x_iload_n h dX3_back_63 rfl ?_
                  refine x_aload_n h dX3_back_64 rfl ?_
                  refine x_getr h (j := 85) g_X3_61 (mlt hn rfl) rfl (by decide) rfl dX3_back_65 ?_
                  refine x_iload_n h dX3_back_68 rfl ?_
                  refine x_iald h (mlt hn rfl) rfl (vp_in_nI (by omega) (by first | decide | omega)) (k) (nI_clamp (by omega)) dX3_back_69 ?_
                  refine x_iast h (mlt hn rfl) rfl (vp_in_nI (by omega) (by first | decide | omega)) (k) (nI_clamp (by omega)) dX3_back_70 (fun J70 eJ70 => ?_)
                  refine x_iinc h dX3_back_71 (by decide) rfl (nI (k + 1)) (nI_1 k) [some (.ref (xb G + 70)), some (.int (nI (k + 1))), some (.int 0)] rfl ?_
                  refine x_goto h 12 dX3_back_74 rfl ?_
                  refine x_wk (lv := [some (.ref (xb G + 70)), some (.int (nI (k + 1))), none]) ?_ ⟨rfl, rfl, trivial⟩
                  exact ih (k + 1) J70 (by omega) (by omega) (by first | (rw [eJ70]; exact since_a hJ hsn) | exact since_b hJ hsn)
              · skip
                have h40 : 10 + I 70 25 ≤ nI k := by rw [← h25]; exact Int32.not_lt.mp c40
                refine x_iload_n h dX3_back_43 rfl ?_
                refine x_bipush h dX3_back_44 (18) rfl ?_
                refine x_icmp_ge h 53 dX3_back_46 rfl (fun c46 => ?_) (fun c46 => ?_)
                · skip
                  have hsn : ¬ sinc (I 70 25) k := fun q => q.elim hA (fun z => absurd c46 (nI_ge z.2 (by decide)))
                  refine x_iconst h dX3_back_53 (0) rfl ?_
                  refine x_istore_n h dX3_back_54 rfl (by decide) [some (.ref (xb G + 70)), some (.int (nI k)), some (.int 0)] rfl ?_
                  refine x_iload_n h dX3_back_55 rfl ?_
                  refine x_if_ne h 71 dX3_back_56 rfl (fun c56 => ?_) (fun c56 => ?_)
                  · exact absurd c56 (by decide)
                  · skip
                    refine x_aload_n h dX3_back_59 rfl ?_
                    refine x_getr h (j := 72) g_X3_22 (mlt hn rfl) rfl (by decide) rfl dX3_back_60 ?_
                    refine x_iload_n h dX3_back_63 rfl ?_
                    refine x_aload_n h dX3_back_64 rfl ?_
                    refine x_getr h (j := 85) g_X3_61 (mlt hn rfl) rfl (by decide) rfl dX3_back_65 ?_
                    refine x_iload_n h dX3_back_68 rfl ?_
                    refine x_iald h (mlt hn rfl) rfl (vp_in_nI (by omega) (by first | decide | omega)) (k) (nI_clamp (by omega)) dX3_back_69 ?_
                    refine x_iast h (mlt hn rfl) rfl (vp_in_nI (by omega) (by first | decide | omega)) (k) (nI_clamp (by omega)) dX3_back_70 (fun J70 eJ70 => ?_)
                    refine x_iinc h dX3_back_71 (by decide) rfl (nI (k + 1)) (nI_1 k) [some (.ref (xb G + 70)), some (.int (nI (k + 1))), some (.int 0)] rfl ?_
                    refine x_goto h 12 dX3_back_74 rfl ?_
                    refine x_wk (lv := [some (.ref (xb G + 70)), some (.int (nI (k + 1))), none]) ?_ ⟨rfl, rfl, trivial⟩
                    exact ih (k + 1) J70 (by omega) (by omega) (by first | (rw [eJ70]; exact since_a hJ hsn) | exact since_b hJ hsn)
                · skip
                  have hsn : sinc (I 70 25) k := Or.inr ⟨h40, nltN (c := 18) rfl (by decide) (by omega) c46⟩
                  refine x_iconst h dX3_back_49 (1) rfl ?_
                  refine x_goto h 54 dX3_back_50 rfl ?_
                  refine x_istore_n h dX3_back_54 rfl (by decide) [some (.ref (xb G + 70)), some (.int (nI k)), some (.int 1)] rfl ?_
                  refine x_iload_n h dX3_back_55 rfl ?_
                  refine x_if_ne h 71 dX3_back_56 rfl (fun c56 => ?_) (fun c56 => ?_)
                  · skip
                    refine x_iinc h dX3_back_71 (by decide) rfl (nI (k + 1)) (nI_1 k) [some (.ref (xb G + 70)), some (.int (nI (k + 1))), some (.int 1)] rfl ?_
                    refine x_goto h 12 dX3_back_74 rfl ?_
                    refine x_wk (lv := [some (.ref (xb G + 70)), some (.int (nI (k + 1))), none]) ?_ ⟨rfl, rfl, trivial⟩
                    exact ih (k + 1) J (by omega) (by omega) (by first | (rw [eJ70]; exact since_a hJ hsn) | exact since_b hJ hsn)
                  · exact absurd c56 (by decide)
    exact lp12 32 0 I (by decide) (by decide) backN_z.symm
  · skip
    refine x_bipush h dX3_back_7 (-5) rfl ?_
    exact x_iret h dX3_back_9 rfl (xpE.to (by unfold m_back; rw [if_pos c4]) (by unfold m_back; rw [if_pos c4]) rfl rfl)
