/-! WALKS OF THE REFERENCE: draws -/

set_option maxHeartbeats 4000000 in
theorem t_drawn (l : Launch) (G : xG_T) (n : Nat) (hn : 103 ≤ n) (I : xI_T) (L : xL_T) (sd : Int32) (nm : Int32) (o : Int32) (hT : Wtop I) : CM l 8 yX3_drawn cX3_drawn 8 (some .int) G n [.ref (xb G + 70), .int sd, .int nm, .int o] I L (some (.int ((m_drawn I sd nm o).1))) ((m_drawn I sd nm o).2) (L) := by
  refine Cg.intro (cls := RX3) (pad := 4) (lv := [some (.ref (xb G + 70)), some (.int sd), some (.int nm), some (.int o), none, none, none, none]) rfl (by decide) (Nat.le_of_ble_eq_true rfl) rfl (fun Θ h => ?_)
  have cut58 : ∀ (_u : Unit), (m_drawn I sd nm o = m_drawnB I sd nm o) → (¬ inR (nm / 10000) 1 30 = 0) → (¬ inR (irm (nm / 100) 100) 1 60 = 0) → (¬ o = -1 → vp_in o 8) → X Θ 0 0 n TyM I L FM 58 [some (.ref (xb G + 70)), some (.int sd), some (.int nm), some (.int o), none, none, none, none] [] := by
    intro _u hm hY hm6 ho
    refine x_aload_n h dX3_drawn_58 rfl ?_
    refine x_callVEv h (As := []) (t_begins l G n hn _ _  ) m_X3_267 (mlt hn rfl) rfl dX3_drawn_59 ⟨by decide, by decide⟩ ⟨by decide, by decide⟩ rfl (Nat.le_of_ble_eq_true rfl) ?_
    refine x_nmI (fun J59 eJ59 => ?_)
    refine x_iload_n h dX3_drawn_62 rfl ?_
    refine x_istore h dX3_drawn_63 (by decide) [some (.ref (xb G + 70)), some (.int sd), some (.int nm), some (.int o), some (.int sd), none, none, none] rfl ?_
    refine x_iconst h dX3_drawn_65 (0) rfl ?_
    refine x_istore h dX3_drawn_66 (by decide) [some (.ref (xb G + 70)), some (.int sd), some (.int nm), some (.int o), some (.int sd), some (.int 0), none, none] rfl ?_
    refine x_iconst h dX3_drawn_68 (0) rfl ?_
    refine x_istore h dX3_drawn_69 (by decide) [some (.ref (xb G + 70)), some (.int sd), some (.int nm), some (.int o), some (.int sd), some (.int 0), some (.int 0), none] rfl ?_
    obtain ⟨Y, hY1, hY3, hYe⟩ := inR_nat 1 30 hY rfl rfl (by decide)
    obtain ⟨m, hm1, hm3, hme⟩ := inR_nat 1 60 hm6 rfl rfl (by decide)
    obtain ⟨b, hb9, hb⟩ : ∃ b : Nat, b < 9 ∧ I 70 0 = nI b := vp_in_of hT.1.1 (by decide)
    have hb59 : J59 70 0 = nI b := by rw [eJ59, begins_o (by decide) (by decide) (by decide)]; exact hb
    have lp71 : ∀ (d : Nat) (k : Nat) (y : (Int32 × Int32) × xI_T), Y - k < d → (k ≤ Y) → (y = m_drGo2 (irm nm 100) o m k ((sd, 0), J59)) → (drD J59 y.2) → (b = 0 → k = 0) → X Θ 0 0 n TyM y.2 L FM 71 [some (.ref (xb G + 70)), some (.int sd), some (.int nm), some (.int o), some (.int y.1.1), some (.int y.1.2), some (.int (nI k)), none] [] := by
      intro d
      induction d with
      | zero =>
        intro k y hlt
        exact absurd hlt (Nat.not_lt_zero _)
      | succ d ih =>
        intro k y hlt hk hy hD hb0
        have h0 : y.2 70 0 = nI b := hD.2.2.1.trans hb59
        refine x_iload h dX3_drawn_71 rfl ?_
        refine x_iload_n h dX3_drawn_73 rfl ?_
        refine x_sipush h dX3_drawn_74 (10000) rfl ?_
        refine x_idiv h dX3_drawn_77 (by decide) ?_
        refine x_icmp_ge h 186 dX3_drawn_78 rfl (fun c78 => ?_) (fun c78 => ?_)
        · skip
          have hkY : k = Y := Nat.le_antisymm hk (nleN hYe (by omega) (by omega) c78)
          have hZ : m_drawnZ I sd nm o = y := by rw [hy, hkY, eJ59]; exact drZ_1 hb (Nat.pos_of_ne_zero (fun z => by have := hb0 z; omega)) hb9 hme (by omega) hYe (by omega)
          refine x_iload_n h dX3_drawn_186 rfl ?_
          refine x_iconst h dX3_drawn_187 (-1) rfl ?_
          refine x_icmp_ne h 198 dX3_drawn_188 rfl (fun c188 => ?_) (fun c188 => ?_)
          · skip
            refine x_iload h dX3_drawn_198 rfl ?_
            exact x_iret h dX3_drawn_200 rfl (xpE.to (by rw [hm]; unfold m_drawnB; rw [hZ]; first | (rw [if_neg c188]; done) | (rw [if_pos c188]; done)) (by rw [hm]; unfold m_drawnB; rw [hZ]) rfl rfl)
          · skip
            refine x_aload_n h dX3_drawn_191 rfl ?_
            refine x_geti h g_X3_241 (mlt hn rfl) rfl rfl dX3_drawn_192 ?_
            refine x_goto h 200 dX3_drawn_195 rfl ?_
            exact x_iret h dX3_drawn_200 rfl (xpE.to (by rw [hm]; unfold m_drawnB; rw [hZ]; first | (rw [if_neg c188]; done) | (rw [if_pos c188]; done)) (by rw [hm]; unfold m_drawnB; rw [hZ]) rfl rfl)
        · skip
          have hkY : k < Y := nltN hYe (by omega) (by omega) c78
          refine x_aload_n h dX3_drawn_81 rfl ?_
          refine x_geti h g_X3_116 (mlt hn rfl) rfl rfl dX3_drawn_82 ?_
          refine x_if_le h 186 dX3_drawn_85 rfl (fun c85 => ?_) (fun c85 => ?_)
          · skip
            have hbz : b = 0 := nI_le0 (by rw [← h0]; exact c85) (by omega)
            have hkz := hb0 hbz
            have hZ : m_drawnZ I sd nm o = y := by rw [hy, hkz, eJ59]; exact drZ_0 (by rw [hb, hbz]; decide)
            refine x_iload_n h dX3_drawn_186 rfl ?_
            refine x_iconst h dX3_drawn_187 (-1) rfl ?_
            refine x_icmp_ne h 198 dX3_drawn_188 rfl (fun c188 => ?_) (fun c188 => ?_)
            · skip
              refine x_iload h dX3_drawn_198 rfl ?_
              exact x_iret h dX3_drawn_200 rfl (xpE.to (by rw [hm]; unfold m_drawnB; rw [hZ]; first | (rw [if_neg c188]; done) | (rw [if_pos c188]; done)) (by rw [hm]; unfold m_drawnB; rw [hZ]) rfl rfl)
            · skip
              refine x_aload_n h dX3_drawn_191 rfl ?_
              refine x_geti h g_X3_241 (mlt hn rfl) rfl rfl dX3_drawn_192 ?_
              refine x_goto h 200 dX3_drawn_195 rfl ?_
              exact x_iret h dX3_drawn_200 rfl (xpE.to (by rw [hm]; unfold m_drawnB; rw [hZ]; first | (rw [if_neg c188]; done) | (rw [if_pos c188]; done)) (by rw [hm]; unfold m_drawnB; rw [hZ]) rfl rfl)
          · skip
            have hb1 : 0 < b := Nat.pos_of_ne_zero (fun z => c85 (by rw [h0, z]; decide))
            refine x_iconst h dX3_drawn_88 (0) rfl ?_
            refine x_istore h dX3_drawn_89 (by decide) [some (.ref (xb G + 70)), some (.int sd), some (.int nm), some (.int o), some (.int y.1.1), some (.int y.1.2), some (.int (nI k)), some (.int 0)] rfl ?_
            have ih0 := ih
            have hlt0 := hlt
            have lp91 : ∀ (d : Nat) (j : Nat) (x : Int32 × xI_T), m - j < d → (j ≤ m) → (x = m_drGo1 (irm nm 100) j (y.1.1, y.2)) → (drD J59 x.2) → X Θ 0 0 n TyM x.2 L FM 91 [some (.ref (xb G + 70)), some (.int sd), some (.int nm), some (.int o), some (.int x.1), some (.int y.1.2), some (.int (nI k)), some (.int (nI j))] [] := by
              intro d
              induction d with
              | zero =>
                intro j x hlt
                exact absurd hlt (Nat.not_lt_zero _)
              | succ d ih =>
                intro j x hlt hj hx hDx
                have h0x : x.2 70 0 = nI b := hDx.2.2.1.trans hb59
                refine x_iload h dX3_drawn_91 rfl ?_
                refine x_iload_n h dX3_drawn_93 rfl ?_
                refine x_bipush h dX3_drawn_94 (100) rfl ?_
                refine x_idiv h dX3_drawn_96 (by decide) ?_
                refine x_bipush h dX3_drawn_97 (100) rfl ?_
                refine x_irem h dX3_drawn_99 (by decide) ?_
                refine x_icmp_ge h 155 dX3_drawn_100 rfl (fun c100 => ?_) (fun c100 => ?_)
                · skip
                  have hjm : j = m := Nat.le_antisymm hj (nleN hme (by omega) (by omega) c100)
                  have hxm : x = m_drGo1 (irm nm 100) m (y.1.1, y.2) := by rw [← hjm]; exact hx
                  refine x_iload_n h dX3_drawn_155 rfl ?_
                  refine x_iconst h dX3_drawn_156 (-1) rfl ?_
                  refine x_icmp_eq h 171 dX3_drawn_157 rfl (fun c157 => ?_) (fun c157 => ?_)
                  · skip
                    refine x_aload_n h dX3_drawn_171 rfl ?_
                    refine x_aload_n h dX3_drawn_172 rfl ?_
                    refine x_getr h (j := 93) g_X3_86 (mlt hn rfl) rfl (by decide) rfl dX3_drawn_173 ?_
                    refine x_iconst h dX3_drawn_176 (0) rfl ?_
                    refine x_callVEv h (As := [.ref _, .int _]) (t_laysBack l G n hn _ _ 93 0 31 (Nat.le_of_ble_eq_true rfl) rfl (Nat.le_of_ble_eq_true rfl) (Nat.le_of_ble_eq_true rfl) (by decide)) m_X3_273 (mlt hn rfl) rfl dX3_drawn_177 ⟨by decide, by decide⟩ ⟨by decide, by decide⟩ rfl (Nat.le_of_ble_eq_true rfl) ?_
                    refine x_nmI (fun J177 eJ177 => ?_)
                    refine x_iinc h dX3_drawn_180 (by decide) rfl (nI (k + 1)) (nI_1 k) [some (.ref (xb G + 70)), some (.int sd), some (.int nm), some (.int o), some (.int x.1), some (.int y.1.2), some (.int (nI (k + 1))), some (.int (nI j))] rfl ?_
                    refine x_goto h 71 dX3_drawn_183 rfl ?_
                    refine x_wk (lv := [some (.ref (xb G + 70)), some (.int sd), some (.int nm), some (.int o), some (.int x.1), some (.int y.1.2), some (.int (nI (k + 1))), none]) ?_ ⟨rfl, rfl, rfl, rfl, rfl, rfl, rfl, trivial⟩
                    exact ih0 (k + 1) (((x.1), (y.1.2)), J177) (by omega) (by omega) (by rw [eJ177]; first | (rw [ev169]; exact (drGo2_b hy hxm c157).symm) | exact (drGo2_a hy hxm c157).symm) (by rw [eJ177]; exact hDx.lays eJ59 hT.1) (by omega)
                  · skip
                    refine x_iload h dX3_drawn_160 rfl ?_
                    refine x_aload_n h dX3_drawn_162 rfl ?_
                    refine x_getr h (j := 72) g_X3_22 (mlt hn rfl) rfl (by decide) rfl dX3_drawn_163 ?_
                    refine x_iload_n h dX3_drawn_166 rfl ?_
                    refine x_iald h (mlt hn rfl) rfl (xin_mono (ho c157) (by decide)) _ rfl dX3_drawn_167 ?_
                    refine x_iadd h dX3_drawn_168 ?_
                    refine x_nmi (fun v169 ev169 => ?_)
                    refine x_istore h dX3_drawn_169 (by decide) [some (.ref (xb G + 70)), some (.int sd), some (.int nm), some (.int o), some (.int x.1), some (.int v169), some (.int (nI k)), some (.int (nI j))] rfl ?_
                    refine x_aload_n h dX3_drawn_171 rfl ?_
                    refine x_aload_n h dX3_drawn_172 rfl ?_
                    refine x_getr h (j := 93) g_X3_86 (mlt hn rfl) rfl (by decide) rfl dX3_drawn_173 ?_
                    refine x_iconst h dX3_drawn_176 (0) rfl ?_
                    refine x_callVEv h (As := [.ref _, .int _]) (t_laysBack l G n hn _ _ 93 0 31 (Nat.le_of_ble_eq_true rfl) rfl (Nat.le_of_ble_eq_true rfl) (Nat.le_of_ble_eq_true rfl) (by decide)) m_X3_273 (mlt hn rfl) rfl dX3_drawn_177 ⟨by decide, by decide⟩ ⟨by decide, by decide⟩ rfl (Nat.le_of_ble_eq_true rfl) ?_
                    refine x_nmI (fun J177 eJ177 => ?_)
                    refine x_iinc h dX3_drawn_180 (by decide) rfl (nI (k + 1)) (nI_1 k) [some (.ref (xb G + 70)), some (.int sd), some (.int nm), some (.int o), some (.int x.1), some (.int v169), some (.int (nI (k + 1))), some (.int (nI j))] rfl ?_
                    refine x_goto h 71 dX3_drawn_183 rfl ?_
                    refine x_wk (lv := [some (.ref (xb G + 70)), some (.int sd), some (.int nm), some (.int o), some (.int x.1), some (.int v169), some (.int (nI (k + 1))), none]) ?_ ⟨rfl, rfl, rfl, rfl, rfl, rfl, rfl, trivial⟩
                    exact ih0 (k + 1) (((x.1), (v169)), J177) (by omega) (by omega) (by rw [eJ177]; first | (rw [ev169]; exact (drGo2_b hy hxm c157).symm) | exact (drGo2_a hy hxm c157).symm) (by rw [eJ177]; exact hDx.lays eJ59 hT.1) (by omega)
                · skip
                  have hjm : j < m := nltN hme (by omega) (by omega) c100
                  refine x_iload h dX3_drawn_103 rfl ?_
                  refine x_ldcw h dX3_drawn_105 q2127 ?_
                  refine x_imul h dX3_drawn_108 ?_
                  refine x_sipush h dX3_drawn_109 (12345) rfl ?_
                  refine x_iadd h dX3_drawn_112 ?_
                  refine x_nmi (fun v113 ev113 => ?_)
                  refine x_istore h dX3_drawn_113 (by decide) [some (.ref (xb G + 70)), some (.int sd), some (.int nm), some (.int o), some (.int v113), some (.int y.1.2), some (.int (nI k)), some (.int (nI j))] rfl ?_
                  refine x_iload h dX3_drawn_115 rfl ?_
                  refine x_bipush h dX3_drawn_117 (16) rfl ?_
                  refine x_iushr h dX3_drawn_119 ?_
                  refine x_bipush h dX3_drawn_120 (12) rfl ?_
                  refine x_irem h dX3_drawn_122 (by decide) ?_
                  refine x_iload_n h dX3_drawn_123 rfl ?_
                  refine x_bipush h dX3_drawn_124 (100) rfl ?_
                  refine x_irem h dX3_drawn_126 (by decide) ?_
                  refine x_icmp_ge h 134 dX3_drawn_127 rfl (fun c127 => ?_) (fun c127 => ?_)
                  · skip
                    have n127 : ¬ irm (ush v113 16) 12 < irm nm 100 := Int32.not_lt.mpr c127
                    refine x_aload_n h dX3_drawn_134 rfl ?_
                    refine x_iload h dX3_drawn_135 rfl ?_
                    refine x_bipush h dX3_drawn_137 (8) rfl ?_
                    refine x_iushr h dX3_drawn_139 ?_
                    refine x_aload_n h dX3_drawn_140 rfl ?_
                    refine x_geti h g_X3_116 (mlt hn rfl) rfl rfl dX3_drawn_141 ?_
                    refine x_eqi (nI b) (by first | exact h0x | (rw [eJ131, ends_o (by omega)]; exact h0x)) ?_
                    refine x_irem h dX3_drawn_144 (nI_ne0 hb1 (by omega)) ?_
                    refine x_callVEi h (As := [.int _]) (t_goesIn l G n hn _ _ _ (drw_in hb1 hb9) (by first | (rw [eJ131]; exact hDx.ends.1) | exact hDx.1) (by first | (rw [eJ131]; exact hDx.ends.2.1) | exact hDx.2.1)) m_X3_260 (mlt hn rfl) rfl dX3_drawn_145 ⟨by decide, by decide⟩ ⟨by decide, by decide⟩ rfl (Nat.le_of_ble_eq_true rfl) ?_
                    refine x_nmI (fun J145 eJ145 => ?_)
                    refine x_pop h dX3_drawn_148 rfl ?_
                    refine x_iinc h dX3_drawn_149 (by decide) rfl (nI (j + 1)) (nI_1 j) [some (.ref (xb G + 70)), some (.int sd), some (.int nm), some (.int o), some (.int v113), some (.int y.1.2), some (.int (nI k)), some (.int (nI (j + 1)))] rfl ?_
                    refine x_goto h 91 dX3_drawn_152 rfl ?_
                    exact ih (j + 1) ((v113), J145) (by omega) (by omega) (by first | (rw [drGo1_a hx ev113 n127, h0x, eJ145, eJ131]; rfl) | (rw [drGo1_b hx ev113 n127, h0x, eJ145]; rfl)) (by first | (rw [eJ145, eJ131]; exact hDx.ends.goes (drw_in hb1 hb9)) | (rw [eJ145]; exact hDx.goes (drw_in hb1 hb9)))
                  · skip
                    have n127 : irm (ush v113 16) 12 < irm nm 100 := Int32.not_le.mp c127
                    refine x_aload_n h dX3_drawn_130 rfl ?_
                    refine x_callVEv h (As := []) (t_ends l G n hn _ _  ) m_X3_282 (mlt hn rfl) rfl dX3_drawn_131 ⟨by decide, by decide⟩ ⟨by decide, by decide⟩ rfl (Nat.le_of_ble_eq_true rfl) ?_
                    refine x_nmI (fun J131 eJ131 => ?_)
                    refine x_aload_n h dX3_drawn_134 rfl ?_
                    refine x_iload h dX3_drawn_135 rfl ?_
                    refine x_bipush h dX3_drawn_137 (8) rfl ?_
                    refine x_iushr h dX3_drawn_139 ?_
                    refine x_aload_n h dX3_drawn_140 rfl ?_
                    refine x_geti h g_X3_116 (mlt hn rfl) rfl rfl dX3_drawn_141 ?_
                    refine x_eqi (nI b) (by first | exact h0x | (rw [eJ131, ends_o (by omega)]; exact h0x)) ?_
                    refine x_irem h dX3_drawn_144 (nI_ne0 hb1 (by omega)) ?_
                    refine x_callVEi h (As := [.int _]) (t_goesIn l G n hn _ _ _ (drw_in hb1 hb9) (by first | (rw [eJ131]; exact hDx.ends.1) | exact hDx.1) (by first | (rw [eJ131]; exact hDx.ends.2.1) | exact hDx.2.1)) m_X3_260 (mlt hn rfl) rfl dX3_drawn_145 ⟨by decide, by decide⟩ ⟨by decide, by decide⟩ rfl (Nat.le_of_ble_eq_true rfl) ?_
                    refine x_nmI (fun J145 eJ145 => ?_)
                    refine x_pop h dX3_drawn_148 rfl ?_
                    refine x_iinc h dX3_drawn_149 (by decide) rfl (nI (j + 1)) (nI_1 j) [some (.ref (xb G + 70)), some (.int sd), some (.int nm), some (.int o), some (.int v113), some (.int y.1.2), some (.int (nI k)), some (.int (nI (j + 1)))] rfl ?_
                    refine x_goto h 91 dX3_drawn_152 rfl ?_
                    exact ih (j + 1) ((v113), J145) (by omega) (by omega) (by first | (rw [drGo1_a hx ev113 n127, h0x, eJ145, eJ131]; rfl) | (rw [drGo1_b hx ev113 n127, h0x, eJ145]; rfl)) (by first | (rw [eJ145, eJ131]; exact hDx.ends.goes (drw_in hb1 hb9)) | (rw [eJ145]; exact hDx.goes (drw_in hb1 hb9)))
            exact lp91 (m + 1) 0 (y.1.1, y.2) (by omega) (by omega) rfl hD
    exact lp71 (Y + 1) 0 ((sd, 0), J59) (by omega) (by omega) rfl (drD.begins eJ59 hT.1 hT.2) (fun _ => rfl)
  refine x_iload_n h dX3_drawn_0 rfl ?_
  refine x_if_lt h 56 dX3_drawn_1 rfl (fun c1 => ?_) (fun c1 => ?_)
  · skip
    refine x_iconst h dX3_drawn_56 (-1) rfl ?_
    exact x_iret h dX3_drawn_57 rfl (xpE.to (by unfold m_drawn; first | rw [if_pos c1] | rw [if_neg c1, if_pos c15] | rw [if_neg c1, if_neg c15, if_pos d31] | rw [if_neg c1, if_neg c15, if_neg d31, if_pos d40] | rw [if_neg c1, if_neg c15, if_neg d31, if_neg d40, if_pos ⟨c45, c53⟩]) (by unfold m_drawn; first | rw [if_pos c1] | rw [if_neg c1, if_pos c15] | rw [if_neg c1, if_neg c15, if_pos d31] | rw [if_neg c1, if_neg c15, if_neg d31, if_pos d40] | rw [if_neg c1, if_neg c15, if_neg d31, if_neg d40, if_pos ⟨c45, c53⟩]) rfl rfl)
  · skip
    refine x_iload_n h dX3_drawn_4 rfl ?_
    refine x_sipush h dX3_drawn_5 (10000) rfl ?_
    refine x_idiv h dX3_drawn_8 (by decide) ?_
    refine x_iconst h dX3_drawn_9 (1) rfl ?_
    refine x_bipush h dX3_drawn_10 (30) rfl ?_
    refine x_callSEi h (As := [.int _, .int _, .int _]) (t_within l G n hn _ _ _ _ _ ) m_X3_119 dX3_drawn_12 ⟨by decide, by decide⟩ ⟨by decide, by decide⟩ rfl (Nat.le_of_ble_eq_true rfl) ?_
    refine x_if_eq h 56 dX3_drawn_15 rfl (fun c15 => ?_) (fun c15 => ?_)
    · skip
      refine x_iconst h dX3_drawn_56 (-1) rfl ?_
      exact x_iret h dX3_drawn_57 rfl (xpE.to (by unfold m_drawn; first | rw [if_pos c1] | rw [if_neg c1, if_pos c15] | rw [if_neg c1, if_neg c15, if_pos d31] | rw [if_neg c1, if_neg c15, if_neg d31, if_pos d40] | rw [if_neg c1, if_neg c15, if_neg d31, if_neg d40, if_pos ⟨c45, c53⟩]) (by unfold m_drawn; first | rw [if_pos c1] | rw [if_neg c1, if_pos c15] | rw [if_neg c1, if_neg c15, if_pos d31] | rw [if_neg c1, if_neg c15, if_neg d31, if_pos d40] | rw [if_neg c1, if_neg c15, if_neg d31, if_neg d40, if_pos ⟨c45, c53⟩]) rfl rfl)
    · skip
      refine x_iload_n h dX3_drawn_18 rfl ?_
      refine x_bipush h dX3_drawn_19 (100) rfl ?_
      refine x_idiv h dX3_drawn_21 (by decide) ?_
      refine x_bipush h dX3_drawn_22 (100) rfl ?_
      refine x_irem h dX3_drawn_24 (by decide) ?_
      refine x_iconst h dX3_drawn_25 (1) rfl ?_
      refine x_bipush h dX3_drawn_26 (60) rfl ?_
      refine x_callSEi h (As := [.int _, .int _, .int _]) (t_within l G n hn _ _ _ _ _ ) m_X3_119 dX3_drawn_28 ⟨by decide, by decide⟩ ⟨by decide, by decide⟩ rfl (Nat.le_of_ble_eq_true rfl) ?_
      refine x_if_eq h 56 dX3_drawn_31 rfl (fun c31 => ?_) (fun c31 => ?_)
      · skip
        have d31 : inR (irm (nm / 100) 100) 1 60 = 0 := c31
        refine x_iconst h dX3_drawn_56 (-1) rfl ?_
        exact x_iret h dX3_drawn_57 rfl (xpE.to (by unfold m_drawn; first | rw [if_pos c1] | rw [if_neg c1, if_pos c15] | rw [if_neg c1, if_neg c15, if_pos d31] | rw [if_neg c1, if_neg c15, if_neg d31, if_pos d40] | rw [if_neg c1, if_neg c15, if_neg d31, if_neg d40, if_pos ⟨c45, c53⟩]) (by unfold m_drawn; first | rw [if_pos c1] | rw [if_neg c1, if_pos c15] | rw [if_neg c1, if_neg c15, if_pos d31] | rw [if_neg c1, if_neg c15, if_neg d31, if_pos d40] | rw [if_neg c1, if_neg c15, if_neg d31, if_neg d40, if_pos ⟨c45, c53⟩]) rfl rfl)
      · skip
        have d31 : ¬ inR (irm (nm / 100) 100) 1 60 = 0 := c31
        refine x_iload_n h dX3_drawn_34 rfl ?_
        refine x_bipush h dX3_drawn_35 (100) rfl ?_
        refine x_irem h dX3_drawn_37 (by decide) ?_
        refine x_bipush h dX3_drawn_38 (12) rfl ?_
        refine x_icmp_gt h 56 dX3_drawn_40 rfl (fun c40 => ?_) (fun c40 => ?_)
        · skip
          have d40 : 12 < irm nm 100 := c40
          refine x_iconst h dX3_drawn_56 (-1) rfl ?_
          exact x_iret h dX3_drawn_57 rfl (xpE.to (by unfold m_drawn; first | rw [if_pos c1] | rw [if_neg c1, if_pos c15] | rw [if_neg c1, if_neg c15, if_pos d31] | rw [if_neg c1, if_neg c15, if_neg d31, if_pos d40] | rw [if_neg c1, if_neg c15, if_neg d31, if_neg d40, if_pos ⟨c45, c53⟩]) (by unfold m_drawn; first | rw [if_pos c1] | rw [if_neg c1, if_pos c15] | rw [if_neg c1, if_neg c15, if_pos d31] | rw [if_neg c1, if_neg c15, if_neg d31, if_pos d40] | rw [if_neg c1, if_neg c15, if_neg d31, if_neg d40, if_pos ⟨c45, c53⟩]) rfl rfl)
        · skip
          have d40 : ¬ 12 < irm nm 100 := c40
          refine x_iload_n h dX3_drawn_43 rfl ?_
          refine x_iconst h dX3_drawn_44 (-1) rfl ?_
          refine x_icmp_eq h 58 dX3_drawn_45 rfl (fun c45 => ?_) (fun c45 => ?_)
          · skip
            have hz1 : ¬ (¬ o = -1 ∧ m_isB I o = 0) := fun q => q.1 c45
            have hz2 : ¬ o = -1 → vp_in o 8 := fun q => absurd c45 q
            exact cut58 () (by unfold m_drawn; rw [if_neg c1, if_neg c15, if_neg d31, if_neg d40, if_neg hz1]; rfl) c15 d31 hz2
          · skip
            refine x_aload_n h dX3_drawn_48 rfl ?_
            refine x_iload_n h dX3_drawn_49 rfl ?_
            refine x_callVEi h (As := [.int _]) (t_isBuyer l G n hn _ _ _ ) m_X3_137 (mlt hn rfl) rfl dX3_drawn_50 ⟨by decide, by decide⟩ ⟨by decide, by decide⟩ rfl (Nat.le_of_ble_eq_true rfl) ?_
            refine x_if_ne h 58 dX3_drawn_53 rfl (fun c53 => ?_) (fun c53 => ?_)
            · skip
              have hz1 : ¬ (¬ o = -1 ∧ m_isB I o = 0) := fun q => c53 q.2
              have hz2 : ¬ o = -1 → vp_in o 8 := fun _ => isB_in hT.1.1 c53
              exact cut58 () (by unfold m_drawn; rw [if_neg c1, if_neg c15, if_neg d31, if_neg d40, if_neg hz1]; rfl) c15 d31 hz2
            · skip
              refine x_iconst h dX3_drawn_56 (-1) rfl ?_
              exact x_iret h dX3_drawn_57 rfl (xpE.to (by unfold m_drawn; first | rw [if_pos c1] | rw [if_neg c1, if_pos c15] | rw [if_neg c1, if_neg c15, if_pos d31] | rw [if_neg c1, if_neg c15, if_neg d31, if_pos d40] | rw [if_neg c1, if_neg c15, if_neg d31, if_neg d40, if_pos ⟨c45, c53⟩]) (by unfold m_drawn; first | rw [if_pos c1] | rw [if_neg c1, if_pos c15] | rw [if_neg c1, if_neg c15, if_pos d31] | rw [if_neg c1, if_neg c15, if_neg d31, if_pos d40] | rw [if_neg c1, if_neg c15, if_neg d31, if_neg d40, if_pos ⟨c45, c53⟩]) rfl rfl)
