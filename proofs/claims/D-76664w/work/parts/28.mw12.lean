/-! WALKS OF THE REFERENCE: hired, latch -/
theorem m_X3_294 : xcv RX3 294 3 yX3_swaps cX3_swaps 3 (none) 1 := ⟨_, _, _, rfl, lw_V q2049 q2051 qs80 q102 q2052, rfl, by decide +kernel, by decide +kernel, by decide +kernel⟩
set_option maxHeartbeats 4000000 in
theorem t_hired (l : Launch) (G : xG_T) (n : Nat) (hn : 103 ≤ n) (I : xI_T) (L : xL_T) (s : Int32) (p : Int32) (o : Int32) (w : Int32) (hT : Wtop I) : CM l 7 yX3_hired cX3_hired 10 (some .int) G n [.ref (xb G + 70), .int s, .int p, .int o, .int w] I L (some (.int ((m_hired I L s p o w).1))) ((m_hired I L s p o w).2) (L) := by
  refine Cg.intro (cls := RX3) (pad := 5) (lv := [some (.ref (xb G + 70)), some (.int s), some (.int p), some (.int o), some (.int w), none, none, none, none, none]) rfl (by decide) (Nat.le_of_ble_eq_true rfl) rfl (fun Θ h => ?_)
  have cut31 : ∀ (_u : Unit), (m_hired I L s p o w = m_hiredB I L s p o w) → (vp_in s 6) → (¬ p < 0) → (vp_in o 8) → X Θ 0 0 n TyM I L FM 31 [some (.ref (xb G + 70)), some (.int s), some (.int p), some (.int o), some (.int w), none, none, none, none, none] [] := by
    intro _u hm hs hp0 ho
    refine x_aload_n h dX3_hired_31 rfl ?_
    refine x_iload_n h dX3_hired_32 rfl ?_
    refine x_callVEi h (As := [.int _]) (t_noBytes l G n hn _ _ _ hs) m_X3_276 (mlt hn rfl) rfl dX3_hired_33 ⟨by decide, by decide⟩ ⟨by decide, by decide⟩ rfl (Nat.le_of_ble_eq_true rfl) ?_
    refine x_nmi (fun v36 ev36 => ?_)
    refine x_istore h dX3_hired_36 (by decide) [some (.ref (xb G + 70)), some (.int s), some (.int p), some (.int o), some (.int w), some (.int v36), none, none, none, none] rfl ?_
    refine x_iload h dX3_hired_38 rfl ?_
    refine x_if_ge h 46 dX3_hired_40 rfl (fun c40 => ?_) (fun c40 => ?_)
    · skip
      have n40 := Int32.not_lt.mpr c40
      refine x_aload_n h dX3_hired_46 rfl ?_
      refine x_iload_n h dX3_hired_47 rfl ?_
      refine x_callVEv h (As := [.int _]) (t_reads l G n hn _ _ _ hs hT.1.1) m_X3_279 (mlt hn rfl) rfl dX3_hired_48 ⟨by decide, by decide⟩ ⟨by decide, by decide⟩ rfl (Nat.le_of_ble_eq_true rfl) ?_
      refine x_nmI (fun J48 eJ48 => ?_)
      refine x_iload_n h dX3_hired_51 rfl ?_
      refine x_aload_n h dX3_hired_52 rfl ?_
      refine x_geti h g_X3_257 (mlt hn rfl) rfl rfl dX3_hired_53 ?_
      refine x_icmp_le h 61 dX3_hired_56 rfl (fun c56 => ?_) (fun c56 => ?_)
      · skip
        have n56 := Int32.not_lt.mpr c56
        refine x_aload_n h dX3_hired_61 rfl ?_
        refine x_geti h g_X3_257 (mlt hn rfl) rfl rfl dX3_hired_62 ?_
        refine x_bipush h dX3_hired_65 (20) rfl ?_
        refine x_icmp_ne h 73 dX3_hired_67 rfl (fun c67 => ?_) (fun c67 => ?_)
        · skip
          obtain ⟨z, hz20, hz⟩ : ∃ z : Nat, z < 20 ∧ J48 70 45 = nI z := len_20 (by rw [eJ48]; exact hT.reads.2.2.1) c67
          refine x_iconst h dX3_hired_73 (0) rfl ?_
          refine x_istore h dX3_hired_74 (by decide) [some (.ref (xb G + 70)), some (.int s), some (.int p), some (.int o), some (.int w), some (.int v36), some (.int 0), none, none, none] rfl ?_
          refine x_iconst h dX3_hired_76 (-1) rfl ?_
          refine x_istore h dX3_hired_77 (by decide) [some (.ref (xb G + 70)), some (.int s), some (.int p), some (.int o), some (.int w), some (.int v36), some (.int 0), some (.int (-1)), none, none] rfl ?_
          refine x_iconst h dX3_hired_79 (0) rfl ?_
          refine x_istore h dX3_hired_80 (by decide) [some (.ref (xb G + 70)), some (.int s), some (.int p), some (.int o), some (.int w), some (.int v36), some (.int 0), some (.int (-1)), some (.int 0), none] rfl ?_
          obtain ⟨p2, hp2, rfl⟩ := place_z hp0 c56 hz hz20
          obtain ⟨b, hb9, hb⟩ : ∃ b : Nat, b < 9 ∧ J48 70 0 = nI b := vp_in_of (by rw [eJ48]; exact hT.reads.1.1) (by decide)
          have lp82 : ∀ (d : Nat) (k : Nat) (y : (Int32 × Int32) × xI_T), b - k < d → (k ≤ b) → (y = m_hirGo p2 o k ((0, -1), J48)) → (Wall y.2) → (y.2 70 45 = nI z) → (y.2 70 0 = nI b) → X Θ 0 0 n TyM y.2 L FM 82 [some (.ref (xb G + 70)), some (.int s), some (.int (nI p2)), some (.int o), some (.int w), some (.int v36), some (.int y.1.1), some (.int y.1.2), some (.int (nI k)), none] [] := by
            intro d
            induction d with
            | zero =>
              intro k y hlt
              exact absurd hlt (Nat.not_lt_zero _)
            | succ d ih =>
              intro k y hlt hk hy hA h45 h0
              have hw8 : k < b → vp_in (nI k) 8 := fun q => vp_in_nI (by omega) (by decide)
              refine x_iload h dX3_hired_82 rfl ?_
              refine x_aload_n h dX3_hired_84 rfl ?_
              refine x_geti h g_X3_116 (mlt hn rfl) rfl rfl dX3_hired_85 ?_
              refine x_icmp_ge h 134 dX3_hired_88 rfl (fun c88 => ?_) (fun c88 => ?_)
              · skip
                have hkb : k = b := Nat.le_antisymm hk (nleN h0 (by omega) (by omega) c88)
                have hB : m_hiredB I L s (nI p2) o w = m_pick2 w y := by unfold m_hiredB; rw [if_neg (by rw [← ev36]; exact n40), ← eJ48, if_neg n56, if_neg c67, hb, ix_n (by omega), ix_n (by omega), hy, hkb]
                refine x_iload h dX3_hired_134 rfl ?_
                refine x_if_ne h 144 dX3_hired_136 rfl (fun c136 => ?_) (fun c136 => ?_)
                · skip
                  refine x_iload h dX3_hired_144 rfl ?_
                  exact x_iret h dX3_hired_146 rfl (xpE.to (by rw [hm, hB]; unfold m_pick2; first | rw [if_pos c136] | rw [if_neg c136]) (by rw [hm, hB]; rfl) rfl rfl)
                · skip
                  refine x_iload h dX3_hired_139 rfl ?_
                  refine x_goto h 146 dX3_hired_141 rfl ?_
                  exact x_iret h dX3_hired_146 rfl (xpE.to (by rw [hm, hB]; unfold m_pick2; first | rw [if_pos c136] | rw [if_neg c136]) (by rw [hm, hB]; rfl) rfl rfl)
              · skip
                have hkb : k < b := nltN h0 (by omega) (by omega) c88
                refine x_aload_n h dX3_hired_91 rfl ?_
                refine x_iload_n h dX3_hired_92 rfl ?_
                refine x_iload h dX3_hired_93 rfl ?_
                refine x_callVEv h (As := [.int _, .int _]) (t_puts l G n hn _ _ p2 _ z h45 hp2 hz20) m_X3_284 (mlt hn rfl) rfl dX3_hired_95 ⟨by decide, by decide⟩ ⟨by decide, by decide⟩ rfl (Nat.le_of_ble_eq_true rfl) ?_
                refine x_nmI (fun J95 eJ95 => ?_)
                refine x_aload_n h dX3_hired_98 rfl ?_
                refine x_iload_n h dX3_hired_99 rfl ?_
                refine x_callVEi h (As := [.int _]) (t_purseBehind l G n hn _ _ _ (by rw [eJ95]; exact hA.puts h45 hp2 hz20 (hw8 hkb)) ho) m_X3_288 (mlt hn rfl) rfl dX3_hired_100 ⟨by decide, by decide⟩ ⟨by decide, by decide⟩ rfl (Nat.le_of_ble_eq_true rfl) ?_
                refine x_nmI (fun J100 eJ100 => ?_)
                refine x_nmi (fun v103 ev103 => ?_)
                refine x_istore h dX3_hired_103 (by decide) [some (.ref (xb G + 70)), some (.int s), some (.int (nI p2)), some (.int o), some (.int w), some (.int v36), some (.int y.1.1), some (.int y.1.2), some (.int (nI k)), some (.int v103)] rfl ?_
                refine x_aload_n h dX3_hired_105 rfl ?_
                refine x_iload_n h dX3_hired_106 rfl ?_
                refine x_callVEv h (As := [.int _]) (t_takes l G n hn _ _ p2 z (by rw [eJ100, pursB_o (gz3_70 (Or.inr (by decide))) (by decide), eJ95, puts_45, h45, nI_1]; exact nI_pred z) hp2 hz20) m_X3_291 (mlt hn rfl) rfl dX3_hired_107 ⟨by decide, by decide⟩ ⟨by decide, by decide⟩ rfl (Nat.le_of_ble_eq_true rfl) ?_
                refine x_nmI (fun J107 eJ107 => ?_)
                have ht : m_try y.2 p2 (nI k) o = (v103, J107) := by rw [eJ107, eJ100, ev103, eJ95]; rfl
                refine x_iload h dX3_hired_110 rfl ?_
                refine x_iload h dX3_hired_112 rfl ?_
                refine x_icmp_gt h 120 dX3_hired_114 rfl (fun c114 => ?_) (fun c114 => ?_)
                · skip
                  have n114 := Int32.not_le.mpr c114
                  refine x_iload h dX3_hired_120 rfl ?_
                  refine x_istore h dX3_hired_122 (by decide) [some (.ref (xb G + 70)), some (.int s), some (.int (nI p2)), some (.int o), some (.int w), some (.int v36), some (.int y.1.1), some (.int v103), some (.int (nI k)), some (.int v103)] rfl ?_
                  refine x_iload h dX3_hired_124 rfl ?_
                  refine x_istore h dX3_hired_126 (by decide) [some (.ref (xb G + 70)), some (.int s), some (.int (nI p2)), some (.int o), some (.int w), some (.int v36), some (.int (nI k)), some (.int v103), some (.int (nI k)), some (.int v103)] rfl ?_
                  refine x_iinc h dX3_hired_128 (by decide) rfl (nI (k + 1)) (nI_1 k) [some (.ref (xb G + 70)), some (.int s), some (.int (nI p2)), some (.int o), some (.int w), some (.int v36), some (.int (nI k)), some (.int v103), some (.int (nI (k + 1))), some (.int v103)] rfl ?_
                  refine x_goto h 82 dX3_hired_131 rfl ?_
                  refine x_wk (lv := [some (.ref (xb G + 70)), some (.int s), some (.int (nI p2)), some (.int o), some (.int w), some (.int v36), some (.int (nI k)), some (.int v103), some (.int (nI (k + 1))), none]) ?_ ⟨rfl, rfl, rfl, rfl, rfl, rfl, rfl, rfl, rfl, trivial⟩
                  exact ih (k + 1) ((((nI k)), (v103)), J107) (by omega) (by omega) (by show _ = (m_better (m_hirGo p2 o k ((0, -1), J48)).1 (nI k) (m_try (m_hirGo p2 o k ((0, -1), J48)).2 p2 (nI k) o).1, (m_try (m_hirGo p2 o k ((0, -1), J48)).2 p2 (nI k) o).2); rw [← hy, ht]; first | (rw [better_1 n114]; done) | (rw [better_2 n114]; done)) (by have q := (try_W (w := nI k) (o := o) hA h45 hp2 hz20 (hw8 hkb)).1; rw [ht] at q; exact q) (by have q := (try_W (w := nI k) (o := o) hA h45 hp2 hz20 (hw8 hkb)).2.1; rw [ht] at q; exact q) (by have q := (try_W (w := nI k) (o := o) hA h45 hp2 hz20 (hw8 hkb)).2.2; rw [ht] at q; exact q.trans h0)
                · skip
                  have n114 := Int32.not_lt.mp c114
                  refine x_goto h 128 dX3_hired_117 rfl ?_
                  refine x_iinc h dX3_hired_128 (by decide) rfl (nI (k + 1)) (nI_1 k) [some (.ref (xb G + 70)), some (.int s), some (.int (nI p2)), some (.int o), some (.int w), some (.int v36), some (.int y.1.1), some (.int y.1.2), some (.int (nI (k + 1))), some (.int v103)] rfl ?_
                  refine x_goto h 82 dX3_hired_131 rfl ?_
                  refine x_wk (lv := [some (.ref (xb G + 70)), some (.int s), some (.int (nI p2)), some (.int o), some (.int w), some (.int v36), some (.int y.1.1), some (.int y.1.2), some (.int (nI (k + 1))), none]) ?_ ⟨rfl, rfl, rfl, rfl, rfl, rfl, rfl, rfl, rfl, trivial⟩
                  exact ih (k + 1) (((y.1.1), (y.1.2)), J107) (by omega) (by omega) (by show _ = (m_better (m_hirGo p2 o k ((0, -1), J48)).1 (nI k) (m_try (m_hirGo p2 o k ((0, -1), J48)).2 p2 (nI k) o).1, (m_try (m_hirGo p2 o k ((0, -1), J48)).2 p2 (nI k) o).2); rw [← hy, ht]; first | (rw [better_1 n114]; done) | (rw [better_2 n114]; done)) (by have q := (try_W (w := nI k) (o := o) hA h45 hp2 hz20 (hw8 hkb)).1; rw [ht] at q; exact q) (by have q := (try_W (w := nI k) (o := o) hA h45 hp2 hz20 (hw8 hkb)).2.1; rw [ht] at q; exact q) (by have q := (try_W (w := nI k) (o := o) hA h45 hp2 hz20 (hw8 hkb)).2.2; rw [ht] at q; exact q.trans h0)
          exact lp82 (b + 1) 0 ((0, -1), J48) (by omega) (by omega) rfl (by rw [eJ48]; exact hT.reads) hz hb
        · skip
          refine x_bipush h dX3_hired_70 (-5) rfl ?_
          exact x_iret h dX3_hired_72 rfl (xpE.to (by rw [hm]; unfold m_hiredB; rw [if_neg (by rw [← ev36]; exact n40), ← eJ48, if_neg n56, if_pos c67]) (by rw [hm]; unfold m_hiredB; rw [if_neg (by rw [← ev36]; exact n40), ← eJ48, if_neg n56, if_pos c67]) rfl rfl)
      · skip
        have n56 := Int32.not_le.mp c56
        refine x_iconst h dX3_hired_59 (-1) rfl ?_
        exact x_iret h dX3_hired_60 rfl (xpE.to (by rw [hm]; unfold m_hiredB; rw [if_neg (by rw [← ev36]; exact n40), ← eJ48, if_pos n56]) (by rw [hm]; unfold m_hiredB; rw [if_neg (by rw [← ev36]; exact n40), ← eJ48, if_pos n56]) rfl rfl)
    · skip
      have n40 := Int32.not_le.mp c40
      refine x_iload h dX3_hired_43 rfl ?_
      exact x_iret h dX3_hired_45 rfl (xpE.to (by rw [hm]; unfold m_hiredB; rw [if_pos (by rw [← ev36]; exact n40), ev36]) (by rw [hm]; unfold m_hiredB; rw [if_pos (by rw [← ev36]; exact n40)]) rfl rfl)
  refine x_iload_n h dX3_hired_0 rfl ?_
  refine x_callSEi h (As := [.int _]) (t_isShelf l G n hn _ _ _ ) m_X3_127 dX3_hired_1 ⟨by decide, by decide⟩ ⟨by decide, by decide⟩ rfl (Nat.le_of_ble_eq_true rfl) ?_
  refine x_if_eq h 29 dX3_hired_4 rfl (fun c4 => ?_) (fun c4 => ?_)
  · skip
    refine x_iconst h dX3_hired_29 (-1) rfl ?_
    exact x_iret h dX3_hired_30 rfl (xpE.to (by subst_vars; first | with_reducible rfl | (simp only [m_hired, *]; done) | (simp only [m_hired, ix, *]; rfl) | (simp [m_hired, ix, up2_ap, bec_k, bec_i, *]; done)) (by subst_vars; first | with_reducible rfl | (simp only [m_hired, *]; done) | (simp only [m_hired, ix, *]; rfl) | (simp [m_hired, ix, up2_ap, bec_k, bec_i, *]; done)) rfl rfl)
  · skip
    refine x_iload_n h dX3_hired_7 rfl ?_
    refine x_if_lt h 29 dX3_hired_8 rfl (fun c8 => ?_) (fun c8 => ?_)
    · skip
      refine x_iconst h dX3_hired_29 (-1) rfl ?_
      exact x_iret h dX3_hired_30 rfl (xpE.to (by subst_vars; first | with_reducible rfl | (simp only [m_hired, *]; done) | (simp only [m_hired, ix, *]; rfl) | (simp [m_hired, ix, up2_ap, bec_k, bec_i, *]; done)) (by subst_vars; first | with_reducible rfl | (simp only [m_hired, *]; done) | (simp only [m_hired, ix, *]; rfl) | (simp [m_hired, ix, up2_ap, bec_k, bec_i, *]; done)) rfl rfl)
    · skip
      refine x_aload_n h dX3_hired_11 rfl ?_
      refine x_iload_n h dX3_hired_12 rfl ?_
      refine x_callVEi h (As := [.int _]) (t_isBuyer l G n hn _ _ _ ) m_X3_137 (mlt hn rfl) rfl dX3_hired_13 ⟨by decide, by decide⟩ ⟨by decide, by decide⟩ rfl (Nat.le_of_ble_eq_true rfl) ?_
      refine x_if_eq h 29 dX3_hired_16 rfl (fun c16 => ?_) (fun c16 => ?_)
      · skip
        refine x_iconst h dX3_hired_29 (-1) rfl ?_
        exact x_iret h dX3_hired_30 rfl (xpE.to (by subst_vars; first | with_reducible rfl | (simp only [m_hired, *]; done) | (simp only [m_hired, ix, *]; rfl) | (simp [m_hired, ix, up2_ap, bec_k, bec_i, *]; done)) (by subst_vars; first | with_reducible rfl | (simp only [m_hired, *]; done) | (simp only [m_hired, ix, *]; rfl) | (simp [m_hired, ix, up2_ap, bec_k, bec_i, *]; done)) rfl rfl)
      · skip
        refine x_iload h dX3_hired_19 rfl ?_
        refine x_iconst h dX3_hired_21 (0) rfl ?_
        refine x_iconst h dX3_hired_22 (1) rfl ?_
        refine x_callSEi h (As := [.int _, .int _, .int _]) (t_within l G n hn _ _ _ _ _ ) m_X3_119 dX3_hired_23 ⟨by decide, by decide⟩ ⟨by decide, by decide⟩ rfl (Nat.le_of_ble_eq_true rfl) ?_
        refine x_if_ne h 31 dX3_hired_26 rfl (fun c26 => ?_) (fun c26 => ?_)
        · skip
          exact cut31 () (by unfold m_hired; rw [if_neg c4, if_neg c8, if_neg c16, if_neg c26]; rfl) (inR_s c4) c8 (isB_in hT.1.1 c16)
        · skip
          refine x_iconst h dX3_hired_29 (-1) rfl ?_
          exact x_iret h dX3_hired_30 rfl (xpE.to (by subst_vars; first | with_reducible rfl | (simp only [m_hired, *]; done) | (simp only [m_hired, ix, *]; rfl) | (simp [m_hired, ix, up2_ap, bec_k, bec_i, *]; done)) (by subst_vars; first | with_reducible rfl | (simp only [m_hired, *]; done) | (simp only [m_hired, ix, *]; rfl) | (simp [m_hired, ix, up2_ap, bec_k, bec_i, *]; done)) rfl rfl)
set_option maxHeartbeats 4000000 in
theorem t_latch (l : Launch) (G : xG_T) (n : Nat) (hn : 103 ≤ n) (I : xI_T) (L : xL_T) (s : Int32) (o : Int32) (w : Int32) (hT : Wtop I) : CM l 7 yX3_latch cX3_latch 9 (some .int) G n [.ref (xb G + 70), .int s, .int o, .int w] I L (some (.int ((m_latch I L s o w).1))) ((m_latch I L s o w).2) (L) := by
  refine Cg.intro (cls := RX3) (pad := 5) (lv := [some (.ref (xb G + 70)), some (.int s), some (.int o), some (.int w), none, none, none, none, none]) rfl (by decide) (Nat.le_of_ble_eq_true rfl) rfl (fun Θ h => ?_)
  have cut26 : ∀ (_u : Unit), (m_latch I L s o w = m_latchB I L s o w) → (vp_in s 6) → (vp_in o 8) → X Θ 0 0 n TyM I L FM 26 [some (.ref (xb G + 70)), some (.int s), some (.int o), some (.int w), none, none, none, none, none] [] := by
    intro _u hm hs ho
    refine x_aload_n h dX3_latch_26 rfl ?_
    refine x_iload_n h dX3_latch_27 rfl ?_
    refine x_callVEi h (As := [.int _]) (t_noBytes l G n hn _ _ _ hs) m_X3_276 (mlt hn rfl) rfl dX3_latch_28 ⟨by decide, by decide⟩ ⟨by decide, by decide⟩ rfl (Nat.le_of_ble_eq_true rfl) ?_
    refine x_nmi (fun v31 ev31 => ?_)
    refine x_istore h dX3_latch_31 (by decide) [some (.ref (xb G + 70)), some (.int s), some (.int o), some (.int w), some (.int v31), none, none, none, none] rfl ?_
    refine x_iload h dX3_latch_33 rfl ?_
    refine x_if_ge h 41 dX3_latch_35 rfl (fun c35 => ?_) (fun c35 => ?_)
    · skip
      have n35 := Int32.not_lt.mpr c35
      refine x_aload_n h dX3_latch_41 rfl ?_
      refine x_iload_n h dX3_latch_42 rfl ?_
      refine x_callVEv h (As := [.int _]) (t_reads l G n hn _ _ _ hs hT.1.1) m_X3_279 (mlt hn rfl) rfl dX3_latch_43 ⟨by decide, by decide⟩ ⟨by decide, by decide⟩ rfl (Nat.le_of_ble_eq_true rfl) ?_
      refine x_nmI (fun J43 eJ43 => ?_)
      refine x_bipush h dX3_latch_46 (-2) rfl ?_
      refine x_istore h dX3_latch_48 (by decide) [some (.ref (xb G + 70)), some (.int s), some (.int o), some (.int w), some (.int v31), some (.int (-2)), none, none, none] rfl ?_
      refine x_aload_n h dX3_latch_50 rfl ?_
      refine x_iload_n h dX3_latch_51 rfl ?_
      refine x_callVEi h (As := [.int _]) (t_purseBehind l G n hn _ _ _ (by rw [eJ43]; exact hT.reads) ho) m_X3_288 (mlt hn rfl) rfl dX3_latch_52 ⟨by decide, by decide⟩ ⟨by decide, by decide⟩ rfl (Nat.le_of_ble_eq_true rfl) ?_
      refine x_nmI (fun J52 eJ52 => ?_)
      refine x_nmi (fun v55 ev55 => ?_)
      refine x_istore h dX3_latch_55 (by decide) [some (.ref (xb G + 70)), some (.int s), some (.int o), some (.int w), some (.int v31), some (.int (-2)), some (.int v55), none, none] rfl ?_
      refine x_iconst h dX3_latch_57 (0) rfl ?_
      refine x_istore h dX3_latch_58 (by decide) [some (.ref (xb G + 70)), some (.int s), some (.int o), some (.int w), some (.int v31), some (.int (-2)), some (.int v55), some (.int 0), none] rfl ?_
      have hA0 : Wall J52 := by rw [eJ52, eJ43]; exact hT.reads.pursB
      obtain ⟨z, hz, ez⟩ : ∃ z : Nat, z < 21 ∧ J52 70 45 = nI z := vp_in_of hA0.2.2.1 (by decide)
      have lp60 : ∀ (d : Nat) (k : Nat) (y : (Int32 × Int32) × xI_T), z - k < d → (k ≤ z - 1) → (y = m_latGo o k ((-2, v55), J52)) → (Wall y.2) → (y.2 70 45 = nI z) → X Θ 0 0 n TyM y.2 L FM 60 [some (.ref (xb G + 70)), some (.int s), some (.int o), some (.int w), some (.int v31), some (.int y.1.1), some (.int y.1.2), some (.int (nI k)), none] [] := by
        intro d
        induction d with
        | zero =>
          intro k y hlt
          exact absurd hlt (Nat.not_lt_zero _)
        | succ d ih =>
          intro k y hlt hk hy hA h45
          refine x_iload h dX3_latch_60 rfl ?_
          refine x_iconst h dX3_latch_62 (1) rfl ?_
          refine x_iaddE h (nI (k + 1)) (nI_add k 1) dX3_latch_63 ?_
          refine x_aload_n h dX3_latch_64 rfl ?_
          refine x_geti h g_X3_257 (mlt hn rfl) rfl rfl dX3_latch_65 ?_
          refine x_icmp_ge h 114 dX3_latch_68 rfl (fun c68 => ?_) (fun c68 => ?_)
          · skip
            have hkz : z ≤ k + 1 := nleN h45 (by omega) (by omega) c68
            have hB : m_latchB I L s o w = m_pick2 w y := by unfold m_latchB; rw [if_neg (by rw [← ev31]; exact n35), ← eJ43, ← ev55, ← eJ52, ez, ix_n (by omega), hy, show z - 1 = k by omega]
            refine x_iload_n h dX3_latch_114 rfl ?_
            refine x_if_ne h 123 dX3_latch_115 rfl (fun c115 => ?_) (fun c115 => ?_)
            · skip
              refine x_iload h dX3_latch_123 rfl ?_
              exact x_iret h dX3_latch_125 rfl (xpE.to (by rw [hm, hB]; unfold m_pick2; first | rw [if_pos c115] | rw [if_neg c115]) (by rw [hm, hB]; rfl) rfl rfl)
            · skip
              refine x_iload h dX3_latch_118 rfl ?_
              refine x_goto h 125 dX3_latch_120 rfl ?_
              exact x_iret h dX3_latch_125 rfl (xpE.to (by rw [hm, hB]; unfold m_pick2; first | rw [if_pos c115] | rw [if_neg c115]) (by rw [hm, hB]; rfl) rfl rfl)
          · skip
            have hkz : k + 1 < z := nltN h45 (by omega) (by omega) c68
            refine x_aload_n h dX3_latch_71 rfl ?_
            refine x_iload h dX3_latch_72 rfl ?_
            refine x_callVEv h (As := [.int _]) (t_swaps l G n hn _ _ k (by omega)) m_X3_294 (mlt hn rfl) rfl dX3_latch_74 ⟨by decide, by decide⟩ ⟨by decide, by decide⟩ rfl (Nat.le_of_ble_eq_true rfl) ?_
            refine x_nmI (fun J74 eJ74 => ?_)
            refine x_aload_n h dX3_latch_77 rfl ?_
            refine x_iload_n h dX3_latch_78 rfl ?_
            refine x_callVEi h (As := [.int _]) (t_purseBehind l G n hn _ _ _ (by rw [eJ74]; exact hA.swaps h45 (by omega) hkz) ho) m_X3_288 (mlt hn rfl) rfl dX3_latch_79 ⟨by decide, by decide⟩ ⟨by decide, by decide⟩ rfl (Nat.le_of_ble_eq_true rfl) ?_
            refine x_nmI (fun J79 eJ79 => ?_)
            have hA79 : Wall J79 := by rw [eJ79, eJ74]; exact (hA.swaps h45 (by omega) hkz).pursB
            have h79 : J79 70 45 = nI z := by rw [eJ79, pursB_o (gz3_70 (Or.inr (by decide))) (by decide), eJ74, swaps_i (by decide)]; exact h45
            refine x_nmi (fun v82 ev82 => ?_)
            refine x_istore h dX3_latch_82 (by decide) [some (.ref (xb G + 70)), some (.int s), some (.int o), some (.int w), some (.int v31), some (.int y.1.1), some (.int y.1.2), some (.int (nI k)), some (.int v82)] rfl ?_
            refine x_aload_n h dX3_latch_84 rfl ?_
            refine x_iload h dX3_latch_85 rfl ?_
            refine x_callVEv h (As := [.int _]) (t_swaps l G n hn _ _ k (by omega)) m_X3_294 (mlt hn rfl) rfl dX3_latch_87 ⟨by decide, by decide⟩ ⟨by decide, by decide⟩ rfl (Nat.le_of_ble_eq_true rfl) ?_
            refine x_nmI (fun J87 eJ87 => ?_)
            refine x_iload h dX3_latch_90 rfl ?_
            refine x_iload h dX3_latch_92 rfl ?_
            refine x_icmp_gt h 100 dX3_latch_94 rfl (fun c94 => ?_) (fun c94 => ?_)
            · skip
              have n94 := Int32.not_le.mpr c94
              refine x_iload h dX3_latch_100 rfl ?_
              refine x_istore h dX3_latch_102 (by decide) [some (.ref (xb G + 70)), some (.int s), some (.int o), some (.int w), some (.int v31), some (.int y.1.1), some (.int v82), some (.int (nI k)), some (.int v82)] rfl ?_
              refine x_iload h dX3_latch_104 rfl ?_
              refine x_istore h dX3_latch_106 (by decide) [some (.ref (xb G + 70)), some (.int s), some (.int o), some (.int w), some (.int v31), some (.int (nI k)), some (.int v82), some (.int (nI k)), some (.int v82)] rfl ?_
              refine x_iinc h dX3_latch_108 (by decide) rfl (nI (k + 1)) (nI_1 k) [some (.ref (xb G + 70)), some (.int s), some (.int o), some (.int w), some (.int v31), some (.int (nI k)), some (.int v82), some (.int (nI (k + 1))), some (.int v82)] rfl ?_
              refine x_goto h 60 dX3_latch_111 rfl ?_
              refine x_wk (lv := [some (.ref (xb G + 70)), some (.int s), some (.int o), some (.int w), some (.int v31), some (.int (nI k)), some (.int v82), some (.int (nI (k + 1))), none]) ?_ ⟨rfl, rfl, rfl, rfl, rfl, rfl, rfl, rfl, trivial⟩
              exact ih (k + 1) ((((nI k)), (v82)), J87) (by omega) (by omega) (by show _ = (m_better (m_latGo o k ((-2, v55), J52)).1 (nI k) (m_pursB (m_swaps (m_latGo o k ((-2, v55), J52)).2 k) o).1, m_swaps (m_pursB (m_swaps (m_latGo o k ((-2, v55), J52)).2 k) o).2 k); rw [← hy, ← eJ74, ← ev82, ← eJ79, ← eJ87]; first | (rw [better_1 n94]; done) | (rw [better_2 n94]; done)) (by rw [eJ87]; exact hA79.swaps h79 (by omega) hkz) (by show J87 70 45 = nI z; rw [eJ87, swaps_i (by decide)]; exact h79)
            · skip
              have n94 := Int32.not_lt.mp c94
              refine x_goto h 108 dX3_latch_97 rfl ?_
              refine x_iinc h dX3_latch_108 (by decide) rfl (nI (k + 1)) (nI_1 k) [some (.ref (xb G + 70)), some (.int s), some (.int o), some (.int w), some (.int v31), some (.int y.1.1), some (.int y.1.2), some (.int (nI (k + 1))), some (.int v82)] rfl ?_
              refine x_goto h 60 dX3_latch_111 rfl ?_
              refine x_wk (lv := [some (.ref (xb G + 70)), some (.int s), some (.int o), some (.int w), some (.int v31), some (.int y.1.1), some (.int y.1.2), some (.int (nI (k + 1))), none]) ?_ ⟨rfl, rfl, rfl, rfl, rfl, rfl, rfl, rfl, trivial⟩
              exact ih (k + 1) (((y.1.1), (y.1.2)), J87) (by omega) (by omega) (by show _ = (m_better (m_latGo o k ((-2, v55), J52)).1 (nI k) (m_pursB (m_swaps (m_latGo o k ((-2, v55), J52)).2 k) o).1, m_swaps (m_pursB (m_swaps (m_latGo o k ((-2, v55), J52)).2 k) o).2 k); rw [← hy, ← eJ74, ← ev82, ← eJ79, ← eJ87]; first | (rw [better_1 n94]; done) | (rw [better_2 n94]; done)) (by rw [eJ87]; exact hA79.swaps h79 (by omega) hkz) (by show J87 70 45 = nI z; rw [eJ87, swaps_i (by decide)]; exact h79)
      exact lp60 (z + 1) 0 ((-2, v55), J52) (by omega) (by omega) rfl hA0 ez
    · skip
      have n35 := Int32.not_le.mp c35
      refine x_iload h dX3_latch_38 rfl ?_
      exact x_iret h dX3_latch_40 rfl (xpE.to (by rw [hm]; unfold m_latchB; rw [if_pos (by rw [← ev31]; exact n35), ev31]) (by rw [hm]; unfold m_latchB; rw [if_pos (by rw [← ev31]; exact n35)]) rfl rfl)
  refine x_iload_n h dX3_latch_0 rfl ?_
  refine x_callSEi h (As := [.int _]) (t_isShelf l G n hn _ _ _ ) m_X3_127 dX3_latch_1 ⟨by decide, by decide⟩ ⟨by decide, by decide⟩ rfl (Nat.le_of_ble_eq_true rfl) ?_
  refine x_if_eq h 24 dX3_latch_4 rfl (fun c4 => ?_) (fun c4 => ?_)
  · skip
    refine x_iconst h dX3_latch_24 (-1) rfl ?_
    exact x_iret h dX3_latch_25 rfl (xpE.to (by subst_vars; first | with_reducible rfl | (simp only [m_latch, *]; done) | (simp only [m_latch, ix, *]; rfl) | (simp [m_latch, ix, up2_ap, bec_k, bec_i, *]; done)) (by subst_vars; first | with_reducible rfl | (simp only [m_latch, *]; done) | (simp only [m_latch, ix, *]; rfl) | (simp [m_latch, ix, up2_ap, bec_k, bec_i, *]; done)) rfl rfl)
  · skip
    refine x_aload_n h dX3_latch_7 rfl ?_
    refine x_iload_n h dX3_latch_8 rfl ?_
    refine x_callVEi h (As := [.int _]) (t_isBuyer l G n hn _ _ _ ) m_X3_137 (mlt hn rfl) rfl dX3_latch_9 ⟨by decide, by decide⟩ ⟨by decide, by decide⟩ rfl (Nat.le_of_ble_eq_true rfl) ?_
    refine x_if_eq h 24 dX3_latch_12 rfl (fun c12 => ?_) (fun c12 => ?_)
    · skip
      refine x_iconst h dX3_latch_24 (-1) rfl ?_
      exact x_iret h dX3_latch_25 rfl (xpE.to (by subst_vars; first | with_reducible rfl | (simp only [m_latch, *]; done) | (simp only [m_latch, ix, *]; rfl) | (simp [m_latch, ix, up2_ap, bec_k, bec_i, *]; done)) (by subst_vars; first | with_reducible rfl | (simp only [m_latch, *]; done) | (simp only [m_latch, ix, *]; rfl) | (simp [m_latch, ix, up2_ap, bec_k, bec_i, *]; done)) rfl rfl)
    · skip
      refine x_iload_n h dX3_latch_15 rfl ?_
      refine x_iconst h dX3_latch_16 (0) rfl ?_
      refine x_iconst h dX3_latch_17 (1) rfl ?_
      refine x_callSEi h (As := [.int _, .int _, .int _]) (t_within l G n hn _ _ _ _ _ ) m_X3_119 dX3_latch_18 ⟨by decide, by decide⟩ ⟨by decide, by decide⟩ rfl (Nat.le_of_ble_eq_true rfl) ?_
      refine x_if_ne h 26 dX3_latch_21 rfl (fun c21 => ?_) (fun c21 => ?_)
      · skip
        exact cut26 () (by unfold m_latch; rw [if_neg c4, if_neg c12, if_neg c21]; rfl) (inR_s c4) (isB_in hT.1.1 c12)
      · skip
        refine x_iconst h dX3_latch_24 (-1) rfl ?_
        exact x_iret h dX3_latch_25 rfl (xpE.to (by subst_vars; first | with_reducible rfl | (simp only [m_latch, *]; done) | (simp only [m_latch, ix, *]; rfl) | (simp [m_latch, ix, up2_ap, bec_k, bec_i, *]; done)) (by subst_vars; first | with_reducible rfl | (simp only [m_latch, *]; done) | (simp only [m_latch, ix, *]; rfl) | (simp [m_latch, ix, up2_ap, bec_k, bec_i, *]; done)) rfl rfl)
