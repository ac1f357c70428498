/-! WALKS OF THE REFERENCE: tries -/
theorem m_X3_284 : xcv RX3 284 3 yX3_puts cX3_puts 4 (none) 2 := ⟨_, _, _, rfl, lw_V q2029 q2031 qs77 q102 q2032, rfl, by decide +kernel, by decide +kernel, by decide +kernel⟩
theorem m_X3_291 : xcv RX3 291 3 yX3_takes cX3_takes 3 (none) 1 := ⟨_, _, _, rfl, lw_V q2037 q2039 qs79 q102 q2040, rfl, by decide +kernel, by decide +kernel, by decide +kernel⟩
set_option maxHeartbeats 4000000 in
theorem t_onceMore (l : Launch) (G : xG_T) (n : Nat) (hn : 103 ≤ n) (I : xI_T) (L : xL_T) (s : Int32) (o : Int32) (w : Int32) (hT : Wtop I) : CM l 7 yX3_onceMore cX3_onceMore 10 (some .int) G n [.ref (xb G + 70), .int s, .int o, .int w] I L (some (.int ((m_once I L s o w).1))) ((m_once I L s o w).2) (L) := by
  refine Cg.intro (cls := RX3) (pad := 6) (lv := [some (.ref (xb G + 70)), some (.int s), some (.int o), some (.int w), none, none, none, none, none, none]) rfl (by decide) (Nat.le_of_ble_eq_true rfl) rfl (fun Θ h => ?_)
  have cut26 : ∀ (_u : Unit), (m_once I L s o w = m_onceB I L s o w) → (vp_in s 6) → (vp_in o 8) → X Θ 0 0 n TyM I L FM 26 [some (.ref (xb G + 70)), some (.int s), some (.int o), some (.int w), none, none, none, none, none, none] [] := by
    intro _u hm hs ho
    refine x_aload_n h dX3_onceMore_26 rfl ?_
    refine x_iload_n h dX3_onceMore_27 rfl ?_
    refine x_callVEi h (As := [.int _]) (t_noBytes l G n hn _ _ _ hs) m_X3_276 (mlt hn rfl) rfl dX3_onceMore_28 ⟨by decide, by decide⟩ ⟨by decide, by decide⟩ rfl (Nat.le_of_ble_eq_true rfl) ?_
    refine x_nmi (fun v31 ev31 => ?_)
    refine x_istore h dX3_onceMore_31 (by decide) [some (.ref (xb G + 70)), some (.int s), some (.int o), some (.int w), some (.int v31), none, none, none, none, none] rfl ?_
    refine x_iload h dX3_onceMore_33 rfl ?_
    refine x_if_ge h 41 dX3_onceMore_35 rfl (fun c35 => ?_) (fun c35 => ?_)
    · skip
      have n35 := Int32.not_lt.mpr c35
      refine x_aload_n h dX3_onceMore_41 rfl ?_
      refine x_iload_n h dX3_onceMore_42 rfl ?_
      refine x_callVEv h (As := [.int _]) (t_reads l G n hn _ _ _ hs hT.1.1) m_X3_279 (mlt hn rfl) rfl dX3_onceMore_43 ⟨by decide, by decide⟩ ⟨by decide, by decide⟩ rfl (Nat.le_of_ble_eq_true rfl) ?_
      refine x_nmI (fun J43 eJ43 => ?_)
      refine x_aload_n h dX3_onceMore_46 rfl ?_
      refine x_geti h g_X3_257 (mlt hn rfl) rfl rfl dX3_onceMore_47 ?_
      refine x_bipush h dX3_onceMore_50 (20) rfl ?_
      refine x_icmp_ne h 58 dX3_onceMore_52 rfl (fun c52 => ?_) (fun c52 => ?_)
      · skip
        obtain ⟨z, hz20, hz⟩ : ∃ z : Nat, z < 20 ∧ J43 70 45 = nI z := len_20 (by rw [eJ43]; exact hT.reads.2.2.1) c52
        refine x_iconst h dX3_onceMore_58 (0) rfl ?_
        refine x_istore h dX3_onceMore_59 (by decide) [some (.ref (xb G + 70)), some (.int s), some (.int o), some (.int w), some (.int v31), some (.int 0), none, none, none, none] rfl ?_
        refine x_iconst h dX3_onceMore_61 (-1) rfl ?_
        refine x_istore h dX3_onceMore_62 (by decide) [some (.ref (xb G + 70)), some (.int s), some (.int o), some (.int w), some (.int v31), some (.int 0), some (.int (-1)), none, none, none] rfl ?_
        refine x_aload_n h dX3_onceMore_64 rfl ?_
        refine x_geti h g_X3_257 (mlt hn rfl) rfl rfl dX3_onceMore_65 ?_
        refine x_nmi (fun v68 ev68 => ?_)
        refine x_istore h dX3_onceMore_68 (by decide) [some (.ref (xb G + 70)), some (.int s), some (.int o), some (.int w), some (.int v31), some (.int 0), some (.int (-1)), some (.int v68), none, none] rfl ?_
        refine x_iconst h dX3_onceMore_70 (0) rfl ?_
        refine x_istore h dX3_onceMore_71 (by decide) [some (.ref (xb G + 70)), some (.int s), some (.int o), some (.int w), some (.int v31), some (.int 0), some (.int (-1)), some (.int v68), some (.int 0), none] rfl ?_
        obtain rfl : v68 = nI z := by rw [ev68]; exact hz
        have lp73 : ∀ (d : Nat) (k : Nat) (y : (Int32 × Int32) × xI_T), z + 1 - k < d → (k ≤ z + 1) → (y = m_onceGo o k ((0, -1), J43)) → (Wall y.2) → (y.2 70 45 = nI z) → X Θ 0 0 n TyM y.2 L FM 73 [some (.ref (xb G + 70)), some (.int s), some (.int o), some (.int w), some (.int v31), some (.int y.1.1), some (.int y.1.2), some (.int (nI z)), some (.int (nI k)), none] [] := by
          intro d
          induction d with
          | zero =>
            intro k y hlt
            exact absurd hlt (Nat.not_lt_zero _)
          | succ d ih =>
            intro k y hlt hk hy hA h45
            refine x_iload h dX3_onceMore_73 rfl ?_
            refine x_iload h dX3_onceMore_75 rfl ?_
            refine x_icmp_gt h 124 dX3_onceMore_77 rfl (fun c77 => ?_) (fun c77 => ?_)
            · skip
              have hkz : k = z + 1 := Nat.le_antisymm hk ((nI_ltI (by omega) (by omega)).mp c77)
              have hB : m_onceB I L s o w = m_pick2 w y := by unfold m_onceB; rw [if_neg (by rw [← ev31]; exact n35), ← eJ43, if_neg c52, hz, ix_n (by omega), hy, hkz]
              refine x_iload_n h dX3_onceMore_124 rfl ?_
              refine x_if_ne h 133 dX3_onceMore_125 rfl (fun c125 => ?_) (fun c125 => ?_)
              · skip
                refine x_iload h dX3_onceMore_133 rfl ?_
                exact x_iret h dX3_onceMore_135 rfl (xpE.to (by rw [hm, hB]; unfold m_pick2; first | rw [if_pos c125] | rw [if_neg c125]) (by rw [hm, hB]; rfl) rfl rfl)
              · skip
                refine x_iload h dX3_onceMore_128 rfl ?_
                refine x_goto h 135 dX3_onceMore_130 rfl ?_
                exact x_iret h dX3_onceMore_135 rfl (xpE.to (by rw [hm, hB]; unfold m_pick2; first | rw [if_pos c125] | rw [if_neg c125]) (by rw [hm, hB]; rfl) rfl rfl)
            · skip
              have hkz : k ≤ z := Nat.not_lt.mp fun q => c77 (nI_lt q (by omega))
              refine x_aload_n h dX3_onceMore_80 rfl ?_
              refine x_iload h dX3_onceMore_81 rfl ?_
              refine x_iload_n h dX3_onceMore_83 rfl ?_
              refine x_callVEv h (As := [.int _, .int _]) (t_puts l G n hn _ _ k _ z h45 hkz hz20) m_X3_284 (mlt hn rfl) rfl dX3_onceMore_84 ⟨by decide, by decide⟩ ⟨by decide, by decide⟩ rfl (Nat.le_of_ble_eq_true rfl) ?_
              refine x_nmI (fun J84 eJ84 => ?_)
              refine x_aload_n h dX3_onceMore_87 rfl ?_
              refine x_iload_n h dX3_onceMore_88 rfl ?_
              refine x_callVEi h (As := [.int _]) (t_purseBehind l G n hn _ _ _ (by rw [eJ84]; exact hA.puts h45 hkz hz20 ho) ho) m_X3_288 (mlt hn rfl) rfl dX3_onceMore_89 ⟨by decide, by decide⟩ ⟨by decide, by decide⟩ rfl (Nat.le_of_ble_eq_true rfl) ?_
              refine x_nmI (fun J89 eJ89 => ?_)
              refine x_nmi (fun v92 ev92 => ?_)
              refine x_istore h dX3_onceMore_92 (by decide) [some (.ref (xb G + 70)), some (.int s), some (.int o), some (.int w), some (.int v31), some (.int y.1.1), some (.int y.1.2), some (.int (nI z)), some (.int (nI k)), some (.int v92)] rfl ?_
              refine x_aload_n h dX3_onceMore_94 rfl ?_
              refine x_iload h dX3_onceMore_95 rfl ?_
              refine x_callVEv h (As := [.int _]) (t_takes l G n hn _ _ k z (by rw [eJ89, pursB_o (gz3_70 (Or.inr (by decide))) (by decide), eJ84, puts_45, h45, nI_1]; exact nI_pred z) hkz hz20) m_X3_291 (mlt hn rfl) rfl dX3_onceMore_97 ⟨by decide, by decide⟩ ⟨by decide, by decide⟩ rfl (Nat.le_of_ble_eq_true rfl) ?_
              refine x_nmI (fun J97 eJ97 => ?_)
              have ht : m_try y.2 k o o = (v92, J97) := by rw [eJ97, eJ89, ev92, eJ84]; rfl
              refine x_iload h dX3_onceMore_100 rfl ?_
              refine x_iload h dX3_onceMore_102 rfl ?_
              refine x_icmp_gt h 110 dX3_onceMore_104 rfl (fun c104 => ?_) (fun c104 => ?_)
              · skip
                have n104 := Int32.not_le.mpr c104
                refine x_iload h dX3_onceMore_110 rfl ?_
                refine x_istore h dX3_onceMore_112 (by decide) [some (.ref (xb G + 70)), some (.int s), some (.int o), some (.int w), some (.int v31), some (.int y.1.1), some (.int v92), some (.int (nI z)), some (.int (nI k)), some (.int v92)] rfl ?_
                refine x_iload h dX3_onceMore_114 rfl ?_
                refine x_istore h dX3_onceMore_116 (by decide) [some (.ref (xb G + 70)), some (.int s), some (.int o), some (.int w), some (.int v31), some (.int (nI k)), some (.int v92), some (.int (nI z)), some (.int (nI k)), some (.int v92)] rfl ?_
                refine x_iinc h dX3_onceMore_118 (by decide) rfl (nI (k + 1)) (nI_1 k) [some (.ref (xb G + 70)), some (.int s), some (.int o), some (.int w), some (.int v31), some (.int (nI k)), some (.int v92), some (.int (nI z)), some (.int (nI (k + 1))), some (.int v92)] rfl ?_
                refine x_goto h 73 dX3_onceMore_121 rfl ?_
                refine x_wk (lv := [some (.ref (xb G + 70)), some (.int s), some (.int o), some (.int w), some (.int v31), some (.int (nI k)), some (.int v92), some (.int (nI z)), some (.int (nI (k + 1))), none]) ?_ ⟨rfl, rfl, rfl, rfl, rfl, rfl, rfl, rfl, rfl, trivial⟩
                exact ih (k + 1) ((((nI k)), (v92)), J97) (by omega) (by omega) (by show _ = (m_better (m_onceGo o k ((0, -1), J43)).1 (nI k) (m_try (m_onceGo o k ((0, -1), J43)).2 k o o).1, (m_try (m_onceGo o k ((0, -1), J43)).2 k o o).2); rw [← hy, ht]; first | (rw [better_1 n104]; done) | (rw [better_2 n104]; done)) (by have q := (try_W (w := o) (o := o) hA h45 (by omega) hz20 ho).1; rw [ht] at q; exact q) (by have q := (try_W (w := o) (o := o) hA h45 (by omega) hz20 ho).2.1; rw [ht] at q; exact q)
              · skip
                have n104 := Int32.not_lt.mp c104
                refine x_goto h 118 dX3_onceMore_107 rfl ?_
                refine x_iinc h dX3_onceMore_118 (by decide) rfl (nI (k + 1)) (nI_1 k) [some (.ref (xb G + 70)), some (.int s), some (.int o), some (.int w), some (.int v31), some (.int y.1.1), some (.int y.1.2), some (.int (nI z)), some (.int (nI (k + 1))), some (.int v92)] rfl ?_
                refine x_goto h 73 dX3_onceMore_121 rfl ?_
                refine x_wk (lv := [some (.ref (xb G + 70)), some (.int s), some (.int o), some (.int w), some (.int v31), some (.int y.1.1), some (.int y.1.2), some (.int (nI z)), some (.int (nI (k + 1))), none]) ?_ ⟨rfl, rfl, rfl, rfl, rfl, rfl, rfl, rfl, rfl, trivial⟩
                exact ih (k + 1) (((y.1.1), (y.1.2)), J97) (by omega) (by omega) (by show _ = (m_better (m_onceGo o k ((0, -1), J43)).1 (nI k) (m_try (m_onceGo o k ((0, -1), J43)).2 k o o).1, (m_try (m_onceGo o k ((0, -1), J43)).2 k o o).2); rw [← hy, ht]; first | (rw [better_1 n104]; done) | (rw [better_2 n104]; done)) (by have q := (try_W (w := o) (o := o) hA h45 (by omega) hz20 ho).1; rw [ht] at q; exact q) (by have q := (try_W (w := o) (o := o) hA h45 (by omega) hz20 ho).2.1; rw [ht] at q; exact q)
        exact lp73 (z + 2) 0 ((0, -1), J43) (by omega) (by omega) rfl (by rw [eJ43]; exact hT.reads) hz
      · skip
        refine x_bipush h dX3_onceMore_55 (-5) rfl ?_
        exact x_iret h dX3_onceMore_57 rfl (xpE.to (by rw [hm]; unfold m_onceB; rw [if_neg (by rw [← ev31]; exact n35), ← eJ43, if_pos c52]) (by rw [hm]; unfold m_onceB; rw [if_neg (by rw [← ev31]; exact n35), ← eJ43, if_pos c52]) rfl rfl)
    · skip
      have n35 := Int32.not_le.mp c35
      refine x_iload h dX3_onceMore_38 rfl ?_
      exact x_iret h dX3_onceMore_40 rfl (xpE.to (by rw [hm]; unfold m_onceB; rw [if_pos (by rw [← ev31]; exact n35), ev31]) (by rw [hm]; unfold m_onceB; rw [if_pos (by rw [← ev31]; exact n35)]) rfl rfl)
  refine x_iload_n h dX3_onceMore_0 rfl ?_
  refine x_callSEi h (As := [.int _]) (t_isShelf l G n hn _ _ _ ) m_X3_127 dX3_onceMore_1 ⟨by decide, by decide⟩ ⟨by decide, by decide⟩ rfl (Nat.le_of_ble_eq_true rfl) ?_
  refine x_if_eq h 24 dX3_onceMore_4 rfl (fun c4 => ?_) (fun c4 => ?_)
  · skip
    refine x_iconst h dX3_onceMore_24 (-1) rfl ?_
    exact x_iret h dX3_onceMore_25 rfl (xpE.to (by subst_vars; first | with_reducible rfl | (simp only [m_once, *]; done) | (simp only [m_once, ix, *]; rfl) | (simp [m_once, ix, up2_ap, bec_k, bec_i, *]; done)) (by subst_vars; first | with_reducible rfl | (simp only [m_once, *]; done) | (simp only [m_once, ix, *]; rfl) | (simp [m_once, ix, up2_ap, bec_k, bec_i, *]; done)) rfl rfl)
  · skip
    refine x_aload_n h dX3_onceMore_7 rfl ?_
    refine x_iload_n h dX3_onceMore_8 rfl ?_
    refine x_callVEi h (As := [.int _]) (t_isBuyer l G n hn _ _ _ ) m_X3_137 (mlt hn rfl) rfl dX3_onceMore_9 ⟨by decide, by decide⟩ ⟨by decide, by decide⟩ rfl (Nat.le_of_ble_eq_true rfl) ?_
    refine x_if_eq h 24 dX3_onceMore_12 rfl (fun c12 => ?_) (fun c12 => ?_)
    · skip
      refine x_iconst h dX3_onceMore_24 (-1) rfl ?_
      exact x_iret h dX3_onceMore_25 rfl (xpE.to (by subst_vars; first | with_reducible rfl | (simp only [m_once, *]; done) | (simp only [m_once, ix, *]; rfl) | (simp [m_once, ix, up2_ap, bec_k, bec_i, *]; done)) (by subst_vars; first | with_reducible rfl | (simp only [m_once, *]; done) | (simp only [m_once, ix, *]; rfl) | (simp [m_once, ix, up2_ap, bec_k, bec_i, *]; done)) rfl rfl)
    · skip
      refine x_iload_n h dX3_onceMore_15 rfl ?_
      refine x_iconst h dX3_onceMore_16 (0) rfl ?_
      refine x_iconst h dX3_onceMore_17 (1) rfl ?_
      refine x_callSEi h (As := [.int _, .int _, .int _]) (t_within l G n hn _ _ _ _ _ ) m_X3_119 dX3_onceMore_18 ⟨by decide, by decide⟩ ⟨by decide, by decide⟩ rfl (Nat.le_of_ble_eq_true rfl) ?_
      refine x_if_ne h 26 dX3_onceMore_21 rfl (fun c21 => ?_) (fun c21 => ?_)
      · skip
        exact cut26 () (by unfold m_once; rw [if_neg c4, if_neg c12, if_neg c21]; rfl) (inR_s c4) (isB_in hT.1.1 c12)
      · skip
        refine x_iconst h dX3_onceMore_24 (-1) rfl ?_
        exact x_iret h dX3_onceMore_25 rfl (xpE.to (by subst_vars; first | with_reducible rfl | (simp only [m_once, *]; done) | (simp only [m_once, ix, *]; rfl) | (simp [m_once, ix, up2_ap, bec_k, bec_i, *]; done)) (by subst_vars; first | with_reducible rfl | (simp only [m_once, *]; done) | (simp only [m_once, ix, *]; rfl) | (simp [m_once, ix, up2_ap, bec_k, bec_i, *]; done)) rfl rfl)
