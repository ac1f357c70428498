/-! WALKS OF THE REFERENCE: the law worked -/
theorem g_X3_52 : xfg RX3 52 3 21 := ⟨_, _, _, rfl, by decide, in_X3, q1701, rfl⟩
theorem g_X3_37 : xfg RX3 37 3 12 := ⟨_, _, _, rfl, by decide, in_X3, q1692, rfl⟩
theorem m_X3_221 : xcs RX3 221 yX3_both cX3_both 3 (some .int) 3 := ⟨lw_S q2005 q2006 q102 q2007, by decide +kernel, by decide +kernel, by decide +kernel⟩
theorem g_X3_55 : xfg RX3 55 3 22 := ⟨_, _, _, rfl, by decide, in_X3, q1702, rfl⟩
theorem g_X3_218 : xfg RX3 218 3 8 := ⟨_, _, _, rfl, by decide, in_X3, q1688, rfl⟩
theorem g_X3_31 : xfg RX3 31 3 10 := ⟨_, _, _, rfl, by decide, in_X3, q1690, rfl⟩
theorem g_X3_28 : xfg RX3 28 3 9 := ⟨_, _, _, rfl, by decide, in_X3, q1689, rfl⟩
theorem g_X3_34 : xfg RX3 34 3 11 := ⟨_, _, _, rfl, by decide, in_X3, q1691, rfl⟩
theorem m_X3_224 : xcv RX3 224 3 yX3_worked cX3_worked 6 (some .int) 2 := ⟨_, _, _, rfl, lw_V q2001 q2003 qs74 q102 q2004, rfl, by decide +kernel, by decide +kernel, by decide +kernel⟩
theorem g_X3_214 : xfg RX3 214 3 7 := ⟨_, _, _, rfl, by decide, in_X3, q1687, rfl⟩
theorem m_X3_227 : xcv RX3 227 3 yX3_byLaw cX3_byLaw 3 (some .int) 1 := ⟨_, _, _, rfl, lw_V q1997 q1999 qs73 q102 q2000, rfl, by decide +kernel, by decide +kernel, by decide +kernel⟩
set_option maxHeartbeats 4000000 in
theorem t_worked (l : Launch) (G : xG_T) (n : Nat) (hn : 103 ≤ n) (I : xI_T) (L : xL_T) (x : Int32) (y : Int32) (hx : vp_in x 201) (hy : vp_in y 201) (hxy : ix x ≤ ix y) (hk : cok I (ix x) (ix y - ix x)) : CM l 1 yX3_worked cX3_worked 6 (some .int) G n [.ref (xb G + 70), .int x, .int y] I L (some (.int (m_work I (ix x) (ix y) 82 0))) (m_work I (ix x) (ix y)) (L) := by
  obtain ⟨f, hf, rfl⟩ := vp_in_of hx (by decide)
  obtain ⟨g, hg, rfl⟩ := vp_in_of hy (by decide)
  rw [ix_n (by omega), ix_n (by omega)] at hxy hk ⊢
  refine Cg.intro (cls := RX3) (pad := 3) (lv := [some (.ref (xb G + 70)), some (.int (nI f)), some (.int (nI g)), none, none, none]) rfl (by decide) (Nat.le_of_ble_eq_true rfl) rfl (fun Θ h => ?_)
  refine x_iconst h dX3_worked_0 (0) rfl ?_
  refine x_istore_n h dX3_worked_1 rfl (by decide) [some (.ref (xb G + 70)), some (.int (nI f)), some (.int (nI g)), some (.int 0), none, none] rfl ?_
  refine x_iload_n h dX3_worked_2 rfl ?_
  refine x_istore h dX3_worked_3 (by decide) [some (.ref (xb G + 70)), some (.int (nI f)), some (.int (nI g)), some (.int 0), some (.int (nI f)), none] rfl ?_
  have lp5 : ∀ (d : Nat) (k t : Nat) (J : xI_T), g - f - k < d → (f + k ≤ g) → (m_run f k (I, 0) = (J, t)) → X Θ 0 0 n TyM J L FM 5 [some (.ref (xb G + 70)), some (.int (nI f)), some (.int (nI g)), some (.int (nI t)), some (.int (nI (f + k))), none] [] := by
    intro d
    induction d with
    | zero =>
      intro k t J hlt
      exact absurd hlt (Nat.not_lt_zero _)
    | succ d ih =>
      intro k t J hlt hle hs
      have ht : t = cdep I f k := by rw [← mrun_d k, hs]
      have htk : t ≤ k := by rw [ht]; exact cdep_le k
      have hco : ∀ q j : Nat, q ≠ 82 → J q j = I q j := fun q j hq => by have z := mrun_o (I := I) (f := f) k (t := 0) (j := j) hq; rw [hs] at z; exact z
      refine x_iload h dX3_worked_5 rfl ?_
      refine x_iload_n h dX3_worked_7 rfl ?_
      refine x_icmp_ge h 163 dX3_worked_8 rfl (fun c8 => ?_) (fun c8 => ?_)
      · skip
        have hkk : k = g - f := by have z := nleN (k := f + k) (N := g) rfl (by omega) (by omega) c8; omega
        subst hkk
        have hm : J = m_work I f g := by show J = (m_run f (g - f) (I, 0)).1; rw [hs]
        refine x_aload_n h dX3_worked_163 rfl ?_
        refine x_getr h (j := 82) g_X3_52 (mlt hn rfl) rfl (by decide) rfl dX3_worked_164 ?_
        refine x_iconst h dX3_worked_167 (0) rfl ?_
        refine x_iald h (mlt hn rfl) rfl (xk rfl) 0 rfl dX3_worked_168 ?_
        exact x_iret h dX3_worked_169 rfl (xpE.to (by rw [hm]) hm rfl rfl)
      · skip
        have hkk : f + k < g := nltN (k := f + k) (N := g) rfl (by omega) (by omega) c8
        obtain ⟨hc0, hc1, hc2⟩ := hk k (by omega)
        have hcd := hco 77 (f + k) (by decide)
        refine x_aload_n h dX3_worked_11 rfl ?_
        refine x_getr h (j := 77) g_X3_37 (mlt hn rfl) rfl (by decide) rfl dX3_worked_12 ?_
        refine x_iload h dX3_worked_15 rfl ?_
        refine x_iald h (mlt hn rfl) rfl (vp_in_nI (by omega) (by decide)) (f + k) (nI_clamp (by omega)) dX3_worked_17 ?_
        refine x_nmi (fun v18 ev18 => ?_)
        refine x_istore h dX3_worked_18 (by decide) [some (.ref (xb G + 70)), some (.int (nI f)), some (.int (nI g)), some (.int (nI t)), some (.int (nI (f + k))), some (.int v18)] rfl ?_
        rw [← hcd, ← ev18] at hc0 hc1 hc2
        refine x_iload h dX3_worked_20 rfl ?_
        refine x_bipush h dX3_worked_22 (18) rfl ?_
        refine x_icmp_ge h 33 dX3_worked_24 rfl (fun c24 => ?_) (fun c24 => ?_)
        · skip
          refine x_aload_n h dX3_worked_33 rfl ?_
          refine x_getr h (j := 82) g_X3_52 (mlt hn rfl) rfl (by decide) rfl dX3_worked_34 ?_
          refine x_iload_n h dX3_worked_37 rfl ?_
          refine x_iinc h dX3_worked_38 (by decide) rfl (nI (t + 1)) (nI_1 t) [some (.ref (xb G + 70)), some (.int (nI f)), some (.int (nI g)), some (.int (nI (t + 1))), some (.int (nI (f + k))), some (.int v18)] rfl ?_
          refine x_iload h dX3_worked_41 rfl ?_
          refine x_bipush h dX3_worked_43 (18) rfl ?_
          refine x_icmp_lt h 56 dX3_worked_45 rfl (fun c45 => ?_) (fun c45 => ?_)
          · skip
            exact absurd c45 (Int32.not_lt.mpr c24)
          · skip
            refine x_iload h dX3_worked_48 rfl ?_
            refine x_bipush h dX3_worked_50 (18) rfl ?_
            refine x_isub h dX3_worked_52 ?_
            refine x_goto h 63 dX3_worked_53 rfl ?_
            refine x_iast h (mlt hn rfl) rfl (vp_in_nI (by omega) (by first | decide | omega)) (t) (nI_clamp (by omega)) dX3_worked_63 (fun J63 eJ63 => ?_)
            refine x_goto h 157 dX3_worked_64 rfl ?_
            refine x_iinc h dX3_worked_157 (by decide) rfl (nI (f + k + 1)) (nI_1 (f + k)) [some (.ref (xb G + 70)), some (.int (nI f)), some (.int (nI g)), some (.int (nI (t + 1))), some (.int (nI (f + k + 1))), some (.int v18)] rfl ?_
            refine x_goto h 5 dX3_worked_160 rfl ?_
            refine x_wk (lv := [some (.ref (xb G + 70)), some (.int (nI f)), some (.int (nI g)), some (.int (nI (t + 1))), some (.int (nI (f + k + 1))), none]) ?_ ⟨rfl, rfl, rfl, rfl, rfl, trivial⟩
            exact ih (k + 1) (t + 1) J63 (by omega) (by omega) (by show m_step (m_run f k (I, 0)).1 ((m_run f k (I, 0)).1 77 (f + k)) (m_run f k (I, 0)).2 = _; rw [hs]; show m_step J (J 77 (f + k)) t = _; rw [← ev18]; unfold m_step; simp only [c8, c24, c45, if_true, if_false, eJ63, ix]; try rfl)
        · skip
          refine x_iload h dX3_worked_27 rfl ?_
          refine x_iconst h dX3_worked_29 (5) rfl ?_
          refine x_icmp_gt h 67 dX3_worked_30 rfl (fun c30 => ?_) (fun c30 => ?_)
          · skip
            refine x_iload h dX3_worked_67 rfl ?_
            refine x_bipush h dX3_worked_69 (16) rfl ?_
            refine x_icmp_eq h 81 dX3_worked_71 rfl (fun c71 => ?_) (fun c71 => ?_)
            · skip
              have h1 : 1 ≤ t := by rw [ht]; exact hc1 (Or.inl c71)
              refine x_aload_n h dX3_worked_81 rfl ?_
              refine x_getr h (j := 82) g_X3_52 (mlt hn rfl) rfl (by decide) rfl dX3_worked_82 ?_
              refine x_iload_n h dX3_worked_85 rfl ?_
              refine x_iconst h dX3_worked_86 (1) rfl ?_
              refine x_isubE h (nI (t - 1)) (nI_m1 h1) dX3_worked_87 ?_
              refine x_iload h dX3_worked_88 rfl ?_
              refine x_bipush h dX3_worked_90 (17) rfl ?_
              refine x_icmp_ne h 107 dX3_worked_92 rfl (fun c92 => ?_) (fun c92 => ?_)
              · skip
                refine x_aload_n h dX3_worked_107 rfl ?_
                refine x_getr h (j := 82) g_X3_52 (mlt hn rfl) rfl (by decide) rfl dX3_worked_108 ?_
                refine x_iload_n h dX3_worked_111 rfl ?_
                refine x_iconst h dX3_worked_112 (1) rfl ?_
                refine x_isubE h (nI (t - 1)) (nI_m1 h1) dX3_worked_113 ?_
                refine x_iald h (mlt hn rfl) rfl (vp_in_nI (by omega) (by first | decide | omega)) (t - 1) (nI_clamp (by omega)) dX3_worked_114 ?_
                refine x_if_ne h 122 dX3_worked_115 rfl (fun c115 => ?_) (fun c115 => ?_)
                · skip
                  refine x_iconst h dX3_worked_122 (0) rfl ?_
                  refine x_iast h (mlt hn rfl) rfl (vp_in_nI (by omega) (by first | decide | omega)) (t - 1) (nI_clamp (by omega)) dX3_worked_123 (fun J123 eJ123 => ?_)
                  refine x_goto h 157 dX3_worked_124 rfl ?_
                  refine x_iinc h dX3_worked_157 (by decide) rfl (nI (f + k + 1)) (nI_1 (f + k)) [some (.ref (xb G + 70)), some (.int (nI f)), some (.int (nI g)), some (.int (nI t)), some (.int (nI (f + k + 1))), some (.int v18)] rfl ?_
                  refine x_goto h 5 dX3_worked_160 rfl ?_
                  refine x_wk (lv := [some (.ref (xb G + 70)), some (.int (nI f)), some (.int (nI g)), some (.int (nI t)), some (.int (nI (f + k + 1))), none]) ?_ ⟨rfl, rfl, rfl, rfl, rfl, trivial⟩
                  exact ih (k + 1) (t) J123 (by omega) (by omega) (by show m_step (m_run f k (I, 0)).1 ((m_run f k (I, 0)).1 77 (f + k)) (m_run f k (I, 0)).2 = _; rw [hs]; show m_step J (J 77 (f + k)) t = _; rw [← ev18]; unfold m_step; simp only [c8, c24, c30, c71, c92, c115, if_true, if_false, eJ123, ix]; try rfl)
                · skip
                  refine x_iconst h dX3_worked_118 (1) rfl ?_
                  refine x_goto h 123 dX3_worked_119 rfl ?_
                  refine x_iast h (mlt hn rfl) rfl (vp_in_nI (by omega) (by first | decide | omega)) (t - 1) (nI_clamp (by omega)) dX3_worked_123 (fun J123 eJ123 => ?_)
                  refine x_goto h 157 dX3_worked_124 rfl ?_
                  refine x_iinc h dX3_worked_157 (by decide) rfl (nI (f + k + 1)) (nI_1 (f + k)) [some (.ref (xb G + 70)), some (.int (nI f)), some (.int (nI g)), some (.int (nI t)), some (.int (nI (f + k + 1))), some (.int v18)] rfl ?_
                  refine x_goto h 5 dX3_worked_160 rfl ?_
                  refine x_wk (lv := [some (.ref (xb G + 70)), some (.int (nI f)), some (.int (nI g)), some (.int (nI t)), some (.int (nI (f + k + 1))), none]) ?_ ⟨rfl, rfl, rfl, rfl, rfl, trivial⟩
                  exact ih (k + 1) (t) J123 (by omega) (by omega) (by show m_step (m_run f k (I, 0)).1 ((m_run f k (I, 0)).1 77 (f + k)) (m_run f k (I, 0)).2 = _; rw [hs]; show m_step J (J 77 (f + k)) t = _; rw [← ev18]; unfold m_step; simp only [c8, c24, c30, c71, c92, c115, if_true, if_false, eJ123, ix]; try rfl)
              · skip
                exact absurd (c71.symm.trans c92) (by decide)
            · skip
              refine x_iload h dX3_worked_74 rfl ?_
              refine x_bipush h dX3_worked_76 (17) rfl ?_
              refine x_icmp_ne h 127 dX3_worked_78 rfl (fun c78 => ?_) (fun c78 => ?_)
              · skip
                have h2 : 2 ≤ t := by rw [ht]; exact hc2 ⟨c24, c30, c71, c78⟩
                refine x_iinc h dX3_worked_127 (by decide) rfl (nI (t - 1)) (nI_d1 (by omega)) [some (.ref (xb G + 70)), some (.int (nI f)), some (.int (nI g)), some (.int (nI (t - 1))), some (.int (nI (f + k))), some (.int v18)] rfl ?_
                refine x_aload_n h dX3_worked_130 rfl ?_
                refine x_getr h (j := 82) g_X3_52 (mlt hn rfl) rfl (by decide) rfl dX3_worked_131 ?_
                refine x_iload_n h dX3_worked_134 rfl ?_
                refine x_iconst h dX3_worked_135 (1) rfl ?_
                refine x_isubE h (nI (t - 2)) (nI_m2 h2) dX3_worked_136 ?_
                refine x_iload h dX3_worked_137 rfl ?_
                refine x_aload_n h dX3_worked_139 rfl ?_
                refine x_getr h (j := 82) g_X3_52 (mlt hn rfl) rfl (by decide) rfl dX3_worked_140 ?_
                refine x_iload_n h dX3_worked_143 rfl ?_
                refine x_iconst h dX3_worked_144 (1) rfl ?_
                refine x_isubE h (nI (t - 2)) (nI_m2 h2) dX3_worked_145 ?_
                refine x_iald h (mlt hn rfl) rfl (vp_in_nI (by omega) (by first | decide | omega)) (t - 2) (nI_clamp (by omega)) dX3_worked_146 ?_
                refine x_aload_n h dX3_worked_147 rfl ?_
                refine x_getr h (j := 82) g_X3_52 (mlt hn rfl) rfl (by decide) rfl dX3_worked_148 ?_
                refine x_iload_n h dX3_worked_151 rfl ?_
                refine x_iald h (mlt hn rfl) rfl (vp_in_nI (by omega) (by first | decide | omega)) (t - 1) (nI_clamp (by omega)) dX3_worked_152 ?_
                refine x_callSEi h (As := [.int _, .int _, .int _]) (t_both l G n hn _ _ _ _ _ ) m_X3_221 dX3_worked_153 ⟨by decide, by decide⟩ ⟨by decide, by decide⟩ rfl (Nat.le_of_ble_eq_true rfl) ?_
                refine x_iast h (mlt hn rfl) rfl (vp_in_nI (by omega) (by first | decide | omega)) (t - 2) (nI_clamp (by omega)) dX3_worked_156 (fun J156 eJ156 => ?_)
                refine x_iinc h dX3_worked_157 (by decide) rfl (nI (f + k + 1)) (nI_1 (f + k)) [some (.ref (xb G + 70)), some (.int (nI f)), some (.int (nI g)), some (.int (nI (t - 1))), some (.int (nI (f + k + 1))), some (.int v18)] rfl ?_
                refine x_goto h 5 dX3_worked_160 rfl ?_
                refine x_wk (lv := [some (.ref (xb G + 70)), some (.int (nI f)), some (.int (nI g)), some (.int (nI (t - 1))), some (.int (nI (f + k + 1))), none]) ?_ ⟨rfl, rfl, rfl, rfl, rfl, trivial⟩
                exact ih (k + 1) (t - 1) J156 (by omega) (by omega) (by show m_step (m_run f k (I, 0)).1 ((m_run f k (I, 0)).1 77 (f + k)) (m_run f k (I, 0)).2 = _; rw [hs]; show m_step J (J 77 (f + k)) t = _; rw [← ev18]; unfold m_step; simp only [c8, c24, c30, c71, c78, if_true, if_false, eJ156, ix]; try rfl)
              · skip
                have h1 : 1 ≤ t := by rw [ht]; exact hc1 (Or.inr c78)
                refine x_aload_n h dX3_worked_81 rfl ?_
                refine x_getr h (j := 82) g_X3_52 (mlt hn rfl) rfl (by decide) rfl dX3_worked_82 ?_
                refine x_iload_n h dX3_worked_85 rfl ?_
                refine x_iconst h dX3_worked_86 (1) rfl ?_
                refine x_isubE h (nI (t - 1)) (nI_m1 h1) dX3_worked_87 ?_
                refine x_iload h dX3_worked_88 rfl ?_
                refine x_bipush h dX3_worked_90 (17) rfl ?_
                refine x_icmp_ne h 107 dX3_worked_92 rfl (fun c92 => ?_) (fun c92 => ?_)
                · skip
                  exact absurd c78 c92
                · skip
                  refine x_aload_n h dX3_worked_95 rfl ?_
                  refine x_getr h (j := 82) g_X3_52 (mlt hn rfl) rfl (by decide) rfl dX3_worked_96 ?_
                  refine x_iload_n h dX3_worked_99 rfl ?_
                  refine x_iconst h dX3_worked_100 (1) rfl ?_
                  refine x_isubE h (nI (t - 1)) (nI_m1 h1) dX3_worked_101 ?_
                  refine x_iald h (mlt hn rfl) rfl (vp_in_nI (by omega) (by first | decide | omega)) (t - 1) (nI_clamp (by omega)) dX3_worked_102 ?_
                  refine x_ineg h dX3_worked_103 ?_
                  refine x_goto h 123 dX3_worked_104 rfl ?_
                  refine x_iast h (mlt hn rfl) rfl (vp_in_nI (by omega) (by first | decide | omega)) (t - 1) (nI_clamp (by omega)) dX3_worked_123 (fun J123 eJ123 => ?_)
                  refine x_goto h 157 dX3_worked_124 rfl ?_
                  refine x_iinc h dX3_worked_157 (by decide) rfl (nI (f + k + 1)) (nI_1 (f + k)) [some (.ref (xb G + 70)), some (.int (nI f)), some (.int (nI g)), some (.int (nI t)), some (.int (nI (f + k + 1))), some (.int v18)] rfl ?_
                  refine x_goto h 5 dX3_worked_160 rfl ?_
                  refine x_wk (lv := [some (.ref (xb G + 70)), some (.int (nI f)), some (.int (nI g)), some (.int (nI t)), some (.int (nI (f + k + 1))), none]) ?_ ⟨rfl, rfl, rfl, rfl, rfl, trivial⟩
                  exact ih (k + 1) (t) J123 (by omega) (by omega) (by show m_step (m_run f k (I, 0)).1 ((m_run f k (I, 0)).1 77 (f + k)) (m_run f k (I, 0)).2 = _; rw [hs]; show m_step J (J 77 (f + k)) t = _; rw [← ev18]; unfold m_step; simp only [c8, c24, c30, c71, c78, c92, if_true, if_false, eJ123, ix]; try rfl)
          · skip
            refine x_aload_n h dX3_worked_33 rfl ?_
            refine x_getr h (j := 82) g_X3_52 (mlt hn rfl) rfl (by decide) rfl dX3_worked_34 ?_
            refine x_iload_n h dX3_worked_37 rfl ?_
            refine x_iinc h dX3_worked_38 (by decide) rfl (nI (t + 1)) (nI_1 t) [some (.ref (xb G + 70)), some (.int (nI f)), some (.int (nI g)), some (.int (nI (t + 1))), some (.int (nI (f + k))), some (.int v18)] rfl ?_
            refine x_iload h dX3_worked_41 rfl ?_
            refine x_bipush h dX3_worked_43 (18) rfl ?_
            refine x_icmp_lt h 56 dX3_worked_45 rfl (fun c45 => ?_) (fun c45 => ?_)
            · skip
              refine x_aload_n h dX3_worked_56 rfl ?_
              refine x_getr h (j := 83) g_X3_55 (mlt hn rfl) rfl (by decide) rfl dX3_worked_57 ?_
              refine x_iload h dX3_worked_60 rfl ?_
              refine x_iald h (mlt hn rfl) rfl (xin_6 hc0 c30) _ rfl dX3_worked_62 ?_
              refine x_iast h (mlt hn rfl) rfl (vp_in_nI (by omega) (by first | decide | omega)) (t) (nI_clamp (by omega)) dX3_worked_63 (fun J63 eJ63 => ?_)
              refine x_goto h 157 dX3_worked_64 rfl ?_
              refine x_iinc h dX3_worked_157 (by decide) rfl (nI (f + k + 1)) (nI_1 (f + k)) [some (.ref (xb G + 70)), some (.int (nI f)), some (.int (nI g)), some (.int (nI (t + 1))), some (.int (nI (f + k + 1))), some (.int v18)] rfl ?_
              refine x_goto h 5 dX3_worked_160 rfl ?_
              refine x_wk (lv := [some (.ref (xb G + 70)), some (.int (nI f)), some (.int (nI g)), some (.int (nI (t + 1))), some (.int (nI (f + k + 1))), none]) ?_ ⟨rfl, rfl, rfl, rfl, rfl, trivial⟩
              exact ih (k + 1) (t + 1) J63 (by omega) (by omega) (by show m_step (m_run f k (I, 0)).1 ((m_run f k (I, 0)).1 77 (f + k)) (m_run f k (I, 0)).2 = _; rw [hs]; show m_step J (J 77 (f + k)) t = _; rw [← ev18]; unfold m_step; simp only [c8, c24, c30, c45, if_true, if_false, eJ63, ix]; try rfl)
            · skip
              exact absurd (Int32.not_lt.mp c45) c24
  exact lp5 (g - f + 1) 0 0 I (by omega) (by omega) rfl
set_option maxHeartbeats 4000000 in
theorem t_byLaw (l : Launch) (G : xG_T) (n : Nat) (hn : 103 ≤ n) (I : xI_T) (L : xL_T) (c : Int32) (hc : vp_in c 8) (hW : Wlaw I) : CM l 2 yX3_byLaw cX3_byLaw 3 (some .int) G n [.ref (xb G + 70), .int c] I L (some (.int ((m_byLaw I c).1))) ((m_byLaw I c).2) (L) := by
  refine Cg.intro (cls := RX3) (pad := 1) (lv := [some (.ref (xb G + 70)), some (.int c), none]) rfl (by decide) (Nat.le_of_ble_eq_true rfl) rfl (fun Θ h => ?_)
  refine x_aload_n h dX3_byLaw_0 rfl ?_
  refine x_getr h (j := 83) g_X3_55 (mlt hn rfl) rfl (by decide) rfl dX3_byLaw_1 ?_
  refine x_iconst h dX3_byLaw_4 (0) rfl ?_
  refine x_aload_n h dX3_byLaw_5 rfl ?_
  refine x_getr h (j := 71) g_X3_9 (mlt hn rfl) rfl (by decide) rfl dX3_byLaw_6 ?_
  refine x_iload_n h dX3_byLaw_9 rfl ?_
  refine x_iald h (mlt hn rfl) rfl (by (try simp [up2_ap, cpy2_ap, fil2_ap]); exact xin_mono hc (by decide)) _ rfl dX3_byLaw_10 ?_
  refine x_iast h (mlt hn rfl) rfl (xk rfl) 0 rfl dX3_byLaw_11 (fun J11 eJ11 => ?_)
  refine x_aload_n h dX3_byLaw_12 rfl ?_
  refine x_getr h (j := 83) g_X3_55 (mlt hn rfl) rfl (by decide) rfl dX3_byLaw_13 ?_
  refine x_iconst h dX3_byLaw_16 (2) rfl ?_
  refine x_aload_n h dX3_byLaw_17 rfl ?_
  refine x_getr h (j := 71) g_X3_9 (mlt hn rfl) rfl (by decide) rfl dX3_byLaw_18 ?_
  refine x_bipush h dX3_byLaw_21 (8) rfl ?_
  refine x_iload_n h dX3_byLaw_23 rfl ?_
  refine x_iadd h dX3_byLaw_24 ?_
  refine x_iald h (mlt hn rfl) rfl (by (try simp [eJ11, up2_ap, cpy2_ap, fil2_ap]); exact xin_c 8 rfl hc (by decide) (by decide)) _ rfl dX3_byLaw_25 ?_
  refine x_iast h (mlt hn rfl) rfl (xk rfl) 2 rfl dX3_byLaw_26 (fun J26 eJ26 => ?_)
  refine x_aload_n h dX3_byLaw_27 rfl ?_
  refine x_getr h (j := 83) g_X3_55 (mlt hn rfl) rfl (by decide) rfl dX3_byLaw_28 ?_
  refine x_iconst h dX3_byLaw_31 (3) rfl ?_
  refine x_aload_n h dX3_byLaw_32 rfl ?_
  refine x_getr h (j := 72) g_X3_22 (mlt hn rfl) rfl (by decide) rfl dX3_byLaw_33 ?_
  refine x_bipush h dX3_byLaw_36 (9) rfl ?_
  refine x_iald h (mlt hn rfl) rfl (xk rfl) 9 rfl dX3_byLaw_38 ?_
  refine x_iast h (mlt hn rfl) rfl (xk rfl) 3 rfl dX3_byLaw_39 (fun J39 eJ39 => ?_)
  refine x_aload_n h dX3_byLaw_40 rfl ?_
  refine x_getr h (j := 83) g_X3_55 (mlt hn rfl) rfl (by decide) rfl dX3_byLaw_41 ?_
  refine x_iconst h dX3_byLaw_44 (4) rfl ?_
  refine x_aload_n h dX3_byLaw_45 rfl ?_
  refine x_getr h (j := 72) g_X3_22 (mlt hn rfl) rfl (by decide) rfl dX3_byLaw_46 ?_
  refine x_bipush h dX3_byLaw_49 (10) rfl ?_
  refine x_iload_n h dX3_byLaw_51 rfl ?_
  refine x_iadd h dX3_byLaw_52 ?_
  refine x_iald h (mlt hn rfl) rfl (by (try simp [eJ11, eJ26, eJ39, up2_ap, cpy2_ap, fil2_ap]); exact xin_c 10 rfl hc (by decide) (by decide)) _ rfl dX3_byLaw_53 ?_
  refine x_iast h (mlt hn rfl) rfl (xk rfl) 4 rfl dX3_byLaw_54 (fun J54 eJ54 => ?_)
  refine x_aload_n h dX3_byLaw_55 rfl ?_
  refine x_getr h (j := 83) g_X3_55 (mlt hn rfl) rfl (by decide) rfl dX3_byLaw_56 ?_
  refine x_iconst h dX3_byLaw_59 (5) rfl ?_
  refine x_aload_n h dX3_byLaw_60 rfl ?_
  refine x_getr h (j := 72) g_X3_22 (mlt hn rfl) rfl (by decide) rfl dX3_byLaw_61 ?_
  refine x_bipush h dX3_byLaw_64 (8) rfl ?_
  refine x_iald h (mlt hn rfl) rfl (xk rfl) 8 rfl dX3_byLaw_66 ?_
  refine x_iast h (mlt hn rfl) rfl (xk rfl) 5 rfl dX3_byLaw_67 (fun J67 eJ67 => ?_)
  refine x_iconst h dX3_byLaw_68 (0) rfl ?_
  refine x_istore_n h dX3_byLaw_69 rfl (by decide) [some (.ref (xb G + 70)), some (.int c), some (.int 0)] rfl ?_
  have lp70 : ∀ (d : Nat) (e i : Nat) (J : xI_T), e < d → (e + i = 60) → (m_byLaw I c = m_byGo (e + 1) i J) → (Wlaw J) → X Θ 0 0 n TyM J L FM 70 [some (.ref (xb G + 70)), some (.int c), some (.int (nI i))] [] := by
    intro d
    induction d with
    | zero =>
      intro e i J hlt
      exact absurd hlt (Nat.not_lt_zero _)
    | succ d ih =>
      intro e i J hlt he hJ hWJ
      refine x_iload_n h dX3_byLaw_70 rfl ?_
      refine x_aload_n h dX3_byLaw_71 rfl ?_
      refine x_geti h g_X3_218 (mlt hn rfl) rfl rfl dX3_byLaw_72 ?_
      refine x_icmp_ge h 138 dX3_byLaw_75 rfl (fun c75 => ?_) (fun c75 => ?_)
      · skip
        have hz : m_byLaw I c = (0, J) := by rw [hJ]; exact byGo_0 c75
        refine x_iconst h dX3_byLaw_138 (0) rfl ?_
        exact x_iret h dX3_byLaw_139 rfl (xpE.to (by rw [hz]) (by rw [hz]) rfl rfl)
      · skip
        have hi2 : i < 60 := hlt75 hWJ c75 (by omega)
        obtain ⟨e2, rfl⟩ : ∃ z : Nat, e = z + 1 := ⟨e - 1, by omega⟩
        have ha := hWJ.asks c75 hi2
        refine x_aload_n h dX3_byLaw_78 rfl ?_
        refine x_getr h (j := 75) g_X3_31 (mlt hn rfl) rfl (by decide) rfl dX3_byLaw_79 ?_
        refine x_iload_n h dX3_byLaw_82 rfl ?_
        refine x_iald h (mlt hn rfl) rfl (vp_in_nI (by omega) (by first | decide | omega)) (i) (nI_clamp (by omega)) dX3_byLaw_83 ?_
        refine x_aload_n h dX3_byLaw_84 rfl ?_
        refine x_getr h (j := 74) g_X3_28 (mlt hn rfl) rfl (by decide) rfl dX3_byLaw_85 ?_
        refine x_iload_n h dX3_byLaw_88 rfl ?_
        refine x_iald h (mlt hn rfl) rfl (vp_in_nI (by omega) (by first | decide | omega)) (i) (nI_clamp (by omega)) dX3_byLaw_89 ?_
        refine x_icmp_le h 115 dX3_byLaw_90 rfl (fun c90 => ?_) (fun c90 => ?_)
        · skip
          have hk := ha.2.2.2.2 J (by first | exact fun q j hq => rfl | (rw [eJ106]; exact fun q j hq => mwork_o hq))
          refine x_aload_n h dX3_byLaw_115 rfl ?_
          refine x_aload_n h dX3_byLaw_116 rfl ?_
          refine x_getr h (j := 75) g_X3_31 (mlt hn rfl) rfl (by decide) rfl dX3_byLaw_117 ?_
          refine x_iload_n h dX3_byLaw_120 rfl ?_
          refine x_iald h (mlt hn rfl) rfl (vp_in_nI (by omega) (by first | decide | omega)) (i) (nI_clamp (by omega)) dX3_byLaw_121 ?_
          refine x_aload_n h dX3_byLaw_122 rfl ?_
          refine x_getr h (j := 76) g_X3_34 (mlt hn rfl) rfl (by decide) rfl dX3_byLaw_123 ?_
          refine x_iload_n h dX3_byLaw_126 rfl ?_
          refine x_iald h (mlt hn rfl) rfl (vp_in_nI (by omega) (by first | decide | omega)) (i) (nI_clamp (by omega)) dX3_byLaw_127 ?_
          refine x_callVEi h (As := [.int _, .int _]) (t_worked l G n hn _ _ _ _ hk.1 hk.2.1 hk.2.2.1 hk.2.2.2) m_X3_224 (mlt hn rfl) rfl dX3_byLaw_128 ⟨by decide, by decide⟩ ⟨by decide, by decide⟩ rfl (Nat.le_of_ble_eq_true rfl) ?_
          refine x_nmI (fun J128 eJ128 => ?_)
          exact x_iret h dX3_byLaw_131 rfl (xpE.to (by rw [hJ]; first | rw [byGo_1 c75 c90] | (rw [byGo_3 c75 c90 eJ106 (by rw [eJ106]; exact c109)]; done)) (by rw [eJ128, hJ]; first | rw [byGo_1 c75 c90] | (rw [byGo_3 c75 c90 eJ106 (by rw [eJ106]; exact c109)]; done)) rfl rfl)
        · skip
          refine x_aload_n h dX3_byLaw_93 rfl ?_
          refine x_aload_n h dX3_byLaw_94 rfl ?_
          refine x_getr h (j := 74) g_X3_28 (mlt hn rfl) rfl (by decide) rfl dX3_byLaw_95 ?_
          refine x_iload_n h dX3_byLaw_98 rfl ?_
          refine x_iald h (mlt hn rfl) rfl (vp_in_nI (by omega) (by first | decide | omega)) (i) (nI_clamp (by omega)) dX3_byLaw_99 ?_
          refine x_aload_n h dX3_byLaw_100 rfl ?_
          refine x_getr h (j := 75) g_X3_31 (mlt hn rfl) rfl (by decide) rfl dX3_byLaw_101 ?_
          refine x_iload_n h dX3_byLaw_104 rfl ?_
          refine x_iald h (mlt hn rfl) rfl (vp_in_nI (by omega) (by first | decide | omega)) (i) (nI_clamp (by omega)) dX3_byLaw_105 ?_
          refine x_callVEi h (As := [.int _, .int _]) (t_worked l G n hn _ _ _ _ ha.1 ha.2.1 ha.2.2.1 ha.2.2.2.1) m_X3_224 (mlt hn rfl) rfl dX3_byLaw_106 ⟨by decide, by decide⟩ ⟨by decide, by decide⟩ rfl (Nat.le_of_ble_eq_true rfl) ?_
          refine x_nmI (fun J106 eJ106 => ?_)
          refine x_if_ne h 115 dX3_byLaw_109 rfl (fun c109 => ?_) (fun c109 => ?_)
          · skip
            have hk := ha.2.2.2.2 J106 (by first | exact fun q j hq => rfl | (rw [eJ106]; exact fun q j hq => mwork_o hq))
            refine x_aload_n h dX3_byLaw_115 rfl ?_
            refine x_aload_n h dX3_byLaw_116 rfl ?_
            refine x_getr h (j := 75) g_X3_31 (mlt hn rfl) rfl (by decide) rfl dX3_byLaw_117 ?_
            refine x_iload_n h dX3_byLaw_120 rfl ?_
            refine x_iald h (mlt hn rfl) rfl (vp_in_nI (by omega) (by first | decide | omega)) (i) (nI_clamp (by omega)) dX3_byLaw_121 ?_
            refine x_aload_n h dX3_byLaw_122 rfl ?_
            refine x_getr h (j := 76) g_X3_34 (mlt hn rfl) rfl (by decide) rfl dX3_byLaw_123 ?_
            refine x_iload_n h dX3_byLaw_126 rfl ?_
            refine x_iald h (mlt hn rfl) rfl (vp_in_nI (by omega) (by first | decide | omega)) (i) (nI_clamp (by omega)) dX3_byLaw_127 ?_
            refine x_callVEi h (As := [.int _, .int _]) (t_worked l G n hn _ _ _ _ hk.1 hk.2.1 hk.2.2.1 hk.2.2.2) m_X3_224 (mlt hn rfl) rfl dX3_byLaw_128 ⟨by decide, by decide⟩ ⟨by decide, by decide⟩ rfl (Nat.le_of_ble_eq_true rfl) ?_
            refine x_nmI (fun J128 eJ128 => ?_)
            exact x_iret h dX3_byLaw_131 rfl (xpE.to (by rw [hJ]; first | rw [byGo_1 c75 c90] | (rw [byGo_3 c75 c90 eJ106 (by rw [eJ106]; exact c109)]; done)) (by rw [eJ128, hJ]; first | rw [byGo_1 c75 c90] | (rw [byGo_3 c75 c90 eJ106 (by rw [eJ106]; exact c109)]; done)) rfl rfl)
          · skip
            refine x_goto h 132 dX3_byLaw_112 rfl ?_
            refine x_iinc h dX3_byLaw_132 (by decide) rfl (nI (i + 1)) (nI_1 i) [some (.ref (xb G + 70)), some (.int c), some (.int (nI (i + 1)))] rfl ?_
            refine x_goto h 70 dX3_byLaw_135 rfl ?_
            exact ih e2 (i + 1) J106 (by omega) (by omega) (by rw [hJ]; exact byGo_2 c75 c90 eJ106 (by rw [eJ106]; exact c109)) (by rw [eJ106]; exact hWJ.work)
  exact lp70 61 60 0 J67 (by decide) (by decide) (by subst_vars; simp [m_byLaw, m_names, up2_ap]) (by subst_vars; exact ((((hW.up rfl (by decide)).up rfl (by decide)).up rfl (by decide)).up rfl (by decide)).up rfl (by decide))
set_option maxHeartbeats 4000000 in
theorem t_buysFor (l : Launch) (G : xG_T) (n : Nat) (hn : 103 ≤ n) (I : xI_T) (L : xL_T) (c : Int32) (p : Int32) (hc : vp_in c 8) (hW : Wlaw I) : CM l 3 yX3_buysFor cX3_buysFor 4 (some .int) G n [.ref (xb G + 70), .int c, .int p] I L (some (.int ((m_buys I c p).1))) ((m_buys I c p).2) (L) := by
  refine Cg.intro (cls := RX3) (pad := 1) (lv := [some (.ref (xb G + 70)), some (.int c), some (.int p), none]) rfl (by decide) (Nat.le_of_ble_eq_true rfl) rfl (fun Θ h => ?_)
  refine x_aload_n h dX3_buysFor_0 rfl ?_
  refine x_getr h (j := 83) g_X3_55 (mlt hn rfl) rfl (by decide) rfl dX3_buysFor_1 ?_
  refine x_iconst h dX3_buysFor_4 (1) rfl ?_
  refine x_iload_n h dX3_buysFor_5 rfl ?_
  refine x_iast h (mlt hn rfl) rfl (xk rfl) 1 rfl dX3_buysFor_6 (fun J6 eJ6 => ?_)
  refine x_aload_n h dX3_buysFor_7 rfl ?_
  refine x_geti h g_X3_214 (mlt hn rfl) rfl rfl dX3_buysFor_8 ?_
  refine x_if_eq h 22 dX3_buysFor_11 rfl (fun c11 => ?_) (fun c11 => ?_)
  · skip
    refine x_iconst h dX3_buysFor_22 (5) rfl ?_
    refine x_aload_n h dX3_buysFor_23 rfl ?_
    refine x_getr h (j := 71) g_X3_9 (mlt hn rfl) rfl (by decide) rfl dX3_buysFor_24 ?_
    refine x_iload_n h dX3_buysFor_27 rfl ?_
    refine x_iald h (mlt hn rfl) rfl (xin_mono hc (by decide)) _ rfl dX3_buysFor_28 ?_
    refine x_imul h dX3_buysFor_29 ?_
    refine x_aload_n h dX3_buysFor_30 rfl ?_
    refine x_getr h (j := 71) g_X3_9 (mlt hn rfl) rfl (by decide) rfl dX3_buysFor_31 ?_
    refine x_bipush h dX3_buysFor_34 (8) rfl ?_
    refine x_iload_n h dX3_buysFor_36 rfl ?_
    refine x_iadd h dX3_buysFor_37 ?_
    refine x_iald h (mlt hn rfl) rfl (xin_c 8 rfl hc (by decide) (by decide)) _ rfl dX3_buysFor_38 ?_
    refine x_iadd h dX3_buysFor_39 ?_
    refine x_iconst h dX3_buysFor_40 (2) rfl ?_
    refine x_aload_n h dX3_buysFor_41 rfl ?_
    refine x_getr h (j := 72) g_X3_22 (mlt hn rfl) rfl (by decide) rfl dX3_buysFor_42 ?_
    refine x_bipush h dX3_buysFor_45 (10) rfl ?_
    refine x_iload_n h dX3_buysFor_47 rfl ?_
    refine x_iadd h dX3_buysFor_48 ?_
    refine x_iald h (mlt hn rfl) rfl (xin_c 10 rfl hc (by decide) (by decide)) _ rfl dX3_buysFor_49 ?_
    refine x_imul h dX3_buysFor_50 ?_
    refine x_isub h dX3_buysFor_51 ?_
    refine x_nmi (fun v52 ev52 => ?_)
    refine x_istore_n h dX3_buysFor_52 rfl (by decide) [some (.ref (xb G + 70)), some (.int c), some (.int p), some (.int v52)] rfl ?_
    refine x_iconst h dX3_buysFor_53 (0) rfl ?_
    refine x_bipush h dX3_buysFor_54 (99) rfl ?_
    refine x_iload_n h dX3_buysFor_56 rfl ?_
    refine x_mmin h q1992 (by decide) ⟨by decide, by decide⟩ (Nat.le_of_ble_eq_true rfl) dX3_buysFor_57 ?_
    refine x_mmax h q2008 (by decide) ⟨by decide, by decide⟩ (Nat.le_of_ble_eq_true rfl) dX3_buysFor_60 ?_
    exact x_iret h dX3_buysFor_63 rfl (xpE.to (by subst_vars; first | rw [buys_0 c11] | rw [buys_1 c11]) (by subst_vars; first | rw [buys_0 c11] | rw [buys_1 c11]) rfl rfl)
  · skip
    refine x_aload_n h dX3_buysFor_14 rfl ?_
    refine x_iload_n h dX3_buysFor_15 rfl ?_
    refine x_callVEi h (As := [.int _]) (t_byLaw l G n hn _ _ _ hc (by rw [eJ6]; exact hW.up rfl (by decide))) m_X3_227 (mlt hn rfl) rfl dX3_buysFor_16 ⟨by decide, by decide⟩ ⟨by decide, by decide⟩ rfl (Nat.le_of_ble_eq_true rfl) ?_
    refine x_nmI (fun J16 eJ16 => ?_)
    refine x_goto h 52 dX3_buysFor_19 rfl ?_
    refine x_nmi (fun v52 ev52 => ?_)
    refine x_istore_n h dX3_buysFor_52 rfl (by decide) [some (.ref (xb G + 70)), some (.int c), some (.int p), some (.int v52)] rfl ?_
    refine x_iconst h dX3_buysFor_53 (0) rfl ?_
    refine x_bipush h dX3_buysFor_54 (99) rfl ?_
    refine x_iload_n h dX3_buysFor_56 rfl ?_
    refine x_mmin h q1992 (by decide) ⟨by decide, by decide⟩ (Nat.le_of_ble_eq_true rfl) dX3_buysFor_57 ?_
    refine x_mmax h q2008 (by decide) ⟨by decide, by decide⟩ (Nat.le_of_ble_eq_true rfl) dX3_buysFor_60 ?_
    exact x_iret h dX3_buysFor_63 rfl (xpE.to (by subst_vars; first | rw [buys_0 c11] | rw [buys_1 c11]) (by subst_vars; first | rw [buys_0 c11] | rw [buys_1 c11]) rfl rfl)
