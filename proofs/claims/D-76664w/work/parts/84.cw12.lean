/-! WALKS OF THE COMPONENT: rows tried -/
theorem m_X0_315 : xcv RX0 315 0 yX0_purseWith cX0_purseWith 5 (some .int) 3 := ⟨_, _, _, rfl, lw_V q957 q959 qs30 q99 q960, rfl, by decide +kernel, by decide +kernel, by decide +kernel⟩
theorem m_X0_319 : xcv RX0 319 0 yX0_change cX0_change 3 (none) 1 := ⟨_, _, _, rfl, lw_V q977 q979 qs33 q99 q980, rfl, by decide +kernel, by decide +kernel, by decide +kernel⟩
theorem try_pj {J : xI_T} {p z : Nat} {w o : Int32} (h : Wall J) (hz : J 70 45 = nI z) (hp : p ≤ z) (h20 : z < 20) (hw : vp_in w 8) : ∀ q k : Nat, pJ q k → (m_try J p w o).2 q k = J q k := fun q k y =>
  (takes_pj q k y).trans ((pursB_pj (h.puts hz hp h20 hw) q k y).trans (puts_pj q k y))
theorem onceGo_s {o : Int32} {k : Nat} {x y : (Int32 × Int32) × xI_T} (hx : x = m_onceGo o k y) : m_onceGo o (k + 1) y = (m_better x.1 (nI k) (m_try x.2 k o o).1, (m_try x.2 k o o).2) := by
  rw [hx]
  rfl
theorem hirGo_s {p : Nat} {o : Int32} {k : Nat} {x y : (Int32 × Int32) × xI_T} (hx : x = m_hirGo p o k y) : m_hirGo p o (k + 1) y = (m_better x.1 (nI k) (m_try x.2 p (nI k) o).1, (m_try x.2 p (nI k) o).2) := by
  rw [hx]
  rfl
theorem latGo_s {o : Int32} {k : Nat} {x y : (Int32 × Int32) × xI_T} (hx : x = m_latGo o k y) : m_latGo o (k + 1) y = (m_better x.1 (nI k) (m_pursB (m_swaps x.2 k) o).1, m_swaps (m_pursB (m_swaps x.2 k) o).2 k) := by
  rw [hx]
  rfl
/-- tries on a row of z comings: what holds between two of them -/
def tryI (z : Nat) (I A K0 K : xI_T) : Prop := RW A K z ∧ K 70 45 = nI z ∧ (∀ q j : Nat, pJ q j → K q j = K0 q j) ∧ Fr q2set I A
theorem tryI.zero {z : Nat} {I K0 : xI_T} (h : RW I K0 z) (h45 : K0 70 45 = nI z) : tryI z I I K0 K0 := ⟨h, h45, fun _ _ _ => rfl, Fr.rf⟩
theorem tryI.Q {z : Nat} {I A K0 K : xI_T} {n : Nat} {Ty : Nat → xs_T} {F : xF_T} (h : tryI z I A K0 K) (hQ : QS n Ty I F K0) : QS n Ty A F K := hQ.fr h.2.2.2.q h.2.2.1
theorem tryI.b {z : Nat} {I A K0 K : xI_T} (h : tryI z I A K0 K) : K 70 0 = K0 70 0 := h.2.2.1 70 0 (Or.inl ⟨rfl, by decide⟩)
theorem tryI.put {z p : Nat} {w y : Nat} {I A B K0 K : xI_T} {n : Nat} {Ty : Nat → xs_T} {F : xF_T} (h : tryI z I A K0 K) (hQ : QS n Ty I F K0) (hp : p ≤ z) (h20 : z < 20) (hw : w < 8) (h1 : RW B (m_try K p (nI w) (nI y)).2 z) (h2 : Fr q2set A B) : tryI z I B K0 (m_try K p (nI w) (nI y)).2 := by
  have hA := (h.Q hQ).wall h.1 h.2.1
  exact ⟨h1, (try_W hA h.2.1 hp h20 (vp_in_nI hw (by decide))).2.1, fun q j z9 => (try_pj hA h.2.1 hp h20 (vp_in_nI hw (by decide)) q j z9).trans (h.2.2.1 q j z9), h.2.2.2.tr h2⟩
theorem tryI.swap {z k y : Nat} {I A B K0 K : xI_T} {n : Nat} {Ty : Nat → xs_T} {F : xF_T} (h : tryI z I A K0 K) (hQ : QS n Ty I F K0) (hk : k + 1 < z) (h1 : RW B (m_swaps (m_pursB (m_swaps K k) (nI y)).2 k) z) (h2 : Fr q2set A B) : tryI z I B K0 (m_swaps (m_pursB (m_swaps K k) (nI y)).2 k) := by
  have hA := (h.Q hQ).wall h.1 h.2.1
  have hz := h.1.2.1
  refine ⟨h1, ?_, fun q j z9 => ?_, h.2.2.2.tr h2⟩
  · rw [swaps_i (by decide), pursB_45, swaps_i (by decide)]
    exact h.2.1
  · rw [swaps_pj q j z9, pursB_pj (hA.swaps h.2.1 hz hk) q j z9, swaps_pj q j z9]
    exact h.2.2.1 q j z9
set_option maxHeartbeats 4000000 in
theorem k0_onceMore (l : Launch) (hl : l.stackTraces = false) (G : xG_T) (n : Nat) (Ty : Nat → xs_T) (F : xF_T) (hC : WC n Ty F) (I : xI_T) (L : xL_T) (J : xI_T) (M : xL_T) (s o w : Int32) (hQ : QS n Ty I F J) (hSh : ∀ s : Nat, s < 6 → shK n Ty I L F J M s) : Cg l (280) 3 1010 yX0_onceMore cX0_onceMore 9 (some .int) G idC [.ref (xb G + 0), .int s, .int o, .int w] n Ty I L F (xpX n Ty L F (aR (fun r I2 => r = (m_once J M s o w).1 ∧ Fr q2set I I2))) := by
  refine Cg.intro (cls := RX0) (pad := 5) (lv := [some (.ref (xb G + 0)), some (.int s), some (.int o), some (.int w), none, none, none, none, none]) rfl (by decide) (Nat.le_of_ble_eq_true rfl) rfl (fun Θ h => ?_)
  have hI0 : I 0 1 = J 70 0 := hQ.1.1.1
  have hb := hQ.2.2.1.1
  obtain ⟨nb, hnb, enb, enx, hnI⟩ := hQ.nb
  have ekB : ∀ o : Int32, k_isB I o = m_isB J o := isB_k hI0
  refine x_iload_n h dX0_onceMore_0 rfl ?_
  refine x_callSEi h (As := [.int _]) (k0_isShelf l G n _ _ hC _ _ _ ) m_X0_29 dX0_onceMore_1 ⟨by decide, by decide⟩ ⟨by decide, by decide⟩ rfl (Nat.le_of_ble_eq_true rfl) ?_
  refine x_if_eq h 24 dX0_onceMore_4 rfl (fun c4 => ?_) (fun c4 => ?_)
  · skip
    have hz : (m_once J M s o w).1 = -1 := by unfold m_once; rw [if_pos c4]
    refine x_iconst h dX0_onceMore_24 (-1) rfl ?_
    refine x_wid h (by decide) (by decide) ?_
    exact x_iret h dX0_onceMore_25 rfl ⟨Nat.le_refl _, fun _ _ => rfl, rfl, rfl, _, rfl, hz.symm, Fr.rf⟩
  · skip
    refine x_aload_n h dX0_onceMore_7 rfl ?_
    refine x_iload_n h dX0_onceMore_8 rfl ?_
    refine x_callVEi h (As := [.int _]) (k0_isBuyer l G n _ _ hC _ _ _ ) m_X0_11 (mlt hC.1 rfl) (hC.2.1 _ _ rfl) dX0_onceMore_9 ⟨by decide, by decide⟩ ⟨by decide, by decide⟩ rfl (Nat.le_of_ble_eq_true rfl) ?_
    refine x_if_eq h 24 dX0_onceMore_12 rfl (fun c12 => ?_) (fun c12 => ?_)
    · skip
      have d12 : m_isB J o = 0 := by rw [← ekB]; exact c12
      have hz : (m_once J M s o w).1 = -1 := by unfold m_once; rw [if_neg c4, if_pos d12]
      refine x_iconst h dX0_onceMore_24 (-1) rfl ?_
      refine x_wid h (by decide) (by decide) ?_
      exact x_iret h dX0_onceMore_25 rfl ⟨Nat.le_refl _, fun _ _ => rfl, rfl, rfl, _, rfl, hz.symm, Fr.rf⟩
    · skip
      have d12 : ¬ m_isB J o = 0 := by rw [← ekB]; exact c12
      refine x_iload_n h dX0_onceMore_15 rfl ?_
      refine x_iconst h dX0_onceMore_16 (0) rfl ?_
      refine x_iconst h dX0_onceMore_17 (1) rfl ?_
      refine x_callSEi h (As := [.int _, .int _, .int _]) (k0_in l G n _ _ hC _ _ _ _ _ ) m_X0_7 dX0_onceMore_18 ⟨by decide, by decide⟩ ⟨by decide, by decide⟩ rfl (Nat.le_of_ble_eq_true rfl) ?_
      refine x_if_ne h 26 dX0_onceMore_21 rfl (fun c21 => ?_) (fun c21 => ?_)
      · skip
        have hm : m_once J M s o w = m_onceB J M s o w := by unfold m_once; rw [if_neg c4, if_neg d12, if_neg c21]; rfl
        obtain ⟨s9, hs9, rfl⟩ := isB_s c4
        obtain ⟨y, hy, hy8, rfl⟩ := isB_y hb d12
        refine x_aload_n h dX0_onceMore_26 rfl ?_
        refine x_iload_n h dX0_onceMore_27 rfl ?_
        refine x_callVWXi h (As := [.int _]) (k0_layRow l hl G n _ _ hC _ _ J M s9 hs9 (hSh s9 hs9) hI0 hb) w_X0_298 (mlt hC.1 rfl) (hC.2.1 _ _ rfl) dX0_onceMore_28 ⟨by decide, by decide⟩ ⟨by decide, by decide⟩ rfl (Nat.le_of_ble_eq_true rfl) (fun v28 n28 Ty28 J28 hn28 hT28 hp28 => ?_)
        have hC28 := hC.grow hn28 hT28
        refine x_istore h dX0_onceMore_31 (by decide) [some (.ref (xb G + 0)), some (.int (nI s9)), some (.int (nI y)), some (.int w), some (.int v28), none, none, none, none] rfl ?_
        refine x_iload h dX0_onceMore_33 rfl ?_
        refine x_if_ge h 41 dX0_onceMore_35 rfl (fun c35 => ?_) (fun c35 => ?_)
        · skip
          have hnb0 : ¬ m_noB J (nI s9) < 0 := by rw [← hp28.1]; exact Int32.not_lt.mpr c35
          obtain ⟨z, h45, hR⟩ := hp28.2.1 (noB_z hp28.1 (Int32.not_lt.mpr c35))
          have hz20 := hR.2.1
          have hQ2 := lay_Q (M := M) (s := nI s9) hQ hC hn28 hT28 hp28.2.2
          have hm2 := hm
          unfold m_onceB at hm2
          rw [if_neg hnb0] at hm2
          have h70 : m_reads J M (nI s9) 70 0 = J 70 0 := reads_pj 70 0 (Or.inl ⟨rfl, by decide⟩)
          have hfr0 : Fr q2set I J28 := hp28.2.2.sub fun _ _ z => rset_q z
          generalize m_reads J M (nI s9) = K0 at h45 hR hQ2 hm2 h70
          have hnK : ix (K0 70 0) < 9 := by rw [h70, enx]; exact hnb
          have hWa := hQ2.wall hR h45
          refine x_aload_n h dX0_onceMore_41 rfl ?_
          refine x_geti h g_X0_275 (mlt hC28.1 rfl) (hC28.2.1 _ _ rfl) rfl dX0_onceMore_42 ?_
          refine x_bipush h dX0_onceMore_45 (20) rfl ?_
          refine x_icmp_ne h 53 dX0_onceMore_47 rfl (fun c47 => ?_) (fun c47 => ?_)
          · skip
            refine x_iconst h dX0_onceMore_53 (0) rfl ?_
            refine x_istore h dX0_onceMore_54 (by decide) [some (.ref (xb G + 0)), some (.int (nI s9)), some (.int (nI y)), some (.int w), some (.int v28), some (.int 0), none, none, none] rfl ?_
            refine x_iconst h dX0_onceMore_56 (-1) rfl ?_
            refine x_istore h dX0_onceMore_57 (by decide) [some (.ref (xb G + 0)), some (.int (nI s9)), some (.int (nI y)), some (.int w), some (.int v28), some (.int 0), some (.int (-1)), none, none] rfl ?_
            refine x_iconst h dX0_onceMore_59 (0) rfl ?_
            refine x_istore h dX0_onceMore_60 (by decide) [some (.ref (xb G + 0)), some (.int (nI s9)), some (.int (nI y)), some (.int w), some (.int v28), some (.int 0), some (.int (-1)), some (.int 0), none] rfl ?_
            have hz19 : z < 20 := Nat.lt_of_le_of_ne hz20 (fun e => c47 (by rw [hR.1, e]; rfl))
            rw [if_neg (fun e => c47 (by rw [hR.1, ← h45]; exact e)), h45, ix_n (show z < 2147483648 by omega)] at hm2
            have lp62 : ∀ (d : Nat) (k : Nat) (x : (Int32 × Int32) × xI_T) (A : xI_T), z + 1 - k < d → (k ≤ z + 1) → (x = m_onceGo (nI y) k ((0, -1), K0)) → (tryI z J28 A K0 x.2) → X Θ 3 1010 n28 Ty28 A L F 62 [some (.ref (xb G + 0)), some (.int (nI s9)), some (.int (nI y)), some (.int w), some (.int v28), some (.int x.1.1), some (.int x.1.2), some (.int (nI k)), none] [] := by
              intro d
              induction d with
              | zero =>
                intro k x A hlt
                exact absurd hlt (Nat.not_lt_zero _)
              | succ d ih =>
                intro k x A hlt hk hx hI
                refine x_iload h dX0_onceMore_62 rfl ?_
                refine x_aload_n h dX0_onceMore_64 rfl ?_
                refine x_geti h g_X0_275 (mlt hC28.1 rfl) (hC28.2.1 _ _ rfl) rfl dX0_onceMore_65 ?_
                refine x_eqi (nI z) hI.1.1 ?_
                refine x_icmp_gt h 105 dX0_onceMore_68 rfl (fun c68 => ?_) (fun c68 => ?_)
                · skip
                  have hkz : k = z + 1 := by have := (nI_ltI (a := z) (b := k) (by omega) (by omega)).mp c68; omega
                  refine x_iload_n h dX0_onceMore_105 rfl ?_
                  refine x_if_ne h 114 dX0_onceMore_106 rfl (fun c106 => ?_) (fun c106 => ?_)
                  · skip
                    refine x_iload h dX0_onceMore_114 rfl ?_
                    refine x_wid h (by decide) (by decide) ?_
                    exact x_iret h dX0_onceMore_116 rfl ⟨hn28, hT28, rfl, rfl, _, rfl, by rw [hm2, ← hkz, ← hx]; unfold m_pick2; first | (rw [if_pos c106]; done) | (rw [if_neg c106]; done), (hfr0.tr hI.2.2.2)⟩
                  · skip
                    refine x_iload h dX0_onceMore_109 rfl ?_
                    refine x_goto h 116 dX0_onceMore_111 rfl ?_
                    refine x_wid h (by decide) (by decide) ?_
                    exact x_iret h dX0_onceMore_116 rfl ⟨hn28, hT28, rfl, rfl, _, rfl, by rw [hm2, ← hkz, ← hx]; unfold m_pick2; first | (rw [if_pos c106]; done) | (rw [if_neg c106]; done), (hfr0.tr hI.2.2.2)⟩
                · skip
                  have hkz : k ≤ z := (nI_leI (by omega) (by omega)).mp (Int32.not_lt.mp c68)
                  refine x_aload_n h dX0_onceMore_71 rfl ?_
                  refine x_iload h dX0_onceMore_72 rfl ?_
                  refine x_iload_n h dX0_onceMore_74 rfl ?_
                  refine x_iload_n h dX0_onceMore_75 rfl ?_
                  refine x_callVRi h (As := [.int _, .int _, .int _]) (k0_purseWith l G n28 _ _ hC28 _ _ x.2 k y y z (hI.Q hQ2) hI.1 hI.2.1 hkz hz19 (by rw [hI.b, h70]; exact hy) (by rw [hI.b, h70]; exact hy)) m_X0_315 (mlt hC28.1 rfl) (hC28.2.1 _ _ rfl) dX0_onceMore_76 ⟨by decide, by decide⟩ ⟨by decide, by decide⟩ rfl (Nat.le_of_ble_eq_true rfl) (fun v76 J76 hp76 => ?_)
                  refine x_istore h dX0_onceMore_79 (by decide) [some (.ref (xb G + 0)), some (.int (nI s9)), some (.int (nI y)), some (.int w), some (.int v28), some (.int x.1.1), some (.int x.1.2), some (.int (nI k)), some (.int v76)] rfl ?_
                  refine x_iload h dX0_onceMore_81 rfl ?_
                  refine x_iload h dX0_onceMore_83 rfl ?_
                  refine x_icmp_gt h 91 dX0_onceMore_85 rfl (fun c85 => ?_) (fun c85 => ?_)
                  · skip
                    refine x_iload h dX0_onceMore_91 rfl ?_
                    refine x_istore h dX0_onceMore_93 (by decide) [some (.ref (xb G + 0)), some (.int (nI s9)), some (.int (nI y)), some (.int w), some (.int v28), some (.int (nI k)), some (.int x.1.2), some (.int (nI k)), some (.int v76)] rfl ?_
                    refine x_iload h dX0_onceMore_95 rfl ?_
                    refine x_istore h dX0_onceMore_97 (by decide) [some (.ref (xb G + 0)), some (.int (nI s9)), some (.int (nI y)), some (.int w), some (.int v28), some (.int (nI k)), some (.int v76), some (.int (nI k)), some (.int v76)] rfl ?_
                    refine x_iinc h dX0_onceMore_99 (by decide) rfl (nI (k + 1)) (nI_1 k) [some (.ref (xb G + 0)), some (.int (nI s9)), some (.int (nI y)), some (.int w), some (.int v28), some (.int (nI k)), some (.int v76), some (.int (nI (k + 1))), some (.int v76)] rfl ?_
                    refine x_goto h 62 dX0_onceMore_102 rfl ?_
                    refine x_wk (lv := [some (.ref (xb G + 0)), some (.int (nI s9)), some (.int (nI y)), some (.int w), some (.int v28), some (.int (nI k)), some (.int v76), some (.int (nI (k + 1))), none]) ?_ ⟨rfl, rfl, rfl, rfl, rfl, rfl, rfl, rfl, trivial⟩
                    exact ih (k + 1) ((((nI k)), (v76)), (m_try x.2 k (nI y) (nI y)).2) J76 (by omega) (by omega) (by rw [onceGo_s hx, ← hp76.1]; first | (rw [better_1 (Int32.not_lt.mp c85)]; done) | (rw [better_2 (Int32.not_le.mpr c85)]; done)) (hI.put hQ2 (by omega) hz19 hy8 hp76.2.1 hp76.2.2)
                  · skip
                    refine x_goto h 99 dX0_onceMore_88 rfl ?_
                    refine x_iinc h dX0_onceMore_99 (by decide) rfl (nI (k + 1)) (nI_1 k) [some (.ref (xb G + 0)), some (.int (nI s9)), some (.int (nI y)), some (.int w), some (.int v28), some (.int x.1.1), some (.int x.1.2), some (.int (nI (k + 1))), some (.int v76)] rfl ?_
                    refine x_goto h 62 dX0_onceMore_102 rfl ?_
                    refine x_wk (lv := [some (.ref (xb G + 0)), some (.int (nI s9)), some (.int (nI y)), some (.int w), some (.int v28), some (.int x.1.1), some (.int x.1.2), some (.int (nI (k + 1))), none]) ?_ ⟨rfl, rfl, rfl, rfl, rfl, rfl, rfl, rfl, trivial⟩
                    exact ih (k + 1) (((x.1.1), (x.1.2)), (m_try x.2 k (nI y) (nI y)).2) J76 (by omega) (by omega) (by rw [onceGo_s hx, ← hp76.1]; first | (rw [better_1 (Int32.not_lt.mp c85)]; done) | (rw [better_2 (Int32.not_le.mpr c85)]; done)) (hI.put hQ2 (by omega) hz19 hy8 hp76.2.1 hp76.2.2)
            exact lp62 (z + 2) 0 ((0, -1), K0) J28 (by omega) (by omega) rfl (tryI.zero hR h45)
          · skip
            have d47 := c47
            rw [if_pos (by rw [h45, ← hR.1]; exact d47)] at hm2
            refine x_bipush h dX0_onceMore_50 (-5) rfl ?_
            refine x_wid h (by decide) (by decide) ?_
            exact x_iret h dX0_onceMore_52 rfl ⟨hn28, hT28, rfl, rfl, _, rfl, by rw [hm2], hfr0⟩
        · skip
          have hnb1 : m_noB J (nI s9) < 0 := by rw [← hp28.1]; exact Int32.not_le.mp c35
          refine x_iload h dX0_onceMore_38 rfl ?_
          refine x_wid h (by decide) (by decide) ?_
          exact x_iret h dX0_onceMore_40 rfl ⟨hn28, hT28, rfl, rfl, _, rfl, by rw [hm]; unfold m_onceB; rw [if_pos hnb1]; exact hp28.1, hp28.2.2.sub fun _ _ z => rset_q z⟩
      · skip
        have d21 : inR w 0 1 = 0 := c21
        have hz : (m_once J M s o w).1 = -1 := by unfold m_once; rw [if_neg c4, if_neg d12, if_pos d21]
        refine x_iconst h dX0_onceMore_24 (-1) rfl ?_
        refine x_wid h (by decide) (by decide) ?_
        exact x_iret h dX0_onceMore_25 rfl ⟨Nat.le_refl _, fun _ _ => rfl, rfl, rfl, _, rfl, hz.symm, Fr.rf⟩
set_option maxHeartbeats 4000000 in
theorem k0_hired (l : Launch) (hl : l.stackTraces = false) (G : xG_T) (n : Nat) (Ty : Nat → xs_T) (F : xF_T) (hC : WC n Ty F) (I : xI_T) (L : xL_T) (J : xI_T) (M : xL_T) (s p o w : Int32) (hQ : QS n Ty I F J) (hSh : ∀ s : Nat, s < 6 → shK n Ty I L F J M s) : Cg l (280) 3 1010 yX0_hired cX0_hired 10 (some .int) G idC [.ref (xb G + 0), .int s, .int p, .int o, .int w] n Ty I L F (xpX n Ty L F (aR (fun r I2 => r = (m_hired J M s p o w).1 ∧ Fr q2set I I2))) := by
  refine Cg.intro (cls := RX0) (pad := 5) (lv := [some (.ref (xb G + 0)), some (.int s), some (.int p), some (.int o), some (.int w), none, none, none, none, none]) rfl (by decide) (Nat.le_of_ble_eq_true rfl) rfl (fun Θ h => ?_)
  have hI0 : I 0 1 = J 70 0 := hQ.1.1.1
  have hb := hQ.2.2.1.1
  obtain ⟨nb, hnb, enb, enx, hnI⟩ := hQ.nb
  have ekB : ∀ o : Int32, k_isB I o = m_isB J o := isB_k hI0
  refine x_iload_n h dX0_hired_0 rfl ?_
  refine x_callSEi h (As := [.int _]) (k0_isShelf l G n _ _ hC _ _ _ ) m_X0_29 dX0_hired_1 ⟨by decide, by decide⟩ ⟨by decide, by decide⟩ rfl (Nat.le_of_ble_eq_true rfl) ?_
  refine x_if_eq h 29 dX0_hired_4 rfl (fun c4 => ?_) (fun c4 => ?_)
  · skip
    have hz : (m_hired J M s p o w).1 = -1 := by unfold m_hired; rw [if_pos c4]
    refine x_iconst h dX0_hired_29 (-1) rfl ?_
    refine x_wid h (by decide) (by decide) ?_
    exact x_iret h dX0_hired_30 rfl ⟨Nat.le_refl _, fun _ _ => rfl, rfl, rfl, _, rfl, hz.symm, Fr.rf⟩
  · skip
    refine x_iload_n h dX0_hired_7 rfl ?_
    refine x_if_lt h 29 dX0_hired_8 rfl (fun c8 => ?_) (fun c8 => ?_)
    · skip
      have hz : (m_hired J M s p o w).1 = -1 := by unfold m_hired; rw [if_neg c4, if_pos c8]
      refine x_iconst h dX0_hired_29 (-1) rfl ?_
      refine x_wid h (by decide) (by decide) ?_
      exact x_iret h dX0_hired_30 rfl ⟨Nat.le_refl _, fun _ _ => rfl, rfl, rfl, _, rfl, hz.symm, Fr.rf⟩
    · skip
      refine x_aload_n h dX0_hired_11 rfl ?_
      refine x_iload_n h dX0_hired_12 rfl ?_
      refine x_callVEi h (As := [.int _]) (k0_isBuyer l G n _ _ hC _ _ _ ) m_X0_11 (mlt hC.1 rfl) (hC.2.1 _ _ rfl) dX0_hired_13 ⟨by decide, by decide⟩ ⟨by decide, by decide⟩ rfl (Nat.le_of_ble_eq_true rfl) ?_
      refine x_if_eq h 29 dX0_hired_16 rfl (fun c16 => ?_) (fun c16 => ?_)
      · skip
        have d12 : m_isB J o = 0 := by rw [← ekB]; exact c16
        have hz : (m_hired J M s p o w).1 = -1 := by unfold m_hired; rw [if_neg c4, if_neg c8, if_pos d12]
        refine x_iconst h dX0_hired_29 (-1) rfl ?_
        refine x_wid h (by decide) (by decide) ?_
        exact x_iret h dX0_hired_30 rfl ⟨Nat.le_refl _, fun _ _ => rfl, rfl, rfl, _, rfl, hz.symm, Fr.rf⟩
      · skip
        have d12 : ¬ m_isB J o = 0 := by rw [← ekB]; exact c16
        refine x_iload h dX0_hired_19 rfl ?_
        refine x_iconst h dX0_hired_21 (0) rfl ?_
        refine x_iconst h dX0_hired_22 (1) rfl ?_
        refine x_callSEi h (As := [.int _, .int _, .int _]) (k0_in l G n _ _ hC _ _ _ _ _ ) m_X0_7 dX0_hired_23 ⟨by decide, by decide⟩ ⟨by decide, by decide⟩ rfl (Nat.le_of_ble_eq_true rfl) ?_
        refine x_if_ne h 31 dX0_hired_26 rfl (fun c26 => ?_) (fun c26 => ?_)
        · skip
          have hm : m_hired J M s p o w = m_hiredB J M s p o w := by unfold m_hired; rw [if_neg c4, if_neg c8, if_neg d12, if_neg c26]; rfl
          obtain ⟨s9, hs9, rfl⟩ := isB_s c4
          obtain ⟨y, hy, hy8, rfl⟩ := isB_y hb d12
          obtain ⟨q9, hq31, rfl⟩ := nI_of c8
          refine x_aload_n h dX0_hired_31 rfl ?_
          refine x_iload_n h dX0_hired_32 rfl ?_
          refine x_callVWXi h (As := [.int _]) (k0_layRow l hl G n _ _ hC _ _ J M s9 hs9 (hSh s9 hs9) hI0 hb) w_X0_298 (mlt hC.1 rfl) (hC.2.1 _ _ rfl) dX0_hired_33 ⟨by decide, by decide⟩ ⟨by decide, by decide⟩ rfl (Nat.le_of_ble_eq_true rfl) (fun v33 n33 Ty33 J33 hn33 hT33 hp33 => ?_)
          have hC33 := hC.grow hn33 hT33
          refine x_istore h dX0_hired_36 (by decide) [some (.ref (xb G + 0)), some (.int (nI s9)), some (.int (nI q9)), some (.int (nI y)), some (.int w), some (.int v33), none, none, none, none] rfl ?_
          refine x_iload h dX0_hired_38 rfl ?_
          refine x_if_ge h 46 dX0_hired_40 rfl (fun c40 => ?_) (fun c40 => ?_)
          · skip
            have hnb0 : ¬ m_noB J (nI s9) < 0 := by rw [← hp33.1]; exact Int32.not_lt.mpr c40
            obtain ⟨z, h45, hR⟩ := hp33.2.1 (noB_z hp33.1 (Int32.not_lt.mpr c40))
            have hz20 := hR.2.1
            have hQ2 := lay_Q (M := M) (s := nI s9) hQ hC hn33 hT33 hp33.2.2
            have hm2 := hm
            unfold m_hiredB at hm2
            rw [if_neg hnb0] at hm2
            have h70 : m_reads J M (nI s9) 70 0 = J 70 0 := reads_pj 70 0 (Or.inl ⟨rfl, by decide⟩)
            have hfr0 : Fr q2set I J33 := hp33.2.2.sub fun _ _ z => rset_q z
            generalize m_reads J M (nI s9) = K0 at h45 hR hQ2 hm2 h70
            have hnK : ix (K0 70 0) < 9 := by rw [h70, enx]; exact hnb
            have hWa := hQ2.wall hR h45
            refine x_iload_n h dX0_hired_46 rfl ?_
            refine x_aload_n h dX0_hired_47 rfl ?_
            refine x_geti h g_X0_275 (mlt hC33.1 rfl) (hC33.2.1 _ _ rfl) rfl dX0_hired_48 ?_
            refine x_eqi (nI z) hR.1 ?_
            refine x_icmp_le h 56 dX0_hired_51 rfl (fun c51 => ?_) (fun c51 => ?_)
            · skip
              have hqz : q9 ≤ z := (nI_leI (by omega) (by omega)).mp c51
              rw [if_neg (by rw [h45]; exact Int32.not_lt.mpr c51)] at hm2
              refine x_aload_n h dX0_hired_56 rfl ?_
              refine x_geti h g_X0_275 (mlt hC33.1 rfl) (hC33.2.1 _ _ rfl) rfl dX0_hired_57 ?_
              refine x_bipush h dX0_hired_60 (20) rfl ?_
              refine x_icmp_ne h 68 dX0_hired_62 rfl (fun c62 => ?_) (fun c62 => ?_)
              · skip
                refine x_iconst h dX0_hired_68 (0) rfl ?_
                refine x_istore h dX0_hired_69 (by decide) [some (.ref (xb G + 0)), some (.int (nI s9)), some (.int (nI q9)), some (.int (nI y)), some (.int w), some (.int v33), some (.int 0), none, none, none] rfl ?_
                refine x_iconst h dX0_hired_71 (-1) rfl ?_
                refine x_istore h dX0_hired_72 (by decide) [some (.ref (xb G + 0)), some (.int (nI s9)), some (.int (nI q9)), some (.int (nI y)), some (.int w), some (.int v33), some (.int 0), some (.int (-1)), none, none] rfl ?_
                refine x_iconst h dX0_hired_74 (0) rfl ?_
                refine x_istore h dX0_hired_75 (by decide) [some (.ref (xb G + 0)), some (.int (nI s9)), some (.int (nI q9)), some (.int (nI y)), some (.int w), some (.int v33), some (.int 0), some (.int (-1)), some (.int 0), none] rfl ?_
                have hz19 : z < 20 := Nat.lt_of_le_of_ne hz20 (fun e => c62 (by rw [hR.1, e]; rfl))
                rw [if_neg (fun e => c62 (by rw [hR.1, ← h45]; exact e)), h70, enx, ix_n (show q9 < 2147483648 by omega)] at hm2
                have lp77 : ∀ (d : Nat) (k : Nat) (x : (Int32 × Int32) × xI_T) (A : xI_T), nb - k < d → (k ≤ nb) → (x = m_hirGo q9 (nI y) k ((0, -1), K0)) → (tryI z J33 A K0 x.2) → X Θ 3 1010 n33 Ty33 A L F 77 [some (.ref (xb G + 0)), some (.int (nI s9)), some (.int (nI q9)), some (.int (nI y)), some (.int w), some (.int v33), some (.int x.1.1), some (.int x.1.2), some (.int (nI k)), none] [] := by
                  intro d
                  induction d with
                  | zero =>
                    intro k x A hlt
                    exact absurd hlt (Nat.not_lt_zero _)
                  | succ d ih =>
                    intro k x A hlt hk hx hI
                    have h01 : A 0 1 = nI nb := by rw [hI.2.2.2 0 1 (by unfold q2set qset bset lset cset; omega), hfr0 0 1 (by unfold q2set qset bset lset cset; omega)]; exact hnI
                    refine x_iload h dX0_hired_77 rfl ?_
                    refine x_aload_n h dX0_hired_79 rfl ?_
                    refine x_geti h g_X0_1 (mlt hC33.1 rfl) (hC33.2.1 _ _ rfl) rfl dX0_hired_80 ?_
                    refine x_eqi (nI nb) h01 ?_
                    refine x_icmp_ge h 120 dX0_hired_83 rfl (fun c83 => ?_) (fun c83 => ?_)
                    · skip
                      have hkz : k = nb := by have := (nI_leI (a := nb) (b := k) (by omega) (by omega)).mp c83; omega
                      refine x_iload h dX0_hired_120 rfl ?_
                      refine x_if_ne h 130 dX0_hired_122 rfl (fun c122 => ?_) (fun c122 => ?_)
                      · skip
                        refine x_iload h dX0_hired_130 rfl ?_
                        refine x_wid h (by decide) (by decide) ?_
                        exact x_iret h dX0_hired_132 rfl ⟨hn33, hT33, rfl, rfl, _, rfl, by rw [hm2, ← hkz, ← hx]; unfold m_pick2; first | (rw [if_pos c122]; done) | (rw [if_neg c122]; done), (hfr0.tr hI.2.2.2)⟩
                      · skip
                        refine x_iload h dX0_hired_125 rfl ?_
                        refine x_goto h 132 dX0_hired_127 rfl ?_
                        refine x_wid h (by decide) (by decide) ?_
                        exact x_iret h dX0_hired_132 rfl ⟨hn33, hT33, rfl, rfl, _, rfl, by rw [hm2, ← hkz, ← hx]; unfold m_pick2; first | (rw [if_pos c122]; done) | (rw [if_neg c122]; done), (hfr0.tr hI.2.2.2)⟩
                    · skip
                      have hkz : k < nb := Nat.lt_of_not_le fun u => c83 ((nI_leI (by omega) (by omega)).mpr u)
                      refine x_aload_n h dX0_hired_86 rfl ?_
                      refine x_iload_n h dX0_hired_87 rfl ?_
                      refine x_iload h dX0_hired_88 rfl ?_
                      refine x_iload_n h dX0_hired_90 rfl ?_
                      refine x_callVRi h (As := [.int _, .int _, .int _]) (k0_purseWith l G n33 _ _ hC33 _ _ x.2 q9 k y z (hI.Q hQ2) hI.1 hI.2.1 hqz hz19 (by rw [hI.b, h70, enx]; exact hkz) (by rw [hI.b, h70]; exact hy)) m_X0_315 (mlt hC33.1 rfl) (hC33.2.1 _ _ rfl) dX0_hired_91 ⟨by decide, by decide⟩ ⟨by decide, by decide⟩ rfl (Nat.le_of_ble_eq_true rfl) (fun v91 J91 hp91 => ?_)
                      refine x_istore h dX0_hired_94 (by decide) [some (.ref (xb G + 0)), some (.int (nI s9)), some (.int (nI q9)), some (.int (nI y)), some (.int w), some (.int v33), some (.int x.1.1), some (.int x.1.2), some (.int (nI k)), some (.int v91)] rfl ?_
                      refine x_iload h dX0_hired_96 rfl ?_
                      refine x_iload h dX0_hired_98 rfl ?_
                      refine x_icmp_gt h 106 dX0_hired_100 rfl (fun c100 => ?_) (fun c100 => ?_)
                      · skip
                        refine x_iload h dX0_hired_106 rfl ?_
                        refine x_istore h dX0_hired_108 (by decide) [some (.ref (xb G + 0)), some (.int (nI s9)), some (.int (nI q9)), some (.int (nI y)), some (.int w), some (.int v33), some (.int (nI k)), some (.int x.1.2), some (.int (nI k)), some (.int v91)] rfl ?_
                        refine x_iload h dX0_hired_110 rfl ?_
                        refine x_istore h dX0_hired_112 (by decide) [some (.ref (xb G + 0)), some (.int (nI s9)), some (.int (nI q9)), some (.int (nI y)), some (.int w), some (.int v33), some (.int (nI k)), some (.int v91), some (.int (nI k)), some (.int v91)] rfl ?_
                        refine x_iinc h dX0_hired_114 (by decide) rfl (nI (k + 1)) (nI_1 k) [some (.ref (xb G + 0)), some (.int (nI s9)), some (.int (nI q9)), some (.int (nI y)), some (.int w), some (.int v33), some (.int (nI k)), some (.int v91), some (.int (nI (k + 1))), some (.int v91)] rfl ?_
                        refine x_goto h 77 dX0_hired_117 rfl ?_
                        refine x_wk (lv := [some (.ref (xb G + 0)), some (.int (nI s9)), some (.int (nI q9)), some (.int (nI y)), some (.int w), some (.int v33), some (.int (nI k)), some (.int v91), some (.int (nI (k + 1))), none]) ?_ ⟨rfl, rfl, rfl, rfl, rfl, rfl, rfl, rfl, rfl, trivial⟩
                        exact ih (k + 1) ((((nI k)), (v91)), (m_try x.2 q9 (nI k) (nI y)).2) J91 (by omega) (by omega) (by rw [hirGo_s hx, ← hp91.1]; first | (rw [better_1 (Int32.not_lt.mp c100)]; done) | (rw [better_2 (Int32.not_le.mpr c100)]; done)) (hI.put hQ2 (by omega) hz19 (show k < 8 by omega) hp91.2.1 hp91.2.2)
                      · skip
                        refine x_goto h 114 dX0_hired_103 rfl ?_
                        refine x_iinc h dX0_hired_114 (by decide) rfl (nI (k + 1)) (nI_1 k) [some (.ref (xb G + 0)), some (.int (nI s9)), some (.int (nI q9)), some (.int (nI y)), some (.int w), some (.int v33), some (.int x.1.1), some (.int x.1.2), some (.int (nI (k + 1))), some (.int v91)] rfl ?_
                        refine x_goto h 77 dX0_hired_117 rfl ?_
                        refine x_wk (lv := [some (.ref (xb G + 0)), some (.int (nI s9)), some (.int (nI q9)), some (.int (nI y)), some (.int w), some (.int v33), some (.int x.1.1), some (.int x.1.2), some (.int (nI (k + 1))), none]) ?_ ⟨rfl, rfl, rfl, rfl, rfl, rfl, rfl, rfl, rfl, trivial⟩
                        exact ih (k + 1) (((x.1.1), (x.1.2)), (m_try x.2 q9 (nI k) (nI y)).2) J91 (by omega) (by omega) (by rw [hirGo_s hx, ← hp91.1]; first | (rw [better_1 (Int32.not_lt.mp c100)]; done) | (rw [better_2 (Int32.not_le.mpr c100)]; done)) (hI.put hQ2 (by omega) hz19 (show k < 8 by omega) hp91.2.1 hp91.2.2)
                exact lp77 (nb + 1) 0 ((0, -1), K0) J33 (by omega) (by omega) rfl (tryI.zero hR h45)
              · skip
                have d62 := c62
                rw [if_pos (by rw [h45, ← hR.1]; exact d62)] at hm2
                refine x_bipush h dX0_hired_65 (-5) rfl ?_
                refine x_wid h (by decide) (by decide) ?_
                exact x_iret h dX0_hired_67 rfl ⟨hn33, hT33, rfl, rfl, _, rfl, by rw [hm2], hfr0⟩
            · skip
              rw [if_pos (by rw [h45]; exact Int32.not_le.mp c51)] at hm2
              refine x_iconst h dX0_hired_54 (-1) rfl ?_
              refine x_wid h (by decide) (by decide) ?_
              exact x_iret h dX0_hired_55 rfl ⟨hn33, hT33, rfl, rfl, _, rfl, by rw [hm2], hfr0⟩
          · skip
            have hnb1 : m_noB J (nI s9) < 0 := by rw [← hp33.1]; exact Int32.not_le.mp c40
            refine x_iload h dX0_hired_43 rfl ?_
            refine x_wid h (by decide) (by decide) ?_
            exact x_iret h dX0_hired_45 rfl ⟨hn33, hT33, rfl, rfl, _, rfl, by rw [hm]; unfold m_hiredB; rw [if_pos hnb1]; exact hp33.1, hp33.2.2.sub fun _ _ z => rset_q z⟩
        · skip
          have d21 : inR w 0 1 = 0 := c26
          have hz : (m_hired J M s p o w).1 = -1 := by unfold m_hired; rw [if_neg c4, if_neg c8, if_neg d12, if_pos d21]
          refine x_iconst h dX0_hired_29 (-1) rfl ?_
          refine x_wid h (by decide) (by decide) ?_
          exact x_iret h dX0_hired_30 rfl ⟨Nat.le_refl _, fun _ _ => rfl, rfl, rfl, _, rfl, hz.symm, Fr.rf⟩
set_option maxHeartbeats 4000000 in
theorem k0_latch (l : Launch) (hl : l.stackTraces = false) (G : xG_T) (n : Nat) (Ty : Nat → xs_T) (F : xF_T) (hC : WC n Ty F) (I : xI_T) (L : xL_T) (J : xI_T) (M : xL_T) (s o w : Int32) (hQ : QS n Ty I F J) (hSh : ∀ s : Nat, s < 6 → shK n Ty I L F J M s) : Cg l (280) 3 1010 yX0_latch cX0_latch 9 (some .int) G idC [.ref (xb G + 0), .int s, .int o, .int w] n Ty I L F (xpX n Ty L F (aR (fun r I2 => r = (m_latch J M s o w).1 ∧ Fr q2set I I2))) := by
  refine Cg.intro (cls := RX0) (pad := 5) (lv := [some (.ref (xb G + 0)), some (.int s), some (.int o), some (.int w), none, none, none, none, none]) rfl (by decide) (Nat.le_of_ble_eq_true rfl) rfl (fun Θ h => ?_)
  have hI0 : I 0 1 = J 70 0 := hQ.1.1.1
  have hb := hQ.2.2.1.1
  obtain ⟨nb, hnb, enb, enx, hnI⟩ := hQ.nb
  have ekB : ∀ o : Int32, k_isB I o = m_isB J o := isB_k hI0
  refine x_iload_n h dX0_latch_0 rfl ?_
  refine x_callSEi h (As := [.int _]) (k0_isShelf l G n _ _ hC _ _ _ ) m_X0_29 dX0_latch_1 ⟨by decide, by decide⟩ ⟨by decide, by decide⟩ rfl (Nat.le_of_ble_eq_true rfl) ?_
  refine x_if_eq h 24 dX0_latch_4 rfl (fun c4 => ?_) (fun c4 => ?_)
  · skip
    have hz : (m_latch J M s o w).1 = -1 := by unfold m_latch; rw [if_pos c4]
    refine x_iconst h dX0_latch_24 (-1) rfl ?_
    refine x_wid h (by decide) (by decide) ?_
    exact x_iret h dX0_latch_25 rfl ⟨Nat.le_refl _, fun _ _ => rfl, rfl, rfl, _, rfl, hz.symm, Fr.rf⟩
  · skip
    refine x_aload_n h dX0_latch_7 rfl ?_
    refine x_iload_n h dX0_latch_8 rfl ?_
    refine x_callVEi h (As := [.int _]) (k0_isBuyer l G n _ _ hC _ _ _ ) m_X0_11 (mlt hC.1 rfl) (hC.2.1 _ _ rfl) dX0_latch_9 ⟨by decide, by decide⟩ ⟨by decide, by decide⟩ rfl (Nat.le_of_ble_eq_true rfl) ?_
    refine x_if_eq h 24 dX0_latch_12 rfl (fun c12 => ?_) (fun c12 => ?_)
    · skip
      have d12 : m_isB J o = 0 := by rw [← ekB]; exact c12
      have hz : (m_latch J M s o w).1 = -1 := by unfold m_latch; rw [if_neg c4, if_pos d12]
      refine x_iconst h dX0_latch_24 (-1) rfl ?_
      refine x_wid h (by decide) (by decide) ?_
      exact x_iret h dX0_latch_25 rfl ⟨Nat.le_refl _, fun _ _ => rfl, rfl, rfl, _, rfl, hz.symm, Fr.rf⟩
    · skip
      have d12 : ¬ m_isB J o = 0 := by rw [← ekB]; exact c12
      refine x_iload_n h dX0_latch_15 rfl ?_
      refine x_iconst h dX0_latch_16 (0) rfl ?_
      refine x_iconst h dX0_latch_17 (1) rfl ?_
      refine x_callSEi h (As := [.int _, .int _, .int _]) (k0_in l G n _ _ hC _ _ _ _ _ ) m_X0_7 dX0_latch_18 ⟨by decide, by decide⟩ ⟨by decide, by decide⟩ rfl (Nat.le_of_ble_eq_true rfl) ?_
      refine x_if_ne h 26 dX0_latch_21 rfl (fun c21 => ?_) (fun c21 => ?_)
      · skip
        have hm : m_latch J M s o w = m_latchB J M s o w := by unfold m_latch; rw [if_neg c4, if_neg d12, if_neg c21]; rfl
        obtain ⟨s9, hs9, rfl⟩ := isB_s c4
        obtain ⟨y, hy, hy8, rfl⟩ := isB_y hb d12
        refine x_aload_n h dX0_latch_26 rfl ?_
        refine x_iload_n h dX0_latch_27 rfl ?_
        refine x_callVWXi h (As := [.int _]) (k0_layRow l hl G n _ _ hC _ _ J M s9 hs9 (hSh s9 hs9) hI0 hb) w_X0_298 (mlt hC.1 rfl) (hC.2.1 _ _ rfl) dX0_latch_28 ⟨by decide, by decide⟩ ⟨by decide, by decide⟩ rfl (Nat.le_of_ble_eq_true rfl) (fun v28 n28 Ty28 J28 hn28 hT28 hp28 => ?_)
        have hC28 := hC.grow hn28 hT28
        refine x_istore h dX0_latch_31 (by decide) [some (.ref (xb G + 0)), some (.int (nI s9)), some (.int (nI y)), some (.int w), some (.int v28), none, none, none, none] rfl ?_
        refine x_iload h dX0_latch_33 rfl ?_
        refine x_if_ge h 41 dX0_latch_35 rfl (fun c35 => ?_) (fun c35 => ?_)
        · skip
          have hnb0 : ¬ m_noB J (nI s9) < 0 := by rw [← hp28.1]; exact Int32.not_lt.mpr c35
          obtain ⟨z, h45, hR⟩ := hp28.2.1 (noB_z hp28.1 (Int32.not_lt.mpr c35))
          have hz20 := hR.2.1
          have hQ2 := lay_Q (M := M) (s := nI s9) hQ hC hn28 hT28 hp28.2.2
          have hm2 := hm
          unfold m_latchB at hm2
          rw [if_neg hnb0] at hm2
          have h70 : m_reads J M (nI s9) 70 0 = J 70 0 := reads_pj 70 0 (Or.inl ⟨rfl, by decide⟩)
          have hfr0 : Fr q2set I J28 := hp28.2.2.sub fun _ _ z => rset_q z
          generalize m_reads J M (nI s9) = K0 at h45 hR hQ2 hm2 h70
          have hnK : ix (K0 70 0) < 9 := by rw [h70, enx]; exact hnb
          have hWa := hQ2.wall hR h45
          refine x_bipush h dX0_latch_41 (-2) rfl ?_
          refine x_istore h dX0_latch_43 (by decide) [some (.ref (xb G + 0)), some (.int (nI s9)), some (.int (nI y)), some (.int w), some (.int v28), some (.int (-2)), none, none, none] rfl ?_
          refine x_aload_n h dX0_latch_45 rfl ?_
          refine x_callVRr h (As := []) (k0_behindRow l G n28 _ _ hC28 _ _ K0 z hQ2.1 hQ2.2.1 hQ2.2.2.1 hQ2.2.2.2 hR) m_X0_302 (mlt hC28.1 rfl) (hC28.2.1 _ _ rfl) dX0_latch_46 ⟨by decide, by decide⟩ ⟨by decide, by decide⟩ rfl (Nat.le_of_ble_eq_true rfl) (fun J46 hp46 => ?_)
          have hv46 : J46 35 y = (m_pursB K0 (nI y)).1 := beh_p hp46 h45 hz20 (by rw [h70]; exact hy) hnK
          have hR46 : RW J46 (m_pursB K0 (nI y)).2 z := pursB_RW hR hp46.2.2.2
          rw [pursB_45, h45, ix_n (show z < 2147483648 by omega)] at hm2
          refine x_getrN h (j := 35) g_X0_207 (mlt hC28.1 rfl) (hC28.2.1 _ _ rfl) (by decide) (hC28.2.2 _ _ _ rfl) dX0_latch_49 ?_
          refine x_iload_n h dX0_latch_52 rfl ?_
          refine x_iald h (mlt hC28.1 rfl) (hC28.2.1 _ _ rfl) (vp_in_nI hy8 (by decide)) (y) (nI_clamp (by omega)) dX0_latch_53 ?_
          refine x_nmi (fun v54 ev54 => ?_)
          refine x_istore h dX0_latch_54 (by decide) [some (.ref (xb G + 0)), some (.int (nI s9)), some (.int (nI y)), some (.int w), some (.int v28), some (.int (-2)), some (.int v54), none, none] rfl ?_
          have ev54s : v54 = (m_pursB K0 (nI y)).1 := ev54.trans hv46
          refine x_iconst h dX0_latch_56 (0) rfl ?_
          refine x_istore h dX0_latch_57 (by decide) [some (.ref (xb G + 0)), some (.int (nI s9)), some (.int (nI y)), some (.int w), some (.int v28), some (.int (-2)), some (.int v54), some (.int 0), none] rfl ?_
          have lp59 : ∀ (d : Nat) (k : Nat) (x : (Int32 × Int32) × xI_T) (A : xI_T), z - k < d → (k ≤ z - 1) → (x = m_latGo (nI y) k ((-2, (m_pursB K0 (nI y)).1), (m_pursB K0 (nI y)).2)) → (tryI z J28 A K0 x.2) → X Θ 3 1010 n28 Ty28 A L F 59 [some (.ref (xb G + 0)), some (.int (nI s9)), some (.int (nI y)), some (.int w), some (.int v28), some (.int x.1.1), some (.int x.1.2), some (.int (nI k)), none] [] := by
            intro d
            induction d with
            | zero =>
              intro k x A hlt
              exact absurd hlt (Nat.not_lt_zero _)
            | succ d ih =>
              intro k x A hlt hk hx hI
              refine x_iload h dX0_latch_59 rfl ?_
              refine x_iconst h dX0_latch_61 (1) rfl ?_
              refine x_iaddE h (nI (k + 1)) (nI_add k 1) dX0_latch_62 ?_
              refine x_aload_n h dX0_latch_63 rfl ?_
              refine x_geti h g_X0_275 (mlt hC28.1 rfl) (hC28.2.1 _ _ rfl) rfl dX0_latch_64 ?_
              refine x_eqi (nI z) hI.1.1 ?_
              refine x_icmp_ge h 117 dX0_latch_67 rfl (fun c67 => ?_) (fun c67 => ?_)
              · skip
                have hkz : k = z - 1 := by have := (nI_leI (a := z) (b := k + 1) (by omega) (by omega)).mp c67; omega
                refine x_iload_n h dX0_latch_117 rfl ?_
                refine x_if_ne h 126 dX0_latch_118 rfl (fun c118 => ?_) (fun c118 => ?_)
                · skip
                  refine x_iload h dX0_latch_126 rfl ?_
                  refine x_wid h (by decide) (by decide) ?_
                  exact x_iret h dX0_latch_128 rfl ⟨hn28, hT28, rfl, rfl, _, rfl, by rw [hm2, ← hkz, ← hx]; unfold m_pick2; first | (rw [if_pos c118]; done) | (rw [if_neg c118]; done), (hfr0.tr hI.2.2.2)⟩
                · skip
                  refine x_iload h dX0_latch_121 rfl ?_
                  refine x_goto h 128 dX0_latch_123 rfl ?_
                  refine x_wid h (by decide) (by decide) ?_
                  exact x_iret h dX0_latch_128 rfl ⟨hn28, hT28, rfl, rfl, _, rfl, by rw [hm2, ← hkz, ← hx]; unfold m_pick2; first | (rw [if_pos c118]; done) | (rw [if_neg c118]; done), (hfr0.tr hI.2.2.2)⟩
              · skip
                have hkz : k + 1 < z := Nat.lt_of_not_le fun u => c67 ((nI_leI (by omega) (by omega)).mpr u)
                refine x_aload_n h dX0_latch_70 rfl ?_
                refine x_iload h dX0_latch_71 rfl ?_
                refine x_callVEv h (As := [.int _]) (k0_change l G n28 _ _ hC28 _ _ k (by omega)) m_X0_319 (mlt hC28.1 rfl) (hC28.2.1 _ _ rfl) dX0_latch_73 ⟨by decide, by decide⟩ ⟨by decide, by decide⟩ rfl (Nat.le_of_ble_eq_true rfl) ?_
                refine x_nmI (fun J73 eJ73 => ?_)
                have hR73 : RW J73 (m_swaps x.2 k) z := by rw [eJ73]; exact swap_RW hI.1 hkz
                have hf73 : Fr q2set A J73 := by rw [eJ73]; exact fun q j z9 => kswap_o (fun y9 => z9 (rset_q y9))
                have hQ73 : QS n28 Ty28 J73 F (m_swaps x.2 k) := (hI.Q hQ2).fr hf73.q swaps_pj
                have h4573 : m_swaps x.2 k 70 45 = nI z := by rw [swaps_i (by decide)]; exact hI.2.1
                have h7073 : m_swaps x.2 k 70 0 = J 70 0 := by rw [swaps_i (by decide), hI.b]; exact h70
                refine x_aload_n h dX0_latch_76 rfl ?_
                refine x_callVRr h (As := []) (k0_behindRow l G n28 _ _ hC28 _ _ (m_swaps x.2 k) z hQ73.1 hQ73.2.1 hQ73.2.2.1 hQ73.2.2.2 hR73) m_X0_302 (mlt hC28.1 rfl) (hC28.2.1 _ _ rfl) dX0_latch_77 ⟨by decide, by decide⟩ ⟨by decide, by decide⟩ rfl (Nat.le_of_ble_eq_true rfl) (fun J77 hp77 => ?_)
                have hv77 : J77 35 y = (m_pursB (m_swaps x.2 k) (nI y)).1 := beh_p hp77 h4573 hz20 (by rw [h7073]; exact hy) (by rw [h7073, enx]; exact hnb)
                have hR77 : RW J77 (m_pursB (m_swaps x.2 k) (nI y)).2 z := pursB_RW hR73 hp77.2.2.2
                refine x_getrN h (j := 35) g_X0_207 (mlt hC28.1 rfl) (hC28.2.1 _ _ rfl) (by decide) (hC28.2.2 _ _ _ rfl) dX0_latch_80 ?_
                refine x_iload_n h dX0_latch_83 rfl ?_
                refine x_iald h (mlt hC28.1 rfl) (hC28.2.1 _ _ rfl) (vp_in_nI hy8 (by decide)) (y) (nI_clamp (by omega)) dX0_latch_84 ?_
                refine x_nmi (fun v85 ev85 => ?_)
                refine x_istore h dX0_latch_85 (by decide) [some (.ref (xb G + 0)), some (.int (nI s9)), some (.int (nI y)), some (.int w), some (.int v28), some (.int x.1.1), some (.int x.1.2), some (.int (nI k)), some (.int v85)] rfl ?_
                have ev85s : v85 = (m_pursB (m_swaps x.2 k) (nI y)).1 := ev85.trans hv77
                refine x_aload_n h dX0_latch_87 rfl ?_
                refine x_iload h dX0_latch_88 rfl ?_
                refine x_callVEv h (As := [.int _]) (k0_change l G n28 _ _ hC28 _ _ k (by omega)) m_X0_319 (mlt hC28.1 rfl) (hC28.2.1 _ _ rfl) dX0_latch_90 ⟨by decide, by decide⟩ ⟨by decide, by decide⟩ rfl (Nat.le_of_ble_eq_true rfl) ?_
                refine x_nmI (fun J90 eJ90 => ?_)
                have hf90 : Fr q2set A J90 := (hf73.tr (hp77.2.2.2.sub fun _ _ z => bset_2 z)).tr (by rw [eJ90]; exact fun q j z9 => kswap_o (fun y9 => z9 (rset_q y9)))
                refine x_iload h dX0_latch_93 rfl ?_
                refine x_iload h dX0_latch_95 rfl ?_
                refine x_icmp_gt h 103 dX0_latch_97 rfl (fun c97 => ?_) (fun c97 => ?_)
                · skip
                  refine x_iload h dX0_latch_103 rfl ?_
                  refine x_istore h dX0_latch_105 (by decide) [some (.ref (xb G + 0)), some (.int (nI s9)), some (.int (nI y)), some (.int w), some (.int v28), some (.int (nI k)), some (.int x.1.2), some (.int (nI k)), some (.int v85)] rfl ?_
                  refine x_iload h dX0_latch_107 rfl ?_
                  refine x_istore h dX0_latch_109 (by decide) [some (.ref (xb G + 0)), some (.int (nI s9)), some (.int (nI y)), some (.int w), some (.int v28), some (.int (nI k)), some (.int v85), some (.int (nI k)), some (.int v85)] rfl ?_
                  refine x_iinc h dX0_latch_111 (by decide) rfl (nI (k + 1)) (nI_1 k) [some (.ref (xb G + 0)), some (.int (nI s9)), some (.int (nI y)), some (.int w), some (.int v28), some (.int (nI k)), some (.int v85), some (.int (nI (k + 1))), some (.int v85)] rfl ?_
                  refine x_goto h 59 dX0_latch_114 rfl ?_
                  refine x_wk (lv := [some (.ref (xb G + 0)), some (.int (nI s9)), some (.int (nI y)), some (.int w), some (.int v28), some (.int (nI k)), some (.int v85), some (.int (nI (k + 1))), none]) ?_ ⟨rfl, rfl, rfl, rfl, rfl, rfl, rfl, rfl, trivial⟩
                  exact ih (k + 1) ((((nI k)), (v85)), m_swaps (m_pursB (m_swaps x.2 k) (nI y)).2 k) J90 (by omega) (by omega) (by rw [latGo_s hx, ← ev85s]; first | (rw [better_1 (Int32.not_lt.mp c97)]; done) | (rw [better_2 (Int32.not_le.mpr c97)]; done)) (hI.swap hQ2 hkz (by rw [eJ90]; exact swap_RW hR77 hkz) hf90)
                · skip
                  refine x_goto h 111 dX0_latch_100 rfl ?_
                  refine x_iinc h dX0_latch_111 (by decide) rfl (nI (k + 1)) (nI_1 k) [some (.ref (xb G + 0)), some (.int (nI s9)), some (.int (nI y)), some (.int w), some (.int v28), some (.int x.1.1), some (.int x.1.2), some (.int (nI (k + 1))), some (.int v85)] rfl ?_
                  refine x_goto h 59 dX0_latch_114 rfl ?_
                  refine x_wk (lv := [some (.ref (xb G + 0)), some (.int (nI s9)), some (.int (nI y)), some (.int w), some (.int v28), some (.int x.1.1), some (.int x.1.2), some (.int (nI (k + 1))), none]) ?_ ⟨rfl, rfl, rfl, rfl, rfl, rfl, rfl, rfl, trivial⟩
                  exact ih (k + 1) (((x.1.1), (x.1.2)), m_swaps (m_pursB (m_swaps x.2 k) (nI y)).2 k) J90 (by omega) (by omega) (by rw [latGo_s hx, ← ev85s]; first | (rw [better_1 (Int32.not_lt.mp c97)]; done) | (rw [better_2 (Int32.not_le.mpr c97)]; done)) (hI.swap hQ2 hkz (by rw [eJ90]; exact swap_RW hR77 hkz) hf90)
          exact lp59 (z + 1) 0 ((-2, v54), (m_pursB K0 (nI y)).2) J46 (by omega) (by omega) (by rw [ev54s]; rfl) ⟨hR46, by rw [pursB_45]; exact h45, pursB_pj (o := nI y) hWa, hp46.2.2.2.sub fun _ _ z => bset_2 z⟩
        · skip
          have hnb1 : m_noB J (nI s9) < 0 := by rw [← hp28.1]; exact Int32.not_le.mp c35
          refine x_iload h dX0_latch_38 rfl ?_
          refine x_wid h (by decide) (by decide) ?_
          exact x_iret h dX0_latch_40 rfl ⟨hn28, hT28, rfl, rfl, _, rfl, by rw [hm]; unfold m_latchB; rw [if_pos hnb1]; exact hp28.1, hp28.2.2.sub fun _ _ z => rset_q z⟩
      · skip
        have d21 : inR w 0 1 = 0 := c21
        have hz : (m_latch J M s o w).1 = -1 := by unfold m_latch; rw [if_neg c4, if_neg d12, if_pos d21]
        refine x_iconst h dX0_latch_24 (-1) rfl ?_
        refine x_wid h (by decide) (by decide) ?_
        exact x_iret h dX0_latch_25 rfl ⟨Nat.le_refl _, fun _ _ => rfl, rfl, rfl, _, rfl, hz.symm, Fr.rf⟩
