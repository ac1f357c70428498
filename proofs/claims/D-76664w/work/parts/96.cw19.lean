/-! WALKS OF THE COMPONENT: later -/
theorem m_X0_305 : xcv RX0 305 2 yX2_evening cX2_evening 2 (none) 0 := ⟨_, _, _, rfl, lw_V q949 q950 q951 q101 q952, rfl, by decide +kernel, by decide +kernel, by decide +kernel⟩
set_option maxHeartbeats 4000000 in
theorem k0_later (l : Launch) (hl : l.stackTraces = false) (G : xG_T) (n : Nat) (Ty : Nat → xs_T) (F : xF_T) (hC : WC n Ty F) (I : xI_T) (L : xL_T) (J : xI_T) (M : xL_T) (s t o : Int32) (hQ : QS n Ty I F J) (hSh : ∀ s : Nat, s < 6 → shK n Ty I L F J M s) (hD : vp_in (J 72 8) 100) : Cg l (280) 3 1010 yX0_later cX0_later 7 (some .int) G idC [.ref (xb G + 0), .int s, .int t, .int o] n Ty I L F (xpX n Ty L F (aR (fun r I2 => r = (m_later J M s t o).1 ∧ Fr q2set I I2))) := by
  refine Cg.intro (cls := RX0) (pad := 3) (lv := [some (.ref (xb G + 0)), some (.int s), some (.int t), some (.int o), none, none, none]) rfl (by decide) (Nat.le_of_ble_eq_true rfl) rfl (fun Θ h => ?_)
  have hI0 : I 0 1 = J 70 0 := hQ.1.1.1
  have hb := hQ.2.2.1.1
  obtain ⟨nb, hnb, enb, enx, hnI⟩ := hQ.nb
  have ekB : ∀ o : Int32, k_isB I o = m_isB J o := isB_k hI0
  refine x_iload_n h dX0_later_0 rfl ?_
  refine x_callSEi h (As := [.int _]) (k0_isShelf l G n _ _ hC _ _ _ ) m_X0_29 dX0_later_1 ⟨by decide, by decide⟩ ⟨by decide, by decide⟩ rfl (Nat.le_of_ble_eq_true rfl) ?_
  refine x_if_eq h 31 dX0_later_4 rfl (fun c4 => ?_) (fun c4 => ?_)
  · skip
    have hz : (m_later J M s t o).1 = -1 := by unfold m_later; rw [if_pos c4]
    refine x_iconst h dX0_later_31 (-1) rfl ?_
    refine x_wid h (by decide) (by decide) ?_
    exact x_iret h dX0_later_32 rfl ⟨Nat.le_refl _, fun _ _ => rfl, rfl, rfl, _, rfl, hz.symm, Fr.rf⟩
  · skip
    refine x_iload_n h dX0_later_7 rfl ?_
    refine x_iconst h dX0_later_8 (0) rfl ?_
    refine x_bipush h dX0_later_9 (20) rfl ?_
    refine x_callSEi h (As := [.int _, .int _, .int _]) (k0_in l G n _ _ hC _ _ _ _ _ ) m_X0_7 dX0_later_11 ⟨by decide, by decide⟩ ⟨by decide, by decide⟩ rfl (Nat.le_of_ble_eq_true rfl) ?_
    refine x_if_eq h 31 dX0_later_14 rfl (fun c14 => ?_) (fun c14 => ?_)
    · skip
      have hz : (m_later J M s t o).1 = -1 := by unfold m_later; rw [if_neg c4, if_pos c14]
      refine x_iconst h dX0_later_31 (-1) rfl ?_
      refine x_wid h (by decide) (by decide) ?_
      exact x_iret h dX0_later_32 rfl ⟨Nat.le_refl _, fun _ _ => rfl, rfl, rfl, _, rfl, hz.symm, Fr.rf⟩
    · skip
      refine x_iload_n h dX0_later_17 rfl ?_
      refine x_iconst h dX0_later_18 (-1) rfl ?_
      refine x_aload_n h dX0_later_19 rfl ?_
      refine x_geti h g_X0_1 (mlt hC.1 rfl) (hC.2.1 _ _ rfl) rfl dX0_later_20 ?_
      refine x_iconst h dX0_later_23 (1) rfl ?_
      refine x_isub h dX0_later_24 ?_
      refine x_callSEi h (As := [.int _, .int _, .int _]) (k0_in l G n _ _ hC _ _ _ _ _ ) m_X0_7 dX0_later_25 ⟨by decide, by decide⟩ ⟨by decide, by decide⟩ rfl (Nat.le_of_ble_eq_true rfl) ?_
      refine x_if_ne h 33 dX0_later_28 rfl (fun c28 => ?_) (fun c28 => ?_)
      · skip
        have d28 : ¬ (¬ o = -1 ∧ m_isB J o = 0) := fun y => c28 (by rw [hI0]; exact (in_m1 hb).mpr y)
        have hm : m_later J M s t o = m_laterB J M s t o := by unfold m_later; rw [if_neg c4, if_neg c14, if_neg d28]; rfl
        obtain ⟨s9, hs9, rfl⟩ := isB_s c4
        obtain ⟨t9, ht0, ht20, rfl⟩ := inR_nat 0 20 c14 rfl rfl (by decide)
        refine x_aload_n h dX0_later_33 rfl ?_
        refine x_iload_n h dX0_later_34 rfl ?_
        refine x_callVWXi h (As := [.int _]) (k0_layRow l hl G n _ _ hC _ _ J M s9 hs9 (hSh s9 hs9) hI0 hb) w_X0_298 (mlt hC.1 rfl) (hC.2.1 _ _ rfl) dX0_later_35 ⟨by decide, by decide⟩ ⟨by decide, by decide⟩ rfl (Nat.le_of_ble_eq_true rfl) (fun v35 n35 Ty35 J35 hn35 hT35 hp35 => ?_)
        have hC35 := hC.grow hn35 hT35
        refine x_istore h dX0_later_38 (by decide) [some (.ref (xb G + 0)), some (.int (nI s9)), some (.int (nI t9)), some (.int o), some (.int v35), none, none] rfl ?_
        refine x_iload h dX0_later_40 rfl ?_
        refine x_if_ge h 48 dX0_later_42 rfl (fun c42 => ?_) (fun c42 => ?_)
        · skip
          have h728 : m_reads J M (nI s9) 72 8 = J 72 8 := reads_pj 72 8 (by unfold pJ; omega)
          have hnb0 : ¬ m_noB J (nI s9) < 0 := by rw [← hp35.1]; exact Int32.not_lt.mpr c42
          obtain ⟨z, h45, hR⟩ := hp35.2.1 (noB_z hp35.1 (Int32.not_lt.mpr c42))
          have hz20 := hR.2.1
          have hQ2 := lay_Q (M := M) (s := nI s9) hQ hC hn35 hT35 hp35.2.2
          have hm2 := hm
          unfold m_laterB at hm2
          rw [if_neg hnb0] at hm2
          have h70 : m_reads J M (nI s9) 70 0 = J 70 0 := reads_pj 70 0 (Or.inl ⟨rfl, by decide⟩)
          have hfr0 : Fr q2set I J35 := hp35.2.2.sub fun _ _ z => rset_q z
          generalize m_reads J M (nI s9) = K0 at h45 hR hQ2 hm2 h70 h728
          have hnK : ix (K0 70 0) < 9 := by rw [h70, enx]; exact hnb
          have hWa := hQ2.wall hR h45
          rw [ix_n (show t9 < 2147483648 by omega)] at hm2
          refine x_aload_n h dX0_later_48 rfl ?_
          refine x_callVRr h (As := []) (k0_layNow l G n35 _ _ hC35 _ _ K0 hQ2.1 hQ2.2.2.1) m_X0_291 (mlt hC35.1 rfl) (hC35.2.1 _ _ rfl) dX0_later_49 ⟨by decide, by decide⟩ ⟨by decide, by decide⟩ rfl (Nat.le_of_ble_eq_true rfl) (fun J49 hp49 => ?_)
          refine x_astore h dX0_later_52 (by decide) [some (.ref (xb G + 0)), some (.int (nI s9)), some (.int (nI t9)), some (.int o), some (.int v35), some (.ref (xb G + 34)), none] rfl ?_
          refine x_iconst h dX0_later_54 (0) rfl ?_
          refine x_istore h dX0_later_55 (by decide) [some (.ref (xb G + 0)), some (.int (nI s9)), some (.int (nI t9)), some (.int o), some (.int v35), some (.ref (xb G + 34)), some (.int 0)] rfl ?_
          have lp57 : ∀ (d : Nat) (k : Nat) (A : xI_T), t9 - k < d → (k ≤ t9) → (RC A (m_lateGo k (m_begins K0)) 34) → (Fr bset J35 A) → (Wmk (m_lateGo k (m_begins K0)) ∧ Wlaw (m_lateGo k (m_begins K0))) → (∀ q j : Nat, gz3 q j → q ≠ 93 → m_lateGo k (m_begins K0) q j = K0 q j) → (vp_in (m_lateGo k (m_begins K0) 72 8) 100) → X Θ 3 1010 n35 Ty35 A L F 57 [some (.ref (xb G + 0)), some (.int (nI s9)), some (.int (nI t9)), some (.int o), some (.int v35), some (.ref (xb G + 34)), some (.int (nI k))] [] := by
            intro d
            induction d with
            | zero =>
              intro k A hlt
              exact absurd hlt (Nat.not_lt_zero _)
            | succ d ih =>
              intro k A hlt hk hRk hf hMk hO hDk
              refine x_iload h dX0_later_57 rfl ?_
              refine x_iload_n h dX0_later_59 rfl ?_
              refine x_icmp_ge h 85 dX0_later_60 rfl (fun c60 => ?_) (fun c60 => ?_)
              · skip
                have hkt : k = t9 := by have := (nI_leI (a := t9) (b := k) (by omega) (by omega)).mp c60; omega
                refine x_iload_n h dX0_later_85 rfl ?_
                refine x_if_ge h 97 dX0_later_86 rfl (fun c86 => ?_) (fun c86 => ?_)
                · skip
                  have dm1 : ¬ o = -1 := fun y => by rw [y] at c86; exact absurd c86 (by decide)
                  obtain ⟨y, hy, hy8, ey⟩ := isB_y hb (fun q => d28 ⟨dm1, q⟩)
                  refine x_aload h dX0_later_97 rfl ?_
                  refine x_getrN h (j := 35) g_X0_207 (mlt hC35.1 rfl) (hC35.2.1 _ _ rfl) (by decide) (hC35.2.2 _ _ _ rfl) dX0_later_99 ?_
                  refine x_iload_n h dX0_later_102 rfl ?_
                  refine x_iald h (mlt hC35.1 rfl) (hC35.2.1 _ _ rfl) (by rw [ey]; exact vp_in_nI hy8 (by decide)) _ rfl dX0_later_103 ?_
                  refine x_wid h (by decide) (by decide) ?_
                  exact x_iret h dX0_later_104 rfl ⟨hn35, hT35, rfl, rfl, _, rfl, by rw [hm2, ← hkt]; show _ = m_pickL _ o; unfold m_pickL; first | (rw [if_pos dm1]; exact hRk.2.2.2.2.2) | (rw [if_neg dm1, ey, ix_n (by omega), nI_clamp (by omega)]; exact (hRk.1 y (by rw [hO 70 0 (gz3_70 (Or.inl (by decide))) (by decide), h70]; exact hy)).1), (hfr0.tr (hf.sub fun _ _ z => bset_2 z))⟩
                · skip
                  have dm1 : o = -1 := Classical.byContradiction fun q => c86 (isB_ge hb (fun q2 => d28 ⟨q, q2⟩))
                  refine x_aload h dX0_later_89 rfl ?_
                  refine x_getiN h g_X0_213 (mlt hC35.1 rfl) (hC35.2.1 _ _ rfl) rfl dX0_later_91 ?_
                  refine x_goto h 104 dX0_later_94 rfl ?_
                  refine x_wid h (by decide) (by decide) ?_
                  exact x_iret h dX0_later_104 rfl ⟨hn35, hT35, rfl, rfl, _, rfl, by rw [hm2, ← hkt]; show _ = m_pickL _ o; unfold m_pickL; first | (rw [if_pos dm1]; exact hRk.2.2.2.2.2) | (rw [if_neg dm1, ey, ix_n (by omega), nI_clamp (by omega)]; exact (hRk.1 y (by rw [hO 70 0 (gz3_70 (Or.inl (by decide))) (by decide), h70]; exact hy)).1), (hfr0.tr (hf.sub fun _ _ z => bset_2 z))⟩
              · skip
                have hkt : k < t9 := Nat.lt_of_not_le fun y => c60 ((nI_leI (by omega) (by omega)).mpr y)
                refine x_iload h dX0_later_63 rfl ?_
                refine x_if_le h 73 dX0_later_65 rfl (fun c65 => ?_) (fun c65 => ?_)
                · skip
                  have hk0 : k = 0 := nI_le0 c65 (by omega)
                  obtain ⟨P, hP⟩ : ∃ P : xI_T, P = m_lateGo k (m_begins K0) := ⟨_, rfl⟩
                  have hOP : ∀ q j : Nat, gz3 q j → q ≠ 93 → P q j = K0 q j := fun q j y1 y2 => by rw [hP]; exact hO q j y1 y2
                  have hRP : RC A P 34 := by rw [hP]; exact hRk
                  have hMP : Wmk P ∧ Wlaw P := by rw [hP]; exact hMk
                  have hDP : vp_in (P 72 8) 100 := by rw [hP]; exact hDk
                  have hfP : Fr bset J35 A := hf
                  have hZP : RW A P z := hR.fr ⟨hfP 0 19 (by unfold bset lset cset; omega), fun j => hfP 22 j (by unfold bset lset cset; omega)⟩ ⟨hOP 70 0 (gz3_70 (Or.inl (by decide))) (by decide), fun j => hOP 96 j (gz3_q (Or.inl rfl)) (by decide)⟩
                  have hSP : KS n35 Ty35 A F P := hQ2.2.1.fr3 (fun q j y => hfP q j (by unfold bset lset cset; omega)) (hfP 0 1 (by unfold bset lset cset; omega)) (hfP 0 3 (by unfold bset lset cset; omega)) hOP
                  have eQ : m_lateGo (k + 1) (m_begins K0) = m_goGo z P := by rw [lateGo_0 hk0]; unfold m_goes; rw [← hP, hOP 70 45 (gz3_70 (Or.inr (by decide))) (by decide), h45, ix_n (by omega)]
                  refine x_aload_n h dX0_later_73 rfl ?_
                  refine x_aload h dX0_later_74 rfl ?_
                  refine x_callVRv h (As := [.ref _]) (k0_goRow l G n35 _ _ hC35 _ _ P 34 z (hC35.mk (Or.inr (Or.inr (Or.inl rfl)))) (by decide) hSP hRP hMP.1 hMP.2 hZP) m_X0_295 (mlt hC35.1 rfl) (hC35.2.1 _ _ rfl) dX0_later_76 ⟨by decide, by decide⟩ ⟨by decide, by decide⟩ rfl (Nat.le_of_ble_eq_true rfl) (fun J76 hp76 => ?_)
                  have hR76 := hp76.1.1
                  have hf76 : Fr bset J35 J76 := hfP.tr (hp76.1.2.2.sub fun _ _ y => Or.inr y)
                  have hM76 := goGo_M hMP.1 hMP.2 (fun j hj => (hZP.2.2 j hj).2) z (Nat.le_refl _)
                  have hO76 : ∀ q j : Nat, gz3 q j → q ≠ 93 → m_goGo z P q j = K0 q j := fun q j y1 y2 => (goGo_o y1 z).trans (hOP q j y1 y2)
                  have hD76 : vp_in (m_goGo z P 72 8) 100 := by rw [goGo_8 hMP.1 hMP.2 (fun j hj => (hZP.2.2 j hj).2) z (Nat.le_refl _)]; exact hDP
                  refine x_iinc h dX0_later_79 (by decide) rfl (nI (k + 1)) (nI_1 k) [some (.ref (xb G + 0)), some (.int (nI s9)), some (.int (nI t9)), some (.int o), some (.int v35), some (.ref (xb G + 34)), some (.int (nI (k + 1)))] rfl ?_
                  refine x_goto h 57 dX0_later_82 rfl ?_
                  exact ih (k + 1) J76 (by omega) (by omega) (by rw [eQ]; exact hR76) (hf76) (by rw [eQ]; exact hM76) (by rw [eQ]; exact hO76) (by rw [eQ]; exact hD76)
                · skip
                  have hk0 : ¬ k = 0 := fun y => c65 (by rw [y]; decide)
                  refine x_aload h dX0_later_68 rfl ?_
                  refine x_callVEv h (As := []) (k2_evening l G n35 _ _ hC35 _ _ 34 (hC35.mk (Or.inr (Or.inr (Or.inl rfl))))) m_X0_305 (mlt hC35.1 rfl) (hC35.2.1 _ _ rfl) dX0_later_70 ⟨by decide, by decide⟩ ⟨by decide, by decide⟩ rfl (Nat.le_of_ble_eq_true rfl) ?_
                  refine x_nmI (fun J70 eJ70 => ?_)
                  obtain ⟨P, hP⟩ : ∃ P : xI_T, P = m_ends (m_lateGo k (m_begins K0)) := ⟨_, rfl⟩
                  have hOP : ∀ q j : Nat, gz3 q j → q ≠ 93 → P q j = K0 q j := fun q j y1 y2 => by rw [hP]; rw [ends_o (fun z => y1.1.1 z.1)]; exact hO q j y1 y2
                  have hRP : RC J70 P 34 := by rw [hP]; exact (by rw [eJ70]; exact eve_R hRk hDk (by rw [hO 70 0 (gz3_70 (Or.inl (by decide))) (by decide), h70, enx]; omega))
                  have hMP : Wmk P ∧ Wlaw P := by rw [hP]; exact ⟨hMk.1.ends, hMk.2.ends⟩
                  have hDP : vp_in (P 72 8) 100 := by rw [hP]; exact (by rw [ends_8]; exact (fmt_day hDk).2)
                  have hfP : Fr bset J35 J70 := hf.tr (by rw [eJ70]; exact fun q j z => keve_o (by unfold bset cset at z; omega) (by unfold bset cset at z; omega))
                  have hZP : RW J70 P z := hR.fr ⟨hfP 0 19 (by unfold bset lset cset; omega), fun j => hfP 22 j (by unfold bset lset cset; omega)⟩ ⟨hOP 70 0 (gz3_70 (Or.inl (by decide))) (by decide), fun j => hOP 96 j (gz3_q (Or.inl rfl)) (by decide)⟩
                  have hSP : KS n35 Ty35 J70 F P := hQ2.2.1.fr3 (fun q j y => hfP q j (by unfold bset lset cset; omega)) (hfP 0 1 (by unfold bset lset cset; omega)) (hfP 0 3 (by unfold bset lset cset; omega)) hOP
                  have eQ : m_lateGo (k + 1) (m_begins K0) = m_goGo z P := by rw [lateGo_s hk0]; unfold m_goes; rw [← hP, hOP 70 45 (gz3_70 (Or.inr (by decide))) (by decide), h45, ix_n (by omega)]
                  refine x_aload_n h dX0_later_73 rfl ?_
                  refine x_aload h dX0_later_74 rfl ?_
                  refine x_callVRv h (As := [.ref _]) (k0_goRow l G n35 _ _ hC35 _ _ P 34 z (hC35.mk (Or.inr (Or.inr (Or.inl rfl)))) (by decide) hSP hRP hMP.1 hMP.2 hZP) m_X0_295 (mlt hC35.1 rfl) (hC35.2.1 _ _ rfl) dX0_later_76 ⟨by decide, by decide⟩ ⟨by decide, by decide⟩ rfl (Nat.le_of_ble_eq_true rfl) (fun J76 hp76 => ?_)
                  have hR76 := hp76.1.1
                  have hf76 : Fr bset J35 J76 := hfP.tr (hp76.1.2.2.sub fun _ _ y => Or.inr y)
                  have hM76 := goGo_M hMP.1 hMP.2 (fun j hj => (hZP.2.2 j hj).2) z (Nat.le_refl _)
                  have hO76 : ∀ q j : Nat, gz3 q j → q ≠ 93 → m_goGo z P q j = K0 q j := fun q j y1 y2 => (goGo_o y1 z).trans (hOP q j y1 y2)
                  have hD76 : vp_in (m_goGo z P 72 8) 100 := by rw [goGo_8 hMP.1 hMP.2 (fun j hj => (hZP.2.2 j hj).2) z (Nat.le_refl _)]; exact hDP
                  refine x_iinc h dX0_later_79 (by decide) rfl (nI (k + 1)) (nI_1 k) [some (.ref (xb G + 0)), some (.int (nI s9)), some (.int (nI t9)), some (.int o), some (.int v35), some (.ref (xb G + 34)), some (.int (nI (k + 1)))] rfl ?_
                  refine x_goto h 57 dX0_later_82 rfl ?_
                  exact ih (k + 1) J76 (by omega) (by omega) (by rw [eQ]; exact hR76) (hf76) (by rw [eQ]; exact hM76) (by rw [eQ]; exact hO76) (by rw [eQ]; exact hD76)
          exact lp57 (t9 + 1) 0 J49 (by omega) (by omega) (hp49.1 _ eqL.begins) (hp49.2.sub fun _ _ z => Or.inl z) ⟨hQ2.2.2.1.begins, hQ2.2.2.2.begins⟩ (fun q j y1 y2 => begins_o y2 y1.1.2.2.2.1 (fun z => by have := y1.1.2.2.2.2 z.1; omega)) (by show vp_in (m_begins K0 72 8) 100; rw [begins_o (by decide) (by decide) (by decide), h728]; exact hD)
        · skip
          have hnb1 : m_noB J (nI s9) < 0 := by rw [← hp35.1]; exact Int32.not_le.mp c42
          refine x_iload h dX0_later_45 rfl ?_
          refine x_wid h (by decide) (by decide) ?_
          exact x_iret h dX0_later_47 rfl ⟨hn35, hT35, rfl, rfl, _, rfl, by rw [hm]; unfold m_laterB; rw [if_pos hnb1]; exact hp35.1, hp35.2.2.sub fun _ _ z => rset_q z⟩
      · skip
        have d28 : ¬ o = -1 ∧ m_isB J o = 0 := (in_m1 hb).mp (by rw [← hI0]; exact c28)
        have hz : (m_later J M s t o).1 = -1 := by unfold m_later; rw [if_neg c4, if_neg c14, if_pos d28]
        refine x_iconst h dX0_later_31 (-1) rfl ?_
        refine x_wid h (by decide) (by decide) ?_
        exact x_iret h dX0_later_32 rfl ⟨Nat.le_refl _, fun _ _ => rfl, rfl, rfl, _, rfl, hz.symm, Fr.rf⟩
