/-! WALKS OF THE COMPONENT: rings asked -/
theorem m_X0_345 : xcv RX0 345 0 yX0_gainsMost cX0_gainsMost 4 (some .int) 1 := ⟨_, _, _, rfl, lw_V q1018 q1020 qs38 q99 q1021, rfl, by decide +kernel, by decide +kernel, by decide +kernel⟩
theorem m_X0_342 : xcv RX0 342 0 yX0_smallestRing cX0_smallestRing 3 (some .int) 0 := ⟨_, _, _, rfl, lw_V q1010 q1012 qs36 q99 q1013, rfl, by decide +kernel, by decide +kernel, by decide +kernel⟩
set_option maxHeartbeats 4000000 in
theorem k0_round (l : Launch) (hl : l.stackTraces = false) (G : xG_T) (n : Nat) (Ty : Nat → xs_T) (F : xF_T) (hC : WC n Ty F) (I : xI_T) (L : xL_T) (J : xI_T) (M : xL_T) (s w : Int32) (hQ : QS n Ty I F J) (hSh : ∀ s : Nat, s < 6 → shK n Ty I L F J M s) : Cg l (280) 3 1010 yX0_round cX0_round 5 (some .int) G idC [.ref (xb G + 0), .int s, .int w] n Ty I L F (xpX n Ty L F (aR (fun r I2 => r = (m_round J M s w).1 ∧ Fr q2set I I2))) := by
  refine Cg.intro (cls := RX0) (pad := 2) (lv := [some (.ref (xb G + 0)), some (.int s), some (.int w), none, none]) rfl (by decide) (Nat.le_of_ble_eq_true rfl) rfl (fun Θ h => ?_)
  have hI0 : I 0 1 = J 70 0 := hQ.1.1.1
  have hb := hQ.2.2.1.1
  obtain ⟨nb, hnb, enb, enx, hnI⟩ := hQ.nb
  have ekB : ∀ o : Int32, k_isB I o = m_isB J o := isB_k hI0
  refine x_iload_n h dX0_round_0 rfl ?_
  refine x_callSEi h (As := [.int _]) (k0_isShelf l G n _ _ hC _ _ _ ) m_X0_29 dX0_round_1 ⟨by decide, by decide⟩ ⟨by decide, by decide⟩ rfl (Nat.le_of_ble_eq_true rfl) ?_
  refine x_if_eq h 16 dX0_round_4 rfl (fun c4 => ?_) (fun c4 => ?_)
  · skip
    have hz : (m_round J M s w).1 = -1 := by unfold m_round; rw [if_pos c4]
    refine x_iconst h dX0_round_16 (-1) rfl ?_
    refine x_wid h (by decide) (by decide) ?_
    exact x_iret h dX0_round_17 rfl ⟨Nat.le_refl _, fun _ _ => rfl, rfl, rfl, _, rfl, hz.symm, Fr.rf⟩
  · skip
    refine x_iload_n h dX0_round_7 rfl ?_
    refine x_iconst h dX0_round_8 (0) rfl ?_
    refine x_iconst h dX0_round_9 (1) rfl ?_
    refine x_callSEi h (As := [.int _, .int _, .int _]) (k0_in l G n _ _ hC _ _ _ _ _ ) m_X0_7 dX0_round_10 ⟨by decide, by decide⟩ ⟨by decide, by decide⟩ rfl (Nat.le_of_ble_eq_true rfl) ?_
    refine x_if_ne h 18 dX0_round_13 rfl (fun c13 => ?_) (fun c13 => ?_)
    · skip
      have hm : m_round J M s w = m_roundB J M s w := by unfold m_round; rw [if_neg c4, if_neg c13]; rfl
      obtain ⟨s9, hs9, rfl⟩ := isB_s c4
      refine x_aload_n h dX0_round_18 rfl ?_
      refine x_iload_n h dX0_round_19 rfl ?_
      refine x_callVWXi h (As := [.int _]) (k0_layRow l hl G n _ _ hC _ _ J M s9 hs9 (hSh s9 hs9) hI0 hb) w_X0_298 (mlt hC.1 rfl) (hC.2.1 _ _ rfl) dX0_round_20 ⟨by decide, by decide⟩ ⟨by decide, by decide⟩ rfl (Nat.le_of_ble_eq_true rfl) (fun v20 n20 Ty20 J20 hn20 hT20 hp20 => ?_)
      have hC20 := hC.grow hn20 hT20
      refine x_istore_n h dX0_round_23 rfl (by decide) [some (.ref (xb G + 0)), some (.int (nI s9)), some (.int w), some (.int v20), none] rfl ?_
      refine x_iload_n h dX0_round_24 rfl ?_
      refine x_if_ge h 30 dX0_round_25 rfl (fun c25 => ?_) (fun c25 => ?_)
      · skip
        have hnb0 : ¬ m_noB J (nI s9) < 0 := by rw [← hp20.1]; exact Int32.not_lt.mpr c25
        obtain ⟨z, h45, hR⟩ := hp20.2.1 (noB_z hp20.1 (Int32.not_lt.mpr c25))
        have hz20 := hR.2.1
        have hQ2 := lay_Q (M := M) (s := nI s9) hQ hC hn20 hT20 hp20.2.2
        have hm2 := hm
        unfold m_roundB at hm2
        rw [if_neg hnb0] at hm2
        have h70 : m_reads J M (nI s9) 70 0 = J 70 0 := reads_pj 70 0 (Or.inl ⟨rfl, by decide⟩)
        have hfr0 : Fr q2set I J20 := hp20.2.2.sub fun _ _ z => rset_q z
        generalize m_reads J M (nI s9) = K0 at h45 hR hQ2 hm2 h70
        have hnK : ix (K0 70 0) < 9 := by rw [h70, enx]; exact hnb
        have hWa := hQ2.wall hR h45
        refine x_aload_n h dX0_round_30 rfl ?_
        refine x_callVRr h (As := []) (k0_behindRow l G n20 _ _ hC20 _ _ K0 z hQ2.1 hQ2.2.1 hQ2.2.2.1 hQ2.2.2.2 hR) m_X0_302 (mlt hC20.1 rfl) (hC20.2.1 _ _ rfl) dX0_round_31 ⟨by decide, by decide⟩ ⟨by decide, by decide⟩ rfl (Nat.le_of_ble_eq_true rfl) (fun J31 hp31 => ?_)
        have hbe := beh_1 hp31 h45 hz20
        have hFZ := behind_FZ hQ2 hR h45
        have hb70 : m_behind K0 70 0 = nI nb := by rw [behind_70 (Or.inl (by decide)), h70]; exact enb
        have hfr1 : Fr q2set I J31 := hfr0.tr (hp31.2.2.2.sub fun _ _ z => bset_2 z)
        have h01 : J31 0 1 = nI nb := by rw [hfr1 0 1 (by unfold q2set qset bset lset cset; omega)]; exact hnI
        refine x_astore h dX0_round_34 (by decide) [some (.ref (xb G + 0)), some (.int (nI s9)), some (.int w), some (.int v20), some (.ref (xb G + 34))] rfl ?_
        refine x_iload_n h dX0_round_36 rfl ?_
        refine x_if_ne h 47 dX0_round_37 rfl (fun c37 => ?_) (fun c37 => ?_)
        · skip
          refine x_aload_n h dX0_round_47 rfl ?_
          refine x_aload h dX0_round_48 rfl ?_
          refine x_callVRi h (As := [.ref _]) (k0_gainsMost l G n20 _ _ hC20 _ _ (m_behind K0) nb h01 (by omega) (fun b hb9 => (hbe.1.1 b (by rw [hb70, ix_n (by omega)]; exact hb9)).1) (fun b hb9 => by obtain ⟨q, q1, q2, q3, q4, q5⟩ := hQ2.1.2.1 b (by rw [h70, enx]; exact hb9); exact ⟨q, q1, q2.2, q3, by rw [hp31.2.2.2 q 0 (by unfold bset lset cset; omega), q4, behind_93 (by omega)]⟩)) m_X0_345 (mlt hC20.1 rfl) (hC20.2.1 _ _ rfl) dX0_round_50 ⟨by decide, by decide⟩ ⟨by decide, by decide⟩ rfl (Nat.le_of_ble_eq_true rfl) (fun v50 J50 hp50 => ?_)
          refine x_wid h (by decide) (by decide) ?_
          exact x_iret h dX0_round_53 rfl ⟨hn20, hT20, rfl, rfl, _, rfl, by rw [hm2]; first | exact rnd_1 hp41.2 hnb enb hFZ hb70 c37 | exact rnd_2 hp50.2 hnb enb c37, (by first | (rw [hp41.1]; exact hfr1) | (rw [hp50.1]; exact hfr1))⟩
        · skip
          refine x_aload_n h dX0_round_40 rfl ?_
          refine x_callVRi h (As := []) (k0_smallestRing l G n20 _ _ hC20 _ _ (edg (m_behind K0)) nb h01 (by omega) (fun p q hp hq => ⟨fun z => by rw [hbe.2 p q hp hq]; exact z.2.2, fun z => ⟨hp, hq, by rw [← hbe.2 p q hp hq]; exact z⟩⟩)) m_X0_342 (mlt hC20.1 rfl) (hC20.2.1 _ _ rfl) dX0_round_41 ⟨by decide, by decide⟩ ⟨by decide, by decide⟩ rfl (Nat.le_of_ble_eq_true rfl) (fun v41 J41 hp41 => ?_)
          refine x_goto h 53 dX0_round_44 rfl ?_
          refine x_wid h (by decide) (by decide) ?_
          exact x_iret h dX0_round_53 rfl ⟨hn20, hT20, rfl, rfl, _, rfl, by rw [hm2]; first | exact rnd_1 hp41.2 hnb enb hFZ hb70 c37 | exact rnd_2 hp50.2 hnb enb c37, (by first | (rw [hp41.1]; exact hfr1) | (rw [hp50.1]; exact hfr1))⟩
      · skip
        have hnb1 : m_noB J (nI s9) < 0 := by rw [← hp20.1]; exact Int32.not_le.mp c25
        refine x_iload_n h dX0_round_28 rfl ?_
        refine x_wid h (by decide) (by decide) ?_
        exact x_iret h dX0_round_29 rfl ⟨hn20, hT20, rfl, rfl, _, rfl, by rw [hm]; unfold m_roundB; rw [if_pos hnb1]; exact hp20.1, hp20.2.2.sub fun _ _ z => rset_q z⟩
    · skip
      have d13 : inR w 0 1 = 0 := c13
      have hz : (m_round J M s w).1 = -1 := by unfold m_round; rw [if_neg c4, if_pos d13]
      refine x_iconst h dX0_round_16 (-1) rfl ?_
      refine x_wid h (by decide) (by decide) ?_
      exact x_iret h dX0_round_17 rfl ⟨Nat.le_refl _, fun _ _ => rfl, rfl, rfl, _, rfl, hz.symm, Fr.rf⟩
