/-! WALKS OF THE REFERENCE: judges -/
theorem m_X3_314 : xcv RX3 314 3 yX3_areShelves cX3_areShelves 2 (some .boolean) 1 := ⟨_, _, _, rfl, lw_V q2082 q2084 qs84 q102 q2085, rfl, by decide +kernel, by decide +kernel, by decide +kernel⟩
theorem m_X3_317 : xcv RX3 317 3 yX3_noRows cX3_noRows 3 (some .int) 1 := ⟨_, _, _, rfl, lw_V q2086 q2088 qs85 q102 q2089, rfl, by decide +kernel, by decide +kernel, by decide +kernel⟩
theorem m_X3_320 : xcv RX3 320 3 yX3_unlike cX3_unlike 3 (some .int) 1 := ⟨_, _, _, rfl, lw_V q2090 q2092 qs86 q102 q2093, rfl, by decide +kernel, by decide +kernel, by decide +kernel⟩
set_option maxHeartbeats 4000000 in
theorem t_judge (l : Launch) (G : xG_T) (n : Nat) (hn : 103 ≤ n) (I : xI_T) (L : xL_T) (ss : Int32) (hT : Wtop I) (hL : Wsh I) : CM l 7 yX3_judge cX3_judge 3 (some .int) G n [.ref (xb G + 70), .int ss] I L (some (.int ((m_judge I L ss).1))) ((m_judge I L ss).2) (L) := by
  refine Cg.intro (cls := RX3) (pad := 1) (lv := [some (.ref (xb G + 70)), some (.int ss), none]) rfl (by decide) (Nat.le_of_ble_eq_true rfl) rfl (fun Θ h => ?_)
  refine x_aload_n h dX3_judge_0 rfl ?_
  refine x_iload_n h dX3_judge_1 rfl ?_
  refine x_callVEi h (As := [.int _]) (t_areShelves l G n hn _ _ _ ) m_X3_314 (mlt hn rfl) rfl dX3_judge_2 ⟨by decide, by decide⟩ ⟨by decide, by decide⟩ rfl (Nat.le_of_ble_eq_true rfl) ?_
  refine x_if_ne h 10 dX3_judge_5 rfl (fun c5 => ?_) (fun c5 => ?_)
  · skip
    have hi := areS_in c5
    refine x_aload_n h dX3_judge_10 rfl ?_
    refine x_iload_n h dX3_judge_11 rfl ?_
    refine x_callVEi h (As := [.int _]) (t_noRows l G n hn _ _ _ hi.1 hi.2) m_X3_317 (mlt hn rfl) rfl dX3_judge_12 ⟨by decide, by decide⟩ ⟨by decide, by decide⟩ rfl (Nat.le_of_ble_eq_true rfl) ?_
    refine x_nmi (fun v15 ev15 => ?_)
    refine x_istore_n h dX3_judge_15 rfl (by decide) [some (.ref (xb G + 70)), some (.int ss), some (.int v15)] rfl ?_
    refine x_iload_n h dX3_judge_16 rfl ?_
    refine x_if_ge h 22 dX3_judge_17 rfl (fun c17 => ?_) (fun c17 => ?_)
    · skip
      have n17 := Int32.not_lt.mpr c17
      refine x_aload_n h dX3_judge_22 rfl ?_
      refine x_iload_n h dX3_judge_23 rfl ?_
      refine x_bipush h dX3_judge_24 (10) rfl ?_
      refine x_idiv h dX3_judge_26 (by decide) ?_
      refine x_callVEv h (As := [.int _]) (t_reads l G n hn _ _ _ hi.1 hT.1.1) m_X3_279 (mlt hn rfl) rfl dX3_judge_27 ⟨by decide, by decide⟩ ⟨by decide, by decide⟩ rfl (Nat.le_of_ble_eq_true rfl) ?_
      refine x_nmI (fun J27 eJ27 => ?_)
      refine x_aload_n h dX3_judge_30 rfl ?_
      refine x_iload_n h dX3_judge_31 rfl ?_
      refine x_bipush h dX3_judge_32 (10) rfl ?_
      refine x_irem h dX3_judge_34 (by decide) ?_
      refine x_callVEi h (As := [.int _]) (t_unlike l G n hn _ _ _ (by rw [eJ27]; exact hT.reads) hi.2 (by rw [eJ27]; exact hL.reads _ hi.2)) m_X3_320 (mlt hn rfl) rfl dX3_judge_35 ⟨by decide, by decide⟩ ⟨by decide, by decide⟩ rfl (Nat.le_of_ble_eq_true rfl) ?_
      refine x_nmI (fun J35 eJ35 => ?_)
      exact x_iret h dX3_judge_38 rfl (xpE.to (by rw [judge_2 c5 (by rw [← ev15]; exact n17), eJ27]; rfl) (by rw [judge_2 c5 (by rw [← ev15]; exact n17), eJ35, eJ27]; rfl) rfl rfl)
    · skip
      have n17 := Int32.not_le.mp c17
      refine x_iload_n h dX3_judge_20 rfl ?_
      exact x_iret h dX3_judge_21 rfl (xpE.to (by rw [judge_1 c5 (by rw [← ev15]; exact n17), ev15]) (by rw [judge_1 c5 (by rw [← ev15]; exact n17)]) rfl rfl)
  · skip
    refine x_iconst h dX3_judge_8 (-1) rfl ?_
    exact x_iret h dX3_judge_9 rfl (xpE.to (by rw [judge_0 c5]) (by rw [judge_0 c5]) rfl rfl)
