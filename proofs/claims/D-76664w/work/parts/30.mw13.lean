/-! WALKS OF THE REFERENCE: what was seen -/

set_option maxHeartbeats 4000000 in
theorem t_unlike (l : Launch) (G : xG_T) (n : Nat) (hn : 103 ≤ n) (I : xI_T) (L : xL_T) (s : Int32) (hA : Wall I) (hs : vp_in s 6) (hl : vp_in (I 91 (ix s)) 61) : CM l 6 yX3_unlike cX3_unlike 3 (some .int) G n [.ref (xb G + 70), .int s] I L (some (.int ((m_unl I L s).1))) ((m_unl I L s).2) (L) := by
  refine Cg.intro (cls := RX3) (pad := 1) (lv := [some (.ref (xb G + 70)), some (.int s), none]) rfl (by decide) (Nat.le_of_ble_eq_true rfl) rfl (fun Θ h => ?_)
  refine x_aload_n h dX3_unlike_0 rfl ?_
  refine x_callVEv h (As := []) (t_begins l G n hn _ _  ) m_X3_267 (mlt hn rfl) rfl dX3_unlike_1 ⟨by decide, by decide⟩ ⟨by decide, by decide⟩ rfl (Nat.le_of_ble_eq_true rfl) ?_
  refine x_nmI (fun J1 eJ1 => ?_)
  refine x_aload_n h dX3_unlike_4 rfl ?_
  refine x_callVEv h (As := []) (t_goes l G n hn _ _  (by rw [eJ1]; exact hA.begins)) m_X3_270 (mlt hn rfl) rfl dX3_unlike_5 ⟨by decide, by decide⟩ ⟨by decide, by decide⟩ rfl (Nat.le_of_ble_eq_true rfl) ?_
  refine x_nmI (fun J5 eJ5 => ?_)
  refine x_aload_n h dX3_unlike_8 rfl ?_
  refine x_aload_n h dX3_unlike_9 rfl ?_
  refine x_getr h (j := 93) g_X3_86 (mlt hn rfl) rfl (by decide) rfl dX3_unlike_10 ?_
  refine x_iconst h dX3_unlike_13 (0) rfl ?_
  refine x_callVEv h (As := [.ref _, .int _]) (t_laysBack l G n hn _ _ 93 0 31 (Nat.le_of_ble_eq_true rfl) rfl (Nat.le_of_ble_eq_true rfl) (Nat.le_of_ble_eq_true rfl) (by decide)) m_X3_273 (mlt hn rfl) rfl dX3_unlike_14 ⟨by decide, by decide⟩ ⟨by decide, by decide⟩ rfl (Nat.le_of_ble_eq_true rfl) ?_
  refine x_nmI (fun J14 eJ14 => ?_)
  refine x_iconst h dX3_unlike_17 (0) rfl ?_
  refine x_istore_n h dX3_unlike_18 rfl (by decide) [some (.ref (xb G + 70)), some (.int s), some (.int 0)] rfl ?_
  have e10 : J14 = m_lays (m_behind I) 93 0 := by rw [eJ14, eJ5, eJ1]; rfl
  have hl10 : vp_in (J14 91 (ix s)) 61 := by rw [e10, lays_o (by decide), behind_o (gz3_q (Or.inr (Or.inr (Or.inl rfl)))) (by decide)]; exact hl
  have h45 : vp_in (J14 70 45) 21 := by rw [e10, lays_o (by decide), behind_o (gz3_70 (Or.inr (by decide))) (by decide)]; exact hA.2.2.1
  have lp19 : ∀ (d : Nat) (e i : Nat), e < d → (e + i = 60) → (m_unlGo J14 L s 61 0 = m_unlGo J14 L s (e + 1) i) → X Θ 0 0 n TyM J14 L FM 19 [some (.ref (xb G + 70)), some (.int s), some (.int (nI i))] [] := by
    intro d
    induction d with
    | zero =>
      intro e i hlt
      exact absurd hlt (Nat.not_lt_zero _)
    | succ d ih =>
      intro e i hlt he hJ
      refine x_iload_n h dX3_unlike_19 rfl ?_
      refine x_aload_n h dX3_unlike_20 rfl ?_
      refine x_getr h (j := 91) g_X3_79 (mlt hn rfl) rfl (by decide) rfl dX3_unlike_21 ?_
      refine x_iload_n h dX3_unlike_24 rfl ?_
      refine x_iald h (mlt hn rfl) rfl hs _ rfl dX3_unlike_25 ?_
      refine x_icmp_ge h 71 dX3_unlike_26 rfl (fun c26 => ?_) (fun c26 => ?_)
      · skip
        refine x_bipush h dX3_unlike_71 (-2) rfl ?_
        exact x_iret h dX3_unlike_73 rfl (xpE.to (by show _ = some (Value.int (m_unlGo (m_lays (m_behind I) 93 0) L s 61 0)); rw [← e10, hJ, unlGo_0 c26]) e10 rfl rfl)
      · skip
        have hi60 : i < 60 := lt_of_len hl10 (by decide) c26 (by omega)
        obtain ⟨e2, rfl⟩ : ∃ z : Nat, e = z + 1 := ⟨e - 1, by omega⟩
        have ht := told_in hs (vp_in_nI hi60 (by decide))
        refine x_iload_n h dX3_unlike_29 rfl ?_
        refine x_aload_n h dX3_unlike_30 rfl ?_
        refine x_geti h g_X3_257 (mlt hn rfl) rfl rfl dX3_unlike_31 ?_
        refine x_icmp_ge h 63 dX3_unlike_34 rfl (fun c34 => ?_) (fun c34 => ?_)
        · skip
          refine x_iload_n h dX3_unlike_63 rfl ?_
          exact x_iret h dX3_unlike_64 rfl (xpE.to (by show _ = some (Value.int (m_unlGo (m_lays (m_behind I) 93 0) L s 61 0)); rw [← e10, hJ]; first | rw [unlGo_4 c26 c34 c45 c60] | rw [unlGo_1 c26 c34]) e10 rfl rfl)
        · skip
          have hi20 : i < 20 := lt_of_len h45 (by decide) c34 (by omega)
          refine x_aload_n h dX3_unlike_37 rfl ?_
          refine x_iload_n h dX3_unlike_38 rfl ?_
          refine x_iload_n h dX3_unlike_39 rfl ?_
          refine x_callVEi h (As := [.int _, .int _]) (t_toldAt l G n hn _ _ _ _ ht) m_X3_133 (mlt hn rfl) rfl dX3_unlike_40 ⟨by decide, by decide⟩ ⟨by decide, by decide⟩ rfl (Nat.le_of_ble_eq_true rfl) ?_
          refine x_bipush h dX3_unlike_43 (9) rfl ?_
          refine x_icmp_eq h 65 dX3_unlike_45 rfl (fun c45 => ?_) (fun c45 => ?_)
          · skip
            refine x_iinc h dX3_unlike_65 (by decide) rfl (nI (i + 1)) (nI_1 i) [some (.ref (xb G + 70)), some (.int s), some (.int (nI (i + 1)))] rfl ?_
            refine x_goto h 19 dX3_unlike_68 rfl ?_
            exact ih e2 (i + 1) (by omega) (by omega) (by rw [hJ]; first | exact unlGo_3 c26 c34 c45 c60 | exact unlGo_2 c26 c34 c45)
          · skip
            refine x_aload_n h dX3_unlike_48 rfl ?_
            refine x_iload_n h dX3_unlike_49 rfl ?_
            refine x_iload_n h dX3_unlike_50 rfl ?_
            refine x_callVEi h (As := [.int _, .int _]) (t_toldAt l G n hn _ _ _ _ ht) m_X3_133 (mlt hn rfl) rfl dX3_unlike_51 ⟨by decide, by decide⟩ ⟨by decide, by decide⟩ rfl (Nat.le_of_ble_eq_true rfl) ?_
            refine x_aload_n h dX3_unlike_54 rfl ?_
            refine x_getr h (j := 97) g_X3_98 (mlt hn rfl) rfl (by decide) rfl dX3_unlike_55 ?_
            refine x_iload_n h dX3_unlike_58 rfl ?_
            refine x_iald h (mlt hn rfl) rfl (vp_in_nI (by omega) (by first | decide | omega)) (i) (nI_clamp (by omega)) dX3_unlike_59 ?_
            refine x_icmp_eq h 65 dX3_unlike_60 rfl (fun c60 => ?_) (fun c60 => ?_)
            · skip
              refine x_iinc h dX3_unlike_65 (by decide) rfl (nI (i + 1)) (nI_1 i) [some (.ref (xb G + 70)), some (.int s), some (.int (nI (i + 1)))] rfl ?_
              refine x_goto h 19 dX3_unlike_68 rfl ?_
              exact ih e2 (i + 1) (by omega) (by omega) (by rw [hJ]; first | exact unlGo_3 c26 c34 c45 c60 | exact unlGo_2 c26 c34 c45)
            · skip
              refine x_iload_n h dX3_unlike_63 rfl ?_
              exact x_iret h dX3_unlike_64 rfl (xpE.to (by show _ = some (Value.int (m_unlGo (m_lays (m_behind I) 93 0) L s 61 0)); rw [← e10, hJ]; first | rw [unlGo_4 c26 c34 c45 c60] | rw [unlGo_1 c26 c34]) e10 rfl rfl)
  exact lp19 61 60 0 (by decide) (by decide) rfl
