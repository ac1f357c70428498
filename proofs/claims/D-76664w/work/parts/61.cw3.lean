/-! WALKS OF THE COMPONENT: the law -/
theorem g_X0_133 : xfg RX0 133 0 10 := ⟨_, _, _, rfl, by decide, in_X0, q718, rfl⟩
theorem g_X0_137 : xfgN RX0 137 7 0 := ⟨_, _, _, _, rfl, by decide, in_X7, q426, rfl⟩
theorem g_X0_153 : xfgN RX0 153 7 1 := ⟨_, _, _, _, rfl, by decide, in_X7, q428, rfl⟩
theorem g_X0_143 : xfg RX0 143 0 11 := ⟨_, _, _, rfl, by decide, in_X0, q719, rfl⟩
theorem g_X0_156 : xfgN RX0 156 7 2 := ⟨_, _, _, _, rfl, by decide, in_X7, q430, rfl⟩
set_option maxHeartbeats 4000000 in
theorem kX0_gives (l : Launch) (G : xG_T) (n : Nat) (Ty : Nat → xs_T) (F : xF_T) (hC : WC n Ty F) (I : xI_T) (L : xL_T) (J : xI_T) (m0 q0 : Nat) (hF : F 0 10 = some q0) (hl0 : linesIs n Ty I F J (m0 + 1) 0 (some q0)) (hm0 : 0 + (m0 + 1) = ix (J 70 8)) (hN0 : NM I (J 83)) (hW0 : Wlaw J) : CE l (250) yX0_gives cX0_gives 2 (some .int) G n Ty F [.ref (xb G + 0)] I L (some (.int ((m_byGo 61 0 J).1))) (I) := by
  refine Cg.intro (cls := RX0) (pad := 1) (lv := [some (.ref (xb G + 0)), none]) rfl (by decide) (Nat.le_of_ble_eq_true rfl) rfl (fun Θ h => ?_)
  have hV := valP 200
  refine x_aload_n h dX0_gives_0 rfl ?_
  refine x_getr h (j := q0) g_X0_133 (mlt hC.1 rfl) (hC.2.1 _ _ rfl) (by decide) hF dX0_gives_1 ?_
  refine x_astore_n h dX0_gives_4 rfl (by decide) [some (.ref (xb G + 0)), some (.ref (xb G + q0))] rfl ?_
  have lp5 : ∀ (d : Nat) (m i q : Nat) (K : xI_T), m < d → (linesIs n Ty I F K (m + 1) i (some q)) → (i + (m + 1) = ix (K 70 8)) → ((m_byGo 61 0 J).1 = (m_byGo (61 - i) i K).1) → (NM I (K 83)) → (Wlaw K) → X Θ 0 0 n Ty I L F 5 [some (.ref (xb G + 0)), some (.ref (xb G + q))] [] := by
    intro d
    induction d with
    | zero =>
      intro m i q K hlt
      exact absurd hlt (Nat.not_lt_zero _)
    | succ d ih =>
      intro m i q K hlt hl hi hJ hN hW
      obtain ⟨q9, hq9, hq1, hq, hT, ht, ⟨r, hr, hg⟩, hx⟩ := hl
      cases hq9
      obtain ⟨hc, hi60⟩ := law_i hi hW
      obtain ⟨d0, hd0⟩ : ∃ d : Nat, 61 - i = d + 1 := ⟨60 - i, by omega⟩
      obtain ⟨v, hv⟩ := node_ev (K 83) _ _ _ hg
      rw [hd0] at hJ
      refine x_aload_n h dX0_gives_5 rfl ?_
      refine x_ifnull h dX0_gives_6 ?_
      refine x_aload_n h dX0_gives_9 rfl ?_
      rcases ht with ⟨hle, hnul⟩ | ⟨hle, r1, hr1, ht1⟩
      · skip
        refine x_getnN h g_X0_137 hq hT (by decide) hnul dX0_gives_10 ?_
        refine x_ifnullN h 30 dX0_gives_13 rfl ?_
        refine x_aload_n h dX0_gives_30 rfl ?_
        refine x_getrN h (j := r) g_X0_153 hq hT (by decide) hr dX0_gives_31 ?_
        refine x_aload_n h dX0_gives_34 rfl ?_
        refine x_getr h (j := 4) g_X0_143 (mlt hC.1 rfl) (hC.2.1 _ _ rfl) (by decide) (hC.2.2 _ _ _ rfl) dX0_gives_35 ?_
        refine x_node h hV hC hg hN hv xnd_X0_147 dX0_gives_38 (by omega) ⟨by decide, by decide⟩ (Nat.le_of_ble_eq_true rfl) ?_
        exact x_iret h dX0_gives_41 rfl (xpE.to (by first | rw [hJ, gv_3 hi hW hle hw c27 hv] | rw [hJ, gv_1 hi hW hle hv]) rfl rfl rfl)
      · skip
        obtain ⟨w, hw⟩ := node_ev (K 83) _ _ _ ht1
        refine x_getrN h (j := r1) g_X0_137 hq hT (by decide) hr1 dX0_gives_10 ?_
        refine x_ifnull h dX0_gives_13 ?_
        refine x_aload_n h dX0_gives_16 rfl ?_
        refine x_getrN h (j := r1) g_X0_137 hq hT (by decide) hr1 dX0_gives_17 ?_
        refine x_aload_n h dX0_gives_20 rfl ?_
        refine x_getr h (j := 4) g_X0_143 (mlt hC.1 rfl) (hC.2.1 _ _ rfl) (by decide) (hC.2.2 _ _ _ rfl) dX0_gives_21 ?_
        refine x_node h hV hC ht1 hN hw xnd_X0_147 dX0_gives_24 (by omega) ⟨by decide, by decide⟩ (Nat.le_of_ble_eq_true rfl) ?_
        refine x_if_eq h 42 dX0_gives_27 rfl (fun c27 => ?_) (fun c27 => ?_)
        · skip
          subst c27
          refine x_aload_n h dX0_gives_42 rfl ?_
          rcases Nat.eq_zero_or_pos m with hm2 | hm2
          · skip
            subst hm2
            have hx2 : F q 2 = none := hx
            refine x_getnN h g_X0_156 hq hT (by decide) hx2 dX0_gives_43 ?_
            refine x_astore_nN h dX0_gives_46 rfl (by decide) [some (.ref (xb G + 0)), some (.null)] rfl ?_
            refine x_goto h 5 dX0_gives_47 rfl ?_
            refine x_aload_nN h dX0_gives_5 rfl ?_
            refine x_ifnullN h 50 dX0_gives_6 rfl ?_
            refine x_iconst h dX0_gives_50 (0) rfl ?_
            exact x_iret h dX0_gives_51 rfl (xpE.to (by rw [hJ, gv_2 hi hW hle hw]; obtain ⟨d1, rfl⟩ : ∃ z : Nat, d0 = z + 1 := ⟨d0 - 1, by omega⟩; rw [byGo_0 (law_e hi hW)]) rfl rfl rfl)
          · skip
            obtain ⟨m2, rfl⟩ : ∃ z : Nat, m = z + 1 := ⟨m - 1, by omega⟩
            obtain ⟨q2, hq2, hx2⟩ : ∃ q2 : Nat, F q 2 = some q2 ∧ linesIs n Ty I F (m_work K (ix (K 74 i)) (ix (K 75 i))) (m2 + 1) (i + 1) (some q2) := by have hx3 := hx; obtain ⟨q2, e, _⟩ := hx3; exact ⟨q2, e, by rw [← e]; exact hx.mv (fun _ _ _ => rfl) (fun _ _ _ _ => mwork_o (by omega)) _ _ _⟩
            refine x_getrN h (j := q2) g_X0_156 hq hT (by decide) hq2 dX0_gives_43 ?_
            refine x_astore_n h dX0_gives_46 rfl (by decide) [some (.ref (xb G + 0)), some (.ref (xb G + q2))] rfl ?_
            refine x_goto h 5 dX0_gives_47 rfl ?_
            exact ih m2 (i + 1) q2 (m_work K (ix (K 74 i)) (ix (K 75 i))) (by omega) hx2 (by rw [mwork_o (by decide)]; omega) (by rw [hJ, gv_2 hi hW hle hw, show 61 - (i + 1) = d0 by omega]) (hN.mv (fun _ => rfl) (fun _ => mwork_83)) hW.work
        · skip
          refine x_aload_n h dX0_gives_30 rfl ?_
          refine x_getrN h (j := r) g_X0_153 hq hT (by decide) hr dX0_gives_31 ?_
          refine x_aload_n h dX0_gives_34 rfl ?_
          refine x_getr h (j := 4) g_X0_143 (mlt hC.1 rfl) (hC.2.1 _ _ rfl) (by decide) (hC.2.2 _ _ _ rfl) dX0_gives_35 ?_
          refine x_node h hV hC hg hN hv xnd_X0_147 dX0_gives_38 (by omega) ⟨by decide, by decide⟩ (Nat.le_of_ble_eq_true rfl) ?_
          exact x_iret h dX0_gives_41 rfl (xpE.to (by first | rw [hJ, gv_3 hi hW hle hw c27 hv] | rw [hJ, gv_1 hi hW hle hv]) rfl rfl rfl)
  exact lp5 (m0 + 1) m0 0 q0 J (by omega) hl0 hm0 rfl hN0 hW0
