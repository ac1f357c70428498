/-! WALKS OF THE COMPONENT: what is laid in, rows of comings -/
theorem g_X0_170 : xfg RX0 170 0 12 := ⟨_, _, _, rfl, by decide, in_X0, q720, rfl⟩
theorem g_X0_60 : xfg RX0 60 0 2 := ⟨_, _, _, rfl, by decide, in_X0, q708, rfl⟩
theorem p_X0_211 : xfpN RX0 211 2 7 (tyX2 7) := ⟨_, _, _, _, tyX2, rfl, by decide, in_X2, q673, rfl, tyX2_ok, nmX2, tyX2_ok 7 (by decide), rfl⟩
theorem g_X0_66 : xfg RX0 66 0 4 := ⟨_, _, _, rfl, by decide, in_X0, q710, rfl⟩
theorem p_X0_212 : xfpN RX0 212 2 8 (tyX2 8) := ⟨_, _, _, _, tyX2, rfl, by decide, in_X2, q675, rfl, tyX2_ok, nmX2, tyX2_ok 8 (by decide), rfl⟩
theorem g_X0_174 : xfg RX0 174 0 13 := ⟨_, _, _, rfl, by decide, in_X0, q721, rfl⟩
theorem m_X0_216 : xcv RX0 216 2 yX2_likeThat cX2_likeThat 2 (none) 1 := ⟨_, _, _, rfl, lw_V q876 q877 q878 q101 q879, rfl, by decide +kernel, by decide +kernel, by decide +kernel⟩
theorem g_X0_42 : xfgN RX0 42 4 0 := ⟨_, _, _, _, rfl, by decide, in_X4, q165, rfl⟩
theorem g_X0_51 : xfgN RX0 51 4 1 := ⟨_, _, _, _, rfl, by decide, in_X4, q167, rfl⟩
theorem g_X0_275 : xfg RX0 275 0 19 := ⟨_, _, _, rfl, by decide, in_X0, q727, rfl⟩
theorem g_X0_183 : xfg RX0 183 0 18 := ⟨_, _, _, rfl, by decide, in_X0, q726, rfl⟩
theorem m_X0_284 : xcv RX0 284 0 yX0_comesIn cX0_comesIn 6 (none) 2 := ⟨_, _, _, rfl, lw_V q887 q889 qs25 q99 q890, rfl, by decide +kernel, by decide +kernel, by decide +kernel⟩
theorem m_X0_288 : xcv RX0 288 0 yX0_clearPaid cX0_clearPaid 3 (none) 0 := ⟨_, _, _, rfl, lw_V q868 q870 qs22 q99 q871, rfl, by decide +kernel, by decide +kernel, by decide +kernel⟩
theorem m_X0_291 : xcv RX0 291 0 yX0_layNow cX0_layNow 2 (some (.object "ThirdAfter$Market")) 0 := ⟨_, _, _, rfl, lw_V q872 q874 qs23 q99 q875, rfl, by decide +kernel, by decide +kernel, by decide +kernel⟩
theorem m_X0_295 : xcv RX0 295 0 yX0_goRow cX0_goRow 3 (none) 1 := ⟨_, _, _, rfl, lw_V q883 q885 qs24 q99 q886, rfl, by decide +kernel, by decide +kernel, by decide +kernel⟩
set_option maxHeartbeats 4000000 in
theorem k0_layNow (l : Launch) (G : xG_T) (n : Nat) (Ty : Nat → xs_T) (F : xF_T) (hC : WC n Ty F) (I : xI_T) (L : xL_T) (J : xI_T) (hL : RL n Ty I F J) (hM : Wmk J) : CR l (3) yX0_layNow cX0_layNow 2 (some (.object "ThirdAfter$Market")) G n Ty F [.ref (xb G + 0)] I L (aQ G 34 (fun I2 => (∀ J2 : xI_T, eqL J J2 → RC I2 J2 34) ∧ Fr lset I I2)) := by
  refine Cg.intro (cls := RX0) (pad := 1) (lv := [some (.ref (xb G + 0)), none]) rfl (by decide) (Nat.le_of_ble_eq_true rfl) rfl (fun Θ h => ?_)
  obtain ⟨nb, hnb, enb⟩ : ∃ nb : Nat, nb < 9 ∧ J 70 0 = nI nb := vp_in_of hM.1 (by decide)
  have enx : ix (J 70 0) = nb := by rw [enb]; exact ix_n (by omega)
  refine x_iconst h dX0_layNow_0 (0) rfl ?_
  refine x_istore_n h dX0_layNow_1 rfl (by decide) [some (.ref (xb G + 0)), some (.int 0)] rfl ?_
  have lp2 : ∀ (d : Nat) (k : Nat) (A : xI_T), nb - k < d → (k ≤ nb) → (∀ b : Nat, b < k → A 7 b = J 72 b ∧ A 8 b = J 71 b) → (Fr (fun q _ => q = 7 ∨ q = 8) I A) → X Θ 0 0 n Ty A L F 2 [some (.ref (xb G + 0)), some (.int (nI k))] [] := by
    intro d
    induction d with
    | zero =>
      intro k A hlt
      exact absurd hlt (Nat.not_lt_zero _)
    | succ d ih =>
      intro k A hlt hk hA hf
      have h01 : A 0 1 = nI nb := by rw [hf 0 1 (by decide), hL.1.1]; exact enb
      refine x_iload_n h dX0_layNow_2 rfl ?_
      refine x_aload_n h dX0_layNow_3 rfl ?_
      refine x_geti h g_X0_1 (mlt hC.1 rfl) (hC.2.1 _ _ rfl) rfl dX0_layNow_4 ?_
      refine x_icmp_ge h 52 dX0_layNow_7 rfl (fun c7 => ?_) (fun c7 => ?_)
      · skip
        have hkb : k = nb := Nat.le_antisymm hk (nleN h01 (by omega) (by omega) c7)
        refine x_aload_n h dX0_layNow_52 rfl ?_
        refine x_getr h (j := 6) g_X0_170 (mlt hC.1 rfl) (hC.2.1 _ _ rfl) (by decide) (hC.2.2 _ _ _ rfl) dX0_layNow_53 ?_
        refine x_aload_n h dX0_layNow_56 rfl ?_
        refine x_geti h g_X0_60 (mlt hC.1 rfl) (hC.2.1 _ _ rfl) rfl dX0_layNow_57 ?_
        refine x_putiN h p_X0_211 (mlt hC.1 rfl) (hC.2.1 _ _ rfl) rfl rfl rfl dX0_layNow_60 (fun J60 eJ60 => ?_)
        refine x_aload_n h dX0_layNow_63 rfl ?_
        refine x_getr h (j := 6) g_X0_170 (mlt hC.1 rfl) (hC.2.1 _ _ rfl) (by decide) (hC.2.2 _ _ _ rfl) dX0_layNow_64 ?_
        refine x_aload_n h dX0_layNow_67 rfl ?_
        refine x_geti h g_X0_66 (mlt hC.1 rfl) (hC.2.1 _ _ rfl) rfl dX0_layNow_68 ?_
        refine x_putiN h p_X0_212 (mlt hC.1 rfl) (hC.2.1 _ _ rfl) rfl rfl rfl dX0_layNow_71 (fun J71 eJ71 => ?_)
        refine x_aload_n h dX0_layNow_74 rfl ?_
        refine x_getr h (j := 6) g_X0_170 (mlt hC.1 rfl) (hC.2.1 _ _ rfl) (by decide) (hC.2.2 _ _ _ rfl) dX0_layNow_75 ?_
        refine x_iconst h dX0_layNow_78 (0) rfl ?_
        refine x_putiN h p_X0_213 (mlt hC.1 rfl) (hC.2.1 _ _ rfl) rfl rfl rfl dX0_layNow_79 (fun J79 eJ79 => ?_)
        refine x_aload_n h dX0_layNow_82 rfl ?_
        refine x_getr h (j := 12) g_X0_174 (mlt hC.1 rfl) (hC.2.1 _ _ rfl) (by decide) (hC.2.2 _ _ _ rfl) dX0_layNow_83 ?_
        refine x_iconst h dX0_layNow_86 (0) rfl ?_
        refine x_aaldr h (q := 34) (mlt hC.1 rfl) (hC.2.1 _ _ rfl) (by decide) rfl rfl (xk rfl) 0 rfl (hC.2.2 _ _ _ rfl) dX0_layNow_87 ?_
        refine x_aload_n h dX0_layNow_88 rfl ?_
        refine x_getr h (j := 6) g_X0_170 (mlt hC.1 rfl) (hC.2.1 _ _ rfl) (by decide) (hC.2.2 _ _ _ rfl) dX0_layNow_89 ?_
        refine x_callVEv h (As := [.ref _]) (k2_likeThat l G n _ _ hC _ _ 34 6 (hC.mk (Or.inr (Or.inr (Or.inl rfl)))) (hC.mk (Or.inl rfl))) m_X0_216 (mlt hC.1 rfl) (hC.2.1 _ _ rfl) dX0_layNow_92 ⟨by decide, by decide⟩ ⟨by decide, by decide⟩ rfl (Nat.le_of_ble_eq_true rfl) ?_
        refine x_nmI (fun J92 eJ92 => ?_)
        refine x_aload_n h dX0_layNow_95 rfl ?_
        refine x_getr h (j := 12) g_X0_174 (mlt hC.1 rfl) (hC.2.1 _ _ rfl) (by decide) (hC.2.2 _ _ _ rfl) dX0_layNow_96 ?_
        refine x_iconst h dX0_layNow_99 (0) rfl ?_
        refine x_aaldr h (q := 34) (mlt hC.1 rfl) (hC.2.1 _ _ rfl) (by decide) rfl rfl (xk rfl) 0 rfl (hC.2.2 _ _ _ rfl) dX0_layNow_100 ?_
        exact x_aret h dX0_layNow_101 (Or.inl ⟨_, rfl⟩) rfl ⟨rfl, rfl, rfl, rfl, rfl, by rw [eJ92, eJ79, eJ71, eJ60]; exact lay_E hL (fun b hb => hA b (by rw [hkb, ← enx]; exact hb)) hf hM⟩
      · skip
        have hkb : k < nb := nltN h01 (by omega) (by omega) c7
        obtain ⟨q, hq, ⟨hq1, hqn⟩, hqT, hq2, hq3⟩ := hL.2.1 k (by rw [enx]; exact hkb)
        refine x_aload_n h dX0_layNow_10 rfl ?_
        refine x_getr h (j := 6) g_X0_170 (mlt hC.1 rfl) (hC.2.1 _ _ rfl) (by decide) (hC.2.2 _ _ _ rfl) dX0_layNow_11 ?_
        refine x_getrN h (j := 7) g_X0_207 (mlt hC.1 rfl) (hC.2.1 _ _ rfl) (by decide) (hC.2.2 _ _ _ rfl) dX0_layNow_14 ?_
        refine x_iload_n h dX0_layNow_17 rfl ?_
        refine x_aload_n h dX0_layNow_18 rfl ?_
        refine x_getr h (j := 1) g_X0_15 (mlt hC.1 rfl) (hC.2.1 _ _ rfl) (by decide) (hC.2.2 _ _ _ rfl) dX0_layNow_19 ?_
        refine x_iload_n h dX0_layNow_22 rfl ?_
        refine x_aaldr h (q := q) (mlt hC.1 rfl) (hC.2.1 _ _ rfl) (by decide) rfl rfl (vp_in_nI (show k < 8 by omega) (by decide)) (k) (nI_clamp (by omega)) hq dX0_layNow_23 ?_
        refine x_getiN h g_X0_42 hqn hqT rfl dX0_layNow_24 ?_
        refine x_iast h (mlt hC.1 rfl) (hC.2.1 _ _ rfl) (vp_in_nI (show k < 8 by omega) (by decide)) (k) (nI_clamp (by omega)) dX0_layNow_27 (fun J27 eJ27 => ?_)
        refine x_aload_n h dX0_layNow_28 rfl ?_
        refine x_getr h (j := 6) g_X0_170 (mlt hC.1 rfl) (hC.2.1 _ _ rfl) (by decide) (hC.2.2 _ _ _ rfl) dX0_layNow_29 ?_
        refine x_getrN h (j := 8) g_X0_209 (mlt hC.1 rfl) (hC.2.1 _ _ rfl) (by decide) (hC.2.2 _ _ _ rfl) dX0_layNow_32 ?_
        refine x_iload_n h dX0_layNow_35 rfl ?_
        refine x_aload_n h dX0_layNow_36 rfl ?_
        refine x_getr h (j := 1) g_X0_15 (mlt hC.1 rfl) (hC.2.1 _ _ rfl) (by decide) (hC.2.2 _ _ _ rfl) dX0_layNow_37 ?_
        refine x_iload_n h dX0_layNow_40 rfl ?_
        refine x_aaldr h (q := q) (mlt hC.1 rfl) (hC.2.1 _ _ rfl) (by decide) rfl rfl (vp_in_nI (show k < 8 by omega) (by decide)) (k) (nI_clamp (by omega)) hq dX0_layNow_41 ?_
        refine x_getiN h g_X0_51 hqn hqT rfl dX0_layNow_42 ?_
        refine x_iast h (mlt hC.1 rfl) (hC.2.1 _ _ rfl) (vp_in_nI (show k < 8 by omega) (by decide)) (k) (nI_clamp (by omega)) dX0_layNow_45 (fun J45 eJ45 => ?_)
        refine x_iinc h dX0_layNow_46 (by decide) rfl (nI (k + 1)) (nI_1 k) [some (.ref (xb G + 0)), some (.int (nI (k + 1)))] rfl ?_
        refine x_goto h 2 dX0_layNow_49 rfl ?_
        exact ih (k + 1) J45 (by omega) (by omega) (by rw [eJ45, eJ27]; exact (lay_s hA hf hq1 hq2 hq3).1) (by rw [eJ45, eJ27]; exact (lay_s hA hf hq1 hq2 hq3).2)
  exact lp2 (nb + 1) 0 I (by omega) (by omega) (fun b hb => absurd hb (Nat.not_lt_zero _)) Fr.rf
set_option maxHeartbeats 4000000 in
theorem k0_clearPaid (l : Launch) (G : xG_T) (n : Nat) (Ty : Nat → xs_T) (F : xF_T) (hC : WC n Ty F) (I : xI_T) (L : xL_T)   : CR l (0) yX0_clearPaid cX0_clearPaid 3 (none) G n Ty F [.ref (xb G + 0)] I L (aV (fun I2 => (∀ a b : Nat, a < 8 → b < 8 → I2 (14 + a) b = 0) ∧ Fr (fun q _ => 14 ≤ q ∧ q ≤ 21) I I2)) := by
  refine Cg.intro (cls := RX0) (pad := 2) (lv := [some (.ref (xb G + 0)), none, none]) rfl (by decide) (Nat.le_of_ble_eq_true rfl) rfl (fun Θ h => ?_)
  refine x_iconst h dX0_clearPaid_0 (0) rfl ?_
  refine x_istore_n h dX0_clearPaid_1 rfl (by decide) [some (.ref (xb G + 0)), some (.int 0), none] rfl ?_
  have lp2 : ∀ (d : Nat) (a : Nat) (A : xI_T), 8 - a < d → (a ≤ 8) → (∀ s t : Nat, s < a → t < 8 → A (14 + s) t = 0) → (Fr (fun q _ => 14 ≤ q ∧ q ≤ 21) I A) → X Θ 0 0 n Ty A L F 2 [some (.ref (xb G + 0)), some (.int (nI a)), none] [] := by
    intro d
    induction d with
    | zero =>
      intro a A hlt
      exact absurd hlt (Nat.not_lt_zero _)
    | succ d ih =>
      intro a A hlt ha hA hf
      refine x_iload_n h dX0_clearPaid_2 rfl ?_
      refine x_bipush h dX0_clearPaid_3 (8) rfl ?_
      refine x_icmp_ge h 37 dX0_clearPaid_5 rfl (fun c5 => ?_) (fun c5 => ?_)
      · skip
        have ha8 : a = 8 := Nat.le_antisymm ha (nleN rfl (by decide) (by omega) c5)
        exact x_vret h dX0_clearPaid_37 rfl ⟨rfl, rfl, rfl, rfl, rfl, fun s t hs ht => hA s t (by omega) ht, hf⟩
      · skip
        have ha8 : a < 8 := nltN rfl (by decide) (by omega) c5
        refine x_iconst h dX0_clearPaid_8 (0) rfl ?_
        refine x_istore_n h dX0_clearPaid_9 rfl (by decide) [some (.ref (xb G + 0)), some (.int (nI a)), some (.int 0)] rfl ?_
        have ih0 := ih
        have hlt0 := hlt
        have hpa := paid_at hC a ha8
        have lp10 : ∀ (d : Nat) (b : Nat) (B : xI_T), 8 - b < d → (b ≤ 8) → (∀ t : Nat, t < b → B (14 + a) t = 0) → (∀ q t : Nat, q ≠ 14 + a → B q t = A q t) → (Fr (fun q _ => 14 ≤ q ∧ q ≤ 21) I B) → X Θ 0 0 n Ty B L F 10 [some (.ref (xb G + 0)), some (.int (nI a)), some (.int (nI b))] [] := by
          intro d
          induction d with
          | zero =>
            intro b B hlt
            exact absurd hlt (Nat.not_lt_zero _)
          | succ d ih =>
            intro b B hlt hb hB hB2 hfB
            refine x_iload_n h dX0_clearPaid_10 rfl ?_
            refine x_bipush h dX0_clearPaid_11 (8) rfl ?_
            refine x_icmp_ge h 31 dX0_clearPaid_13 rfl (fun c13 => ?_) (fun c13 => ?_)
            · skip
              have hb8 : b = 8 := Nat.le_antisymm hb (nleN rfl (by decide) (by omega) c13)
              refine x_iinc h dX0_clearPaid_31 (by decide) rfl (nI (a + 1)) (nI_1 a) [some (.ref (xb G + 0)), some (.int (nI (a + 1))), some (.int (nI b))] rfl ?_
              refine x_goto h 2 dX0_clearPaid_34 rfl ?_
              refine x_wk (lv := [some (.ref (xb G + 0)), some (.int (nI (a + 1))), none]) ?_ ⟨rfl, rfl, trivial⟩
              exact ih0 (a + 1) B (by omega) (by omega) (fun s t hs ht => by by_cases z : s = a; exact z ▸ hB t (by omega); rw [hB2 (14 + s) t (by omega)]; exact hA s t (by omega) ht) hfB
            · skip
              have hb8 : b < 8 := nltN rfl (by decide) (by omega) c13
              refine x_aload_n h dX0_clearPaid_16 rfl ?_
              refine x_getr h (j := 13) g_X0_180 (mlt hC.1 rfl) (hC.2.1 _ _ rfl) (by decide) (hC.2.2 _ _ _ rfl) dX0_clearPaid_17 ?_
              refine x_iload_n h dX0_clearPaid_20 rfl ?_
              refine x_aaldr h (q := 14 + a) (mlt hC.1 rfl) (hC.2.1 _ _ rfl) (by decide) rfl rfl (vp_in_nI (by omega) (by first | decide | omega)) (a) (nI_clamp (by omega)) hpa.1 dX0_clearPaid_21 ?_
              refine x_iload_n h dX0_clearPaid_22 rfl ?_
              refine x_iconst h dX0_clearPaid_23 (0) rfl ?_
              refine x_iast h (Nat.lt_of_lt_of_le (show 14 + a < 103 by omega) hC.1) hpa.2 (vp_in_nI (by omega) (by first | decide | omega)) (b) (nI_clamp (by omega)) dX0_clearPaid_24 (fun J24 eJ24 => ?_)
              refine x_iinc h dX0_clearPaid_25 (by decide) rfl (nI (b + 1)) (nI_1 b) [some (.ref (xb G + 0)), some (.int (nI a)), some (.int (nI (b + 1)))] rfl ?_
              refine x_goto h 10 dX0_clearPaid_28 rfl ?_
              exact ih (b + 1) J24 (by omega) (by omega) (fun t ht => by rw [eJ24, up2_ap]; by_cases z : t = b; rw [if_pos ⟨rfl, z⟩]; rw [if_neg (fun y => z y.2)]; exact hB t (by omega)) (fun q t hq => by rw [eJ24, up2_i _ _ hq]; exact hB2 q t hq) (by rw [eJ24]; exact hfB.up (by omega))
        exact lp10 9 0 A (by decide) (by decide) (fun t ht => absurd ht (Nat.not_lt_zero _)) (fun _ _ _ => rfl) hf
  exact lp2 9 0 I (by decide) (by decide) (fun s t hs _ => absurd hs (Nat.not_lt_zero _)) Fr.rf
set_option maxHeartbeats 4000000 in
theorem k0_goRow (l : Launch) (G : xG_T) (n : Nat) (Ty : Nat → xs_T) (F : xF_T) (hC : WC n Ty F) (I : xI_T) (L : xL_T) (J : xI_T) (g z : Nat) (hg : mkT n Ty F g) (hg34 : 34 ≤ g ∧ g + 5 < 70) (hS : KS n Ty I F J) (hR : RC I J g) (hM : Wmk J) (hW : Wlaw J) (hZ : RW I J z) : CR l (262) yX0_goRow cX0_goRow 3 (none) G n Ty F [.ref (xb G + 0), .ref (xb G + g)] I L (aV (rowF g z I J)) := by
  refine Cg.intro (cls := RX0) (pad := 1) (lv := [some (.ref (xb G + 0)), some (.ref (xb G + g)), none]) rfl (by decide) (Nat.le_of_ble_eq_true rfl) rfl (fun Θ h => ?_)
  have hb8 : ix (J 70 0) ≤ 8 := by obtain ⟨z, hz, ez⟩ := vp_in_of hM.1 (by decide); rw [ez, ix_n (by omega)]; omega
  have hz20 := hZ.2.1
  refine x_iconst h dX0_goRow_0 (0) rfl ?_
  refine x_istore_n h dX0_goRow_1 rfl (by decide) [some (.ref (xb G + 0)), some (.ref (xb G + g)), some (.int 0)] rfl ?_
  have lp2 : ∀ (d : Nat) (k : Nat) (A : xI_T), z - k < d → (k ≤ z) → (rowF g k I J A) → X Θ 0 0 n Ty A L F 2 [some (.ref (xb G + 0)), some (.ref (xb G + g)), some (.int (nI k))] [] := by
    intro d
    induction d with
    | zero =>
      intro k A hlt
      exact absurd hlt (Nat.not_lt_zero _)
    | succ d ih =>
      intro k A hlt hk hA
      have h19 : A 0 19 = nI z := by rw [hA.1.2.2 0 19 (by unfold cset; omega)]; exact hZ.1
      have h22 : ∀ j : Nat, A 22 j = I 22 j := fun j => hA.1.2.2 22 j (by unfold cset; omega)
      refine x_iload_n h dX0_goRow_2 rfl ?_
      refine x_aload_n h dX0_goRow_3 rfl ?_
      refine x_geti h g_X0_275 (mlt hC.1 rfl) (hC.2.1 _ _ rfl) rfl dX0_goRow_4 ?_
      refine x_icmp_ge h 27 dX0_goRow_7 rfl (fun c7 => ?_) (fun c7 => ?_)
      · skip
        have hkz : k = z := Nat.le_antisymm hk (nleN h19 (by omega) (by omega) c7)
        exact x_vret h dX0_goRow_27 rfl ⟨rfl, rfl, rfl, rfl, rfl, by rw [← hkz]; exact hA⟩
      · skip
        have hkz : k < z := nltN h19 (by omega) (by omega) c7
        obtain ⟨r1, w, hw, ew⟩ := hZ.2.2 k hkz
        have e0 : m_goGo k J 70 0 = J 70 0 := goGo_o (gz3_70 (Or.inl (by decide))) k
        have e96 : m_goGo k J 96 k = nI w := by rw [goGo_o (gz3_q (Or.inl rfl))]; exact ew
        have hMW := goGo_M hM hW (fun j hj => (hZ.2.2 j hj).2) k hk
        refine x_aload_n h dX0_goRow_10 rfl ?_
        refine x_aload_n h dX0_goRow_11 rfl ?_
        refine x_aload_n h dX0_goRow_12 rfl ?_
        refine x_getr h (j := 22) g_X0_183 (mlt hC.1 rfl) (hC.2.1 _ _ rfl) (by decide) (hC.2.2 _ _ _ rfl) dX0_goRow_13 ?_
        refine x_iload_n h dX0_goRow_16 rfl ?_
        refine x_iald h (mlt hC.1 rfl) (hC.2.1 _ _ rfl) (vp_in_nI (by omega) (by first | decide | omega)) (k) (nI_clamp (by omega)) dX0_goRow_17 ?_
        refine x_eqi (nI w) (by rw [h22, r1]; exact ew) ?_
        refine x_callVRv h (As := [.ref _, .int _]) (k0_comesIn l G n _ _ hC _ _ (m_goGo k J) g w hg hg34 (hS.fr3 (fun q j hq => hA.1.2.2 q j (by unfold cset; omega)) (hA.1.2.2 0 1 (by unfold cset; omega)) (hA.1.2.2 0 3 (by unfold cset; omega)) (fun q j h _ => goGo_o h k)) hA.1.1 hMW.1 hMW.2 (by rw [e0]; exact hw)) m_X0_284 (mlt hC.1 rfl) (hC.2.1 _ _ rfl) dX0_goRow_18 ⟨by decide, by decide⟩ ⟨by decide, by decide⟩ rfl (Nat.le_of_ble_eq_true rfl) (fun J18 hp18 => ?_)
        refine x_iinc h dX0_goRow_21 (by decide) rfl (nI (k + 1)) (nI_1 k) [some (.ref (xb G + 0)), some (.ref (xb G + g)), some (.int (nI (k + 1)))] rfl ?_
        refine x_goto h 2 dX0_goRow_24 rfl ?_
        exact ih (k + 1) J18 (by omega) (by omega) (hA.step (by rw [e96]; exact hp18) hb8)
  exact lp2 (z + 1) 0 I (by omega) (by omega) (rowF.zero hR)
set_option maxHeartbeats 4000000 in
theorem k0_behindRow (l : Launch) (G : xG_T) (n : Nat) (Ty : Nat → xs_T) (F : xF_T) (hC : WC n Ty F) (I : xI_T) (L : xL_T) (J : xI_T) (z : Nat) (hL : RL n Ty I F J) (hS : KS n Ty I F J) (hM : Wmk J) (hW : Wlaw J) (hZ : RW I J z) : CR l (263) yX0_behindRow cX0_behindRow 2 (some (.object "ThirdAfter$Market")) G n Ty F [.ref (xb G + 0)] I L (aQ G 34 (behF z I J)) := by
  refine Cg.intro (cls := RX0) (pad := 1) (lv := [some (.ref (xb G + 0)), none]) rfl (by decide) (Nat.le_of_ble_eq_true rfl) rfl (fun Θ h => ?_)
  refine x_aload_n h dX0_behindRow_0 rfl ?_
  refine x_callVRv h (As := []) (k0_clearPaid l G n _ _ hC _ _) m_X0_288 (mlt hC.1 rfl) (hC.2.1 _ _ rfl) dX0_behindRow_1 ⟨by decide, by decide⟩ ⟨by decide, by decide⟩ rfl (Nat.le_of_ble_eq_true rfl) (fun J1 hp1 => ?_)
  refine x_aload_n h dX0_behindRow_4 rfl ?_
  refine x_callVRr h (As := []) (k0_layNow l G n _ _ hC _ _ J (hL.fr1 hp1.2) hM) m_X0_291 (mlt hC.1 rfl) (hC.2.1 _ _ rfl) dX0_behindRow_5 ⟨by decide, by decide⟩ ⟨by decide, by decide⟩ rfl (Nat.le_of_ble_eq_true rfl) (fun J5 hp5 => ?_)
  refine x_astore_n h dX0_behindRow_8 rfl (by decide) [some (.ref (xb G + 0)), some (.ref (xb G + 34))] rfl ?_
  refine x_aload_n h dX0_behindRow_9 rfl ?_
  refine x_aload_n h dX0_behindRow_10 rfl ?_
  refine x_callVRv h (As := [.ref _]) (k0_goRow l G n _ _ hC _ _ (m_begins J) 34 z (hC.mk (Or.inr (Or.inr (Or.inl rfl)))) (by decide) (beh_S hS hp1.2 hp5.2) (hp5.1 _ eqL.begins) hM.begins hW.begins (beh_Z hZ hp1.2 hp5.2)) m_X0_295 (mlt hC.1 rfl) (hC.2.1 _ _ rfl) dX0_behindRow_11 ⟨by decide, by decide⟩ ⟨by decide, by decide⟩ rfl (Nat.le_of_ble_eq_true rfl) (fun J11 hp11 => ?_)
  refine x_aload_n h dX0_behindRow_14 rfl ?_
  exact x_aret h dX0_behindRow_15 (Or.inl ⟨_, rfl⟩) rfl ⟨rfl, rfl, rfl, rfl, rfl, beh_F hp1 hp5 hp11⟩
