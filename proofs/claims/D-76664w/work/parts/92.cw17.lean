/-! WALKS OF THE COMPONENT: tries of thirds, comings, wants -/
theorem m_X0_361 : xcv RX0 361 0 yX0_wrongIn cX0_wrongIn 3 (some .int) 1 := ⟨_, _, _, rfl, lw_V q1037 q1039 qs41 q99 q1040, rfl, by decide +kernel, by decide +kernel, by decide +kernel⟩
set_option maxHeartbeats 4000000 in
theorem k0_thirds (l : Launch) (G : xG_T) (n : Nat) (Ty : Nat → xs_T) (F : xF_T) (hC : WC n Ty F) (I : xI_T) (L : xL_T) (J : xI_T) (M : xL_T) (s z zs : Nat) (hQ : QS n Ty I F J) (hR : RW I J z) (h45 : J 70 45 = nI z) (hS : RS I J M s zs) (hs : s < 6) : CR l (263) yX0_thirds cX0_thirds 4 (some .int) G n Ty F [.ref (xb G + 0)] I L (aR (fun r I2 => r = (m_thirds J M (nI s)).1 ∧ Fr q2set I I2)) := by
  refine Cg.intro (cls := RX0) (pad := 3) (lv := [some (.ref (xb G + 0)), none, none, none]) rfl (by decide) (Nat.le_of_ble_eq_true rfl) rfl (fun Θ h => ?_)
  have hg34 := hC.mk (Or.inr (Or.inr (Or.inl rfl)))
  have hWa := hQ.wall hR h45
  refine x_iconst h dX0_thirds_0 (0) rfl ?_
  refine x_istore_n h dX0_thirds_1 rfl (by decide) [some (.ref (xb G + 0)), some (.int 0), none, none] rfl ?_
  refine x_iconst h dX0_thirds_2 (1) rfl ?_
  refine x_istore_n h dX0_thirds_3 rfl (by decide) [some (.ref (xb G + 0)), some (.int 0), some (.int 1), none] rfl ?_
  have lp4 : ∀ (d : Nat) (k : Nat) (x : Int32) (A : xI_T), 5 - k < d → (k ≤ 5) → (x = (m_thGo M (nI s) k (0, J)).1) → (Fr q2set I A) → (A 0 19 = I 0 19 ∧ (∀ j : Nat, A 22 j = I 22 j) ∧ A 0 23 = I 0 23 ∧ ∀ j : Nat, A 24 j = I 24 j) → X Θ 0 0 n Ty A L F 4 [some (.ref (xb G + 0)), some (.int x), some (.int (nI (k + 1))), none] [] := by
    intro d
    induction d with
    | zero =>
      intro k x A hlt
      exact absurd hlt (Nat.not_lt_zero _)
    | succ d ih =>
      intro k x A hlt hk hx hf h19
      have hQA := hQ.fr hf.q (fun _ _ _ => rfl)
      have hRA : RW A J z := hR.fr ⟨h19.1, h19.2.1⟩ ⟨rfl, fun _ => rfl⟩
      have hSA : RS A J M s zs := hS.mv h19.2.2.1 h19.2.2.2 rfl
      refine x_iload_n h dX0_thirds_4 rfl ?_
      refine x_iconst h dX0_thirds_5 (5) rfl ?_
      refine x_icmp_gt h 41 dX0_thirds_6 rfl (fun c6 => ?_) (fun c6 => ?_)
      · skip
        have hk5 : k = 5 := by have := (nI_ltI (a := 5) (b := k + 1) (by omega) (by omega)).mp c6; omega
        refine x_iload_n h dX0_thirds_41 rfl ?_
        exact x_iret h dX0_thirds_42 rfl ⟨rfl, rfl, rfl, rfl, _, rfl, by rw [hx, hk5, thirds_1], hf⟩
      · skip
        have hk5 : k < 5 := by have := (nI_leI (a := k + 1) (b := 5) (by omega) (by omega)).mp (Int32.not_lt.mp c6); omega
        refine x_aload_n h dX0_thirds_9 rfl ?_
        refine x_callVRr h (As := []) (k0_layNow l G n _ _ hC _ _ J hQA.1 hQ.2.2.1) m_X0_291 (mlt hC.1 rfl) (hC.2.1 _ _ rfl) dX0_thirds_10 ⟨by decide, by decide⟩ ⟨by decide, by decide⟩ rfl (Nat.le_of_ble_eq_true rfl) (fun J10 hp10 => ?_)
        refine x_astore_n h dX0_thirds_13 rfl (by decide) [some (.ref (xb G + 0)), some (.int x), some (.int (nI (k + 1))), some (.ref (xb G + 34))] rfl ?_
        refine x_aload_n h dX0_thirds_14 rfl ?_
        refine x_iload_n h dX0_thirds_15 rfl ?_
        refine x_putiN h p_X0_211 hg34.l0 hg34.1.2 rfl rfl rfl dX0_thirds_16 (fun J16 eJ16 => ?_)
        refine x_aload_n h dX0_thirds_19 rfl ?_
        refine x_aload_n h dX0_thirds_20 rfl ?_
        have hUN := UN.third (I := A) (M := M) hQA hRA h45 hSA ((th_X (M := M) (s := nI s) hWa k (by omega)).2 hk5) (up2_s _ _ _ _) hp10.1 hp10.2
        rw [← eJ16] at hUN
        refine x_callVRi h (As := [.ref _]) (k0_wrongIn l G n _ _ hC _ _ _ M s z zs hUN hs) m_X0_361 (mlt hC.1 rfl) (hC.2.1 _ _ rfl) dX0_thirds_21 ⟨by decide, by decide⟩ ⟨by decide, by decide⟩ rfl (Nat.le_of_ble_eq_true rfl) (fun v21 J21 hp21 => ?_)
        have hf21 : Fr q2set I J21 := hf.tr ((hp10.2.sub fun _ _ z => lset_2 z).tr ((by rw [eJ16]; exact Fr.rf.up (by unfold q2set qset; omega) : Fr q2set J10 J16).tr (hp21.2.sub fun _ _ z => cset_2 z)))
        have o21 : ∀ q j : Nat, (q = 0 ∧ (j = 19 ∨ j = 23)) ∨ q = 22 ∨ q = 24 → J21 q j = A q j := fun q j y => by rw [hp21.2 q j (by unfold cset; omega), eJ16, up2_n _ _ (by omega), hp10.2 q j (by unfold lset; omega)]
        have h1921 : J21 0 19 = I 0 19 ∧ (∀ j : Nat, J21 22 j = I 22 j) ∧ J21 0 23 = I 0 23 ∧ ∀ j : Nat, J21 24 j = I 24 j := ⟨(o21 0 19 (by omega)).trans h19.1, fun j => (o21 22 j (by omega)).trans (h19.2.1 j), (o21 0 23 (by omega)).trans h19.2.2.1, fun j => (o21 24 j (by omega)).trans (h19.2.2.2 j)⟩
        refine x_bipush h dX0_thirds_24 (-2) rfl ?_
        refine x_icmp_ne h 35 dX0_thirds_26 rfl (fun c26 => ?_) (fun c26 => ?_)
        · skip
          refine x_iinc h dX0_thirds_35 (by decide) rfl (nI (k + 1 + 1)) (nI_1 (k + 1)) [some (.ref (xb G + 0)), some (.int x), some (.int (nI (k + 1 + 1))), some (.ref (xb G + 34))] rfl ?_
          refine x_goto h 4 dX0_thirds_38 rfl ?_
          refine x_wk (lv := [some (.ref (xb G + 0)), some (.int x), some (.int (nI (k + 1 + 1))), none]) ?_ ⟨rfl, rfl, rfl, trivial⟩
          exact ih (k + 1) ((x)) J21 (by omega) (by omega) (by rw [thGo_s, ← hx, ← hp21.1]; unfold m_bit; first | (rw [if_neg c26]; done) | (rw [if_pos c26]; assumption)) hf21 h1921
        · skip
          refine x_iload_n h dX0_thirds_29 rfl ?_
          refine x_iconst h dX0_thirds_30 (1) rfl ?_
          refine x_iload_n h dX0_thirds_31 rfl ?_
          refine x_ishl h dX0_thirds_32 ?_
          refine x_ior h dX0_thirds_33 ?_
          refine x_nmi (fun v34 ev34 => ?_)
          refine x_istore_n h dX0_thirds_34 rfl (by decide) [some (.ref (xb G + 0)), some (.int v34), some (.int (nI (k + 1))), some (.ref (xb G + 34))] rfl ?_
          refine x_iinc h dX0_thirds_35 (by decide) rfl (nI (k + 1 + 1)) (nI_1 (k + 1)) [some (.ref (xb G + 0)), some (.int v34), some (.int (nI (k + 1 + 1))), some (.ref (xb G + 34))] rfl ?_
          refine x_goto h 4 dX0_thirds_38 rfl ?_
          refine x_wk (lv := [some (.ref (xb G + 0)), some (.int v34), some (.int (nI (k + 1 + 1))), none]) ?_ ⟨rfl, rfl, rfl, trivial⟩
          exact ih (k + 1) ((v34)) J21 (by omega) (by omega) (by rw [thGo_s, ← hx, ← hp21.1]; unfold m_bit; first | (rw [if_neg c26]; done) | (rw [if_pos c26]; assumption)) hf21 h1921
  exact lp4 6 0 0 I (by omega) (by omega) rfl Fr.rf ⟨rfl, fun _ => rfl, rfl, fun _ => rfl⟩
set_option maxHeartbeats 4000000 in
theorem k0_whose (l : Launch) (G : xG_T) (n : Nat) (Ty : Nat → xs_T) (F : xF_T) (hC : WC n Ty F) (I : xI_T) (L : xL_T) (J : xI_T) (M : xL_T) (s z zs p : Nat) (hQ : QS n Ty I F J) (hR : RW I J z) (h45 : J 70 45 = nI z) (hS : RS I J M s zs) (hs : s < 6) (hpz : p < z) : CR l (263) yX0_whose cX0_whose 5 (some .int) G n Ty F [.ref (xb G + 0), .int (nI p)] I L (aR (fun r I2 => r = (m_whose J M (nI s) p).1 ∧ Fr q2set I I2)) := by
  refine Cg.intro (cls := RX0) (pad := 3) (lv := [some (.ref (xb G + 0)), some (.int (nI p)), none, none, none]) rfl (by decide) (Nat.le_of_ble_eq_true rfl) rfl (fun Θ h => ?_)
  have hWa := hQ.wall hR h45
  obtain ⟨nb, hnb, enb, enx, hnI⟩ := hQ.nb
  have hz20 := hR.2.1
  refine x_aload_n h dX0_whose_0 rfl ?_
  refine x_getr h (j := 22) g_X0_183 (mlt hC.1 rfl) (hC.2.1 _ _ rfl) (by decide) (hC.2.2 _ _ _ rfl) dX0_whose_1 ?_
  refine x_iload_n h dX0_whose_4 rfl ?_
  refine x_iald h (mlt hC.1 rfl) (hC.2.1 _ _ rfl) (vp_in_nI (show p < 21 by omega) (by decide)) (p) (nI_clamp (by omega)) dX0_whose_5 ?_
  refine x_nmi (fun v6 ev6 => ?_)
  refine x_istore_n h dX0_whose_6 rfl (by decide) [some (.ref (xb G + 0)), some (.int (nI p)), some (.int v6), none, none] rfl ?_
  refine x_iconst h dX0_whose_7 (0) rfl ?_
  refine x_istore_n h dX0_whose_8 rfl (by decide) [some (.ref (xb G + 0)), some (.int (nI p)), some (.int v6), some (.int 0), none] rfl ?_
  refine x_iconst h dX0_whose_9 (0) rfl ?_
  refine x_istore h dX0_whose_10 (by decide) [some (.ref (xb G + 0)), some (.int (nI p)), some (.int v6), some (.int 0), some (.int 0)] rfl ?_
  have lp12 : ∀ (d : Nat) (k : Nat) (x : Int32) (A : xI_T), nb - k < d → (k ≤ nb) → (x = (m_whGo M (nI s) p k (0, J)).1) → (Fr q2set I A) → (A 0 19 = I 0 19 ∧ (∀ j : Nat, j ≠ p → A 22 j = I 22 j) ∧ A 0 23 = I 0 23 ∧ ∀ j : Nat, A 24 j = I 24 j) → X Θ 0 0 n Ty A L F 12 [some (.ref (xb G + 0)), some (.int (nI p)), some (.int v6), some (.int x), some (.int (nI k))] [] := by
    intro d
    induction d with
    | zero =>
      intro k x A hlt
      exact absurd hlt (Nat.not_lt_zero _)
    | succ d ih =>
      intro k x A hlt hk hx hf h19
      have hQA := hQ.fr hf.q (fun _ _ _ => rfl)
      have hSA : RS A J M s zs := hS.mv h19.2.2.1 h19.2.2.2 rfl
      have h01 : A 0 1 = nI nb := by rw [hf 0 1 (by unfold q2set qset bset lset cset; omega)]; exact hnI
      refine x_iload h dX0_whose_12 rfl ?_
      refine x_aload_n h dX0_whose_14 rfl ?_
      refine x_geti h g_X0_1 (mlt hC.1 rfl) (hC.2.1 _ _ rfl) rfl dX0_whose_15 ?_
      refine x_eqi (nI nb) h01 ?_
      refine x_icmp_ge h 55 dX0_whose_18 rfl (fun c18 => ?_) (fun c18 => ?_)
      · skip
        have hkn : k = nb := by have := (nI_leI (a := nb) (b := k) (by omega) (by omega)).mp c18; omega
        refine x_aload_n h dX0_whose_55 rfl ?_
        refine x_getr h (j := 22) g_X0_183 (mlt hC.1 rfl) (hC.2.1 _ _ rfl) (by decide) (hC.2.2 _ _ _ rfl) dX0_whose_56 ?_
        refine x_iload_n h dX0_whose_59 rfl ?_
        refine x_iload_n h dX0_whose_60 rfl ?_
        refine x_iast h (mlt hC.1 rfl) (hC.2.1 _ _ rfl) (vp_in_nI (show p < 21 by omega) (by decide)) (p) (nI_clamp (by omega)) dX0_whose_61 (fun J61 eJ61 => ?_)
        refine x_iload_n h dX0_whose_62 rfl ?_
        exact x_iret h dX0_whose_63 rfl ⟨rfl, rfl, rfl, rfl, _, rfl, by rw [hx, hkn, ← enx, whose_1], by rw [eJ61]; exact hf.up (rset_q (Or.inl rfl))⟩
      · skip
        have hkn : k < nb := Nat.lt_of_not_le fun y => c18 ((nI_leI (by omega) (by omega)).mpr y)
        refine x_aload_n h dX0_whose_21 rfl ?_
        refine x_getr h (j := 22) g_X0_183 (mlt hC.1 rfl) (hC.2.1 _ _ rfl) (by decide) (hC.2.2 _ _ _ rfl) dX0_whose_22 ?_
        refine x_iload_n h dX0_whose_25 rfl ?_
        refine x_iload h dX0_whose_26 rfl ?_
        refine x_iast h (mlt hC.1 rfl) (hC.2.1 _ _ rfl) (vp_in_nI (show p < 21 by omega) (by decide)) (p) (nI_clamp (by omega)) dX0_whose_28 (fun J28 eJ28 => ?_)
        refine x_aload_n h dX0_whose_29 rfl ?_
        refine x_aload_n h dX0_whose_30 rfl ?_
        have hX := (wh_X (M := M) (s := nI s) (p := p) hWa k (by omega)).2 (by omega)
        have hf28 : Fr q2set A J28 := by rw [eJ28]; exact Fr.rf.up (rset_q (Or.inl rfl))
        have hQ28 := hQA.fr hf28.q (fun _ _ _ => rfl)
        have hS28 : RS J28 J M s zs := hSA.mv (by rw [eJ28, up2_i _ _ (by decide)]) (fun j => by rw [eJ28, up2_i _ _ (by decide)]) rfl
        have hR28 : RW J28 (whK M (nI s) p J k) z := ⟨by rw [eJ28, up2_i _ _ (by decide), h19.1]; exact hR.1, hz20, fun j hj => by rw [hX.2.1 70 0 (Or.inl ⟨rfl, by decide⟩) (fun y => absurd y.1 (by decide)), eJ28]; by_cases e : j = p; rw [e, up2_s, whK_p]; exact ⟨rfl, k, by rw [enx]; exact hkn, rfl⟩; rw [up2_k _ _ e, h19.2.1 j e, hX.2.2.2.1 j (fun y => e y.2)]; exact hR.2.2 j hj⟩
        refine x_callVRr h (As := []) (k0_layNow l G n _ _ hC _ _ J hQ28.1 hQ.2.2.1) m_X0_291 (mlt hC.1 rfl) (hC.2.1 _ _ rfl) dX0_whose_31 ⟨by decide, by decide⟩ ⟨by decide, by decide⟩ rfl (Nat.le_of_ble_eq_true rfl) (fun J31 hp31 => ?_)
        refine x_callVRi h (As := [.ref _]) (k0_wrongIn l G n _ _ hC _ _ _ M s z zs (UN.row hQ28 hR28 h45 hS28 hX hp31.1 hp31.2) hs) m_X0_361 (mlt hC.1 rfl) (hC.2.1 _ _ rfl) dX0_whose_34 ⟨by decide, by decide⟩ ⟨by decide, by decide⟩ rfl (Nat.le_of_ble_eq_true rfl) (fun v34 J34 hp34 => ?_)
        have hf34 : Fr q2set I J34 := hf.tr (hf28.tr ((hp31.2.sub fun _ _ z => lset_2 z).tr (hp34.2.sub fun _ _ z => cset_2 z)))
        have o34 : ∀ q j : Nat, (q = 0 ∧ (j = 19 ∨ j = 23)) ∨ (q = 22 ∧ j ≠ p) ∨ q = 24 → J34 q j = A q j := fun q j y => by rw [hp34.2 q j (by unfold cset; omega), hp31.2 q j (by unfold lset; omega), eJ28, up2_n _ _ (by omega)]
        have h1934 : J34 0 19 = I 0 19 ∧ (∀ j : Nat, j ≠ p → J34 22 j = I 22 j) ∧ J34 0 23 = I 0 23 ∧ ∀ j : Nat, J34 24 j = I 24 j := ⟨(o34 0 19 (by omega)).trans h19.1, fun j hj => (o34 22 j (by omega)).trans (h19.2.1 j hj), (o34 0 23 (by omega)).trans h19.2.2.1, fun j => (o34 24 j (by omega)).trans (h19.2.2.2 j)⟩
        refine x_bipush h dX0_whose_37 (-2) rfl ?_
        refine x_icmp_ne h 49 dX0_whose_39 rfl (fun c39 => ?_) (fun c39 => ?_)
        · skip
          refine x_iinc h dX0_whose_49 (by decide) rfl (nI (k + 1)) (nI_1 k) [some (.ref (xb G + 0)), some (.int (nI p)), some (.int v6), some (.int x), some (.int (nI (k + 1)))] rfl ?_
          refine x_goto h 12 dX0_whose_52 rfl ?_
          exact ih (k + 1) ((x)) J34 (by omega) (by omega) (by rw [whGo_s, ← hx, ← hp34.1]; unfold m_bit; first | (rw [if_neg c39]; done) | (rw [if_pos c39]; assumption)) hf34 h1934
        · skip
          refine x_iload_n h dX0_whose_42 rfl ?_
          refine x_iconst h dX0_whose_43 (1) rfl ?_
          refine x_iload h dX0_whose_44 rfl ?_
          refine x_ishl h dX0_whose_46 ?_
          refine x_ior h dX0_whose_47 ?_
          refine x_nmi (fun v48 ev48 => ?_)
          refine x_istore_n h dX0_whose_48 rfl (by decide) [some (.ref (xb G + 0)), some (.int (nI p)), some (.int v6), some (.int v48), some (.int (nI k))] rfl ?_
          refine x_iinc h dX0_whose_49 (by decide) rfl (nI (k + 1)) (nI_1 k) [some (.ref (xb G + 0)), some (.int (nI p)), some (.int v6), some (.int v48), some (.int (nI (k + 1)))] rfl ?_
          refine x_goto h 12 dX0_whose_52 rfl ?_
          exact ih (k + 1) ((v48)) J34 (by omega) (by omega) (by rw [whGo_s, ← hx, ← hp34.1]; unfold m_bit; first | (rw [if_neg c39]; done) | (rw [if_pos c39]; assumption)) hf34 h1934
  exact lp12 (nb + 1) 0 0 I (by omega) (by omega) rfl Fr.rf ⟨rfl, fun _ _ => rfl, rfl, fun _ => rfl⟩
set_option maxHeartbeats 4000000 in
theorem k0_wanted (l : Launch) (G : xG_T) (n : Nat) (Ty : Nat → xs_T) (F : xF_T) (hC : WC n Ty F) (I : xI_T) (L : xL_T) (J : xI_T) (M : xL_T) (s z zs o : Nat) (b : Int32) (hQ : QS n Ty I F J) (hR : RW I J z) (h45 : J 70 45 = nI z) (hS : RS I J M s zs) (hs : s < 6) (ho : o < 8) : CR l (263) yX0_wanted cX0_wanted 6 (some .int) G n Ty F [.ref (xb G + 0), .int (nI o), .int b] I L (aR (fun r I2 => r = (m_wanted J M (nI s) o b).1 ∧ Fr q2set I I2)) := by
  refine Cg.intro (cls := RX0) (pad := 3) (lv := [some (.ref (xb G + 0)), some (.int (nI o)), some (.int b), none, none, none]) rfl (by decide) (Nat.le_of_ble_eq_true rfl) rfl (fun Θ h => ?_)
  have hg34 := hC.mk (Or.inr (Or.inr (Or.inl rfl)))
  have hWa := hQ.wall hR h45
  refine x_iconst h dX0_wanted_0 (0) rfl ?_
  refine x_istore_n h dX0_wanted_1 rfl (by decide) [some (.ref (xb G + 0)), some (.int (nI o)), some (.int b), some (.int 0), none, none] rfl ?_
  refine x_iconst h dX0_wanted_2 (0) rfl ?_
  refine x_istore h dX0_wanted_3 (by decide) [some (.ref (xb G + 0)), some (.int (nI o)), some (.int b), some (.int 0), some (.int 0), none] rfl ?_
  have lp5 : ∀ (d : Nat) (k : Nat) (A : xI_T), 10 - k < d → (k ≤ 10) → (¬ b = 0 → ∀ v : Nat, v < k → ¬ waV M (nI s) o J v = -2) → (Fr q2set I A) → (A 0 19 = I 0 19 ∧ (∀ j : Nat, A 22 j = I 22 j) ∧ A 0 23 = I 0 23 ∧ ∀ j : Nat, A 24 j = I 24 j) → X Θ 0 0 n Ty A L F 5 [some (.ref (xb G + 0)), some (.int (nI o)), some (.int b), some (.int (nI (asc (waV M (nI s) o J) k))), some (.int (nI k)), none] [] := by
    intro d
    induction d with
    | zero =>
      intro k A hlt
      exact absurd hlt (Nat.not_lt_zero _)
    | succ d ih =>
      intro k A hlt hk hno hf h19
      have hQA := hQ.fr hf.q (fun _ _ _ => rfl)
      have hRA : RW A J z := hR.fr ⟨h19.1, h19.2.1⟩ ⟨rfl, fun _ => rfl⟩
      have hSA : RS A J M s zs := hS.mv h19.2.2.1 h19.2.2.2 rfl
      have hak := asc_le (T := waV M (nI s) o J) k
      refine x_iload h dX0_wanted_5 rfl ?_
      refine x_bipush h dX0_wanted_7 (9) rfl ?_
      refine x_icmp_gt h 57 dX0_wanted_9 rfl (fun c9 => ?_) (fun c9 => ?_)
      · skip
        have hk10 : k = 10 := by have := (nI_ltI (a := 9) (b := k) (by omega) (by omega)).mp c9; omega
        obtain ⟨c1, e1, f1⟩ := wat_1 (M := M) (s := nI s) (o := o) (J := J) 10 (Nat.le_refl _)
        refine x_iload_n h dX0_wanted_57 rfl ?_
        refine x_if_eq h 66 dX0_wanted_58 rfl (fun c58 => ?_) (fun c58 => ?_)
        · skip
          refine x_iload_n h dX0_wanted_66 rfl ?_
          exact x_iret h dX0_wanted_67 rfl ⟨rfl, rfl, rfl, rfl, _, rfl, by first | (rw [wanted_0 c58, e1, hk10, wat_3 f1]; done) | (rw [wanted_1 c58]; rcases wat_2 (M := M) (s := nI s) (o := o) (J := J) 10 (Nat.le_refl _) with ⟨a1, a2⟩ | ⟨v, a1, a2, a3, a4, a5⟩; exact a1.symm; exact absurd a3 (hno c58 v (by omega))), hf⟩
        · skip
          refine x_bipush h dX0_wanted_61 (-2) rfl ?_
          refine x_goto h 67 dX0_wanted_63 rfl ?_
          exact x_iret h dX0_wanted_67 rfl ⟨rfl, rfl, rfl, rfl, _, rfl, by first | (rw [wanted_0 c58, e1, hk10, wat_3 f1]; done) | (rw [wanted_1 c58]; rcases wat_2 (M := M) (s := nI s) (o := o) (J := J) 10 (Nat.le_refl _) with ⟨a1, a2⟩ | ⟨v, a1, a2, a3, a4, a5⟩; exact a1.symm; exact absurd a3 (hno c58 v (by omega))), hf⟩
      · skip
        have hk9 : k ≤ 9 := (nI_leI (a := k) (b := 9) (by omega) (by omega)).mp (Int32.not_lt.mp c9)
        have eK := waK_o (J := J) (M := M) (s := nI s) (o := o) hk9
        refine x_aload_n h dX0_wanted_12 rfl ?_
        refine x_callVRr h (As := []) (k0_layNow l G n _ _ hC _ _ J hQA.1 hQ.2.2.1) m_X0_291 (mlt hC.1 rfl) (hC.2.1 _ _ rfl) dX0_wanted_13 ⟨by decide, by decide⟩ ⟨by decide, by decide⟩ rfl (Nat.le_of_ble_eq_true rfl) (fun J13 hp13 => ?_)
        refine x_astore h dX0_wanted_16 (by decide) [some (.ref (xb G + 0)), some (.int (nI o)), some (.int b), some (.int (nI (asc (waV M (nI s) o J) k))), some (.int (nI k)), some (.ref (xb G + 34))] rfl ?_
        refine x_aload h dX0_wanted_18 rfl ?_
        refine x_getrN h (j := 36) g_X0_209 hg34.l0 hg34.1.2 (by decide) (hC.2.2 _ _ _ rfl) dX0_wanted_20 ?_
        refine x_iload_n h dX0_wanted_23 rfl ?_
        refine x_iload h dX0_wanted_24 rfl ?_
        refine x_iast h (mlt hC.1 rfl) (hC.2.1 _ _ rfl) (vp_in_nI ho (by decide)) (o) (nI_clamp (by omega)) dX0_wanted_26 (fun J26 eJ26 => ?_)
        refine x_aload_n h dX0_wanted_27 rfl ?_
        refine x_aload h dX0_wanted_28 rfl ?_
        have hUN := UN.want (M := M) hQA hRA h45 hSA ho (wa_X (M := M) (s := nI s) (o := o) hWa (9 - k)).2 eK hp13.1 hp13.2
        rw [← eJ26] at hUN
        refine x_callVRi h (As := [.ref _]) (k0_wrongIn l G n _ _ hC _ _ _ M s z zs hUN hs) m_X0_361 (mlt hC.1 rfl) (hC.2.1 _ _ rfl) dX0_wanted_30 ⟨by decide, by decide⟩ ⟨by decide, by decide⟩ rfl (Nat.le_of_ble_eq_true rfl) (fun v30 J30 hp30 => ?_)
        have hf30 : Fr q2set I J30 := hf.tr ((hp13.2.sub fun _ _ z => lset_2 z).tr ((by rw [eJ26]; exact Fr.rf.up (by unfold q2set qset; omega) : Fr q2set J13 J26).tr (hp30.2.sub fun _ _ z => cset_2 z)))
        have o30 : ∀ q j : Nat, (q = 0 ∧ (j = 19 ∨ j = 23)) ∨ q = 22 ∨ q = 24 → J30 q j = A q j := fun q j y => by rw [hp30.2 q j (by unfold cset; omega), eJ26, up2_n _ _ (by omega), hp13.2 q j (by unfold lset; omega)]
        have h1930 : J30 0 19 = I 0 19 ∧ (∀ j : Nat, J30 22 j = I 22 j) ∧ J30 0 23 = I 0 23 ∧ ∀ j : Nat, J30 24 j = I 24 j := ⟨(o30 0 19 (by omega)).trans h19.1, fun j => (o30 22 j (by omega)).trans (h19.2.1 j), (o30 0 23 (by omega)).trans h19.2.2.1, fun j => (o30 24 j (by omega)).trans (h19.2.2.2 j)⟩
        refine x_bipush h dX0_wanted_33 (-2) rfl ?_
        refine x_icmp_eq h 41 dX0_wanted_35 rfl (fun c35 => ?_) (fun c35 => ?_)
        · skip
          have hT : waV M (nI s) o J k = -2 := hp30.1.symm.trans c35
          have easc : asc (waV M (nI s) o J) (k + 1) = asc (waV M (nI s) o J) k + 1 := by rw [asc_s, if_pos hT]
          refine x_iload_n h dX0_wanted_41 rfl ?_
          refine x_if_eq h 48 dX0_wanted_42 rfl (fun c42 => ?_) (fun c42 => ?_)
          · skip
            have hno2 : ¬ b = 0 → ∀ v : Nat, v < k + 1 → ¬ waV M (nI s) o J v = -2 := fun y => absurd c42 y
            refine x_iinc h dX0_wanted_48 (by decide) rfl (nI (asc (waV M (nI s) o J) k + 1)) (nI_1 (asc (waV M (nI s) o J) k)) [some (.ref (xb G + 0)), some (.int (nI o)), some (.int b), some (.int (nI (asc (waV M (nI s) o J) k + 1))), some (.int (nI k)), some (.ref (xb G + 34))] rfl ?_
            rw [show nI (asc (waV M (nI s) o J) k + 1) = nI (asc (waV M (nI s) o J) (k + 1)) by rw [easc]]
            refine x_iinc h dX0_wanted_51 (by decide) rfl (nI (k + 1)) (nI_1 k) [some (.ref (xb G + 0)), some (.int (nI o)), some (.int b), some (.int (nI (asc (waV M (nI s) o J) (k + 1)))), some (.int (nI (k + 1))), some (.ref (xb G + 34))] rfl ?_
            refine x_goto h 5 dX0_wanted_54 rfl ?_
            refine x_wk (lv := [some (.ref (xb G + 0)), some (.int (nI o)), some (.int b), some (.int (nI (asc (waV M (nI s) o J) (k + 1)))), some (.int (nI (k + 1))), none]) ?_ ⟨rfl, rfl, rfl, rfl, rfl, trivial⟩
            exact ih (k + 1) J30 (by omega) (by omega) hno2 hf30 h1930
          · skip
            refine x_iload h dX0_wanted_45 rfl ?_
            exact x_iret h dX0_wanted_47 rfl ⟨rfl, rfl, rfl, rfl, _, rfl, by rw [wanted_1 c42]; rcases wat_2 (M := M) (s := nI s) (o := o) (J := J) 10 (Nat.le_refl _) with ⟨a1, a2⟩ | ⟨v, a1, a2, a3, a4, a5⟩; exact absurd hT (a2 k (by omega) (by omega)); rw [a4]; by_cases e1 : v < k; exact absurd a3 (hno c42 v e1); by_cases e2 : k < v; exact absurd hT (a5 k (by omega) e2); rw [show v = k by omega], hf30⟩
        · skip
          have hT : ¬ waV M (nI s) o J k = -2 := fun y => c35 (hp30.1.trans y)
          have easc : asc (waV M (nI s) o J) (k + 1) = asc (waV M (nI s) o J) k := by rw [asc_s, if_neg hT, Nat.add_zero]
          have hno2 : ¬ b = 0 → ∀ v : Nat, v < k + 1 → ¬ waV M (nI s) o J v = -2 := fun y v hv => by by_cases e : v = k; rw [e]; exact hT; exact hno y v (by omega)
          rw [← easc]
          refine x_goto h 51 dX0_wanted_38 rfl ?_
          refine x_iinc h dX0_wanted_51 (by decide) rfl (nI (k + 1)) (nI_1 k) [some (.ref (xb G + 0)), some (.int (nI o)), some (.int b), some (.int (nI (asc (waV M (nI s) o J) (k + 1)))), some (.int (nI (k + 1))), some (.ref (xb G + 34))] rfl ?_
          refine x_goto h 5 dX0_wanted_54 rfl ?_
          refine x_wk (lv := [some (.ref (xb G + 0)), some (.int (nI o)), some (.int b), some (.int (nI (asc (waV M (nI s) o J) (k + 1)))), some (.int (nI (k + 1))), none]) ?_ ⟨rfl, rfl, rfl, rfl, rfl, trivial⟩
          exact ih (k + 1) J30 (by omega) (by omega) hno2 hf30 h1930
  exact lp5 11 0 I (by omega) (by omega) (fun _ v hv => absurd hv (Nat.not_lt_zero _)) Fr.rf ⟨rfl, fun _ => rfl, rfl, fun _ => rfl⟩
