/-! WALKS OF THE COMPONENT: rings, gains -/
theorem m_X0_339 : xcv RX0 339 0 yX0_stepsTo cX0_stepsTo 8 (some .int) 2 := ⟨_, _, _, rfl, lw_V q1014 q1016 qs37 q99 q1017, rfl, by decide +kernel, by decide +kernel, by decide +kernel⟩
set_option maxHeartbeats 4000000 in
theorem k0_stepsTo (l : Launch) (G : xG_T) (n : Nat) (Ty : Nat → xs_T) (F : xF_T) (hC : WC n Ty F) (I : xI_T) (L : xL_T) (E : Nat → Nat → Prop) (nb a c : Nat) (hn : I 0 1 = nI nb) (hnb : nb ≤ 8) (ha : a < nb) (hc : c < nb) (hE : ∀ p q : Nat, p < 8 → q < 8 → (E p q ↔ ¬ I (14 + p) q ≤ 0)) : CR l (5) yX0_stepsTo cX0_stepsTo 8 (some .int) G n Ty F [.ref (xb G + 0), .int (nI a), .int (nI c)] I L (aR (fun r I2 => I2 = I ∧ ∃ m : Nat, r = nI m ∧ 1 ≤ m ∧ m ≤ nb + 1 ∧ (m ≤ nb → wlk E nb m a c) ∧ ∀ j : Nat, 1 ≤ j → j < m → ¬ wlk E nb j a c)) := by
  refine Cg.intro (cls := RX0) (pad := 5) (lv := [some (.ref (xb G + 0)), some (.int (nI a)), some (.int (nI c)), none, none, none, none, none]) rfl (by decide) (Nat.le_of_ble_eq_true rfl) rfl (fun Θ h => ?_)
  refine x_iconst h dX0_stepsTo_0 (1) rfl ?_
  refine x_iload_n h dX0_stepsTo_1 rfl ?_
  refine x_ishl h dX0_stepsTo_2 ?_
  refine x_eqi (nI (2 ^ a)) (bst (show a < 8 by omega)).1 ?_
  refine x_istore_n h dX0_stepsTo_3 rfl (by decide) [some (.ref (xb G + 0)), some (.int (nI a)), some (.int (nI c)), some (.int (nI (2 ^ a))), none, none, none, none] rfl ?_
  refine x_iconst h dX0_stepsTo_4 (1) rfl ?_
  refine x_istore h dX0_stepsTo_5 (by decide) [some (.ref (xb G + 0)), some (.int (nI a)), some (.int (nI c)), some (.int (nI (2 ^ a))), some (.int 1), none, none, none] rfl ?_
  have lp7 : ∀ (d : Nat) (k t : Nat), nb - k < d → (k ≤ nb) → (msk (wlk E nb k a) t) → (∀ j : Nat, 1 ≤ j → j ≤ k → ¬ wlk E nb j a c) → X Θ 0 0 n Ty I L F 7 [some (.ref (xb G + 0)), some (.int (nI a)), some (.int (nI c)), some (.int (nI t)), some (.int (nI (k + 1))), none, none, none] [] := by
    intro d
    induction d with
    | zero =>
      intro k t hlt
      exact absurd hlt (Nat.not_lt_zero _)
    | succ d ih =>
      intro k t hlt hk ht hnw
      refine x_iload h dX0_stepsTo_7 rfl ?_
      refine x_aload_n h dX0_stepsTo_9 rfl ?_
      refine x_geti h g_X0_1 (mlt hC.1 rfl) (hC.2.1 _ _ rfl) rfl dX0_stepsTo_10 ?_
      refine x_eqi (nI nb) hn ?_
      refine x_icmp_gt h 107 dX0_stepsTo_13 rfl (fun c13 => ?_) (fun c13 => ?_)
      · skip
        have hkn : k = nb := by have := (nI_ltI (a := nb) (b := k + 1) (by omega) (by omega)).mp c13; omega
        refine x_aload_n h dX0_stepsTo_107 rfl ?_
        refine x_geti h g_X0_1 (mlt hC.1 rfl) (hC.2.1 _ _ rfl) rfl dX0_stepsTo_108 ?_
        refine x_eqi (nI nb) hn ?_
        refine x_iconst h dX0_stepsTo_111 (1) rfl ?_
        refine x_iaddE h (nI (nb + 1)) (nI_add nb 1) dX0_stepsTo_112 ?_
        exact x_iret h dX0_stepsTo_113 rfl ⟨rfl, rfl, rfl, rfl, _, rfl, rfl, nb + 1, rfl, by omega, by omega, fun z => absurd z (by omega), fun j j1 j2 => hnw j j1 (by omega)⟩
      · skip
        have hkn : k + 1 ≤ nb := (nI_leI (by omega) (by omega)).mp (Int32.not_lt.mp c13)
        refine x_iconst h dX0_stepsTo_16 (0) rfl ?_
        refine x_istore h dX0_stepsTo_17 (by decide) [some (.ref (xb G + 0)), some (.int (nI a)), some (.int (nI c)), some (.int (nI t)), some (.int (nI (k + 1))), some (.int 0), none, none] rfl ?_
        refine x_iconst h dX0_stepsTo_19 (0) rfl ?_
        refine x_istore h dX0_stepsTo_20 (by decide) [some (.ref (xb G + 0)), some (.int (nI a)), some (.int (nI c)), some (.int (nI t)), some (.int (nI (k + 1))), some (.int 0), some (.int 0), none] rfl ?_
        have ih0 := ih
        have hlt0 := hlt
        have lp22 : ∀ (d : Nat) (p u : Nat), nb - p < d → (p ≤ nb) → (msk (fun b => ∃ q : Nat, q < p ∧ wlk E nb k a q ∧ E q b ∧ b < nb) u) → X Θ 0 0 n Ty I L F 22 [some (.ref (xb G + 0)), some (.int (nI a)), some (.int (nI c)), some (.int (nI t)), some (.int (nI (k + 1))), some (.int (nI u)), some (.int (nI p)), none] [] := by
          intro d
          induction d with
          | zero =>
            intro p u hlt
            exact absurd hlt (Nat.not_lt_zero _)
          | succ d ih =>
            intro p u hlt hp hu
            refine x_iload h dX0_stepsTo_22 rfl ?_
            refine x_aload_n h dX0_stepsTo_24 rfl ?_
            refine x_geti h g_X0_1 (mlt hC.1 rfl) (hC.2.1 _ _ rfl) rfl dX0_stepsTo_25 ?_
            refine x_eqi (nI nb) hn ?_
            refine x_icmp_ge h 86 dX0_stepsTo_28 rfl (fun c28 => ?_) (fun c28 => ?_)
            · skip
              have hpn : p = nb := by have := (nI_leI (a := nb) (b := p) (by omega) (by omega)).mp c28; omega
              have hu1 : msk (wlk E nb (k + 1) a) u := hu.mv fun b hb => ⟨fun ⟨q, hq, w, e, l⟩ => ⟨q, by omega, w, e, l⟩, fun ⟨q, hq, w, e, l⟩ => ⟨q, by omega, w, e, l⟩⟩
              refine x_iload h dX0_stepsTo_86 rfl ?_
              refine x_iload_n h dX0_stepsTo_88 rfl ?_
              refine x_callSEi h (As := [.int _, .int _]) (k0_has l G n _ _ hC _ _ _ _ ) m_X0_325 dX0_stepsTo_89 ⟨by decide, by decide⟩ ⟨by decide, by decide⟩ rfl (Nat.le_of_ble_eq_true rfl) ?_
              refine x_if_eq h 98 dX0_stepsTo_92 rfl (fun c92 => ?_) (fun c92 => ?_)
              · skip
                refine x_iload h dX0_stepsTo_98 rfl ?_
                refine x_istore_n h dX0_stepsTo_100 rfl (by decide) [some (.ref (xb G + 0)), some (.int (nI a)), some (.int (nI c)), some (.int (nI u)), some (.int (nI (k + 1))), some (.int (nI u)), some (.int (nI p)), none] rfl ?_
                refine x_iinc h dX0_stepsTo_101 (by decide) rfl (nI (k + 1 + 1)) (nI_1 (k + 1)) [some (.ref (xb G + 0)), some (.int (nI a)), some (.int (nI c)), some (.int (nI u)), some (.int (nI (k + 1 + 1))), some (.int (nI u)), some (.int (nI p)), none] rfl ?_
                refine x_goto h 7 dX0_stepsTo_104 rfl ?_
                refine x_wk (lv := [some (.ref (xb G + 0)), some (.int (nI a)), some (.int (nI c)), some (.int (nI u)), some (.int (nI (k + 1 + 1))), none, none, none]) ?_ ⟨rfl, rfl, rfl, rfl, rfl, trivial⟩
                exact ih0 (k + 1) u (by omega) (by omega) hu1 (fun j j1 j2 w => by by_cases e : j = k + 1; exact (hu1.has (by omega)).mp c92 (e ▸ w); exact hnw j j1 (by omega) w)
              · skip
                refine x_iload h dX0_stepsTo_95 rfl ?_
                exact x_iret h dX0_stepsTo_97 rfl ⟨rfl, rfl, rfl, rfl, _, rfl, rfl, k + 1, rfl, by omega, by omega, fun _ => Classical.not_not.mp fun z => c92 ((hu1.has (by omega)).mpr z), fun j j1 j2 => hnw j j1 (by omega)⟩
            · skip
              have hpn : p < nb := Nat.lt_of_not_le fun z => c28 ((nI_leI (by omega) (by omega)).mpr z)
              refine x_iconst h dX0_stepsTo_31 (0) rfl ?_
              refine x_istore h dX0_stepsTo_32 (by decide) [some (.ref (xb G + 0)), some (.int (nI a)), some (.int (nI c)), some (.int (nI t)), some (.int (nI (k + 1))), some (.int (nI u)), some (.int (nI p)), some (.int 0)] rfl ?_
              have ih1 := ih
              have hlt1 := hlt
              have hpa := paid_at hC p (by omega)
              have lp34 : ∀ (d : Nat) (q2 x : Nat), nb - q2 < d → (q2 ≤ nb) → (msk (fun b => (∃ q : Nat, q < p ∧ wlk E nb k a q ∧ E q b ∧ b < nb) ∨ (wlk E nb k a p ∧ E p b ∧ b < q2 ∧ b < nb)) x) → X Θ 0 0 n Ty I L F 34 [some (.ref (xb G + 0)), some (.int (nI a)), some (.int (nI c)), some (.int (nI t)), some (.int (nI (k + 1))), some (.int (nI x)), some (.int (nI p)), some (.int (nI q2))] [] := by
                intro d
                induction d with
                | zero =>
                  intro q2 x hlt
                  exact absurd hlt (Nat.not_lt_zero _)
                | succ d ih =>
                  intro q2 x hlt hq2 hx
                  refine x_iload_n h dX0_stepsTo_34 rfl ?_
                  refine x_iload h dX0_stepsTo_35 rfl ?_
                  refine x_callSEi h (As := [.int _, .int _]) (k0_has l G n _ _ hC _ _ _ _ ) m_X0_325 dX0_stepsTo_37 ⟨by decide, by decide⟩ ⟨by decide, by decide⟩ rfl (Nat.le_of_ble_eq_true rfl) ?_
                  refine x_if_eq h 80 dX0_stepsTo_40 rfl (fun c40 => ?_) (fun c40 => ?_)
                  · skip
                    have hnp : ¬ wlk E nb k a p := (ht.has (by omega)).mp c40
                    have hx3 := (hx.mv (Q := fun b => ∃ q : Nat, q < p + 1 ∧ wlk E nb k a q ∧ E q b ∧ b < nb) fun b hb => ⟨fun ⟨q, hq, w, e, l⟩ => by by_cases z : q = p; exact absurd (z ▸ w) hnp; exact Or.inl ⟨q, by omega, w, e, l⟩, fun z => z.elim (fun ⟨q, hq, w, e, l⟩ => ⟨q, by omega, w, e, l⟩) fun y => absurd y.1 hnp⟩)
                    refine x_iinc h dX0_stepsTo_80 (by decide) rfl (nI (p + 1)) (nI_1 p) [some (.ref (xb G + 0)), some (.int (nI a)), some (.int (nI c)), some (.int (nI t)), some (.int (nI (k + 1))), some (.int (nI x)), some (.int (nI (p + 1))), some (.int (nI q2))] rfl ?_
                    refine x_goto h 22 dX0_stepsTo_83 rfl ?_
                    refine x_wk (lv := [some (.ref (xb G + 0)), some (.int (nI a)), some (.int (nI c)), some (.int (nI t)), some (.int (nI (k + 1))), some (.int (nI x)), some (.int (nI (p + 1))), none]) ?_ ⟨rfl, rfl, rfl, rfl, rfl, rfl, rfl, trivial⟩
                    exact ih1 (p + 1) x (by omega) (by omega) hx3
                  · skip
                    have hpw : wlk E nb k a p := Classical.not_not.mp fun z => c40 ((ht.has (by omega)).mpr z)
                    refine x_iload h dX0_stepsTo_43 rfl ?_
                    refine x_aload_n h dX0_stepsTo_45 rfl ?_
                    refine x_geti h g_X0_1 (mlt hC.1 rfl) (hC.2.1 _ _ rfl) rfl dX0_stepsTo_46 ?_
                    refine x_eqi (nI nb) hn ?_
                    refine x_icmp_ge h 80 dX0_stepsTo_49 rfl (fun c49 => ?_) (fun c49 => ?_)
                    · skip
                      have hqn : q2 = nb := by have := (nI_leI (a := nb) (b := q2) (by omega) (by omega)).mp c49; omega
                      have hx3 := (hx.mv (Q := fun b => ∃ q : Nat, q < p + 1 ∧ wlk E nb k a q ∧ E q b ∧ b < nb) fun b hb => ⟨fun ⟨q, hq, w, e, l⟩ => by by_cases z : q = p; exact Or.inr ⟨z ▸ w, z ▸ e, by omega, l⟩; exact Or.inl ⟨q, by omega, w, e, l⟩, fun z => z.elim (fun ⟨q, hq, w, e, l⟩ => ⟨q, by omega, w, e, l⟩) fun y => ⟨p, by omega, y.1, y.2.1, y.2.2.2⟩⟩)
                      refine x_iinc h dX0_stepsTo_80 (by decide) rfl (nI (p + 1)) (nI_1 p) [some (.ref (xb G + 0)), some (.int (nI a)), some (.int (nI c)), some (.int (nI t)), some (.int (nI (k + 1))), some (.int (nI x)), some (.int (nI (p + 1))), some (.int (nI q2))] rfl ?_
                      refine x_goto h 22 dX0_stepsTo_83 rfl ?_
                      refine x_wk (lv := [some (.ref (xb G + 0)), some (.int (nI a)), some (.int (nI c)), some (.int (nI t)), some (.int (nI (k + 1))), some (.int (nI x)), some (.int (nI (p + 1))), none]) ?_ ⟨rfl, rfl, rfl, rfl, rfl, rfl, rfl, trivial⟩
                      exact ih1 (p + 1) x (by omega) (by omega) hx3
                    · skip
                      have hqn : q2 < nb := Nat.lt_of_not_le fun z => c49 ((nI_leI (by omega) (by omega)).mpr z)
                      refine x_aload_n h dX0_stepsTo_52 rfl ?_
                      refine x_getr h (j := 13) g_X0_180 (mlt hC.1 rfl) (hC.2.1 _ _ rfl) (by decide) (hC.2.2 _ _ _ rfl) dX0_stepsTo_53 ?_
                      refine x_iload h dX0_stepsTo_56 rfl ?_
                      refine x_aaldr h (q := 14 + p) (mlt hC.1 rfl) (hC.2.1 _ _ rfl) (by decide) rfl rfl (vp_in_nI (show p < 8 by omega) (by decide)) (p) (nI_clamp (by omega)) hpa.1 dX0_stepsTo_58 ?_
                      refine x_iload h dX0_stepsTo_59 rfl ?_
                      refine x_iald h (Nat.lt_of_lt_of_le (show 14 + p < 103 by omega) hC.1) hpa.2 (vp_in_nI (show q2 < 8 by omega) (by decide)) (q2) (nI_clamp (by omega)) dX0_stepsTo_61 ?_
                      refine x_if_le h 74 dX0_stepsTo_62 rfl (fun c62 => ?_) (fun c62 => ?_)
                      · skip
                        have hne : ¬ E p q2 := fun z => (hE p q2 (by omega) (by omega)).mp z c62
                        have hx2 : msk (fun b => (∃ q : Nat, q < p ∧ wlk E nb k a q ∧ E q b ∧ b < nb) ∨ (wlk E nb k a p ∧ E p b ∧ b < q2 + 1 ∧ b < nb)) x := hx.mv fun b hb => ⟨fun z => z.elim Or.inl fun y => by by_cases e : b = q2; exact absurd (e ▸ y.2.1) hne; exact Or.inr ⟨y.1, y.2.1, by omega, y.2.2.2⟩, fun z => z.elim Or.inl fun y => Or.inr ⟨y.1, y.2.1, by omega, y.2.2.2⟩⟩
                        refine x_iinc h dX0_stepsTo_74 (by decide) rfl (nI (q2 + 1)) (nI_1 q2) [some (.ref (xb G + 0)), some (.int (nI a)), some (.int (nI c)), some (.int (nI t)), some (.int (nI (k + 1))), some (.int (nI x)), some (.int (nI p)), some (.int (nI (q2 + 1)))] rfl ?_
                        refine x_goto h 34 dX0_stepsTo_77 rfl ?_
                        exact ih (q2 + 1) ((x)) (by omega) (by omega) hx2
                      · skip
                        have hpe : E p q2 := (hE p q2 (by omega) (by omega)).mpr c62
                        obtain ⟨eor, hx2⟩ := hx.or (Q := fun b => (∃ q : Nat, q < p ∧ wlk E nb k a q ∧ E q b ∧ b < nb) ∨ (wlk E nb k a p ∧ E p b ∧ b < q2 + 1 ∧ b < nb)) (b := q2) (by omega) (fun b hb => ⟨fun z => z.elim (fun y => Or.inl (Or.inl y)) fun y => by by_cases e : b = q2; exact Or.inr e.symm; exact Or.inl (Or.inr ⟨y.1, y.2.1, by omega, y.2.2.2⟩), fun z => z.elim (fun y => y.elim Or.inl fun y => Or.inr ⟨y.1, y.2.1, by omega, y.2.2.2⟩) fun e => Or.inr ⟨hpw, e ▸ hpe, by omega, by omega⟩⟩)
                        refine x_iload h dX0_stepsTo_65 rfl ?_
                        refine x_iconst h dX0_stepsTo_67 (1) rfl ?_
                        refine x_iload h dX0_stepsTo_68 rfl ?_
                        refine x_ishl h dX0_stepsTo_70 ?_
                        refine x_ior h dX0_stepsTo_71 ?_
                        refine x_eqi (nI (x ||| 2 ^ q2)) eor ?_
                        refine x_istore h dX0_stepsTo_72 (by decide) [some (.ref (xb G + 0)), some (.int (nI a)), some (.int (nI c)), some (.int (nI t)), some (.int (nI (k + 1))), some (.int (nI (x ||| 2 ^ q2))), some (.int (nI p)), some (.int (nI q2))] rfl ?_
                        refine x_iinc h dX0_stepsTo_74 (by decide) rfl (nI (q2 + 1)) (nI_1 q2) [some (.ref (xb G + 0)), some (.int (nI a)), some (.int (nI c)), some (.int (nI t)), some (.int (nI (k + 1))), some (.int (nI (x ||| 2 ^ q2))), some (.int (nI p)), some (.int (nI (q2 + 1)))] rfl ?_
                        refine x_goto h 34 dX0_stepsTo_77 rfl ?_
                        exact ih (q2 + 1) ((x ||| 2 ^ q2)) (by omega) (by omega) hx2
              exact lp34 (nb + 1) 0 u (by omega) (by omega) (hu.mv fun b hb => ⟨fun z => z.elim id fun y => absurd y.2.2.1 (Nat.not_lt_zero _), Or.inl⟩)
        exact lp22 (nb + 1) 0 0 (by omega) (by omega) ⟨by decide, fun b hb => ⟨fun z => by rw [Nat.zero_testBit] at z; exact absurd z (by decide), fun z => by obtain ⟨q, hq, _⟩ := z; exact absurd hq (Nat.not_lt_zero _)⟩⟩
  exact lp7 (nb + 1) 0 (2 ^ a) (by omega) (by omega) ⟨(bst (show a < 8 by omega)).2, fun b hb => by rw [Nat.testBit_two_pow, decide_eq_true_iff]; exact Iff.rfl⟩ (fun j j1 j2 => absurd j1 (by omega))
set_option maxHeartbeats 4000000 in
theorem k0_smallestRing (l : Launch) (G : xG_T) (n : Nat) (Ty : Nat → xs_T) (F : xF_T) (hC : WC n Ty F) (I : xI_T) (L : xL_T) (E : Nat → Nat → Prop) (nb : Nat) (hn : I 0 1 = nI nb) (hnb : nb ≤ 8) (hE : ∀ p q : Nat, p < 8 → q < 8 → (E p q ↔ ¬ I (14 + p) q ≤ 0)) : CR l (6) yX0_smallestRing cX0_smallestRing 3 (some .int) G n Ty F [.ref (xb G + 0)] I L (aR (fun r I2 => I2 = I ∧ ringS E nb r)) := by
  refine Cg.intro (cls := RX0) (pad := 2) (lv := [some (.ref (xb G + 0)), none, none]) rfl (by decide) (Nat.le_of_ble_eq_true rfl) rfl (fun Θ h => ?_)
  refine x_aload_n h dX0_smallestRing_0 rfl ?_
  refine x_geti h g_X0_1 (mlt hC.1 rfl) (hC.2.1 _ _ rfl) rfl dX0_smallestRing_1 ?_
  refine x_eqi (nI nb) hn ?_
  refine x_iconst h dX0_smallestRing_4 (1) rfl ?_
  refine x_iaddE h (nI (nb + 1)) (nI_add nb 1) dX0_smallestRing_5 ?_
  refine x_istore_n h dX0_smallestRing_6 rfl (by decide) [some (.ref (xb G + 0)), some (.int (nI (nb + 1))), none] rfl ?_
  refine x_iconst h dX0_smallestRing_7 (0) rfl ?_
  refine x_istore_n h dX0_smallestRing_8 rfl (by decide) [some (.ref (xb G + 0)), some (.int (nI (nb + 1))), some (.int 0)] rfl ?_
  have lp9 : ∀ (d : Nat) (k m : Nat) (A : xI_T), nb - k < d → (k ≤ nb) → (1 ≤ m ∧ m ≤ nb + 1) → (m ≤ nb → ∃ a : Nat, a < nb ∧ wlk E nb m a a) → (∀ a j : Nat, a < k → 1 ≤ j → j < m → ¬ wlk E nb j a a) → (A = I) → X Θ 0 0 n Ty A L F 9 [some (.ref (xb G + 0)), some (.int (nI m)), some (.int (nI k))] [] := by
    intro d
    induction d with
    | zero =>
      intro k m A hlt
      exact absurd hlt (Nat.not_lt_zero _)
    | succ d ih =>
      intro k m A hlt hk hm1 hm2 hm3 hA
      have hnA : A 0 1 = nI nb := by rw [hA]; exact hn
      refine x_iload_n h dX0_smallestRing_9 rfl ?_
      refine x_aload_n h dX0_smallestRing_10 rfl ?_
      refine x_geti h g_X0_1 (mlt hC.1 rfl) (hC.2.1 _ _ rfl) rfl dX0_smallestRing_11 ?_
      refine x_eqi (nI nb) hnA ?_
      refine x_icmp_ge h 34 dX0_smallestRing_14 rfl (fun c14 => ?_) (fun c14 => ?_)
      · skip
        have hkn : k = nb := by have := (nI_leI (a := nb) (b := k) (by omega) (by omega)).mp c14; omega
        refine x_iload_n h dX0_smallestRing_34 rfl ?_
        refine x_aload_n h dX0_smallestRing_35 rfl ?_
        refine x_geti h g_X0_1 (mlt hC.1 rfl) (hC.2.1 _ _ rfl) rfl dX0_smallestRing_36 ?_
        refine x_eqi (nI nb) hnA ?_
        refine x_icmp_le h 47 dX0_smallestRing_39 rfl (fun c39 => ?_) (fun c39 => ?_)
        · skip
          have hmn : m ≤ nb := (nI_leI (by omega) (by omega)).mp c39
          refine x_iload_n h dX0_smallestRing_47 rfl ?_
          exact x_iret h dX0_smallestRing_48 rfl ⟨rfl, rfl, rfl, rfl, _, rfl, hA, by first | exact Or.inl ⟨rfl, fun a j ha h1 h2 => hm3 a j (by omega) h1 (by omega)⟩ | exact Or.inr ⟨m, rfl, hm1.1, hmn, hm2 hmn, fun a j ha h1 h2 => hm3 a j (by omega) h1 h2⟩⟩
        · skip
          have hmn : nb < m := Nat.lt_of_not_le fun z => c39 ((nI_leI (by omega) (by omega)).mpr z)
          refine x_bipush h dX0_smallestRing_42 (-2) rfl ?_
          refine x_goto h 48 dX0_smallestRing_44 rfl ?_
          exact x_iret h dX0_smallestRing_48 rfl ⟨rfl, rfl, rfl, rfl, _, rfl, hA, by first | exact Or.inl ⟨rfl, fun a j ha h1 h2 => hm3 a j (by omega) h1 (by omega)⟩ | exact Or.inr ⟨m, rfl, hm1.1, hmn, hm2 hmn, fun a j ha h1 h2 => hm3 a j (by omega) h1 h2⟩⟩
      · skip
        have hkn : k < nb := Nat.lt_of_not_le fun z => c14 ((nI_leI (by omega) (by omega)).mpr z)
        refine x_iload_n h dX0_smallestRing_17 rfl ?_
        refine x_aload_n h dX0_smallestRing_18 rfl ?_
        refine x_iload_n h dX0_smallestRing_19 rfl ?_
        refine x_iload_n h dX0_smallestRing_20 rfl ?_
        refine x_callVRi h (As := [.int _, .int _]) (k0_stepsTo l G n _ _ hC _ _ E nb k k hnA hnb hkn hkn (by rw [hA]; exact hE)) m_X0_339 (mlt hC.1 rfl) (hC.2.1 _ _ rfl) dX0_smallestRing_21 ⟨by decide, by decide⟩ ⟨by decide, by decide⟩ rfl (Nat.le_of_ble_eq_true rfl) (fun v21 J21 hp21 => ?_)
        obtain ⟨hI21, m2, em2, y21, z21, w21, x21⟩ := hp21
        refine x_mmin h q903 (by decide) ⟨by decide, by decide⟩ (Nat.le_of_ble_eq_true rfl) dX0_smallestRing_24 ?_
        refine x_eqi (nI (min m m2)) (by rw [em2]; exact jmin_n (by omega) (by omega)) ?_
        refine x_istore_n h dX0_smallestRing_27 rfl (by decide) [some (.ref (xb G + 0)), some (.int (nI (min m m2))), some (.int (nI k))] rfl ?_
        refine x_iinc h dX0_smallestRing_28 (by decide) rfl (nI (k + 1)) (nI_1 k) [some (.ref (xb G + 0)), some (.int (nI (min m m2))), some (.int (nI (k + 1)))] rfl ?_
        refine x_goto h 9 dX0_smallestRing_31 rfl ?_
        exact ih (k + 1) (min m m2) J21 (by clear hm2 hm3 w21 x21; omega) (by clear hm2 hm3 w21 x21; omega) (by clear hm2 hm3 w21 x21; omega) (fun z => by rcases Nat.le_total m m2 with y | y; rw [Nat.min_eq_left y] at z ⊢; exact hm2 z; rw [Nat.min_eq_right y] at z ⊢; exact ⟨k, hkn, w21 z⟩) (fun a j h1 h2 h3 => by by_cases e : a = k; exact e ▸ x21 j h2 (by omega); exact hm3 a j (by omega) h2 (by omega)) (hI21.trans hA)
  exact lp9 (nb + 1) 0 (nb + 1) I (by omega) (by omega) (by omega) (fun z => absurd z (by omega)) (fun a j h => absurd h (Nat.not_lt_zero _)) rfl
set_option maxHeartbeats 4000000 in
theorem k0_gainsMost (l : Launch) (G : xG_T) (n : Nat) (Ty : Nat → xs_T) (F : xF_T) (hC : WC n Ty F) (I : xI_T) (L : xL_T) (K : xI_T) (nb : Nat) (hn : I 0 1 = nI nb) (hnb : nb ≤ 8) (hP : ∀ b : Nat, b < nb → I 35 b = K 72 b) (hB : ∀ b : Nat, b < nb → ∃ q : Nat, F 1 b = some q ∧ q < n ∧ Ty q = some (.inl 4) ∧ I q 0 = K 93 b) : CR l (3) yX0_gainsMost cX0_gainsMost 4 (some .int) G n Ty F [.ref (xb G + 0), .ref (xb G + 34)] I L (aR (fun r I2 => I2 = I ∧ r = if nb = 0 then -2 else m_gain K (nb - 1))) := by
  refine Cg.intro (cls := RX0) (pad := 2) (lv := [some (.ref (xb G + 0)), some (.ref (xb G + 34)), none, none]) rfl (by decide) (Nat.le_of_ble_eq_true rfl) rfl (fun Θ h => ?_)
  have hg := hC.mk (Or.inr (Or.inr (Or.inl rfl)))
  refine x_bipush h dX0_gainsMost_0 (-2) rfl ?_
  refine x_istore_n h dX0_gainsMost_2 rfl (by decide) [some (.ref (xb G + 0)), some (.ref (xb G + 34)), some (.int (-2)), none] rfl ?_
  refine x_iconst h dX0_gainsMost_3 (0) rfl ?_
  refine x_istore_n h dX0_gainsMost_4 rfl (by decide) [some (.ref (xb G + 0)), some (.ref (xb G + 34)), some (.int (-2)), some (.int 0)] rfl ?_
  have lp5 : ∀ (d : Nat) (k : Nat) (x : Int32), nb - k < d → (k ≤ nb) → (k = 0 ∧ x = -2 ∨ ∃ k2 f : Nat, k = k2 + 1 ∧ x = nI f ∧ f ≤ k2 ∧ nI f = m_gain K k2) → X Θ 0 0 n Ty I L F 5 [some (.ref (xb G + 0)), some (.ref (xb G + 34)), some (.int x), some (.int (nI k))] [] := by
    intro d
    induction d with
    | zero =>
      intro k x hlt
      exact absurd hlt (Nat.not_lt_zero _)
    | succ d ih =>
      intro k x hlt hk hx
      refine x_iload_n h dX0_gainsMost_5 rfl ?_
      refine x_aload_n h dX0_gainsMost_6 rfl ?_
      refine x_geti h g_X0_1 (mlt hC.1 rfl) (hC.2.1 _ _ rfl) rfl dX0_gainsMost_7 ?_
      refine x_eqi (nI nb) hn ?_
      refine x_icmp_ge h 60 dX0_gainsMost_10 rfl (fun c10 => ?_) (fun c10 => ?_)
      · skip
        have hkn : k = nb := by have := (nI_leI (a := nb) (b := k) (by omega) (by omega)).mp c10; omega
        refine x_iload_n h dX0_gainsMost_60 rfl ?_
        exact x_iret h dX0_gainsMost_61 rfl ⟨rfl, rfl, rfl, rfl, _, rfl, rfl, by rcases hx with y | ⟨k2, f, y1, y2, y3, y4⟩; rw [if_pos (by omega)]; exact y.2; rw [if_neg (by omega), show nb - 1 = k2 by omega, ← y4]; exact y2⟩
      · skip
        have hkn : k < nb := Nat.lt_of_not_le fun z => c10 ((nI_leI (by omega) (by omega)).mpr z)
        obtain ⟨q, hq, hqn, hqT, hq0⟩ := hB k hkn
        refine x_iload_n h dX0_gainsMost_13 rfl ?_
        refine x_if_lt h 52 dX0_gainsMost_14 rfl (fun c14 => ?_) (fun c14 => ?_)
        · skip
          have hk0 : k = 0 := by rcases hx with y | ⟨k2, f, y1, y2, y3, y4⟩; exact y.1; exact absurd c14 (by rw [y2]; exact nI_pos (by omega))
          have hx2 : k + 1 = 0 ∧ nI k = -2 ∨ ∃ k2 f : Nat, k + 1 = k2 + 1 ∧ nI k = nI f ∧ f ≤ k2 ∧ nI f = m_gain K k2 := Or.inr ⟨0, 0, by rw [hk0], by rw [hk0], Nat.le_refl _, rfl⟩
          refine x_iload_n h dX0_gainsMost_52 rfl ?_
          refine x_istore_n h dX0_gainsMost_53 rfl (by decide) [some (.ref (xb G + 0)), some (.ref (xb G + 34)), some (.int (nI k)), some (.int (nI k))] rfl ?_
          refine x_iinc h dX0_gainsMost_54 (by decide) rfl (nI (k + 1)) (nI_1 k) [some (.ref (xb G + 0)), some (.ref (xb G + 34)), some (.int (nI k)), some (.int (nI (k + 1)))] rfl ?_
          refine x_goto h 5 dX0_gainsMost_57 rfl ?_
          exact ih (k + 1) (((nI k))) (by omega) (by omega) hx2
        · skip
          obtain ⟨k2, f, ek2, rfl, hf2, hfg⟩ : ∃ k2 f : Nat, k = k2 + 1 ∧ x = nI f ∧ f ≤ k2 ∧ nI f = m_gain K k2 := hx.resolve_left fun y => c14 (by rw [y.2]; decide)
          obtain ⟨q9, hq9, hqn9, hqT9, hq09⟩ := hB f (by omega)
          refine x_aload_n h dX0_gainsMost_17 rfl ?_
          refine x_getrN h (j := 35) g_X0_207 hg.l0 hg.1.2 (by decide) (hC.2.2 _ _ _ rfl) dX0_gainsMost_18 ?_
          refine x_iload_n h dX0_gainsMost_21 rfl ?_
          refine x_iald h (mlt hC.1 rfl) (hC.2.1 _ _ rfl) (vp_in_nI (show k < 8 by omega) (by decide)) (k) (nI_clamp (by omega)) dX0_gainsMost_22 ?_
          refine x_aload_n h dX0_gainsMost_23 rfl ?_
          refine x_getr h (j := 1) g_X0_15 (mlt hC.1 rfl) (hC.2.1 _ _ rfl) (by decide) (hC.2.2 _ _ _ rfl) dX0_gainsMost_24 ?_
          refine x_iload_n h dX0_gainsMost_27 rfl ?_
          refine x_aaldr h (q := q) (mlt hC.1 rfl) (hC.2.1 _ _ rfl) (by decide) rfl rfl (vp_in_nI (show k < 8 by omega) (by decide)) (k) (nI_clamp (by omega)) hq dX0_gainsMost_28 ?_
          refine x_getiN h g_X0_42 hqn hqT rfl dX0_gainsMost_29 ?_
          refine x_isub h dX0_gainsMost_32 ?_
          refine x_aload_n h dX0_gainsMost_33 rfl ?_
          refine x_getrN h (j := 35) g_X0_207 hg.l0 hg.1.2 (by decide) (hC.2.2 _ _ _ rfl) dX0_gainsMost_34 ?_
          refine x_iload_n h dX0_gainsMost_37 rfl ?_
          refine x_iald h (mlt hC.1 rfl) (hC.2.1 _ _ rfl) (vp_in_nI (show f < 8 by omega) (by decide)) (f) (nI_clamp (by omega)) dX0_gainsMost_38 ?_
          refine x_aload_n h dX0_gainsMost_39 rfl ?_
          refine x_getr h (j := 1) g_X0_15 (mlt hC.1 rfl) (hC.2.1 _ _ rfl) (by decide) (hC.2.2 _ _ _ rfl) dX0_gainsMost_40 ?_
          refine x_iload_n h dX0_gainsMost_43 rfl ?_
          refine x_aaldr h (q := q9) (mlt hC.1 rfl) (hC.2.1 _ _ rfl) (by decide) rfl rfl (vp_in_nI (show f < 8 by omega) (by decide)) (f) (nI_clamp (by omega)) hq9 dX0_gainsMost_44 ?_
          refine x_getiN h g_X0_42 hqn9 hqT9 rfl dX0_gainsMost_45 ?_
          refine x_isub h dX0_gainsMost_48 ?_
          refine x_icmp_le h 54 dX0_gainsMost_49 rfl (fun c49 => ?_) (fun c49 => ?_)
          · skip
            have g49 : K 72 (k2 + 1) - K 93 (k2 + 1) ≤ K 72 f - K 93 f := by rw [← hP (k2 + 1) (by omega), ← hP f (by omega), ← hq09, ← ek2, ← hq0]; exact c49
            have hx2 : k + 1 = 0 ∧ nI f = -2 ∨ ∃ k2 f2 : Nat, k + 1 = k2 + 1 ∧ nI f = nI f2 ∧ f2 ≤ k2 ∧ nI f2 = m_gain K k2 := Or.inr ⟨k, f, rfl, rfl, by omega, by rw [ek2]; exact gain_a hfg (by omega) g49⟩
            refine x_iinc h dX0_gainsMost_54 (by decide) rfl (nI (k + 1)) (nI_1 k) [some (.ref (xb G + 0)), some (.ref (xb G + 34)), some (.int (nI f)), some (.int (nI (k + 1)))] rfl ?_
            refine x_goto h 5 dX0_gainsMost_57 rfl ?_
            exact ih (k + 1) (((nI f))) (by omega) (by omega) hx2
          · skip
            have g49 : ¬ K 72 (k2 + 1) - K 93 (k2 + 1) ≤ K 72 f - K 93 f := by rw [← hP (k2 + 1) (by omega), ← hP f (by omega), ← hq09, ← ek2, ← hq0]; exact c49
            have hx2 : k + 1 = 0 ∧ nI k = -2 ∨ ∃ k2 f2 : Nat, k + 1 = k2 + 1 ∧ nI k = nI f2 ∧ f2 ≤ k2 ∧ nI f2 = m_gain K k2 := Or.inr ⟨k, k, rfl, rfl, Nat.le_refl _, by rw [ek2]; exact gain_b hfg (by omega) g49⟩
            refine x_iload_n h dX0_gainsMost_52 rfl ?_
            refine x_istore_n h dX0_gainsMost_53 rfl (by decide) [some (.ref (xb G + 0)), some (.ref (xb G + 34)), some (.int (nI k)), some (.int (nI k))] rfl ?_
            refine x_iinc h dX0_gainsMost_54 (by decide) rfl (nI (k + 1)) (nI_1 k) [some (.ref (xb G + 0)), some (.ref (xb G + 34)), some (.int (nI k)), some (.int (nI (k + 1)))] rfl ?_
            refine x_goto h 5 dX0_gainsMost_57 rfl ?_
            exact ih (k + 1) (((nI k))) (by omega) (by omega) hx2
  exact lp5 (nb + 1) 0 (-2) (by omega) (by omega) (Or.inl ⟨rfl, rfl⟩)
