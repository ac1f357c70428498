/-! WHO OWES, who paid: buyers that are there alone; a gain -/
def OW (J : xI_T) : Prop := ∀ k : Nat, k < ix (J 72 18) → ∃ w : Nat, w < ix (J 70 0) ∧ J 72 (19 + k) = nI w
def FZ (J : xI_T) : Prop := ∀ a b : Nat, a < 8 → b < 8 → ¬ (a < ix (J 70 0) ∧ b < ix (J 70 0)) → J 95 (8 * a + b) = 0
def wit (J : xI_T) : xI_T := fun q k => if q = 35 then J 72 k else if q = 36 then J 71 k else if q = 37 then J 72 (10 + k) else if q = 38 then J 72 (19 + k) else if q = 39 then J 72 (25 + k) else if q = 34 then (if k = 5 then J 72 18 else if k = 6 then J 72 9 else if k = 7 then J 70 2 else if k = 8 then J 72 8 else J 70 43) else if q = 0 then (if k = 15 then J 70 40 else if k = 16 then J 70 41 else J 70 42) else 0
theorem wit_R {J : xI_T} (h : OW J) : RC (wit J) J 34 ∧ RQ (wit J) J :=
  ⟨⟨fun _ _ => ⟨rfl, rfl, rfl⟩, ⟨rfl, fun k hk => ⟨rfl, rfl, h k hk⟩⟩, rfl, rfl, rfl, rfl⟩, rfl, rfl, rfl⟩
theorem RC.ow {I J : xI_T} {g : Nat} (h : RC I J g) : OW J := fun k hk => (h.2.1.2 k hk).2.2
theorem OW.mv {J J' : xI_T} (h : OW J) (h0 : J' 70 0 = J 70 0) (h7 : ∀ k : Nat, 18 ≤ k → k < 25 → J' 72 k = J 72 k) (h5 : ix (J 72 18) ≤ 6) : OW J' := fun k hk => by
  rw [h7 18 (by decide) (by decide)] at hk
  rw [h7 (19 + k) (by omega) (by omega), h0]
  exact h k hk
theorem FZ.mv {J J' : xI_T} (h : FZ J) (h0 : J' 70 0 = J 70 0) (h9 : ∀ k : Nat, k < 64 → J' 95 k = J 95 k) : FZ J' := fun a b ha hb hn => by
  rw [h0] at hn
  rw [h9 _ (by omega)]
  exact h a b ha hb hn
theorem payTo_95 {I : xI_T} {w x q : Nat} {m : Int32} (hw : w < 8) (hx : x < 8) (h : q ≠ 8 * w + x) : m_payTo I (nI w) m (nI x) 95 q = I 95 q := by
  have e8 : ix (8 * nI w + nI x) = 8 * w + x := by
    rw [show (8 : Int32) * nI w = nI (8 * w) from pk_mul 8 w, nI_add]
    exact ix_n (by omega)
  simp only [m_payTo, e8]
  rw [up2_i _ _ (by decide), up2_i _ _ (by decide), up2_k _ _ h, up2_i _ _ (by decide), up2_i _ _ (by decide)]
theorem pays_95 {J : xI_T} {w x q : Nat} (he : J 72 19 = nI w) (hw : w < 8) (hx : x < 8) (h : q ≠ 8 * w + x) : m_pays J (nI x) 95 q = J 95 q := by
  have e0 : m_first (m_shift (up2 J 72 18 (J 72 18 - 1)) (ix (J 72 18 - 1))) (nI w) 95 q = J 95 q := by
    rw [first_o (by omega), mshift_q (by decide), up2_i _ _ (by decide)]
  unfold m_pays
  simp only [he]
  by_cases h1 : nI w = nI x
  · rw [if_pos h1]
    exact e0
  · rw [if_neg h1, payTo_95 hw hx h]
    exact e0
theorem OF_pays {J : xI_T} {z x : Nat} (hb : ix (J 70 0) ≤ 8) (hz : J 72 18 = nI (z + 1)) (hz5 : z ≤ 4) (hx : x < ix (J 70 0)) (h1 : OW J) (h2 : FZ J) : OW (m_pays J (nI x)) ∧ FZ (m_pays J (nI x)) := by
  obtain ⟨r1, r2⟩ := wit_R h1
  obtain ⟨w, hw, ew⟩ := h1 0 (by rw [hz, ix_n (by omega)]; omega)
  have e0 : m_pays J (nI x) 70 0 = J 70 0 := pays_o ⟨by decide, by decide, by decide, by decide, fun _ => Or.inl (by decide)⟩
  refine ⟨(pays_R r1 r2 hb hz hz5 hx (Nat.le_refl _)).1.ow, fun a b ha hb2 hn => ?_⟩
  rw [e0] at hn
  rw [pays_95 ew (by omega) (by omega) (fun e => hn ⟨by omega, by omega⟩)]
  exact h2 a b ha hb2 hn
theorem OF_payAll {x : Nat} : ∀ (d : Nat) (J : xI_T), ix (J 72 18) < d → Wmk J → ix (J 70 0) ≤ 8 → x < ix (J 70 0) → OW J → FZ J → OW (m_payAll (nI x) d J) ∧ FZ (m_payAll (nI x) d J)
  | 0, J, h, _, _, _, _, _ => absurd h (Nat.not_lt_zero _)
  | d + 1, J, h, hM, hb, hx, h1, h2 => by
    by_cases hlt : J 72 18 < J 70 2
    · rw [payAll_0 hlt]
      exact ⟨h1, h2⟩
    · have h0 := third_0 hM hlt
      obtain ⟨z, hz5, ez⟩ := open_s hM h0
      have hc : vp_in (nI x) 8 := vp_in_nI (by omega) (by decide)
      have e0 : m_pays J (nI x) 70 0 = J 70 0 := pays_o ⟨by decide, by decide, by decide, by decide, fun _ => Or.inl (by decide)⟩
      obtain ⟨a, b⟩ := OF_pays hb ez hz5 hx h1 h2
      rw [payAll_1 hlt]
      exact OF_payAll d (m_pays J (nI x)) (by rw [pays_18 hM hc h0]; exact ix_pred hM.2.2.2.1 h0 h) (hM.pays hc h0) (by rw [e0]; exact hb) (by rw [e0]; exact hx) a b
theorem OF_goes1 {J : xI_T} {x : Nat} (hM : Wmk J) (hb : ix (J 70 0) ≤ 8) (hx : x < ix (J 70 0)) (h1 : OW J) (h2 : FZ J) : OW (m_goes1 J (nI x)) ∧ FZ (m_goes1 J (nI x)) := by
  have h6 : ix (J 72 18) ≤ 6 := by have := ix_7 hM.2.2.2.1; omega
  have n0 : m_none J 70 0 = J 70 0 := none_o ⟨by decide, by decide, by decide, by decide, fun _ => Or.inl (by decide)⟩
  have a0 : OW (m_none J) := h1.mv n0 (fun k _ _ => none_i (by decide)) h6
  have b0 : FZ (m_none J) := h2.mv n0 (fun k _ => none_i (by decide))
  by_cases ho : m_out (m_none J) (nI x) = true
  · rw [goes1_0 ho]
    exact ⟨a0, b0⟩
  · rw [goes1_1 ho]
    have hMn := hM.none
    obtain ⟨a, b⟩ := OF_payAll (x := x) 7 (m_none J) (ix_7 hMn.2.2.2.1) hMn (by rw [n0]; exact hb) (by rw [n0]; exact hx) a0 b0
    have hc : vp_in (nI x) 8 := vp_in_nI (by omega) (by decide)
    obtain ⟨w1, w2⟩ := payAll_W hc 7 (m_none J) (ix_7 hMn.2.2.2.1) hMn
    have p0 : m_payAll (nI x) 7 (m_none J) 70 0 = J 70 0 := (payAll_o ⟨by decide, by decide, by decide, by decide, fun _ => Or.inl (by decide)⟩ 7 _).trans n0
    generalize m_payAll (nI x) 7 (m_none J) = K at a b w1 w2 p0
    obtain ⟨r1, r2⟩ := wit_R a
    obtain ⟨z, hz5, ez⟩ := vp_in_of (third_5 w1 w2) (by decide)
    refine ⟨(book_R (v := (m_buys K (nI x) (m_none J 72 (ix (nI x)))).1) (K := (m_buys K (nI x) (m_none J 72 (ix (nI x)))).2) r1 r2 (by rw [p0]; exact hb) (by rw [p0]; exact hx) ez hz5 (Nat.le_refl _) (fun q j y1 y2 => buys_o y1 y2)).1.ow, b.mv ?_ fun k _ => ?_⟩
    · rw [book1_o (by decide), up2_k _ _ (by decide), buys_o (by decide) (by decide)]
    · rw [book1_o (by decide), up2_i _ _ (by decide), buys_o (by decide) (by decide)]
theorem OF_goGo {J : xI_T} {z : Nat} (hM : Wmk J) (hw : Wlaw J) (hb : ix (J 70 0) ≤ 8) (hr : ∀ k : Nat, k < z → ∃ w : Nat, w < ix (J 70 0) ∧ J 96 k = nI w) (h1 : OW J) (h2 : FZ J) : ∀ k : Nat, k ≤ z → OW (m_goGo k J) ∧ FZ (m_goGo k J)
  | 0, _ => ⟨h1, h2⟩
  | k + 1, hk => by
    obtain ⟨a, b⟩ := OF_goGo hM hw hb hr h1 h2 k (by omega)
    obtain ⟨w1, w2⟩ := goGo_M hM hw hr k (by omega)
    obtain ⟨x, hx, ex⟩ := hr k (by omega)
    have e0 : m_goGo k J 70 0 = J 70 0 := goGo_o (gz3_70 (Or.inl (by decide))) k
    have e96 : m_goGo k J 96 k = nI x := by rw [goGo_o (gz3_q (Or.inl rfl))]; exact ex
    obtain ⟨c, d⟩ := OF_goes1 w1 (by rw [e0]; exact hb) (by rw [e0]; exact hx) a b
    rw [← e96] at c d
    have hc : vp_in (m_goGo k J 96 k) 8 := by rw [e96]; exact vp_in_nI (by omega) (by decide)
    have h6 := ix_7 (w1.goes1 hc).2.2.2.1
    exact ⟨c.mv (goGo_q (by decide)) (fun j _ _ => goGo_q (by decide)) (by omega), d.mv (goGo_q (by decide)) fun j _ => goGo_q (by decide)⟩
theorem QS.ow {n : Nat} {Ty : Nat → xs_T} {I : xI_T} {F : xF_T} {J : xI_T} (h : QS n Ty I F J) : OW J := fun k hk => (h.1.2.2.2.2.2 k hk).2.2
theorem behind_FZ {n : Nat} {Ty : Nat → xs_T} {I : xI_T} {F : xF_T} {J : xI_T} {z : Nat} (h : QS n Ty I F J) (hR : RW I J z) (h45 : J 70 45 = nI z) : FZ (m_behind J) := by
  obtain ⟨nb, hnb, enb, enx, -⟩ := h.nb
  have hz := hR.2.1
  have b0 : m_begins J 70 0 = J 70 0 := begins_o (by decide) (by decide) (by decide)
  have h6 := ix_7 h.2.2.1.2.2.2.1
  rw [behind_z h45 (by omega)]
  exact (OF_goGo h.2.2.1.begins h.2.2.2.begins (by rw [b0, enx]; omega) (fun k hk => by rw [b0, begins_o (by decide) (by decide) (by omega)]; exact (hR.2.2 k hk).2) (h.ow.mv b0 (fun k _ _ => begins_o (by decide) (by decide) (by omega)) (by omega)) (fun a b ha hb _ => begins_95 (by omega)) z (Nat.le_refl _)).2
theorem edg_b {J : xI_T} (h : FZ J) {N : Nat} (hN : ix (J 70 0) = N) : ∀ a b : Nat, edg J a b → a < N ∧ b < N := fun a b ⟨h1, h2, h3⟩ => by
  by_cases q : a < N ∧ b < N
  · exact q
  · rw [h a b h1 h2 (by rw [hN]; exact q)] at h3
    exact absurd (by decide) h3
theorem edg_mv {J J' : xI_T} (h : ∀ k : Nat, J' 95 k = J 95 k) : edg J' = edg J := by
  funext a b
  unfold edg
  rw [h]
/-! masks -/
theorem has_b0 : ∀ t : Fin 256, ∀ b : Fin 8, k_has (nI t.1) (nI b.1) = if t.1.testBit b.1 = true then 1 else 0 := by decide +kernel
theorem has_b {t b : Nat} (ht : t < 256) (hb : b < 8) : k_has (nI t) (nI b) = if t.testBit b = true then 1 else 0 := has_b0 ⟨t, ht⟩ ⟨b, hb⟩
theorem bor_0 : ∀ t : Fin 256, ∀ b : Fin 8, nI t.1 ||| (1 <<< (nI b.1 &&& 31)) = nI (t.1 ||| 2 ^ b.1) ∧ t.1 ||| 2 ^ b.1 < 256 := by decide +kernel
theorem bor {t b : Nat} (ht : t < 256) (hb : b < 8) : nI t ||| (1 <<< (nI b &&& 31)) = nI (t ||| 2 ^ b) ∧ t ||| 2 ^ b < 256 := bor_0 ⟨t, ht⟩ ⟨b, hb⟩
theorem bor_t {t b c : Nat} : (t ||| 2 ^ b).testBit c = true ↔ t.testBit c = true ∨ b = c := by
  rw [Nat.testBit_or, Nat.testBit_two_pow, Bool.or_eq_true, decide_eq_true_iff]
theorem bst_0 : ∀ b : Fin 8, (1 : Int32) <<< (nI b.1 &&& 31) = nI (2 ^ b.1) ∧ 2 ^ b.1 < 256 := by decide +kernel
theorem bst {b : Nat} (hb : b < 8) : (1 : Int32) <<< (nI b &&& 31) = nI (2 ^ b) ∧ 2 ^ b < 256 := bst_0 ⟨b, hb⟩
def msk (P : Nat → Prop) (t : Nat) : Prop := t < 256 ∧ ∀ b : Nat, b < 8 → (t.testBit b = true ↔ P b)
theorem msk.has {P : Nat → Prop} {t b : Nat} (h : msk P t) (hb : b < 8) : k_has (nI t) (nI b) = 0 ↔ ¬ P b := by
  rw [has_b h.1 hb]
  by_cases q : t.testBit b = true
  · rw [if_pos q]
    exact ⟨fun z => absurd z (by decide), fun z => absurd ((h.2 b hb).mp q) z⟩
  · rw [if_neg q]
    exact ⟨fun _ z => q ((h.2 b hb).mpr z), fun _ => rfl⟩
theorem msk.or {P Q : Nat → Prop} {t b : Nat} (h : msk P t) (hb : b < 8) (hQ : ∀ c : Nat, c < 8 → (Q c ↔ P c ∨ b = c)) : nI t ||| (1 <<< (nI b &&& 31)) = nI (t ||| 2 ^ b) ∧ msk Q (t ||| 2 ^ b) := by
  obtain ⟨a, e⟩ := bor h.1 hb
  refine ⟨a, e, fun c hc => ?_⟩
  rw [bor_t, hQ c hc, h.2 c hc]
theorem msk.mv {P Q : Nat → Prop} {t : Nat} (h : msk P t) (hQ : ∀ c : Nat, c < 8 → (Q c ↔ P c)) : msk Q t := ⟨h.1, fun c hc => (h.2 c hc).trans (hQ c hc).symm⟩
theorem behind_93 {J : xI_T} {j : Nat} (h : j < 31) : m_behind J 93 j = J 72 j := by
  unfold m_behind m_goes
  rw [goGo_o (gz3_q (Or.inr (Or.inl rfl)))]
  unfold m_begins m_keeps
  rw [fil2_ap, if_neg (by omega), up2_i _ _ (by decide), cpy2_ap, if_pos ⟨rfl, Nat.zero_le _, by omega⟩]
  congr 1
  omega
theorem rnd_1 {J K0 : xI_T} {nb : Nat} {r w : Int32} (h : ringS (edg (m_behind K0)) nb r) (hnb : nb < 9) (enb : J 70 0 = nI nb) (hFZ : FZ (m_behind K0)) (hb70 : m_behind K0 70 0 = nI nb) (hw : w = 0) : r = (if J 70 0 = 0 then ((-2 : Int32), J) else if w = 0 then m_ring (m_lays (m_behind K0) 93 0) else (m_gain (m_behind K0) (ix (J 70 0) - 1), m_lays (m_behind K0) 93 0)).1 := by
  rcases Nat.eq_zero_or_pos nb with z | z
  · rw [if_pos (by rw [enb, z]; rfl)]
    rcases h with g | ⟨m, g1, g2, g3, -⟩
    · exact g.1
    · omega
  · rw [if_neg (by rw [enb]; exact nI_ne0 z (by omega)), if_pos hw]
    have e := edg_mv (J := m_behind K0) (J' := m_lays (m_behind K0) 93 0) (fun k => lays_o (by decide))
    refine ring_eq (N := nb) (by omega) ?_ ?_
    · rw [e]
      exact edg_b hFZ (by rw [hb70]; exact ix_n (by omega))
    · rw [e]
      exact h
theorem rnd_2 {J K0 : xI_T} {nb : Nat} {r w : Int32} (h : r = if nb = 0 then -2 else m_gain (m_behind K0) (nb - 1)) (hnb : nb < 9) (enb : J 70 0 = nI nb) (hw : ¬ w = 0) : r = (if J 70 0 = 0 then ((-2 : Int32), J) else if w = 0 then m_ring (m_lays (m_behind K0) 93 0) else (m_gain (m_behind K0) (ix (J 70 0) - 1), m_lays (m_behind K0) 93 0)).1 := by
  rcases Nat.eq_zero_or_pos nb with z | z
  · rw [if_pos (by rw [enb, z]; rfl), h, if_pos z]
  · rw [if_neg (by rw [enb]; exact nI_ne0 z (by omega)), if_neg hw, h, if_neg (by omega), enb, ix_n (by omega)]
