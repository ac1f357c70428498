/-! DRAWS: what ties both sides -/
theorem jmax_c {o c : Int32} : o = jmax o c ↔ ¬ o < c := by
  unfold jmax
  by_cases h : c ≤ o
  · rw [if_pos h]
    exact ⟨fun _ => Int32.not_lt.mpr h, fun _ => rfl⟩
  · rw [if_neg h]
    exact ⟨fun z => absurd (by rw [z]; exact Int32.le_refl c) h, fun z => absurd (Int32.not_lt.mp z) h⟩
theorem sh_L {J Y : xI_T} (h0 : Y 70 0 = J 70 0) (h2 : Y 70 2 = J 70 2) (h71 : ∀ k : Nat, k < 8 → Y 71 k = J 71 k) (h72 : ∀ k : Nat, k < 31 → Y 72 k = J 72 k) : eqL J (sh (0 - Y 70 43) Y) := by
  refine ⟨⟨by rw [sh_o (by decide)]; exact h0, by rw [sh_o (by decide)]; exact h2, ?_⟩, fun k hk => by rw [sh_i (by decide)]; exact h71 k hk, fun k hk => by rw [sh_i (by decide)]; exact h72 k hk⟩
  rw [sh_set, up2_s]
theorem sh_W {w : Int32} {J : xI_T} (hM : Wmk J) (hW : Wlaw J) : Wmk (sh w J) ∧ Wlaw (sh w J) := ⟨hM.mv (sh_o (by decide)) (sh_o (by decide)) fun j _ _ => sh_i (by decide), hW.mv (sh_o (by decide)) fun q j h1 h2 => sh_i (by omega)⟩
theorem sh_g {w : Int32} {J : xI_T} {q j : Nat} (h : gz q j) : sh w J q j = J q j := sh_o fun z => by have := h.2.2.2.2 z.1; omega
/-- between two comings of a draw, on the reference's side -/
def drQ (J K : xI_T) : Prop := Wmk K ∧ Wlaw K ∧ (∀ q j : Nat, gz3 q j → q ≠ 93 → K q j = J q j) ∧ ∀ j : Nat, j < 31 → K 93 j = J 72 j
theorem begins_93 {J : xI_T} {j : Nat} (h : j < 31) : m_begins J 93 j = J 72 j := by
  unfold m_begins m_keeps
  rw [fil2_ap, if_neg (by omega), up2_i _ _ (by decide), cpy2_ap, if_pos ⟨rfl, Nat.zero_le _, by omega⟩]
  congr 1
  omega
theorem drQ.beg {J : xI_T} (hM : Wmk J) (hW : Wlaw J) : drQ J (m_begins J) := ⟨hM.begins, hW.begins, fun q j h h3 => begins_o h3 h.1.2.2.2.1 (fun z => by have := h.1.2.2.2.2 z.1; omega), fun j hj => begins_93 hj⟩
theorem gz3_93 {j : Nat} : gz3 93 j := gz3_q (Or.inr (Or.inl rfl))
theorem drQ.gs {J K : xI_T} {c : Int32} (h : drQ J K) (hc : vp_in c 8) : drQ J (m_goes1 K c) := ⟨h.1.goes1 hc, h.2.1.goes1, fun q j y1 y2 => (goes1_o y1.1).trans (h.2.2.1 q j y1 y2), fun j hj => (goes1_o gz3_93.1).trans (h.2.2.2 j hj)⟩
theorem drQ.en {J K : xI_T} (h : drQ J K) : drQ J (m_ends K) := ⟨h.1.ends, h.2.1.ends, fun q j y1 y2 => (ends_o (fun z => y1.1.1 z.1)).trans (h.2.2.1 q j y1 y2), fun j hj => (ends_o (by omega)).trans (h.2.2.2 j hj)⟩
theorem drQ.la {J K : xI_T} (h : drQ J K) (hM : Wmk J) : drQ J (m_lays K 93 0) ∧ ∀ j : Nat, j < 31 → m_lays K 93 0 72 j = J 72 j := by
  have e : ∀ j : Nat, j < 31 → m_lays K 93 0 72 j = J 72 j := fun j hj => by
    rw [lays_72 hj, Nat.zero_add]
    exact h.2.2.2 j hj
  refine ⟨⟨?_, ?_, fun q j y1 y2 => (lays_o y1.1.1).trans (h.2.2.1 q j y1 y2), fun j hj => (lays_o (by decide)).trans (h.2.2.2 j hj)⟩, e⟩
  · exact hM.mv ((lays_o (by decide)).trans (h.2.2.1 70 0 (gz3_70 (Or.inl (by decide))) (by decide))) ((lays_o (by decide)).trans (h.2.2.1 70 2 (gz3_70 (Or.inl (by decide))) (by decide))) fun j _ h2 => e j (by omega)
  · exact h.2.1.mv (lays_o (by decide)) fun q j h1 h2 => lays_o (by omega)
theorem drw_n {x : Int32} {b : Nat} (h0 : 0 < b) (hb : b < 9) : ∃ y : Nat, y < b ∧ irm (ush x 8) (nI b) = nI y := by
  obtain ⟨a, ha, e⟩ := ush_8 x
  exact ⟨a % b, Nat.mod_lt a h0, by rw [e, irm_n (by omega) h0 (by omega)]⟩
theorem KS.dr {n : Nat} {Ty : Nat → xs_T} {I I' : xI_T} {F : xF_T} {J K : xI_T} {w : Int32} (h : KS n Ty I F J) (hf : Fr q2set I I') (hK : drQ J K) : KS n Ty I' F (sh w K) :=
  h.fr3 (fun q k y => hf q k (by unfold q2set qset bset lset cset; omega)) (hf 0 1 (by unfold q2set qset bset lset cset; omega)) (hf 0 3 (by unfold q2set qset bset lset cset; omega)) (fun q k y1 y2 => (sh_g y1.1).trans (hK.2.2.1 q k y1 y2))
theorem sum_dr {a b : Int32} : a + (b + (0 - a)) = b := by
  rw [Int32.add_comm b, ← Int32.add_assoc]
  have : a + (0 - a) = 0 := by rw [Int32.add_comm, Int32.sub_add_cancel]
  rw [this, Int32.zero_add]
theorem drawn_B {J : xI_T} {sd nm o : Int32} (h1 : ¬ nm < 0) (h2 : ¬ inR (nm / 10000) 1 30 = 0) (h3 : ¬ inR (irm (nm / 100) 100) 1 60 = 0) (h4 : ¬ 12 < irm nm 100) (h5 : ¬ (¬ o = -1 ∧ m_isB J o = 0)) : m_drawn J sd nm o = m_drawnB J sd nm o := by
  unfold m_drawn
  rw [if_neg h1, if_neg h2, if_neg h3, if_neg h4, if_neg h5]
  rfl
theorem begins_43 {J : xI_T} : m_begins J 70 43 = 0 := by
  unfold m_begins
  rw [fil2_ap, if_neg (by decide), up2_s]
