/-! A ROW made, or not -/
theorem five {t : Int32} (h : ¬ inR t 0 4 = 0) : t = 0 ∨ t = 1 ∨ t = 2 ∨ t = 3 ∨ t = 4 := by
  obtain ⟨x, h0, h4, e⟩ := inR_nat 0 4 h rfl rfl (by decide)
  rw [e]
  have y : x = 0 ∨ x = 1 ∨ x = 2 ∨ x = 3 ∨ x = 4 := by omega
  rcases y with rfl | rfl | rfl | rfl | rfl
  · exact Or.inl rfl
  · exact Or.inr (Or.inl rfl)
  · exact Or.inr (Or.inr (Or.inl rfl))
  · exact Or.inr (Or.inr (Or.inr (Or.inl rfl)))
  · exact Or.inr (Or.inr (Or.inr (Or.inr rfl)))
def pxG (E0 : String) (n : Nat) (Ty : Nat → xs_T) (I : xI_T) (L : xL_T) (F : xF_T) : xPX := fun E n' Ty' I' L' F' => E = E0 ∧ grw n n' Ty Ty' ∧ (∀ c k : Nat, c < n → I' c k = I c k) ∧ L' = L ∧ ∀ c k : Nat, c < n → F' c k = F c k
theorem TOP.gw {n n' : Nat} {Ty Ty' : Nat → xs_T} {I I' : xI_T} {L : xL_T} {F F' : xF_T} {J : xI_T} {M : xL_T} (h : TOP n Ty I L F J M) (h1 : grw n n' Ty Ty') (hI : ∀ c k : Nat, c < n → I' c k = I c k) (hF : ∀ c k : Nat, c < n → F' c k = F c k) : TOP n' Ty' I' L F' J M := by
  have hn : 103 ≤ n := h.1.1
  exact h.ch9 h1 (fun c s z _ => hI c s z) (fun c s z _ => hF c s z) (fun _ _ _ => rfl) (h.2.2.2.2.2.2.2.2.1.w h1 (dynI.of fun q k _ z => hI q k z) ⟨hI 0 6 (by omega), hI 0 7 (by omega)⟩ (fun k => hF 2 k (by omega)) (fun _ _ _ => rfl))
theorem WC.gw {n n' : Nat} {Ty Ty' : Nat → xs_T} {F F' : xF_T} (h : WC n Ty F) (h1 : grw n n' Ty Ty') (hF : ∀ c k : Nat, c < n → F' c k = F c k) : WC n' Ty' F' := by
  have := h.1
  exact h.w h1 (fun q k z _ _ _ _ _ => hF q k (by omega))
theorem row_z {v : Int32} (h : ¬ v < 0) (h2 : v ≤ 60) : ∃ z : Nat, z ≤ 60 ∧ v = nI z := by
  obtain ⟨z, hz, rfl⟩ := nI_of h
  exact ⟨z, (nI_leI (b := 60) (by omega) (by decide)).mp h2, rfl⟩
