/-! THE COMPONENT: its cells -/
def TyC : Nat → xs_T := fun i => match i with
  | 0 => some (.inl 0)
  | 1 => some (.inr (5, 8))
  | 2 => some (.inr (6, 40))
  | 3 => some (.inr (1, 120))
  | 4 => some (.inl 1)
  | 5 => some (.inr (0, 128))
  | 6 => some (.inl 2)
  | 7 => some (.inr (0, 8))
  | 8 => some (.inr (0, 8))
  | 9 => some (.inr (0, 8))
  | 10 => some (.inr (0, 5))
  | 11 => some (.inr (0, 5))
  | 12 => some (.inr (7, 6))
  | 13 => some (.inr (8, 8))
  | 14 => some (.inr (0, 8))
  | 15 => some (.inr (0, 8))
  | 16 => some (.inr (0, 8))
  | 17 => some (.inr (0, 8))
  | 18 => some (.inr (0, 8))
  | 19 => some (.inr (0, 8))
  | 20 => some (.inr (0, 8))
  | 21 => some (.inr (0, 8))
  | 22 => some (.inr (0, 21))
  | 23 => some (.inr (0, 5))
  | 24 => some (.inr (0, 60))
  | 25 => some (.inl 2)
  | 26 => some (.inr (0, 8))
  | 27 => some (.inr (0, 8))
  | 28 => some (.inr (0, 8))
  | 29 => some (.inr (0, 5))
  | 30 => some (.inr (0, 5))
  | 31 => some (.inr (1, 24))
  | 32 => some (.inr (9, 50))
  | 33 => some (.inr (10, 6))
  | 34 => some (.inl 2)
  | 35 => some (.inr (0, 8))
  | 36 => some (.inr (0, 8))
  | 37 => some (.inr (0, 8))
  | 38 => some (.inr (0, 5))
  | 39 => some (.inr (0, 5))
  | 40 => some (.inl 2)
  | 41 => some (.inr (0, 8))
  | 42 => some (.inr (0, 8))
  | 43 => some (.inr (0, 8))
  | 44 => some (.inr (0, 5))
  | 45 => some (.inr (0, 5))
  | 46 => some (.inl 2)
  | 47 => some (.inr (0, 8))
  | 48 => some (.inr (0, 8))
  | 49 => some (.inr (0, 8))
  | 50 => some (.inr (0, 5))
  | 51 => some (.inr (0, 5))
  | 52 => some (.inl 2)
  | 53 => some (.inr (0, 8))
  | 54 => some (.inr (0, 8))
  | 55 => some (.inr (0, 8))
  | 56 => some (.inr (0, 5))
  | 57 => some (.inr (0, 5))
  | 58 => some (.inl 2)
  | 59 => some (.inr (0, 8))
  | 60 => some (.inr (0, 8))
  | 61 => some (.inr (0, 8))
  | 62 => some (.inr (0, 5))
  | 63 => some (.inr (0, 5))
  | 64 => some (.inl 2)
  | 65 => some (.inr (0, 8))
  | 66 => some (.inr (0, 8))
  | 67 => some (.inr (0, 8))
  | 68 => some (.inr (0, 5))
  | 69 => some (.inr (0, 5))
  | _ => none
def FC : xF_T := fun i k => match i with
  | 0 => (match k with | 0 => some 1 | 5 => some 2 | 8 => some 3 | 11 => some 4 | 12 => some 6 | 13 => some 12 | 14 => some 13 | 18 => some 22 | 20 => some 23 | 22 => some 24 | 32 => some 25 | 40 => some 31 | 41 => some 32 | 43 => some 33 | _ => none)
  | 4 => (match k with | 0 => some 5 | _ => none)
  | 6 => (match k with | 0 => some 7 | 1 => some 8 | 2 => some 9 | 3 => some 10 | 4 => some 11 | _ => none)
  | 12 => (match k with | 0 => some 34 | 1 => some 40 | 2 => some 46 | 3 => some 52 | 4 => some 58 | 5 => some 64 | _ => none)
  | 13 => (match k with | 0 => some 14 | 1 => some 15 | 2 => some 16 | 3 => some 17 | 4 => some 18 | 5 => some 19 | 6 => some 20 | 7 => some 21 | _ => none)
  | 25 => (match k with | 0 => some 26 | 1 => some 27 | 2 => some 28 | 3 => some 29 | 4 => some 30 | _ => none)
  | 34 => (match k with | 0 => some 35 | 1 => some 36 | 2 => some 37 | 3 => some 38 | 4 => some 39 | _ => none)
  | 40 => (match k with | 0 => some 41 | 1 => some 42 | 2 => some 43 | 3 => some 44 | 4 => some 45 | _ => none)
  | 46 => (match k with | 0 => some 47 | 1 => some 48 | 2 => some 49 | 3 => some 50 | 4 => some 51 | _ => none)
  | 52 => (match k with | 0 => some 53 | 1 => some 54 | 2 => some 55 | 3 => some 56 | 4 => some 57 | _ => none)
  | 58 => (match k with | 0 => some 59 | 1 => some 60 | 2 => some 61 | 3 => some 62 | 4 => some 63 | _ => none)
  | 64 => (match k with | 0 => some 65 | 1 => some 66 | 2 => some 67 | 3 => some 68 | 4 => some 69 | _ => none)
  | _ => none
def idC : Nat → Prop := fun i => i < 70 ∨ 103 ≤ i
/-- the component's own cells are all there -/
def WC (n : Nat) (Ty : Nat → xs_T) (F : xF_T) : Prop := 103 ≤ n ∧ (∀ (i : Nat) (s : Nat ⊕ (Nat × Nat)), TyC i = some s → Ty i = some s) ∧ ∀ i k j : Nat, FC i k = some j → F i k = some j
/-- a market's cells -/
def mkT (n : Nat) (Ty : Nat → xs_T) (F : xF_T) (g : Nat) : Prop := (g + 5 < n ∧ Ty g = some (.inl 2)) ∧ (Ty (g + 1) = some (.inr (0, 8)) ∧ Ty (g + 2) = some (.inr (0, 8)) ∧ Ty (g + 3) = some (.inr (0, 8)) ∧ Ty (g + 4) = some (.inr (0, 5)) ∧ Ty (g + 5) = some (.inr (0, 5))) ∧ F g 0 = some (g + 1) ∧ F g 1 = some (g + 2) ∧ F g 2 = some (g + 3) ∧ F g 3 = some (g + 4) ∧ F g 4 = some (g + 5)
theorem mkT.l0 {n : Nat} {Ty : Nat → xs_T} {F : xF_T} {g : Nat} (h : mkT n Ty F g) : g < n := by have := h.1.1; omega
theorem mkT.l1 {n : Nat} {Ty : Nat → xs_T} {F : xF_T} {g : Nat} (h : mkT n Ty F g) : g + 1 < n := by have := h.1.1; omega
theorem mkT.l2 {n : Nat} {Ty : Nat → xs_T} {F : xF_T} {g : Nat} (h : mkT n Ty F g) : g + 2 < n := by have := h.1.1; omega
theorem mkT.l3 {n : Nat} {Ty : Nat → xs_T} {F : xF_T} {g : Nat} (h : mkT n Ty F g) : g + 3 < n := by have := h.1.1; omega
theorem mkT.l4 {n : Nat} {Ty : Nat → xs_T} {F : xF_T} {g : Nat} (h : mkT n Ty F g) : g + 4 < n := by have := h.1.1; omega
theorem mkT.l5 {n : Nat} {Ty : Nat → xs_T} {F : xF_T} {g : Nat} (h : mkT n Ty F g) : g + 5 < n := h.1.1
def isMk (g : Nat) : Prop := g = 6 ∨ g = 25 ∨ g = 34 ∨ g = 40 ∨ g = 46 ∨ g = 52 ∨ g = 58 ∨ g = 64
theorem WC.mk {n : Nat} {Ty : Nat → xs_T} {F : xF_T} {g : Nat} (hC : WC n Ty F) (h : isMk g) : mkT n Ty F g := by
  obtain ⟨h1, h2, h3⟩ := hC
  rcases h with h | h | h | h | h | h | h | h
  all_goals
    subst h
    exact ⟨⟨by omega, h2 _ _ rfl⟩, ⟨h2 _ _ rfl, h2 _ _ rfl, h2 _ _ rfl, h2 _ _ rfl, h2 _ _ rfl⟩, h3 _ _ _ rfl, h3 _ _ _ rfl, h3 _ _ _ rfl, h3 _ _ _ rfl, h3 _ _ _ rfl⟩
theorem paid_at {n : Nat} {Ty : Nat → xs_T} {F : xF_T} (hC : WC n Ty F) : ∀ a : Nat, a < 8 → F 13 a = some (14 + a) ∧ Ty (14 + a) = some (.inr (0, 8))
  | 0, _ => ⟨hC.2.2 _ _ _ rfl, hC.2.1 _ _ rfl⟩
  | 1, _ => ⟨hC.2.2 _ _ _ rfl, hC.2.1 _ _ rfl⟩
  | 2, _ => ⟨hC.2.2 _ _ _ rfl, hC.2.1 _ _ rfl⟩
  | 3, _ => ⟨hC.2.2 _ _ _ rfl, hC.2.1 _ _ rfl⟩
  | 4, _ => ⟨hC.2.2 _ _ _ rfl, hC.2.1 _ _ rfl⟩
  | 5, _ => ⟨hC.2.2 _ _ _ rfl, hC.2.1 _ _ rfl⟩
  | 6, _ => ⟨hC.2.2 _ _ _ rfl, hC.2.1 _ _ rfl⟩
  | 7, _ => ⟨hC.2.2 _ _ _ rfl, hC.2.1 _ _ rfl⟩
  | a + 8, h => absurd h (by omega)
/-- an exact contract that writes numbers alone -/
abbrev CE (l : Launch) (k : Nat) (y : MethodName) (cc : ByteArray) (nL : Nat) (ret : Option FieldType) (G : xG_T) (n : Nat) (Ty : Nat → xs_T) (F : xF_T) (av : List Value) (I : xI_T) (L : xL_T) (r : Option Value) (I' : xI_T) : Prop := Cg l k 0 0 y cc nL ret G idC av n Ty I L F (xpE r n Ty I' L F)
/-- .. that says less: of the answer and the numbers behind -/
def xpR (n : Nat) (Ty : Nat → xs_T) (L : xL_T) (F : xF_T) (φ : Option Value → xI_T → Prop) : xP_T := fun v n' Ty' I' L' F' => n' = n ∧ Ty' = Ty ∧ L' = L ∧ F' = F ∧ φ v I'
abbrev CR (l : Launch) (k : Nat) (y : MethodName) (cc : ByteArray) (nL : Nat) (ret : Option FieldType) (G : xG_T) (n : Nat) (Ty : Nat → xs_T) (F : xF_T) (av : List Value) (I : xI_T) (L : xL_T) (φ : Option Value → xI_T → Prop) : Prop := Cg l k 0 0 y cc nL ret G idC av n Ty I L F (xpR n Ty L F φ)
abbrev aI (r : Int32) : Option Value := some (.int r)
