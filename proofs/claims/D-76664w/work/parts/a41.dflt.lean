/-! WORDS of calls that land in a default method -/
theorem xKK.dw {G : xG_T} {s : State} {args : Array Value} (h : xKK G s) {w : Cond} (hw : w ∈ cjs narrow_1) (ho : w.onTables = true) (hk : w.keeps = true) : w.before args s = true := Cond.onTables_warm (T := s) h.2 ho hk (h.nar hw)
theorem dw_B21 : Cond.methodLink "ThirdAfter$Baker" 21 ⟨"ThirdAfter$Latch", "comesBy", "(I)I"⟩ ∈ cjs narrow_1 := by decide +kernel
theorem dw_H21 : Cond.methodLink "ThirdAfter$Hound" 21 ⟨"ThirdAfter$Latch", "comesBy", "(I)I"⟩ ∈ cjs narrow_1 := by decide +kernel
theorem dw_L30 : Cond.methodLink "ThirdAfter$Latch" 30 ⟨"ThirdAfter$Latch", "comesBy", "(I)I"⟩ ∈ cjs narrow_1 := by decide +kernel
theorem dw_D21 : Cond.methodLink "ThirdAfter$Dusk" 21 ⟨"ThirdAfter$Cow", "tells", "(I)I"⟩ ∈ cjs narrow_1 := by decide +kernel
theorem dw_P28 : Cond.methodLink "ThirdAfter$Purse" 28 ⟨"ThirdAfter$Rent", "tells", "(I)I"⟩ ∈ cjs narrow_1 := by decide +kernel
theorem dw_sL : Cond.sameMethod "ThirdAfter$Latch" "ThirdAfter$Comes" "comesBy" "(I)I" ∈ cjs narrow_1 := by decide +kernel
theorem dw_sC : Cond.sameMethod "ThirdAfter$Cow" "ThirdAfter$Tells" "tells" "(I)I" ∈ cjs narrow_1 := by decide +kernel
theorem dw_sR : Cond.sameMethod "ThirdAfter$Rent" "ThirdAfter$Tells" "tells" "(I)I" ∈ cjs narrow_1 := by decide +kernel
theorem dl_Latch_Latch_comesBy : Cond.landsInDefault "ThirdAfter$Latch" ⟨"ThirdAfter$Latch", "comesBy", "(I)I"⟩ ⟨"ThirdAfter$Comes", "comesBy", "(I)I"⟩ ∈ cjs narrow_1 := by decide +kernel
theorem dl_Cow_Comes_comesBy : Cond.landsInDefault "ThirdAfter$Cow" ⟨"ThirdAfter$Comes", "comesBy", "(I)I"⟩ ⟨"ThirdAfter$Comes", "comesBy", "(I)I"⟩ ∈ cjs narrow_1 := by decide +kernel
theorem dl_Dusk_Comes_comesBy : Cond.landsInDefault "ThirdAfter$Dusk" ⟨"ThirdAfter$Comes", "comesBy", "(I)I"⟩ ⟨"ThirdAfter$Comes", "comesBy", "(I)I"⟩ ∈ cjs narrow_1 := by decide +kernel
theorem dl_Latch_Comes_comesBy : Cond.landsInDefault "ThirdAfter$Latch" ⟨"ThirdAfter$Comes", "comesBy", "(I)I"⟩ ⟨"ThirdAfter$Comes", "comesBy", "(I)I"⟩ ∈ cjs narrow_1 := by decide +kernel
theorem dl_Priest_Comes_comesBy : Cond.landsInDefault "ThirdAfter$Priest" ⟨"ThirdAfter$Comes", "comesBy", "(I)I"⟩ ⟨"ThirdAfter$Comes", "comesBy", "(I)I"⟩ ∈ cjs narrow_1 := by decide +kernel
theorem dl_Baker_Tells_tells : Cond.landsInDefault "ThirdAfter$Baker" ⟨"ThirdAfter$Tells", "tells", "(I)I"⟩ ⟨"ThirdAfter$Tells", "tells", "(I)I"⟩ ∈ cjs narrow_1 := by decide +kernel
theorem dl_Cow_Latch_comesBy : Cond.landsInDefault "ThirdAfter$Cow" ⟨"ThirdAfter$Latch", "comesBy", "(I)I"⟩ ⟨"ThirdAfter$Comes", "comesBy", "(I)I"⟩ ∈ cjs narrow_1 := by decide +kernel
theorem dl_Dusk_Latch_comesBy : Cond.landsInDefault "ThirdAfter$Dusk" ⟨"ThirdAfter$Latch", "comesBy", "(I)I"⟩ ⟨"ThirdAfter$Comes", "comesBy", "(I)I"⟩ ∈ cjs narrow_1 := by decide +kernel
theorem dl_Priest_Latch_comesBy : Cond.landsInDefault "ThirdAfter$Priest" ⟨"ThirdAfter$Latch", "comesBy", "(I)I"⟩ ⟨"ThirdAfter$Comes", "comesBy", "(I)I"⟩ ∈ cjs narrow_1 := by decide +kernel
theorem dl_Cow_Tells_tells : Cond.landsInDefault "ThirdAfter$Cow" ⟨"ThirdAfter$Tells", "tells", "(I)I"⟩ ⟨"ThirdAfter$Tells", "tells", "(I)I"⟩ ∈ cjs narrow_1 := by decide +kernel
theorem dl_Cow_Cow_tells : Cond.landsInDefault "ThirdAfter$Cow" ⟨"ThirdAfter$Cow", "tells", "(I)I"⟩ ⟨"ThirdAfter$Tells", "tells", "(I)I"⟩ ∈ cjs narrow_1 := by decide +kernel
theorem dl_Hound_Tells_tells : Cond.landsInDefault "ThirdAfter$Hound" ⟨"ThirdAfter$Tells", "tells", "(I)I"⟩ ⟨"ThirdAfter$Tells", "tells", "(I)I"⟩ ∈ cjs narrow_1 := by decide +kernel
theorem dl_Latch_Tells_tells : Cond.landsInDefault "ThirdAfter$Latch" ⟨"ThirdAfter$Tells", "tells", "(I)I"⟩ ⟨"ThirdAfter$Tells", "tells", "(I)I"⟩ ∈ cjs narrow_1 := by decide +kernel
theorem dl_Priest_Tells_tells : Cond.landsInDefault "ThirdAfter$Priest" ⟨"ThirdAfter$Tells", "tells", "(I)I"⟩ ⟨"ThirdAfter$Tells", "tells", "(I)I"⟩ ∈ cjs narrow_1 := by decide +kernel
theorem dl_Rent_Rent_tells : Cond.landsInDefault "ThirdAfter$Rent" ⟨"ThirdAfter$Rent", "tells", "(I)I"⟩ ⟨"ThirdAfter$Tells", "tells", "(I)I"⟩ ∈ cjs narrow_1 := by decide +kernel
theorem dl_Rent_Tells_tells : Cond.landsInDefault "ThirdAfter$Rent" ⟨"ThirdAfter$Tells", "tells", "(I)I"⟩ ⟨"ThirdAfter$Tells", "tells", "(I)I"⟩ ∈ cjs narrow_1 := by decide +kernel
theorem dw_ok2 (C : String) (k : Nat) (x : MethodName) : (Cond.methodLink C k x).onTables = true ∧ (Cond.methodLink C k x).keeps = true := ⟨rfl, rfl⟩
theorem dw_ok3 (a b c d : String) : (Cond.sameMethod a b c d).onTables = true ∧ (Cond.sameMethod a b c d).keeps = true := ⟨rfl, rfl⟩
theorem xKK.dl {G : xG_T} {s : State} {args : Array Value} {C : String} {x y : MethodName} (h : xKK G s) (hw : Cond.landsInDefault C x y ∈ cjs narrow_1) : (Cond.landsInDefault C x y).before args s = true := by
  have h1 := h.nar hw
  have h2 := Cond.landsInDefault_setVm (args := #[Value.ref G.2.2.2]) (args' := args) (s := G.2.2.1) h.2.alike (cls := C) (x := x) (y := y) (State.methodFound?_setVm h.2.alike _ _ _)
  rw [h1] at h2
  exact h2
