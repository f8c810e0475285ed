set_option maxRecDepth 100000
set_option linter.unusedVariables false
set_option maxHeartbeats 200000
/-! THE CALL greys -/
theorem pl_ex {sd : Int} (h : 1 ≤ sd ∧ sd ≤ 2) : ∃ pl D, z_pl sd pl D ∧ (1 ≤ pl ∧ pl ≤ 3) ∧ (sd = 1 ∨ sd = 2) ∧ (1 ≤ sd * sd ∧ sd * sd ≤ 4) := sorry
def z_Wk (a i : Nat) : Prop := z_Wl a i ∨ (135 ≤ a ∧ a ≤ 158) ∨ (a = 1 ∧ i = 7)
def z_Vk (a i : Nat) : Prop := z_Wg a i ∨ a = 1072 ∨ a = 1073 ∨ (a = 1064 ∧ i ≤ 1)
def Q_k_greys (h g : z_M) (k : Int) (sd : Int) (f : Int) (X : Nat → Nat → Int) (Y : Nat → Nat → Int) (x_ y_ : z_Z) : Prop := (∃ (v : Int) (h1 : z_M) (X1 : Nat → Nat → Int) (Y1 : Nat → Nat → Int), (x_ = z_ri 0 (sL (sZ h1 X1) 1272 0 v)) ∧ (y_ = z_ri v (sZ g Y1)) ∧ (S0 h1) ∧ (z_lw z_W37 h h1) ∧ (Y1 1064 0 = 0) ∧ (R_fil (sZ h X1) (sZ g Y1)) ∧ (R_num (sZ h X1) (sZ g Y1)) ∧ (∀ i : Nat, i < 144 → 0 ≤ Y1 1076 i ∧ Y1 1076 i ≤ 1) ∧ (X1 35 0 = 24 ∧ X1 35 1 = 24) ∧ (z_iw z_Wk X X1) ∧ (z_iw z_Vk Y Y1)) ∨ (∃ (c : Int) (K : Nat), (x_ = z_ri c (sN (sZ h X) K 6)) ∧ (y_ = z_ri 0 (sI (sZ g Y) 1064 0 c)) ∧ (1 ≤ c))
set_option maxHeartbeats 4000000 in
theorem k_greys {h g : z_M} {k : Int} {sd : Int} {f : Int} {X : Nat → Nat → Int} {Y : Nat → Nat → Int} (S : S0 h) (ou : hK h 1272 = 1003 ∧ hN h 1272 = 1) (hz : 1272 ≤ hZ h) (Rp : R_pic (sZ h X) (sZ g Y)) (Rf : R_fil (sZ h X) (sZ g Y)) (Rn : R_num (sZ h X) (sZ g Y)) (Rd : R_dim (sZ g Y)) (t1 : ∀ i : Nat, i < 144 → 0 ≤ Y 1076 i ∧ Y 1076 i ≤ 1) (k7 : X 35 0 = 24 ∧ X 35 1 = 24) : Q_k_greys h g k sd f X Y (f73_0 1 k sd f 1272 (sZ h X)) (f872_0 k sd f (sZ g Y)) := sorry
