set_option maxRecDepth 100000
set_option linter.unusedVariables false
set_option maxHeartbeats 200000
/-! THE CALL ungrey -/
def z_Wu (a i : Nat) : Prop := z_Wh a i ∨ (103 ≤ a ∧ a ≤ 126) ∨ (a = 1 ∧ 7 ≤ i ∧ i ≤ 9)
def z_Vu (a i : Nat) : Prop := z_Wg a i ∨ (1065 ≤ a ∧ a ≤ 1068) ∨ (a = 1064 ∧ i ≤ 3)
theorem pic_fr {h h' g g' : z_M} {X X' Y Y' : Nat → Nat → Int} (R : R_pic (sZ h X) (sZ g Y)) (fx : ∀ a i : Nat, 103 ≤ a → a ≤ 126 → X' a i = X a i) (fy : ∀ a i : Nat, 1065 ≤ a → a ≤ 1068 → Y' a i = Y a i) : R_pic (sZ h' X') (sZ g' Y') := sorry
theorem dim_fr {g g' : z_M} {Y Y' : Nat → Nat → Int} (R : R_dim (sZ g Y)) (fy : ∀ a i : Nat, (a = 1065 ∨ a = 1066) → Y' a i = Y a i) : R_dim (sZ g' Y') := sorry
theorem dim_new {g g' : z_M} {Y Y' : Nat → Nat → Int} {k : Nat} (R : R_dim (sZ g Y)) (fy : ∀ a i : Nat, (a = 1065 ∨ a = 1066) → ¬ i = k → Y' a i = Y a i) (h1 : 0 < Y' 1066 k) : R_dim (sZ g' Y') := sorry
/-- one picture is made anew -/
theorem pic_new {h h' g g' : z_M} {X X' Y Y' : Nat → Nat → Int} {k : Nat} {w q : Int} (hk : k < 8) (R : R_pic (sZ h X) (sZ g Y)) (hw : 0 ≤ w ∧ w ≤ 12) (hq : 0 ≤ q ∧ q ≤ 12)
    (fx : ∀ a i : Nat, 103 ≤ a → a ≤ 126 → ¬ (a = 103 + 3 * k ∨ a = 104 + 3 * k ∨ a = 105 + 3 * k) → X' a i = X a i) (fy : ∀ m i : Nat, ¬ m = k → m < 8 → i < 144 → Y' 1065 m = Y 1065 m ∧ Y' 1066 m = Y 1066 m ∧ Y' 1067 (144 * m + i) = Y 1067 (144 * m + i) ∧ Y' 1068 (144 * m + i) = Y 1068 (144 * m + i))
    (x0 : X' (103 + 3 * k) 0 = w) (x1 : X' (103 + 3 * k) 1 = q) (y0 : Y' 1065 k = w) (y1 : Y' 1066 k = q)
    (s : ∀ i, i < 144 → (X' (104 + 3 * k) i = Y' 1067 (144 * k + i) ∧ X' (105 + 3 * k) i = Y' 1068 (144 * k + i)) ∧ (0 ≤ Y' 1067 (144 * k + i) ∧ Y' 1067 (144 * k + i) ≤ 255) ∧ (Y' 1068 (144 * k + i) = 0 ∨ Y' 1068 (144 * k + i) = 1)) : R_pic (sZ h' X') (sZ g' Y') := sorry
def Q_k_ungrey (h g : z_M) (f : Int) (k : Int) (X : Nat → Nat → Int) (Y : Nat → Nat → Int) (x_ y_ : z_Z) : Prop := (∃ (v : Int) (h1 : z_M) (X1 : Nat → Nat → Int) (Y1 : Nat → Nat → Int), (x_ = z_ri 0 (sL (sZ h1 X1) 1272 0 v)) ∧ (y_ = z_ri v (sZ g Y1)) ∧ (S0 h1) ∧ (z_lw z_W37 h h1) ∧ (Y1 1064 0 = 0) ∧ (R_pic (sZ h X1) (sZ g Y1)) ∧ (R_num (sZ h X1) (sZ g Y1)) ∧ (R_dim (sZ g Y1)) ∧ (∀ i : Nat, i < 144 → 0 ≤ Y1 1076 i ∧ Y1 1076 i ≤ 1) ∧ (X1 35 0 = 24 ∧ X1 35 1 = 24) ∧ (z_iw z_Wu X X1) ∧ (z_iw z_Vu Y Y1)) ∨ (∃ (c : Int) (K : Nat), (x_ = z_ri c (sN (sZ h X) K 6)) ∧ (y_ = z_ri 0 (sI (sZ g Y) 1064 0 c)) ∧ (1 ≤ c))
set_option maxHeartbeats 4000000 in
theorem k_ungrey {h g : z_M} {f : Int} {k : Int} {X : Nat → Nat → Int} {Y : Nat → Nat → Int} (S : S0 h) (ou : hK h 1272 = 1003 ∧ hN h 1272 = 1) (hz : 1272 ≤ hZ h) (Rp : R_pic (sZ h X) (sZ g Y)) (Rf : R_fil (sZ h X) (sZ g Y)) (Rn : R_num (sZ h X) (sZ g Y)) (Rd : R_dim (sZ g Y)) (t1 : ∀ i : Nat, i < 144 → 0 ≤ Y 1076 i ∧ Y 1076 i ≤ 1) (k7 : X 35 0 = 24 ∧ X 35 1 = 24) : Q_k_ungrey h g f k X Y (f100_0 1 f k 1272 (sZ h X)) (f1023_0 f k (sZ g Y)) := sorry
