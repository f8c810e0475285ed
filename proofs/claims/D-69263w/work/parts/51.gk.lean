set_option maxRecDepth 100000
set_option linter.unusedVariables false
set_option maxHeartbeats 200000
/-! GREYS: reading, the head -/
def Q_c_cnt (h g : z_M) (w : Int) (q : Int) (wq : Int) (X : Nat → Nat → Int) (x_ : z_Z) : Prop := ((x_ = f349_65 52 wq (sZ h X)) ∧ (0 ≤ wq ∧ wq ≤ 144))
set_option maxHeartbeats 4000000 in
theorem c_cnt {h g : z_M} {w : Int} {q : Int} {wq : Int} {X : Nat → Nat → Int} (S : S0 h) (c1 : X 35 5 = w) (c2 : X 35 6 = q) (c3 : 1 ≤ w ∧ w ≤ 12) (c4 : 1 ≤ q ∧ q ≤ 12) (c5 : X 35 15 = 0) (hwq : w * q = wq) : ∀ (nu : Nat) (x : Int) (y : Int), (wq - x).toNat = nu → (0 ≤ x ∧ x ≤ wq) → (y = x) → Q_c_cnt h g w q wq X (f349_4 52 y x (sZ h X)) := sorry
def R_k1 (x : Int) (X0 : Nat → Nat → Int) (X : Nat → Nat → Int) (Y : Nat → Nat → Int) : Prop := (∀ i : Nat, (i : Int) < x → X 55 i = 0) ∧ (z_iw (fun a _ => a = 55) X0 X)
def R_k2 (x : Int) (Y0 : Nat → Nat → Int) (X : Nat → Nat → Int) (Y : Nat → Nat → Int) : Prop := (∀ i : Nat, (i : Int) < x → Y 1075 i = 0) ∧ (z_iw (fun a _ => a = 1075) Y0 Y)
def Q_ck_1 (h g : z_M) (X0 : Nat → Nat → Int) (y : Int) (x_ : z_Z) : Prop := (∃ (X1 : Nat → Nat → Int), (x_ = f349_89 52 y (sZ h X1)) ∧ (R_k1 256 X0 X1 X1))
set_option maxHeartbeats 4000000 in
theorem ck_1 {h g : z_M} {X0 : Nat → Nat → Int} {y : Int} (S : S0 h) : ∀ (nu : Nat) (x : Int) (X : Nat → Nat → Int), (256 - x).toNat = nu → (0 ≤ x ∧ x ≤ 256) → R_k1 x X0 X X → Q_ck_1 h g X0 y (f349_67 52 y x (sZ h X)) := sorry
def Q_tk_1 (h g : z_M) (Y0 : Nat → Nat → Int) (x1 : Int) (x2 : Int) (y_ : z_Z) : Prop := (∃ (Y1 : Nat → Nat → Int), (y_ = f1023_180 x1 x2 (sZ g Y1)) ∧ (R_k2 144 Y0 Y1 Y1))
set_option maxHeartbeats 4000000 in
theorem tk_1 {h g : z_M} {Y0 : Nat → Nat → Int} {x1 : Int} {x2 : Int} : ∀ (nu : Nat) (x : Int) (Y : Nat → Nat → Int), (144 - x).toNat = nu → (0 ≤ x ∧ x ≤ 144) → R_k2 x Y0 Y Y → Q_tk_1 h g Y0 x1 x2 (f1023_158 x1 x2 x (sZ g Y)) := sorry
