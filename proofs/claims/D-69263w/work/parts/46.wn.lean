set_option maxRecDepth 100000
set_option linter.unusedVariables false
set_option maxHeartbeats 200000
/-! WAVES: made -/
def z_Wo (r a _ : Nat) : Prop := a = r
def Q_c_shn (h g : z_M) (r : Nat) (X : Nat → Nat → Int) (x_ : z_Z) : Prop := (∃ (h1 : z_M) (X1 : Nat → Nat → Int) (oa : Nat) (ob : Nat) (oc : Nat) (od : Nat) (oe : Nat), (x_ = z_rv (sZ h1 X1)) ∧ (S0 h1) ∧ (z_bx (z_Wo r) 5 1040 h h1) ∧ (hK h1 r = 14) ∧ (oa = hZ h + 1 ∧ ob = hZ h + 2 ∧ oc = hZ h + 3 ∧ od = hZ h + 4 ∧ oe = hZ h + 5 ∧ hZ h1 = hZ h + 5) ∧ (hK h1 oa = 1001 ∧ hN h1 oa = 256 ∧ hP h1 r 2 = oa) ∧ (hK h1 ob = 1000 ∧ hN h1 ob = 256 ∧ hP h1 r 3 = ob) ∧ (hK h1 oc = 1000 ∧ hN h1 oc = 256 ∧ hP h1 r 5 = oc) ∧ (hK h1 od = 1000 ∧ hN h1 od = 256 ∧ hP h1 r 6 = od) ∧ (hK h1 oe = 1000 ∧ hN h1 oe = 16 ∧ hP h1 r 7 = oe) ∧ (∀ a i : Nat, hZ h < a ∧ a ≤ hZ h + 5 → X1 a i = 0) ∧ (∀ a i : Nat, ¬ (a = oa ∨ a = ob ∨ a = oc ∨ a = od ∨ a = oe) → X1 a i = X a i))
set_option maxHeartbeats 4000000 in
theorem c_shn {h g : z_M} {r : Nat} {X : Nat → Nat → Int} (S : S0 h) (kr : hK h r = 14) (hz : 1272 ≤ hZ h ∧ hZ h ≤ 3000000000) (hr : 1064 ≤ r ∧ r ≤ hZ h) : Q_c_shn h g r X (f246_0 r (sZ h X)) := sorry
