set_option maxRecDepth 100000
set_option linter.unusedVariables false
set_option maxHeartbeats 200000
/-! SHARES -/
theorem c_shar {h : z_M} {X : Nat → Nat → Int} {k : Int} {r : Nat} (S : S0 h) (e : r = 71 + 4 * Int.toNat k) : f413_0 68 k (sZ h X) = z_if (0 ≤ k ∧ k ≤ 7) (z_rr r (sZ h X)) (z_ex (hZ (sZ h X) + 1) (sN (sZ h X) 2 6)) := sorry
theorem s_shr {h : z_M} {k : Int} {r n : Nat} (S : S0 h) (e : r = 71 + 4 * Int.toNat k) (e2 : n = 72 + 4 * Int.toNat k) (hk : 0 ≤ k ∧ k ≤ 7) : hK h r = 27 ∧ hK h n = 0 ∧ hP h r 1 = n := sorry
theorem t_isShare (k : Int) (m : z_M) : f752_0 k m = z_ri (z_bi (0 ≤ k ∧ k ≤ 7)) m := sorry
def R_bs (hc ht : z_M) : Prop := hI hc 68 3 = hI ht 1064 356 ∧ ∀ k, k < 8 → hI hc (71 + 4 * k) 0 = (k : Int)
def Q_k_stop (h g : z_M) (k : Int) (X : Nat → Nat → Int) (Y : Nat → Nat → Int) (x_ y_ : z_Z) : Prop := (∃ (v : Int) (X1 : Nat → Nat → Int) (Y1 : Nat → Nat → Int), (x_ = z_ri 0 (sL (sZ h X1) 1272 0 v)) ∧ (y_ = z_ri v (sZ g Y1)) ∧ (Y1 1064 0 = 0) ∧ (R_bs (sZ h X1) (sZ g Y1)) ∧ (∀ a i : Nat, ¬ ((a = 68 ∧ i = 3)) → X1 a i = X a i) ∧ (∀ a i : Nat, ¬ ((a = 1064 ∧ i = 0) ∨ (a = 1064 ∧ i = 342) ∨ (a = 1064 ∧ i = 356)) → Y1 a i = Y a i)) ∨ (∃ (c : Int) (K : Nat), (x_ = z_ri c (sN (sZ h X) K 6)) ∧ (y_ = z_ri 0 (sI (sI (sZ g Y) 1064 342 c) 1064 0 c)) ∧ (1 ≤ c))
set_option maxHeartbeats 4000000 in
theorem k_stop {h g : z_M} {k : Int} {X : Nat → Nat → Int} {Y : Nat → Nat → Int} (S : S0 h) (ou : hK h 1272 = 1003 ∧ hN h 1272 = 1) (Rb : R_bs (sZ h X) (sZ g Y)) : Q_k_stop h g k X Y (f93_0 1 k 1272 (sZ h X)) (f975_0 k (sZ g Y)) := sorry
