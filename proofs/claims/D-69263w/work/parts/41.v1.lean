set_option maxRecDepth 100000
set_option linter.unusedVariables false
set_option maxHeartbeats 200000
/-! LOOPS THAT FILL -/
theorem mu_g {w q wq a b : Int} (hwq : w * q = wq) (hw : 1 ≤ w ∧ w ≤ a) (hq : 1 ≤ q ∧ q ≤ b) {m : Int} (e : a * b = m := by decide) : wq ≤ m := sorry
theorem dmu {A i i' j j' : Nat} (hi : i < A) (hi' : i' < A) (e : A * j + i = A * j' + i') : j = j' ∧ i = i' := sorry
theorem dmw {W i j n : Nat} (hi : i < W) (e : j * W + i = n) : n / W = j ∧ n % W = i := sorry
/-- over w times q cells, one array -/
theorem grid_fill {h : z_M} {F : Int → z_M → z_Z} {W Q A c : Nat} {X0 : Nat → Nat → Int} {val : Nat → Nat → Int} (hW : 0 < W) (hA : W ≤ A)
    (stp : ∀ (X : Nat → Nat → Int) (i j : Nat), (∀ a k, ¬ a = c → X a k = X0 a k) → i < W → j < Q → F ((j * W + i : Nat) : Int) (sZ h X) = F ((j * W + i + 1 : Nat) : Int) (sZ h (z_up X c (A * j + i) (val i j)))) :
    ∃ X1 : Nat → Nat → Int, F 0 (sZ h X0) = F ((W * Q : Nat) : Int) (sZ h X1) ∧ (∀ i j : Nat, i < W → j < Q → X1 c (A * j + i) = val i j) ∧ (∀ k, (∀ i j : Nat, i < W → j < Q → ¬ k = A * j + i) → X1 c k = X0 c k) ∧ ∀ a k, ¬ a = c → X1 a k = X0 a k := sorry
/-- over w times q cells, two arrays -/
theorem grid_fill2 {h : z_M} {F : Int → z_M → z_Z} {W Q A c d : Nat} {X0 : Nat → Nat → Int} {val vd : Nat → Nat → Int} (hW : 0 < W) (hA : W ≤ A) (hcd : ¬ c = d)
    (stp : ∀ (X : Nat → Nat → Int) (i j : Nat), (∀ a k, ¬ (a = c ∨ a = d) → X a k = X0 a k) → i < W → j < Q → F ((j * W + i : Nat) : Int) (sZ h X) = F ((j * W + i + 1 : Nat) : Int) (sZ h (z_up (z_up X c (A * j + i) (val i j)) d (A * j + i) (vd i j)))) :
    ∃ X1 : Nat → Nat → Int, F 0 (sZ h X0) = F ((W * Q : Nat) : Int) (sZ h X1) ∧ (∀ i j : Nat, i < W → j < Q → X1 c (A * j + i) = val i j ∧ X1 d (A * j + i) = vd i j) ∧ (∀ k, (∀ i j : Nat, i < W → j < Q → ¬ k = A * j + i) → X1 c k = X0 c k ∧ X1 d k = X0 d k) ∧ ∀ a k, ¬ (a = c ∨ a = d) → X1 a k = X0 a k := sorry
/-- along an array -/
theorem lin_fill {h : z_M} {F : Int → z_M → z_Z} {n b c : Nat} {X0 : Nat → Nat → Int} {val : Nat → Int}
    (stp : ∀ (X : Nat → Nat → Int) (i : Nat), (∀ a k, ¬ a = c → X a k = X0 a k) → (∀ k, ¬ (b ≤ k ∧ k < b + i) → X c k = X0 c k) → i < n → F (i : Int) (sZ h X) = F ((i + 1 : Nat) : Int) (sZ h (z_up X c (b + i) (val i)))) :
    ∃ X1 : Nat → Nat → Int, F 0 (sZ h X0) = F (n : Int) (sZ h X1) ∧ (∀ i : Nat, i < n → X1 c (b + i) = val i) ∧ (∀ k, ¬ (b ≤ k ∧ k < b + n) → X1 c k = X0 c k) ∧ ∀ a k, ¬ a = c → X1 a k = X0 a k := sorry
/-- along an array, with a counter -/
theorem lin_cnt {h : z_M} {F : Int → z_M → z_Z} {n b c d f : Nat} {o : Int} {X0 : Nat → Nat → Int} {val : Nat → Int} (hcd : ¬ c = d) (h0 : X0 d f = o)
    (stp : ∀ (X : Nat → Nat → Int) (i : Nat), (∀ a k, ¬ (a = c ∨ (a = d ∧ k = f)) → X a k = X0 a k) → X d f = o + (i : Int) → i < n → F (i : Int) (sZ h X) = F ((i + 1 : Nat) : Int) (sZ h (z_up (z_up X d f (o + ((i + 1 : Nat) : Int))) c (b + i) (val i)))) :
    ∃ X1 : Nat → Nat → Int, F 0 (sZ h X0) = F (n : Int) (sZ h X1) ∧ X1 d f = o + (n : Int) ∧ (∀ i : Nat, i < n → X1 c (b + i) = val i) ∧ (∀ k, ¬ (b ≤ k ∧ k < b + n) → X1 c k = X0 c k) ∧ ∀ a k, ¬ (a = c ∨ (a = d ∧ k = f)) → X1 a k = X0 a k := sorry
