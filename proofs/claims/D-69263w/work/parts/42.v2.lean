set_option maxRecDepth 100000
set_option linter.unusedVariables false
set_option maxHeartbeats 200000
/-! OTHER BASES -/
def z_bn (k n : Nat) (h h1 : z_M) (o : Nat) : Prop := (o = hZ h + 1 ∧ hZ h1 = o ∧ hS h1 = hS h + n) ∧ h1.1 o = (k, n) ∧ (∀ a, ¬ a = o → h1.1 a = h.1 a) ∧ (∀ i, hP h1 o i = 0) ∧ (∀ a i, ¬ a = o → hP h1 a i = hP h a i) ∧ (∀ i, hL h1 o i = 0) ∧ (∀ a i, ¬ a = o → hL h1 a i = hL h a i) ∧ h1.2.2.2.2.2.2 = h.2.2.2.2.2.2
theorem new_b {h : z_M} {X : Nat → Nat → Int} {k n : Nat} : ∃ (h1 : z_M) (X1 : Nat → Nat → Int) (o : Nat), sN (sZ h X) k n = sZ h1 X1 ∧ hZ (sZ h X) + 1 = o ∧ z_bn k n h h1 o ∧ (∀ i, X1 o i = 0) ∧ ∀ a i, ¬ a = o → X1 a i = X a i := sorry
theorem bnK {k n : Nat} {h h1 : z_M} {o a : Nat} (b : z_bn k n h h1 o) (q : ¬ a = o) : hK h1 a = hK h a := sorry
theorem bnN {k n : Nat} {h h1 : z_M} {o a : Nat} (b : z_bn k n h h1 o) (q : ¬ a = o) : hN h1 a = hN h a := sorry
theorem bnP {k n : Nat} {h h1 : z_M} {o a i : Nat} (b : z_bn k n h h1 o) (q : ¬ a = o) : hP h1 a i = hP h a i := sorry
theorem bnL {k n : Nat} {h h1 : z_M} {o a i : Nat} (b : z_bn k n h h1 o) (q : ¬ a = o) : hL h1 a i = hL h a i := sorry
theorem lap_b {a f p : Nat} (q : z_lap a f = some p) : a < 1064 := sorry
theorem ia_b {a : Nat} (q : z_ia a = true) : a < 1064 := sorry
theorem S0_bn {k n : Nat} {h h1 : z_M} {o : Nat} (S : S0 h) (b : z_bn k n h h1 o) (hz : 1063 ≤ hZ h) : S0 h1 := sorry
theorem S0_bp {h : z_M} {a f v : Nat} (S : S0 h) (q : z_lap a f = none) (w : z_ia a = false) : S0 (sP h a f v) := sorry
theorem S0_bd {h : z_M} {a f v : Nat} (S : S0 h) (q : 1064 ≤ a) : S0 (sP h a f v) := sorry
/-- what a run leaves of the base: kinds stay; references but those of W; longs; at most z cells and s slots more -/
def z_bx (W : Nat → Nat → Prop) (z s : Nat) (h h1 : z_M) : Prop := (∀ a, (a ≤ hZ h ∨ 4294967296 ≤ a) → h1.1 a = h.1 a ∧ (∀ i, ¬ W a i → hP h1 a i = hP h a i) ∧ ∀ i, hL h1 a i = hL h a i) ∧ (hZ h ≤ hZ h1 ∧ hZ h1 ≤ hZ h + z) ∧ hS h1 ≤ hS h + s ∧ h1.2.2.2.2.2.2 = h.2.2.2.2.2.2
theorem bx_rfl {W : Nat → Nat → Prop} {h : z_M} : z_bx W 0 0 h h := sorry
theorem bx_n {W : Nat → Nat → Prop} {z s k n : Nat} {h h1 h2 : z_M} {o : Nat} (p : z_bx W z s h h1) (b : z_bn k n h1 h2 o) (hz : hZ h1 < 4294967295) : z_bx W (z + 1) (s + n) h h2 := sorry
theorem bx_p {W : Nat → Nat → Prop} {z s a f v : Nat} {h h1 h2 : z_M} (p : z_bx W z s h h1) (e : h2 = sP h1 a f v) (w : W a f ∨ (hZ h < a ∧ a < 4294967296)) : z_bx W z s h h2 := sorry
theorem bx_tr {W : Nat → Nat → Prop} {z s z' s' : Nat} {h h1 h2 : z_M} (p : z_bx W z s h h1) (q : z_bx W z' s' h1 h2) : z_bx W (z + z') (s + s') h h2 := sorry
theorem bx_le {W : Nat → Nat → Prop} {z s z' s' : Nat} {h h1 : z_M} (p : z_bx W z s h h1) (a : z ≤ z') (b : s ≤ s') : z_bx W z' s' h h1 := sorry
theorem S0_bx {W : Nat → Nat → Prop} {z s : Nat} {h h1 : z_M} (S : S0 h) (p : z_bx W z s h h1) (hz : 1063 ≤ hZ h) (w : ∀ a i, W a i → z_lap a i = none ∧ z_ia a = false) : S0 h1 := sorry
theorem bxK {W : Nat → Nat → Prop} {z s a : Nat} {h h1 : z_M} (p : z_bx W z s h h1) (q : a ≤ hZ h) : hK h1 a = hK h a := sorry
theorem bxN {W : Nat → Nat → Prop} {z s a : Nat} {h h1 : z_M} (p : z_bx W z s h h1) (q : a ≤ hZ h) : hN h1 a = hN h a := sorry
theorem bxP {W : Nat → Nat → Prop} {z s a i : Nat} {h h1 : z_M} (p : z_bx W z s h h1) (q : a ≤ hZ h) (w : ¬ W a i) : hP h1 a i = hP h a i := sorry
theorem hK_bp {h h1 : z_M} {a f v r : Nat} (e : h1 = sP h a f v) : hK h1 r = hK h r := sorry
theorem hN_bp {h h1 : z_M} {a f v r : Nat} (e : h1 = sP h a f v) : hN h1 r = hN h r := sorry
theorem hZ_bp {h h1 : z_M} {a f v : Nat} (e : h1 = sP h a f v) : hZ h1 = hZ h := sorry
theorem hP_bp {h h1 : z_M} {a f v r i : Nat} (e : h1 = sP h a f v) (n : ¬ (r = a ∧ i = f)) : hP h1 r i = hP h r i := sorry
theorem sZ_bp {h h1 : z_M} {X : Nat → Nat → Int} {a f v : Nat} (e : h1 = sP h a f v) : sP (sZ h X) a f v = sZ h1 X := sorry
