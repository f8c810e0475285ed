set_option maxRecDepth 100000
set_option linter.unusedVariables false
set_option maxHeartbeats 200000
/-! THE HOUSE IN THE NEW WAY -/
def R_sdm (ht : z_M) : Prop := ∀ s, s < 4 → 0 < hI ht 1069 s → 0 < hI ht 1070 s
theorem shp_S {h : z_M} {X : Nat → Nat → Int} (S : S0 h) (hz : 1063 ≤ hZ h) : z_shp (sZ h X) := sorry
theorem shf_S {h : z_M} {X : Nat → Nat → Int} (S : S0 h) : z_shf (sZ h X) := sorry
theorem shs_S {h : z_M} {X : Nat → Nat → Int} (S : S0 h) : z_shs (sZ h X) := sorry
theorem c_pict {h : z_M} {X : Nat → Nat → Int} {k : Int} {r : Nat} (S : S0 h) (hz : 1272 ≤ hZ h) (e : r = 103 + 3 * Int.toNat k) : f158_0 1 k (sZ h X) = z_if (0 ≤ k ∧ k ≤ 7) (z_rr r (sZ h X)) (z_ex (hZ (sZ h X) + 1) (sN (sZ h X) 2 6)) := sorry
theorem c_fict {h : z_M} {X : Nat → Nat → Int} {k : Int} {r : Nat} (S : S0 h) (e : r = 135 + 2 * Int.toNat k) : f128_0 1 k (sZ h X) = z_if (0 ≤ k ∧ k ≤ 11) (z_rr r (sZ h X)) (z_ex (hZ (sZ h X) + 1) (sN (sZ h X) 2 6)) := sorry
theorem c_shct {h : z_M} {X : Nat → Nat → Int} {k : Int} {r : Nat} (S : S0 h) (e : r = 127 + 2 * Int.toNat k) : f167_0 1 k (sZ h X) = z_if (0 ≤ k ∧ k ≤ 3) (z_rr r (sZ h X)) (z_ex (hZ (sZ h X) + 1) (sN (sZ h X) 2 6)) := sorry
theorem s_pic {h : z_M} {k : Int} {r1 r2 r3 : Nat} (S : S0 h) (hz : 1272 ≤ hZ h) (e1 : r1 = 103 + 3 * Int.toNat k) (e2 : r2 = 104 + 3 * Int.toNat k) (e3 : r3 = 105 + 3 * Int.toNat k) (hk : 0 ≤ k ∧ k ≤ 7) : hK h r1 = 11 ∧ (hK h r2 = 1000 ∧ hN h r2 = 144) ∧ (hK h r3 = 1001 ∧ hN h r3 = 144) ∧ (hP h r1 2 = r2 ∧ hP h r1 3 = r3) := sorry
theorem s_fil {h : z_M} {k : Int} {r8 r9 : Nat} (S : S0 h) (e1 : r8 = 135 + 2 * Int.toNat k) (e2 : r9 = 136 + 2 * Int.toNat k) (hk : 0 ≤ k ∧ k ≤ 11) : hK h r8 = 29 ∧ (hK h r9 = 1002 ∧ hN h r9 = 1500) ∧ hP h r8 0 = r9 := sorry
theorem s_she {h : z_M} {k : Int} {r5 r6 : Nat} (S : S0 h) (e1 : r5 = 127 + 2 * Int.toNat k) (e2 : r6 = 128 + 2 * Int.toNat k) (hk : 0 ≤ k ∧ k ≤ 3) : hK h r5 = 28 ∧ (hK h r6 = 1000 ∧ hN h r6 = 24) ∧ hP h r5 2 = r6 := sorry
theorem ia_fil {k : Nat} (hk : k < 12) : z_ia (136 + 2 * k) = true := sorry
theorem z_ixe {W : Nat → Nat → Prop} {h h' : z_M} (p : z_ix W h h') : h' = sZ h (hI h') := sorry
theorem fil_fr {h h' g g' : z_M} {X X' Y Y' : Nat → Nat → Int} (R : R_fil (sZ h X) (sZ g Y)) (fx : ∀ a i : Nat, 135 ≤ a → a ≤ 158 → X' a i = X a i) (fy : ∀ a i : Nat, (a = 1072 ∨ a = 1073) → Y' a i = Y a i) : R_fil (sZ h' X') (sZ g' Y') := sorry
def Q_p_kp (h g : z_M) (f : Int) (r8 : Nat) (r9 : Nat) (X : Nat → Nat → Int) (Y : Nat → Nat → Int) (x_ y_ : z_Z) : Prop := (∃ (v : Int) (X1 : Nat → Nat → Int) (Y1 : Nat → Nat → Int), (x_ = z_ri v (sZ h X1)) ∧ (y_ = z_ri v (sZ g Y1)) ∧ (R_fil (sZ h X1) (sZ g Y1)) ∧ (∀ a i : Nat, ¬ (a = r8 ∨ a = r9) → X1 a i = X a i) ∧ (∀ a i : Nat, ¬ (a = 1072 ∨ a = 1073) → Y1 a i = Y a i))
theorem p_kp {h g : z_M} {f : Int} {r8 : Nat} {r9 : Nat} {X : Nat → Nat → Int} {Y : Nat → Nat → Int} (S : S0 h) (hf : 0 ≤ f ∧ f ≤ 11) (e8 : r8 = 135 + 2 * Int.toNat f) (e9 : r9 = 136 + 2 * Int.toNat f) (M : R_md (sZ h X) (sZ g Y)) (Rf : R_fil (sZ h X) (sZ g Y)) : Q_p_kp h g f r8 r9 X Y (f143_0 1 r8 (sZ h X)) (f982_0 f (sZ g Y)) := sorry
