set_option maxRecDepth 100000
set_option linter.unusedVariables false
set_option maxHeartbeats 200000
/-! PLAIN 3: choices pushed through; what is thrown; pictures -/
theorem kv_if {p : Prop} {x y : z_Z} {f : z_M → z_Z} {g : Nat → z_M → z_Z} : z_kv (z_if p x y) f g = z_if p (z_kv x f g) (z_kv y f g) := sorry
theorem ki_if {p : Prop} {x y : z_Z} {f : Int → z_M → z_Z} {g : Nat → z_M → z_Z} : z_ki (z_if p x y) f g = z_if p (z_ki x f g) (z_ki y f g) := sorry
theorem kj_if {p : Prop} {x y : z_Z} {f : Int → z_M → z_Z} {g : Nat → z_M → z_Z} : z_kj (z_if p x y) f g = z_if p (z_kj x f g) (z_kj y f g) := sorry
theorem kr_if {p : Prop} {x y : z_Z} {f : Nat → z_M → z_Z} {g : Nat → z_M → z_Z} : z_kr (z_if p x y) f g = z_if p (z_kr x f g) (z_kr y f g) := sorry
/-- a choice, each way under what it knows -/
theorem if_cg {p q : Prop} {x x' y y' : z_Z} (e : p ↔ q) (a : p → x = x') (b : ¬ p → y = y') : z_if p x y = z_if q x' y' := sorry
theorem isk_new {h : z_M} {k n : Nat} {cs : List Nat} (q : z_has cs k = true) : z_isk (hZ h + 1) (sN h k n) cs := sorry
theorem x_rt {h : z_M} {k n : Nat} (q : z_has [2, 3, 5, 6, 7, 54, 63, 64, 65, 66, 67, 68, 69, 70, 76] k = true) : f26_0 (hZ h + 1) (sN h k n) = z_rv (sN h k n) := sorry
theorem c_wantIndex (p : Prop) (h : z_M) : f195_0 (z_bi p) h = z_if p (z_rv h) (z_ex (hZ h + 1) (sN h 2 6)) := sorry
theorem c_allow (p : Prop) (h : z_M) : f110_0 (z_bi p) h = z_if p (z_rv h) (z_ex (hZ h + 1) (sN h 6 6)) := sorry
theorem c_want (p : Prop) (h : z_M) : f194_0 (z_bi p) h = z_if p (z_rv h) (z_ex (hZ h + 1) (sN h 5 6)) := sorry
theorem c_wantRoom (p : Prop) (h : z_M) : f196_0 (z_bi p) h = z_if p (z_rv h) (z_ex (hZ h + 1) (sN h 7 6)) := sorry
theorem c_wantIndex1 (h : z_M) : f195_0 1 h = z_rv h := sorry
theorem c_wantIndex0 (h : z_M) : f195_0 0 h = z_ex (hZ h + 1) (sN h 2 6) := sorry
theorem c_allow1 (h : z_M) : f110_0 1 h = z_rv h := sorry
theorem c_allow0 (h : z_M) : f110_0 0 h = z_ex (hZ h + 1) (sN h 6 6) := sorry
theorem c_want1 (h : z_M) : f194_0 1 h = z_rv h := sorry
theorem c_want0 (h : z_M) : f194_0 0 h = z_ex (hZ h + 1) (sN h 5 6) := sorry
theorem c_wantRoom1 (h : z_M) : f196_0 1 h = z_rv h := sorry
theorem c_wantRoom0 (h : z_M) : f196_0 0 h = z_ex (hZ h + 1) (sN h 7 6) := sorry
/-- the pictures' cells -/
def z_shp (h : z_M) : Prop := (hK h 1 = 10 ∧ 1063 ≤ hZ h) ∧ hP h 1 0 = 2 ∧ (hK h 2 = 1112 ∧ hN h 2 = 8) ∧ ∀ k, k < 8 → hP h 2 k = 103 + 3 * k ∧ hK h (103 + 3 * k) = 11 ∧ (hP h (103 + 3 * k) 2 = 104 + 3 * k ∧ hP h (103 + 3 * k) 3 = 105 + 3 * k) ∧ (hK h (104 + 3 * k) = 1000 ∧ hN h (104 + 3 * k) = 144) ∧ (hK h (105 + 3 * k) = 1001 ∧ hN h (105 + 3 * k) = 144)
theorem isk_1 {a k : Nat} {h : z_M} {cs : List Nat} (e : hK h a = k) (q : z_has cs k = true) : z_isk a h cs := sorry
theorem c_pictureAt {h : z_M} (S : z_shp h) (x : Int) : f158_0 1 x h = z_if (0 ≤ x ∧ x ≤ 7) (z_rr (103 + 3 * x.toNat) h) (z_ex (hZ h + 1) (sN h 2 6)) := sorry
