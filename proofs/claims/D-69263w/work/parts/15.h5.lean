set_option maxRecDepth 100000
set_option linter.unusedVariables false
set_option maxHeartbeats 200000
/-! PLAIN: files, the component's and the twin's -/
def z_shf (h : z_M) : Prop := hK h 1 = 10 ∧ hP h 1 2 = 4 ∧ (hK h 4 = 1104 ∧ hN h 4 = 12) ∧ ∀ f, f < 12 → hP h 4 f = 135 + 2 * f ∧ hK h (135 + 2 * f) = 29 ∧ hP h (135 + 2 * f) 0 = 136 + 2 * f ∧ hK h (136 + 2 * f) = 1002 ∧ hN h (136 + 2 * f) = 1500
theorem c_fileAt {h : z_M} (S : z_shf h) (x : Int) : f128_0 1 x h = z_if (0 ≤ x ∧ x ≤ 11) (z_rr (135 + 2 * (Int.toNat x)) h) (z_ex (hZ h + 1) (sN h 2 6)) := sorry
def R_fil (hc ht : z_M) : Prop := ∀ f, f < 12 → hI hc (135 + 2 * f) 1 = hI ht 1072 f ∧ (0 ≤ hI ht 1072 f ∧ hI ht 1072 f ≤ 1500) ∧ ∀ i, i < 1500 → hI hc (136 + 2 * f) i % 256 = hI ht 1073 (1500 * f + i)
theorem file_b {hc ht : z_M} (R : R_fil hc ht) {f i j : Int} (hf : 0 ≤ f ∧ f ≤ 11) (a : 0 ≤ i) (b : i < 1500) (e : j = 1500 * f + i) : z_and (hI hc (136 + 2 * (Int.toNat f)) (Int.toNat i)) 255 = hI ht 1073 (Int.toNat j) := sorry
theorem R_alter {hc ht : z_M} (R : R_fil hc ht) {f i j b : Int} (hf : 0 ≤ f ∧ f ≤ 11) (a0 : 0 ≤ i) (a1 : i < 1500) (e : j = 1500 * f + i) (hb : 0 ≤ b ∧ b ≤ 255) : R_fil (sI hc (136 + 2 * (Int.toNat f)) (Int.toNat i) (z_i8 (z_i8 b))) (sI ht 1073 (Int.toNat j) b) := sorry
theorem R_size {hc ht : z_M} (R : R_fil hc ht) {f v : Int} (hf : 0 ≤ f ∧ f ≤ 11) (a0 : 0 ≤ v) (a1 : v ≤ 1500) : R_fil (sI hc (135 + 2 * (Int.toNat f)) 1 v) (sI ht 1072 (Int.toNat f) v) := sorry
theorem R_feed {hc ht : z_M} (R : R_fil hc ht) {f b s j : Int} (hf : 0 ≤ f ∧ f ≤ 11) (hs : 0 ≤ s ∧ s < 1500) (hb : 0 ≤ b ∧ b ≤ 255) (e : j = 1500 * f + s) : R_fil (sI (sI hc (135 + 2 * (Int.toNat f)) 1 (s + 1)) (136 + 2 * (Int.toNat f)) (Int.toNat s) (z_i8 (z_i8 b))) (sI (sI ht 1073 (Int.toNat j) b) 1072 (Int.toNat f) (s + 1)) := sorry
theorem R_flo {hc ht : z_M} (R : R_fil hc ht) {a i : Nat} {v : Int} : R_fil (sL hc a i v) ht := sorry
theorem R_fco {hc ht : z_M} (R : R_fil hc ht) {f : Nat} {v : Int} : R_fil hc (sI ht 1064 f v) := sorry
def z_fc0 (a : Nat) : Prop := 135 ≤ a ∧ a ≤ 158
def z_fcell (a : Nat) : Prop := (135 ≤ a ∧ a ≤ 158) ∨ a = 1272
def z_fch (hc : z_M) (hc' ht' : z_M) : Prop := z_shf hc' ∧ R_fil hc' ht' ∧ z_fr z_fcell 0 0 hc hc'
theorem frF {hc h1 : z_M} {v : Int} (p : z_fr z_fc0 0 0 hc h1) : z_fr z_fcell 0 0 hc (sL h1 1272 0 v) := sorry
/-- the faults and the work done -/
def R_num (hc ht : z_M) : Prop := hI hc 1 8 = hI ht 1064 2 ∧ hI hc 1 9 = hI ht 1064 3 ∧ hI hc 1 7 = hI ht 1064 1 ∧ 0 ≤ hI ht 1064 1 ∧ hI ht 1064 1 ≤ 300
