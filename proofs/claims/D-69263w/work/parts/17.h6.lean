set_option maxRecDepth 100000
set_option linter.unusedVariables false
set_option maxHeartbeats 200000
/-! PLAIN: sheets, the component's rows of bits and the twin's -/
theorem shl_1 {x : Int} {P : Nat} (hP : 2 ^ x.toNat = P) (a : 0 ≤ x) (b : x < 24) : z_shl 1 x = (P : Int) ∧ P ≤ 8388608 := sorry
theorem bit_i (n j : Nat) : ((n : Nat) : Int) / 2 ^ j % 2 = ((Nat.testBit n j).toNat : Int) := sorry
theorem dark_i {r x : Int} (a : 0 ≤ x) (b : x < 24) : z_and (z_shr r x) 1 = r / 2 ^ x.toNat % 2 := sorry
theorem or_bit {r x : Int} (r0 : 0 ≤ r) (r1 : r < 16777216) (a : 0 ≤ x) (b : x < 24) : (0 ≤ z_or r (z_shl 1 x) ∧ z_or r (z_shl 1 x) < 16777216) ∧ ∀ j, j < 24 → z_or r (z_shl 1 x) / 2 ^ j % 2 = if j = x.toNat then 1 else r / 2 ^ j % 2 := sorry
theorem clr_bit {r x : Int} (r0 : 0 ≤ r) (r1 : r < 16777216) (a : 0 ≤ x) (b : x < 24) : (0 ≤ z_and r (z_xor (z_shl 1 x) (-1)) ∧ z_and r (z_xor (z_shl 1 x) (-1)) < 16777216) ∧ ∀ j, j < 24 → z_and r (z_xor (z_shl 1 x) (-1)) / 2 ^ j % 2 = if j = x.toNat then 0 else r / 2 ^ j % 2 := sorry
def z_shs (h : z_M) : Prop := hK h 1 = 10 ∧ hP h 1 1 = 3 ∧ (hK h 3 = 1113 ∧ hN h 3 = 4) ∧ ∀ s, s < 4 → hP h 3 s = 127 + 2 * s ∧ hK h (127 + 2 * s) = 28 ∧ hP h (127 + 2 * s) 2 = 128 + 2 * s ∧ hK h (128 + 2 * s) = 1000 ∧ hN h (128 + 2 * s) = 24
theorem c_sheetAt {h : z_M} (S : z_shs h) (x : Int) : f167_0 1 x h = z_if (0 ≤ x ∧ x ≤ 3) (z_rr (127 + 2 * (Int.toNat x)) h) (z_ex (hZ h + 1) (sN h 2 6)) := sorry
def R_sh (hc ht : z_M) : Prop := ∀ s, s < 4 → (hI hc (127 + 2 * s) 0 = hI ht 1069 s ∧ hI hc (127 + 2 * s) 1 = hI ht 1070 s) ∧ (0 ≤ hI ht 1069 s ∧ hI ht 1069 s ≤ 24 ∧ 0 ≤ hI ht 1070 s ∧ hI ht 1070 s ≤ 24) ∧ (∀ y x : Nat, y < 24 → x < 24 → (hI ht 1069 s ≤ (x : Int) ∨ hI ht 1070 s ≤ (y : Int)) → hI ht 1071 (576 * s + 24 * y + x) = 0) ∧
  (0 < hI ht 1069 s → ∀ y, y < 24 → (0 ≤ hI hc (128 + 2 * s) y ∧ hI hc (128 + 2 * s) y < 16777216) ∧ ∀ x, x < 24 → hI hc (128 + 2 * s) y / 2 ^ x % 2 = hI ht 1071 (576 * s + 24 * y + x))
theorem sh_at {hc ht : z_M} (R : R_sh hc ht) {s x y j : Int} (hs : 0 ≤ s ∧ s ≤ 3) (a : 0 ≤ y ∧ y < 24) (b : 0 ≤ x ∧ x < 24) (e : j = 576 * s + 24 * y + x) (hw : 0 < hI ht 1069 (Int.toNat s)) : z_and (z_shr (hI hc (128 + 2 * (Int.toNat s)) (Int.toNat y)) x) 1 = hI ht 1071 (Int.toNat j) ∧ (hI ht 1071 (Int.toNat j) = 0 ∨ hI ht 1071 (Int.toNat j) = 1) ∧ (0 ≤ hI hc (128 + 2 * (Int.toNat s)) (Int.toNat y) ∧ hI hc (128 + 2 * (Int.toNat s)) (Int.toNat y) < 16777216) := sorry
theorem R_ink {hc ht : z_M} (R : R_sh hc ht) {s x y j v d : Int} (hs : 0 ≤ s ∧ s ≤ 3) (a : 0 ≤ y ∧ y < 24) (b : 0 ≤ x ∧ x < 24) (e : j = 576 * s + 24 * y + x) (hx : x < hI ht 1069 (Int.toNat s)) (hy : y < hI ht 1070 (Int.toNat s))
    (hv : (0 ≤ v ∧ v < 16777216) ∧ ∀ i, i < 24 → v / 2 ^ i % 2 = if i = Int.toNat x then d else hI hc (128 + 2 * (Int.toNat s)) (Int.toNat y) / 2 ^ i % 2) : R_sh (sI hc (128 + 2 * (Int.toNat s)) (Int.toNat y) v) (sI ht 1071 (Int.toNat j) d) := sorry
theorem R_sco {hc ht : z_M} (R : R_sh hc ht) {f : Nat} {v : Int} : R_sh hc (sI ht 1064 f v) := sorry
theorem R_slo {hc ht : z_M} (R : R_sh hc ht) {a i : Nat} {v : Int} : R_sh (sL hc a i v) ht := sorry
def z_sc0 (a : Nat) : Prop := 127 ≤ a ∧ a ≤ 134
def z_scell (a : Nat) : Prop := (127 ≤ a ∧ a ≤ 134) ∨ a = 1272
def z_sch (hc : z_M) (hc' ht' : z_M) : Prop := z_shs hc' ∧ R_sh hc' ht' ∧ z_fr z_scell 0 0 hc hc'
theorem frS {hc h1 : z_M} {v : Int} (p : z_fr z_sc0 0 0 hc h1) : z_fr z_scell 0 0 hc (sL h1 1272 0 v) := sorry
theorem out_frS {hc h1 : z_M} (O : z_out hc) (p : z_fr z_sc0 0 0 hc h1) : hK h1 1272 = 1003 ∧ hN h1 1272 = 1 := sorry
/-- a sheet begins -/
theorem c_sbegin {s : Nat} (hs : s < 4) {w g : Int} {h : z_M} (S : z_shs h) :
    f427_0 (127 + 2 * s) w g h = z_rv (sA (sI (sI h (127 + 2 * s) 0 w) (127 + 2 * s) 1 g) (128 + 2 * s) (fun j => if 0 ≤ j ∧ j < 0 + 24 then 0 else hI h (128 + 2 * s) j)) := sorry
theorem t_makeSheet {s : Nat} (hs : s < 4) {w g : Int} (h : z_M) :
    f951_0 (s : Int) w g h = z_rv (sA (sI (sI h 1069 s w) 1070 s g) 1071 (fun j => if 576 * s ≤ j ∧ j < 576 * s + 576 then 0 else hI h 1071 j)) := sorry
theorem R_sbegin {hc ht : z_M} (R : R_sh hc ht) {s : Nat} (hs : s < 4) {w g : Int} (hw : 0 ≤ w ∧ w ≤ 24 ∧ 0 ≤ g ∧ g ≤ 24) : R_sh (sA (sI (sI hc (127 + 2 * s) 0 w) (127 + 2 * s) 1 g) (128 + 2 * s) (fun j => if 0 ≤ j ∧ j < 0 + 24 then 0 else hI hc (128 + 2 * s) j))
    (sA (sI (sI ht 1069 s w) 1070 s g) 1071 (fun j => if 576 * s ≤ j ∧ j < 576 * s + 576 then 0 else hI ht 1071 j)) := sorry
theorem fr_sbegin {hc : z_M} {s : Nat} (hs : s < 4) {w g : Int} {f : Nat → Int} : z_fr z_scell 0 0 hc (sA (sI (sI hc (127 + 2 * s) 0 w) (127 + 2 * s) 1 g) (128 + 2 * s) f) := sorry
