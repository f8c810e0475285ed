set_option maxRecDepth 100000
set_option linter.unusedVariables false
set_option maxHeartbeats 200000
/-! PLAIN: pictures, the component's and the twin's; how a call ends -/
def R_pic (hc ht : z_M) : Prop := ∀ k, k < 8 → (hI hc (103 + 3 * k) 0 = hI ht 1065 k ∧ hI hc (103 + 3 * k) 1 = hI ht 1066 k) ∧ (0 ≤ hI ht 1065 k ∧ hI ht 1065 k ≤ 12 ∧ 0 ≤ hI ht 1066 k ∧ hI ht 1066 k ≤ 12) ∧
  ∀ i, i < 144 → (hI hc (104 + 3 * k) i = hI ht 1067 (144 * k + i) ∧ hI hc (105 + 3 * k) i = hI ht 1068 (144 * k + i)) ∧ (0 ≤ hI ht 1067 (144 * k + i) ∧ hI ht 1067 (144 * k + i) ≤ 255) ∧ (hI ht 1068 (144 * k + i) = 0 ∨ hI ht 1068 (144 * k + i) = 1)
theorem pic_s {hc ht : z_M} (R : R_pic hc ht) {k i j : Int} (hk : 0 ≤ k ∧ k ≤ 7) (a : 0 ≤ i) (b : i < 144) (e : j = 144 * k + i) : hI hc (104 + 3 * (Int.toNat k)) (Int.toNat i) = hI ht 1067 (Int.toNat j) ∧ True ∧ (0 ≤ hI ht 1067 (Int.toNat j) ∧ hI ht 1067 (Int.toNat j) ≤ 255) := sorry
theorem pic_i {hc ht : z_M} (R : R_pic hc ht) {k i j : Int} (hk : 0 ≤ k ∧ k ≤ 7) (a : 0 ≤ i) (b : i < 144) (e : j = 144 * k + i) : hI hc (105 + 3 * (Int.toNat k)) (Int.toNat i) = hI ht 1068 (Int.toNat j) ∧ True ∧ (hI ht 1068 (Int.toNat j) = 0 ∨ hI ht 1068 (Int.toNat j) = 1) := sorry
theorem R_put {hc ht : z_M} (R : R_pic hc ht) {k i j v : Int} (hk : 0 ≤ k ∧ k ≤ 7) (a : 0 ≤ i) (b : i < 144) (e : j = 144 * k + i) (hv : 0 ≤ v ∧ v ≤ 255) : R_pic (sI hc (104 + 3 * (Int.toNat k)) (Int.toNat i) v) (sI ht 1067 (Int.toNat j) v) := sorry
theorem R_shp {hc ht : z_M} (R : R_pic hc ht) {k i j v : Int} (hk : 0 ≤ k ∧ k ≤ 7) (a : 0 ≤ i) (b : i < 144) (e : j = 144 * k + i) (hv : v = 0 ∨ v = 1) : R_pic (sI hc (105 + 3 * (Int.toNat k)) (Int.toNat i) v) (sI ht 1068 (Int.toNat j) v) := sorry
theorem R_code {hc ht : z_M} (R : R_pic hc ht) {f : Nat} {v : Int} : R_pic hc (sI ht 1064 f v) := sorry
theorem R_lout {hc ht : z_M} (R : R_pic hc ht) {a i : Nat} {v : Int} : R_pic (sL hc a i v) ht := sorry
/-- the law's own array -/
def z_out (h : z_M) : Prop := hK h 1272 = 1003 ∧ hN h 1272 = 1 ∧ 1272 ≤ hZ h
def z_pc0 (a : Nat) : Prop := 103 ≤ a ∧ a ≤ 126
def z_pcell (a : Nat) : Prop := (103 ≤ a ∧ a ≤ 126) ∨ a = 1272
/-- how a call ends: a number that is no 0, one cell for what was thrown, the twin's code; or 0, and more -/
def z_q (P : z_M → z_M → Prop) (hc ht : z_M) (rc : Int) (hc' ht' : z_M) : Prop := (¬ rc = 0 ∧ (∃ K, hc' = sN hc K 6) ∧ ht' = sI ht 1064 0 rc) ∨ (rc = 0 ∧ P hc' ht')
def z_cv (C D : z_Z) (Q : Int → z_M → z_M → Prop) : Prop := ∃ rc hc' ht', C = z_ri rc hc' ∧ D = z_rv ht' ∧ hI ht' 1064 0 = rc ∧ Q rc hc' ht'
def z_ci (C D : z_Z) (Q : Int → z_M → z_M → Prop) : Prop := ∃ rc hc' b ht', C = z_ri rc hc' ∧ D = z_ri b ht' ∧ hI ht' 1064 0 = rc ∧ (rc = 0 → hL hc' 1272 0 = b) ∧ Q rc hc' ht'
theorem cv_f {P : z_M → z_M → Prop} {hc ht : z_M} {C D : z_Z} (K : Nat) {c : Int} (n : ¬ c = 0) (e1 : C = z_ri c (sN hc K 6)) (e2 : D = z_rv (sI ht 1064 0 c)) : z_cv C D (z_q P hc ht) := sorry
theorem ci_f {P : z_M → z_M → Prop} {hc ht : z_M} {C D : z_Z} (K : Nat) {c b : Int} (n : ¬ c = 0) (e1 : C = z_ri c (sN hc K 6)) (e2 : D = z_ri b (sI ht 1064 0 c)) : z_ci C D (z_q P hc ht) := sorry
theorem cv_0 {P : z_M → z_M → Prop} {hc ht hc' ht' : z_M} {C D : z_Z} (e1 : C = z_ri 0 hc') (e2 : D = z_rv ht') (t : hI ht' 1064 0 = 0) (p : P hc' ht') : z_cv C D (z_q P hc ht) := sorry
theorem ci_0 {P : z_M → z_M → Prop} {hc ht h1 ht' : z_M} {v : Int} {C D : z_Z} (e1 : C = z_ri 0 (sL h1 1272 0 v)) (e2 : D = z_ri v ht') (t : hI ht' 1064 0 = 0) (p : P (sL h1 1272 0 v) ht') : z_ci C D (z_q P hc ht) := sorry
/-- nothing is changed but the law's array and the twin's code -/
def z_rd (hc ht : z_M) (hc' ht' : z_M) : Prop := (∃ v, hc' = sL hc 1272 0 v) ∧ ht' = sI ht 1064 0 0
/-- pictures are changed -/
def z_pch (hc : z_M) (hc' ht' : z_M) : Prop := z_shp hc' ∧ R_pic hc' ht' ∧ z_fr z_pcell 0 0 hc hc'
theorem frO {hc h1 : z_M} {v : Int} (p : z_fr z_pc0 0 0 hc h1) : z_fr z_pcell 0 0 hc (sL h1 1272 0 v) := sorry
theorem out_fr {hc h1 : z_M} (O : z_out hc) (p : z_fr z_pc0 0 0 hc h1) : hK h1 1272 = 1003 ∧ hN h1 1272 = 1 := sorry
theorem R_begin {hc ht : z_M} (R : R_pic hc ht) {k : Nat} (hk : k < 8) {w g v : Int} (hw : 0 ≤ w ∧ w ≤ 12 ∧ 0 ≤ g ∧ g ≤ 12) (hv : v = 0 ∨ v = 1) : R_pic (sA (sA (sI (sI hc (103 + 3 * k) 0 w) (103 + 3 * k) 1 g) (104 + 3 * k) (fun j => if 0 ≤ j ∧ j < 0 + 144 then 0 else hI hc (104 + 3 * k) j)) (105 + 3 * k) (fun j => if 0 ≤ j ∧ j < 0 + 144 then v else hI hc (105 + 3 * k) j))
    (sA (sA (sI (sI ht 1065 k w) 1066 k g) 1067 (fun j => if 144 * k ≤ j ∧ j < 144 * k + 144 then 0 else hI ht 1067 j)) 1068 (fun j => if 144 * k ≤ j ∧ j < 144 * k + 144 then v else hI ht 1068 j)) := sorry
theorem fr_begin {hc : z_M} {k : Nat} (hk : k < 8) {w g : Int} {f f' : Nat → Int} : z_fr z_pcell 0 0 hc (sA (sA (sI (sI hc (103 + 3 * k) 0 w) (103 + 3 * k) 1 g) (104 + 3 * k) f) (105 + 3 * k) f') := sorry
/-- a picture is copied -/
theorem fr_cpy {W : Nat → Prop} {s sp t dp n : Nat} {h : z_M} (hb : W t) : z_fr W 0 0 h (z_cpy h s sp t dp n) := sorry
theorem t_copy_l {k m : Nat} (hk : k < 8) (hm : m < 8) (h : z_M) (hv : ∀ i, i < 144 → hI h 1068 (144 * m + i) = 0 ∨ hI h 1068 (144 * m + i) = 1) :
    f807_56 (k : Int) (m : Int) 0 h = z_rv (sA (sA h 1067 (fun j => if 144 * k ≤ j ∧ j < 144 * k + 144 then hI h 1067 (144 * m + (j - 144 * k)) else hI h 1067 j)) 1068 (fun j => if 144 * k ≤ j ∧ j < 144 * k + 144 then hI h 1068 (144 * m + (j - 144 * k)) else hI h 1068 j)) := sorry
theorem R_copy {hc ht : z_M} (R : R_pic hc ht) {k m : Nat} (hk : k < 8) (hm : m < 8) : R_pic (z_cpy (z_cpy (sI (sI hc (103 + 3 * k) 0 (hI ht 1065 m)) (103 + 3 * k) 1 (hI ht 1066 m)) (104 + 3 * m) 0 (104 + 3 * k) 0 144) (105 + 3 * m) 0 (105 + 3 * k) 0 144)
    (sA (sA (sI (sI ht 1065 k (hI ht 1065 m)) 1066 k (hI ht 1066 m)) 1067 (fun j => if 144 * k ≤ j ∧ j < 144 * k + 144 then hI ht 1067 (144 * m + (j - 144 * k)) else hI ht 1067 j)) 1068 (fun j => if 144 * k ≤ j ∧ j < 144 * k + 144 then hI ht 1068 (144 * m + (j - 144 * k)) else hI ht 1068 j)) := sorry
theorem fr_copy {hc : z_M} {k a b : Nat} (hk : k < 8) {w g : Int} : z_fr z_pcell 0 0 hc (z_cpy (z_cpy (sI (sI hc (103 + 3 * k) 0 w) (103 + 3 * k) 1 g) a 0 (104 + 3 * k) 0 144) b 0 (105 + 3 * k) 0 144) := sorry
theorem shp_cpy {h : z_M} (S : z_shp h) {a b c d n : Nat} (hk : ∀ k, k < 8 → a ≠ 103 + 3 * k) (h2 : a ≠ 2) (h1 : a ≠ 1) : z_shp (z_cpy h b c a d n) := sorry
