set_option maxRecDepth 100000
set_option linter.unusedVariables false
set_option maxHeartbeats 200000
/-! PLAIN, LINES: numbers; ints alone are changed; what is foretold; how many bits; what is learnt -/
theorem m_max (a b : Int) (h : z_M) : f1_0 a b h = z_ri (max a b) h := sorry
theorem m_min (a b : Int) (h : z_M) : f2_0 a b h = z_ri (min a b) h := sorry
theorem m_abs {a : Int} (h : z_M) (ha : -1000000 ≤ a ∧ a ≤ 1000000) : f0_0 a h = z_ri (if 0 ≤ a then a else - a) h := sorry
/-- ints of W alone are changed -/
def z_ix (W : Nat → Nat → Prop) (h h' : z_M) : Prop := (h'.1 = h.1 ∧ h'.2.2 = h.2.2) ∧ ∀ a i, ¬ W a i → hI h' a i = hI h a i
theorem ix_rfl {W : Nat → Nat → Prop} {h : z_M} : z_ix W h h := sorry
theorem ix_tr {W : Nat → Nat → Prop} {h h1 h2 : z_M} (p : z_ix W h h1) (q : z_ix W h1 h2) : z_ix W h h2 := sorry
theorem ix_sI {W : Nat → Nat → Prop} {h : z_M} {a i : Nat} {v : Int} (w : W a i) : z_ix W h (sI h a i v) := sorry
theorem ix_to {W : Nat → Nat → Prop} {h h1 : z_M} {a i : Nat} {v : Int} (p : z_ix W h h1) (w : W a i) : z_ix W h (sI h1 a i v) := sorry
theorem ix_le {W V : Nat → Nat → Prop} {h h' : z_M} (p : z_ix W h h') (w : ∀ a i, W a i → V a i) : z_ix V h h' := sorry
theorem ix_K {W : Nat → Nat → Prop} {h h' : z_M} (p : z_ix W h h') (a : Nat) : hK h' a = hK h a := sorry
theorem ix_N {W : Nat → Nat → Prop} {h h' : z_M} (p : z_ix W h h') (a : Nat) : hN h' a = hN h a := sorry
theorem ix_P {W : Nat → Nat → Prop} {h h' : z_M} (p : z_ix W h h') (a i : Nat) : hP h' a i = hP h a i := sorry
theorem ix_Z {W : Nat → Nat → Prop} {h h' : z_M} (p : z_ix W h h') : hZ h' = hZ h := sorry
theorem ix_S {W : Nat → Nat → Prop} {h h' : z_M} (p : z_ix W h h') : hS h' = hS h := sorry
/-! foretelling -/
def z_fore (a b c : Int) : Int := if max a b ≤ c then min a b else if c ≤ min a b then max a b else a + b - c
theorem c_fore {a b c : Int} (ha : 0 ≤ a ∧ a ≤ 255) (hb : 0 ≤ b ∧ b ≤ 255) (hc : 0 ≤ c ∧ c ≤ 255) (h : z_M) : f1070_84 b a c h = z_ri (z_fore a b c) h := sorry
theorem t_fore {a b c : Int} (ha : 0 ≤ a ∧ a ≤ 255) (hb : 0 ≤ b ∧ b ≤ 255) (hc : 0 ≤ c ∧ c ≤ 255) (h : z_M) : f916_91 b a c h = z_ri (z_fore a b c) h := sorry
theorem fore_r {a b c : Int} (ha : 0 ≤ a ∧ a ≤ 255) (hb : 0 ≤ b ∧ b ≤ 255) (hc : 0 ≤ c ∧ c ≤ 255) : 0 ≤ z_fore a b c ∧ z_fore a b c ≤ 255 := sorry
/-- what a context was told, and the twin's: columns below w, rows from fst on, before row y, and in row y before column X -/
def R_td (d : Nat) (m fst y X w : Int) (hc ht : z_M) : Prop := ∀ a b i j : Int, (0 ≤ a ∧ a < w) → (fst ≤ b ∧ b ≤ 11) → (b < y ∨ (b = y ∧ a < X)) → i = (12 * b) + a → j = ((144 * m) + (12 * b)) + a → hI hc d (Int.toNat i) = hI ht 1110 (Int.toNat j) ∧ 0 ≤ hI ht 1110 (Int.toNat j) ∧ hI ht 1110 (Int.toNat j) ≤ 255
theorem p_fore {hc ht : z_M} {c d : Nat} {m x y w : Int} (kc : hK hc c = 53) (pd : hP hc c 0 = d) (kd : hK hc d = 1000) (nd : hN hc d = 144) (hm : 0 ≤ m ∧ m ≤ 3) (hx : 0 ≤ x ∧ x ≤ 11) (hy : 0 ≤ y ∧ y ≤ 11) (hw : x < w) (R : R_td d m (hI ht 1064 99) y x w hc ht) (e1 : hI hc c 1 = hI ht 1064 99) (e2 : 0 ≤ hI ht 1064 99 ∧ hI ht 1064 99 ≤ y) :
    ∃ v, f1070_0 c x y hc = z_ri v hc ∧ f916_0 m x y ht = z_ri v ht ∧ 0 ≤ v ∧ v ≤ 255 := sorry
