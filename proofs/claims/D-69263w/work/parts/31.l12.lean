set_option maxRecDepth 100000
set_option linter.unusedVariables false
set_option maxHeartbeats 200000
/-! PLAIN, LINES: a scan is written -/
/-- ints of V alone are changed of what was there; at most z cells are new, with s slots -/
def z_fi (V : Nat → Nat → Prop) (z s : Nat) (h h' : z_M) : Prop := (∀ a, (a ≤ hZ h ∨ 4294967296 ≤ a) → (h'.1 a = h.1 a ∧ h'.2.2.1 a = h.2.2.1 a ∧ h'.2.2.2.1 a = h.2.2.2.1 a) ∧ ∀ i, ¬ V a i → hI h' a i = hI h a i) ∧ (hX h' = hX h ∧ hG h' = hG h ∧ hW h' = hW h) ∧ hZ h ≤ hZ h' ∧ hZ h' ≤ hZ h + z ∧ hS h' ≤ hS h + s
theorem fi_tr {V : Nat → Nat → Prop} {z z' s s' : Nat} {h h1 h2 : z_M} (p : z_fi V z s h h1) (q : z_fi V z' s' h1 h2) : z_fi V (z + z') (s + s') h h2 := sorry
theorem fi_le {V U : Nat → Nat → Prop} {z z' s s' : Nat} {h h' : z_M} (p : z_fi V z s h h') (w : ∀ a i, V a i → (a ≤ hZ h ∨ 4294967296 ≤ a) → U a i) (hz : z ≤ z') (hs : s ≤ s') : z_fi U z' s' h h' := sorry
theorem fi_fr {V : Nat → Nat → Prop} {z s : Nat} {h h' : z_M} (p : z_fr (fun _ => False) z s h h') : z_fi V z s h h' := sorry
theorem fi_ix {V : Nat → Nat → Prop} {h h' : z_M} (p : z_ix V h h') : z_fi V 0 0 h h' := sorry
theorem fi_rfl {V : Nat → Nat → Prop} {h : z_M} : z_fi V 0 0 h h := sorry
theorem fi_K {V : Nat → Nat → Prop} {z s : Nat} {h h' : z_M} (p : z_fi V z s h h') {a : Nat} (ha : a ≤ hZ h) : hK h' a = hK h a := sorry
theorem fi_N {V : Nat → Nat → Prop} {z s : Nat} {h h' : z_M} (p : z_fi V z s h h') {a : Nat} (ha : a ≤ hZ h) : hN h' a = hN h a := sorry
theorem fi_P {V : Nat → Nat → Prop} {z s : Nat} {h h' : z_M} (p : z_fi V z s h h') {a : Nat} (i : Nat) (ha : a ≤ hZ h) : hP h' a i = hP h a i := sorry
theorem fi_I {V : Nat → Nat → Prop} {z s : Nat} {h h' : z_M} (p : z_fi V z s h h') {a i : Nat} (ha : a ≤ hZ h) (n : ¬ V a i) : hI h' a i = hI h a i := sorry
theorem p_s1 {F W P AL : Nat} {co : Nat → Nat} {k n a m e tr nr : Int} (he : e = a + m) (hb : 0 ≤ a ∧ 1 ≤ m ∧ e ≤ 4) : ∀ (q : Nat) (j : Int) (hc ht : z_M), S_fr F W hc → R_wr F W hc ht → z_hdk F W P AL co k n hc ht → j + q = e → a ≤ j → hI ht 1064 60 + 2 * q ≤ 5900 →
    ∃ hc' ht', f543_40 F nr a m tr j hc = f543_90 F nr a m tr hc' ∧ f938_25 a e tr j ht = f938_67 a e tr ht' ∧ S_fr F W hc' ∧ R_wr F W hc' ht' ∧ z_ix (z_pfw F W) hc hc' ∧ z_ix z_pt ht ht' ∧ hI ht' 1064 60 = hI ht 1064 60 + 2 * q := sorry
theorem p_s0 {F W P AL : Nat} {co : Nat → Nat} {k n a m e tr nr : Int} {hc ht : z_M} (he : e = a + m) (hb : 0 ≤ a ∧ 1 ≤ m ∧ e ≤ 4) (Sf : S_fr F W hc) (Rw : R_wr F W hc ht) (H : z_hdk F W P AL co k n hc ht) (b : hI ht 1064 60 ≤ 5800) :
    ∃ hc' ht', f543_13 F nr a m tr hc = f543_90 F nr a m tr hc' ∧ f938_0 a e tr ht = f938_67 a e tr ht' ∧ S_fr F W hc' ∧ R_wr F W hc' ht' ∧ z_ix (z_pfw F W) hc hc' ∧ z_ix z_pt ht ht' ∧ hI ht' 1064 60 ≤ hI ht 1064 60 + 13 := sorry
/-- while lines are written -/
def z_wp (k e : Nat) (hc ht : z_M) : Prop := z_hdk (657 + 62 * k) (680 + 62 * k) (658 + 62 * k) (659 + 62 * k) (fun c => 661 + 62 * k + 2 * c) ((k : Nat) : Int) ((e : Nat) : Int) hc ht ∧ (∀ c, c < 4 → hP hc (661 + 62 * k + 2 * c) 0 = 662 + 62 * k + 2 * c ∧ hK hc (662 + 62 * k + 2 * c) = 1000 ∧ hN hc (662 + 62 * k + 2 * c) = 144) ∧ (k ≤ 2 ∧ 1272 ≤ hZ hc ∧ hZ hc < 2999999900) ∧
  ∀ (c : Nat) (x y m : Int), c < e → m = (c : Int) → (0 ≤ x ∧ x < hI ht 1064 45) → (0 ≤ y ∧ y < hI ht 1064 46) → hI hc (662 + 62 * k + 2 * c) (Int.toNat ((12 * y) + x)) = hI ht 1088 (Int.toNat (((144 * m) + (12 * y)) + x)) ∧ 0 ≤ hI ht 1088 (Int.toNat (((144 * m) + (12 * y)) + x)) ∧ hI ht 1088 (Int.toNat (((144 * m) + (12 * y)) + x)) ≤ 255
def z_ws (k e : Nat) (nr : Int) (hc ht : z_M) : Prop := z_wp k e hc ht ∧ (hI ht 1064 97 = nr ∧ hI ht 1064 98 = 255)
/-- what the twin reads of its picture of lines -/
def z_rt (a i : Nat) : Prop := (a = 1064 ∧ (43 ≤ i ∧ i ≤ 55) ∧ ¬ i = 44) ∨ a = 1089 ∨ a = 1088
theorem wp_fi {U : Nat → Nat → Prop} {k e z s : Nat} {hc ht hc' ht' : z_M} (p : z_fi (z_pfw (657 + 62 * k) (680 + 62 * k)) z s hc hc') (q : z_ix U ht ht') (du : ∀ a i, z_rt a i → ¬ U a i) (he : e ≤ 4) (hz : hZ hc' < 2999999900) (Z : z_wp k e hc ht) : z_wp k e hc' ht' := sorry
theorem ws_fi {k e z s : Nat} {nr : Int} {hc ht hc' ht' : z_M} (p : z_fi (z_pfw (657 + 62 * k) (680 + 62 * k)) z s hc hc') (q : z_ix z_gt ht ht') (he : e ≤ 4) (hz : hZ hc' < 2999999900) (Z : z_ws k e nr hc ht) : z_ws k e nr hc' ht' := sorry
theorem p_scan {k e f n : Nat} {nr tr B : Int} {hc ht : z_M} (hB1 : 396 * (n : Int) ≤ B) (hB2 : tr = 2 → 1584 ≤ B) (he : f + n ≤ e ∧ e ≤ 4) (hn : 1 ≤ n) (hr : 0 ≤ nr ∧ nr ≤ 3) (htr : 0 ≤ tr ∧ tr ≤ 2) (Sf : S_fr (657 + 62 * k) (680 + 62 * k) hc) (Rw : R_wr (657 + 62 * k) (680 + 62 * k) hc ht) (Z : z_ws k e nr hc ht) (hz : hZ hc < 2999999800) (b : 7 * hI ht 1064 60 + 12 * B + 600 ≤ 29000) :
    ∃ hc' ht', f543_13 (657 + 62 * k) nr ((f : Nat) : Int) ((n : Nat) : Int) tr hc = z_rv hc' ∧ f938_0 ((f : Nat) : Int) ((f + n : Nat) : Int) tr ht = z_rv ht' ∧ S_fr (657 + 62 * k) (680 + 62 * k) hc' ∧ R_wr (657 + 62 * k) (680 + 62 * k) hc' ht' ∧ z_ws k e nr hc' ht' ∧ z_fi (z_pfw (657 + 62 * k) (680 + 62 * k)) (2 + 2 * n) (17 + 148 * n) hc hc' ∧ z_ix z_gt ht ht' ∧ 7 * hI ht' 1064 60 ≤ 7 * hI ht 1064 60 + 12 * B + 600 := sorry
