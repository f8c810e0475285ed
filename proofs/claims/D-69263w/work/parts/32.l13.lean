set_option maxRecDepth 100000
set_option linter.unusedVariables false
set_option maxHeartbeats 200000
/-! PLAIN, LINES: a file of lines is written -/
theorem p_w0 {k e : Nat} {nr : Int} (h0 : k = 0) (he : 1 ≤ e ∧ e ≤ 4) (hr : 0 ≤ nr ∧ nr ≤ 3) : ∀ (q j : Nat) (hc ht : z_M), S_fr (657 + 62 * k) (680 + 62 * k) hc → R_wr (657 + 62 * k) (680 + 62 * k) hc ht → z_ws k e nr hc ht → j + q = e → hZ hc + 4 * q < 2999999800 → 7 * hI ht 1064 60 + 5360 * q ≤ 28000 →
    ∃ hc' ht', f541_27 (657 + 62 * k) nr ((j : Nat) : Int) hc = f541_79 (657 + 62 * k) hc' ∧ f945_420 ((j : Nat) : Int) ht = f945_443 ht' ∧ S_fr (657 + 62 * k) (680 + 62 * k) hc' ∧ R_wr (657 + 62 * k) (680 + 62 * k) hc' ht' ∧ z_ws k e nr hc' ht' ∧ z_fi (z_pfw (657 + 62 * k) (680 + 62 * k)) (4 * q) (165 * q) hc hc' ∧ z_ix z_gt ht ht' ∧ 7 * hI ht' 1064 60 ≤ 7 * hI ht 1064 60 + 5360 * q := sorry
theorem p_w1 {k e : Nat} {nr : Int} {hc ht : z_M} (h0 : ¬ k = 0) (he : 1 ≤ e ∧ e ≤ 4) (hr : 0 ≤ nr ∧ nr ≤ 3) (Sf : S_fr (657 + 62 * k) (680 + 62 * k) hc) (Rw : R_wr (657 + 62 * k) (680 + 62 * k) hc ht) (Z : z_ws k e nr hc ht) (hz : hZ hc < 2999999700) (hB : 7 * hI ht 1064 60 ≤ 5000) :
    ∃ hc' ht', f541_27 (657 + 62 * k) nr 0 hc = f541_79 (657 + 62 * k) hc' ∧ f945_403 ht = f945_459 ht' ∧ S_fr (657 + 62 * k) (680 + 62 * k) hc' ∧ R_wr (657 + 62 * k) (680 + 62 * k) hc' ht' ∧ z_ws k e nr hc' ht' ∧ z_fi (z_pfw (657 + 62 * k) (680 + 62 * k)) (2 + 2 * e) (17 + 148 * e) hc hc' ∧ z_ix z_gt ht ht' ∧ 7 * hI ht' 1064 60 ≤ 28000 := sorry
def z_wt (a i : Nat) : Prop := z_gt a i ∨ (a = 1064 ∧ (i = 44 ∨ i = 97 ∨ i = 98))
theorem p_write {k e : Nat} {nr : Int} {hc ht : z_M} (he : 1 ≤ e ∧ e ≤ 4) (hr : 0 ≤ nr ∧ nr ≤ 3) (Sf : S_fr (657 + 62 * k) (680 + 62 * k) hc) (has : hI hc (657 + 62 * k) 3 = 1) (Z0 : z_wp k e hc ht) (hz : hZ hc < 2999999000) :
    ∃ v hc' ht', f541_0 (657 + 62 * k) nr hc = z_ri v hc' ∧ f945_0 nr ht = z_ri v ht' ∧ v = hI ht' 1064 60 ∧ S_fr (657 + 62 * k) (680 + 62 * k) hc' ∧ R_wr (657 + 62 * k) (680 + 62 * k) hc' ht' ∧ z_fi (z_pfw (657 + 62 * k) (680 + 62 * k)) (2 + 4 * e) (17 + 165 * e) hc hc' ∧ z_ix z_wt ht ht' ∧ 0 ≤ v ∧ v ≤ 4100 := sorry
