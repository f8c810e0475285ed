set_option maxRecDepth 100000
set_option linter.unusedVariables false
set_option maxHeartbeats 200000
/-! PLAIN, LINES: a teller is made -/
theorem fr_new {W : Nat → Prop} {z s : Nat} {h h' : z_M} (p : z_fr (fun a => W a ∨ (hZ h < a ∧ a < 4294967296)) z s h h') : z_fr W z s h h' := sorry
theorem ix_fr {V : Nat → Nat → Prop} {W : Nat → Prop} {h h' : z_M} (p : z_ix V h h') (w : ∀ a i, V a i → W a) : z_fr W 0 0 h h' := sorry
theorem c_ctx1 {h : z_M} (hz : hZ h < 4294967000) : f1071_0 (hZ h + 1) (sN h 53 4) = z_rv (sP (sN (sN h 53 4) 1000 (Int.toNat 144)) (hZ h + 1) 0 (hZ (sN h 53 4) + 1)) := sorry
theorem ctx_f {h h3 : z_M} (e : h3 = sP (sN (sN h 53 4) 1000 (Int.toNat 144)) (hZ h + 1) 0 (hZ (sN h 53 4) + 1)) (hz : hZ h < 4294967000) : hZ h3 = hZ h + 2 ∧ hS h3 = hS h + 148 ∧ (hK h3 (hZ h + 1) = 53 ∧ hP h3 (hZ h + 1) 0 = hZ h + 2 ∧ hK h3 (hZ h + 2) = 1000 ∧ hN h3 (hZ h + 2) = 144) ∧ z_fr (fun _ => False) 2 148 h h3 := sorry
theorem c_ctxs {t f n : Nat} (hf : f + n ≤ 4) (lt : t < 4000000000) : ∀ (q j : Nat) (h : z_M), hK h t = 52 → hP h t 7 = t + 1 → hK h (t + 1) = 1110 → hN h (t + 1) = 4 → hZ h = t + 1 + 2 * j → j + q = n →
    ∃ h', f1060_77 t ((f : Nat) : Int) ((n : Nat) : Int) ((f + j : Nat) : Int) h = z_rv h' ∧ (hZ h' = t + 1 + 2 * n ∧ hS h' = hS h + 148 * q) ∧ (∀ c, j ≤ c → c < n → hP h' (t + 1) (f + c) = t + 2 + 2 * c ∧ hK h' (t + 2 + 2 * c) = 53 ∧ hP h' (t + 2 + 2 * c) 0 = t + 3 + 2 * c ∧ hK h' (t + 3 + 2 * c) = 1000 ∧ hN h' (t + 3 + 2 * c) = 144) ∧
      (∀ c, c < j → hP h' (t + 1) (f + c) = hP h (t + 1) (f + c)) ∧ (hK h' (t + 1) = 1110 ∧ hN h' (t + 1) = 4) ∧ z_fr (fun a => a = t + 1) (2 * q) (148 * q) h h' := sorry
/-- a teller, all of it -/
theorem c_teller {h : z_M} {k f n : Nat} {nr tr : Int} (hk : k ≤ 2) (hz : 1272 ≤ hZ h ∧ hZ h < 3000000000) (hf : f + n ≤ 4) (hn : 0 ≤ nr ∧ nr ≤ 3) (kF : hK h (657 + 62 * k) = 39) (kP : hK h (658 + 62 * k) = 40) (bits : hI h (658 + 62 * k) 4 = 8) :
    ∃ h', f1064_0 (hZ h + 1) (657 + 62 * k) (658 + 62 * k) nr ((f : Nat) : Int) ((n : Nat) : Int) tr (sN h 52 13) = z_rv h' ∧ (hZ h' = hZ h + 2 + 2 * n ∧ hS h' = hS h + 17 + 148 * n) ∧ z_fr (fun _ => False) (2 + 2 * n) (17 + 148 * n) h h' ∧
      (hK h' (hZ h + 1) = 52 ∧ hP h' (hZ h + 1) 12 = 657 + 62 * k ∧ hP h' (hZ h + 1) 0 = 658 + 62 * k ∧ hP h' (hZ h + 1) 7 = hZ h + 2) ∧ (hK h' (hZ h + 2) = 1110 ∧ hN h' (hZ h + 2) = 4) ∧
      (∀ c, c < n → hP h' (hZ h + 2) (f + c) = hZ h + 3 + 2 * c ∧ hK h' (hZ h + 3 + 2 * c) = 53 ∧ hP h' (hZ h + 3 + 2 * c) 0 = hZ h + 4 + 2 * c ∧ hK h' (hZ h + 4 + 2 * c) = 1000 ∧ hN h' (hZ h + 4 + 2 * c) = 144) ∧
      (hI h' (hZ h + 1) 1 = nr ∧ hI h' (hZ h + 1) 2 = 2 * nr + 1 ∧ hI h' (hZ h + 1) 3 = (255 + 2 * nr) / (2 * nr + 1) + 1) ∧ R_f (hZ h + 1) f n tr h' ∧ (hI h' (hZ h + 1) 9 = 0 ∧ hI h' (hZ h + 1) 10 = 8 ∧ hI h' (hZ h + 1) 11 = 0) := sorry
