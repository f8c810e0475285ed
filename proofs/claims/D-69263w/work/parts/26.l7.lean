set_option maxRecDepth 100000
set_option linter.unusedVariables false
set_option maxHeartbeats 200000
/-! PLAIN, LINES: bytes; the end of a run of bits -/
def S_fr (F W : Nat) (h : z_M) : Prop := (hK h F = 39 ∧ hP h F 5 = W) ∧ (hK h W = 1002 ∧ hN h W = 6000) ∧ W < 4294967296 ∧ ¬ W = F
theorem S_fr_ix {V : Nat → Nat → Prop} {F W : Nat} {h h' : z_M} (p : z_ix V h h') (S : S_fr F W h) : S_fr F W h' := sorry
theorem S_fr_of {t F W : Nat} {h : z_M} (S : S_tel t F W h) : S_fr F W h := sorry
theorem c_put {F W : Nat} {b s : Int} {h : z_M} (S : S_fr F W h) (e : hI h F 6 = s) (a : 0 ≤ s ∧ s < 6000) : f527_0 F b h = z_rv (sI (sI h F 6 (s + 1)) W (Int.toNat s) (z_i8 (z_i8 b))) := sorry
theorem t_ly {b s : Int} {h : z_M} (e : hI h 1064 60 = s) (a : 0 ≤ s ∧ s < 9000) : f931_0 b h = z_rv (sI (sI h 1094 (Int.toNat s) b) 1064 60 (s + 1)) := sorry
def z_pfw (F W a i : Nat) : Prop := (a = F ∧ i = 6) ∨ a = W
def z_pt (a i : Nat) : Prop := (a = 1064 ∧ i = 60) ∨ a = 1094
theorem p_put {hc ht : z_M} {F W : Nat} {b b' : Int} (S : S_fr F W hc) (Rw : R_wr F W hc ht) (rm : hI ht 1064 60 < 6000) (hb : b % 256 = b') :
    ∃ hc' ht', f527_0 F b hc = z_rv hc' ∧ f931_0 b' ht = z_rv ht' ∧ S_fr F W hc' ∧ R_wr F W hc' ht' ∧ hI ht' 1064 60 = hI ht 1064 60 + 1 ∧ z_ix (z_pfw F W) hc hc' ∧ z_ix z_pt ht ht' := sorry
theorem t_fill : ∀ (n : Nat) (ht : z_M), n ≤ 7 → hI ht 1064 102 - hI ht 1064 101 = (n : Int) + 1 → 1 ≤ hI ht 1064 101 → hI ht 1064 102 ≤ 8 → (0 ≤ hI ht 1064 100 ∧ hI ht 1064 100 * 2 ^ (n + 1) ≤ 255) → (0 ≤ hI ht 1064 60 ∧ hI ht 1064 60 < 6000) →
    ∃ ht', f915_0 ht = f915_15 ht' ∧ (hI ht' 1064 60 = hI ht 1064 60 + 1 ∧ hI ht' 1094 (Int.toNat (hI ht 1064 60)) = hI ht 1064 100 * 2 ^ (n + 1) ∧ hI ht' 1064 100 = 0 ∧ hI ht' 1064 101 = 0 ∧ hI ht' 1064 102 = if hI ht 1064 100 * 2 ^ (n + 1) = 255 then 7 else 8) ∧
      z_ix (fun a i => (a = 1064 ∧ (i = 60 ∨ (100 ≤ i ∧ i ≤ 102))) ∨ (a = 1094 ∧ i = Int.toNat (hI ht 1064 60))) ht ht' := sorry
theorem c_flush {hc hp : z_M} {t F W : Nat} {v : Int} (S : S_tel t F W hc) (E : f527_0 F v hc = z_rv hp) (Q : z_ix (z_pfw F W) hc hp) (e9 : hI hc t 9 = v) :
    f1063_0 t hc = z_rv (sI (sI (sI hp t 10 (if v = 255 then 7 else 8)) t 9 0) t 11 0) := sorry
/-- bytes are whole -/
def z_wh (ht : z_M) : Prop := hI ht 1064 101 = 0 ∧ hI ht 1064 102 = 8
theorem LS_wh {t F W : Nat} {hc ht : z_M} (S : S_tel t F W hc) (Rw : R_wr F W hc ht) (a : hI hc t 9 = 0) (b : hI hc t 10 = 8) (c : hI hc t 11 = 0) (d : hI ht 1064 100 = 0) (w : z_wh ht) : z_LS t F W hc ht := sorry
theorem p_end {hc ht : z_M} {t F W : Nat} (L : z_LS t F W hc ht) (r : z_PH ht ≤ 41900) :
    ∃ hc' ht', f1061_0 t hc = z_rv hc' ∧ f915_0 ht = z_rv ht' ∧ z_LS t F W hc' ht' ∧ z_wh ht' ∧ z_ix (z_wlc t F W) hc hc' ∧ z_ix z_lt1 ht ht' ∧ z_PH ht' ≤ z_PH ht + 14 := sorry
