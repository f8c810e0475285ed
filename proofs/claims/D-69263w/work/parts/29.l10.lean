set_option maxRecDepth 100000
set_option linter.unusedVariables false
set_option maxHeartbeats 200000
/-! PLAIN, LINES: the head of a file -/
theorem shr_8 (x : Int) : z_shr x 8 = x / 256 := sorry
def R_h (F P : Nat) (k n : Int) (hc ht : z_M) : Prop := (hI hc P 2 = hI ht 1064 45 ∧ 1 ≤ hI ht 1064 45 ∧ hI ht 1064 45 ≤ 12) ∧ (hI hc P 3 = hI ht 1064 46 ∧ 1 ≤ hI ht 1064 46 ∧ hI ht 1064 46 ≤ 12) ∧
  (hI hc P 4 = 8 ∧ hI ht 1064 47 = 8) ∧ (hI hc P 5 = n ∧ hI ht 1064 48 = n) ∧ (hI hc P 6 = 0 ∧ hI ht 1064 55 = 0) ∧ (hI hc P 7 = 64 ∧ hI ht 1064 52 = 64) ∧ (hI hc P 8 = 4 ∧ hI ht 1064 53 = 4) ∧ (hI hc P 9 = hI ht 1064 54 ∧ 0 ≤ hI ht 1064 54 ∧ hI ht 1064 54 ≤ 12) ∧
  (hI hc F 0 = k ∧ hI ht 1064 43 = k) ∧ ∀ c, c < 4 → hI ht 1089 c = 0
def z_hdk (F W P AL : Nat) (co : Nat → Nat) (k n : Int) (hc ht : z_M) : Prop := (hP hc F 1 = P ∧ hK hc P = 40 ∧ hP hc P 0 = AL ∧ hK hc AL = 1109 ∧ hN hc AL = 4) ∧ (¬ P = F ∧ ¬ P = W) ∧ (∀ c, c < 4 → hP hc AL c = co c ∧ hK hc (co c) = 41 ∧ hP hc (co c) 1 = 0) ∧ R_h F P k n hc ht
theorem hk_ix {F W P AL : Nat} {co : Nat → Nat} {k n : Int} {hc ht hc' ht' : z_M} (p : z_ix (z_pfw F W) hc hc') (q : z_ix z_pt ht ht') (w : W < 4294967296 ∧ ¬ W = F) (H : z_hdk F W P AL co k n hc ht) : z_hdk F W P AL co k n hc' ht' := sorry
theorem p_h1 {F W P AL : Nat} {co : Nat → Nat} {k n : Int} (hn : 1 ≤ n ∧ n ≤ 4) : ∀ (q : Nat) (j : Int) (hc ht : z_M), S_fr F W hc → R_wr F W hc ht → z_hdk F W P AL co k n hc ht → j + q = n → 0 ≤ j → hI ht 1064 60 + 3 * q ≤ 5900 →
    ∃ hc' ht', f542_168 F j hc = f542_203 F hc' ∧ f945_211 j ht = f945_243 ht' ∧ S_fr F W hc' ∧ R_wr F W hc' ht' ∧ z_ix (z_pfw F W) hc hc' ∧ z_ix z_pt ht ht' ∧ hI ht' 1064 60 = hI ht 1064 60 + 3 * q := sorry
theorem p_h2 {F W P AL : Nat} {co : Nat → Nat} {k n : Int} {hc ht : z_M} (hn : 1 ≤ n ∧ n ≤ 4) (Sf : S_fr F W hc) (H : z_hdk F W P AL co k n hc ht) : ∀ (q : Nat) (j : Int), j + q = n → 0 ≤ j →
    f542_267 F j hc = f542_387 F hc ∧ f945_291 j ht = f945_380 ht := sorry
theorem p_head {F W P AL : Nat} {co : Nat → Nat} {k n : Int} {hc ht : z_M} (hn : 1 ≤ n ∧ n ≤ 4) (Sf : S_fr F W hc) (Rw : R_wr F W hc ht) (H : z_hdk F W P AL co k n hc ht) (b : hI ht 1064 60 = 0) :
    ∃ hc' ht', f542_0 F hc = z_rv hc' ∧ z_kv (f931_0 255 ht) (fun h2 => z_kv (f931_0 216 h2) (fun h3 => f945_75 0 h3) z_ex) z_ex = f945_403 ht' ∧ S_fr F W hc' ∧ R_wr F W hc' ht' ∧ z_ix (z_pfw F W) hc hc' ∧ z_ix z_pt ht ht' ∧ hI ht' 1064 60 ≤ 40 := sorry
