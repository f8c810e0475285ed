set_option maxRecDepth 100000
set_option linter.unusedVariables false
set_option maxHeartbeats 200000
/-! PLAIN 1: truths as numbers, compares, frames -/
noncomputable def z_bi (p : Prop) : Int := match Classical.propDecidable p with
  | .isTrue _ => 1
  | .isFalse _ => 0
theorem bi_t {p : Prop} (h : p) : z_bi p = 1 := sorry
theorem bi_f {p : Prop} (h : ¬ p) : z_bi p = 0 := sorry
theorem bi_0 {p : Prop} : z_bi p = 0 ↔ ¬ p := sorry
theorem bi_01 (p : Prop) : z_01 (z_bi p) := sorry
theorem bi_cg {p q : Prop} (h : p ↔ q) : z_bi p = z_bi q := sorry
theorem if_bi {p : Prop} {x y : z_Z} : z_if (z_bi p = 0) x y = z_if p y x := sorry
theorem if_nb {p : Prop} {x y : z_Z} : z_if (¬ z_bi p = 0) x y = z_if p x y := sorry
theorem gb_b {p : Prop} {x : z_Z} : z_g (z_01 (z_bi p)) x = x := sorry
theorem gb_0 {x : z_Z} : z_g (z_01 0) x = x := sorry
theorem gb_1 {x : z_Z} : z_g (z_01 1) x = x := sorry
theorem lc_lt {x y : Int} : z_lcmp x y < 0 ↔ x < y := sorry
theorem lc_gt {x y : Int} : 0 < z_lcmp x y ↔ y < x := sorry
theorem lc_eq {x y : Int} : z_lcmp x y = 0 ↔ x = y := sorry
/-- a choice whose both ways answer the truth of p -/
theorem if_bb {p q : Prop} {h : z_M} : z_if p (z_ri 0 h) (z_ri (z_bi q) h) = z_ri (z_bi (¬ p ∧ q)) h := sorry
theorem if_b1 {p : Prop} {h : z_M} : z_if p (z_ri 0 h) (z_ri 1 h) = z_ri (z_bi (¬ p)) h := sorry
/-- h' is h but for the cells in W and new ones: at most z of them, with s slots -/
def z_fr (W : Nat → Prop) (z s : Nat) (h h' : z_M) : Prop := (∀ a, (a ≤ hZ h ∨ 4294967296 ≤ a) → ¬ W a → z_sme a h h') ∧ (hX h' = hX h ∧ hG h' = hG h ∧ hW h' = hW h) ∧ hZ h ≤ hZ h' ∧ hZ h' ≤ hZ h + z ∧ hS h' ≤ hS h + s
theorem fr_rfl {W : Nat → Prop} {z s : Nat} {h : z_M} : z_fr W z s h h := sorry
theorem fr_tr {W : Nat → Prop} {z z' s s' : Nat} {h h1 h2 : z_M} (p : z_fr W z s h h1) (q : z_fr W z' s' h1 h2) : z_fr W (z + z') (s + s') h h2 := sorry
theorem fr_le {W V : Nat → Prop} {z z' s s' : Nat} {h h' : z_M} (p : z_fr W z s h h') (w : ∀ a, W a → V a) (hz : z ≤ z') (hs : s ≤ s') : z_fr V z' s' h h' := sorry
theorem fr_sI {W : Nat → Prop} {b i : Nat} {v : Int} {h : z_M} (hb : W b) : z_fr W 0 0 h (sI h b i v) := sorry
theorem fr_sL {W : Nat → Prop} {b i : Nat} {v : Int} {h : z_M} (hb : W b) : z_fr W 0 0 h (sL h b i v) := sorry
theorem fr_sP {W : Nat → Prop} {b i : Nat} {v : Nat} {h : z_M} (hb : W b) : z_fr W 0 0 h (sP h b i v) := sorry
theorem fr_sN {W : Nat → Prop} {k n : Nat} {h : z_M} (hz : hZ h < 4294967295) : z_fr W 1 n h (sN h k n) := sorry
/-! loops: from where the invariant I holds, on till D -/
theorem z_lpm {σ : Type} {F : σ → z_M → z_Z} (μ : σ → Nat) (I D : σ → z_M → Prop) (step : ∀ s h, I s h → ¬ D s h → ∃ s1 h1, F s h = F s1 h1 ∧ I s1 h1 ∧ μ s1 < μ s) : ∀ s h, I s h → ∃ s' h', F s h = F s' h' ∧ I s' h' ∧ D s' h' := sorry
/-- an up-counting loop over x, till hi -/
theorem z_lpu {F : Int → z_M → z_Z} (hi : Int) (I : Int → z_M → Prop) (step : ∀ x h, I x h → x < hi → ∃ h1, F x h = F (x + 1) h1 ∧ I (x + 1) h1) : ∀ x h, x ≤ hi → I x h → ∃ h', F x h = F hi h' ∧ I hi h' := sorry
