set_option maxRecDepth 100000
set_option linter.unusedVariables false
set_option maxHeartbeats 200000
/-! OTHER BASES -/
def z_bn (k n : Nat) (h h1 : z_M) (o : Nat) : Prop := (o = hZ h + 1 ∧ hZ h1 = o ∧ hS h1 = hS h + n) ∧ h1.1 o = (k, n) ∧ (∀ a, ¬ a = o → h1.1 a = h.1 a) ∧ (∀ i, hP h1 o i = 0) ∧ (∀ a i, ¬ a = o → hP h1 a i = hP h a i) ∧ (∀ i, hL h1 o i = 0) ∧ (∀ a i, ¬ a = o → hL h1 a i = hL h a i) ∧ h1.2.2.2.2.2.2 = h.2.2.2.2.2.2
theorem new_b {h : z_M} {X : Nat → Nat → Int} {k n : Nat} : ∃ (h1 : z_M) (X1 : Nat → Nat → Int) (o : Nat), sN (sZ h X) k n = sZ h1 X1 ∧ hZ (sZ h X) + 1 = o ∧ z_bn k n h h1 o ∧ (∀ i, X1 o i = 0) ∧ ∀ a i, ¬ a = o → X1 a i = X a i :=
  ⟨sN h k n, z_uz X (hZ h + 1) 0, hZ h + 1, rfl, rfl, ⟨⟨rfl, rfl, rfl⟩, if_pos rfl, fun a q => if_neg q, fun i => if_pos rfl, fun a i q => if_neg q, fun i => if_pos rfl, fun a i q => if_neg q, rfl⟩, fun i => if_pos rfl, fun a i q => if_neg q⟩
theorem bnK {k n : Nat} {h h1 : z_M} {o a : Nat} (b : z_bn k n h h1 o) (q : ¬ a = o) : hK h1 a = hK h a := congrArg Prod.fst (b.2.2.1 a q)
theorem bnN {k n : Nat} {h h1 : z_M} {o a : Nat} (b : z_bn k n h h1 o) (q : ¬ a = o) : hN h1 a = hN h a := congrArg Prod.snd (b.2.2.1 a q)
theorem bnP {k n : Nat} {h h1 : z_M} {o a i : Nat} (b : z_bn k n h h1 o) (q : ¬ a = o) : hP h1 a i = hP h a i := b.2.2.2.2.1 a i q
theorem bnL {k n : Nat} {h h1 : z_M} {o a i : Nat} (b : z_bn k n h h1 o) (q : ¬ a = o) : hL h1 a i = hL h a i := b.2.2.2.2.2.2.1 a i q
theorem lap_b {a f p : Nat} (q : z_lap a f = some p) : a < 1064 := by
  unfold z_lap at q
  cases e : Nat.blt a 1064 with
  | true => exact Nat.blt_eq.mp e
  | false => rw [e] at q; cases q
theorem ia_b {a : Nat} (q : z_ia a = true) : a < 1064 := by
  unfold z_ia at q
  cases e : Nat.blt a 1064 with
  | true => exact Nat.blt_eq.mp e
  | false => rw [e] at q; cases q
theorem S0_bn {k n : Nat} {h h1 : z_M} {o : Nat} (S : S0 h) (b : z_bn k n h h1 o) (hz : 1063 ≤ hZ h) : S0 h1 := by
  have e := b.1.1
  refine ⟨fun a q => ?_, fun a f p q => ?_, fun a q i => ?_⟩
  · have := Nat.blt_eq.mp q
    rw [b.2.2.1 a (by omega)]; exact S.1 a q
  · have := lap_b q
    rw [bnP b (by omega)]; exact S.2.1 a f p q
  · have := ia_b q
    rw [bnP b (by omega), bnL b (by omega)]; exact S.2.2 a q i
theorem S0_bp {h : z_M} {a f v : Nat} (S : S0 h) (q : z_lap a f = none) (w : z_ia a = false) : S0 (sP h a f v) := by
  refine ⟨fun b q => S.1 b q, fun b g p r => ?_, fun b r i => ⟨(S.2.2 b r i).1, ?_⟩⟩
  · rw [hP_s0 (fun z => by rw [z.1, z.2, q] at r; cases r)]; exact S.2.1 b g p r
  · rw [hP_s0 (fun z => by rw [z.1, w] at r; cases r)]; exact (S.2.2 b r i).2
theorem S0_bd {h : z_M} {a f v : Nat} (S : S0 h) (q : 1064 ≤ a) : S0 (sP h a f v) := S0_bp S (by
  cases e : z_lap a f with
  | none => rfl
  | some p => have := lap_b e; omega) (by
  cases e : z_ia a with
  | false => rfl
  | true => have := ia_b e; omega)
/-- what a run leaves of the base: kinds stay; references but those of W; longs; at most z cells and s slots more -/
def z_bx (W : Nat → Nat → Prop) (z s : Nat) (h h1 : z_M) : Prop := (∀ a, (a ≤ hZ h ∨ 4294967296 ≤ a) → h1.1 a = h.1 a ∧ (∀ i, ¬ W a i → hP h1 a i = hP h a i) ∧ ∀ i, hL h1 a i = hL h a i) ∧ (hZ h ≤ hZ h1 ∧ hZ h1 ≤ hZ h + z) ∧ hS h1 ≤ hS h + s ∧ h1.2.2.2.2.2.2 = h.2.2.2.2.2.2
theorem bx_rfl {W : Nat → Nat → Prop} {h : z_M} : z_bx W 0 0 h h := ⟨fun _ _ => ⟨rfl, fun _ _ => rfl, fun _ => rfl⟩, ⟨Nat.le_refl _, Nat.le_refl _⟩, Nat.le_refl _, rfl⟩
theorem bx_n {W : Nat → Nat → Prop} {z s k n : Nat} {h h1 h2 : z_M} {o : Nat} (p : z_bx W z s h h1) (b : z_bn k n h1 h2 o) (hz : hZ h1 < 4294967295) : z_bx W (z + 1) (s + n) h h2 := by
  obtain ⟨p1, ⟨p2, p3⟩, p4, p5⟩ := p
  have e := b.1
  refine ⟨fun a ha => ?_, ⟨by omega, by omega⟩, by omega, b.2.2.2.2.2.2.2.trans p5⟩
  obtain ⟨x, y, w⟩ := p1 a ha
  have q : ¬ a = o := by omega
  exact ⟨(b.2.2.1 a q).trans x, fun i n => (bnP b q).trans (y i n), fun i => (bnL b q).trans (w i)⟩
theorem bx_p {W : Nat → Nat → Prop} {z s a f v : Nat} {h h1 h2 : z_M} (p : z_bx W z s h h1) (e : h2 = sP h1 a f v) (w : W a f ∨ (hZ h < a ∧ a < 4294967296)) : z_bx W z s h h2 := by
  subst e
  obtain ⟨p1, p2, p4, p5⟩ := p
  refine ⟨fun b hb => ?_, p2, p4, p5⟩
  obtain ⟨x, y, u⟩ := p1 b hb
  refine ⟨x, fun i n => ?_, u⟩
  rw [hP_s0 (fun q => by rcases w with w | w; exact n (by rw [q.1, q.2]; exact w); omega)]; exact y i n
theorem bx_tr {W : Nat → Nat → Prop} {z s z' s' : Nat} {h h1 h2 : z_M} (p : z_bx W z s h h1) (q : z_bx W z' s' h1 h2) : z_bx W (z + z') (s + s') h h2 := by
  obtain ⟨p1, ⟨p2, p3⟩, p4, p5⟩ := p
  obtain ⟨q1, ⟨q2, q3⟩, q4, q5⟩ := q
  refine ⟨fun a ha => ?_, ⟨by omega, by omega⟩, by omega, q5.trans p5⟩
  obtain ⟨x, y, u⟩ := p1 a ha
  obtain ⟨x', y', u'⟩ := q1 a (by omega)
  exact ⟨x'.trans x, fun i n => (y' i n).trans (y i n), fun i => (u' i).trans (u i)⟩
theorem bx_le {W : Nat → Nat → Prop} {z s z' s' : Nat} {h h1 : z_M} (p : z_bx W z s h h1) (a : z ≤ z') (b : s ≤ s') : z_bx W z' s' h h1 := ⟨p.1, ⟨p.2.1.1, by have := p.2.1.2; omega⟩, by have := p.2.2.1; omega, p.2.2.2⟩
theorem S0_bx {W : Nat → Nat → Prop} {z s : Nat} {h h1 : z_M} (S : S0 h) (p : z_bx W z s h h1) (hz : 1063 ≤ hZ h) (w : ∀ a i, W a i → z_lap a i = none ∧ z_ia a = false) : S0 h1 := by
  refine ⟨fun a q => ?_, fun a f r q => ?_, fun a q i => ?_⟩
  · have := Nat.blt_eq.mp q
    rw [(p.1 a (by omega)).1]; exact S.1 a q
  · have := lap_b q
    rw [(p.1 a (by omega)).2.1 f (fun z => by rw [(w a f z).1] at q; cases q)]; exact S.2.1 a f r q
  · have := ia_b q
    rw [(p.1 a (by omega)).2.1 i (fun z => by rw [(w a i z).2] at q; cases q), (p.1 a (by omega)).2.2 i]; exact S.2.2 a q i
theorem bxK {W : Nat → Nat → Prop} {z s a : Nat} {h h1 : z_M} (p : z_bx W z s h h1) (q : a ≤ hZ h) : hK h1 a = hK h a := congrArg Prod.fst (p.1 a (.inl q)).1
theorem bxN {W : Nat → Nat → Prop} {z s a : Nat} {h h1 : z_M} (p : z_bx W z s h h1) (q : a ≤ hZ h) : hN h1 a = hN h a := congrArg Prod.snd (p.1 a (.inl q)).1
theorem bxP {W : Nat → Nat → Prop} {z s a i : Nat} {h h1 : z_M} (p : z_bx W z s h h1) (q : a ≤ hZ h) (w : ¬ W a i) : hP h1 a i = hP h a i := (p.1 a (.inl q)).2.1 i w
theorem hK_bp {h h1 : z_M} {a f v r : Nat} (e : h1 = sP h a f v) : hK h1 r = hK h r := by rw [e]; rfl
theorem hN_bp {h h1 : z_M} {a f v r : Nat} (e : h1 = sP h a f v) : hN h1 r = hN h r := by rw [e]; rfl
theorem hZ_bp {h h1 : z_M} {a f v : Nat} (e : h1 = sP h a f v) : hZ h1 = hZ h := by rw [e]; rfl
theorem hP_bp {h h1 : z_M} {a f v r i : Nat} (e : h1 = sP h a f v) (n : ¬ (r = a ∧ i = f)) : hP h1 r i = hP h r i := by rw [e]; exact hP_s0 n
theorem sZ_bp {h h1 : z_M} {X : Nat → Nat → Int} {a f v : Nat} (e : h1 = sP h a f v) : sP (sZ h X) a f v = sZ h1 X := by rw [e]; rfl
