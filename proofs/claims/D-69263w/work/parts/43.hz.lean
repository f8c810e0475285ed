set_option maxRecDepth 100000
set_option linter.unusedVariables false
set_option maxHeartbeats 200000
/-! THE HOUSE IN THE NEW WAY -/
def R_sdm (ht : z_M) : Prop := ∀ s, s < 4 → 0 < hI ht 1069 s → 0 < hI ht 1070 s
theorem shp_S {h : z_M} {X : Nat → Nat → Int} (S : S0 h) (hz : 1063 ≤ hZ h) : z_shp (sZ h X) := by
  refine ⟨⟨sk S 1, hz⟩, sp S 1 0 2, ⟨sk S 2, sn S 2⟩, fun k hk => ?_⟩
  have q : k = 0 ∨ k = 1 ∨ k = 2 ∨ k = 3 ∨ k = 4 ∨ k = 5 ∨ k = 6 ∨ k = 7 := by omega
  rcases q with z | z | z | z | z | z | z | z <;> subst z
  · exact ⟨sp S 2 0 103, sk S 103, ⟨sp S 103 2 104, sp S 103 3 105⟩, ⟨sk S 104, sn S 104⟩, ⟨sk S 105, sn S 105⟩⟩
  · exact ⟨sp S 2 1 106, sk S 106, ⟨sp S 106 2 107, sp S 106 3 108⟩, ⟨sk S 107, sn S 107⟩, ⟨sk S 108, sn S 108⟩⟩
  · exact ⟨sp S 2 2 109, sk S 109, ⟨sp S 109 2 110, sp S 109 3 111⟩, ⟨sk S 110, sn S 110⟩, ⟨sk S 111, sn S 111⟩⟩
  · exact ⟨sp S 2 3 112, sk S 112, ⟨sp S 112 2 113, sp S 112 3 114⟩, ⟨sk S 113, sn S 113⟩, ⟨sk S 114, sn S 114⟩⟩
  · exact ⟨sp S 2 4 115, sk S 115, ⟨sp S 115 2 116, sp S 115 3 117⟩, ⟨sk S 116, sn S 116⟩, ⟨sk S 117, sn S 117⟩⟩
  · exact ⟨sp S 2 5 118, sk S 118, ⟨sp S 118 2 119, sp S 118 3 120⟩, ⟨sk S 119, sn S 119⟩, ⟨sk S 120, sn S 120⟩⟩
  · exact ⟨sp S 2 6 121, sk S 121, ⟨sp S 121 2 122, sp S 121 3 123⟩, ⟨sk S 122, sn S 122⟩, ⟨sk S 123, sn S 123⟩⟩
  · exact ⟨sp S 2 7 124, sk S 124, ⟨sp S 124 2 125, sp S 124 3 126⟩, ⟨sk S 125, sn S 125⟩, ⟨sk S 126, sn S 126⟩⟩
theorem shf_S {h : z_M} {X : Nat → Nat → Int} (S : S0 h) : z_shf (sZ h X) := by
  refine ⟨sk S 1, sp S 1 2 4, ⟨sk S 4, sn S 4⟩, fun k hk => ?_⟩
  have q : k = 0 ∨ k = 1 ∨ k = 2 ∨ k = 3 ∨ k = 4 ∨ k = 5 ∨ k = 6 ∨ k = 7 ∨ k = 8 ∨ k = 9 ∨ k = 10 ∨ k = 11 := by omega
  rcases q with z | z | z | z | z | z | z | z | z | z | z | z <;> subst z
  · exact ⟨sp S 4 0 135, sk S 135, sp S 135 0 136, sk S 136, sn S 136⟩
  · exact ⟨sp S 4 1 137, sk S 137, sp S 137 0 138, sk S 138, sn S 138⟩
  · exact ⟨sp S 4 2 139, sk S 139, sp S 139 0 140, sk S 140, sn S 140⟩
  · exact ⟨sp S 4 3 141, sk S 141, sp S 141 0 142, sk S 142, sn S 142⟩
  · exact ⟨sp S 4 4 143, sk S 143, sp S 143 0 144, sk S 144, sn S 144⟩
  · exact ⟨sp S 4 5 145, sk S 145, sp S 145 0 146, sk S 146, sn S 146⟩
  · exact ⟨sp S 4 6 147, sk S 147, sp S 147 0 148, sk S 148, sn S 148⟩
  · exact ⟨sp S 4 7 149, sk S 149, sp S 149 0 150, sk S 150, sn S 150⟩
  · exact ⟨sp S 4 8 151, sk S 151, sp S 151 0 152, sk S 152, sn S 152⟩
  · exact ⟨sp S 4 9 153, sk S 153, sp S 153 0 154, sk S 154, sn S 154⟩
  · exact ⟨sp S 4 10 155, sk S 155, sp S 155 0 156, sk S 156, sn S 156⟩
  · exact ⟨sp S 4 11 157, sk S 157, sp S 157 0 158, sk S 158, sn S 158⟩
theorem shs_S {h : z_M} {X : Nat → Nat → Int} (S : S0 h) : z_shs (sZ h X) := by
  refine ⟨sk S 1, sp S 1 1 3, ⟨sk S 3, sn S 3⟩, fun k hk => ?_⟩
  have q : k = 0 ∨ k = 1 ∨ k = 2 ∨ k = 3 := by omega
  rcases q with z | z | z | z <;> subst z
  · exact ⟨sp S 3 0 127, sk S 127, sp S 127 2 128, sk S 128, sn S 128⟩
  · exact ⟨sp S 3 1 129, sk S 129, sp S 129 2 130, sk S 130, sn S 130⟩
  · exact ⟨sp S 3 2 131, sk S 131, sp S 131 2 132, sk S 132, sn S 132⟩
  · exact ⟨sp S 3 3 133, sk S 133, sp S 133 2 134, sk S 134, sn S 134⟩
theorem c_pict {h : z_M} {X : Nat → Nat → Int} {k : Int} {r : Nat} (S : S0 h) (hz : 1272 ≤ hZ h) (e : r = 103 + 3 * Int.toNat k) : f158_0 1 k (sZ h X) = z_if (0 ≤ k ∧ k ≤ 7) (z_rr r (sZ h X)) (z_ex (hZ (sZ h X) + 1) (sN (sZ h X) 2 6)) := by
  rw [e]; exact c_pictureAt (shp_S S (by omega)) k
theorem c_fict {h : z_M} {X : Nat → Nat → Int} {k : Int} {r : Nat} (S : S0 h) (e : r = 135 + 2 * Int.toNat k) : f128_0 1 k (sZ h X) = z_if (0 ≤ k ∧ k ≤ 11) (z_rr r (sZ h X)) (z_ex (hZ (sZ h X) + 1) (sN (sZ h X) 2 6)) := by
  rw [e]; exact c_fileAt (shf_S S) k
theorem c_shct {h : z_M} {X : Nat → Nat → Int} {k : Int} {r : Nat} (S : S0 h) (e : r = 127 + 2 * Int.toNat k) : f167_0 1 k (sZ h X) = z_if (0 ≤ k ∧ k ≤ 3) (z_rr r (sZ h X)) (z_ex (hZ (sZ h X) + 1) (sN (sZ h X) 2 6)) := by
  rw [e]; exact c_sheetAt (shs_S S) k
theorem s_pic {h : z_M} {k : Int} {r1 r2 r3 : Nat} (S : S0 h) (hz : 1272 ≤ hZ h) (e1 : r1 = 103 + 3 * Int.toNat k) (e2 : r2 = 104 + 3 * Int.toNat k) (e3 : r3 = 105 + 3 * Int.toNat k) (hk : 0 ≤ k ∧ k ≤ 7) : hK h r1 = 11 ∧ (hK h r2 = 1000 ∧ hN h r2 = 144) ∧ (hK h r3 = 1001 ∧ hN h r3 = 144) ∧ (hP h r1 2 = r2 ∧ hP h r1 3 = r3) := by
  obtain ⟨a, b, ⟨c, d⟩, e, f⟩ := (shp_S (X := h.2.1) S (by omega)).2.2.2 (Int.toNat k) (by omega)
  subst e1; subst e2; subst e3; exact ⟨b, e, f, c, d⟩
theorem s_fil {h : z_M} {k : Int} {r8 r9 : Nat} (S : S0 h) (e1 : r8 = 135 + 2 * Int.toNat k) (e2 : r9 = 136 + 2 * Int.toNat k) (hk : 0 ≤ k ∧ k ≤ 11) : hK h r8 = 29 ∧ (hK h r9 = 1002 ∧ hN h r9 = 1500) ∧ hP h r8 0 = r9 := by
  obtain ⟨a, b, c, d, e⟩ := (shf_S (X := h.2.1) S).2.2.2 (Int.toNat k) (by omega)
  subst e1; subst e2; exact ⟨b, ⟨d, e⟩, c⟩
theorem s_she {h : z_M} {k : Int} {r5 r6 : Nat} (S : S0 h) (e1 : r5 = 127 + 2 * Int.toNat k) (e2 : r6 = 128 + 2 * Int.toNat k) (hk : 0 ≤ k ∧ k ≤ 3) : hK h r5 = 28 ∧ (hK h r6 = 1000 ∧ hN h r6 = 24) ∧ hP h r5 2 = r6 := by
  obtain ⟨a, b, c, d, e⟩ := (shs_S (X := h.2.1) S).2.2.2 (Int.toNat k) (by omega)
  subst e1; subst e2; exact ⟨b, ⟨d, e⟩, c⟩
theorem ia_fil {k : Nat} (hk : k < 12) : z_ia (136 + 2 * k) = true := (by decide : ∀ k : Fin 12, z_ia (136 + 2 * k.val) = true) ⟨k, hk⟩
theorem z_ixe {W : Nat → Nat → Prop} {h h' : z_M} (p : z_ix W h h') : h' = sZ h (hI h') := by
  obtain ⟨⟨a, b⟩, _⟩ := p
  show h' = (h.1, h'.2.1, h.2.2)
  rw [← a, ← b]
theorem fil_fr {h h' g g' : z_M} {X X' Y Y' : Nat → Nat → Int} (R : R_fil (sZ h X) (sZ g Y)) (fx : ∀ a i : Nat, 135 ≤ a → a ≤ 158 → X' a i = X a i) (fy : ∀ a i : Nat, (a = 1072 ∨ a = 1073) → Y' a i = Y a i) : R_fil (sZ h' X') (sZ g' Y') := by
  intro f hf
  obtain ⟨a, b, c⟩ := R f hf
  refine ⟨(fx _ _ (by omega) (by omega)).trans (a.trans (fy 1072 f (.inl rfl)).symm), ?_, fun i hi => ?_⟩
  · show 0 ≤ Y' 1072 f ∧ Y' 1072 f ≤ 1500
    rw [fy 1072 f (.inl rfl)]; exact b
  · show X' (136 + 2 * f) i % 256 = Y' 1073 (1500 * f + i)
    rw [fx _ _ (by omega) (by omega), fy 1073 _ (.inr rfl)]; exact c i hi
def Q_p_kp (h g : z_M) (f : Int) (r8 : Nat) (r9 : Nat) (X : Nat → Nat → Int) (Y : Nat → Nat → Int) (x_ y_ : z_Z) : Prop := (∃ (v : Int) (X1 : Nat → Nat → Int) (Y1 : Nat → Nat → Int), (x_ = z_ri v (sZ h X1)) ∧ (y_ = z_ri v (sZ g Y1)) ∧ (R_fil (sZ h X1) (sZ g Y1)) ∧ (∀ a i : Nat, ¬ (a = r8 ∨ a = r9) → X1 a i = X a i) ∧ (∀ a i : Nat, ¬ (a = 1072 ∨ a = 1073) → Y1 a i = Y a i))
theorem p_kp {h g : z_M} {f : Int} {r8 : Nat} {r9 : Nat} {X : Nat → Nat → Int} {Y : Nat → Nat → Int} (S : S0 h) (hf : 0 ≤ f ∧ f ≤ 11) (e8 : r8 = 135 + 2 * Int.toNat f) (e9 : r9 = 136 + 2 * Int.toNat f) (M : R_md (sZ h X) (sZ g Y)) (Rf : R_fil (sZ h X) (sZ g Y)) : Q_p_kp h g f r8 r9 X Y (f143_0 1 r8 (sZ h X)) (f982_0 f (sZ g Y)) := by
  obtain ⟨v, hc, ht, C, D, R1, e, J⟩ := p_keep (f := Int.toNat f) (hc := sZ h X) (ht := sZ g Y) (by omega) (shf_S S) (sp S 1 3 5) ⟨sk S 5, sn S 5⟩ M Rf
  rw [show ((Int.toNat f : Nat) : Int) = f by omega, z_ixe J] at D
  subst e8; subst e9
  have J2 : ∀ a i : Nat, ¬ (a = 1072 ∨ a = 1073) → hI ht a i = Y a i := fun a i w => J.2 a i (by omega)
  rcases e with e | e
  · rw [e] at C; refine ⟨v, X, hI ht, C, D, ?_, fun _ _ _ => rfl, J2⟩
    rw [e] at R1; exact R1
  · obtain ⟨Z, c1, c2, c3, c4⟩ := cpy_z (X := X) (a := 5) (sp := 0) (b := 136 + 2 * Int.toNat f) (dp := 0) (n := Int.toNat (hI (sZ h X) 1 4)) S rfl (ia_fil (by omega))
    have e2 : hc = sZ h (z_up Z (135 + 2 * Int.toNat f) 1 (hI (sZ h X) 1 4)) := by rw [e, c1]; rfl
    rw [e2] at C R1
    exact ⟨v, _, hI ht, C, D, R1, fun a i w => (up_a (by omega)).trans (c4 a i (by omega)), J2⟩
