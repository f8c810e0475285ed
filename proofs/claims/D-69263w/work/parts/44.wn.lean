set_option maxRecDepth 100000
set_option linter.unusedVariables false
set_option maxHeartbeats 200000
/-! WAVES: made -/
def z_Wo (r a _ : Nat) : Prop := a = r
def Q_c_shn (h g : z_M) (r : Nat) (X : Nat → Nat → Int) (x_ : z_Z) : Prop := (∃ (h1 : z_M) (X1 : Nat → Nat → Int) (oa : Nat) (ob : Nat) (oc : Nat) (od : Nat) (oe : Nat), (x_ = z_rv (sZ h1 X1)) ∧ (S0 h1) ∧ (z_bx (z_Wo r) 5 1040 h h1) ∧ (hK h1 r = 14) ∧ (oa = hZ h + 1 ∧ ob = hZ h + 2 ∧ oc = hZ h + 3 ∧ od = hZ h + 4 ∧ oe = hZ h + 5 ∧ hZ h1 = hZ h + 5) ∧ (hK h1 oa = 1001 ∧ hN h1 oa = 256 ∧ hP h1 r 2 = oa) ∧ (hK h1 ob = 1000 ∧ hN h1 ob = 256 ∧ hP h1 r 3 = ob) ∧ (hK h1 oc = 1000 ∧ hN h1 oc = 256 ∧ hP h1 r 5 = oc) ∧ (hK h1 od = 1000 ∧ hN h1 od = 256 ∧ hP h1 r 6 = od) ∧ (hK h1 oe = 1000 ∧ hN h1 oe = 16 ∧ hP h1 r 7 = oe) ∧ (∀ a i : Nat, hZ h < a ∧ a ≤ hZ h + 5 → X1 a i = 0) ∧ (∀ a i : Nat, ¬ (a = oa ∨ a = ob ∨ a = oc ∨ a = od ∨ a = oe) → X1 a i = X a i))
set_option maxHeartbeats 4000000 in
theorem c_shn {h g : z_M} {r : Nat} {X : Nat → Nat → Int} (S : S0 h) (kr : hK h r = 14) (hz : 1272 ≤ hZ h ∧ hZ h ≤ 3000000000) (hr : 1064 ≤ r ∧ r ≤ hZ h) : Q_c_shn h g r X (f246_0 r (sZ h X)) := by
  rw [e246_0, z_g_t ⟨by omega, by unfold z_new; omega⟩, z_g_t ⟨by omega, by omega⟩, show Int.toNat 256 = 256 from rfl]
  obtain ⟨hb1, X1, o1, eb1, eo1, ob1, z0_1, fr_1⟩ := new_b (h := h) (X := X) (k := 1001) (n := 256)
  have oz1 : o1 = hZ h + 1 ∧ hZ hb1 = o1 := ⟨ob1.1.1, ob1.1.2.1⟩
  have sS_1 : S0 hb1 := S0_bn S ob1 (by omega)
  have kr_hb1 : hK hb1 r = 14 := (bnK ob1 (by omega)).trans kr
  have ko1_hb1 : hK hb1 o1 = 1001 := congrArg Prod.fst ob1.2.1
  have no1_hb1 : hN hb1 o1 = 256 := congrArg Prod.snd ob1.2.1
  rw [show sN (sZ h X) 1001 256 = sZ hb1 X1 from eb1, show hZ (sZ h X) + 1 = o1 from eo1, gk1 (by exact kr_hb1), z_g_t ⟨by omega, by omega⟩]
  obtain ⟨hb2, eb2⟩ : ∃ z_, z_ = sP hb1 r 2 o1 := ⟨_, rfl⟩
  have oz2 : hZ hb2 = hZ hb1 := hZ_bp eb2
  have sS_2 : S0 hb2 := by rw [eb2]; exact S0_bd sS_1 (by omega)
  have kr_hb2 : hK hb2 r = 14 := (hK_bp eb2).trans kr_hb1
  have ko1_hb2 : hK hb2 o1 = 1001 := (hK_bp eb2).trans ko1_hb1
  have no1_hb2 : hN hb2 o1 = 256 := (hN_bp eb2).trans no1_hb1
  clear kr_hb1 ko1_hb1 no1_hb1
  have pp2_hb2 : hP hb2 r 2 = o1 := by rw [eb2]; exact hP_s1
  rw [show sP (sZ hb1 X1) r 2 o1 = sZ hb2 X1 from sZ_bp eb2]
  obtain ⟨hb3, X3, o3, eb3, eo3, ob3, z0_3, fr_3⟩ := new_b (h := hb2) (X := X1) (k := 1000) (n := 256)
  have oz3 : o3 = hZ hb2 + 1 ∧ hZ hb3 = o3 := ⟨ob3.1.1, ob3.1.2.1⟩
  have sS_3 : S0 hb3 := S0_bn sS_2 ob3 (by omega)
  have kr_hb3 : hK hb3 r = 14 := (bnK ob3 (by omega)).trans kr_hb2
  have ko1_hb3 : hK hb3 o1 = 1001 := (bnK ob3 (by omega)).trans ko1_hb2
  have no1_hb3 : hN hb3 o1 = 256 := (bnN ob3 (by omega)).trans no1_hb2
  have pp2_hb3 : hP hb3 r 2 = o1 := (bnP ob3 (by omega)).trans pp2_hb2
  clear kr_hb2 ko1_hb2 no1_hb2 pp2_hb2
  have ko3_hb3 : hK hb3 o3 = 1000 := congrArg Prod.fst ob3.2.1
  have no3_hb3 : hN hb3 o3 = 256 := congrArg Prod.snd ob3.2.1
  rw [show sN (sZ hb2 X1) 1000 256 = sZ hb3 X3 from eb3, show hZ (sZ hb2 X1) + 1 = o3 from eo3, gk1 (by exact kr_hb3), z_g_t ⟨by omega, by omega⟩]
  obtain ⟨hb4, eb4⟩ : ∃ z_, z_ = sP hb3 r 3 o3 := ⟨_, rfl⟩
  have oz4 : hZ hb4 = hZ hb3 := hZ_bp eb4
  have sS_4 : S0 hb4 := by rw [eb4]; exact S0_bd sS_3 (by omega)
  have kr_hb4 : hK hb4 r = 14 := (hK_bp eb4).trans kr_hb3
  have ko1_hb4 : hK hb4 o1 = 1001 := (hK_bp eb4).trans ko1_hb3
  have no1_hb4 : hN hb4 o1 = 256 := (hN_bp eb4).trans no1_hb3
  have pp2_hb4 : hP hb4 r 2 = o1 := (hP_bp eb4 (by omega)).trans pp2_hb3
  have ko3_hb4 : hK hb4 o3 = 1000 := (hK_bp eb4).trans ko3_hb3
  have no3_hb4 : hN hb4 o3 = 256 := (hN_bp eb4).trans no3_hb3
  clear kr_hb3 ko1_hb3 no1_hb3 pp2_hb3 ko3_hb3 no3_hb3
  have pp4_hb4 : hP hb4 r 3 = o3 := by rw [eb4]; exact hP_s1
  rw [show sP (sZ hb3 X3) r 3 o3 = sZ hb4 X3 from sZ_bp eb4]
  obtain ⟨hb5, X5, o5, eb5, eo5, ob5, z0_5, fr_5⟩ := new_b (h := hb4) (X := X3) (k := 1000) (n := 256)
  have oz5 : o5 = hZ hb4 + 1 ∧ hZ hb5 = o5 := ⟨ob5.1.1, ob5.1.2.1⟩
  have sS_5 : S0 hb5 := S0_bn sS_4 ob5 (by omega)
  have kr_hb5 : hK hb5 r = 14 := (bnK ob5 (by omega)).trans kr_hb4
  have ko1_hb5 : hK hb5 o1 = 1001 := (bnK ob5 (by omega)).trans ko1_hb4
  have no1_hb5 : hN hb5 o1 = 256 := (bnN ob5 (by omega)).trans no1_hb4
  have pp2_hb5 : hP hb5 r 2 = o1 := (bnP ob5 (by omega)).trans pp2_hb4
  have ko3_hb5 : hK hb5 o3 = 1000 := (bnK ob5 (by omega)).trans ko3_hb4
  have no3_hb5 : hN hb5 o3 = 256 := (bnN ob5 (by omega)).trans no3_hb4
  have pp4_hb5 : hP hb5 r 3 = o3 := (bnP ob5 (by omega)).trans pp4_hb4
  clear kr_hb4 ko1_hb4 no1_hb4 pp2_hb4 ko3_hb4 no3_hb4 pp4_hb4
  have ko5_hb5 : hK hb5 o5 = 1000 := congrArg Prod.fst ob5.2.1
  have no5_hb5 : hN hb5 o5 = 256 := congrArg Prod.snd ob5.2.1
  rw [show sN (sZ hb4 X3) 1000 256 = sZ hb5 X5 from eb5, show hZ (sZ hb4 X3) + 1 = o5 from eo5, gk1 (by exact kr_hb5)]
  obtain ⟨hb6, eb6⟩ : ∃ z_, z_ = sP hb5 r 5 o5 := ⟨_, rfl⟩
  have oz6 : hZ hb6 = hZ hb5 := hZ_bp eb6
  have sS_6 : S0 hb6 := by rw [eb6]; exact S0_bd sS_5 (by omega)
  have kr_hb6 : hK hb6 r = 14 := (hK_bp eb6).trans kr_hb5
  have ko1_hb6 : hK hb6 o1 = 1001 := (hK_bp eb6).trans ko1_hb5
  have no1_hb6 : hN hb6 o1 = 256 := (hN_bp eb6).trans no1_hb5
  have pp2_hb6 : hP hb6 r 2 = o1 := (hP_bp eb6 (by omega)).trans pp2_hb5
  have ko3_hb6 : hK hb6 o3 = 1000 := (hK_bp eb6).trans ko3_hb5
  have no3_hb6 : hN hb6 o3 = 256 := (hN_bp eb6).trans no3_hb5
  have pp4_hb6 : hP hb6 r 3 = o3 := (hP_bp eb6 (by omega)).trans pp4_hb5
  have ko5_hb6 : hK hb6 o5 = 1000 := (hK_bp eb6).trans ko5_hb5
  have no5_hb6 : hN hb6 o5 = 256 := (hN_bp eb6).trans no5_hb5
  clear kr_hb5 ko1_hb5 no1_hb5 pp2_hb5 ko3_hb5 no3_hb5 pp4_hb5 ko5_hb5 no5_hb5
  have pp6_hb6 : hP hb6 r 5 = o5 := by rw [eb6]; exact hP_s1
  rw [show sP (sZ hb5 X5) r 5 o5 = sZ hb6 X5 from sZ_bp eb6, e246_31, z_g_t ⟨by omega, by omega⟩, show Int.toNat 256 = 256 from rfl]
  obtain ⟨hb7, X7, o7, eb7, eo7, ob7, z0_7, fr_7⟩ := new_b (h := hb6) (X := X5) (k := 1000) (n := 256)
  have oz7 : o7 = hZ hb6 + 1 ∧ hZ hb7 = o7 := ⟨ob7.1.1, ob7.1.2.1⟩
  have sS_7 : S0 hb7 := S0_bn sS_6 ob7 (by omega)
  have kr_hb7 : hK hb7 r = 14 := (bnK ob7 (by omega)).trans kr_hb6
  have ko1_hb7 : hK hb7 o1 = 1001 := (bnK ob7 (by omega)).trans ko1_hb6
  have no1_hb7 : hN hb7 o1 = 256 := (bnN ob7 (by omega)).trans no1_hb6
  have pp2_hb7 : hP hb7 r 2 = o1 := (bnP ob7 (by omega)).trans pp2_hb6
  have ko3_hb7 : hK hb7 o3 = 1000 := (bnK ob7 (by omega)).trans ko3_hb6
  have no3_hb7 : hN hb7 o3 = 256 := (bnN ob7 (by omega)).trans no3_hb6
  have pp4_hb7 : hP hb7 r 3 = o3 := (bnP ob7 (by omega)).trans pp4_hb6
  have ko5_hb7 : hK hb7 o5 = 1000 := (bnK ob7 (by omega)).trans ko5_hb6
  have no5_hb7 : hN hb7 o5 = 256 := (bnN ob7 (by omega)).trans no5_hb6
  have pp6_hb7 : hP hb7 r 5 = o5 := (bnP ob7 (by omega)).trans pp6_hb6
  clear kr_hb6 ko1_hb6 no1_hb6 pp2_hb6 ko3_hb6 no3_hb6 pp4_hb6 ko5_hb6 no5_hb6 pp6_hb6
  have ko7_hb7 : hK hb7 o7 = 1000 := congrArg Prod.fst ob7.2.1
  have no7_hb7 : hN hb7 o7 = 256 := congrArg Prod.snd ob7.2.1
  rw [show sN (sZ hb6 X5) 1000 256 = sZ hb7 X7 from eb7, show hZ (sZ hb6 X5) + 1 = o7 from eo7, gk1 (by exact kr_hb7), z_g_t ⟨by omega, by omega⟩]
  obtain ⟨hb8, eb8⟩ : ∃ z_, z_ = sP hb7 r 6 o7 := ⟨_, rfl⟩
  have oz8 : hZ hb8 = hZ hb7 := hZ_bp eb8
  have sS_8 : S0 hb8 := by rw [eb8]; exact S0_bd sS_7 (by omega)
  have kr_hb8 : hK hb8 r = 14 := (hK_bp eb8).trans kr_hb7
  have ko1_hb8 : hK hb8 o1 = 1001 := (hK_bp eb8).trans ko1_hb7
  have no1_hb8 : hN hb8 o1 = 256 := (hN_bp eb8).trans no1_hb7
  have pp2_hb8 : hP hb8 r 2 = o1 := (hP_bp eb8 (by omega)).trans pp2_hb7
  have ko3_hb8 : hK hb8 o3 = 1000 := (hK_bp eb8).trans ko3_hb7
  have no3_hb8 : hN hb8 o3 = 256 := (hN_bp eb8).trans no3_hb7
  have pp4_hb8 : hP hb8 r 3 = o3 := (hP_bp eb8 (by omega)).trans pp4_hb7
  have ko5_hb8 : hK hb8 o5 = 1000 := (hK_bp eb8).trans ko5_hb7
  have no5_hb8 : hN hb8 o5 = 256 := (hN_bp eb8).trans no5_hb7
  have pp6_hb8 : hP hb8 r 5 = o5 := (hP_bp eb8 (by omega)).trans pp6_hb7
  have ko7_hb8 : hK hb8 o7 = 1000 := (hK_bp eb8).trans ko7_hb7
  have no7_hb8 : hN hb8 o7 = 256 := (hN_bp eb8).trans no7_hb7
  clear kr_hb7 ko1_hb7 no1_hb7 pp2_hb7 ko3_hb7 no3_hb7 pp4_hb7 ko5_hb7 no5_hb7 pp6_hb7 ko7_hb7 no7_hb7
  have pp8_hb8 : hP hb8 r 6 = o7 := by rw [eb8]; exact hP_s1
  rw [show sP (sZ hb7 X7) r 6 o7 = sZ hb8 X7 from sZ_bp eb8, show Int.toNat 16 = 16 from rfl]
  obtain ⟨hb9, X9, o9, eb9, eo9, ob9, z0_9, fr_9⟩ := new_b (h := hb8) (X := X7) (k := 1000) (n := 16)
  have oz9 : o9 = hZ hb8 + 1 ∧ hZ hb9 = o9 := ⟨ob9.1.1, ob9.1.2.1⟩
  have sS_9 : S0 hb9 := S0_bn sS_8 ob9 (by omega)
  have kr_hb9 : hK hb9 r = 14 := (bnK ob9 (by omega)).trans kr_hb8
  have ko1_hb9 : hK hb9 o1 = 1001 := (bnK ob9 (by omega)).trans ko1_hb8
  have no1_hb9 : hN hb9 o1 = 256 := (bnN ob9 (by omega)).trans no1_hb8
  have pp2_hb9 : hP hb9 r 2 = o1 := (bnP ob9 (by omega)).trans pp2_hb8
  have ko3_hb9 : hK hb9 o3 = 1000 := (bnK ob9 (by omega)).trans ko3_hb8
  have no3_hb9 : hN hb9 o3 = 256 := (bnN ob9 (by omega)).trans no3_hb8
  have pp4_hb9 : hP hb9 r 3 = o3 := (bnP ob9 (by omega)).trans pp4_hb8
  have ko5_hb9 : hK hb9 o5 = 1000 := (bnK ob9 (by omega)).trans ko5_hb8
  have no5_hb9 : hN hb9 o5 = 256 := (bnN ob9 (by omega)).trans no5_hb8
  have pp6_hb9 : hP hb9 r 5 = o5 := (bnP ob9 (by omega)).trans pp6_hb8
  have ko7_hb9 : hK hb9 o7 = 1000 := (bnK ob9 (by omega)).trans ko7_hb8
  have no7_hb9 : hN hb9 o7 = 256 := (bnN ob9 (by omega)).trans no7_hb8
  have pp8_hb9 : hP hb9 r 6 = o7 := (bnP ob9 (by omega)).trans pp8_hb8
  clear kr_hb8 ko1_hb8 no1_hb8 pp2_hb8 ko3_hb8 no3_hb8 pp4_hb8 ko5_hb8 no5_hb8 pp6_hb8 ko7_hb8 no7_hb8 pp8_hb8
  have ko9_hb9 : hK hb9 o9 = 1000 := congrArg Prod.fst ob9.2.1
  have no9_hb9 : hN hb9 o9 = 16 := congrArg Prod.snd ob9.2.1
  rw [show sN (sZ hb8 X7) 1000 16 = sZ hb9 X9 from eb9, show hZ (sZ hb8 X7) + 1 = o9 from eo9, gk1 (by exact kr_hb9)]
  obtain ⟨hb10, eb10⟩ : ∃ z_, z_ = sP hb9 r 7 o9 := ⟨_, rfl⟩
  have oz10 : hZ hb10 = hZ hb9 := hZ_bp eb10
  have sS_10 : S0 hb10 := by rw [eb10]; exact S0_bd sS_9 (by omega)
  have kr_hb10 : hK hb10 r = 14 := (hK_bp eb10).trans kr_hb9
  have ko1_hb10 : hK hb10 o1 = 1001 := (hK_bp eb10).trans ko1_hb9
  have no1_hb10 : hN hb10 o1 = 256 := (hN_bp eb10).trans no1_hb9
  have pp2_hb10 : hP hb10 r 2 = o1 := (hP_bp eb10 (by omega)).trans pp2_hb9
  have ko3_hb10 : hK hb10 o3 = 1000 := (hK_bp eb10).trans ko3_hb9
  have no3_hb10 : hN hb10 o3 = 256 := (hN_bp eb10).trans no3_hb9
  have pp4_hb10 : hP hb10 r 3 = o3 := (hP_bp eb10 (by omega)).trans pp4_hb9
  have ko5_hb10 : hK hb10 o5 = 1000 := (hK_bp eb10).trans ko5_hb9
  have no5_hb10 : hN hb10 o5 = 256 := (hN_bp eb10).trans no5_hb9
  have pp6_hb10 : hP hb10 r 5 = o5 := (hP_bp eb10 (by omega)).trans pp6_hb9
  have ko7_hb10 : hK hb10 o7 = 1000 := (hK_bp eb10).trans ko7_hb9
  have no7_hb10 : hN hb10 o7 = 256 := (hN_bp eb10).trans no7_hb9
  have pp8_hb10 : hP hb10 r 6 = o7 := (hP_bp eb10 (by omega)).trans pp8_hb9
  have ko9_hb10 : hK hb10 o9 = 1000 := (hK_bp eb10).trans ko9_hb9
  have no9_hb10 : hN hb10 o9 = 16 := (hN_bp eb10).trans no9_hb9
  clear kr_hb9 ko1_hb9 no1_hb9 pp2_hb9 ko3_hb9 no3_hb9 pp4_hb9 ko5_hb9 no5_hb9 pp6_hb9 ko7_hb9 no7_hb9 pp8_hb9 ko9_hb9 no9_hb9
  have pp10_hb10 : hP hb10 r 7 = o9 := by rw [eb10]; exact hP_s1
  rw [show sP (sZ hb9 X9) r 7 o9 = sZ hb10 X9 from sZ_bp eb10]
  exact ⟨hb10, X9, o1, o3, o5, o7, o9, rfl, sS_10, (bx_le (bx_p (bx_n (bx_p (bx_n (bx_p (bx_n (bx_p (bx_n (bx_p (bx_n (bx_rfl) ob1 (by omega)) eb2 (by first | exact .inr ⟨by omega, by omega⟩ | exact .inl (by first | decide | omega | (unfold z_Wo; omega)))) ob3 (by omega)) eb4 (by first | exact .inr ⟨by omega, by omega⟩ | exact .inl (by first | decide | omega | (unfold z_Wo; omega)))) ob5 (by omega)) eb6 (by first | exact .inr ⟨by omega, by omega⟩ | exact .inl (by first | decide | omega | (unfold z_Wo; omega)))) ob7 (by omega)) eb8 (by first | exact .inr ⟨by omega, by omega⟩ | exact .inl (by first | decide | omega | (unfold z_Wo; omega)))) ob9 (by omega)) eb10 (by first | exact .inr ⟨by omega, by omega⟩ | exact .inl (by first | decide | omega | (unfold z_Wo; omega)))) (by omega) (by omega)), kr_hb10, (by omega), ⟨ko1_hb10, no1_hb10, pp2_hb10⟩, ⟨ko3_hb10, no3_hb10, pp4_hb10⟩, ⟨ko5_hb10, no5_hb10, pp6_hb10⟩, ⟨ko7_hb10, no7_hb10, pp8_hb10⟩, ⟨ko9_hb10, no9_hb10, pp10_hb10⟩, (by intro a i q_; have q2_ : a = o1 ∨ a = o3 ∨ a = o5 ∨ a = o7 ∨ a = o9 := (by omega); rcases q2_ with u | u | u | u | u <;> subst u <;> simp (disch := omega) only [z0_1, z0_3, z0_5, z0_7, z0_9, fr_3, fr_5, fr_7, fr_9]), (fun a i w => by simp (disch := omega) only [up_n, fr_9, fr_7, fr_5, fr_3, fr_1])⟩
