set_option maxRecDepth 100000
set_option linter.unusedVariables false
set_option maxHeartbeats 200000
/-! PLAIN: sheets, the component's rows of bits and the twin's -/
theorem shl_1 {x : Int} {P : Nat} (hP : 2 ^ x.toNat = P) (a : 0 ≤ x) (b : x < 24) : z_shl 1 x = (P : Int) ∧ P ≤ 8388608 := by
  have l : P ≤ 8388608 := by
    rw [← hP]; exact Nat.le_trans (Nat.pow_le_pow_right (by decide) (show x.toNat ≤ 23 by omega)) (by decide)
  have e : (2 : Int) ^ (x % 32).toNat = (P : Int) := by
    rw [show (x % 32).toNat = x.toNat by omega, ← hP, Int.natCast_pow]; rfl
  refine ⟨?_, l⟩
  unfold z_shl
  rw [e, Int.one_mul, w_id (by omega) (by omega)]
theorem bit_i (n j : Nat) : ((n : Nat) : Int) / 2 ^ j % 2 = ((Nat.testBit n j).toNat : Int) := by
  rw [Nat.toNat_testBit, Int.natCast_emod, Int.natCast_ediv, Int.natCast_pow]; rfl
theorem dark_i {r x : Int} (a : 0 ≤ x) (b : x < 24) : z_and (z_shr r x) 1 = r / 2 ^ x.toNat % 2 := by
  rw [and_1]; unfold z_shr; rw [show (x % 32).toNat = x.toNat by omega]
theorem or_bit {r x : Int} (r0 : 0 ≤ r) (r1 : r < 16777216) (a : 0 ≤ x) (b : x < 24) : (0 ≤ z_or r (z_shl 1 x) ∧ z_or r (z_shl 1 x) < 16777216) ∧ ∀ j, j < 24 → z_or r (z_shl 1 x) / 2 ^ j % 2 = if j = x.toNat then 1 else r / 2 ^ j % 2 := by
  obtain ⟨P, hP⟩ : ∃ P : Nat, 2 ^ x.toNat = P := ⟨_, rfl⟩
  obtain ⟨s1, s2⟩ := shl_1 hP a b
  rw [s1, or_nat r0 (by omega) (by omega) (by omega), show ((P : Int)).toNat = P by omega]
  have l2 : r.toNat ||| P < 2 ^ 24 := Nat.or_lt_two_pow (by omega) (by omega)
  refine ⟨by omega, fun j hj => ?_⟩
  rw [bit_i, Nat.testBit_or, ← hP, Nat.testBit_two_pow]
  by_cases q : j = x.toNat
  · rw [if_pos q, decide_eq_true q.symm, Bool.or_true]; rfl
  · rw [if_neg q, decide_eq_false (fun z => q z.symm), Bool.or_false, ← bit_i, show ((r.toNat : Nat) : Int) = r by omega]
theorem clr_bit {r x : Int} (r0 : 0 ≤ r) (r1 : r < 16777216) (a : 0 ≤ x) (b : x < 24) : (0 ≤ z_and r (z_xor (z_shl 1 x) (-1)) ∧ z_and r (z_xor (z_shl 1 x) (-1)) < 16777216) ∧ ∀ j, j < 24 → z_and r (z_xor (z_shl 1 x) (-1)) / 2 ^ j % 2 = if j = x.toNat then 0 else r / 2 ^ j % 2 := by
  obtain ⟨P, hP⟩ : ∃ P : Nat, 2 ^ x.toNat = P := ⟨_, rfl⟩
  obtain ⟨s1, s2⟩ := shl_1 hP a b
  have l : r.toNat &&& (P ^^^ 4294967295) ≤ r.toNat := Nat.and_le_left
  have e : z_and r (z_xor (z_shl 1 x) (-1)) = ((r.toNat &&& (P ^^^ 4294967295) : Nat) : Int) := by
    rw [s1]; unfold z_and z_xor
    rw [Int32.ofInt_toInt]
    have e : (Int32.ofInt r &&& (Int32.ofInt (P : Int) ^^^ Int32.ofInt (-1))).toBitVec.toNat = r.toNat &&& (P ^^^ 4294967295) := by
      rw [Int32.toBitVec_and, BitVec.toNat_and, i32_nat r0 (by omega), Int32.toBitVec_xor, BitVec.toNat_xor, i32_nat (x := (P : Int)) (by omega) (by omega)]
      have q : (Int32.ofInt (-1)).toBitVec.toNat = 4294967295 := by decide
      rw [q, show ((P : Int)).toNat = P by omega]
    rw [i32_int (by rw [e]; omega), e]
  rw [e]
  refine ⟨by omega, fun j hj => ?_⟩
  rw [bit_i, Nat.testBit_and, Nat.testBit_xor, ← hP, Nat.testBit_two_pow, show (4294967295 : Nat) = 2 ^ 32 - 1 by decide, Nat.testBit_two_pow_sub_one, decide_eq_true (show j < 32 by omega)]
  by_cases q : j = x.toNat
  · rw [if_pos q, decide_eq_true q.symm, Bool.xor_self, Bool.and_false]; rfl
  · rw [if_neg q, decide_eq_false (fun z => q z.symm), Bool.false_xor, Bool.and_true, ← bit_i, show ((r.toNat : Nat) : Int) = r by omega]
def z_shs (h : z_M) : Prop := hK h 1 = 10 ∧ hP h 1 1 = 3 ∧ (hK h 3 = 1113 ∧ hN h 3 = 4) ∧ ∀ s, s < 4 → hP h 3 s = 127 + 2 * s ∧ hK h (127 + 2 * s) = 28 ∧ hP h (127 + 2 * s) 2 = 128 + 2 * s ∧ hK h (128 + 2 * s) = 1000 ∧ hN h (128 + 2 * s) = 24
theorem c_sheetAt {h : z_M} (S : z_shs h) (x : Int) : f167_0 1 x h = z_if (0 ≤ x ∧ x ≤ 3) (z_rr (127 + 2 * (Int.toNat x)) h) (z_ex (hZ h + 1) (sN h 2 6)) := by
  rw [e167_0, c_within, z_ki_ri, c_wantIndex]
  by_cases q : 0 ≤ x ∧ x ≤ 3
  · rw [z_if_t q, z_if_t q, z_kv_rv, gk1 S.1, S.2.1, gir_n S.2.2.1.1 S.2.2.1.2 (by omega) (by omega) (by omega), (S.2.2.2 (Int.toNat x) (by omega)).1]
  · rw [z_if_f q, z_if_f q, z_kv_ex]
def R_sh (hc ht : z_M) : Prop := ∀ s, s < 4 → (hI hc (127 + 2 * s) 0 = hI ht 1069 s ∧ hI hc (127 + 2 * s) 1 = hI ht 1070 s) ∧ (0 ≤ hI ht 1069 s ∧ hI ht 1069 s ≤ 24 ∧ 0 ≤ hI ht 1070 s ∧ hI ht 1070 s ≤ 24) ∧ (∀ y x : Nat, y < 24 → x < 24 → (hI ht 1069 s ≤ (x : Int) ∨ hI ht 1070 s ≤ (y : Int)) → hI ht 1071 (576 * s + 24 * y + x) = 0) ∧
  (0 < hI ht 1069 s → ∀ y, y < 24 → (0 ≤ hI hc (128 + 2 * s) y ∧ hI hc (128 + 2 * s) y < 16777216) ∧ ∀ x, x < 24 → hI hc (128 + 2 * s) y / 2 ^ x % 2 = hI ht 1071 (576 * s + 24 * y + x))
theorem sh_at {hc ht : z_M} (R : R_sh hc ht) {s x y j : Int} (hs : 0 ≤ s ∧ s ≤ 3) (a : 0 ≤ y ∧ y < 24) (b : 0 ≤ x ∧ x < 24) (e : j = 576 * s + 24 * y + x) (hw : 0 < hI ht 1069 (Int.toNat s)) : z_and (z_shr (hI hc (128 + 2 * (Int.toNat s)) (Int.toNat y)) x) 1 = hI ht 1071 (Int.toNat j) ∧ (hI ht 1071 (Int.toNat j) = 0 ∨ hI ht 1071 (Int.toNat j) = 1) ∧ (0 ≤ hI hc (128 + 2 * (Int.toNat s)) (Int.toNat y) ∧ hI hc (128 + 2 * (Int.toNat s)) (Int.toNat y) < 16777216) := by
  obtain ⟨-, -, -, r⟩ := R (Int.toNat s) (by omega)
  obtain ⟨r1, r2⟩ := r hw (Int.toNat y) (by omega)
  have r3 := r2 (Int.toNat x) (by omega)
  rw [dark_i b.1 b.2, show Int.toNat j = 576 * Int.toNat s + 24 * Int.toNat y + Int.toNat x by omega, ← r3]
  exact ⟨rfl, by omega, r1⟩
theorem R_ink {hc ht : z_M} (R : R_sh hc ht) {s x y j v d : Int} (hs : 0 ≤ s ∧ s ≤ 3) (a : 0 ≤ y ∧ y < 24) (b : 0 ≤ x ∧ x < 24) (e : j = 576 * s + 24 * y + x) (hx : x < hI ht 1069 (Int.toNat s)) (hy : y < hI ht 1070 (Int.toNat s))
    (hv : (0 ≤ v ∧ v < 16777216) ∧ ∀ i, i < 24 → v / 2 ^ i % 2 = if i = Int.toNat x then d else hI hc (128 + 2 * (Int.toNat s)) (Int.toNat y) / 2 ^ i % 2) : R_sh (sI hc (128 + 2 * (Int.toNat s)) (Int.toNat y) v) (sI ht 1071 (Int.toNat j) d) := fun n hn => by
  obtain ⟨r1, r2, r4, r3⟩ := R n hn
  simp (disch := omega) only [hI_s0]
  refine ⟨r1, r2, fun y' x' hy' hx' c => ?_, fun w z hz => ?_⟩
  · by_cases q : n = Int.toNat s ∧ y' = Int.toNat y ∧ x' = Int.toNat x
    · obtain ⟨q1, q2, q3⟩ := q
      subst q1
      omega
    · rw [hI_s0 (by omega)]; exact r4 y' x' hy' hx' c
  · obtain ⟨t1, t2⟩ := r3 w z hz
    by_cases q : n = Int.toNat s ∧ z = Int.toNat y
    · rw [hI_s1e (by omega) (by omega)]
      refine ⟨hv.1, fun i hi => ?_⟩
      rw [hv.2 i hi]
      by_cases q2 : i = Int.toNat x
      · rw [if_pos q2, hI_s1e rfl (by omega)]
      · rw [if_neg q2, hI_s0 (by omega), ← q.1, ← q.2]; exact t2 i hi
    · rw [hI_s0 (by omega)]
      refine ⟨t1, fun i hi => ?_⟩
      rw [hI_s0 (by omega)]; exact t2 i hi
theorem R_sco {hc ht : z_M} (R : R_sh hc ht) {f : Nat} {v : Int} : R_sh hc (sI ht 1064 f v) := fun n hn => by
  simp (disch := omega) only [hI_s0]
  exact R n hn
theorem R_slo {hc ht : z_M} (R : R_sh hc ht) {a i : Nat} {v : Int} : R_sh (sL hc a i v) ht := R
def z_sc0 (a : Nat) : Prop := 127 ≤ a ∧ a ≤ 134
def z_scell (a : Nat) : Prop := (127 ≤ a ∧ a ≤ 134) ∨ a = 1272
def z_sch (hc : z_M) (hc' ht' : z_M) : Prop := z_shs hc' ∧ R_sh hc' ht' ∧ z_fr z_scell 0 0 hc hc'
theorem frS {hc h1 : z_M} {v : Int} (p : z_fr z_sc0 0 0 hc h1) : z_fr z_scell 0 0 hc (sL h1 1272 0 v) := fr_tr (fr_le p (fun _ q => .inl q) (Nat.le_refl _) (Nat.le_refl _)) (fr_sL (.inr rfl))
theorem out_frS {hc h1 : z_M} (O : z_out hc) (p : z_fr z_sc0 0 0 hc h1) : hK h1 1272 = 1003 ∧ hN h1 1272 = 1 := by
  have s := p.1 1272 (.inl O.2.2) (by unfold z_sc0; omega)
  exact ⟨(sm_K s).trans O.1, (sm_N s).trans O.2.1⟩
/-- a sheet begins -/
theorem c_sbegin {s : Nat} (hs : s < 4) {w g : Int} {h : z_M} (S : z_shs h) :
    f427_0 (127 + 2 * s) w g h = z_rv (sA (sI (sI h (127 + 2 * s) 0 w) (127 + 2 * s) 1 g) (128 + 2 * s) (fun j => if 0 ≤ j ∧ j < 0 + 24 then 0 else hI h (128 + 2 * s) j)) := by
  obtain ⟨t1, t2, t3, t4, t5⟩ := S.2.2.2 s hs
  have L := loop_A0 (F := fun x h => f427_12 (127 + 2 * s) x h) (a := 128 + 2 * s) (b := 0) (v := fun _ => 0) (h := sI (sI h (127 + 2 * s) 0 w) (127 + 2 * s) 1 g) (x0 := 0) (n := 24) (fun i f hi => by
    show f427_12 (127 + 2 * s) (0 + (i : Int)) _ = f427_12 (127 + 2 * s) (0 + (i : Int) + 1) _
    rw [e427_12, z_if_f (by omega), gk1 (by exact t2), show hP (sA (sI (sI h (127 + 2 * s) 0 w) (127 + 2 * s) 1 g) (128 + 2 * s) f) (127 + 2 * s) 2 = 128 + 2 * s from t3, gian_n (by exact t4) (by exact t5) (by omega) (by omega) (by omega), show z_w ((0 + (i : Int)) + 1) = (0 + (i : Int)) + 1 from w_id (by omega) (by omega)]
    rw [show (0 + (i : Int)).toNat = 0 + i by omega, sI_sA])
  rw [e427_0, gk1 (by exact t2), gk1 (by exact t2), show f427_12 (127 + 2 * s) 0 _ = _ from L]
  show f427_12 (127 + 2 * s) (0 + ((24 : Nat) : Int)) _ = _
  rw [e427_12, z_if_t (by omega), e427_31]
  simp (disch := omega) only [hI_s0]
theorem t_makeSheet {s : Nat} (hs : s < 4) {w g : Int} (h : z_M) :
    f951_0 (s : Int) w g h = z_rv (sA (sI (sI h 1069 s w) 1070 s g) 1071 (fun j => if 576 * s ≤ j ∧ j < 576 * s + 576 then 0 else hI h 1071 j)) := by
  have w1 : z_w (576 * (s : Int)) = 576 * (s : Int) := w_id (by omega) (by omega)
  have w2 : z_w (576 * (s : Int) + 576) = 576 * (s : Int) + 576 := w_id (by omega) (by omega)
  have L := loop_A0 (F := fun x h => f951_21 (s : Int) x h) (a := 1071) (b := 576 * s) (v := fun _ => 0) (h := sI (sI h 1069 s w) 1070 s g) (x0 := 576 * (s : Int)) (n := 576) (fun i f hi => by
    show f951_21 (s : Int) (576 * (s : Int) + (i : Int)) _ = f951_21 (s : Int) (576 * (s : Int) + (i : Int) + 1) _
    rw [e951_21, w1, w2, z_if_f (by omega), gin (by omega) (by omega), gb_0, w_id (by omega) (by omega), show (576 * (s : Int) + (i : Int)).toNat = 576 * s + i by omega, sI_sA])
  rw [e951_0, gin (by omega) (by omega), gin (by omega) (by omega), w1, show (s : Int).toNat = s by omega, show f951_21 (s : Int) (576 * (s : Int)) _ = _ from L]
  show f951_21 (s : Int) (576 * (s : Int) + ((576 : Nat) : Int)) _ = _
  rw [e951_21, w1, w2, z_if_t (by omega), e951_49]
  simp (disch := omega) only [hI_s0]
theorem R_sbegin {hc ht : z_M} (R : R_sh hc ht) {s : Nat} (hs : s < 4) {w g : Int} (hw : 0 ≤ w ∧ w ≤ 24 ∧ 0 ≤ g ∧ g ≤ 24) : R_sh (sA (sI (sI hc (127 + 2 * s) 0 w) (127 + 2 * s) 1 g) (128 + 2 * s) (fun j => if 0 ≤ j ∧ j < 0 + 24 then 0 else hI hc (128 + 2 * s) j))
    (sA (sI (sI ht 1069 s w) 1070 s g) 1071 (fun j => if 576 * s ≤ j ∧ j < 576 * s + 576 then 0 else hI ht 1071 j)) := fun n hn => by
  obtain ⟨r1, r2, r4, r3⟩ := R n hn
  by_cases q : n = s
  · subst q
    simp (disch := omega) only [hI_A0, hI_s0, hI_A1e, hI_s1e, if_pos]
    refine ⟨⟨trivial, trivial⟩, hw, fun y x hy hx _ => by rw [if_pos (by omega)], fun _ y hy => ?_⟩
    simp (disch := omega) only [if_pos]
    refine ⟨by omega, fun x hx => ?_⟩
    rw [if_pos (by omega), Int.zero_ediv]; rfl
  · simp (disch := omega) only [hI_A0, hI_s0, hI_A1e, if_neg]
    refine ⟨r1, r2, fun y x hy hx c => by rw [if_neg (by omega)]; exact r4 y x hy hx c, fun w y hy => ?_⟩
    obtain ⟨t1, t2⟩ := r3 w y hy
    refine ⟨t1, fun x hx => ?_⟩
    rw [if_neg (by omega)]; exact t2 x hx
theorem fr_sbegin {hc : z_M} {s : Nat} (hs : s < 4) {w g : Int} {f : Nat → Int} : z_fr z_scell 0 0 hc (sA (sI (sI hc (127 + 2 * s) 0 w) (127 + 2 * s) 1 g) (128 + 2 * s) f) :=
  fr_tr (fr_tr (fr_sI (by unfold z_scell; omega)) (fr_sI (by unfold z_scell; omega))) (fr_sA (by unfold z_scell; omega))
