set_option maxRecDepth 100000
set_option linter.unusedVariables false
set_option maxHeartbeats 200000
/-! PLAIN: memory, one array anew; guards as rewriting rules; loops that lay an array -/
def sA (h : z_M) (a : Nat) (f : Nat → Int) : z_M := (h.1, fun x j => if x = a then f j else h.2.1 x j, h.2.2)
theorem hI_sA {h : z_M} {a b j : Nat} {f : Nat → Int} : hI (sA h a f) b j = if b = a then f j else hI h b j := sorry
theorem hL_sA {h : z_M} {a b j : Nat} {f : Nat → Int} : hL (sA h a f) b j = hL h b j := sorry
theorem hP_sA {h : z_M} {a b j : Nat} {f : Nat → Int} : hP (sA h a f) b j = hP h b j := sorry
theorem hK_sA {h : z_M} {a b : Nat} {f : Nat → Int} : hK (sA h a f) b = hK h b := sorry
theorem hN_sA {h : z_M} {a b : Nat} {f : Nat → Int} : hN (sA h a f) b = hN h b := sorry
theorem hZ_sA {h : z_M} {a : Nat} {f : Nat → Int} : hZ (sA h a f) = hZ h := sorry
theorem hS_sA {h : z_M} {a : Nat} {f : Nat → Int} : hS (sA h a f) = hS h := sorry
theorem hX_sA {h : z_M} {a : Nat} {f : Nat → Int} : hX (sA h a f) = hX h := sorry
theorem hG_sA {h : z_M} {a : Nat} {f : Nat → Int} : hG (sA h a f) = hG h := sorry
theorem hW_sA {h : z_M} {a : Nat} {f : Nat → Int} : hW (sA h a f) = hW h := sorry
theorem sI_sA {h : z_M} {a i : Nat} {f : Nat → Int} {v : Int} : sI (sA h a f) a i v = sA h a (fun j => if j = i then v else f j) := sorry
theorem sA_id {h : z_M} {a : Nat} : sA h a (hI h a) = h := sorry
theorem sI_to {h : z_M} {a i : Nat} {v : Int} : sI h a i v = sA h a (fun j => if j = i then v else hI h a j) := sorry
theorem sA_sw {h : z_M} {a b : Nat} {f g : Nat → Int} (n : a ≠ b) : sA (sA h a f) b g = sA (sA h b g) a f := sorry
theorem sI_sA2 {h : z_M} {a b i : Nat} {f g : Nat → Int} {v : Int} (n : a ≠ b) : sI (sA (sA h a f) b g) a i v = sA (sA h a (fun j => if j = i then v else f j)) b g := sorry
theorem sI_same {h : z_M} {a i : Nat} {v w : Int} : sI (sI h a i v) a i w = sI h a i w := sorry
theorem sm_sA {a b : Nat} {f : Nat → Int} {h : z_M} (q : a ≠ b) : z_sme a h (sA h b f) := sorry
theorem fr_sA {W : Nat → Prop} {b : Nat} {f : Nat → Int} {h : z_M} (hb : W b) : z_fr W 0 0 h (sA h b f) := sorry
/-! reads -/
theorem hI_s1 {h : z_M} {a i : Nat} {v : Int} : hI (sI h a i v) a i = v := sorry
theorem hI_s1e {h : z_M} {a i b j : Nat} {v : Int} (e : b = a) (f : j = i) : hI (sI h a i v) b j = v := sorry
theorem hI_s0 {h : z_M} {a i b j : Nat} {v : Int} (n : ¬ (b = a ∧ j = i)) : hI (sI h a i v) b j = hI h b j := sorry
theorem hI_A1 {h : z_M} {a j : Nat} {f : Nat → Int} : hI (sA h a f) a j = f j := sorry
theorem hI_A1e {h : z_M} {a b j : Nat} {f : Nat → Int} (e : b = a) : hI (sA h a f) b j = f j := sorry
theorem hI_A0 {h : z_M} {a b j : Nat} {f : Nat → Int} (n : ¬ b = a) : hI (sA h a f) b j = hI h b j := sorry
theorem hI_N0 {h : z_M} {k n b j : Nat} (q : ¬ b = hZ h + 1) : hI (sN h k n) b j = hI h b j := sorry
theorem hL_s1 {h : z_M} {a i : Nat} {v : Int} : hL (sL h a i v) a i = v := sorry
theorem hI_cpy {h : z_M} {s sp t dp n b j : Nat} : hI (z_cpy h s sp t dp n) b j = if b = t ∧ dp ≤ j ∧ j < dp + n then hI h s (sp + (j - dp)) else hI h b j := sorry
theorem hP_cpy {h : z_M} {s sp t dp n b j : Nat} : hP (z_cpy h s sp t dp n) b j = if b = t ∧ dp ≤ j ∧ j < dp + n then hP h s (sp + (j - dp)) else hP h b j := sorry
theorem hI_c0 {h : z_M} {s sp t dp n b j : Nat} (q : ¬ b = t) : hI (z_cpy h s sp t dp n) b j = hI h b j := sorry
theorem hI_c1 {h : z_M} {s sp t dp n b j : Nat} (q : b = t ∧ dp ≤ j ∧ j < dp + n) : hI (z_cpy h s sp t dp n) b j = hI h s (sp + (j - dp)) := sorry
theorem hP_c0 {h : z_M} {s sp t dp n b j : Nat} (q : ¬ b = t) : hP (z_cpy h s sp t dp n) b j = hP h b j := sorry
/-! guards do not see ints -/
theorem isk_sI {r a i : Nat} {v : Int} {h : z_M} {cs : List Nat} : z_isk r (sI h a i v) cs = z_isk r h cs := sorry
theorem isk_sL {r a i : Nat} {v : Int} {h : z_M} {cs : List Nat} : z_isk r (sL h a i v) cs = z_isk r h cs := sorry
theorem isk_sP {r a i v : Nat} {h : z_M} {cs : List Nat} : z_isk r (sP h a i v) cs = z_isk r h cs := sorry
theorem isk_sA {r a : Nat} {f : Nat → Int} {h : z_M} {cs : List Nat} : z_isk r (sA h a f) cs = z_isk r h cs := sorry
theorem isa_sI {r a i t : Nat} {v x : Int} {h : z_M} : z_isa r (sI h a i v) t x = z_isa r h t x := sorry
theorem isa_sL {r a i t : Nat} {v x : Int} {h : z_M} : z_isa r (sL h a i v) t x = z_isa r h t x := sorry
theorem isa_sP {r a i t v : Nat} {x : Int} {h : z_M} : z_isa r (sP h a i v) t x = z_isa r h t x := sorry
theorem isa_sA {r a t : Nat} {f : Nat → Int} {x : Int} {h : z_M} : z_isa r (sA h a f) t x = z_isa r h t x := sorry
theorem isz_sI {r a i : Nat} {v x : Int} {h : z_M} : z_isz r (sI h a i v) x = z_isz r h x := sorry
theorem isz_sA {r a : Nat} {f : Nat → Int} {x : Int} {h : z_M} : z_isz r (sA h a f) x = z_isz r h x := sorry
theorem isr_sI {r a i : Nat} {v x : Int} {h : z_M} : z_isr r (sI h a i v) x = z_isr r h x := sorry
theorem isr_sA {r a : Nat} {f : Nat → Int} {x : Int} {h : z_M} : z_isr r (sA h a f) x = z_isr r h x := sorry
/-! a guard that holds, by numbers -/
theorem gk1 {r c : Nat} {h : z_M} {x : z_Z} (e : hK h r = c) : z_g (z_isk r h [c]) x = x := sorry
theorem gin {i n : Int} {x : z_Z} (a : 0 ≤ i) (b : i < n) : z_g (z_inb i n) x = x := sorry
theorem g01 {v : Int} {x : z_Z} (e : v = 0 ∨ v = 1) : z_g (z_01 v) x = x := sorry
/-! loops that lay one array, two arrays -/
theorem up_k (b k : Nat) (u z : Nat → Int) : (fun j => if j = b + k then u k else if b ≤ j ∧ j < b + k then u (j - b) else z j) = (fun j => if b ≤ j ∧ j < b + (k + 1) then u (j - b) else z j) := sorry
theorem up_0 (b : Nat) (u z : Nat → Int) : (fun j => if b ≤ j ∧ j < b + 0 then u (j - b) else z j) = z := sorry
theorem loop_A {F : Int → z_M → z_Z} {a b : Nat} {v : Nat → Int} {h : z_M} {x0 : Int} {n : Nat}
    (step : ∀ (k : Nat) (f : Nat → Int), k < n → F (x0 + k) (sA h a f) = F (x0 + k + 1) (sA h a (fun j => if j = b + k then v k else f j))) (f : Nat → Int) :
    F x0 (sA h a f) = F (x0 + n) (sA h a (fun j => if b ≤ j ∧ j < b + n then v (j - b) else f j)) := sorry
theorem loop_B {F : Int → z_M → z_Z} {a c b : Nat} {v w : Nat → Int} {h : z_M} {x0 : Int} {n : Nat}
    (step : ∀ (k : Nat) (f g : Nat → Int), k < n → F (x0 + k) (sA (sA h a f) c g) = F (x0 + k + 1) (sA (sA h a (fun j => if j = b + k then v k else f j)) c (fun j => if j = b + k then w k else g j))) (f g : Nat → Int) :
    F x0 (sA (sA h a f) c g) = F (x0 + n) (sA (sA h a (fun j => if b ≤ j ∧ j < b + n then v (j - b) else f j)) c (fun j => if b ≤ j ∧ j < b + n then w (j - b) else g j)) := sorry
theorem loop_A0 {F : Int → z_M → z_Z} {a b : Nat} {v : Nat → Int} {h : z_M} {x0 : Int} {n : Nat}
    (step : ∀ (k : Nat) (f : Nat → Int), k < n → F (x0 + k) (sA h a f) = F (x0 + k + 1) (sA h a (fun j => if j = b + k then v k else f j))) :
    F x0 h = F (x0 + n) (sA h a (fun j => if b ≤ j ∧ j < b + n then v (j - b) else hI h a j)) := sorry
theorem loop_B0 {F : Int → z_M → z_Z} {a c b : Nat} {v w : Nat → Int} {h : z_M} {x0 : Int} {n : Nat} (ac : c ≠ a)
    (step : ∀ (k : Nat) (f g : Nat → Int), k < n → F (x0 + k) (sA (sA h a f) c g) = F (x0 + k + 1) (sA (sA h a (fun j => if j = b + k then v k else f j)) c (fun j => if j = b + k then w k else g j))) :
    F x0 h = F (x0 + n) (sA (sA h a (fun j => if b ≤ j ∧ j < b + n then v (j - b) else hI h a j)) c (fun j => if b ≤ j ∧ j < b + n then w (j - b) else hI h c j)) := sorry
/-- ints in a range: no wrap -/
theorem w_id {x : Int} (a : -2147483648 ≤ x) (b : x ≤ 2147483647) : z_w x = x := sorry
theorem i8_01 {v : Int} (a : 0 ≤ v) (b : v ≤ 127) : z_i8 v = v := sorry
/-! guards, by facts of this memory -/
theorem gks {r k : Nat} {cs : List Nat} {h : z_M} {x : z_Z} (e : hK h r = k) (q : z_has cs k = true) : z_g (z_isk r h cs) x = x := sorry
theorem gia_n {r t n : Nat} {i : Int} {h : z_M} {x : z_Z} (e : hK h r = t) (m : hN h r = n) (a : 0 ≤ i) (b : i < (n : Int)) : z_g (z_isa r h t i) x = x := sorry
theorem gian_n {r t n : Nat} {i : Int} {h : z_M} {x : z_Z} (e : hK h r = t) (m : hN h r = n) (a : 0 ≤ i) (b : i < (n : Int)) (w : r < 4294967296) : z_g (z_isa r h t i ∧ z_new r) x = x := sorry
theorem giz_n {r n : Nat} {i : Int} {h : z_M} {x : z_Z} (e : hK h r = 1001 ∨ hK h r = 1002) (m : hN h r = n) (a : 0 ≤ i) (b : i < (n : Int)) : z_g (z_isz r h i) x = x := sorry
theorem gizn_n {r n : Nat} {i v : Int} {h : z_M} {x : z_Z} (e : hK h r = 1001 ∨ hK h r = 1002) (m : hN h r = n) (a : 0 ≤ i) (b : i < (n : Int)) (w : r < 4294967296) (q : hK h r = 1002 ∨ v = 0 ∨ v = 1) : z_g (z_isz r h i ∧ z_new r ∧ (hK h r = 1002 ∨ z_01 v)) x = x := sorry
theorem gir_n {r n k : Nat} {i : Int} {h : z_M} {x : z_Z} (e : hK h r = k) (m : hN h r = n) (k1 : 1100 ≤ k) (a : 0 ≤ i) (b : i < (n : Int)) : z_g (z_isr r h i) x = x := sorry
theorem nq1 {h : z_M} {k n : Nat} {cs : List Nat} {x y : z_Z} (q : z_has cs k = true) : z_if (z_isk (hZ h + 1) (sN h k n) cs) x y = x := sorry
theorem nq0 {h : z_M} {k n : Nat} {cs : List Nat} {x y : z_Z} (q : z_has cs k = false) : z_if (z_isk (hZ h + 1) (sN h k n) cs) x y = y := sorry
theorem sI_com {h : z_M} {a i b j : Nat} {v w : Int} (n : ¬ (a = b ∧ i = j)) : sI (sI h a i v) b j w = sI (sI h b j w) a i v := sorry
/-- the same, where a step may look at what lies there -/
theorem loop_A1 {F : Int → z_M → z_Z} {a b : Nat} {v : Nat → Int} {h : z_M} {x0 : Int} {n : Nat}
    (step : ∀ (k : Nat), k < n → F (x0 + k) (sA h a (fun j => if b ≤ j ∧ j < b + k then v (j - b) else hI h a j)) = F (x0 + k + 1) (sA h a (fun j => if j = b + k then v k else if b ≤ j ∧ j < b + k then v (j - b) else hI h a j))) :
    F x0 h = F (x0 + n) (sA h a (fun j => if b ≤ j ∧ j < b + n then v (j - b) else hI h a j)) := sorry
theorem loop_B1 {F : Int → z_M → z_Z} {a c b : Nat} {v w : Nat → Int} {h : z_M} {x0 : Int} {n : Nat}
    (step : ∀ (k : Nat), k < n → F (x0 + k) (sA (sA h a (fun j => if b ≤ j ∧ j < b + k then v (j - b) else hI h a j)) c (fun j => if b ≤ j ∧ j < b + k then w (j - b) else hI h c j)) = F (x0 + k + 1) (sA (sA h a (fun j => if j = b + k then v k else if b ≤ j ∧ j < b + k then v (j - b) else hI h a j)) c (fun j => if j = b + k then w k else if b ≤ j ∧ j < b + k then w (j - b) else hI h c j))) :
    F x0 h = F (x0 + n) (sA (sA h a (fun j => if b ≤ j ∧ j < b + n then v (j - b) else hI h a j)) c (fun j => if b ≤ j ∧ j < b + n then w (j - b) else hI h c j)) := sorry
theorem gcp_n {q r k nq nr : Nat} {sp dp n : Int} {h : z_M} {x : z_Z} (kq : hK h q = k) (kr : hK h r = k) (mq : hN h q = nq) (mr : hN h r = nr) (kk : (1000 ≤ k ∧ ¬ k = 1004) ∧ k < 1100) (n1 : r < 4294967296) (n2 : q < 4294967296) (a : 0 ≤ sp) (b : 0 ≤ dp) (c : 0 ≤ n) (d : sp + n ≤ (nq : Int)) (e : dp + n ≤ (nr : Int)) : z_g (z_cpo z_elc h q r sp dp n) x = x := sorry
theorem i8_mod (x : Int) : z_i8 x % 256 = x % 256 := sorry
theorem gkz {r c : Nat} {v : Int} {h : z_M} {x : z_Z} (e : hK h r = c) (q : v = 0 ∨ v = 1) : z_g (z_isk r h [c] ∧ z_01 v) x = x := sorry
