set_option maxRecDepth 100000
set_option linter.unusedVariables false
set_option maxHeartbeats 200000
/-! PLAIN, LINES: a sample's error, both ways -/
theorem top8 : z_w (z_shl 1 8 - 1) = 255 := sorry
theorem c_err {hc : z_M} {t co cx sm : Nat} {x y v s nr st : Int} (kt : hK hc t = 52) (kco : hK hc co = 41) (psm : hP hc co 0 = sm) (ksm : hK hc sm = 1000) (nsm : hN hc sm = 144) (hx : 0 ≤ x ∧ x ≤ 11) (hy : 0 ≤ y ∧ y ≤ 11)
    (rs : hI hc sm (Int.toNat ((12 * y) + x)) = s) (hs : 0 ≤ s ∧ s ≤ 255) (hv : 0 ≤ v ∧ v ≤ 255) (n1 : hI hc t 1 = nr) (n2 : hI hc t 2 = st) (hn : 0 ≤ nr ∧ nr ≤ 3) (hst : st = 2 * nr + 1) :
    f1062_0 t co ((12 * y) + x) v cx hc = f1062_43 t cx (z_e0 nr st s v) hc := sorry
theorem t_tell {ht : z_M} {m x y v s nr st rg : Int} (hm : 0 ≤ m ∧ m ≤ 3) (hx : 0 ≤ x ∧ x ≤ 11) (hy : 0 ≤ y ∧ y ≤ 11) (E2 : f916_0 m x y ht = z_ri v ht) (ts : hI ht 1088 (Int.toNat (((144 * m) + (12 * y)) + x)) = s) (hs : 0 ≤ s ∧ s ≤ 255) (hv : 0 ≤ v ∧ v ≤ 255)
    (t97 : hI ht 1064 97 = nr) (t98 : hI ht 1064 98 = 255) (hn : 0 ≤ nr ∧ nr ≤ 3) (hst : st = 2 * nr + 1) (hrg : rg = (255 + 2 * nr) / (2 * nr + 1) + 1) (hr : 1 ≤ rg ∧ rg ≤ 256) (T : (-300 ≤ z_e0 nr st s v ∧ z_e0 nr st s v ≤ 300) ∧ (-600 ≤ st * z_e0 nr st s v ∧ st * z_e0 nr st s v ≤ 600)) :
    f942_0 m x y ht = f942_108 m (if 0 ≤ z_e0 nr st s v then z_e0 nr st s v else z_e0 nr st s v + rg) (sI ht 1110 (Int.toNat (((144 * m) + (12 * y)) + x)) (max 0 (min 255 (v + st * z_e0 nr st s v)))) := sorry
