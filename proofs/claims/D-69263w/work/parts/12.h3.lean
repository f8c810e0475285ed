set_option maxRecDepth 100000
set_option linter.unusedVariables false
set_option maxHeartbeats 200000
/-! PLAIN: a picture begins -/
theorem c_begin {k : Nat} (hk : k < 8) {v w g : Int} (hv : v = 0 ∨ v = 1) {h : z_M} (S : z_shp h) :
    f205_0 (103 + 3 * k) w g v h = z_rv (sA (sA (sI (sI h (103 + 3 * k) 0 w) (103 + 3 * k) 1 g) (104 + 3 * k) (fun j => if 0 ≤ j ∧ j < 0 + 144 then 0 else hI h (104 + 3 * k) j)) (105 + 3 * k) (fun j => if 0 ≤ j ∧ j < 0 + 144 then v else hI h (105 + 3 * k) j)) := sorry
theorem t_makePicture {k : Nat} (hk : k < 8) {v w g : Int} (hv : v = 0 ∨ v = 1) (h : z_M) :
    f950_0 (k : Int) w g v h = z_rv (sA (sA (sI (sI h 1065 k w) 1066 k g) 1067 (fun j => if 144 * k ≤ j ∧ j < 144 * k + 144 then 0 else hI h 1067 j)) 1068 (fun j => if 144 * k ≤ j ∧ j < 144 * k + 144 then v else hI h 1068 j)) := sorry
