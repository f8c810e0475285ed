set_option maxRecDepth 100000
set_option linter.unusedVariables false
noncomputable def f0_0 (x0 : Int) (h : z_M) : z_Z := none
noncomputable def f0_9 (x0 : Int) (h : z_M) : z_Z := none
noncomputable def f0_10 (s0 : Int) (h : z_M) : z_Z := none
noncomputable def f1_0 (x0 x1 : Int) (h : z_M) : z_Z := none
noncomputable def f1_9 (x1 : Int) (h : z_M) : z_Z := none
noncomputable def f1_10 (s0 : Int) (h : z_M) : z_Z := none
noncomputable def f2_0 (x0 x1 : Int) (h : z_M) : z_Z := none
noncomputable def f2_9 (x1 : Int) (h : z_M) : z_Z := none
noncomputable def f2_10 (s0 : Int) (h : z_M) : z_Z := none
noncomputable def f3_0 (r0 : Nat) (h : z_M) : z_Z := none
noncomputable def f6_0 (r0 r1 : Nat) (h : z_M) : z_Z := none
noncomputable def f7_0 (r0 r1 r2 : Nat) (x3 : Int) (h : z_M) : z_Z := none
noncomputable def f7_11 (r0 r1 r2 : Nat) (x3 : Int) (h : z_M) : z_Z := none
noncomputable def f8_0 (r0 : Nat) (h : z_M) : z_Z := none
noncomputable def f8_27 (r1 : Nat) (x2 x3 : Int) (h : z_M) : z_Z := none
noncomputable def f8_42 (h : z_M) : z_Z := none
noncomputable def f9_0 (r0 : Nat) (x1 : Int) (h : z_M) : z_Z := none
noncomputable def f11_0 (r0 : Nat) (x1 : Int) (h : z_M) : z_Z := none
noncomputable def f12_0 (r0 : Nat) (h : z_M) : z_Z := none
noncomputable def f15_0 (r0 : Nat) (h : z_M) : z_Z := none
noncomputable def f15_11 (h : z_M) : z_Z := none
noncomputable def f15_12 (s0 : Int) (h : z_M) : z_Z := none
noncomputable def f18_0 (r0 : Nat) (h : z_M) : z_Z := none
noncomputable def f23_0 (r0 : Nat) (h : z_M) : z_Z := none
noncomputable def f26_0 (r0 : Nat) (h : z_M) : z_Z := none
noncomputable def f27_0 (r0 : Nat) (h : z_M) : z_Z := none
noncomputable def f28_0 (r0 : Nat) (h : z_M) : z_Z := none
noncomputable def f29_0 (r0 : Nat) (h : z_M) : z_Z := none
noncomputable def f31_0 (x0 : Int) (h : z_M) : z_Z := none
noncomputable def f32_0 (x0 : Int) (h : z_M) : z_Z := none
noncomputable def f32_13 (h : z_M) : z_Z := none
noncomputable def f32_14 (s0 : Int) (h : z_M) : z_Z := none
noncomputable def f32_15 (x0 : Int) (h : z_M) : z_Z := none
noncomputable def f32_33 (x0 x1 : Int) (h : z_M) : z_Z := none
noncomputable def f32_48 (x0 x1 : Int) (h : z_M) : z_Z := none
noncomputable def f32_61 (x0 x1 : Int) (h : z_M) : z_Z := none
noncomputable def f32_73 (x0 x1 : Int) (h : z_M) : z_Z := none
noncomputable def f33_0 (r0 : Nat) (h : z_M) : z_Z := none
noncomputable def f34_0 (x0 x1 : Int) (h : z_M) : z_Z := none
noncomputable def f57_0 (r0 : Nat) (x1 x2 x3 : Int) (r4 : Nat) (h : z_M) : z_Z := none
noncomputable def f57_12 (h : z_M) : z_Z := none
noncomputable def f57_15 (q0 : Nat) (h : z_M) : z_Z := none
noncomputable def f57_19 (q0 : Nat) (h : z_M) : z_Z := none
noncomputable def f57_23 (h : z_M) : z_Z := none
noncomputable def f58_0 (r0 : Nat) (x1 x2 : Int) (r3 : Nat) (h : z_M) : z_Z := none
noncomputable def f58_10 (h : z_M) : z_Z := none
noncomputable def f58_13 (q0 : Nat) (h : z_M) : z_Z := none
noncomputable def f58_17 (q0 : Nat) (h : z_M) : z_Z := none
noncomputable def f58_21 (h : z_M) : z_Z := none
noncomputable def f59_0 (r0 : Nat) (x1 x2 x3 : Int) (r4 : Nat) (h : z_M) : z_Z := none
noncomputable def f59_12 (h : z_M) : z_Z := none
noncomputable def f59_15 (q0 : Nat) (h : z_M) : z_Z := none
noncomputable def f59_19 (q0 : Nat) (h : z_M) : z_Z := none
noncomputable def f59_23 (h : z_M) : z_Z := none
noncomputable def f63_0 (r0 : Nat) (x1 x2 : Int) (r3 : Nat) (h : z_M) : z_Z := none
noncomputable def f63_10 (h : z_M) : z_Z := none
noncomputable def f63_13 (q0 : Nat) (h : z_M) : z_Z := none
noncomputable def f63_17 (h : z_M) : z_Z := none
noncomputable def f65_0 (r0 : Nat) (x1 x2 : Int) (h : z_M) : z_Z := none
noncomputable def f65_6 (h : z_M) : z_Z := none
noncomputable def f65_9 (q0 : Nat) (h : z_M) : z_Z := none
noncomputable def f65_12 (h : z_M) : z_Z := none
noncomputable def f67_0 (r0 : Nat) (x1 x2 : Int) (r3 : Nat) (h : z_M) : z_Z := none
noncomputable def f67_10 (h : z_M) : z_Z := none
noncomputable def f67_13 (q0 : Nat) (h : z_M) : z_Z := none
noncomputable def f67_17 (q0 : Nat) (h : z_M) : z_Z := none
noncomputable def f67_21 (h : z_M) : z_Z := none
noncomputable def f69_0 (r0 : Nat) (x1 : Int) (r2 : Nat) (h : z_M) : z_Z := none
noncomputable def f69_9 (h : z_M) : z_Z := none
noncomputable def f69_12 (q0 : Nat) (h : z_M) : z_Z := none
noncomputable def f69_15 (h : z_M) : z_Z := none
noncomputable def f70_0 (r0 : Nat) (x1 x2 : Int) (r3 : Nat) (h : z_M) : z_Z := none
noncomputable def f70_10 (h : z_M) : z_Z := none
noncomputable def f70_13 (q0 : Nat) (h : z_M) : z_Z := none
noncomputable def f70_17 (q0 : Nat) (h : z_M) : z_Z := none
noncomputable def f70_21 (q0 : Nat) (h : z_M) : z_Z := none
noncomputable def f70_25 (h : z_M) : z_Z := none
noncomputable def f72_0 (r0 : Nat) (x1 : Int) (r2 : Nat) (h : z_M) : z_Z := none
noncomputable def f72_9 (h : z_M) : z_Z := none
noncomputable def f72_12 (q0 : Nat) (h : z_M) : z_Z := none
noncomputable def f72_15 (h : z_M) : z_Z := none
noncomputable def f73_0 (r0 : Nat) (x1 x2 x3 : Int) (r4 : Nat) (h : z_M) : z_Z := none
noncomputable def f73_12 (h : z_M) : z_Z := none
noncomputable def f73_15 (q0 : Nat) (h : z_M) : z_Z := none
noncomputable def f73_19 (q0 : Nat) (h : z_M) : z_Z := none
noncomputable def f73_23 (q0 : Nat) (h : z_M) : z_Z := none
noncomputable def f73_27 (q0 : Nat) (h : z_M) : z_Z := none
noncomputable def f73_31 (h : z_M) : z_Z := none
noncomputable def f75_0 (r0 : Nat) (x1 x2 x3 x4 x5 : Int) (r6 : Nat) (h : z_M) : z_Z := none
noncomputable def f75_16 (h : z_M) : z_Z := none
noncomputable def f75_19 (q0 : Nat) (h : z_M) : z_Z := none
noncomputable def f75_23 (q0 : Nat) (h : z_M) : z_Z := none
noncomputable def f75_27 (q0 : Nat) (h : z_M) : z_Z := none
noncomputable def f75_31 (h : z_M) : z_Z := none
noncomputable def f76_0 (r0 : Nat) (x1 x2 x3 : Int) (r4 : Nat) (h : z_M) : z_Z := none
noncomputable def f76_17 (q0 : Nat) (s1 : Int) (h : z_M) : z_Z := none
noncomputable def f76_18 (q0 : Nat) (s1 t2 : Int) (h : z_M) : z_Z := none
noncomputable def f76_19 (h : z_M) : z_Z := none
noncomputable def f76_22 (q0 : Nat) (h : z_M) : z_Z := none
noncomputable def f76_26 (q0 : Nat) (h : z_M) : z_Z := none
noncomputable def f76_30 (h : z_M) : z_Z := none
noncomputable def f77_0 (r0 : Nat) (x1 x2 x3 : Int) (r4 : Nat) (h : z_M) : z_Z := none
noncomputable def f77_17 (q0 : Nat) (s1 : Int) (h : z_M) : z_Z := none
noncomputable def f77_18 (q0 : Nat) (s1 t2 : Int) (h : z_M) : z_Z := none
noncomputable def f77_19 (h : z_M) : z_Z := none
noncomputable def f77_22 (q0 : Nat) (h : z_M) : z_Z := none
noncomputable def f77_26 (q0 : Nat) (h : z_M) : z_Z := none
noncomputable def f77_30 (h : z_M) : z_Z := none
noncomputable def f78_0 (r0 : Nat) (x1 x2 x3 x4 : Int) (r5 : Nat) (h : z_M) : z_Z := none
noncomputable def f78_14 (h : z_M) : z_Z := none
noncomputable def f78_17 (q0 : Nat) (h : z_M) : z_Z := none
noncomputable def f78_21 (q0 : Nat) (h : z_M) : z_Z := none
noncomputable def f78_25 (q0 : Nat) (h : z_M) : z_Z := none
noncomputable def f78_29 (h : z_M) : z_Z := none
noncomputable def f79_0 (r0 : Nat) (x1 x2 x3 x4 x5 x6 : Int) (r7 : Nat) (h : z_M) : z_Z := none
noncomputable def f79_18 (h : z_M) : z_Z := none
noncomputable def f79_21 (q0 : Nat) (h : z_M) : z_Z := none
noncomputable def f79_25 (q0 : Nat) (h : z_M) : z_Z := none
noncomputable def f79_29 (q0 : Nat) (h : z_M) : z_Z := none
noncomputable def f79_33 (q0 : Nat) (h : z_M) : z_Z := none
noncomputable def f79_37 (h : z_M) : z_Z := none
noncomputable def f84_0 (r0 : Nat) (x1 x2 x3 : Int) (h : z_M) : z_Z := none
noncomputable def f84_7 (h : z_M) : z_Z := none
noncomputable def f84_10 (q0 : Nat) (h : z_M) : z_Z := none
noncomputable def f84_14 (q0 : Nat) (h : z_M) : z_Z := none
noncomputable def f84_18 (h : z_M) : z_Z := none
noncomputable def f86_0 (r0 : Nat) (x1 x2 x3 x4 x5 : Int) (r6 : Nat) (h : z_M) : z_Z := none
noncomputable def f86_16 (h : z_M) : z_Z := none
noncomputable def f86_19 (q0 : Nat) (h : z_M) : z_Z := none
noncomputable def f86_23 (q0 : Nat) (h : z_M) : z_Z := none
noncomputable def f86_27 (q0 : Nat) (h : z_M) : z_Z := none
noncomputable def f86_31 (h : z_M) : z_Z := none
noncomputable def f88_0 (r0 : Nat) (x1 x2 x3 : Int) (r4 : Nat) (h : z_M) : z_Z := none
noncomputable def f88_12 (h : z_M) : z_Z := none
noncomputable def f88_15 (q0 : Nat) (h : z_M) : z_Z := none
noncomputable def f88_19 (q0 : Nat) (h : z_M) : z_Z := none
noncomputable def f88_23 (q0 : Nat) (h : z_M) : z_Z := none
noncomputable def f88_27 (h : z_M) : z_Z := none
noncomputable def f89_0 (r0 : Nat) (x1 x2 x3 x4 x5 : Int) (r6 : Nat) (h : z_M) : z_Z := none
noncomputable def f89_16 (h : z_M) : z_Z := none
noncomputable def f89_19 (q0 : Nat) (h : z_M) : z_Z := none
noncomputable def f89_23 (q0 : Nat) (h : z_M) : z_Z := none
noncomputable def f89_27 (q0 : Nat) (h : z_M) : z_Z := none
noncomputable def f89_31 (h : z_M) : z_Z := none
noncomputable def f90_0 (r0 : Nat) (x1 x2 x3 : Int) (h : z_M) : z_Z := none
noncomputable def f90_7 (h : z_M) : z_Z := none
noncomputable def f90_10 (q0 : Nat) (h : z_M) : z_Z := none
noncomputable def f90_14 (q0 : Nat) (h : z_M) : z_Z := none
noncomputable def f90_18 (h : z_M) : z_Z := none
noncomputable def f92_0 (r0 : Nat) (x1 x2 x3 : Int) (r4 : Nat) (h : z_M) : z_Z := none
noncomputable def f92_12 (h : z_M) : z_Z := none
noncomputable def f92_15 (q0 : Nat) (h : z_M) : z_Z := none
noncomputable def f92_19 (q0 : Nat) (h : z_M) : z_Z := none
noncomputable def f92_23 (h : z_M) : z_Z := none
noncomputable def f93_0 (r0 : Nat) (x1 : Int) (r2 : Nat) (h : z_M) : z_Z := none
noncomputable def f93_9 (h : z_M) : z_Z := none
noncomputable def f93_12 (q0 : Nat) (h : z_M) : z_Z := none
noncomputable def f93_15 (h : z_M) : z_Z := none
noncomputable def f100_0 (r0 : Nat) (x1 x2 : Int) (r3 : Nat) (h : z_M) : z_Z := none
noncomputable def f100_10 (h : z_M) : z_Z := none
noncomputable def f100_13 (q0 : Nat) (h : z_M) : z_Z := none
noncomputable def f100_17 (q0 : Nat) (h : z_M) : z_Z := none
noncomputable def f100_21 (h : z_M) : z_Z := none
noncomputable def f110_0 (x0 : Int) (h : z_M) : z_Z := none
noncomputable def f110_12 (h : z_M) : z_Z := none
noncomputable def f112_0 (r0 : Nat) (x1 x2 x3 : Int) (h : z_M) : z_Z := none
noncomputable def f113_0 (r0 : Nat) (x1 x2 : Int) (h : z_M) : z_Z := none
noncomputable def f113_56 (r3 r4 : Nat) (h : z_M) : z_Z := none
noncomputable def f113_57 (r3 r4 : Nat) (s0 : Int) (h : z_M) : z_Z := none
noncomputable def f113_66 (r3 r4 : Nat) (x5 x6 : Int) (h : z_M) : z_Z := none
noncomputable def f113_105 (x5 : Int) (h : z_M) : z_Z := none
noncomputable def f114_0 (r0 : Nat) (x1 x2 x3 : Int) (h : z_M) : z_Z := none
noncomputable def f117_0 (r0 : Nat) (h : z_M) : z_Z := none
noncomputable def f119_0 (r0 : Nat) (x1 x2 : Int) (h : z_M) : z_Z := none
noncomputable def f122_0 (r0 : Nat) (x1 x2 : Int) (h : z_M) : z_Z := none
noncomputable def f124_0 (r0 : Nat) (x1 x2 : Int) (h : z_M) : z_Z := none
noncomputable def f124_14 (x2 : Int) (r3 : Nat) (h : z_M) : z_Z := none
noncomputable def f124_15 (x2 : Int) (r3 : Nat) (s0 : Int) (h : z_M) : z_Z := none
noncomputable def f126_0 (r0 : Nat) (x1 : Int) (h : z_M) : z_Z := none
noncomputable def f126_21 (r0 : Nat) (h : z_M) : z_Z := none
noncomputable def f126_25 (s0 : Int) (h : z_M) : z_Z := none
noncomputable def f127_0 (r0 : Nat) (x1 x2 : Int) (h : z_M) : z_Z := none
noncomputable def f127_32 (x2 : Int) (r3 : Nat) (h : z_M) : z_Z := none
noncomputable def f127_33 (x2 : Int) (r3 : Nat) (s0 : Int) (h : z_M) : z_Z := none
noncomputable def f128_0 (r0 : Nat) (x1 : Int) (h : z_M) : z_Z := none
noncomputable def f129_0 (r0 : Nat) (x1 : Int) (h : z_M) : z_Z := none
noncomputable def f131_0 (r0 : Nat) (x1 : Int) (h : z_M) : z_Z := none
noncomputable def f133_0 (r0 : Nat) (x1 x2 x3 : Int) (h : z_M) : z_Z := none
noncomputable def f134_0 (r0 r1 : Nat) (x2 : Int) (h : z_M) : z_Z := none
noncomputable def f134_15 (r0 r1 : Nat) (x2 x3 : Int) (h : z_M) : z_Z := none
noncomputable def f134_71 (h : z_M) : z_Z := none
noncomputable def f135_0 (r0 : Nat) (x1 x2 x3 : Int) (h : z_M) : z_Z := none
noncomputable def f138_0 (r0 : Nat) (x1 x2 x3 x4 x5 : Int) (h : z_M) : z_Z := none
noncomputable def f138_26 (x2 x3 x4 x5 : Int) (r6 : Nat) (h : z_M) : z_Z := none
noncomputable def f138_27 (x2 x3 x4 x5 : Int) (r6 : Nat) (s0 : Int) (h : z_M) : z_Z := none
noncomputable def f138_36 (x2 x3 x4 x5 : Int) (r6 : Nat) (x7 x8 : Int) (h : z_M) : z_Z := none
noncomputable def f138_74 (x2 x3 x4 x5 : Int) (r6 : Nat) (x8 s0 : Int) (h : z_M) : z_Z := none
noncomputable def f138_75 (x2 x3 x4 x5 : Int) (r6 : Nat) (x8 s0 s1 : Int) (h : z_M) : z_Z := none
noncomputable def f138_94 (x7 : Int) (h : z_M) : z_Z := none
noncomputable def f139_0 (r0 : Nat) (x1 x2 x3 : Int) (h : z_M) : z_Z := none
noncomputable def f141_0 (r0 : Nat) (x1 x2 x3 : Int) (h : z_M) : z_Z := none
noncomputable def f142_0 (r0 : Nat) (x1 x2 x3 x4 : Int) (h : z_M) : z_Z := none
noncomputable def f142_40 (x2 x3 : Int) (r5 r6 : Nat) (h : z_M) : z_Z := none
noncomputable def f142_41 (x2 x3 : Int) (r5 r6 : Nat) (s0 : Int) (h : z_M) : z_Z := none
noncomputable def f142_75 (x2 : Int) (r5 r6 : Nat) (x7 : Int) (h : z_M) : z_Z := none
noncomputable def f142_76 (x2 : Int) (r5 r6 : Nat) (x7 s0 : Int) (h : z_M) : z_Z := none
noncomputable def f143_0 (r0 r1 : Nat) (h : z_M) : z_Z := none
noncomputable def f143_12 (r0 r1 : Nat) (h : z_M) : z_Z := none
noncomputable def f144_0 (r0 : Nat) (x1 : Int) (h : z_M) : z_Z := none
noncomputable def f147_0 (r0 r1 : Nat) (x2 : Int) (h : z_M) : z_Z := none
noncomputable def f147_48 (r0 : Nat) (x3 x4 : Int) (h : z_M) : z_Z := none
noncomputable def f147_73 (h : z_M) : z_Z := none
noncomputable def f148_0 (r0 : Nat) (x1 x2 x3 x4 x5 : Int) (h : z_M) : z_Z := none
noncomputable def f148_38 (r0 : Nat) (x1 x2 x4 x5 : Int) (r6 r7 : Nat) (x8 : Int) (h : z_M) : z_Z := none
noncomputable def f148_47 (r0 : Nat) (x1 x2 x4 x5 : Int) (r6 r7 : Nat) (x8 x9 : Int) (h : z_M) : z_Z := none
noncomputable def f148_121 (r0 : Nat) (x1 x2 x4 x5 : Int) (r6 r7 : Nat) (x8 : Int) (h : z_M) : z_Z := none
noncomputable def f148_127 (r0 : Nat) (x4 x5 : Int) (r7 : Nat) (h : z_M) : z_Z := none
noncomputable def f148_152 (r0 r7 : Nat) (x8 x9 : Int) (h : z_M) : z_Z := none
noncomputable def f148_176 (h : z_M) : z_Z := none
noncomputable def f151_0 (r0 : Nat) (x1 x2 x3 x4 x5 x6 : Int) (h : z_M) : z_Z := none
noncomputable def f151_39 (r0 : Nat) (x1 x2 x3 x4 x5 : Int) (r7 r8 : Nat) (h : z_M) : z_Z := none
noncomputable def f151_40 (r0 : Nat) (x1 x2 x3 x4 x5 : Int) (r7 r8 : Nat) (s0 : Int) (h : z_M) : z_Z := none
noncomputable def f151_46 (r0 : Nat) (x1 x2 x3 x4 x5 : Int) (r7 r8 : Nat) (x9 : Int) (h : z_M) : z_Z := none
noncomputable def f151_88 (r0 : Nat) (x1 x2 x3 x4 x5 : Int) (r7 r8 : Nat) (x9 : Int) (h : z_M) : z_Z := none
noncomputable def f151_89 (r0 : Nat) (x1 x2 x3 x4 x5 : Int) (r7 r8 : Nat) (x9 s0 : Int) (h : z_M) : z_Z := none
noncomputable def f151_98 (r0 : Nat) (x1 x2 x3 x4 x5 : Int) (r8 : Nat) (h : z_M) : z_Z := none
noncomputable def f151_140 (r0 : Nat) (x1 x2 x3 x4 x5 : Int) (r8 : Nat) (h : z_M) : z_Z := none
noncomputable def f151_141 (r0 : Nat) (x1 x2 x3 x4 x5 : Int) (r8 : Nat) (s0 : Int) (h : z_M) : z_Z := none
noncomputable def f157_0 (r0 : Nat) (x1 x2 x3 : Int) (h : z_M) : z_Z := none
noncomputable def f157_35 (x2 x3 : Int) (r4 : Nat) (h : z_M) : z_Z := none
noncomputable def f157_36 (x2 x3 : Int) (r4 : Nat) (s0 : Int) (h : z_M) : z_Z := none
noncomputable def f158_0 (r0 : Nat) (x1 : Int) (h : z_M) : z_Z := none
noncomputable def f161_0 (r0 : Nat) (x1 x2 x3 x4 x5 : Int) (h : z_M) : z_Z := none
noncomputable def f161_39 (x2 x3 x4 x5 : Int) (r6 : Nat) (h : z_M) : z_Z := none
noncomputable def f161_40 (x2 x3 x4 x5 : Int) (r6 : Nat) (s0 : Int) (h : z_M) : z_Z := none
noncomputable def f161_49 (x2 x3 x4 x5 : Int) (r6 : Nat) (x7 x8 : Int) (h : z_M) : z_Z := none
noncomputable def f161_87 (x2 x3 x4 x5 : Int) (r6 : Nat) (x8 s0 : Int) (h : z_M) : z_Z := none
noncomputable def f161_88 (x2 x3 x4 x5 : Int) (r6 : Nat) (x8 s0 s1 : Int) (h : z_M) : z_Z := none
noncomputable def f161_112 (x7 : Int) (h : z_M) : z_Z := none
noncomputable def f164_0 (r0 : Nat) (x1 x2 x3 : Int) (h : z_M) : z_Z := none
noncomputable def f164_82 (x2 : Int) (r4 r5 : Nat) (h : z_M) : z_Z := none
noncomputable def f164_83 (x2 : Int) (r4 r5 : Nat) (s0 : Int) (h : z_M) : z_Z := none
noncomputable def f164_112 (x2 : Int) (r4 r5 : Nat) (x6 x7 : Int) (h : z_M) : z_Z := none
noncomputable def f164_202 (x6 : Int) (h : z_M) : z_Z := none
noncomputable def f165_0 (r0 : Nat) (x1 x2 x3 x4 x5 : Int) (h : z_M) : z_Z := none
noncomputable def f165_26 (x2 x3 x4 x5 : Int) (r6 : Nat) (h : z_M) : z_Z := none
noncomputable def f165_27 (x2 x3 x4 x5 : Int) (r6 : Nat) (s0 : Int) (h : z_M) : z_Z := none
noncomputable def f165_36 (x2 x3 x4 x5 : Int) (r6 : Nat) (x7 x8 : Int) (h : z_M) : z_Z := none
noncomputable def f165_74 (x2 x3 x4 x5 : Int) (r6 : Nat) (x8 s0 : Int) (h : z_M) : z_Z := none
noncomputable def f165_75 (x2 x3 x4 x5 : Int) (r6 : Nat) (x8 s0 s1 : Int) (h : z_M) : z_Z := none
noncomputable def f165_99 (x7 : Int) (h : z_M) : z_Z := none
noncomputable def f166_0 (r0 : Nat) (x1 x2 x3 : Int) (h : z_M) : z_Z := none
noncomputable def f166_35 (x2 x3 : Int) (r4 : Nat) (h : z_M) : z_Z := none
noncomputable def f166_36 (x2 x3 : Int) (r4 : Nat) (s0 : Int) (h : z_M) : z_Z := none
noncomputable def f167_0 (r0 : Nat) (x1 : Int) (h : z_M) : z_Z := none
noncomputable def f168_0 (r0 : Nat) (x1 : Int) (h : z_M) : z_Z := none
noncomputable def f171_0 (r0 : Nat) (x1 x2 x3 : Int) (h : z_M) : z_Z := none
noncomputable def f171_25 (r0 : Nat) (x1 x2 x3 t0 t1 : Int) (h : z_M) : z_Z := none
noncomputable def f171_36 (r0 : Nat) (x1 x2 x3 t0 t1 : Int) (h : z_M) : z_Z := none
noncomputable def f171_39 (r0 : Nat) (x1 x2 x3 t0 t1 t2 : Int) (h : z_M) : z_Z := none
noncomputable def f171_57 (r0 : Nat) (x1 x2 x3 t0 t1 : Int) (h : z_M) : z_Z := none
noncomputable def f171_60 (r0 : Nat) (x1 x2 x3 t0 t1 t2 : Int) (h : z_M) : z_Z := none
noncomputable def f171_84 (r0 : Nat) (x1 x2 x3 : Int) (h : z_M) : z_Z := none
noncomputable def f171_103 (r0 : Nat) (x2 : Int) (h : z_M) : z_Z := none
noncomputable def f171_112 (s0 : Int) (h : z_M) : z_Z := none
noncomputable def f172_0 (r0 r1 : Nat) (x2 : Int) (h : z_M) : z_Z := none
noncomputable def f172_16 (h : z_M) : z_Z := none
noncomputable def f172_20 (r1 : Nat) (x2 : Int) (h : z_M) : z_Z := none
noncomputable def f172_31 (r1 : Nat) (x2 : Int) (h : z_M) : z_Z := none
noncomputable def f172_43 (r1 : Nat) (h : z_M) : z_Z := none
noncomputable def f172_47 (s0 : Int) (h : z_M) : z_Z := none
noncomputable def f173_0 (r0 r1 : Nat) (x2 : Int) (h : z_M) : z_Z := none
noncomputable def f173_16 (h : z_M) : z_Z := none
noncomputable def f173_20 (r1 : Nat) (x2 : Int) (h : z_M) : z_Z := none
noncomputable def f173_31 (r1 : Nat) (x2 : Int) (h : z_M) : z_Z := none
noncomputable def f173_43 (r1 : Nat) (h : z_M) : z_Z := none
noncomputable def f173_47 (s0 : Int) (h : z_M) : z_Z := none
noncomputable def f175_0 (r0 : Nat) (x1 : Int) (h : z_M) : z_Z := none
noncomputable def f181_0 (r0 : Nat) (x1 : Int) (h : z_M) : z_Z := none
noncomputable def f187_0 (r0 : Nat) (x1 x2 : Int) (h : z_M) : z_Z := none
noncomputable def f187_83 (r0 : Nat) (h : z_M) : z_Z := none
noncomputable def f187_90 (r0 r3 r4 : Nat) (h : z_M) : z_Z := none
noncomputable def f187_116 (r0 r3 r4 : Nat) (x5 x6 : Int) (h : z_M) : z_Z := none
noncomputable def f187_145 (r0 r3 r4 : Nat) (x5 : Int) (h : z_M) : z_Z := none
noncomputable def f187_170 (r0 r3 r4 : Nat) (x5 x6 : Int) (h : z_M) : z_Z := none
noncomputable def f187_189 (r0 r4 : Nat) (x5 x6 x7 : Int) (h : z_M) : z_Z := none
noncomputable def f187_270 (r0 : Nat) (x6 : Int) (h : z_M) : z_Z := none
noncomputable def f194_0 (x0 : Int) (h : z_M) : z_Z := none
noncomputable def f194_12 (h : z_M) : z_Z := none
noncomputable def f195_0 (x0 : Int) (h : z_M) : z_Z := none
noncomputable def f195_12 (h : z_M) : z_Z := none
noncomputable def f196_0 (x0 : Int) (h : z_M) : z_Z := none
noncomputable def f196_12 (h : z_M) : z_Z := none
noncomputable def f197_0 (r0 : Nat) (h : z_M) : z_Z := none
noncomputable def f198_0 (r0 : Nat) (x1 : Int) (h : z_M) : z_Z := none
noncomputable def f198_16 (r0 : Nat) (x1 : Int) (h : z_M) : z_Z := none
noncomputable def f198_17 (r0 : Nat) (x1 s0 : Int) (h : z_M) : z_Z := none
noncomputable def f201_0 (y0 y2 y4 : Int) (h : z_M) : z_Z := none
noncomputable def f201_17 (h : z_M) : z_Z := none
noncomputable def f201_18 (s0 : Int) (h : z_M) : z_Z := none
noncomputable def f203_0 (r0 : Nat) (x1 x2 : Int) (h : z_M) : z_Z := none
noncomputable def f204_0 (r0 : Nat) (x1 x2 : Int) (h : z_M) : z_Z := none
noncomputable def f205_0 (r0 : Nat) (x1 x2 x3 : Int) (h : z_M) : z_Z := none
noncomputable def f205_13 (r0 : Nat) (x3 x4 : Int) (h : z_M) : z_Z := none
noncomputable def f205_43 (h : z_M) : z_Z := none
noncomputable def f206_0 (r0 : Nat) (x1 x2 x3 : Int) (h : z_M) : z_Z := none
noncomputable def f206_33 (h : z_M) : z_Z := none
noncomputable def f206_34 (s0 : Int) (h : z_M) : z_Z := none
noncomputable def f207_0 (r0 : Nat) (x1 x2 : Int) (h : z_M) : z_Z := none
noncomputable def f207_36 (h : z_M) : z_Z := none
noncomputable def f207_37 (s0 : Int) (h : z_M) : z_Z := none
noncomputable def f209_0 (r0 : Nat) (h : z_M) : z_Z := none
noncomputable def f209_4 (r0 : Nat) (x1 x2 : Int) (h : z_M) : z_Z := none
noncomputable def f209_41 (r0 : Nat) (x2 s0 : Int) (h : z_M) : z_Z := none
noncomputable def f209_42 (r0 : Nat) (x2 s0 s1 : Int) (h : z_M) : z_Z := none
noncomputable def f209_50 (x1 : Int) (h : z_M) : z_Z := none
noncomputable def f210_0 (r0 : Nat) (x1 x2 : Int) (h : z_M) : z_Z := none
noncomputable def f211_0 (r0 r1 : Nat) (h : z_M) : z_Z := none
noncomputable def f211_26 (h : z_M) : z_Z := none
noncomputable def f211_27 (s0 : Int) (h : z_M) : z_Z := none
noncomputable def f212_0 (r0 : Nat) (h : z_M) : z_Z := none
noncomputable def f212_11 (h : z_M) : z_Z := none
noncomputable def f212_12 (s0 : Int) (h : z_M) : z_Z := none
noncomputable def f214_0 (r0 : Nat) (x1 x2 x3 x4 : Int) (h : z_M) : z_Z := none
noncomputable def f246_0 (r0 : Nat) (h : z_M) : z_Z := none
noncomputable def f246_31 (r0 : Nat) (h : z_M) : z_Z := none
noncomputable def f294_0 (r0 : Nat) (x1 : Int) (h : z_M) : z_Z := none
noncomputable def f295_0 (r0 : Nat) (h : z_M) : z_Z := none
noncomputable def f295_24 (r0 : Nat) (x1 : Int) (h : z_M) : z_Z := none
noncomputable def f295_58 (r0 : Nat) (h : z_M) : z_Z := none
noncomputable def f297_0 (r0 : Nat) (h : z_M) : z_Z := none
noncomputable def f298_0 (r0 : Nat) (h : z_M) : z_Z := none
noncomputable def f299_0 (r0 : Nat) (x1 : Int) (h : z_M) : z_Z := none
noncomputable def f299_25 (r0 : Nat) (x1 : Int) (h : z_M) : z_Z := none
noncomputable def f299_26 (r0 : Nat) (x1 s0 : Int) (h : z_M) : z_Z := none
noncomputable def f300_0 (r0 : Nat) (h : z_M) : z_Z := none
noncomputable def f300_2 (r0 : Nat) (x1 : Int) (h : z_M) : z_Z := none
noncomputable def f300_24 (h : z_M) : z_Z := none
noncomputable def f301_0 (r0 : Nat) (x1 x2 x3 : Int) (h : z_M) : z_Z := none
noncomputable def f301_42 (r0 : Nat) (x1 x2 x3 : Int) (h : z_M) : z_Z := none
noncomputable def f301_43 (r0 : Nat) (x1 x2 x3 s0 : Int) (h : z_M) : z_Z := none
noncomputable def f302_0 (r0 : Nat) (x1 x2 : Int) (h : z_M) : z_Z := none
noncomputable def f303_0 (r0 : Nat) (x1 x2 x3 x4 x5 x6 : Int) (h : z_M) : z_Z := none
noncomputable def f303_47 (r0 : Nat) (x1 x2 x3 x4 x5 x6 : Int) (h : z_M) : z_Z := none
noncomputable def f303_48 (r0 : Nat) (x1 x2 x3 x4 x5 x6 s0 : Int) (h : z_M) : z_Z := none
noncomputable def f303_89 (r0 : Nat) (x1 x2 x3 x4 x5 x6 : Int) (h : z_M) : z_Z := none
noncomputable def f303_93 (r0 : Nat) (x1 x2 x3 x4 x5 x6 : Int) (h : z_M) : z_Z := none
noncomputable def f303_94 (r0 : Nat) (x1 x2 x3 x4 x5 x6 s0 : Int) (h : z_M) : z_Z := none
noncomputable def f303_116 (r0 : Nat) (x1 x2 x7 x8 : Int) (h : z_M) : z_Z := none
noncomputable def f303_145 (r0 : Nat) (x1 x2 x8 s0 : Int) (h : z_M) : z_Z := none
noncomputable def f303_146 (r0 : Nat) (x1 x2 x8 s0 s1 : Int) (h : z_M) : z_Z := none
noncomputable def f303_155 (x7 : Int) (h : z_M) : z_Z := none
noncomputable def f305_0 (r0 : Nat) (x1 x2 : Int) (h : z_M) : z_Z := none
noncomputable def f305_57 (h : z_M) : z_Z := none
noncomputable def f305_61 (h : z_M) : z_Z := none
noncomputable def f305_62 (s0 : Int) (h : z_M) : z_Z := none
noncomputable def f306_0 (r0 : Nat) (x1 x2 : Int) (h : z_M) : z_Z := none
noncomputable def f306_20 (h : z_M) : z_Z := none
noncomputable def f306_21 (s0 : Int) (h : z_M) : z_Z := none
noncomputable def f307_0 (r0 : Nat) (x1 x2 x3 x4 x5 x6 : Int) (h : z_M) : z_Z := none
noncomputable def f307_33 (r0 : Nat) (h : z_M) : z_Z := none
noncomputable def f309_0 (r0 : Nat) (x1 x2 : Int) (h : z_M) : z_Z := none
noncomputable def f310_0 (r0 : Nat) (x1 : Int) (h : z_M) : z_Z := none
noncomputable def f311_0 (r0 : Nat) (x1 x2 : Int) (h : z_M) : z_Z := none
noncomputable def f312_0 (r0 : Nat) (h : z_M) : z_Z := none
noncomputable def f312_2 (r0 : Nat) (x1 : Int) (h : z_M) : z_Z := none
noncomputable def f312_28 (r0 : Nat) (h : z_M) : z_Z := none
noncomputable def f313_0 (x0 : Int) (h : z_M) : z_Z := none
noncomputable def f313_12 (h : z_M) : z_Z := none
noncomputable def f314_0 (x0 : Int) (h : z_M) : z_Z := none
noncomputable def f314_12 (h : z_M) : z_Z := none
noncomputable def f315_0 (r0 : Nat) (x1 x2 : Int) (h : z_M) : z_Z := none
noncomputable def f315_32 (h : z_M) : z_Z := none
noncomputable def f315_33 (s0 : Int) (h : z_M) : z_Z := none
noncomputable def f316_0 (x0 : Int) (h : z_M) : z_Z := none
noncomputable def f316_12 (h : z_M) : z_Z := none
noncomputable def f317_0 (x0 x1 x2 : Int) (h : z_M) : z_Z := none
noncomputable def f317_14 (h : z_M) : z_Z := none
noncomputable def f317_15 (s0 : Int) (h : z_M) : z_Z := none
noncomputable def f320_0 (x0 x1 : Int) (h : z_M) : z_Z := none
noncomputable def f320_4 (x0 x1 x2 x3 : Int) (h : z_M) : z_Z := none
noncomputable def f320_39 (x2 : Int) (h : z_M) : z_Z := none
noncomputable def f321_0 (r0 : Nat) (x1 x2 x3 : Int) (h : z_M) : z_Z := none
noncomputable def f321_18 (r0 : Nat) (x4 : Int) (h : z_M) : z_Z := none
noncomputable def f321_39 (h : z_M) : z_Z := none
noncomputable def f322_0 (r0 : Nat) (x1 : Int) (h : z_M) : z_Z := none
noncomputable def f322_15 (r0 : Nat) (x1 x2 x3 : Int) (h : z_M) : z_Z := none
noncomputable def f322_24 (r0 : Nat) (x1 x2 x3 x4 : Int) (h : z_M) : z_Z := none
noncomputable def f322_50 (r0 : Nat) (x1 x2 x3 x4 : Int) (h : z_M) : z_Z := none
noncomputable def f322_81 (r0 : Nat) (x1 x2 x3 x4 : Int) (h : z_M) : z_Z := none
noncomputable def f322_87 (r0 : Nat) (x1 x2 x3 : Int) (h : z_M) : z_Z := none
noncomputable def f322_93 (h : z_M) : z_Z := none
noncomputable def f323_0 (r0 : Nat) (h : z_M) : z_Z := none
noncomputable def f324_0 (r0 : Nat) (x1 x2 x3 x4 : Int) (h : z_M) : z_Z := none
noncomputable def f324_32 (r0 : Nat) (x1 y5 : Int) (q0 : Nat) (s1 : Int) (h : z_M) : z_Z := none
noncomputable def f324_45 (q0 : Nat) (s1 t2 : Int) (h : z_M) : z_Z := none
noncomputable def f329_0 (r0 : Nat) (x1 x2 : Int) (h : z_M) : z_Z := none
noncomputable def f331_0 (r0 : Nat) (h : z_M) : z_Z := none
noncomputable def f332_0 (r0 : Nat) (h : z_M) : z_Z := none
noncomputable def f332_2 (r0 : Nat) (x1 : Int) (h : z_M) : z_Z := none
noncomputable def f332_27 (x1 : Int) (h : z_M) : z_Z := none
noncomputable def f334_0 (r0 : Nat) (x1 : Int) (h : z_M) : z_Z := none
noncomputable def f334_59 (h : z_M) : z_Z := none
noncomputable def f335_0 (r0 : Nat) (h : z_M) : z_Z := none
noncomputable def f335_2 (r0 : Nat) (x1 : Int) (h : z_M) : z_Z := none
noncomputable def f335_34 (r0 : Nat) (h : z_M) : z_Z := none
noncomputable def f335_36 (r0 : Nat) (x1 : Int) (h : z_M) : z_Z := none
noncomputable def f335_70 (h : z_M) : z_Z := none
noncomputable def f336_0 (r0 : Nat) (x1 x2 : Int) (h : z_M) : z_Z := none
noncomputable def f337_0 (r0 : Nat) (h : z_M) : z_Z := none
noncomputable def f337_21 (r0 : Nat) (x1 : Int) (h : z_M) : z_Z := none
noncomputable def f337_31 (r0 : Nat) (x1 x2 : Int) (h : z_M) : z_Z := none
noncomputable def f337_87 (r0 : Nat) (x1 x2 x3 x4 : Int) (h : z_M) : z_Z := none
noncomputable def f337_122 (r0 : Nat) (x1 x2 x3 x4 x5 : Int) (q0 : Nat) (s1 s2 : Int) (h : z_M) : z_Z := none
noncomputable def f337_123 (r0 : Nat) (x1 x2 x3 x4 x5 : Int) (q0 : Nat) (s1 s2 s3 : Int) (h : z_M) : z_Z := none
noncomputable def f337_136 (r0 : Nat) (x1 x2 x3 x4 x5 x6 : Int) (h : z_M) : z_Z := none
noncomputable def f337_158 (r0 : Nat) (x1 x2 : Int) (h : z_M) : z_Z := none
noncomputable def f337_164 (r0 : Nat) (x1 : Int) (h : z_M) : z_Z := none
noncomputable def f337_170 (h : z_M) : z_Z := none
noncomputable def f339_0 (r0 : Nat) (x1 x2 : Int) (h : z_M) : z_Z := none
noncomputable def f339_35 (r0 : Nat) (x1 x3 : Int) (q0 : Nat) (s1 s2 : Int) (h : z_M) : z_Z := none
noncomputable def f339_38 (r0 : Nat) (x1 : Int) (q0 : Nat) (s1 s2 s3 : Int) (h : z_M) : z_Z := none
noncomputable def f339_44 (r0 : Nat) (x1 x3 : Int) (q0 : Nat) (s1 : Int) (h : z_M) : z_Z := none
noncomputable def f339_56 (r0 : Nat) (x1 x3 : Int) (q0 : Nat) (s1 s2 : Int) (h : z_M) : z_Z := none
noncomputable def f339_59 (r0 : Nat) (x1 : Int) (q0 : Nat) (s1 s2 s3 : Int) (h : z_M) : z_Z := none
noncomputable def f339_62 (r0 : Nat) (x1 : Int) (q0 : Nat) (s1 s2 : Int) (h : z_M) : z_Z := none
noncomputable def f340_0 (r0 : Nat) (x1 x2 : Int) (h : z_M) : z_Z := none
noncomputable def f340_35 (h : z_M) : z_Z := none
noncomputable def f340_36 (s0 : Int) (h : z_M) : z_Z := none
noncomputable def f341_0 (r0 : Nat) (x1 x2 x3 : Int) (h : z_M) : z_Z := none
noncomputable def f341_46 (r0 : Nat) (x4 : Int) (h : z_M) : z_Z := none
noncomputable def f341_50 (x4 : Int) (h : z_M) : z_Z := none
noncomputable def f343_0 (r0 : Nat) (h : z_M) : z_Z := none
noncomputable def f344_0 (r0 : Nat) (x1 : Int) (h : z_M) : z_Z := none
noncomputable def f344_36 (r0 : Nat) (x1 : Int) (h : z_M) : z_Z := none
noncomputable def f345_0 (r0 : Nat) (h : z_M) : z_Z := none
noncomputable def f345_25 (r0 : Nat) (x1 x2 x3 : Int) (h : z_M) : z_Z := none
noncomputable def f345_41 (r0 : Nat) (x1 x2 : Int) (h : z_M) : z_Z := none
noncomputable def f345_60 (r0 : Nat) (x1 : Int) (h : z_M) : z_Z := none
noncomputable def f345_74 (r0 : Nat) (h : z_M) : z_Z := none
noncomputable def f346_0 (r0 : Nat) (x1 x2 : Int) (h : z_M) : z_Z := none
noncomputable def f346_4 (r0 : Nat) (x1 x3 : Int) (h : z_M) : z_Z := none
noncomputable def f346_23 (h : z_M) : z_Z := none
noncomputable def f347_0 (r0 : Nat) (x1 x2 x3 : Int) (h : z_M) : z_Z := none
noncomputable def f347_9 (r0 : Nat) (x1 x2 x3 : Int) (h : z_M) : z_Z := none
noncomputable def f347_30 (r0 : Nat) (x1 x2 x3 : Int) (h : z_M) : z_Z := none
noncomputable def f347_31 (r0 : Nat) (x1 x2 x3 s0 : Int) (h : z_M) : z_Z := none
noncomputable def f347_47 (r0 : Nat) (x1 x2 x3 x4 : Int) (q0 : Nat) (s1 : Int) (h : z_M) : z_Z := none
noncomputable def f347_48 (r0 : Nat) (x1 x2 x3 x4 : Int) (q0 : Nat) (s1 s2 : Int) (h : z_M) : z_Z := none
noncomputable def f347_67 (r0 : Nat) (x1 x2 x3 : Int) (h : z_M) : z_Z := none
noncomputable def f347_70 (r0 : Nat) (x1 x2 s0 : Int) (h : z_M) : z_Z := none
noncomputable def f348_0 (r0 : Nat) (h : z_M) : z_Z := none
noncomputable def f348_9 (r0 : Nat) (h : z_M) : z_Z := none
noncomputable def f348_33 (r0 : Nat) (h : z_M) : z_Z := none
noncomputable def f348_34 (r0 : Nat) (s0 : Int) (h : z_M) : z_Z := none
noncomputable def f348_35 (r0 : Nat) (x1 : Int) (h : z_M) : z_Z := none
noncomputable def f348_60 (r0 : Nat) (h : z_M) : z_Z := none
noncomputable def f348_61 (r0 : Nat) (s0 : Int) (h : z_M) : z_Z := none
noncomputable def f348_65 (r0 : Nat) (x1 : Int) (h : z_M) : z_Z := none
noncomputable def f348_74 (r0 q0 : Nat) (h : z_M) : z_Z := none
noncomputable def f348_75 (r0 q0 : Nat) (s1 : Int) (h : z_M) : z_Z := none
noncomputable def f348_80 (r0 : Nat) (x2 : Int) (h : z_M) : z_Z := none
noncomputable def f348_120 (r0 : Nat) (x2 : Int) (q0 : Nat) (h : z_M) : z_Z := none
noncomputable def f348_121 (r0 : Nat) (x2 : Int) (q0 : Nat) (s1 : Int) (h : z_M) : z_Z := none
noncomputable def f348_130 (r0 : Nat) (h : z_M) : z_Z := none
noncomputable def f348_141 (h : z_M) : z_Z := none
noncomputable def f348_142 (s0 : Int) (h : z_M) : z_Z := none
noncomputable def f349_0 (r0 : Nat) (h : z_M) : z_Z := none
noncomputable def f349_4 (r0 : Nat) (x1 x2 : Int) (h : z_M) : z_Z := none
noncomputable def f349_56 (r0 : Nat) (x2 s0 : Int) (h : z_M) : z_Z := none
noncomputable def f349_57 (r0 : Nat) (x2 s0 s1 : Int) (h : z_M) : z_Z := none
noncomputable def f349_65 (r0 : Nat) (x1 : Int) (h : z_M) : z_Z := none
noncomputable def f349_67 (r0 : Nat) (x1 x2 : Int) (h : z_M) : z_Z := none
noncomputable def f349_89 (r0 : Nat) (x1 : Int) (h : z_M) : z_Z := none
noncomputable def f349_148 (r0 : Nat) (x1 : Int) (h : z_M) : z_Z := none
noncomputable def f349_149 (r0 : Nat) (x1 s0 : Int) (h : z_M) : z_Z := none
noncomputable def f349_169 (r0 : Nat) (x1 : Int) (h : z_M) : z_Z := none
noncomputable def f351_0 (r0 : Nat) (h : z_M) : z_Z := none
noncomputable def f351_9 (r0 : Nat) (h : z_M) : z_Z := none
noncomputable def f351_27 (r0 : Nat) (h : z_M) : z_Z := none
noncomputable def f351_57 (r0 q0 : Nat) (h : z_M) : z_Z := none
noncomputable def f351_58 (r0 q0 : Nat) (s1 : Int) (h : z_M) : z_Z := none
noncomputable def f351_77 (h : z_M) : z_Z := none
noncomputable def f351_78 (s0 : Int) (h : z_M) : z_Z := none
noncomputable def f352_0 (r0 : Nat) (h : z_M) : z_Z := none
noncomputable def f352_24 (r0 : Nat) (h : z_M) : z_Z := none
noncomputable def f353_0 (r0 : Nat) (h : z_M) : z_Z := none
noncomputable def f353_18 (r0 : Nat) (x1 x2 x3 : Int) (h : z_M) : z_Z := none
noncomputable def f353_40 (r0 : Nat) (x1 x2 x3 : Int) (h : z_M) : z_Z := none
noncomputable def f353_49 (r0 : Nat) (x1 x2 : Int) (h : z_M) : z_Z := none
noncomputable def f353_61 (x1 x2 : Int) (q0 : Nat) (h : z_M) : z_Z := none
noncomputable def f353_62 (x1 x2 : Int) (q0 : Nat) (s1 : Int) (h : z_M) : z_Z := none
noncomputable def f353_65 (x1 x2 s0 : Int) (h : z_M) : z_Z := none
noncomputable def f353_79 (x4 : Int) (h : z_M) : z_Z := none
noncomputable def f353_84 (x1 x2 x4 : Int) (h : z_M) : z_Z := none
noncomputable def f353_90 (s0 : Int) (h : z_M) : z_Z := none
noncomputable def f354_0 (r0 : Nat) (x1 : Int) (h : z_M) : z_Z := none
noncomputable def f354_4 (r0 : Nat) (x1 x2 x3 : Int) (h : z_M) : z_Z := none
noncomputable def f354_30 (r0 : Nat) (x1 x2 x3 x4 : Int) (h : z_M) : z_Z := none
noncomputable def f354_36 (r0 : Nat) (x1 x3 s0 : Int) (h : z_M) : z_Z := none
noncomputable def f354_43 (x2 : Int) (h : z_M) : z_Z := none
noncomputable def f406_0 (r0 : Nat) (x1 : Int) (h : z_M) : z_Z := none
noncomputable def f413_0 (r0 : Nat) (x1 : Int) (h : z_M) : z_Z := none
noncomputable def f413_23 (r0 : Nat) (x1 : Int) (h : z_M) : z_Z := none
noncomputable def f419_0 (x0 x1 x2 : Int) (h : z_M) : z_Z := none
noncomputable def f419_14 (h : z_M) : z_Z := none
noncomputable def f419_15 (s0 : Int) (h : z_M) : z_Z := none
noncomputable def f427_0 (r0 : Nat) (x1 x2 : Int) (h : z_M) : z_Z := none
noncomputable def f427_12 (r0 : Nat) (x3 : Int) (h : z_M) : z_Z := none
noncomputable def f427_31 (h : z_M) : z_Z := none
noncomputable def f428_0 (r0 : Nat) (h : z_M) : z_Z := none
noncomputable def f428_4 (r0 : Nat) (x1 x2 : Int) (h : z_M) : z_Z := none
noncomputable def f428_30 (x1 : Int) (h : z_M) : z_Z := none
noncomputable def f429_0 (r0 : Nat) (x1 x2 x3 x4 : Int) (h : z_M) : z_Z := none
noncomputable def f429_6 (r0 : Nat) (x1 x2 x3 x4 x5 x6 : Int) (h : z_M) : z_Z := none
noncomputable def f429_40 (r0 : Nat) (x1 x2 x3 x4 x6 s0 : Int) (h : z_M) : z_Z := none
noncomputable def f429_41 (r0 : Nat) (x1 x2 x3 x4 x6 s0 s1 : Int) (h : z_M) : z_Z := none
noncomputable def f429_50 (x5 : Int) (h : z_M) : z_Z := none
noncomputable def f430_0 (r0 : Nat) (x1 x2 : Int) (h : z_M) : z_Z := none
noncomputable def f430_36 (h : z_M) : z_Z := none
noncomputable def f430_37 (s0 : Int) (h : z_M) : z_Z := none
noncomputable def f432_0 (r0 : Nat) (x1 x2 : Int) (h : z_M) : z_Z := none
noncomputable def f432_18 (h : z_M) : z_Z := none
noncomputable def f432_19 (s0 : Int) (h : z_M) : z_Z := none
noncomputable def f433_0 (r0 : Nat) (h : z_M) : z_Z := none
noncomputable def f433_11 (h : z_M) : z_Z := none
noncomputable def f433_12 (s0 : Int) (h : z_M) : z_Z := none
noncomputable def f434_0 (r0 : Nat) (x1 x2 x3 : Int) (h : z_M) : z_Z := none
noncomputable def f434_22 (r0 : Nat) (x1 x2 : Int) (q0 : Nat) (s1 : Int) (h : z_M) : z_Z := none
noncomputable def f434_34 (q0 : Nat) (s1 s2 : Int) (h : z_M) : z_Z := none
noncomputable def f435_0 (r0 : Nat) (x1 : Int) (h : z_M) : z_Z := none
noncomputable def f510_0 (x0 : Int) (h : z_M) : z_Z := none
noncomputable def f510_12 (h : z_M) : z_Z := none
noncomputable def f512_0 (x0 x1 x2 : Int) (h : z_M) : z_Z := none
noncomputable def f513_0 (r0 : Nat) (x1 : Int) (h : z_M) : z_Z := none
noncomputable def f522_0 (r0 : Nat) (x1 x2 x3 x4 : Int) (h : z_M) : z_Z := none
noncomputable def f522_44 (r0 : Nat) (x1 x2 x3 x4 : Int) (h : z_M) : z_Z := none
noncomputable def f522_45 (r0 : Nat) (x1 x2 x3 x4 s0 : Int) (h : z_M) : z_Z := none
noncomputable def f523_0 (r0 : Nat) (x1 x2 : Int) (h : z_M) : z_Z := none
noncomputable def f523_22 (r0 : Nat) (x1 x2 : Int) (h : z_M) : z_Z := none
noncomputable def f523_38 (r0 : Nat) (x1 x2 : Int) (h : z_M) : z_Z := none
noncomputable def f523_53 (r0 : Nat) (x1 x2 : Int) (h : z_M) : z_Z := none
noncomputable def f523_57 (r0 : Nat) (x1 x2 : Int) (h : z_M) : z_Z := none
noncomputable def f523_58 (r0 : Nat) (x1 x2 s0 : Int) (h : z_M) : z_Z := none
noncomputable def f523_75 (r0 : Nat) (x1 x2 : Int) (h : z_M) : z_Z := none
noncomputable def f523_90 (r0 : Nat) (x1 x2 : Int) (h : z_M) : z_Z := none
noncomputable def f523_97 (r0 : Nat) (x1 x2 s0 : Int) (h : z_M) : z_Z := none
noncomputable def f523_110 (r0 : Nat) (x1 x2 x3 : Int) (q0 : Nat) (h : z_M) : z_Z := none
noncomputable def f523_117 (r0 : Nat) (x1 x2 x3 : Int) (q0 : Nat) (s1 : Int) (h : z_M) : z_Z := none
noncomputable def f523_133 (r0 : Nat) (x1 x2 x3 : Int) (q0 : Nat) (h : z_M) : z_Z := none
noncomputable def f523_140 (r0 : Nat) (x1 x2 x3 : Int) (q0 : Nat) (s1 : Int) (h : z_M) : z_Z := none
noncomputable def f523_156 (r0 : Nat) (x3 : Int) (q0 : Nat) (h : z_M) : z_Z := none
noncomputable def f523_163 (x3 : Int) (q0 : Nat) (s1 : Int) (h : z_M) : z_Z := none
noncomputable def f524_0 (r0 : Nat) (x1 x2 x3 x4 : Int) (h : z_M) : z_Z := none
noncomputable def f525_0 (r0 : Nat) (x1 : Int) (h : z_M) : z_Z := none
noncomputable def f526_0 (r0 : Nat) (x1 : Int) (h : z_M) : z_Z := none
noncomputable def f527_0 (r0 : Nat) (x1 : Int) (h : z_M) : z_Z := none
noncomputable def f536_0 (x0 : Int) (h : z_M) : z_Z := none
noncomputable def f536_12 (h : z_M) : z_Z := none
noncomputable def f540_0 (x0 x1 x2 : Int) (h : z_M) : z_Z := none
noncomputable def f540_14 (h : z_M) : z_Z := none
noncomputable def f540_15 (s0 : Int) (h : z_M) : z_Z := none
noncomputable def f541_0 (r0 : Nat) (x1 : Int) (h : z_M) : z_Z := none
noncomputable def f541_25 (r0 : Nat) (x1 : Int) (h : z_M) : z_Z := none
noncomputable def f541_27 (r0 : Nat) (x1 x2 : Int) (h : z_M) : z_Z := none
noncomputable def f541_49 (r0 : Nat) (x1 x2 : Int) (h : z_M) : z_Z := none
noncomputable def f541_63 (r0 : Nat) (x1 x2 : Int) (q0 : Nat) (s1 s2 : Int) (h : z_M) : z_Z := none
noncomputable def f541_70 (r0 : Nat) (x1 x2 : Int) (q0 : Nat) (s1 s2 s3 : Int) (h : z_M) : z_Z := none
noncomputable def f541_79 (r0 : Nat) (h : z_M) : z_Z := none
noncomputable def f541_82 (q0 : Nat) (h : z_M) : z_Z := none
noncomputable def f541_85 (r0 : Nat) (h : z_M) : z_Z := none
noncomputable def f542_0 (r0 : Nat) (h : z_M) : z_Z := none
noncomputable def f542_9 (r0 : Nat) (x1 : Int) (h : z_M) : z_Z := none
noncomputable def f542_46 (r0 : Nat) (x1 : Int) (r2 q0 : Nat) (h : z_M) : z_Z := none
noncomputable def f542_54 (r0 : Nat) (x1 : Int) (r2 q0 : Nat) (s1 : Int) (h : z_M) : z_Z := none
noncomputable def f542_69 (r0 : Nat) (x1 : Int) (r2 : Nat) (x3 : Int) (h : z_M) : z_Z := none
noncomputable def f542_93 (r0 : Nat) (x1 : Int) (h : z_M) : z_Z := none
noncomputable def f542_99 (r0 : Nat) (h : z_M) : z_Z := none
noncomputable def f542_168 (r0 : Nat) (x1 : Int) (h : z_M) : z_Z := none
noncomputable def f542_203 (r0 : Nat) (h : z_M) : z_Z := none
noncomputable def f542_226 (r0 : Nat) (h : z_M) : z_Z := none
noncomputable def f542_265 (r0 : Nat) (h : z_M) : z_Z := none
noncomputable def f542_267 (r0 : Nat) (x1 : Int) (h : z_M) : z_Z := none
noncomputable def f542_357 (r0 : Nat) (x1 : Int) (r2 : Nat) (x3 x4 : Int) (h : z_M) : z_Z := none
noncomputable def f542_381 (r0 : Nat) (x1 : Int) (h : z_M) : z_Z := none
noncomputable def f542_387 (r0 : Nat) (h : z_M) : z_Z := none
noncomputable def f542_420 (h : z_M) : z_Z := none
noncomputable def f543_0 (r0 : Nat) (x1 x2 x3 : Int) (h : z_M) : z_Z := none
noncomputable def f543_9 (r0 : Nat) (x1 x2 x3 : Int) (h : z_M) : z_Z := none
noncomputable def f543_13 (r0 : Nat) (x1 x2 x3 s0 : Int) (h : z_M) : z_Z := none
noncomputable def f543_40 (r0 : Nat) (x1 x2 x3 x4 x5 : Int) (h : z_M) : z_Z := none
noncomputable def f543_77 (r0 : Nat) (x1 x2 x3 x4 x5 : Int) (q0 : Nat) (h : z_M) : z_Z := none
noncomputable def f543_81 (r0 : Nat) (x1 x2 x3 x4 x5 : Int) (q0 : Nat) (s1 : Int) (h : z_M) : z_Z := none
noncomputable def f543_90 (r0 : Nat) (x1 x2 x3 x4 : Int) (h : z_M) : z_Z := none
noncomputable def f544_0 (r0 : Nat) (h : z_M) : z_Z := none
noncomputable def f544_10 (r0 r1 : Nat) (x2 x3 : Int) (h : z_M) : z_Z := none
noncomputable def f544_31 (r0 : Nat) (h : z_M) : z_Z := none
noncomputable def f544_62 (r0 : Nat) (h : z_M) : z_Z := none
noncomputable def f547_0 (r0 : Nat) (x1 x2 x3 x4 : Int) (h : z_M) : z_Z := none
noncomputable def f548_0 (r0 : Nat) (h : z_M) : z_Z := none
noncomputable def f549_0 (r0 : Nat) (h : z_M) : z_Z := none
noncomputable def f549_2 (r0 : Nat) (x1 : Int) (h : z_M) : z_Z := none
noncomputable def f549_22 (r0 : Nat) (h : z_M) : z_Z := none
noncomputable def f689_0 (x1 x2 x3 : Int) (h : z_M) : z_Z := none
noncomputable def f689_25 (x1 x2 x3 : Int) (h : z_M) : z_Z := none
noncomputable def f690_0 (x1 x2 : Int) (h : z_M) : z_Z := none
noncomputable def f690_18 (x1 x2 : Int) (h : z_M) : z_Z := none
noncomputable def f690_19 (x1 x2 s0 : Int) (h : z_M) : z_Z := none
noncomputable def f690_74 (x1 x2 x3 : Int) (h : z_M) : z_Z := none
noncomputable def f690_75 (x1 x2 x3 s0 : Int) (h : z_M) : z_Z := none
noncomputable def f690_91 (x1 x2 : Int) (h : z_M) : z_Z := none
noncomputable def f690_97 (x1 x2 x5 x6 : Int) (h : z_M) : z_Z := none
noncomputable def f690_140 (x1 x2 x6 s0 : Int) (h : z_M) : z_Z := none
noncomputable def f690_141 (x1 x2 x6 s0 s1 : Int) (h : z_M) : z_Z := none
noncomputable def f690_150 (x5 : Int) (h : z_M) : z_Z := none
noncomputable def f691_0 (x1 x2 : Int) (h : z_M) : z_Z := none
noncomputable def f691_5 (x1 x2 x3 x4 : Int) (h : z_M) : z_Z := none
noncomputable def f691_62 (x1 x2 x4 : Int) (h : z_M) : z_Z := none
noncomputable def f691_63 (x1 x2 x4 s0 : Int) (h : z_M) : z_Z := none
noncomputable def f691_70 (x3 : Int) (h : z_M) : z_Z := none
noncomputable def f693_0 (x1 x2 x3 : Int) (h : z_M) : z_Z := none
noncomputable def f693_30 (h : z_M) : z_Z := none
noncomputable def f693_31 (s0 : Int) (h : z_M) : z_Z := none
noncomputable def f697_0 (h : z_M) : z_Z := none
noncomputable def f697_2 (x1 : Int) (h : z_M) : z_Z := none
noncomputable def f697_21 (h : z_M) : z_Z := none
noncomputable def f697_23 (x1 : Int) (h : z_M) : z_Z := none
noncomputable def f697_43 (h : z_M) : z_Z := none
noncomputable def f698_0 (h : z_M) : z_Z := none
noncomputable def f698_12 (x1 : Int) (h : z_M) : z_Z := none
noncomputable def f698_32 (h : z_M) : z_Z := none
noncomputable def f749_0 (x1 : Int) (h : z_M) : z_Z := none
noncomputable def f749_13 (x1 : Int) (h : z_M) : z_Z := none
noncomputable def f749_14 (x1 s1 : Int) (h : z_M) : z_Z := none
noncomputable def f749_26 (x1 : Int) (h : z_M) : z_Z := none
noncomputable def f752_0 (x1 : Int) (h : z_M) : z_Z := none
noncomputable def f752_14 (h : z_M) : z_Z := none
noncomputable def f752_15 (s0 : Int) (h : z_M) : z_Z := none
noncomputable def f756_0 (x1 : Int) (h : z_M) : z_Z := none
noncomputable def f756_14 (x1 : Int) (h : z_M) : z_Z := none
noncomputable def f756_18 (x1 : Int) (h : z_M) : z_Z := none
noncomputable def f756_19 (x1 s1 : Int) (h : z_M) : z_Z := none
noncomputable def f756_31 (x1 : Int) (h : z_M) : z_Z := none
noncomputable def f760_0 (x1 x2 : Int) (h : z_M) : z_Z := none
noncomputable def f760_31 (h : z_M) : z_Z := none
noncomputable def f760_32 (s0 : Int) (h : z_M) : z_Z := none
noncomputable def f806_0 (x1 x2 : Int) (h : z_M) : z_Z := none
noncomputable def f807_0 (x1 x2 : Int) (h : z_M) : z_Z := none
noncomputable def f807_19 (x1 x2 : Int) (h : z_M) : z_Z := none
noncomputable def f807_20 (x1 x2 s1 : Int) (h : z_M) : z_Z := none
noncomputable def f807_30 (x1 x2 : Int) (h : z_M) : z_Z := none
noncomputable def f807_56 (x1 x2 x3 : Int) (h : z_M) : z_Z := none
noncomputable def f807_117 (h : z_M) : z_Z := none
noncomputable def f808_0 (x1 x2 : Int) (h : z_M) : z_Z := none
noncomputable def f808_5 (x1 x2 x3 x4 : Int) (h : z_M) : z_Z := none
noncomputable def f808_65 (x1 x2 x4 s0 : Int) (h : z_M) : z_Z := none
noncomputable def f808_66 (x1 x2 x4 s0 s1 : Int) (h : z_M) : z_Z := none
noncomputable def f808_74 (x1 x2 x3 : Int) (h : z_M) : z_Z := none
noncomputable def f808_77 (x1 x2 x3 x4 : Int) (h : z_M) : z_Z := none
noncomputable def f808_111 (x1 x2 x4 s0 : Int) (h : z_M) : z_Z := none
noncomputable def f808_112 (x1 x2 x4 s0 s1 : Int) (h : z_M) : z_Z := none
noncomputable def f808_120 (x3 : Int) (h : z_M) : z_Z := none
noncomputable def f809_0 (x1 : Int) (h : z_M) : z_Z := none
noncomputable def f809_49 (h : z_M) : z_Z := none
noncomputable def f811_0 (x1 x2 : Int) (h : z_M) : z_Z := none
noncomputable def f811_13 (x1 x2 s1 : Int) (h : z_M) : z_Z := none
noncomputable def f811_14 (x1 x2 s1 s2 : Int) (h : z_M) : z_Z := none
noncomputable def f811_24 (x1 x2 : Int) (h : z_M) : z_Z := none
noncomputable def f811_43 (x1 s1 : Int) (h : z_M) : z_Z := none
noncomputable def f811_49 (x1 s1 s2 : Int) (h : z_M) : z_Z := none
noncomputable def f863_0 (h : z_M) : z_Z := none
noncomputable def f863_2 (x1 : Int) (h : z_M) : z_Z := none
noncomputable def f863_27 (h : z_M) : z_Z := none
noncomputable def f865_0 (x1 : Int) (h : z_M) : z_Z := none
noncomputable def f865_18 (x1 : Int) (h : z_M) : z_Z := none
noncomputable def f865_29 (h : z_M) : z_Z := none
noncomputable def f865_33 (s0 : Int) (h : z_M) : z_Z := none
noncomputable def f866_0 (x1 x2 : Int) (h : z_M) : z_Z := none
noncomputable def f866_36 (x1 x2 s1 s2 : Int) (h : z_M) : z_Z := none
noncomputable def f866_37 (x1 x2 s1 s2 s3 : Int) (h : z_M) : z_Z := none
noncomputable def f866_46 (x1 x2 : Int) (h : z_M) : z_Z := none
noncomputable def f870_0 (x1 : Int) (h : z_M) : z_Z := none
noncomputable def f871_0 (x1 x2 x3 x4 : Int) (h : z_M) : z_Z := none
noncomputable def f871_51 (h : z_M) : z_Z := none
noncomputable def f871_52 (s0 : Int) (h : z_M) : z_Z := none
noncomputable def f872_0 (x1 x2 x3 : Int) (h : z_M) : z_Z := none
noncomputable def f872_19 (x1 x2 x3 : Int) (h : z_M) : z_Z := none
noncomputable def f872_20 (x1 x2 x3 s1 : Int) (h : z_M) : z_Z := none
noncomputable def f872_43 (x1 x2 x3 : Int) (h : z_M) : z_Z := none
noncomputable def f874_0 (h : z_M) : z_Z := none
noncomputable def f874_14 (h : z_M) : z_Z := none
noncomputable def f874_15 (s0 : Int) (h : z_M) : z_Z := none
noncomputable def f875_0 (h : z_M) : z_Z := none
noncomputable def f875_24 (h : z_M) : z_Z := none
noncomputable def f875_33 (h : z_M) : z_Z := none
noncomputable def f876_0 (h : z_M) : z_Z := none
noncomputable def f876_33 (x2 x3 : Int) (h : z_M) : z_Z := none
noncomputable def f876_44 (x2 x3 x4 : Int) (h : z_M) : z_Z := none
noncomputable def f876_95 (x2 x3 x4 x5 x6 : Int) (h : z_M) : z_Z := none
noncomputable def f876_119 (x2 x3 x4 x5 x6 x7 : Int) (h : z_M) : z_Z := none
noncomputable def f876_120 (x2 x3 x4 x5 x6 x7 s0 : Int) (h : z_M) : z_Z := none
noncomputable def f876_133 (x2 x3 x4 x5 x6 x7 x8 : Int) (h : z_M) : z_Z := none
noncomputable def f876_134 (x2 x3 x4 x5 x6 x7 x8 s0 : Int) (h : z_M) : z_Z := none
noncomputable def f876_147 (x2 x3 x4 x5 x6 x7 x9 : Int) (h : z_M) : z_Z := none
noncomputable def f876_148 (x2 x3 x4 x5 x6 x7 x9 s0 : Int) (h : z_M) : z_Z := none
noncomputable def f876_245 (x2 x3 : Int) (h : z_M) : z_Z := none
noncomputable def f876_255 (h : z_M) : z_Z := none
noncomputable def f876_274 (h : z_M) : z_Z := none
noncomputable def f877_0 (x1 : Int) (h : z_M) : z_Z := none
noncomputable def f877_4 (x1 x2 x3 : Int) (h : z_M) : z_Z := none
noncomputable def f877_24 (x2 : Int) (h : z_M) : z_Z := none
noncomputable def f878_0 (x1 : Int) (h : z_M) : z_Z := none
noncomputable def f878_7 (x1 x2 x3 : Int) (h : z_M) : z_Z := none
noncomputable def f878_34 (x1 x2 x3 : Int) (h : z_M) : z_Z := none
noncomputable def f878_52 (x1 : Int) (h : z_M) : z_Z := none
noncomputable def f878_58 (x1 s0 : Int) (h : z_M) : z_Z := none
noncomputable def f878_79 (x4 : Int) (h : z_M) : z_Z := none
noncomputable def f880_0 (x1 x2 x3 x4 x5 : Int) (h : z_M) : z_Z := none
noncomputable def f880_22 (x1 x2 x3 x4 x5 s1 s2 : Int) (h : z_M) : z_Z := none
noncomputable def f880_23 (x1 x2 x3 x4 x5 s1 s2 s3 : Int) (h : z_M) : z_Z := none
noncomputable def f880_30 (h : z_M) : z_Z := none
noncomputable def f880_32 (x1 x2 x3 x4 x5 : Int) (h : z_M) : z_Z := none
noncomputable def f880_38 (x1 x2 x3 x4 x5 x6 x7 : Int) (h : z_M) : z_Z := none
noncomputable def f880_91 (x1 x2 x3 x4 x5 x7 x8 s0 : Int) (h : z_M) : z_Z := none
noncomputable def f880_92 (x1 x2 x3 x4 x5 x7 x8 s0 s1 : Int) (h : z_M) : z_Z := none
noncomputable def f880_110 (x6 : Int) (h : z_M) : z_Z := none
noncomputable def f881_0 (x1 x2 : Int) (h : z_M) : z_Z := none
noncomputable def f881_27 (h : z_M) : z_Z := none
noncomputable def f881_28 (s0 : Int) (h : z_M) : z_Z := none
noncomputable def f882_0 (x1 x2 x3 : Int) (h : z_M) : z_Z := none
noncomputable def f882_34 (h : z_M) : z_Z := none
noncomputable def f882_35 (s0 : Int) (h : z_M) : z_Z := none
noncomputable def f883_0 (x0 : Int) (h : z_M) : z_Z := none
noncomputable def f885_0 (x0 x1 x2 : Int) (h : z_M) : z_Z := none
noncomputable def f885_14 (h : z_M) : z_Z := none
noncomputable def f885_15 (s0 : Int) (h : z_M) : z_Z := none
noncomputable def f887_0 (x1 x2 x3 : Int) (h : z_M) : z_Z := none
noncomputable def f887_34 (h : z_M) : z_Z := none
noncomputable def f887_35 (s0 : Int) (h : z_M) : z_Z := none
noncomputable def f888_0 (x0 : Int) (h : z_M) : z_Z := none
noncomputable def f889_0 (x1 x2 x3 : Int) (h : z_M) : z_Z := none
noncomputable def f889_36 (h : z_M) : z_Z := none
noncomputable def f889_37 (s0 : Int) (h : z_M) : z_Z := none
noncomputable def f890_0 (x0 : Int) (h : z_M) : z_Z := none
noncomputable def f891_0 (x1 : Int) (h : z_M) : z_Z := none
noncomputable def f891_20 (h : z_M) : z_Z := none
noncomputable def f891_21 (s0 : Int) (h : z_M) : z_Z := none
noncomputable def f892_0 (x1 : Int) (h : z_M) : z_Z := none
noncomputable def f892_20 (h : z_M) : z_Z := none
noncomputable def f892_21 (s0 : Int) (h : z_M) : z_Z := none
noncomputable def f895_0 (x1 x2 x3 x4 : Int) (h : z_M) : z_Z := none
noncomputable def f895_21 (x1 x2 x3 x4 : Int) (h : z_M) : z_Z := none
noncomputable def f895_22 (x1 x2 x3 x4 s0 : Int) (h : z_M) : z_Z := none
noncomputable def f895_33 (x1 x2 x3 x4 x5 : Int) (h : z_M) : z_Z := none
noncomputable def f895_49 (x1 x2 x3 x4 x5 : Int) (h : z_M) : z_Z := none
noncomputable def f895_57 (x1 x2 x3 x4 x5 s0 : Int) (h : z_M) : z_Z := none
noncomputable def f895_70 (x1 x2 x4 x5 x6 s1 : Int) (h : z_M) : z_Z := none
noncomputable def f895_71 (x1 x2 x4 x5 x6 s1 s2 : Int) (h : z_M) : z_Z := none
noncomputable def f895_96 (x1 x2 x4 x6 s1 s2 : Int) (h : z_M) : z_Z := none
noncomputable def f895_97 (x1 x2 x4 x6 s1 s2 s3 : Int) (h : z_M) : z_Z := none
noncomputable def f895_106 (x1 x2 x4 x6 : Int) (h : z_M) : z_Z := none
noncomputable def f895_109 (x1 x2 x4 x6 x7 : Int) (h : z_M) : z_Z := none
noncomputable def f895_159 (x4 x6 : Int) (h : z_M) : z_Z := none
noncomputable def f896_0 (x1 : Int) (h : z_M) : z_Z := none
noncomputable def f897_0 (x1 : Int) (h : z_M) : z_Z := none
noncomputable def f897_15 (x1 : Int) (h : z_M) : z_Z := none
noncomputable def f899_0 (x1 x2 : Int) (h : z_M) : z_Z := none
noncomputable def f899_4 (x1 x3 : Int) (h : z_M) : z_Z := none
noncomputable def f899_23 (h : z_M) : z_Z := none
noncomputable def f902_0 (x1 : Int) (h : z_M) : z_Z := none
noncomputable def f902_19 (x1 x2 : Int) (h : z_M) : z_Z := none
noncomputable def f902_21 (x1 x2 s0 : Int) (h : z_M) : z_Z := none
noncomputable def f902_25 (x1 x2 x3 x4 : Int) (h : z_M) : z_Z := none
noncomputable def f902_42 (x1 x2 x3 : Int) (h : z_M) : z_Z := none
noncomputable def f902_62 (x1 : Int) (h : z_M) : z_Z := none
noncomputable def f902_69 (x1 : Int) (h : z_M) : z_Z := none
noncomputable def f906_0 (x1 x2 : Int) (h : z_M) : z_Z := none
noncomputable def f906_22 (x1 x3 : Int) (h : z_M) : z_Z := none
noncomputable def f906_28 (x1 x3 : Int) (h : z_M) : z_Z := none
noncomputable def f906_38 (x1 x3 : Int) (h : z_M) : z_Z := none
noncomputable def f906_41 (x1 s0 : Int) (h : z_M) : z_Z := none
noncomputable def f906_60 (x4 s1 : Int) (h : z_M) : z_Z := none
noncomputable def f906_72 (x4 s1 : Int) (h : z_M) : z_Z := none
noncomputable def f906_74 (s1 s2 : Int) (h : z_M) : z_Z := none
noncomputable def f907_0 (x1 x2 x3 x4 x5 x6 : Int) (h : z_M) : z_Z := none
noncomputable def f907_20 (x1 x2 x3 x4 x5 x6 : Int) (h : z_M) : z_Z := none
noncomputable def f907_21 (x1 x2 x3 x4 x5 x6 s1 : Int) (h : z_M) : z_Z := none
noncomputable def f907_37 (x1 x2 x3 x4 x5 x6 : Int) (h : z_M) : z_Z := none
noncomputable def f907_71 (x1 x2 x3 x4 x5 x6 : Int) (h : z_M) : z_Z := none
noncomputable def f907_72 (x1 x2 x3 x4 x5 x6 s0 : Int) (h : z_M) : z_Z := none
noncomputable def f907_87 (x1 x2 x3 x4 x5 x6 x7 : Int) (h : z_M) : z_Z := none
noncomputable def f907_88 (x1 x2 x3 x4 x5 x6 x7 s1 : Int) (h : z_M) : z_Z := none
noncomputable def f907_108 (x1 x2 x3 x4 x5 x6 : Int) (h : z_M) : z_Z := none
noncomputable def f908_0 (x1 x2 : Int) (h : z_M) : z_Z := none
noncomputable def f908_7 (x2 x3 : Int) (h : z_M) : z_Z := none
noncomputable def f908_32 (h : z_M) : z_Z := none
noncomputable def f909_0 (x1 : Int) (h : z_M) : z_Z := none
noncomputable def f909_57 (h : z_M) : z_Z := none
noncomputable def f909_59 (s1 : Int) (h : z_M) : z_Z := none
noncomputable def f909_72 (h : z_M) : z_Z := none
noncomputable def f912_0 (x1 : Int) (h : z_M) : z_Z := none
noncomputable def f912_8 (x1 : Int) (h : z_M) : z_Z := none
noncomputable def f912_23 (x1 : Int) (h : z_M) : z_Z := none
noncomputable def f912_24 (s0 : Int) (h : z_M) : z_Z := none
noncomputable def f913_0 (x1 x2 x3 : Int) (h : z_M) : z_Z := none
noncomputable def f913_30 (x1 x2 : Int) (h : z_M) : z_Z := none
noncomputable def f913_46 (x1 x2 s1 s2 : Int) (h : z_M) : z_Z := none
noncomputable def f913_47 (x1 s1 s2 s3 : Int) (h : z_M) : z_Z := none
noncomputable def f914_0 (x1 x2 x3 : Int) (h : z_M) : z_Z := none
noncomputable def f914_31 (x1 x2 x3 x4 x5 : Int) (h : z_M) : z_Z := none
noncomputable def f914_48 (x1 x2 x3 x4 x5 x6 : Int) (h : z_M) : z_Z := none
noncomputable def f914_60 (x1 x2 x3 x4 x5 x6 x7 : Int) (h : z_M) : z_Z := none
noncomputable def f914_82 (x1 x2 x3 x4 x5 x6 : Int) (h : z_M) : z_Z := none
noncomputable def f914_88 (x1 x2 x3 x4 x5 : Int) (h : z_M) : z_Z := none
noncomputable def f914_91 (x1 x2 x3 x4 x5 : Int) (h : z_M) : z_Z := none
noncomputable def f914_94 (x1 x2 x3 x4 x5 x6 : Int) (h : z_M) : z_Z := none
noncomputable def f914_103 (x1 x2 x3 x4 x5 x6 x7 : Int) (h : z_M) : z_Z := none
noncomputable def f914_128 (x1 x2 x3 x4 x5 x6 : Int) (h : z_M) : z_Z := none
noncomputable def f914_134 (x1 x2 x3 x4 x5 : Int) (h : z_M) : z_Z := none
noncomputable def f914_203 (x1 x2 x3 x4 x5 : Int) (h : z_M) : z_Z := none
noncomputable def f914_209 (h : z_M) : z_Z := none
noncomputable def f915_0 (h : z_M) : z_Z := none
noncomputable def f915_15 (h : z_M) : z_Z := none
noncomputable def f915_29 (h : z_M) : z_Z := none
noncomputable def f916_0 (x1 x2 x3 : Int) (h : z_M) : z_Z := none
noncomputable def f916_26 (x2 x3 x4 : Int) (h : z_M) : z_Z := none
noncomputable def f916_36 (x2 x3 x4 s0 : Int) (h : z_M) : z_Z := none
noncomputable def f916_47 (x2 x3 x4 x5 : Int) (h : z_M) : z_Z := none
noncomputable def f916_56 (x2 x3 x4 x5 s0 : Int) (h : z_M) : z_Z := none
noncomputable def f916_67 (x3 x4 x5 x6 : Int) (h : z_M) : z_Z := none
noncomputable def f916_79 (x4 x5 x6 : Int) (h : z_M) : z_Z := none
noncomputable def f916_91 (x5 x6 s0 : Int) (h : z_M) : z_Z := none
noncomputable def f916_105 (x5 x6 x7 : Int) (h : z_M) : z_Z := none
noncomputable def f916_107 (x5 x6 x7 s0 : Int) (h : z_M) : z_Z := none
noncomputable def f916_121 (x5 x6 x7 x8 : Int) (h : z_M) : z_Z := none
noncomputable def f916_123 (x5 x6 x7 x8 s0 : Int) (h : z_M) : z_Z := none
noncomputable def f916_137 (x5 x6 x7 x8 x9 : Int) (h : z_M) : z_Z := none
noncomputable def f916_149 (x5 x6 x7 : Int) (h : z_M) : z_Z := none
noncomputable def f916_157 (s0 : Int) (h : z_M) : z_Z := none
noncomputable def f924_0 (x0 x1 x2 : Int) (h : z_M) : z_Z := none
noncomputable def f924_14 (h : z_M) : z_Z := none
noncomputable def f924_15 (s0 : Int) (h : z_M) : z_Z := none
noncomputable def f931_0 (x1 : Int) (h : z_M) : z_Z := none
noncomputable def f932_0 (x1 : Int) (h : z_M) : z_Z := none
noncomputable def f933_0 (x1 : Int) (h : z_M) : z_Z := none
noncomputable def f933_2 (x1 x2 : Int) (h : z_M) : z_Z := none
noncomputable def f933_31 (x2 : Int) (h : z_M) : z_Z := none
noncomputable def f934_0 (x1 x2 : Int) (h : z_M) : z_Z := none
noncomputable def f934_4 (x1 x3 : Int) (h : z_M) : z_Z := none
noncomputable def f934_23 (h : z_M) : z_Z := none
noncomputable def f935_0 (x1 x2 : Int) (h : z_M) : z_Z := none
noncomputable def f936_0 (h : z_M) : z_Z := none
noncomputable def f938_0 (x1 x2 x3 : Int) (h : z_M) : z_Z := none
noncomputable def f938_25 (x1 x2 x3 x4 : Int) (h : z_M) : z_Z := none
noncomputable def f938_57 (x1 x2 x3 x4 : Int) (h : z_M) : z_Z := none
noncomputable def f938_58 (x1 x2 x3 x4 s1 : Int) (h : z_M) : z_Z := none
noncomputable def f938_67 (x1 x2 x3 : Int) (h : z_M) : z_Z := none
noncomputable def f939_0 (h : z_M) : z_Z := none
noncomputable def f942_0 (x1 x2 x3 : Int) (h : z_M) : z_Z := none
noncomputable def f942_55 (x1 x4 x5 x6 : Int) (h : z_M) : z_Z := none
noncomputable def f942_68 (x1 x4 x5 s0 : Int) (h : z_M) : z_Z := none
noncomputable def f942_106 (x1 x7 : Int) (h : z_M) : z_Z := none
noncomputable def f942_108 (x1 s0 : Int) (h : z_M) : z_Z := none
noncomputable def f942_133 (x1 x7 : Int) (h : z_M) : z_Z := none
noncomputable def f942_135 (x1 s0 : Int) (h : z_M) : z_Z := none
noncomputable def f942_152 (x1 x7 : Int) (h : z_M) : z_Z := none
noncomputable def f942_156 (x1 x7 s0 : Int) (h : z_M) : z_Z := none
noncomputable def f942_183 (x1 x7 x8 x9 : Int) (h : z_M) : z_Z := none
noncomputable def f942_185 (x1 x7 x8 x9 s0 : Int) (h : z_M) : z_Z := none
noncomputable def f942_190 (x1 x7 x8 x9 x10 x11 : Int) (h : z_M) : z_Z := none
noncomputable def f942_208 (x1 x7 x8 x9 x10 : Int) (h : z_M) : z_Z := none
noncomputable def f942_231 (x1 x7 x8 : Int) (h : z_M) : z_Z := none
noncomputable def f942_239 (x1 x7 : Int) (h : z_M) : z_Z := none
noncomputable def f943_0 (x0 : Int) (h : z_M) : z_Z := none
noncomputable def f945_0 (x1 : Int) (h : z_M) : z_Z := none
noncomputable def f945_12 (x1 : Int) (h : z_M) : z_Z := none
noncomputable def f945_25 (x1 : Int) (h : z_M) : z_Z := none
noncomputable def f945_26 (x1 s1 : Int) (h : z_M) : z_Z := none
noncomputable def f945_38 (x1 : Int) (h : z_M) : z_Z := none
noncomputable def f945_75 (x2 : Int) (h : z_M) : z_Z := none
noncomputable def f945_101 (x2 : Int) (h : z_M) : z_Z := none
noncomputable def f945_111 (x2 s1 : Int) (h : z_M) : z_Z := none
noncomputable def f945_124 (x2 x3 : Int) (h : z_M) : z_Z := none
noncomputable def f945_155 (x2 : Int) (h : z_M) : z_Z := none
noncomputable def f945_161 (h : z_M) : z_Z := none
noncomputable def f945_211 (x2 : Int) (h : z_M) : z_Z := none
noncomputable def f945_243 (h : z_M) : z_Z := none
noncomputable def f945_260 (h : z_M) : z_Z := none
noncomputable def f945_289 (h : z_M) : z_Z := none
noncomputable def f945_291 (x2 : Int) (h : z_M) : z_Z := none
noncomputable def f945_344 (x2 x3 : Int) (h : z_M) : z_Z := none
noncomputable def f945_374 (x2 : Int) (h : z_M) : z_Z := none
noncomputable def f945_380 (h : z_M) : z_Z := none
noncomputable def f945_403 (h : z_M) : z_Z := none
noncomputable def f945_418 (h : z_M) : z_Z := none
noncomputable def f945_420 (x2 : Int) (h : z_M) : z_Z := none
noncomputable def f945_443 (h : z_M) : z_Z := none
noncomputable def f945_446 (h : z_M) : z_Z := none
noncomputable def f945_459 (h : z_M) : z_Z := none
noncomputable def f948_0 (x1 x2 : Int) (h : z_M) : z_Z := none
noncomputable def f948_75 (x1 x2 x3 x4 : Int) (h : z_M) : z_Z := none
noncomputable def f948_87 (x1 x2 x3 x4 x5 : Int) (h : z_M) : z_Z := none
noncomputable def f948_99 (x1 x2 x3 x4 x5 x6 : Int) (h : z_M) : z_Z := none
noncomputable def f948_163 (x1 x2 x3 x4 x5 x6 x8 x9 : Int) (h : z_M) : z_Z := none
noncomputable def f948_164 (x1 x2 x3 x4 x5 x6 x8 x9 s0 : Int) (h : z_M) : z_Z := none
noncomputable def f948_174 (x1 x2 x3 x4 x5 x6 x8 x9 s0 : Int) (h : z_M) : z_Z := none
noncomputable def f948_175 (x1 x2 x3 x4 x5 x6 x8 x9 s0 s1 : Int) (h : z_M) : z_Z := none
noncomputable def f948_182 (x1 x2 x3 x4 x5 x6 x8 x9 : Int) (h : z_M) : z_Z := none
noncomputable def f948_183 (x1 x2 x3 x4 x5 x6 x8 x9 s0 : Int) (h : z_M) : z_Z := none
noncomputable def f948_196 (x1 x2 x3 x4 x5 x6 x8 x9 : Int) (h : z_M) : z_Z := none
noncomputable def f948_203 (x1 x2 x3 x4 x5 x6 x8 x9 : Int) (h : z_M) : z_Z := none
noncomputable def f948_232 (x1 x2 x3 x4 x5 : Int) (h : z_M) : z_Z := none
noncomputable def f948_238 (x1 x2 x3 x4 : Int) (h : z_M) : z_Z := none
noncomputable def f948_248 (x3 : Int) (h : z_M) : z_Z := none
noncomputable def f949_0 (x1 x2 x3 x4 x5 : Int) (h : z_M) : z_Z := none
noncomputable def f949_39 (x1 x2 x4 x5 x6 : Int) (h : z_M) : z_Z := none
noncomputable def f949_75 (x4 x5 : Int) (h : z_M) : z_Z := none
noncomputable def f949_78 (x4 x5 x6 : Int) (h : z_M) : z_Z := none
noncomputable def f949_98 (x4 x5 : Int) (h : z_M) : z_Z := none
noncomputable def f949_133 (x6 : Int) (h : z_M) : z_Z := none
noncomputable def f949_162 (h : z_M) : z_Z := none
noncomputable def f950_0 (x1 x2 x3 x4 : Int) (h : z_M) : z_Z := none
noncomputable def f950_21 (x1 x4 x5 : Int) (h : z_M) : z_Z := none
noncomputable def f950_58 (h : z_M) : z_Z := none
noncomputable def f951_0 (x1 x2 x3 : Int) (h : z_M) : z_Z := none
noncomputable def f951_21 (x1 x4 : Int) (h : z_M) : z_Z := none
noncomputable def f951_49 (h : z_M) : z_Z := none
noncomputable def f954_0 (x1 x2 x3 x4 : Int) (h : z_M) : z_Z := none
noncomputable def f954_9 (x2 x3 x4 : Int) (h : z_M) : z_Z := none
noncomputable def f954_17 (x3 x4 : Int) (h : z_M) : z_Z := none
noncomputable def f954_25 (x4 : Int) (h : z_M) : z_Z := none
noncomputable def f954_34 (h : z_M) : z_Z := none
noncomputable def f954_35 (s1 : Int) (h : z_M) : z_Z := none
noncomputable def f954_49 (h : z_M) : z_Z := none
noncomputable def f954_50 (s0 : Int) (h : z_M) : z_Z := none
noncomputable def f955_0 (x1 x2 x3 : Int) (h : z_M) : z_Z := none
noncomputable def f955_43 (h : z_M) : z_Z := none
noncomputable def f955_44 (s0 : Int) (h : z_M) : z_Z := none
noncomputable def f956_0 (x1 x2 x3 : Int) (h : z_M) : z_Z := none
noncomputable def f956_59 (h : z_M) : z_Z := none
noncomputable def f956_60 (s1 : Int) (h : z_M) : z_Z := none
noncomputable def f956_73 (h : z_M) : z_Z := none
noncomputable def f956_74 (s0 : Int) (h : z_M) : z_Z := none
noncomputable def f961_0 (x1 x2 x3 : Int) (h : z_M) : z_Z := none
noncomputable def f961_29 (x1 x2 x3 s1 : Int) (h : z_M) : z_Z := none
noncomputable def f961_30 (x1 x2 x3 s1 s2 : Int) (h : z_M) : z_Z := none
noncomputable def f961_46 (h : z_M) : z_Z := none
noncomputable def f963_0 (x0 : Int) (h : z_M) : z_Z := none
noncomputable def f963_9 (h : z_M) : z_Z := none
noncomputable def f963_10 (s0 : Int) (h : z_M) : z_Z := none
noncomputable def f964_0 (x1 x2 x3 x4 x5 : Int) (h : z_M) : z_Z := none
noncomputable def f964_34 (x1 x2 x3 x4 x5 s1 s2 : Int) (h : z_M) : z_Z := none
noncomputable def f964_35 (x1 x2 x3 x4 x5 s1 s2 s3 : Int) (h : z_M) : z_Z := none
noncomputable def f964_42 (h : z_M) : z_Z := none
noncomputable def f964_44 (x1 x2 x3 x4 x5 : Int) (h : z_M) : z_Z := none
noncomputable def f964_50 (x1 x2 x3 x4 x5 x6 x7 : Int) (h : z_M) : z_Z := none
noncomputable def f964_103 (x1 x2 x3 x4 x5 x7 x8 s0 : Int) (h : z_M) : z_Z := none
noncomputable def f964_104 (x1 x2 x3 x4 x5 x7 x8 s0 s1 : Int) (h : z_M) : z_Z := none
noncomputable def f964_122 (x6 : Int) (h : z_M) : z_Z := none
noncomputable def f967_0 (h : z_M) : z_Z := none
noncomputable def f967_2 (x1 : Int) (h : z_M) : z_Z := none
noncomputable def f967_27 (x1 : Int) (h : z_M) : z_Z := none
noncomputable def f969_0 (x1 x2 x3 : Int) (h : z_M) : z_Z := none
noncomputable def f969_73 (x1 x2 x3 x4 x5 : Int) (h : z_M) : z_Z := none
noncomputable def f969_77 (x1 x2 x3 x4 x5 : Int) (h : z_M) : z_Z := none
noncomputable def f969_78 (x1 x2 x3 x4 x5 s0 : Int) (h : z_M) : z_Z := none
noncomputable def f969_99 (x1 x2 x3 x4 x5 x6 : Int) (h : z_M) : z_Z := none
noncomputable def f969_100 (x1 x2 x3 x4 x5 x6 s1 : Int) (h : z_M) : z_Z := none
noncomputable def f969_114 (x1 x2 x3 x4 s1 : Int) (h : z_M) : z_Z := none
noncomputable def f969_115 (x1 x2 x3 x4 s1 s2 : Int) (h : z_M) : z_Z := none
noncomputable def f969_126 (x1 x2 x3 : Int) (h : z_M) : z_Z := none
noncomputable def f969_154 (x1 x2 x3 x7 x8 : Int) (h : z_M) : z_Z := none
noncomputable def f969_168 (x1 x2 x3 x7 x8 x9 : Int) (h : z_M) : z_Z := none
noncomputable def f969_185 (x1 x2 x3 x7 x8 x9 x10 x11 : Int) (h : z_M) : z_Z := none
noncomputable def f969_235 (x1 x2 x3 x7 x8 x9 x11 s0 : Int) (h : z_M) : z_Z := none
noncomputable def f969_236 (x1 x2 x3 x7 x8 x9 x11 s0 s1 : Int) (h : z_M) : z_Z := none
noncomputable def f969_245 (x1 x2 x3 x7 x8 x9 x10 : Int) (h : z_M) : z_Z := none
noncomputable def f969_308 (x1 x2 x3 x7 x8 : Int) (h : z_M) : z_Z := none
noncomputable def f969_314 (x7 : Int) (h : z_M) : z_Z := none
noncomputable def f970_0 (x1 x2 x3 x4 x5 : Int) (h : z_M) : z_Z := none
noncomputable def f970_22 (x1 x2 x3 x4 x5 s1 s2 : Int) (h : z_M) : z_Z := none
noncomputable def f970_23 (x1 x2 x3 x4 x5 s1 s2 s3 : Int) (h : z_M) : z_Z := none
noncomputable def f970_30 (h : z_M) : z_Z := none
noncomputable def f970_32 (x1 x2 x3 x4 x5 : Int) (h : z_M) : z_Z := none
noncomputable def f970_38 (x1 x2 x3 x4 x5 x6 x7 : Int) (h : z_M) : z_Z := none
noncomputable def f970_91 (x1 x2 x3 x4 x5 x7 x8 s0 : Int) (h : z_M) : z_Z := none
noncomputable def f970_92 (x1 x2 x3 x4 x5 x7 x8 s0 s1 : Int) (h : z_M) : z_Z := none
noncomputable def f970_110 (x6 : Int) (h : z_M) : z_Z := none
noncomputable def f971_0 (x1 x2 x3 : Int) (h : z_M) : z_Z := none
noncomputable def f971_29 (x1 x2 x3 s1 : Int) (h : z_M) : z_Z := none
noncomputable def f971_30 (x1 x2 x3 s1 s2 : Int) (h : z_M) : z_Z := none
noncomputable def f971_45 (h : z_M) : z_Z := none
noncomputable def f974_0 (x1 x2 x3 : Int) (h : z_M) : z_Z := none
noncomputable def f974_27 (x1 x2 x3 x4 : Int) (h : z_M) : z_Z := none
noncomputable def f974_42 (x1 x2 x3 x4 : Int) (h : z_M) : z_Z := none
noncomputable def f974_49 (x1 x2 x3 x4 : Int) (h : z_M) : z_Z := none
noncomputable def f974_53 (x1 x2 x3 x4 : Int) (h : z_M) : z_Z := none
noncomputable def f974_54 (x1 x2 x3 x4 s0 : Int) (h : z_M) : z_Z := none
noncomputable def f974_75 (x1 x2 x3 s1 s2 s3 : Int) (h : z_M) : z_Z := none
noncomputable def f974_76 (x1 x2 x3 s1 s2 s3 s4 : Int) (h : z_M) : z_Z := none
noncomputable def f974_86 (x1 x2 x3 s1 : Int) (h : z_M) : z_Z := none
noncomputable def f974_87 (x1 x2 x3 s1 s2 : Int) (h : z_M) : z_Z := none
noncomputable def f974_97 (x1 x2 x3 : Int) (h : z_M) : z_Z := none
noncomputable def f974_109 (x1 x2 x3 : Int) (h : z_M) : z_Z := none
noncomputable def f974_122 (x1 x2 x3 : Int) (h : z_M) : z_Z := none
noncomputable def f974_128 (x1 x2 x3 s0 : Int) (h : z_M) : z_Z := none
noncomputable def f974_143 (x1 x2 x3 x6 : Int) (h : z_M) : z_Z := none
noncomputable def f974_149 (x1 x2 x3 x6 s0 : Int) (h : z_M) : z_Z := none
noncomputable def f974_165 (x3 x6 x7 : Int) (h : z_M) : z_Z := none
noncomputable def f974_174 (x3 x6 x7 : Int) (h : z_M) : z_Z := none
noncomputable def f974_183 (x7 : Int) (h : z_M) : z_Z := none
noncomputable def f974_185 (s0 : Int) (h : z_M) : z_Z := none
noncomputable def f975_0 (x1 : Int) (h : z_M) : z_Z := none
noncomputable def f982_0 (x1 : Int) (h : z_M) : z_Z := none
noncomputable def f982_12 (x1 : Int) (h : z_M) : z_Z := none
noncomputable def f982_14 (x1 x2 : Int) (h : z_M) : z_Z := none
noncomputable def f982_46 (x1 : Int) (h : z_M) : z_Z := none
noncomputable def f984_0 (x1 x2 x3 : Int) (h : z_M) : z_Z := none
noncomputable def f984_25 (h : z_M) : z_Z := none
noncomputable def f984_29 (x1 x2 : Int) (h : z_M) : z_Z := none
noncomputable def f984_40 (s0 : Int) (h : z_M) : z_Z := none
noncomputable def f985_0 (x1 x2 x3 : Int) (h : z_M) : z_Z := none
noncomputable def f985_14 (x1 x2 x3 : Int) (h : z_M) : z_Z := none
noncomputable def f985_15 (x1 x2 x3 s1 : Int) (h : z_M) : z_Z := none
noncomputable def f985_36 (x2 : Int) (h : z_M) : z_Z := none
noncomputable def f985_39 (s0 : Int) (h : z_M) : z_Z := none
noncomputable def f1023_0 (x1 x2 : Int) (h : z_M) : z_Z := none
noncomputable def f1023_19 (x1 x2 : Int) (h : z_M) : z_Z := none
noncomputable def f1023_20 (x1 x2 s1 : Int) (h : z_M) : z_Z := none
noncomputable def f1023_34 (x1 x2 : Int) (h : z_M) : z_Z := none
noncomputable def f1023_111 (h : z_M) : z_Z := none
noncomputable def f1023_119 (x1 x2 x3 : Int) (h : z_M) : z_Z := none
noncomputable def f1023_158 (x1 x2 x4 : Int) (h : z_M) : z_Z := none
noncomputable def f1023_180 (x1 x2 : Int) (h : z_M) : z_Z := none
noncomputable def f1023_213 (x2 : Int) (h : z_M) : z_Z := none
noncomputable def f1023_255 (x2 : Int) (h : z_M) : z_Z := none
noncomputable def f1023_256 (x2 s1 : Int) (h : z_M) : z_Z := none
noncomputable def f1023_262 (x2 : Int) (h : z_M) : z_Z := none
noncomputable def f1023_286 (x2 : Int) (h : z_M) : z_Z := none
noncomputable def f1023_290 (x2 s1 : Int) (h : z_M) : z_Z := none
noncomputable def f1023_307 (x2 x4 x5 : Int) (h : z_M) : z_Z := none
noncomputable def f1023_340 (x2 x4 x5 : Int) (h : z_M) : z_Z := none
noncomputable def f1023_344 (x2 x4 x5 s1 : Int) (h : z_M) : z_Z := none
noncomputable def f1023_353 (x2 x4 : Int) (h : z_M) : z_Z := none
noncomputable def f1023_371 (x2 x4 : Int) (h : z_M) : z_Z := none
noncomputable def f1023_388 (x2 x4 x5 : Int) (h : z_M) : z_Z := none
noncomputable def f1023_447 (x2 x4 x5 s1 : Int) (h : z_M) : z_Z := none
noncomputable def f1023_448 (x2 x4 x5 s1 s2 : Int) (h : z_M) : z_Z := none
noncomputable def f1023_455 (h : z_M) : z_Z := none
noncomputable def f1056_0 (r0 : Nat) (x1 x2 x3 : Int) (h : z_M) : z_Z := none
noncomputable def f1056_78 (r0 : Nat) (x1 x2 x3 : Int) (r4 : Nat) (x6 x7 s0 : Int) (h : z_M) : z_Z := none
noncomputable def f1056_108 (r0 : Nat) (x1 x2 x3 : Int) (r4 : Nat) (x6 s0 : Int) (h : z_M) : z_Z := none
noncomputable def f1056_109 (r0 : Nat) (x1 x2 x3 : Int) (r4 : Nat) (x6 s0 s1 : Int) (h : z_M) : z_Z := none
noncomputable def f1057_0 (r0 : Nat) (h : z_M) : z_Z := none
noncomputable def f1057_4 (r0 : Nat) (x1 x2 : Int) (h : z_M) : z_Z := none
noncomputable def f1057_45 (r0 : Nat) (x1 x2 : Int) (h : z_M) : z_Z := none
noncomputable def f1057_46 (r0 : Nat) (x1 x2 s0 : Int) (h : z_M) : z_Z := none
noncomputable def f1057_63 (r0 : Nat) (x1 x2 x3 : Int) (h : z_M) : z_Z := none
noncomputable def f1057_69 (r0 : Nat) (x1 x2 x3 x4 : Int) (h : z_M) : z_Z := none
noncomputable def f1057_91 (r0 : Nat) (x1 x2 x3 x4 : Int) (h : z_M) : z_Z := none
noncomputable def f1057_112 (r0 : Nat) (x1 x2 : Int) (h : z_M) : z_Z := none
noncomputable def f1057_123 (r0 : Nat) (h : z_M) : z_Z := none
noncomputable def f1058_0 (r0 : Nat) (x1 : Int) (h : z_M) : z_Z := none
noncomputable def f1058_10 (r0 : Nat) (x1 x2 : Int) (h : z_M) : z_Z := none
noncomputable def f1058_54 (h : z_M) : z_Z := none
noncomputable def f1058_55 (r0 : Nat) (x1 : Int) (h : z_M) : z_Z := none
noncomputable def f1058_60 (r0 : Nat) (x1 x2 : Int) (h : z_M) : z_Z := none
noncomputable def f1058_75 (r0 : Nat) (x1 x2 x3 : Int) (h : z_M) : z_Z := none
noncomputable def f1058_99 (r0 : Nat) (x1 x2 : Int) (h : z_M) : z_Z := none
noncomputable def f1058_105 (h : z_M) : z_Z := none
noncomputable def f1059_0 (r0 r1 : Nat) (x2 x3 : Int) (h : z_M) : z_Z := none
noncomputable def f1060_0 (r0 r1 r2 : Nat) (x3 x4 x5 x6 : Int) (h : z_M) : z_Z := none
noncomputable def f1060_33 (r0 r2 : Nat) (x3 x4 x5 x6 : Int) (h : z_M) : z_Z := none
noncomputable def f1060_77 (r0 : Nat) (x4 x5 x7 : Int) (h : z_M) : z_Z := none
noncomputable def f1060_107 (h : z_M) : z_Z := none
noncomputable def f1061_0 (r0 : Nat) (h : z_M) : z_Z := none
noncomputable def f1061_16 (r0 : Nat) (h : z_M) : z_Z := none
noncomputable def f1061_20 (r0 : Nat) (h : z_M) : z_Z := none
noncomputable def f1061_33 (h : z_M) : z_Z := none
noncomputable def f1062_0 (r0 r1 : Nat) (x2 x3 : Int) (r4 : Nat) (h : z_M) : z_Z := none
noncomputable def f1062_30 (r0 r4 : Nat) (x5 : Int) (h : z_M) : z_Z := none
noncomputable def f1062_43 (r0 r4 : Nat) (s0 : Int) (h : z_M) : z_Z := none
noncomputable def f1062_59 (r0 r4 : Nat) (s0 : Int) (h : z_M) : z_Z := none
noncomputable def f1062_60 (r0 r4 : Nat) (s0 s1 : Int) (h : z_M) : z_Z := none
noncomputable def f1062_85 (r0 r4 : Nat) (s0 : Int) (h : z_M) : z_Z := none
noncomputable def f1062_86 (r0 r4 : Nat) (s0 s1 : Int) (h : z_M) : z_Z := none
noncomputable def f1062_104 (r0 r4 : Nat) (x6 : Int) (h : z_M) : z_Z := none
noncomputable def f1062_108 (r0 r4 : Nat) (x6 s0 : Int) (h : z_M) : z_Z := none
noncomputable def f1062_156 (x6 x8 : Int) (q0 : Nat) (s1 : Int) (h : z_M) : z_Z := none
noncomputable def f1062_158 (x6 : Int) (q0 : Nat) (s1 s2 : Int) (h : z_M) : z_Z := none
noncomputable def f1063_0 (r0 : Nat) (h : z_M) : z_Z := none
noncomputable def f1063_27 (r0 q0 : Nat) (h : z_M) : z_Z := none
noncomputable def f1063_29 (r0 q0 : Nat) (s1 : Int) (h : z_M) : z_Z := none
noncomputable def f1064_0 (r0 r1 r2 : Nat) (x3 x4 x5 x6 : Int) (h : z_M) : z_Z := none
noncomputable def f1065_0 (r0 : Nat) (x1 : Int) (h : z_M) : z_Z := none
noncomputable def f1066_0 (r0 : Nat) (x1 x2 : Int) (h : z_M) : z_Z := none
noncomputable def f1066_4 (r0 : Nat) (x1 x3 : Int) (h : z_M) : z_Z := none
noncomputable def f1066_23 (h : z_M) : z_Z := none
noncomputable def f1067_0 (r0 : Nat) (x1 : Int) (h : z_M) : z_Z := none
noncomputable def f1067_41 (h : z_M) : z_Z := none
noncomputable def f1068_0 (r0 : Nat) (x1 : Int) (r2 : Nat) (h : z_M) : z_Z := none
noncomputable def f1069_0 (r0 : Nat) (h : z_M) : z_Z := none
noncomputable def f1069_2 (r0 : Nat) (x1 : Int) (h : z_M) : z_Z := none
noncomputable def f1069_27 (x1 : Int) (h : z_M) : z_Z := none
noncomputable def f1070_0 (r0 : Nat) (x1 x2 : Int) (h : z_M) : z_Z := none
noncomputable def f1070_24 (r0 : Nat) (x1 x2 : Int) (h : z_M) : z_Z := none
noncomputable def f1070_25 (r0 : Nat) (x1 x2 s0 : Int) (h : z_M) : z_Z := none
noncomputable def f1070_46 (r0 : Nat) (x1 x2 x3 : Int) (h : z_M) : z_Z := none
noncomputable def f1070_47 (r0 : Nat) (x1 x2 x3 s0 : Int) (h : z_M) : z_Z := none
noncomputable def f1070_79 (x3 x4 : Int) (h : z_M) : z_Z := none
noncomputable def f1070_83 (x3 x4 : Int) (h : z_M) : z_Z := none
noncomputable def f1070_84 (x3 x4 s0 : Int) (h : z_M) : z_Z := none
noncomputable def f1070_106 (x3 x4 x5 : Int) (h : z_M) : z_Z := none
noncomputable def f1070_126 (x3 x4 x5 : Int) (h : z_M) : z_Z := none
noncomputable def f1070_133 (s0 : Int) (h : z_M) : z_Z := none
noncomputable def f1071_0 (r0 : Nat) (h : z_M) : z_Z := none
noncomputable def f1072_0 (r0 : Nat) (x1 x2 : Int) (h : z_M) : z_Z := none
noncomputable def f1072_28 (r0 : Nat) (x1 : Int) (h : z_M) : z_Z := none
noncomputable def f1076_0 (r0 : Nat) (h : z_M) : z_Z := none
noncomputable def f1076_20 (r0 : Nat) (h : z_M) : z_Z := none
noncomputable def f1076_21 (r0 : Nat) (s0 : Int) (h : z_M) : z_Z := none
noncomputable def f1076_65 (r0 : Nat) (h : z_M) : z_Z := none
noncomputable def f1076_66 (r0 : Nat) (s0 : Int) (h : z_M) : z_Z := none
noncomputable def f1076_95 (r0 : Nat) (h : z_M) : z_Z := none
noncomputable def f1076_96 (r0 : Nat) (s0 : Int) (h : z_M) : z_Z := none
noncomputable def f1076_115 (r0 : Nat) (h : z_M) : z_Z := none
noncomputable def f1077_0 (r0 r1 : Nat) (x2 x3 : Int) (r4 : Nat) (h : z_M) : z_Z := none
noncomputable def f1077_3 (r0 r4 : Nat) (x5 : Int) (h : z_M) : z_Z := none
noncomputable def f1077_24 (r0 r4 : Nat) (x5 : Int) (h : z_M) : z_Z := none
noncomputable def f1077_25 (r0 r4 : Nat) (x5 s0 : Int) (h : z_M) : z_Z := none
noncomputable def f1077_39 (r0 r4 : Nat) (x5 : Int) (h : z_M) : z_Z := none
noncomputable def f1077_62 (r0 : Nat) (x5 x6 : Int) (h : z_M) : z_Z := none
noncomputable def f1077_74 (s0 : Int) (h : z_M) : z_Z := none
noncomputable def f1077_90 (x7 : Int) (h : z_M) : z_Z := none
noncomputable def f1077_97 (s0 : Int) (h : z_M) : z_Z := none
noncomputable def f1078_0 (r0 r1 : Nat) (x2 x3 : Int) (h : z_M) : z_Z := none
noncomputable def f1080_0 (r0 : Nat) (x1 : Int) (h : z_M) : z_Z := none
noncomputable def f1080_20 (r0 : Nat) (x1 : Int) (h : z_M) : z_Z := none
noncomputable def f1080_21 (r0 : Nat) (x1 s0 : Int) (h : z_M) : z_Z := none
noncomputable def f1080_77 (r0 : Nat) (h : z_M) : z_Z := none
noncomputable def f1080_78 (r0 : Nat) (s0 : Int) (h : z_M) : z_Z := none
theorem e0_0 (x0 : Int) (h : z_M) : f0_0 x0 h = z_if (0 ≤ x0) (f0_9 x0 h) (f0_10 (z_w (-x0)) h) := sorry
theorem e0_9 (x0 : Int) (h : z_M) : f0_9 x0 h = f0_10 x0 h := sorry
theorem e0_10 (s0 : Int) (h : z_M) : f0_10 s0 h = z_ri s0 h := sorry
theorem e1_0 (x0 x1 : Int) (h : z_M) : f1_0 x0 x1 h = z_if (x0 < x1) (f1_9 x1 h) (f1_10 x0 h) := sorry
theorem e1_9 (x1 : Int) (h : z_M) : f1_9 x1 h = f1_10 x1 h := sorry
theorem e1_10 (s0 : Int) (h : z_M) : f1_10 s0 h = z_ri s0 h := sorry
theorem e2_0 (x0 x1 : Int) (h : z_M) : f2_0 x0 x1 h = z_if (x1 < x0) (f2_9 x1 h) (f2_10 x0 h) := sorry
theorem e2_9 (x1 : Int) (h : z_M) : f2_9 x1 h = f2_10 x1 h := sorry
theorem e2_10 (s0 : Int) (h : z_M) : f2_10 s0 h = z_ri s0 h := sorry
theorem e3_0 (r0 : Nat) (h : z_M) : f3_0 r0 h = z_g (z_een r0) (z_ri (z_eo r0) h) := sorry
theorem e6_0 (r0 r1 : Nat) (h : z_M) : f6_0 r0 r1 h = z_g (z_isk r0 h [0]) (z_g (z_isk r0 h [0]) (z_g (z_isk r0 (sI h r0 0 (z_w ((hI h r0 0) + 1))) [0]) (z_g (z_isk r0 (sI h r0 0 (z_w ((hI h r0 0) + 1))) [0]) (z_g (z_isk r0 (sI h r0 0 (z_w ((hI h r0 0) + 1))) [0]) (z_kv (f7_0 r0 r1 (hP (sI h r0 0 (z_w ((hI h r0 0) + 1))) r0 1) (hI (sI h r0 0 (z_w ((hI h r0 0) + 1))) r0 2) (sI h r0 0 (z_w ((hI h r0 0) + 1)))) (fun h1 => z_g (z_01 1) (z_ri 1 h1)) z_ex))))) := sorry
theorem e7_0 (r0 r1 r2 : Nat) (x3 : Int) (h : z_M) : f7_0 r0 r1 r2 x3 h = z_g (1000 ≤ hK h r2) (z_if (¬ x3 = (hN h r2 : Int)) (f7_11 r0 r1 r2 x3 h) (z_g (z_isk r0 h [0]) (z_kr (f12_0 r0 h) (fun v1 h1 => f7_11 r0 r1 v1 x3 h1) z_ex))) := sorry
theorem e7_11 (r0 r1 r2 : Nat) (x3 : Int) (h : z_M) : f7_11 r0 r1 r2 x3 h = z_g (z_isr r2 h x3 ∧ z_new r2 ∧ (r1 = 0 ∨ z_isk r1 h (z_elc (hK h r2)))) (z_g (z_isk r0 (sP h r2 (Int.toNat x3) r1) [0]) (z_rv (sI (sP h r2 (Int.toNat x3) r1) r0 2 (z_w (x3 + 1))))) := sorry
theorem e8_0 (r0 : Nat) (h : z_M) : f8_0 r0 h = z_g (z_isk r0 h [0]) (z_g (z_isk r0 h [0]) (z_g (z_isk r0 (sI h r0 0 (z_w ((hI h r0 0) + 1))) [0]) (z_g (z_isk r0 (sI h r0 0 (z_w ((hI h r0 0) + 1))) [0]) (z_g (z_isk r0 (sI h r0 0 (z_w ((hI h r0 0) + 1))) [0]) (f8_27 (hP (sI h r0 0 (z_w ((hI h r0 0) + 1))) r0 1) (hI (sI h r0 0 (z_w ((hI h r0 0) + 1))) r0 2) 0 (sI (sI h r0 0 (z_w ((hI h r0 0) + 1))) r0 2 0)))))) := sorry
theorem e8_27 (r1 : Nat) (x2 x3 : Int) (h : z_M) : f8_27 r1 x2 x3 h = z_if (x2 ≤ x3) (f8_42 h) (z_g (z_isr r1 h x3 ∧ z_new r1 ∧ (0 = 0 ∨ z_isk 0 h (z_elc (hK h r1)))) (f8_27 r1 x2 (z_w (x3 + 1)) (sP h r1 (Int.toNat x3) 0))) := sorry
theorem e8_42 (h : z_M) : f8_42 h = z_rv h := sorry
theorem e11_0 (r0 : Nat) (x1 : Int) (h : z_M) : f11_0 r0 x1 h = z_g (z_isk r0 h [0]) (z_ki (f34_0 x1 (hI h r0 2) h) (fun v1 h1 => z_g (z_isk r0 h1 [0]) (z_kr (f9_0 r0 x1 h1) (fun v2 h2 => z_rr v2 h2) z_ex)) z_ex) := sorry
theorem e15_0 (r0 : Nat) (h : z_M) : f15_0 r0 h = z_g (z_isk r0 h [0]) (z_if (¬ (hI h r0 2) = 0) (f15_11 h) (f15_12 1 h)) := sorry
theorem e15_11 (h : z_M) : f15_11 h = f15_12 0 h := sorry
theorem e15_12 (s0 : Int) (h : z_M) : f15_12 s0 h = z_g (z_01 s0) (z_ri s0 h) := sorry
theorem e18_0 (r0 : Nat) (h : z_M) : f18_0 r0 h = z_g (z_isk r0 h [0]) (z_ri (hI h r0 2) h) := sorry
theorem e26_0 (r0 : Nat) (h : z_M) : f26_0 r0 h = z_g (z_isk r0 h [2, 3, 5, 6, 7, 54, 63, 64, 65, 66, 67, 68, 69, 70, 76]) (z_kv (f23_0 r0 h) (fun h1 => z_rv h1) z_ex) := sorry
theorem e31_0 (x0 : Int) (h : z_M) : f31_0 x0 h = z_ri (z_and (z_w ((z_w ((z_and (z_w ((z_w ((z_and (z_w (x0 - (z_and (z_ushr x0 1) 1431655765))) 858993459) + (z_and (z_ushr (z_w (x0 - (z_and (z_ushr x0 1) 1431655765))) 2) 858993459))) + (z_ushr (z_w ((z_and (z_w (x0 - (z_and (z_ushr x0 1) 1431655765))) 858993459) + (z_and (z_ushr (z_w (x0 - (z_and (z_ushr x0 1) 1431655765))) 2) 858993459))) 4))) 252645135) + (z_ushr (z_and (z_w ((z_w ((z_and (z_w (x0 - (z_and (z_ushr x0 1) 1431655765))) 858993459) + (z_and (z_ushr (z_w (x0 - (z_and (z_ushr x0 1) 1431655765))) 2) 858993459))) + (z_ushr (z_w ((z_and (z_w (x0 - (z_and (z_ushr x0 1) 1431655765))) 858993459) + (z_and (z_ushr (z_w (x0 - (z_and (z_ushr x0 1) 1431655765))) 2) 858993459))) 4))) 252645135) 8))) + (z_ushr (z_w ((z_and (z_w ((z_w ((z_and (z_w (x0 - (z_and (z_ushr x0 1) 1431655765))) 858993459) + (z_and (z_ushr (z_w (x0 - (z_and (z_ushr x0 1) 1431655765))) 2) 858993459))) + (z_ushr (z_w ((z_and (z_w (x0 - (z_and (z_ushr x0 1) 1431655765))) 858993459) + (z_and (z_ushr (z_w (x0 - (z_and (z_ushr x0 1) 1431655765))) 2) 858993459))) 4))) 252645135) + (z_ushr (z_and (z_w ((z_w ((z_and (z_w (x0 - (z_and (z_ushr x0 1) 1431655765))) 858993459) + (z_and (z_ushr (z_w (x0 - (z_and (z_ushr x0 1) 1431655765))) 2) 858993459))) + (z_ushr (z_w ((z_and (z_w (x0 - (z_and (z_ushr x0 1) 1431655765))) 858993459) + (z_and (z_ushr (z_w (x0 - (z_and (z_ushr x0 1) 1431655765))) 2) 858993459))) 4))) 252645135) 8))) 16))) 63) h := sorry
theorem e32_0 (x0 : Int) (h : z_M) : f32_0 x0 h = z_if (0 < x0) (f32_15 x0 h) (z_if (¬ x0 = 0) (f32_13 h) (f32_14 32 h)) := sorry
theorem e32_13 (h : z_M) : f32_13 h = f32_14 0 h := sorry
theorem e32_14 (s0 : Int) (h : z_M) : f32_14 s0 h = z_ri s0 h := sorry
theorem e32_15 (x0 : Int) (h : z_M) : f32_15 x0 h = z_if (x0 < 65536) (f32_33 x0 31 h) (f32_33 (z_ushr x0 16) (z_w (31 + (-16))) h) := sorry
theorem e32_33 (x0 x1 : Int) (h : z_M) : f32_33 x0 x1 h = z_if (x0 < 256) (f32_48 x0 x1 h) (f32_48 (z_ushr x0 8) (z_w (x1 + (-8))) h) := sorry
theorem e32_48 (x0 x1 : Int) (h : z_M) : f32_48 x0 x1 h = z_if (x0 < 16) (f32_61 x0 x1 h) (f32_61 (z_ushr x0 4) (z_w (x1 + (-4))) h) := sorry
theorem e32_61 (x0 x1 : Int) (h : z_M) : f32_61 x0 x1 h = z_if (x0 < 4) (f32_73 x0 x1 h) (f32_73 (z_ushr x0 2) (z_w (x1 + (-2))) h) := sorry
theorem e32_73 (x0 x1 : Int) (h : z_M) : f32_73 x0 x1 h = z_ri (z_w (x1 - (z_ushr x0 1))) h := sorry
theorem e57_0 (r0 : Nat) (x1 x2 x3 : Int) (r4 : Nat) (h : z_M) : f57_0 r0 x1 x2 x3 r4 h = z_g (z_isk r0 h [10]) (z_ki (f112_0 r0 x1 x2 x3 h) (fun v1 h1 => z_g (z_isa r4 h1 1003 0 ∧ z_new r4) (f57_12 (sL h1 r4 (Int.toNat 0) v1))) (fun e2 h2 => z_if (z_isk e2 h2 [2, 3]) (f57_15 e2 h2) (z_if (z_isk e2 h2 [5]) (f57_19 e2 h2) (none)))) := sorry
theorem e57_12 (h : z_M) : f57_12 h = f57_23 h := sorry
theorem e57_15 (q0 : Nat) (h : z_M) : f57_15 q0 h = z_ri 1 h := sorry
theorem e57_19 (q0 : Nat) (h : z_M) : f57_19 q0 h = z_ri 2 h := sorry
theorem e57_23 (h : z_M) : f57_23 h = z_ri 0 h := sorry
theorem e58_0 (r0 : Nat) (x1 x2 : Int) (r3 : Nat) (h : z_M) : f58_0 r0 x1 x2 r3 h = z_g (z_isk r0 h [10]) (z_ki (f113_0 r0 x1 x2 h) (fun v1 h1 => z_g (z_isa r3 h1 1003 0 ∧ z_new r3) (f58_10 (sL h1 r3 (Int.toNat 0) v1))) (fun e2 h2 => z_if (z_isk e2 h2 [2, 3]) (f58_13 e2 h2) (z_if (z_isk e2 h2 [6]) (f58_17 e2 h2) (none)))) := sorry
theorem e58_10 (h : z_M) : f58_10 h = f58_21 h := sorry
theorem e58_13 (q0 : Nat) (h : z_M) : f58_13 q0 h = z_ri 1 h := sorry
theorem e58_17 (q0 : Nat) (h : z_M) : f58_17 q0 h = z_ri 2 h := sorry
theorem e58_21 (h : z_M) : f58_21 h = z_ri 0 h := sorry
theorem e59_0 (r0 : Nat) (x1 x2 x3 : Int) (r4 : Nat) (h : z_M) : f59_0 r0 x1 x2 x3 r4 h = z_g (z_isk r0 h [10]) (z_ki (f114_0 r0 x1 x2 x3 h) (fun v1 h1 => z_g (z_isa r4 h1 1003 0 ∧ z_new r4) (f59_12 (sL h1 r4 (Int.toNat 0) v1))) (fun e2 h2 => z_if (z_isk e2 h2 [2, 3]) (f59_15 e2 h2) (z_if (z_isk e2 h2 [6]) (f59_19 e2 h2) (none)))) := sorry
theorem e59_12 (h : z_M) : f59_12 h = f59_23 h := sorry
theorem e59_15 (q0 : Nat) (h : z_M) : f59_15 q0 h = z_ri 1 h := sorry
theorem e59_19 (q0 : Nat) (h : z_M) : f59_19 q0 h = z_ri 2 h := sorry
theorem e59_23 (h : z_M) : f59_23 h = z_ri 0 h := sorry
theorem e63_0 (r0 : Nat) (x1 x2 : Int) (r3 : Nat) (h : z_M) : f63_0 r0 x1 x2 r3 h = z_g (z_isk r0 h [10]) (z_ki (f119_0 r0 x1 x2 h) (fun v1 h1 => z_g (z_isa r3 h1 1003 0 ∧ z_new r3) (f63_10 (sL h1 r3 (Int.toNat 0) v1))) (fun e2 h2 => z_if (z_isk e2 h2 [2, 3]) (f63_13 e2 h2) (none))) := sorry
theorem e63_10 (h : z_M) : f63_10 h = f63_17 h := sorry
theorem e63_13 (q0 : Nat) (h : z_M) : f63_13 q0 h = z_ri 1 h := sorry
theorem e63_17 (h : z_M) : f63_17 h = z_ri 0 h := sorry
theorem e65_0 (r0 : Nat) (x1 x2 : Int) (h : z_M) : f65_0 r0 x1 x2 h = z_g (z_isk r0 h [10]) (z_kv (f122_0 r0 x1 x2 h) (fun h1 => f65_6 h1) (fun e2 h2 => z_if (z_isk e2 h2 [2, 3]) (f65_9 e2 h2) (none))) := sorry
theorem e65_6 (h : z_M) : f65_6 h = f65_12 h := sorry
theorem e65_9 (q0 : Nat) (h : z_M) : f65_9 q0 h = z_ri 1 h := sorry
theorem e65_12 (h : z_M) : f65_12 h = z_ri 0 h := sorry
theorem e67_0 (r0 : Nat) (x1 x2 : Int) (r3 : Nat) (h : z_M) : f67_0 r0 x1 x2 r3 h = z_g (z_isk r0 h [10]) (z_ki (f124_0 r0 x1 x2 h) (fun v1 h1 => z_g (z_isa r3 h1 1003 0 ∧ z_new r3) (f67_10 (sL h1 r3 (Int.toNat 0) v1))) (fun e2 h2 => z_if (z_isk e2 h2 [2, 3]) (f67_13 e2 h2) (z_if (z_isk e2 h2 [5]) (f67_17 e2 h2) (none)))) := sorry
theorem e67_10 (h : z_M) : f67_10 h = f67_21 h := sorry
theorem e67_13 (q0 : Nat) (h : z_M) : f67_13 q0 h = z_ri 1 h := sorry
theorem e67_17 (q0 : Nat) (h : z_M) : f67_17 q0 h = z_ri 2 h := sorry
theorem e67_21 (h : z_M) : f67_21 h = z_ri 0 h := sorry
theorem e69_0 (r0 : Nat) (x1 : Int) (r2 : Nat) (h : z_M) : f69_0 r0 x1 r2 h = z_g (z_isk r0 h [10]) (z_ki (f126_0 r0 x1 h) (fun v1 h1 => z_g (z_isa r2 h1 1003 0 ∧ z_new r2) (f69_9 (sL h1 r2 (Int.toNat 0) v1))) (fun e2 h2 => z_if (z_isk e2 h2 [5]) (f69_12 e2 h2) (none))) := sorry
theorem e69_9 (h : z_M) : f69_9 h = f69_15 h := sorry
theorem e69_12 (q0 : Nat) (h : z_M) : f69_12 q0 h = z_ri 1 h := sorry
theorem e69_15 (h : z_M) : f69_15 h = z_ri 0 h := sorry
theorem e70_0 (r0 : Nat) (x1 x2 : Int) (r3 : Nat) (h : z_M) : f70_0 r0 x1 x2 r3 h = z_g (z_isk r0 h [10]) (z_ki (f127_0 r0 x1 x2 h) (fun v1 h1 => z_g (z_isa r3 h1 1003 0 ∧ z_new r3) (f70_10 (sL h1 r3 (Int.toNat 0) v1))) (fun e2 h2 => z_if (z_isk e2 h2 [2, 3]) (f70_13 e2 h2) (z_if (z_isk e2 h2 [5]) (f70_17 e2 h2) (z_if (z_isk e2 h2 [7]) (f70_21 e2 h2) (none))))) := sorry
theorem e70_10 (h : z_M) : f70_10 h = f70_25 h := sorry
theorem e70_13 (q0 : Nat) (h : z_M) : f70_13 q0 h = z_ri 1 h := sorry
theorem e70_17 (q0 : Nat) (h : z_M) : f70_17 q0 h = z_ri 2 h := sorry
theorem e70_21 (q0 : Nat) (h : z_M) : f70_21 q0 h = z_ri 3 h := sorry
theorem e70_25 (h : z_M) : f70_25 h = z_ri 0 h := sorry
theorem e72_0 (r0 : Nat) (x1 : Int) (r2 : Nat) (h : z_M) : f72_0 r0 x1 r2 h = z_g (z_isk r0 h [10]) (z_ki (f131_0 r0 x1 h) (fun v1 h1 => z_g (z_isa r2 h1 1003 0 ∧ z_new r2) (f72_9 (sL h1 r2 (Int.toNat 0) v1))) (fun e2 h2 => z_if (z_isk e2 h2 [2, 3]) (f72_12 e2 h2) (none))) := sorry
theorem e72_9 (h : z_M) : f72_9 h = f72_15 h := sorry
theorem e72_12 (q0 : Nat) (h : z_M) : f72_12 q0 h = z_ri 1 h := sorry
theorem e72_15 (h : z_M) : f72_15 h = z_ri 0 h := sorry
theorem e73_0 (r0 : Nat) (x1 x2 x3 : Int) (r4 : Nat) (h : z_M) : f73_0 r0 x1 x2 x3 r4 h = z_g (z_isk r0 h [10]) (z_ki (f133_0 r0 x1 x2 x3 h) (fun v1 h1 => z_g (z_isa r4 h1 1003 0 ∧ z_new r4) (f73_12 (sL h1 r4 (Int.toNat 0) v1))) (fun e2 h2 => z_if (z_isk e2 h2 [2, 3]) (f73_15 e2 h2) (z_if (z_isk e2 h2 [6]) (f73_19 e2 h2) (z_if (z_isk e2 h2 [5]) (f73_23 e2 h2) (z_if (z_isk e2 h2 [7]) (f73_27 e2 h2) (none)))))) := sorry
theorem e73_12 (h : z_M) : f73_12 h = f73_31 h := sorry
theorem e73_15 (q0 : Nat) (h : z_M) : f73_15 q0 h = z_ri 1 h := sorry
theorem e73_19 (q0 : Nat) (h : z_M) : f73_19 q0 h = z_ri 2 h := sorry
theorem e73_23 (q0 : Nat) (h : z_M) : f73_23 q0 h = z_ri 3 h := sorry
theorem e73_27 (q0 : Nat) (h : z_M) : f73_27 q0 h = z_ri 4 h := sorry
theorem e73_31 (h : z_M) : f73_31 h = z_ri 0 h := sorry
theorem e75_0 (r0 : Nat) (x1 x2 x3 x4 x5 : Int) (r6 : Nat) (h : z_M) : f75_0 r0 x1 x2 x3 x4 x5 r6 h = z_g (z_isk r0 h [10]) (z_ki (f138_0 r0 x1 x2 x3 x4 x5 h) (fun v1 h1 => z_g (z_isa r6 h1 1003 0 ∧ z_new r6) (f75_16 (sL h1 r6 (Int.toNat 0) v1))) (fun e2 h2 => z_if (z_isk e2 h2 [2, 3]) (f75_19 e2 h2) (z_if (z_isk e2 h2 [6]) (f75_23 e2 h2) (z_if (z_isk e2 h2 [5]) (f75_27 e2 h2) (none))))) := sorry
theorem e75_16 (h : z_M) : f75_16 h = f75_31 h := sorry
theorem e75_19 (q0 : Nat) (h : z_M) : f75_19 q0 h = z_ri 1 h := sorry
theorem e75_23 (q0 : Nat) (h : z_M) : f75_23 q0 h = z_ri 2 h := sorry
theorem e75_27 (q0 : Nat) (h : z_M) : f75_27 q0 h = z_ri 3 h := sorry
theorem e75_31 (h : z_M) : f75_31 h = z_ri 0 h := sorry
theorem e76_0 (r0 : Nat) (x1 x2 x3 : Int) (r4 : Nat) (h : z_M) : f76_0 r0 x1 x2 x3 r4 h = z_g (z_isk r0 h [10]) (z_ki (f139_0 r0 x1 x2 x3 h) (fun v1 h1 => z_if (v1 = 0) (f76_17 r4 0 h1) (f76_18 r4 0 1 h1)) (fun e2 h2 => z_if (z_isk e2 h2 [2, 3]) (f76_22 e2 h2) (z_if (z_isk e2 h2 [6]) (f76_26 e2 h2) (none)))) := sorry
theorem e76_17 (q0 : Nat) (s1 : Int) (h : z_M) : f76_17 q0 s1 h = f76_18 q0 s1 0 h := sorry
theorem e76_18 (q0 : Nat) (s1 t2 : Int) (h : z_M) : f76_18 q0 s1 t2 h = z_g (z_isa q0 h 1003 s1 ∧ z_new q0) (f76_19 (sL h q0 (Int.toNat s1) t2)) := sorry
theorem e76_19 (h : z_M) : f76_19 h = f76_30 h := sorry
theorem e76_22 (q0 : Nat) (h : z_M) : f76_22 q0 h = z_ri 1 h := sorry
theorem e76_26 (q0 : Nat) (h : z_M) : f76_26 q0 h = z_ri 2 h := sorry
theorem e76_30 (h : z_M) : f76_30 h = z_ri 0 h := sorry
theorem e77_0 (r0 : Nat) (x1 x2 x3 : Int) (r4 : Nat) (h : z_M) : f77_0 r0 x1 x2 x3 r4 h = z_g (z_isk r0 h [10]) (z_ki (f141_0 r0 x1 x2 x3 h) (fun v1 h1 => z_if (v1 = 0) (f77_17 r4 0 h1) (f77_18 r4 0 1 h1)) (fun e2 h2 => z_if (z_isk e2 h2 [2, 3]) (f77_22 e2 h2) (z_if (z_isk e2 h2 [6]) (f77_26 e2 h2) (none)))) := sorry
theorem e77_17 (q0 : Nat) (s1 : Int) (h : z_M) : f77_17 q0 s1 h = f77_18 q0 s1 0 h := sorry
theorem e77_18 (q0 : Nat) (s1 t2 : Int) (h : z_M) : f77_18 q0 s1 t2 h = z_g (z_isa q0 h 1003 s1 ∧ z_new q0) (f77_19 (sL h q0 (Int.toNat s1) t2)) := sorry
theorem e77_19 (h : z_M) : f77_19 h = f77_30 h := sorry
theorem e77_22 (q0 : Nat) (h : z_M) : f77_22 q0 h = z_ri 1 h := sorry
theorem e77_26 (q0 : Nat) (h : z_M) : f77_26 q0 h = z_ri 2 h := sorry
theorem e77_30 (h : z_M) : f77_30 h = z_ri 0 h := sorry
theorem e78_0 (r0 : Nat) (x1 x2 x3 x4 : Int) (r5 : Nat) (h : z_M) : f78_0 r0 x1 x2 x3 x4 r5 h = z_g (z_isk r0 h [10]) (z_ki (f142_0 r0 x1 x2 x3 x4 h) (fun v1 h1 => z_g (z_isa r5 h1 1003 0 ∧ z_new r5) (f78_14 (sL h1 r5 (Int.toNat 0) v1))) (fun e2 h2 => z_if (z_isk e2 h2 [2, 3]) (f78_17 e2 h2) (z_if (z_isk e2 h2 [5]) (f78_21 e2 h2) (z_if (z_isk e2 h2 [7]) (f78_25 e2 h2) (none))))) := sorry
theorem e78_14 (h : z_M) : f78_14 h = f78_29 h := sorry
theorem e78_17 (q0 : Nat) (h : z_M) : f78_17 q0 h = z_ri 1 h := sorry
theorem e78_21 (q0 : Nat) (h : z_M) : f78_21 q0 h = z_ri 2 h := sorry
theorem e78_25 (q0 : Nat) (h : z_M) : f78_25 q0 h = z_ri 3 h := sorry
theorem e78_29 (h : z_M) : f78_29 h = z_ri 0 h := sorry
theorem e79_0 (r0 : Nat) (x1 x2 x3 x4 x5 x6 : Int) (r7 : Nat) (h : z_M) : f79_0 r0 x1 x2 x3 x4 x5 x6 r7 h = z_g (z_isk r0 h [10]) (z_ki (f151_0 r0 x1 x2 x3 x4 x5 x6 h) (fun v1 h1 => z_g (z_isa r7 h1 1003 0 ∧ z_new r7) (f79_18 (sL h1 r7 (Int.toNat 0) v1))) (fun e2 h2 => z_if (z_isk e2 h2 [2, 3]) (f79_21 e2 h2) (z_if (z_isk e2 h2 [6]) (f79_25 e2 h2) (z_if (z_isk e2 h2 [5]) (f79_29 e2 h2) (z_if (z_isk e2 h2 [7]) (f79_33 e2 h2) (none)))))) := sorry
theorem e79_18 (h : z_M) : f79_18 h = f79_37 h := sorry
theorem e79_21 (q0 : Nat) (h : z_M) : f79_21 q0 h = z_ri 1 h := sorry
theorem e79_25 (q0 : Nat) (h : z_M) : f79_25 q0 h = z_ri 2 h := sorry
theorem e79_29 (q0 : Nat) (h : z_M) : f79_29 q0 h = z_ri 3 h := sorry
theorem e79_33 (q0 : Nat) (h : z_M) : f79_33 q0 h = z_ri 4 h := sorry
theorem e79_37 (h : z_M) : f79_37 h = z_ri 0 h := sorry
theorem e84_0 (r0 : Nat) (x1 x2 x3 : Int) (h : z_M) : f84_0 r0 x1 x2 x3 h = z_g (z_isk r0 h [10]) (z_kv (f157_0 r0 x1 x2 x3 h) (fun h1 => f84_7 h1) (fun e2 h2 => z_if (z_isk e2 h2 [2, 3]) (f84_10 e2 h2) (z_if (z_isk e2 h2 [5]) (f84_14 e2 h2) (none)))) := sorry
theorem e84_7 (h : z_M) : f84_7 h = f84_18 h := sorry
theorem e84_10 (q0 : Nat) (h : z_M) : f84_10 q0 h = z_ri 1 h := sorry
theorem e84_14 (q0 : Nat) (h : z_M) : f84_14 q0 h = z_ri 2 h := sorry
theorem e84_18 (h : z_M) : f84_18 h = z_ri 0 h := sorry
theorem e86_0 (r0 : Nat) (x1 x2 x3 x4 x5 : Int) (r6 : Nat) (h : z_M) : f86_0 r0 x1 x2 x3 x4 x5 r6 h = z_g (z_isk r0 h [10]) (z_ki (f161_0 r0 x1 x2 x3 x4 x5 h) (fun v1 h1 => z_g (z_isa r6 h1 1003 0 ∧ z_new r6) (f86_16 (sL h1 r6 (Int.toNat 0) v1))) (fun e2 h2 => z_if (z_isk e2 h2 [2, 3]) (f86_19 e2 h2) (z_if (z_isk e2 h2 [6]) (f86_23 e2 h2) (z_if (z_isk e2 h2 [5]) (f86_27 e2 h2) (none))))) := sorry
theorem e86_16 (h : z_M) : f86_16 h = f86_31 h := sorry
theorem e86_19 (q0 : Nat) (h : z_M) : f86_19 q0 h = z_ri 1 h := sorry
theorem e86_23 (q0 : Nat) (h : z_M) : f86_23 q0 h = z_ri 2 h := sorry
theorem e86_27 (q0 : Nat) (h : z_M) : f86_27 q0 h = z_ri 3 h := sorry
theorem e86_31 (h : z_M) : f86_31 h = z_ri 0 h := sorry
theorem e88_0 (r0 : Nat) (x1 x2 x3 : Int) (r4 : Nat) (h : z_M) : f88_0 r0 x1 x2 x3 r4 h = z_g (z_isk r0 h [10]) (z_ki (f164_0 r0 x1 x2 x3 h) (fun v1 h1 => z_g (z_isa r4 h1 1003 0 ∧ z_new r4) (f88_12 (sL h1 r4 (Int.toNat 0) v1))) (fun e2 h2 => z_if (z_isk e2 h2 [2, 3]) (f88_15 e2 h2) (z_if (z_isk e2 h2 [6]) (f88_19 e2 h2) (z_if (z_isk e2 h2 [5]) (f88_23 e2 h2) (none))))) := sorry
theorem e88_12 (h : z_M) : f88_12 h = f88_27 h := sorry
theorem e88_15 (q0 : Nat) (h : z_M) : f88_15 q0 h = z_ri 1 h := sorry
theorem e88_19 (q0 : Nat) (h : z_M) : f88_19 q0 h = z_ri 2 h := sorry
theorem e88_23 (q0 : Nat) (h : z_M) : f88_23 q0 h = z_ri 3 h := sorry
theorem e88_27 (h : z_M) : f88_27 h = z_ri 0 h := sorry
theorem e89_0 (r0 : Nat) (x1 x2 x3 x4 x5 : Int) (r6 : Nat) (h : z_M) : f89_0 r0 x1 x2 x3 x4 x5 r6 h = z_g (z_isk r0 h [10]) (z_ki (f165_0 r0 x1 x2 x3 x4 x5 h) (fun v1 h1 => z_g (z_isa r6 h1 1003 0 ∧ z_new r6) (f89_16 (sL h1 r6 (Int.toNat 0) v1))) (fun e2 h2 => z_if (z_isk e2 h2 [2, 3]) (f89_19 e2 h2) (z_if (z_isk e2 h2 [6]) (f89_23 e2 h2) (z_if (z_isk e2 h2 [5]) (f89_27 e2 h2) (none))))) := sorry
theorem e89_16 (h : z_M) : f89_16 h = f89_31 h := sorry
theorem e89_19 (q0 : Nat) (h : z_M) : f89_19 q0 h = z_ri 1 h := sorry
theorem e89_23 (q0 : Nat) (h : z_M) : f89_23 q0 h = z_ri 2 h := sorry
theorem e89_27 (q0 : Nat) (h : z_M) : f89_27 q0 h = z_ri 3 h := sorry
theorem e89_31 (h : z_M) : f89_31 h = z_ri 0 h := sorry
theorem e90_0 (r0 : Nat) (x1 x2 x3 : Int) (h : z_M) : f90_0 r0 x1 x2 x3 h = z_g (z_isk r0 h [10]) (z_kv (f166_0 r0 x1 x2 x3 h) (fun h1 => f90_7 h1) (fun e2 h2 => z_if (z_isk e2 h2 [2, 3]) (f90_10 e2 h2) (z_if (z_isk e2 h2 [5]) (f90_14 e2 h2) (none)))) := sorry
theorem e90_7 (h : z_M) : f90_7 h = f90_18 h := sorry
theorem e90_10 (q0 : Nat) (h : z_M) : f90_10 q0 h = z_ri 1 h := sorry
theorem e90_14 (q0 : Nat) (h : z_M) : f90_14 q0 h = z_ri 2 h := sorry
theorem e90_18 (h : z_M) : f90_18 h = z_ri 0 h := sorry
theorem e92_0 (r0 : Nat) (x1 x2 x3 : Int) (r4 : Nat) (h : z_M) : f92_0 r0 x1 x2 x3 r4 h = z_g (z_isk r0 h [10]) (z_ki (f171_0 r0 x1 x2 x3 h) (fun v1 h1 => z_g (z_isa r4 h1 1003 0 ∧ z_new r4) (f92_12 (sL h1 r4 (Int.toNat 0) v1))) (fun e2 h2 => z_if (z_isk e2 h2 [2, 3]) (f92_15 e2 h2) (z_if (z_isk e2 h2 [5]) (f92_19 e2 h2) (none)))) := sorry
theorem e92_12 (h : z_M) : f92_12 h = f92_23 h := sorry
theorem e92_15 (q0 : Nat) (h : z_M) : f92_15 q0 h = z_ri 1 h := sorry
theorem e92_19 (q0 : Nat) (h : z_M) : f92_19 q0 h = z_ri 2 h := sorry
theorem e92_23 (h : z_M) : f92_23 h = z_ri 0 h := sorry
theorem e93_0 (r0 : Nat) (x1 : Int) (r2 : Nat) (h : z_M) : f93_0 r0 x1 r2 h = z_g (z_isk r0 h [10]) (z_ki (f175_0 r0 x1 h) (fun v1 h1 => z_g (z_isa r2 h1 1003 0 ∧ z_new r2) (f93_9 (sL h1 r2 (Int.toNat 0) v1))) (fun e2 h2 => z_if (z_isk e2 h2 [2, 3]) (f93_12 e2 h2) (none))) := sorry
theorem e93_9 (h : z_M) : f93_9 h = f93_15 h := sorry
theorem e93_12 (q0 : Nat) (h : z_M) : f93_12 q0 h = z_ri 1 h := sorry
theorem e93_15 (h : z_M) : f93_15 h = z_ri 0 h := sorry
theorem e100_0 (r0 : Nat) (x1 x2 : Int) (r3 : Nat) (h : z_M) : f100_0 r0 x1 x2 r3 h = z_g (z_isk r0 h [10]) (z_ki (f187_0 r0 x1 x2 h) (fun v1 h1 => z_g (z_isa r3 h1 1003 0 ∧ z_new r3) (f100_10 (sL h1 r3 (Int.toNat 0) v1))) (fun e2 h2 => z_if (z_isk e2 h2 [2, 3]) (f100_13 e2 h2) (z_if (z_isk e2 h2 [7]) (f100_17 e2 h2) (none)))) := sorry
theorem e100_10 (h : z_M) : f100_10 h = f100_21 h := sorry
theorem e100_13 (q0 : Nat) (h : z_M) : f100_13 q0 h = z_ri 1 h := sorry
theorem e100_17 (q0 : Nat) (h : z_M) : f100_17 q0 h = z_ri 2 h := sorry
theorem e100_21 (h : z_M) : f100_21 h = z_ri 0 h := sorry
theorem e110_0 (x0 : Int) (h : z_M) : f110_0 x0 h = z_if (¬ x0 = 0) (f110_12 h) (z_g (z_isk (hZ h + 1) (sN h 6 6) [6]) (z_kv (f29_0 (hZ h + 1) (sN h 6 6)) (fun h1 => z_g (0 < (hZ h + 1) ∧ z_isk (hZ h + 1) h1 z_exk) (z_ex (hZ h + 1) h1)) z_ex)) := sorry
theorem e110_12 (h : z_M) : f110_12 h = z_rv h := sorry
theorem e113_0 (r0 : Nat) (x1 x2 : Int) (h : z_M) : f113_0 r0 x1 x2 h = z_g (z_isk r0 h [10]) (z_kr (f167_0 r0 x1 h) (fun v1 h1 => z_g (z_isk r0 h1 [10]) (z_kr (f167_0 r0 x2 h1) (fun v2 h2 => z_g (z_isk v1 h2 [28]) (z_ki (f433_0 v1 h2) (fun v3 h3 => z_if (v3 = 0) (f113_56 v1 v2 h3) (z_g (z_isk v2 h3 [28]) (z_ki (f433_0 v2 h3) (fun v4 h4 => z_if (v4 = 0) (f113_56 v1 v2 h4) (z_g (z_isk v1 h4 [28]) (z_g (z_isk v2 h4 [28]) (z_if (¬ (hI h4 v1 0) = (hI h4 v2 0)) (f113_56 v1 v2 h4) (z_g (z_isk v1 h4 [28]) (z_g (z_isk v2 h4 [28]) (z_if (¬ (hI h4 v1 1) = (hI h4 v2 1)) (f113_56 v1 v2 h4) (f113_57 v1 v2 1 h4)))))))) z_ex))) z_ex)) z_ex)) z_ex) := sorry
theorem e113_56 (r3 r4 : Nat) (h : z_M) : f113_56 r3 r4 h = f113_57 r3 r4 0 h := sorry
theorem e113_57 (r3 r4 : Nat) (s0 : Int) (h : z_M) : f113_57 r3 r4 s0 h = z_kv (f110_0 s0 h) (fun h1 => f113_66 r3 r4 0 0 h1) z_ex := sorry
theorem e113_66 (r3 r4 : Nat) (x5 x6 : Int) (h : z_M) : f113_66 r3 r4 x5 x6 h = z_g (z_isk r3 h [28]) (z_if ((hI h r3 1) ≤ x6) (f113_105 x5 h) (z_g (z_isk r3 h [28]) (z_g (z_isa (hP h r3 2) h 1000 x6) (z_g (z_isk r4 h [28]) (z_g (z_isa (hP h r4 2) h 1000 x6) (z_ki (f31_0 (z_xor (hI h (hP h r3 2) (Int.toNat x6)) (hI h (hP h r4 2) (Int.toNat x6))) h) (fun v1 h1 => f113_66 r3 r4 (z_w (x5 + v1)) (z_w (x6 + 1)) h1) z_ex)))))) := sorry
theorem e113_105 (x5 : Int) (h : z_M) : f113_105 x5 h = z_ri x5 h := sorry
theorem e117_0 (r0 : Nat) (h : z_M) : f117_0 r0 h = z_g (z_isk r0 h [10]) (z_rv (sI h r0 4 0)) := sorry
theorem e128_0 (r0 : Nat) (x1 : Int) (h : z_M) : f128_0 r0 x1 h = z_ki (f201_0 x1 0 11 h) (fun v1 h1 => z_kv (f195_0 v1 h1) (fun h2 => z_g (z_isk r0 h2 [10]) (z_g (z_isr (hP h2 r0 2) h2 x1) (z_rr (hP h2 (hP h2 r0 2) (Int.toNat x1)) h2))) z_ex) z_ex := sorry
theorem e129_0 (r0 : Nat) (x1 : Int) (h : z_M) : f129_0 r0 x1 h = z_g (z_isk r0 h [10]) (z_g (z_isk r0 (sI h r0 8 0) [10]) (z_ri x1 (sI (sI h r0 8 0) r0 9 (-1)))) := sorry
theorem e131_0 (r0 : Nat) (x1 : Int) (h : z_M) : f131_0 r0 x1 h = z_g (z_isk r0 h [10]) (z_g (z_isk (hP h r0 18) h [26]) (z_ki (f406_0 (hP h r0 18) x1 h) (fun v1 h1 => z_ri v1 h1) z_ex)) := sorry
theorem e133_0 (r0 : Nat) (x1 x2 x3 : Int) (h : z_M) : f133_0 r0 x1 x2 x3 h = z_g (z_isk r0 h [10]) (z_kr (f158_0 r0 x1 h) (fun v1 h1 => z_g (z_isk r0 h1 [10]) (z_kr (f128_0 r0 x3 h1) (fun v2 h2 => z_g (z_isk v1 h2 [11]) (z_ki (f212_0 v1 h2) (fun v3 h3 => z_kv (f110_0 v3 h3) (fun h4 => z_ki (f201_0 x2 1 2 h4) (fun v5 h5 => z_kv (f194_0 v5 h5) (fun h6 => z_g (z_isk r0 h6 [10]) (z_kv (f197_0 r0 h6) (fun h7 => z_g (z_isk r0 h7 [10]) (z_kv (f147_0 r0 v1 x2 h7) (fun h8 => z_g (z_isk r0 h8 [10]) (z_ki (f143_0 r0 v2 h8) (fun v9 h9 => z_ri v9 h9) z_ex)) z_ex)) z_ex)) z_ex) z_ex) z_ex) z_ex)) z_ex)) z_ex) := sorry
theorem e134_0 (r0 r1 : Nat) (x2 : Int) (h : z_M) : f134_0 r0 r1 x2 h = z_g (z_isk r1 h [11]) (z_g (z_isk r1 h [11]) (z_g (z_isk r0 h [10]) (z_kv (f135_0 r0 x2 (hI h r1 0) (hI h r1 1) h) (fun h1 => f134_15 r0 r1 x2 0 h1) z_ex))) := sorry
theorem e134_15 (r0 r1 : Nat) (x2 x3 : Int) (h : z_M) : f134_15 r0 r1 x2 x3 h = z_g (z_isk r1 h [11]) (z_g (z_isk r1 h [11]) (z_if ((z_w ((hI h r1 0) * (hI h r1 1))) ≤ x3) (f134_71 h) (z_g (z_isk r0 h [10]) (z_g (z_isk r1 h [11]) (z_g (¬ (hI h r1 0) = 0) (z_g (z_isk r1 h [11]) (z_g (¬ (hI h r1 0) = 0) (z_g (z_isk r1 h [11]) (z_g (¬ (hI h r1 0) = 0) (z_g (z_isk r1 h [11]) (z_g (¬ (hI h r1 0) = 0) (z_g (z_isk r1 h [11]) (z_ki (f206_0 r1 (z_rem x3 (hI h r1 0)) (z_div x3 (hI h r1 0)) x2 h) (fun v1 h1 => z_g (z_isk (hP h r0 14) h1 [17]) (z_ki (f301_0 (hP h r0 14) (z_rem x3 (hI h r1 0)) (z_div x3 (hI h r1 0)) v1 h1) (fun v2 h2 => f134_15 r0 r1 x2 (z_w (x3 + 1)) h2) z_ex)) z_ex))))))))))))) := sorry
theorem e134_71 (h : z_M) : f134_71 h = z_rv h := sorry
theorem e135_0 (r0 : Nat) (x1 x2 x3 : Int) (h : z_M) : f135_0 r0 x1 x2 x3 h = z_g (z_isk r0 h [10]) (z_g (z_isk (hP h r0 14) h [17]) (z_kv (f295_0 (hP h r0 14) h) (fun h1 => z_g (z_isk r0 h1 [10]) (z_g (z_isk (hP h1 r0 14) h1 [17]) (z_ki (f310_0 (hP h1 r0 14) x1 h1) (fun v2 h2 => z_g (z_isk r0 h2 [10]) (z_g (z_isk (hP h2 r0 14) h2 [17]) (z_ki (f303_0 (hP h2 r0 14) x2 x3 0 0 (z_w (256 * x1)) 0 h2) (fun v3 h3 => z_rv h3) z_ex))) z_ex))) z_ex)) := sorry
theorem e138_0 (r0 : Nat) (x1 x2 x3 x4 x5 : Int) (h : z_M) : f138_0 r0 x1 x2 x3 x4 x5 h = z_g (z_isk r0 h [10]) (z_kr (f168_0 r0 x1 h) (fun v1 h1 => z_g (z_isk v1 h1 [28]) (z_ki (f430_0 v1 x2 x3 h1) (fun v2 h2 => z_kv (f195_0 v2 h2) (fun h3 => z_if (x4 ≤ 0) (f138_26 x2 x3 x4 x5 v1 h3) (f138_27 x2 x3 x4 x5 v1 1 h3)) z_ex) z_ex)) z_ex) := sorry
theorem e138_26 (x2 x3 x4 x5 : Int) (r6 : Nat) (h : z_M) : f138_26 x2 x3 x4 x5 r6 h = f138_27 x2 x3 x4 x5 r6 0 h := sorry
theorem e138_27 (x2 x3 x4 x5 : Int) (r6 : Nat) (s0 : Int) (h : z_M) : f138_27 x2 x3 x4 x5 r6 s0 h = z_kv (f194_0 s0 h) (fun h1 => f138_36 x2 x3 x4 x5 r6 0 x2 h1) z_ex := sorry
theorem e138_36 (x2 x3 x4 x5 : Int) (r6 : Nat) (x7 x8 : Int) (h : z_M) : f138_36 x2 x3 x4 x5 r6 x7 x8 h = z_g (z_isk r6 h [28]) (z_if ((hI h r6 0) ≤ x8) (f138_94 x7 h) (z_if (x4 ≤ (z_w (x8 - x2))) (f138_94 x7 h) (z_g (z_isk r6 h [28]) (z_ki (f432_0 r6 x8 x3 h) (fun v1 h1 => z_if (v1 = x5) (f138_74 x2 x3 x4 x5 r6 x8 x7 h1) (f138_75 x2 x3 x4 x5 r6 x8 x7 1 h1)) z_ex)))) := sorry
theorem e138_74 (x2 x3 x4 x5 : Int) (r6 : Nat) (x8 s0 : Int) (h : z_M) : f138_74 x2 x3 x4 x5 r6 x8 s0 h = f138_75 x2 x3 x4 x5 r6 x8 s0 0 h := sorry
theorem e138_75 (x2 x3 x4 x5 : Int) (r6 : Nat) (x8 s0 s1 : Int) (h : z_M) : f138_75 x2 x3 x4 x5 r6 x8 s0 s1 h = z_g (z_isk r6 h [28]) (z_kv (f434_0 r6 x8 x3 x5 h) (fun h1 => f138_36 x2 x3 x4 x5 r6 (z_w (s0 + s1)) (z_w (x8 + 1)) h1) z_ex) := sorry
theorem e138_94 (x7 : Int) (h : z_M) : f138_94 x7 h = z_ri x7 h := sorry
theorem e142_0 (r0 : Nat) (x1 x2 x3 x4 : Int) (h : z_M) : f142_0 r0 x1 x2 x3 x4 h = z_g (z_isk r0 h [10]) (z_kr (f128_0 r0 x1 h) (fun v1 h1 => z_g (z_isk r0 h1 [10]) (z_kr (f128_0 r0 x4 h1) (fun v2 h2 => z_g (z_isk v1 h2 [29]) (z_ki (f201_0 x2 0 (z_w ((hI h2 v1 1) - 1)) h2) (fun v3 h3 => z_kv (f195_0 v3 h3) (fun h4 => z_if (x3 < 0) (f142_40 x2 x3 v1 v2 h4) (f142_41 x2 x3 v1 v2 1 h4)) z_ex) z_ex)) z_ex)) z_ex) := sorry
theorem e142_40 (x2 x3 : Int) (r5 r6 : Nat) (h : z_M) : f142_40 x2 x3 r5 r6 h = f142_41 x2 x3 r5 r6 0 h := sorry
theorem e142_41 (x2 x3 : Int) (r5 r6 : Nat) (s0 : Int) (h : z_M) : f142_41 x2 x3 r5 r6 s0 h = z_kv (f194_0 s0 h) (fun h1 => z_g (z_isk r5 h1 [29]) (z_ki (f2_0 x3 (z_w ((hI h1 r5 1) - x2)) h1) (fun v2 h2 => z_g (z_isk r6 h2 [29]) (z_if (1500 < (z_w ((hI h2 r6 1) + v2))) (f142_75 x2 r5 r6 v2 h2) (f142_76 x2 r5 r6 v2 1 h2))) z_ex)) z_ex := sorry
theorem e142_75 (x2 : Int) (r5 r6 : Nat) (x7 : Int) (h : z_M) : f142_75 x2 r5 r6 x7 h = f142_76 x2 r5 r6 x7 0 h := sorry
theorem e142_76 (x2 : Int) (r5 r6 : Nat) (x7 s0 : Int) (h : z_M) : f142_76 x2 r5 r6 x7 s0 h = z_kv (f196_0 s0 h) (fun h1 => z_g (z_isk r5 h1 [29]) (z_g (z_isk r6 h1 [29]) (z_g (z_isk r6 h1 [29]) (z_g (z_cpo z_elc h1 (hP h1 r5 0) (hP h1 r6 0) x2 (hI h1 r6 1) x7) (z_g (z_isk r6 (z_cpy h1 (hP h1 r5 0) (Int.toNat x2) (hP h1 r6 0) (Int.toNat (hI h1 r6 1)) (Int.toNat x7)) [29]) (z_g (z_isk r6 (z_cpy h1 (hP h1 r5 0) (Int.toNat x2) (hP h1 r6 0) (Int.toNat (hI h1 r6 1)) (Int.toNat x7)) [29]) (z_ri x7 (sI (z_cpy h1 (hP h1 r5 0) (Int.toNat x2) (hP h1 r6 0) (Int.toNat (hI h1 r6 1)) (Int.toNat x7)) r6 1 (z_w ((hI (z_cpy h1 (hP h1 r5 0) (Int.toNat x2) (hP h1 r6 0) (Int.toNat (hI h1 r6 1)) (Int.toNat x7)) r6 1) + x7)))))))))) z_ex := sorry
theorem e143_0 (r0 r1 : Nat) (h : z_M) : f143_0 r0 r1 h = z_g (z_isk r0 h [10]) (z_if ((hI h r0 4) ≤ 1500) (f143_12 r0 r1 h) (z_ri (-1) h)) := sorry
theorem e143_12 (r0 r1 : Nat) (h : z_M) : f143_12 r0 r1 h = z_g (z_isk r0 h [10]) (z_g (z_isk r1 h [29]) (z_g (z_isk r0 h [10]) (z_g (z_cpo z_elc h (hP h r0 3) (hP h r1 0) 0 0 (hI h r0 4)) (z_g (z_isk r0 (z_cpy h (hP h r0 3) (Int.toNat 0) (hP h r1 0) (Int.toNat 0) (Int.toNat (hI h r0 4))) [10]) (z_g (z_isk r1 (z_cpy h (hP h r0 3) (Int.toNat 0) (hP h r1 0) (Int.toNat 0) (Int.toNat (hI h r0 4))) [29]) (z_g (z_isk r0 (sI (z_cpy h (hP h r0 3) (Int.toNat 0) (hP h r1 0) (Int.toNat 0) (Int.toNat (hI h r0 4))) r1 1 (hI (z_cpy h (hP h r0 3) (Int.toNat 0) (hP h r1 0) (Int.toNat 0) (Int.toNat (hI h r0 4))) r0 4)) [10]) (z_ri (hI (sI (z_cpy h (hP h r0 3) (Int.toNat 0) (hP h r1 0) (Int.toNat 0) (Int.toNat (hI h r0 4))) r1 1 (hI (z_cpy h (hP h r0 3) (Int.toNat 0) (hP h r1 0) (Int.toNat 0) (Int.toNat (hI h r0 4))) r0 4)) r0 4) (sI (z_cpy h (hP h r0 3) (Int.toNat 0) (hP h r1 0) (Int.toNat 0) (Int.toNat (hI h r0 4))) r1 1 (hI (z_cpy h (hP h r0 3) (Int.toNat 0) (hP h r1 0) (Int.toNat 0) (Int.toNat (hI h r0 4))) r0 4))))))))) := sorry
theorem e144_0 (r0 : Nat) (x1 : Int) (h : z_M) : f144_0 r0 x1 h = z_g (z_isk r0 h [10]) (z_g (z_isk r0 h [10]) (z_g (z_isk r0 h [10]) (z_g (z_isz (hP h r0 3) (sI h r0 4 (z_w ((hI h r0 4) + 1))) (hI h r0 4) ∧ z_new (hP h r0 3) ∧ (hK (sI h r0 4 (z_w ((hI h r0 4) + 1))) (hP h r0 3) = 1002 ∨ z_01 (z_i8 x1))) (z_rv (sI (sI h r0 4 (z_w ((hI h r0 4) + 1))) (hP h r0 3) (Int.toNat (hI h r0 4)) (z_i8 (z_i8 x1))))))) := sorry
theorem e147_0 (r0 r1 : Nat) (x2 : Int) (h : z_M) : f147_0 r0 r1 x2 h = z_g (z_isk r0 h [10]) (z_kv (f134_0 r0 r1 x2 h) (fun h1 => z_g (z_isk r0 h1 [10]) (z_g (z_isk (hP h1 r0 14) h1 [17]) (z_ki (f298_0 (hP h1 r0 14) h1) (fun v2 h2 => z_g (z_isk r0 h2 [10]) (z_kv (f117_0 r0 h2) (fun h3 => z_g (z_isk r0 h3 [10]) (z_kv (f144_0 r0 72 h3) (fun h4 => z_g (z_isk r0 h4 [10]) (z_kv (f144_0 r0 x2 h4) (fun h5 => z_g (z_isk r1 h5 [11]) (z_g (z_isk r0 h5 [10]) (z_kv (f144_0 r0 (hI h5 r1 0) h5) (fun h6 => z_g (z_isk r1 h6 [11]) (z_g (z_isk r0 h6 [10]) (z_kv (f144_0 r0 (hI h6 r1 1) h6) (fun h7 => f147_48 r0 v2 0 h7) z_ex))) z_ex))) z_ex)) z_ex)) z_ex)) z_ex))) z_ex) := sorry
theorem e147_48 (r0 : Nat) (x3 x4 : Int) (h : z_M) : f147_48 r0 x3 x4 h = z_if (x3 ≤ x4) (f147_73 h) (z_g (z_isk r0 h [10]) (z_g (z_isk (hP h r0 14) h [17]) (z_ki (f294_0 (hP h r0 14) x4 h) (fun v1 h1 => z_g (z_isk r0 h1 [10]) (z_kv (f144_0 r0 v1 h1) (fun h2 => f147_48 r0 x3 (z_w (x4 + 1)) h2) z_ex)) z_ex))) := sorry
theorem e147_73 (h : z_M) : f147_73 h = z_rv h := sorry
theorem e148_0 (r0 : Nat) (x1 x2 x3 x4 x5 : Int) (h : z_M) : f148_0 r0 x1 x2 x3 x4 x5 h = z_g (z_isk r0 h [10]) (z_g (z_isr (hP h r0 0) h x1) (z_g (z_isk r0 h [10]) (z_g (z_isr (hP h r0 10) h x3) (z_g (z_isk (hP h (hP h r0 0) (Int.toNat x1)) h [11]) (z_g (z_isk (hP h (hP h r0 0) (Int.toNat x1)) h [11]) (z_g (z_isk (hP h (hP h r0 10) (Int.toNat x3)) h [39]) (z_ki (f522_0 (hP h (hP h r0 10) (Int.toNat x3)) (hI h (hP h (hP h r0 0) (Int.toNat x1)) 0) (hI h (hP h (hP h r0 0) (Int.toNat x1)) 1) 8 x2 h) (fun v1 h1 => f148_38 r0 x1 x2 x4 x5 (hP h (hP h r0 0) (Int.toNat x1)) (hP h (hP h r0 10) (Int.toNat x3)) 0 h1) z_ex))))))) := sorry
theorem e148_38 (r0 : Nat) (x1 x2 x4 x5 : Int) (r6 r7 : Nat) (x8 : Int) (h : z_M) : f148_38 r0 x1 x2 x4 x5 r6 r7 x8 h = z_if (x2 ≤ x8) (f148_127 r0 x4 x5 r7 h) (f148_47 r0 x1 x2 x4 x5 r6 r7 x8 0 h) := sorry
theorem e148_47 (r0 : Nat) (x1 x2 x4 x5 : Int) (r6 r7 : Nat) (x8 x9 : Int) (h : z_M) : f148_47 r0 x1 x2 x4 x5 r6 r7 x8 x9 h = z_g (z_isk r6 h [11]) (z_g (z_isk r6 h [11]) (z_if ((z_w ((hI h r6 0) * (hI h r6 1))) ≤ x9) (f148_121 r0 x1 x2 x4 x5 r6 r7 x8 h) (z_g (z_isk r6 h [11]) (z_g (¬ (hI h r6 0) = 0) (z_g (z_isk r6 h [11]) (z_g (¬ (hI h r6 0) = 0) (z_g (z_isk r0 h [10]) (z_g (z_isr (hP h r0 0) h (z_w (x1 + x8))) (z_g (z_isk r6 h [11]) (z_g (¬ (hI h r6 0) = 0) (z_g (z_isk r6 h [11]) (z_g (¬ (hI h r6 0) = 0) (z_g (z_isk (hP h (hP h r0 0) (Int.toNat (z_w (x1 + x8)))) h [11]) (z_ki (f204_0 (hP h (hP h r0 0) (Int.toNat (z_w (x1 + x8)))) (z_rem x9 (hI h r6 0)) (z_div x9 (hI h r6 0)) h) (fun v1 h1 => z_g (z_isk r7 h1 [39]) (z_ki (f524_0 r7 x8 (z_rem x9 (hI h r6 0)) (z_div x9 (hI h r6 0)) v1 h1) (fun v2 h2 => f148_47 r0 x1 x2 x4 x5 r6 r7 x8 (z_w (x9 + 1)) h2) z_ex)) z_ex)))))))))))))) := sorry
theorem e148_121 (r0 : Nat) (x1 x2 x4 x5 : Int) (r6 r7 : Nat) (x8 : Int) (h : z_M) : f148_121 r0 x1 x2 x4 x5 r6 r7 x8 h = f148_38 r0 x1 x2 x4 x5 r6 r7 (z_w (x8 + 1)) h := sorry
theorem e148_127 (r0 : Nat) (x4 x5 : Int) (r7 : Nat) (h : z_M) : f148_127 r0 x4 x5 r7 h = z_g (z_isk r7 h [39]) (z_ki (f523_0 r7 2 x5 h) (fun v1 h1 => z_g (z_isk r7 h1 [39]) (z_ki (f541_0 r7 x4 h1) (fun v2 h2 => z_g (z_isk r0 h2 [10]) (z_kv (f117_0 r0 h2) (fun h3 => f148_152 r0 r7 v2 0 h3) z_ex)) z_ex)) z_ex) := sorry
theorem e148_152 (r0 r7 : Nat) (x8 x9 : Int) (h : z_M) : f148_152 r0 r7 x8 x9 h = z_if (x8 ≤ x9) (f148_176 h) (z_g (z_isk r7 h [39]) (z_ki (f513_0 r7 x9 h) (fun v1 h1 => z_g (z_isk r0 h1 [10]) (z_kv (f144_0 r0 v1 h1) (fun h2 => f148_152 r0 r7 x8 (z_w (x9 + 1)) h2) z_ex)) z_ex)) := sorry
theorem e148_176 (h : z_M) : f148_176 h = z_rv h := sorry
theorem e151_0 (r0 : Nat) (x1 x2 x3 x4 x5 x6 : Int) (h : z_M) : f151_0 r0 x1 x2 x3 x4 x5 x6 h = z_g (z_isk r0 h [10]) (z_kr (f158_0 r0 x1 h) (fun v1 h1 => z_g (z_isk r0 h1 [10]) (z_kr (f128_0 r0 x6 h1) (fun v2 h2 => z_ki (f201_0 x2 1 3 h2) (fun v3 h3 => z_kv (f194_0 v3 h3) (fun h4 => z_if (8 < (z_w (x1 + x2))) (f151_39 r0 x1 x2 x3 x4 x5 v1 v2 h4) (f151_40 r0 x1 x2 x3 x4 x5 v1 v2 1 h4)) z_ex) z_ex) z_ex)) z_ex) := sorry
theorem e151_39 (r0 : Nat) (x1 x2 x3 x4 x5 : Int) (r7 r8 : Nat) (h : z_M) : f151_39 r0 x1 x2 x3 x4 x5 r7 r8 h = f151_40 r0 x1 x2 x3 x4 x5 r7 r8 0 h := sorry
theorem e151_40 (r0 : Nat) (x1 x2 x3 x4 x5 : Int) (r7 r8 : Nat) (s0 : Int) (h : z_M) : f151_40 r0 x1 x2 x3 x4 x5 r7 r8 s0 h = z_kv (f195_0 s0 h) (fun h1 => f151_46 r0 x1 x2 x3 x4 x5 r7 r8 0 h1) z_ex := sorry
theorem e151_46 (r0 : Nat) (x1 x2 x3 x4 x5 : Int) (r7 r8 : Nat) (x9 : Int) (h : z_M) : f151_46 r0 x1 x2 x3 x4 x5 r7 r8 x9 h = z_if (x2 ≤ x9) (f151_98 r0 x1 x2 x3 x4 x5 r8 h) (z_g (z_isk r0 h [10]) (z_g (z_isr (hP h r0 0) h (z_w (x1 + x9))) (z_g (z_isk (hP h (hP h r0 0) (Int.toNat (z_w (x1 + x9)))) h [11]) (z_ki (f212_0 (hP h (hP h r0 0) (Int.toNat (z_w (x1 + x9)))) h) (fun v1 h1 => z_if (v1 = 0) (f151_88 r0 x1 x2 x3 x4 x5 r7 r8 x9 h1) (z_g (z_isk r0 h1 [10]) (z_g (z_isr (hP h1 r0 0) h1 (z_w (x1 + x9))) (z_g (z_isk (hP h1 (hP h1 r0 0) (Int.toNat (z_w (x1 + x9)))) h1 [11]) (z_ki (f211_0 (hP h1 (hP h1 r0 0) (Int.toNat (z_w (x1 + x9)))) r7 h1) (fun v2 h2 => z_if (v2 = 0) (f151_88 r0 x1 x2 x3 x4 x5 r7 r8 x9 h2) (f151_89 r0 x1 x2 x3 x4 x5 r7 r8 x9 1 h2)) z_ex))))) z_ex)))) := sorry
theorem e151_88 (r0 : Nat) (x1 x2 x3 x4 x5 : Int) (r7 r8 : Nat) (x9 : Int) (h : z_M) : f151_88 r0 x1 x2 x3 x4 x5 r7 r8 x9 h = f151_89 r0 x1 x2 x3 x4 x5 r7 r8 x9 0 h := sorry
theorem e151_89 (r0 : Nat) (x1 x2 x3 x4 x5 : Int) (r7 r8 : Nat) (x9 s0 : Int) (h : z_M) : f151_89 r0 x1 x2 x3 x4 x5 r7 r8 x9 s0 h = z_kv (f110_0 s0 h) (fun h1 => f151_46 r0 x1 x2 x3 x4 x5 r7 r8 (z_w (x9 + 1)) h1) z_ex := sorry
theorem e151_98 (r0 : Nat) (x1 x2 x3 x4 x5 : Int) (r8 : Nat) (h : z_M) : f151_98 r0 x1 x2 x3 x4 x5 r8 h = z_ki (f201_0 x3 0 2 h) (fun v1 h1 => z_if (v1 = 0) (f151_140 r0 x1 x2 x3 x4 x5 r8 h1) (z_ki (f201_0 x4 0 3 h1) (fun v2 h2 => z_if (v2 = 0) (f151_140 r0 x1 x2 x3 x4 x5 r8 h2) (z_ki (f201_0 x5 0 12 h2) (fun v3 h3 => z_if (v3 = 0) (f151_140 r0 x1 x2 x3 x4 x5 r8 h3) (f151_141 r0 x1 x2 x3 x4 x5 r8 1 h3)) z_ex)) z_ex)) z_ex := sorry
theorem e151_140 (r0 : Nat) (x1 x2 x3 x4 x5 : Int) (r8 : Nat) (h : z_M) : f151_140 r0 x1 x2 x3 x4 x5 r8 h = f151_141 r0 x1 x2 x3 x4 x5 r8 0 h := sorry
theorem e151_141 (r0 : Nat) (x1 x2 x3 x4 x5 : Int) (r8 : Nat) (s0 : Int) (h : z_M) : f151_141 r0 x1 x2 x3 x4 x5 r8 s0 h = z_kv (f194_0 s0 h) (fun h1 => z_g (z_isk r0 h1 [10]) (z_kv (f197_0 r0 h1) (fun h2 => z_g (z_isk r0 h2 [10]) (z_kv (f148_0 r0 x1 x2 x3 x4 x5 h2) (fun h3 => z_g (z_isk r0 h3 [10]) (z_ki (f143_0 r0 r8 h3) (fun v4 h4 => z_ri v4 h4) z_ex)) z_ex)) z_ex)) z_ex := sorry
theorem e158_0 (r0 : Nat) (x1 : Int) (h : z_M) : f158_0 r0 x1 h = z_ki (f201_0 x1 0 7 h) (fun v1 h1 => z_kv (f195_0 v1 h1) (fun h2 => z_g (z_isk r0 h2 [10]) (z_g (z_isr (hP h2 r0 0) h2 x1) (z_rr (hP h2 (hP h2 r0 0) (Int.toNat x1)) h2))) z_ex) z_ex := sorry
theorem e161_0 (r0 : Nat) (x1 x2 x3 x4 x5 : Int) (h : z_M) : f161_0 r0 x1 x2 x3 x4 x5 h = z_g (z_isk r0 h [10]) (z_kr (f181_0 r0 x1 h) (fun v1 h1 => z_g (z_isk v1 h1 [11]) (z_ki (f207_0 v1 x2 x3 h1) (fun v2 h2 => z_kv (f195_0 v2 h2) (fun h3 => z_if (x4 ≤ 0) (f161_39 x2 x3 x4 x5 v1 h3) (z_ki (f201_0 x5 0 255 h3) (fun v4 h4 => z_if (v4 = 0) (f161_39 x2 x3 x4 x5 v1 h4) (f161_40 x2 x3 x4 x5 v1 1 h4)) z_ex)) z_ex) z_ex)) z_ex) := sorry
theorem e161_39 (x2 x3 x4 x5 : Int) (r6 : Nat) (h : z_M) : f161_39 x2 x3 x4 x5 r6 h = f161_40 x2 x3 x4 x5 r6 0 h := sorry
theorem e161_40 (x2 x3 x4 x5 : Int) (r6 : Nat) (s0 : Int) (h : z_M) : f161_40 x2 x3 x4 x5 r6 s0 h = z_kv (f194_0 s0 h) (fun h1 => f161_49 x2 x3 x4 x5 r6 0 x2 h1) z_ex := sorry
theorem e161_49 (x2 x3 x4 x5 : Int) (r6 : Nat) (x7 x8 : Int) (h : z_M) : f161_49 x2 x3 x4 x5 r6 x7 x8 h = z_g (z_isk r6 h [11]) (z_if ((hI h r6 0) ≤ x8) (f161_112 x7 h) (z_if (x4 ≤ (z_w (x8 - x2))) (f161_112 x7 h) (z_g (z_isk r6 h [11]) (z_ki (f204_0 r6 x8 x3 h) (fun v1 h1 => z_if (v1 = x5) (f161_87 x2 x3 x4 x5 r6 x8 x7 h1) (f161_88 x2 x3 x4 x5 r6 x8 x7 1 h1)) z_ex)))) := sorry
theorem e161_87 (x2 x3 x4 x5 : Int) (r6 : Nat) (x8 s0 : Int) (h : z_M) : f161_87 x2 x3 x4 x5 r6 x8 s0 h = f161_88 x2 x3 x4 x5 r6 x8 s0 0 h := sorry
theorem e161_88 (x2 x3 x4 x5 : Int) (r6 : Nat) (x8 s0 s1 : Int) (h : z_M) : f161_88 x2 x3 x4 x5 r6 x8 s0 s1 h = z_g (z_isk r6 h [11]) (z_g (z_isa (hP h r6 2) h 1000 (z_w ((z_w (12 * x3)) + x8)) ∧ z_new (hP h r6 2)) (f161_49 x2 x3 x4 x5 r6 (z_w (s0 + s1)) (z_w (x8 + 1)) (sI h (hP h r6 2) (Int.toNat (z_w ((z_w (12 * x3)) + x8))) x5))) := sorry
theorem e161_112 (x7 : Int) (h : z_M) : f161_112 x7 h = z_ri x7 h := sorry
theorem e164_0 (r0 : Nat) (x1 x2 x3 : Int) (h : z_M) : f164_0 r0 x1 x2 x3 h = z_g (z_isk r0 h [10]) (z_kr (f167_0 r0 x1 h) (fun v1 h1 => z_g (z_isk r0 h1 [10]) (z_kr (f158_0 r0 x3 h1) (fun v2 h2 => z_g (z_isk v1 h2 [28]) (z_ki (f433_0 v1 h2) (fun v3 h3 => z_kv (f110_0 v3 h3) (fun h4 => z_ki (f201_0 x2 1 3 h4) (fun v5 h5 => z_kv (f194_0 v5 h5) (fun h6 => z_g (z_isk v1 h6 [28]) (z_g (¬ x2 = 0) (z_if (¬ (z_rem (hI h6 v1 0) x2) = 0) (f164_82 x2 v1 v2 h6) (z_g (z_isk v1 h6 [28]) (z_g (¬ x2 = 0) (z_if (¬ (z_rem (hI h6 v1 1) x2) = 0) (f164_82 x2 v1 v2 h6) (z_g (z_isk v1 h6 [28]) (z_g (¬ x2 = 0) (z_if (12 < (z_div (hI h6 v1 0) x2)) (f164_82 x2 v1 v2 h6) (z_g (z_isk v1 h6 [28]) (z_g (¬ x2 = 0) (z_if (12 < (z_div (hI h6 v1 1) x2)) (f164_82 x2 v1 v2 h6) (f164_83 x2 v1 v2 1 h6))))))))))))) z_ex) z_ex) z_ex) z_ex)) z_ex)) z_ex) := sorry
theorem e164_82 (x2 : Int) (r4 r5 : Nat) (h : z_M) : f164_82 x2 r4 r5 h = f164_83 x2 r4 r5 0 h := sorry
theorem e164_83 (x2 : Int) (r4 r5 : Nat) (s0 : Int) (h : z_M) : f164_83 x2 r4 r5 s0 h = z_kv (f110_0 s0 h) (fun h1 => z_g (z_isk r4 h1 [28]) (z_g (¬ x2 = 0) (z_g (z_isk r4 h1 [28]) (z_g (¬ x2 = 0) (z_g (z_isk r5 h1 [11]) (z_kv (f205_0 r5 (z_div (hI h1 r4 0) x2) (z_div (hI h1 r4 1) x2) 1 h1) (fun h2 => f164_112 x2 r4 r5 0 0 h2) z_ex)))))) z_ex := sorry
theorem e164_112 (x2 : Int) (r4 r5 : Nat) (x6 x7 : Int) (h : z_M) : f164_112 x2 r4 r5 x6 x7 h = z_g (z_isk r5 h [11]) (z_g (z_isk r5 h [11]) (z_if ((z_w ((hI h r5 0) * (hI h r5 1))) ≤ x7) (f164_202 x6 h) (z_g (z_isk r5 h [11]) (z_g (¬ (hI h r5 0) = 0) (z_g (z_isk r5 h [11]) (z_g (¬ (hI h r5 0) = 0) (z_g (z_isk r4 h [28]) (z_ki (f429_0 r4 (z_w (x2 * (z_rem x7 (hI h r5 0)))) (z_w (x2 * (z_div x7 (hI h r5 0)))) x2 x2 h) (fun v1 h1 => z_g (¬ (z_w (x2 * x2)) = 0) (z_g (z_isk r5 h1 [11]) (z_kv (f214_0 r5 (z_rem x7 (hI h r5 0)) (z_div x7 (hI h r5 0)) (z_w (255 - (z_div (z_w (255 * v1)) (z_w (x2 * x2))))) 1 h1) (fun h2 => f164_112 x2 r4 r5 (z_w (x6 + (z_w (255 - (z_div (z_w (255 * v1)) (z_w (x2 * x2))))))) (z_w (x7 + 1)) h2) z_ex))) z_ex)))))))) := sorry
theorem e164_202 (x6 : Int) (h : z_M) : f164_202 x6 h = z_ri x6 h := sorry
theorem e165_0 (r0 : Nat) (x1 x2 x3 x4 x5 : Int) (h : z_M) : f165_0 r0 x1 x2 x3 x4 x5 h = z_g (z_isk r0 h [10]) (z_kr (f181_0 r0 x1 h) (fun v1 h1 => z_g (z_isk v1 h1 [11]) (z_ki (f207_0 v1 x2 x3 h1) (fun v2 h2 => z_kv (f195_0 v2 h2) (fun h3 => z_if (x4 ≤ 0) (f165_26 x2 x3 x4 x5 v1 h3) (f165_27 x2 x3 x4 x5 v1 1 h3)) z_ex) z_ex)) z_ex) := sorry
theorem e165_26 (x2 x3 x4 x5 : Int) (r6 : Nat) (h : z_M) : f165_26 x2 x3 x4 x5 r6 h = f165_27 x2 x3 x4 x5 r6 0 h := sorry
theorem e165_27 (x2 x3 x4 x5 : Int) (r6 : Nat) (s0 : Int) (h : z_M) : f165_27 x2 x3 x4 x5 r6 s0 h = z_kv (f194_0 s0 h) (fun h1 => f165_36 x2 x3 x4 x5 r6 0 x2 h1) z_ex := sorry
theorem e165_36 (x2 x3 x4 x5 : Int) (r6 : Nat) (x7 x8 : Int) (h : z_M) : f165_36 x2 x3 x4 x5 r6 x7 x8 h = z_g (z_isk r6 h [11]) (z_if ((hI h r6 0) ≤ x8) (f165_99 x7 h) (z_if (x4 ≤ (z_w (x8 - x2))) (f165_99 x7 h) (z_g (z_isk r6 h [11]) (z_ki (f210_0 r6 x8 x3 h) (fun v1 h1 => z_if (v1 = x5) (f165_74 x2 x3 x4 x5 r6 x8 x7 h1) (f165_75 x2 x3 x4 x5 r6 x8 x7 1 h1)) z_ex)))) := sorry
theorem e165_74 (x2 x3 x4 x5 : Int) (r6 : Nat) (x8 s0 : Int) (h : z_M) : f165_74 x2 x3 x4 x5 r6 x8 s0 h = f165_75 x2 x3 x4 x5 r6 x8 s0 0 h := sorry
theorem e165_75 (x2 x3 x4 x5 : Int) (r6 : Nat) (x8 s0 s1 : Int) (h : z_M) : f165_75 x2 x3 x4 x5 r6 x8 s0 s1 h = z_g (z_isk r6 h [11]) (z_g (z_isz (hP h r6 3) h (z_w ((z_w (12 * x3)) + x8)) ∧ z_new (hP h r6 3) ∧ (hK h (hP h r6 3) = 1002 ∨ z_01 x5)) (f165_36 x2 x3 x4 x5 r6 (z_w (s0 + s1)) (z_w (x8 + 1)) (sI h (hP h r6 3) (Int.toNat (z_w ((z_w (12 * x3)) + x8))) (z_i8 x5)))) := sorry
theorem e165_99 (x7 : Int) (h : z_M) : f165_99 x7 h = z_ri x7 h := sorry
theorem e167_0 (r0 : Nat) (x1 : Int) (h : z_M) : f167_0 r0 x1 h = z_ki (f201_0 x1 0 3 h) (fun v1 h1 => z_kv (f195_0 v1 h1) (fun h2 => z_g (z_isk r0 h2 [10]) (z_g (z_isr (hP h2 r0 1) h2 x1) (z_rr (hP h2 (hP h2 r0 1) (Int.toNat x1)) h2))) z_ex) z_ex := sorry
theorem e171_0 (r0 : Nat) (x1 x2 x3 : Int) (h : z_M) : f171_0 r0 x1 x2 x3 h = z_ki (f201_0 x1 0 2 h) (fun v1 h1 => z_kv (f194_0 v1 h1) (fun h2 => z_if (¬ x1 = 0) (f171_25 r0 x1 x2 x3 x2 0 h2) (f171_39 r0 x1 x2 x3 x2 0 7 h2)) z_ex) z_ex := sorry
theorem e171_25 (r0 : Nat) (x1 x2 x3 t0 t1 : Int) (h : z_M) : f171_25 r0 x1 x2 x3 t0 t1 h = z_if (¬ x1 = 1) (f171_36 r0 x1 x2 x3 t0 t1 h) (f171_39 r0 x1 x2 x3 t0 t1 3 h) := sorry
theorem e171_36 (r0 : Nat) (x1 x2 x3 t0 t1 : Int) (h : z_M) : f171_36 r0 x1 x2 x3 t0 t1 h = f171_39 r0 x1 x2 x3 t0 t1 11 h := sorry
theorem e171_39 (r0 : Nat) (x1 x2 x3 t0 t1 t2 : Int) (h : z_M) : f171_39 r0 x1 x2 x3 t0 t1 t2 h = z_ki (f201_0 t0 t1 t2 h) (fun v1 h1 => z_kv (f195_0 v1 h1) (fun h2 => z_if (¬ x1 = 2) (f171_57 r0 x1 x2 x3 x3 0 h2) (f171_60 r0 x1 x2 x3 x3 0 0 h2)) z_ex) z_ex := sorry
theorem e171_57 (r0 : Nat) (x1 x2 x3 t0 t1 : Int) (h : z_M) : f171_57 r0 x1 x2 x3 t0 t1 h = f171_60 r0 x1 x2 x3 t0 t1 2 h := sorry
theorem e171_60 (r0 : Nat) (x1 x2 x3 t0 t1 t2 : Int) (h : z_M) : f171_60 r0 x1 x2 x3 t0 t1 t2 h = z_ki (f201_0 t0 t1 t2 h) (fun v1 h1 => z_kv (f194_0 v1 h1) (fun h2 => z_if (¬ x1 = 0) (f171_84 r0 x1 x2 x3 h2) (z_g (z_isk r0 h2 [10]) (z_g (z_isr (hP h2 r0 0) h2 x2) (z_g (z_isk r0 h2 [10]) (z_ki (f172_0 r0 (hP h2 (hP h2 r0 0) (Int.toNat x2)) x3 h2) (fun v3 h3 => f171_112 v3 h3) z_ex))))) z_ex) z_ex := sorry
theorem e171_84 (r0 : Nat) (x1 x2 x3 : Int) (h : z_M) : f171_84 r0 x1 x2 x3 h = z_if (¬ x1 = 1) (f171_103 r0 x2 h) (z_g (z_isk r0 h [10]) (z_g (z_isr (hP h r0 1) h x2) (z_g (z_isk r0 h [10]) (z_ki (f173_0 r0 (hP h (hP h r0 1) (Int.toNat x2)) x3 h) (fun v1 h1 => f171_112 v1 h1) z_ex)))) := sorry
theorem e171_103 (r0 : Nat) (x2 : Int) (h : z_M) : f171_103 r0 x2 h = z_g (z_isk r0 h [10]) (z_g (z_isr (hP h r0 2) h x2) (z_g (z_isk (hP h (hP h r0 2) (Int.toNat x2)) h [29]) (f171_112 (hI h (hP h (hP h r0 2) (Int.toNat x2)) 1) h))) := sorry
theorem e171_112 (s0 : Int) (h : z_M) : f171_112 s0 h = z_ri s0 h := sorry
theorem e172_0 (r0 r1 : Nat) (x2 : Int) (h : z_M) : f172_0 r0 r1 x2 h = z_g (z_isk r1 h [11]) (z_ki (f212_0 r1 h) (fun v1 h1 => z_if (¬ v1 = 0) (f172_20 r1 x2 h1) (z_if (2 ≤ x2) (f172_16 h1) (f172_47 (-1) h1))) z_ex) := sorry
theorem e172_16 (h : z_M) : f172_16 h = f172_47 0 h := sorry
theorem e172_20 (r1 : Nat) (x2 : Int) (h : z_M) : f172_20 r1 x2 h = z_if (¬ x2 = 0) (f172_31 r1 x2 h) (z_g (z_isk r1 h [11]) (f172_47 (hI h r1 0) h)) := sorry
theorem e172_31 (r1 : Nat) (x2 : Int) (h : z_M) : f172_31 r1 x2 h = z_if (¬ x2 = 1) (f172_43 r1 h) (z_g (z_isk r1 h [11]) (f172_47 (hI h r1 1) h)) := sorry
theorem e172_43 (r1 : Nat) (h : z_M) : f172_43 r1 h = z_g (z_isk r1 h [11]) (z_ki (f209_0 r1 h) (fun v1 h1 => f172_47 v1 h1) z_ex) := sorry
theorem e172_47 (s0 : Int) (h : z_M) : f172_47 s0 h = z_ri s0 h := sorry
theorem e173_0 (r0 r1 : Nat) (x2 : Int) (h : z_M) : f173_0 r0 r1 x2 h = z_g (z_isk r1 h [28]) (z_ki (f433_0 r1 h) (fun v1 h1 => z_if (¬ v1 = 0) (f173_20 r1 x2 h1) (z_if (2 ≤ x2) (f173_16 h1) (f173_47 (-1) h1))) z_ex) := sorry
theorem e173_16 (h : z_M) : f173_16 h = f173_47 0 h := sorry
theorem e173_20 (r1 : Nat) (x2 : Int) (h : z_M) : f173_20 r1 x2 h = z_if (¬ x2 = 0) (f173_31 r1 x2 h) (z_g (z_isk r1 h [28]) (f173_47 (hI h r1 0) h)) := sorry
theorem e173_31 (r1 : Nat) (x2 : Int) (h : z_M) : f173_31 r1 x2 h = z_if (¬ x2 = 1) (f173_43 r1 h) (z_g (z_isk r1 h [28]) (f173_47 (hI h r1 1) h)) := sorry
theorem e173_43 (r1 : Nat) (h : z_M) : f173_43 r1 h = z_g (z_isk r1 h [28]) (z_ki (f428_0 r1 h) (fun v1 h1 => f173_47 v1 h1) z_ex) := sorry
theorem e173_47 (s0 : Int) (h : z_M) : f173_47 s0 h = z_ri s0 h := sorry
theorem e187_0 (r0 : Nat) (x1 x2 : Int) (h : z_M) : f187_0 r0 x1 x2 h = z_g (z_isk r0 h [10]) (z_kr (f128_0 r0 x1 h) (fun v1 h1 => z_g (z_isk r0 h1 [10]) (z_kr (f158_0 r0 x2 h1) (fun v2 h2 => z_g (z_isk r0 h2 [10]) (z_kv (f197_0 r0 h2) (fun h3 => z_g (z_isk v1 h3 [29]) (z_if ((hI h3 v1 1) < 4) (f187_83 r0 h3) (z_g (z_isk v1 h3 [29]) (z_ki (f435_0 v1 0 h3) (fun v4 h4 => z_if (¬ v4 = 72) (f187_83 r0 h4) (z_g (z_isk v1 h4 [29]) (z_ki (f435_0 v1 1 h4) (fun v5 h5 => z_ki (f201_0 v5 1 2 h5) (fun v6 h6 => z_if (v6 = 0) (f187_83 r0 h6) (z_g (z_isk v1 h6 [29]) (z_ki (f435_0 v1 2 h6) (fun v7 h7 => z_ki (f201_0 v7 1 12 h7) (fun v8 h8 => z_if (v8 = 0) (f187_83 r0 h8) (z_g (z_isk v1 h8 [29]) (z_ki (f435_0 v1 3 h8) (fun v9 h9 => z_ki (f201_0 v9 1 12 h9) (fun v10 h10 => z_if (¬ v10 = 0) (f187_90 r0 v1 v2 h10) (f187_83 r0 h10)) z_ex) z_ex))) z_ex) z_ex))) z_ex) z_ex))) z_ex)))) z_ex)) z_ex)) z_ex) := sorry
theorem e187_83 (r0 : Nat) (h : z_M) : f187_83 r0 h = z_g (z_isk r0 h [10]) (z_ki (f203_0 r0 1 0 h) (fun v1 h1 => z_ri v1 h1) z_ex) := sorry
theorem e187_90 (r0 r3 r4 : Nat) (h : z_M) : f187_90 r0 r3 r4 h = z_g (z_isk r3 h [29]) (z_ki (f435_0 r3 1 h) (fun v1 h1 => z_g (z_isk r3 h1 [29]) (z_ki (f435_0 r3 2 h1) (fun v2 h2 => z_g (z_isk r3 h2 [29]) (z_ki (f435_0 r3 3 h2) (fun v3 h3 => z_g (z_isk r0 h3 [10]) (z_kv (f135_0 r0 v1 v2 v3 h3) (fun h4 => f187_116 r0 r3 r4 v1 4 h4) z_ex)) z_ex)) z_ex)) z_ex) := sorry
theorem e187_116 (r0 r3 r4 : Nat) (x5 x6 : Int) (h : z_M) : f187_116 r0 r3 r4 x5 x6 h = z_g (z_isk r3 h [29]) (z_if ((hI h r3 1) ≤ x6) (f187_145 r0 r3 r4 x5 h) (z_g (z_isk r0 h [10]) (z_g (z_isk r3 h [29]) (z_ki (f435_0 r3 x6 h) (fun v1 h1 => z_g (z_isk (hP h r0 14) h1 [17]) (z_ki (f299_0 (hP h r0 14) v1 h1) (fun v2 h2 => f187_116 r0 r3 r4 x5 (z_w (x6 + 1)) h2) z_ex)) z_ex)))) := sorry
theorem e187_145 (r0 r3 r4 : Nat) (x5 : Int) (h : z_M) : f187_145 r0 r3 r4 x5 h = z_g (z_isk r0 h [10]) (z_g (z_isk (hP h r0 14) h [17]) (z_ki (f297_0 (hP h r0 14) h) (fun v1 h1 => z_if (0 ≤ v1) (f187_170 r0 r3 r4 x5 v1 h1) (z_g (z_isk r0 h1 [10]) (z_ki (f203_0 r0 (z_w (9 - v1)) 4 h1) (fun v2 h2 => z_ri v2 h2) z_ex))) z_ex)) := sorry
theorem e187_170 (r0 r3 r4 : Nat) (x5 x6 : Int) (h : z_M) : f187_170 r0 r3 r4 x5 x6 h = z_g (z_isk r3 h [29]) (z_ki (f435_0 r3 2 h) (fun v1 h1 => z_g (z_isk r3 h1 [29]) (z_ki (f435_0 r3 3 h1) (fun v2 h2 => z_g (z_isk r4 h2 [11]) (z_kv (f205_0 r4 v1 v2 1 h2) (fun h3 => f187_189 r0 r4 x5 x6 0 h3) z_ex)) z_ex)) z_ex) := sorry
theorem e187_189 (r0 r4 : Nat) (x5 x6 x7 : Int) (h : z_M) : f187_189 r0 r4 x5 x6 x7 h = z_g (z_isk r4 h [11]) (z_g (z_isk r4 h [11]) (z_if ((z_w ((hI h r4 0) * (hI h r4 1))) ≤ x7) (f187_270 r0 x6 h) (z_g (z_isk r4 h [11]) (z_g (¬ (hI h r4 0) = 0) (z_g (z_isk r4 h [11]) (z_g (¬ (hI h r4 0) = 0) (z_g (z_isk r0 h [10]) (z_g (z_isk r4 h [11]) (z_g (¬ (hI h r4 0) = 0) (z_g (z_isk r4 h [11]) (z_g (¬ (hI h r4 0) = 0) (z_g (z_isk (hP h r0 14) h [17]) (z_ki (f302_0 (hP h r0 14) (z_rem x7 (hI h r4 0)) (z_div x7 (hI h r4 0)) h) (fun v1 h1 => z_g (¬ (z_w (x5 * x5)) = 0) (z_g (z_isk r4 h1 [11]) (z_kv (f214_0 r4 (z_rem x7 (hI h r4 0)) (z_div x7 (hI h r4 0)) (z_w (255 - (z_div (z_w (255 * v1)) (z_w (x5 * x5))))) 1 h1) (fun h2 => f187_189 r0 r4 x5 x6 (z_w (x7 + 1)) h2) z_ex))) z_ex))))))))))))) := sorry
theorem e187_270 (r0 : Nat) (x6 : Int) (h : z_M) : f187_270 r0 x6 h = z_g (z_isk r0 h [10]) (z_ki (f129_0 r0 x6 h) (fun v1 h1 => z_ri v1 h1) z_ex) := sorry
theorem e194_0 (x0 : Int) (h : z_M) : f194_0 x0 h = z_if (¬ x0 = 0) (f194_12 h) (z_g (z_isk (hZ h + 1) (sN h 5 6) [5]) (z_kv (f28_0 (hZ h + 1) (sN h 5 6)) (fun h1 => z_g (0 < (hZ h + 1) ∧ z_isk (hZ h + 1) h1 z_exk) (z_ex (hZ h + 1) h1)) z_ex)) := sorry
theorem e194_12 (h : z_M) : f194_12 h = z_rv h := sorry
theorem e195_0 (x0 : Int) (h : z_M) : f195_0 x0 h = z_if (¬ x0 = 0) (f195_12 h) (z_g (z_isk (hZ h + 1) (sN h 2 6) [2, 3]) (z_kv (f27_0 (hZ h + 1) (sN h 2 6)) (fun h1 => z_g (0 < (hZ h + 1) ∧ z_isk (hZ h + 1) h1 z_exk) (z_ex (hZ h + 1) h1)) z_ex)) := sorry
theorem e195_12 (h : z_M) : f195_12 h = z_rv h := sorry
theorem e196_0 (x0 : Int) (h : z_M) : f196_0 x0 h = z_if (¬ x0 = 0) (f196_12 h) (z_g (z_isk (hZ h + 1) (sN h 7 6) [7]) (z_kv (f33_0 (hZ h + 1) (sN h 7 6)) (fun h1 => z_g (0 < (hZ h + 1) ∧ z_isk (hZ h + 1) h1 z_exk) (z_ex (hZ h + 1) h1)) z_ex)) := sorry
theorem e196_12 (h : z_M) : f196_12 h = z_rv h := sorry
theorem e197_0 (r0 : Nat) (h : z_M) : f197_0 r0 h = z_g (z_isk r0 h [10]) (z_kv (f198_0 r0 1 h) (fun h1 => z_rv h1) z_ex) := sorry
theorem e198_0 (r0 : Nat) (x1 : Int) (h : z_M) : f198_0 r0 x1 h = z_g (z_isk r0 h [10]) (z_if (300 < (z_w ((hI h r0 7) + x1))) (f198_16 r0 x1 h) (f198_17 r0 x1 1 h)) := sorry
theorem e198_16 (r0 : Nat) (x1 : Int) (h : z_M) : f198_16 r0 x1 h = f198_17 r0 x1 0 h := sorry
theorem e198_17 (r0 : Nat) (x1 s0 : Int) (h : z_M) : f198_17 r0 x1 s0 h = z_kv (f196_0 s0 h) (fun h1 => z_g (z_isk r0 h1 [10]) (z_g (z_isk r0 h1 [10]) (z_rv (sI h1 r0 7 (z_w ((hI h1 r0 7) + x1)))))) z_ex := sorry
theorem e201_0 (y0 y2 y4 : Int) (h : z_M) : f201_0 y0 y2 y4 h = z_if ((z_lcmp y0 y2) < 0) (f201_17 h) (z_if (0 < (z_lcmp y0 y4)) (f201_17 h) (f201_18 1 h)) := sorry
theorem e201_17 (h : z_M) : f201_17 h = f201_18 0 h := sorry
theorem e201_18 (s0 : Int) (h : z_M) : f201_18 s0 h = z_g (z_01 s0) (z_ri s0 h) := sorry
theorem e203_0 (r0 : Nat) (x1 x2 : Int) (h : z_M) : f203_0 r0 x1 x2 h = z_g (z_isk r0 h [10]) (z_g (z_isk r0 (sI h r0 8 x1) [10]) (z_ri (z_w ((-1) - x2)) (sI (sI h r0 8 x1) r0 9 x2))) := sorry
theorem e204_0 (r0 : Nat) (x1 x2 : Int) (h : z_M) : f204_0 r0 x1 x2 h = z_g (z_isk r0 h [11]) (z_g (z_isa (hP h r0 2) h 1000 (z_w ((z_w (12 * x2)) + x1))) (z_ri (hI h (hP h r0 2) (Int.toNat (z_w ((z_w (12 * x2)) + x1)))) h)) := sorry
theorem e205_0 (r0 : Nat) (x1 x2 x3 : Int) (h : z_M) : f205_0 r0 x1 x2 x3 h = z_g (z_isk r0 h [11]) (z_g (z_isk r0 (sI h r0 0 x1) [11]) (f205_13 r0 x3 0 (sI (sI h r0 0 x1) r0 1 x2))) := sorry
theorem e205_13 (r0 : Nat) (x3 x4 : Int) (h : z_M) : f205_13 r0 x3 x4 h = z_if (144 ≤ x4) (f205_43 h) (z_g (z_isk r0 h [11]) (z_g (z_isa (hP h r0 2) h 1000 x4 ∧ z_new (hP h r0 2)) (z_g (z_isk r0 (sI h (hP h r0 2) (Int.toNat x4) 0) [11]) (z_g (z_isz (hP (sI h (hP h r0 2) (Int.toNat x4) 0) r0 3) (sI h (hP h r0 2) (Int.toNat x4) 0) x4 ∧ z_new (hP (sI h (hP h r0 2) (Int.toNat x4) 0) r0 3) ∧ (hK (sI h (hP h r0 2) (Int.toNat x4) 0) (hP (sI h (hP h r0 2) (Int.toNat x4) 0) r0 3) = 1002 ∨ z_01 x3)) (f205_13 r0 x3 (z_w (x4 + 1)) (sI (sI h (hP h r0 2) (Int.toNat x4) 0) (hP (sI h (hP h r0 2) (Int.toNat x4) 0) r0 3) (Int.toNat x4) (z_i8 x3))))))) := sorry
theorem e205_43 (h : z_M) : f205_43 h = z_rv h := sorry
theorem e206_0 (r0 : Nat) (x1 x2 x3 : Int) (h : z_M) : f206_0 r0 x1 x2 x3 h = z_g (z_isk r0 h [11]) (z_ki (f210_0 r0 x1 x2 h) (fun v1 h1 => z_if (v1 = 0) (f206_33 h1) (z_g (z_isk r0 h1 [11]) (z_ki (f204_0 r0 x1 x2 h1) (fun v2 h2 => z_g (¬ (255 : Int) = 0) (f206_34 (z_div (z_w ((z_w ((z_w ((z_w (255 - v2)) * x3)) * x3)) + 127)) 255) h2)) z_ex))) z_ex) := sorry
theorem e206_33 (h : z_M) : f206_33 h = f206_34 0 h := sorry
theorem e206_34 (s0 : Int) (h : z_M) : f206_34 s0 h = z_ri s0 h := sorry
theorem e209_0 (r0 : Nat) (h : z_M) : f209_0 r0 h = f209_4 r0 0 0 h := sorry
theorem e209_4 (r0 : Nat) (x1 x2 : Int) (h : z_M) : f209_4 r0 x1 x2 h = z_g (z_isk r0 h [11]) (z_g (z_isk r0 h [11]) (z_if ((z_w ((hI h r0 0) * (hI h r0 1))) ≤ x2) (f209_50 x1 h) (z_g (z_isk r0 h [11]) (z_g (¬ (hI h r0 0) = 0) (z_g (z_isk r0 h [11]) (z_g (¬ (hI h r0 0) = 0) (z_g (z_isk r0 h [11]) (z_ki (f210_0 r0 (z_rem x2 (hI h r0 0)) (z_div x2 (hI h r0 0)) h) (fun v1 h1 => z_if (v1 = 0) (f209_41 r0 x2 x1 h1) (f209_42 r0 x2 x1 1 h1)) z_ex)))))))) := sorry
theorem e209_41 (r0 : Nat) (x2 s0 : Int) (h : z_M) : f209_41 r0 x2 s0 h = f209_42 r0 x2 s0 0 h := sorry
theorem e209_42 (r0 : Nat) (x2 s0 s1 : Int) (h : z_M) : f209_42 r0 x2 s0 s1 h = f209_4 r0 (z_w (s0 + s1)) (z_w (x2 + 1)) h := sorry
theorem e209_50 (x1 : Int) (h : z_M) : f209_50 x1 h = z_ri x1 h := sorry
theorem e210_0 (r0 : Nat) (x1 x2 : Int) (h : z_M) : f210_0 r0 x1 x2 h = z_g (z_isk r0 h [11]) (z_g (z_isz (hP h r0 3) h (z_w ((z_w (12 * x2)) + x1))) (z_g (z_01 (hI h (hP h r0 3) (Int.toNat (z_w ((z_w (12 * x2)) + x1))))) (z_ri (hI h (hP h r0 3) (Int.toNat (z_w ((z_w (12 * x2)) + x1)))) h))) := sorry
theorem e212_0 (r0 : Nat) (h : z_M) : f212_0 r0 h = z_g (z_isk r0 h [11]) (z_if ((hI h r0 0) ≤ 0) (f212_11 h) (f212_12 1 h)) := sorry
theorem e212_11 (h : z_M) : f212_11 h = f212_12 0 h := sorry
theorem e212_12 (s0 : Int) (h : z_M) : f212_12 s0 h = z_g (z_01 s0) (z_ri s0 h) := sorry
theorem e214_0 (r0 : Nat) (x1 x2 x3 x4 : Int) (h : z_M) : f214_0 r0 x1 x2 x3 x4 h = z_g (z_isk r0 h [11]) (z_g (z_isa (hP h r0 2) h 1000 (z_w ((z_w (12 * x2)) + x1)) ∧ z_new (hP h r0 2)) (z_g (z_isk r0 (sI h (hP h r0 2) (Int.toNat (z_w ((z_w (12 * x2)) + x1))) x3) [11]) (z_g (z_isz (hP (sI h (hP h r0 2) (Int.toNat (z_w ((z_w (12 * x2)) + x1))) x3) r0 3) (sI h (hP h r0 2) (Int.toNat (z_w ((z_w (12 * x2)) + x1))) x3) (z_w ((z_w (12 * x2)) + x1)) ∧ z_new (hP (sI h (hP h r0 2) (Int.toNat (z_w ((z_w (12 * x2)) + x1))) x3) r0 3) ∧ (hK (sI h (hP h r0 2) (Int.toNat (z_w ((z_w (12 * x2)) + x1))) x3) (hP (sI h (hP h r0 2) (Int.toNat (z_w ((z_w (12 * x2)) + x1))) x3) r0 3) = 1002 ∨ z_01 x4)) (z_rv (sI (sI h (hP h r0 2) (Int.toNat (z_w ((z_w (12 * x2)) + x1))) x3) (hP (sI h (hP h r0 2) (Int.toNat (z_w ((z_w (12 * x2)) + x1))) x3) r0 3) (Int.toNat (z_w ((z_w (12 * x2)) + x1))) (z_i8 x4)))))) := sorry
theorem e246_0 (r0 : Nat) (h : z_M) : f246_0 r0 h = z_g (0 < r0 ∧ z_new r0) (z_g (z_sz 256) (z_g (z_isk r0 (sN h 1001 (Int.toNat 256)) [14]) (z_g (z_sz 256) (z_g (z_isk r0 (sN (sP (sN h 1001 (Int.toNat 256)) r0 2 (hZ h + 1)) 1000 (Int.toNat 256)) [14]) (z_g (z_sz 256) (z_g (z_isk r0 (sN (sP (sN (sP (sN h 1001 (Int.toNat 256)) r0 2 (hZ h + 1)) 1000 (Int.toNat 256)) r0 3 (hZ (sP (sN h 1001 (Int.toNat 256)) r0 2 (hZ h + 1)) + 1)) 1000 (Int.toNat 256)) [14]) (f246_31 r0 (sP (sN (sP (sN (sP (sN h 1001 (Int.toNat 256)) r0 2 (hZ h + 1)) 1000 (Int.toNat 256)) r0 3 (hZ (sP (sN h 1001 (Int.toNat 256)) r0 2 (hZ h + 1)) + 1)) 1000 (Int.toNat 256)) r0 5 (hZ (sP (sN (sP (sN h 1001 (Int.toNat 256)) r0 2 (hZ h + 1)) 1000 (Int.toNat 256)) r0 3 (hZ (sP (sN h 1001 (Int.toNat 256)) r0 2 (hZ h + 1)) + 1)) + 1))))))))) := sorry
theorem e246_31 (r0 : Nat) (h : z_M) : f246_31 r0 h = z_g (z_sz 256) (z_g (z_isk r0 (sN h 1000 (Int.toNat 256)) [14]) (z_g (z_sz 16) (z_g (z_isk r0 (sN (sP (sN h 1000 (Int.toNat 256)) r0 6 (hZ h + 1)) 1000 (Int.toNat 16)) [14]) (z_rv (sP (sN (sP (sN h 1000 (Int.toNat 256)) r0 6 (hZ h + 1)) 1000 (Int.toNat 16)) r0 7 (hZ (sP (sN h 1000 (Int.toNat 256)) r0 6 (hZ h + 1)) + 1)))))) := sorry
theorem e294_0 (r0 : Nat) (x1 : Int) (h : z_M) : f294_0 r0 x1 h = z_g (z_isk r0 h [17]) (z_ki (f317_0 x1 0 (z_w ((hI h r0 20) - 1)) h) (fun v1 h1 => z_kv (f314_0 v1 h1) (fun h2 => z_g (z_isk r0 h2 [17]) (z_g (z_isz (hP h2 r0 19) h2 x1) (z_ri (z_and (hI h2 (hP h2 r0 19) (Int.toNat x1)) 255) h2))) z_ex) z_ex) := sorry
theorem e295_0 (r0 : Nat) (h : z_M) : f295_0 r0 h = z_g (z_isk r0 h [17]) (z_g (z_isk (hP h r0 2) h [18]) (z_kv (f321_0 (hP h r0 2) 1 1 1 h) (fun h1 => z_g (z_isk r0 h1 [17]) (z_kv (f307_0 r0 1 1 0 0 256 0 h1) (fun h2 => f295_24 r0 0 h2) z_ex)) z_ex)) := sorry
theorem e295_24 (r0 : Nat) (x1 : Int) (h : z_M) : f295_24 r0 x1 h = z_g (z_isk r0 h [17]) (z_if ((hI h r0 1) ≤ x1) (f295_58 r0 h) (z_g (z_isk r0 h [17]) (z_g (z_isk (hP h r0 3) h [19]) (z_ki (f329_0 (hP h r0 3) x1 0 h) (fun v1 h1 => z_g (z_isk r0 h1 [17]) (z_g (z_isk (hP h1 r0 4) h1 [19]) (z_ki (f329_0 (hP h1 r0 4) x1 0 h1) (fun v2 h2 => f295_24 r0 (z_w (x1 + 1)) h2) z_ex))) z_ex)))) := sorry
theorem e295_58 (r0 : Nat) (h : z_M) : f295_58 r0 h = z_g (z_isk r0 h [17]) (z_g (z_isk r0 (sP h r0 13 4294968296) [17] ∧ z_01 0) (z_g (z_isk r0 (sI (sP h r0 13 4294968296) r0 14 0) [17] ∧ z_01 0) (z_g (z_isk r0 (sI (sI (sP h r0 13 4294968296) r0 14 0) r0 15 0) [17]) (z_g (z_isk r0 (sI (sI (sI (sP h r0 13 4294968296) r0 14 0) r0 15 0) r0 20 0) [17]) (z_g (z_isk r0 (sI (sI (sI (sI (sP h r0 13 4294968296) r0 14 0) r0 15 0) r0 20 0) r0 22 0) [17]) (z_kv (f312_0 r0 (sI (sI (sI (sI (sP h r0 13 4294968296) r0 14 0) r0 15 0) r0 20 0) r0 22 0)) (fun h1 => z_rv h1) z_ex)))))) := sorry
theorem e297_0 (r0 : Nat) (h : z_M) : f297_0 r0 h = z_g (z_isk r0 h [17]) (z_g (z_isk (hP h r0 24) h [22]) (z_ki (f349_0 (hP h r0 24) h) (fun v1 h1 => z_ri v1 h1) z_ex)) := sorry
theorem e298_0 (r0 : Nat) (h : z_M) : f298_0 r0 h = z_g (z_isk r0 h [17]) (z_g (z_isk (hP h r0 23) h [21]) (z_ki (f343_0 (hP h r0 23) h) (fun v1 h1 => z_ri v1 h1) z_ex)) := sorry
theorem e299_0 (r0 : Nat) (x1 : Int) (h : z_M) : f299_0 r0 x1 h = z_ki (f317_0 x1 0 255 h) (fun v1 h1 => z_kv (f313_0 v1 h1) (fun h2 => z_g (z_isk r0 h2 [17]) (z_if (3000 ≤ (hI h2 r0 22)) (f299_25 r0 x1 h2) (f299_26 r0 x1 1 h2))) z_ex) z_ex := sorry
theorem e299_25 (r0 : Nat) (x1 : Int) (h : z_M) : f299_25 r0 x1 h = f299_26 r0 x1 0 h := sorry
theorem e299_26 (r0 : Nat) (x1 s0 : Int) (h : z_M) : f299_26 r0 x1 s0 h = z_kv (f316_0 s0 h) (fun h1 => z_g (z_isk r0 h1 [17]) (z_g (z_isk r0 h1 [17]) (z_g (z_isk r0 h1 [17]) (z_g (z_isz (hP h1 r0 21) (sI h1 r0 22 (z_w ((hI h1 r0 22) + 1))) (hI h1 r0 22) ∧ z_new (hP h1 r0 21) ∧ (hK (sI h1 r0 22 (z_w ((hI h1 r0 22) + 1))) (hP h1 r0 21) = 1002 ∨ z_01 (z_i8 x1))) (z_g (z_isk r0 (sI (sI h1 r0 22 (z_w ((hI h1 r0 22) + 1))) (hP h1 r0 21) (Int.toNat (hI h1 r0 22)) (z_i8 (z_i8 x1))) [17]) (z_ri (hI (sI (sI h1 r0 22 (z_w ((hI h1 r0 22) + 1))) (hP h1 r0 21) (Int.toNat (hI h1 r0 22)) (z_i8 (z_i8 x1))) r0 22) (sI (sI h1 r0 22 (z_w ((hI h1 r0 22) + 1))) (hP h1 r0 21) (Int.toNat (hI h1 r0 22)) (z_i8 (z_i8 x1))))))))) z_ex := sorry
theorem e300_0 (r0 : Nat) (h : z_M) : f300_0 r0 h = f300_2 r0 0 h := sorry
theorem e300_2 (r0 : Nat) (x1 : Int) (h : z_M) : f300_2 r0 x1 h = z_g (z_isk r0 h [17]) (z_g (1000 ≤ hK h (hP h r0 11)) (z_if ((hN h (hP h r0 11) : Int) ≤ x1) (f300_24 h) (z_g (z_isk r0 h [17]) (z_g (z_isa (hP h r0 11) h 1000 x1 ∧ z_new (hP h r0 11)) (f300_2 r0 (z_w (x1 + 1)) (sI h (hP h r0 11) (Int.toNat x1) 0)))))) := sorry
theorem e300_24 (h : z_M) : f300_24 h = z_rv h := sorry
theorem e301_0 (r0 : Nat) (x1 x2 x3 : Int) (h : z_M) : f301_0 r0 x1 x2 x3 h = z_g (z_isk r0 h [17]) (z_kv (f315_0 r0 x1 x2 h) (fun h1 => z_g (z_isk r0 h1 [17]) (z_g (z_isk (hP h1 r0 2) h1 [18]) (z_ki (f317_0 x3 0 (z_w ((hI h1 (hP h1 r0 2) 3) - 1)) h1) (fun v2 h2 => z_kv (f313_0 v2 h2) (fun h3 => z_g (z_isk r0 h3 [17]) (z_g (z_isa (hP h3 r0 11) h3 1000 (z_w ((z_w (16 * x2)) + x1))) (z_if ((hI h3 (hP h3 r0 11) (Int.toNat (z_w ((z_w (16 * x2)) + x1)))) = x3) (f301_42 r0 x1 x2 x3 h3) (f301_43 r0 x1 x2 x3 1 h3)))) z_ex) z_ex))) z_ex) := sorry
theorem e301_42 (r0 : Nat) (x1 x2 x3 : Int) (h : z_M) : f301_42 r0 x1 x2 x3 h = f301_43 r0 x1 x2 x3 0 h := sorry
theorem e301_43 (r0 : Nat) (x1 x2 x3 s0 : Int) (h : z_M) : f301_43 r0 x1 x2 x3 s0 h = z_g (z_isk r0 h [17]) (z_g (z_isa (hP h r0 11) h 1000 (z_w ((z_w (16 * x2)) + x1)) ∧ z_new (hP h r0 11)) (z_g (z_01 s0) (z_ri s0 (sI h (hP h r0 11) (Int.toNat (z_w ((z_w (16 * x2)) + x1))) x3)))) := sorry
theorem e302_0 (r0 : Nat) (x1 x2 : Int) (h : z_M) : f302_0 r0 x1 x2 h = z_g (z_isk r0 h [17]) (z_kv (f315_0 r0 x1 x2 h) (fun h1 => z_g (z_isk r0 h1 [17]) (z_g (z_isa (hP h1 r0 11) h1 1000 (z_w ((z_w (16 * x2)) + x1))) (z_ri (hI h1 (hP h1 r0 11) (Int.toNat (z_w ((z_w (16 * x2)) + x1)))) h1))) z_ex) := sorry
theorem e303_0 (r0 : Nat) (x1 x2 x3 x4 x5 x6 : Int) (h : z_M) : f303_0 r0 x1 x2 x3 x4 x5 x6 h = z_ki (f317_0 x1 1 16 h) (fun v1 h1 => z_if (v1 = 0) (f303_47 r0 x1 x2 x3 x4 x5 x6 h1) (z_ki (f317_0 x2 1 16 h1) (fun v2 h2 => z_if (v2 = 0) (f303_47 r0 x1 x2 x3 x4 x5 x6 h2) (z_ki (f317_0 x3 (-65536) 65536 h2) (fun v3 h3 => z_if (v3 = 0) (f303_47 r0 x1 x2 x3 x4 x5 x6 h3) (z_ki (f317_0 x4 (-65536) 65536 h3) (fun v4 h4 => z_if (v4 = 0) (f303_47 r0 x1 x2 x3 x4 x5 x6 h4) (f303_48 r0 x1 x2 x3 x4 x5 x6 1 h4)) z_ex)) z_ex)) z_ex)) z_ex := sorry
theorem e303_47 (r0 : Nat) (x1 x2 x3 x4 x5 x6 : Int) (h : z_M) : f303_47 r0 x1 x2 x3 x4 x5 x6 h = f303_48 r0 x1 x2 x3 x4 x5 x6 0 h := sorry
theorem e303_48 (r0 : Nat) (x1 x2 x3 x4 x5 x6 s0 : Int) (h : z_M) : f303_48 r0 x1 x2 x3 x4 x5 x6 s0 h = z_kv (f313_0 s0 h) (fun h1 => z_ki (f317_0 x5 (-4096) 4096 h1) (fun v2 h2 => z_if (v2 = 0) (f303_93 r0 x1 x2 x3 x4 x5 x6 h2) (z_ki (f317_0 x6 (-4096) 4096 h2) (fun v3 h3 => z_if (v3 = 0) (f303_93 r0 x1 x2 x3 x4 x5 x6 h3) (z_if (¬ x5 = 0) (f303_89 r0 x1 x2 x3 x4 x5 x6 h3) (z_if (x6 = 0) (f303_93 r0 x1 x2 x3 x4 x5 x6 h3) (f303_89 r0 x1 x2 x3 x4 x5 x6 h3)))) z_ex)) z_ex) z_ex := sorry
theorem e303_89 (r0 : Nat) (x1 x2 x3 x4 x5 x6 : Int) (h : z_M) : f303_89 r0 x1 x2 x3 x4 x5 x6 h = f303_94 r0 x1 x2 x3 x4 x5 x6 1 h := sorry
theorem e303_93 (r0 : Nat) (x1 x2 x3 x4 x5 x6 : Int) (h : z_M) : f303_93 r0 x1 x2 x3 x4 x5 x6 h = f303_94 r0 x1 x2 x3 x4 x5 x6 0 h := sorry
theorem e303_94 (r0 : Nat) (x1 x2 x3 x4 x5 x6 s0 : Int) (h : z_M) : f303_94 r0 x1 x2 x3 x4 x5 x6 s0 h = z_kv (f313_0 s0 h) (fun h1 => z_g (z_isk r0 h1 [17]) (z_kv (f307_0 r0 x1 x2 x3 x4 x5 x6 h1) (fun h2 => f303_116 r0 x1 x2 0 0 h2) z_ex)) z_ex := sorry
theorem e303_116 (r0 : Nat) (x1 x2 x7 x8 : Int) (h : z_M) : f303_116 r0 x1 x2 x7 x8 h = z_if ((z_w (x1 * x2)) ≤ x8) (f303_155 x7 h) (z_g (¬ x1 = 0) (z_g (¬ x1 = 0) (z_g (z_isk r0 h [17]) (z_ki (f305_0 r0 (z_rem x8 x1) (z_div x8 x1) h) (fun v1 h1 => z_if (v1 = 0) (f303_145 r0 x1 x2 x8 x7 h1) (f303_146 r0 x1 x2 x8 x7 1 h1)) z_ex)))) := sorry
theorem e303_145 (r0 : Nat) (x1 x2 x8 s0 : Int) (h : z_M) : f303_145 r0 x1 x2 x8 s0 h = f303_146 r0 x1 x2 x8 s0 0 h := sorry
theorem e303_146 (r0 : Nat) (x1 x2 x8 s0 s1 : Int) (h : z_M) : f303_146 r0 x1 x2 x8 s0 s1 h = f303_116 r0 x1 x2 (z_w (s0 + s1)) (z_w (x8 + 1)) h := sorry
theorem e303_155 (x7 : Int) (h : z_M) : f303_155 x7 h = z_ri x7 h := sorry
theorem e305_0 (r0 : Nat) (x1 x2 : Int) (h : z_M) : f305_0 r0 x1 x2 h = z_g (z_isk r0 h [17]) (z_ki (f309_0 r0 x1 x2 h) (fun v1 h1 => z_g (z_isk r0 h1 [17]) (z_ki (f311_0 r0 x1 x2 h1) (fun v2 h2 => z_g (z_isk r0 h2 [17]) (z_g (z_isk (hP h2 r0 2) h2 [18]) (z_if ((z_w (v1 + (hI h2 (hP h2 r0 2) 1))) ≤ 0) (f305_57 h2) (z_g (z_isk r0 h2 [17]) (z_if ((hI h2 r0 0) ≤ v1) (f305_57 h2) (z_g (z_isk r0 h2 [17]) (z_g (z_isk (hP h2 r0 2) h2 [18]) (z_if ((z_w (v2 + (hI h2 (hP h2 r0 2) 2))) ≤ 0) (f305_57 h2) (z_g (z_isk r0 h2 [17]) (z_if (v2 < (hI h2 r0 1)) (f305_61 h2) (f305_57 h2))))))))))) z_ex)) z_ex) := sorry
theorem e305_57 (h : z_M) : f305_57 h = f305_62 1 h := sorry
theorem e305_61 (h : z_M) : f305_61 h = f305_62 0 h := sorry
theorem e305_62 (s0 : Int) (h : z_M) : f305_62 s0 h = z_g (z_01 s0) (z_ri s0 h) := sorry
theorem e306_0 (r0 : Nat) (x1 x2 : Int) (h : z_M) : f306_0 r0 x1 x2 h = z_g (z_isk r0 h [17]) (z_if ((hI h r0 15) = 0) (f306_20 h) (z_g (z_isk r0 h [17]) (z_ki (f305_0 r0 x1 x2 h) (fun v1 h1 => z_if (v1 = 0) (f306_20 h1) (f306_21 1 h1)) z_ex))) := sorry
theorem e306_20 (h : z_M) : f306_20 h = f306_21 0 h := sorry
theorem e306_21 (s0 : Int) (h : z_M) : f306_21 s0 h = z_g (z_01 s0) (z_ri s0 h) := sorry
theorem e307_0 (r0 : Nat) (x1 x2 x3 x4 x5 x6 : Int) (h : z_M) : f307_0 r0 x1 x2 x3 x4 x5 x6 h = z_g (z_isk r0 h [17]) (z_g (z_isk r0 (sI h r0 5 x1) [17]) (z_g (z_isk r0 (sI (sI h r0 5 x1) r0 6 x2) [17]) (z_g (z_isk r0 (sI (sI (sI h r0 5 x1) r0 6 x2) r0 7 x3) [17]) (z_g (z_isk r0 (sI (sI (sI (sI h r0 5 x1) r0 6 x2) r0 7 x3) r0 8 x4) [17]) (z_g (z_isk r0 (sI (sI (sI (sI (sI h r0 5 x1) r0 6 x2) r0 7 x3) r0 8 x4) r0 9 x5) [17]) (f307_33 r0 (sI (sI (sI (sI (sI (sI h r0 5 x1) r0 6 x2) r0 7 x3) r0 8 x4) r0 9 x5) r0 10 x6))))))) := sorry
theorem e307_33 (r0 : Nat) (h : z_M) : f307_33 r0 h = z_g (z_isk r0 h [17]) (z_kv (f300_0 r0 h) (fun h1 => z_rv h1) z_ex) := sorry
theorem e309_0 (r0 : Nat) (x1 x2 : Int) (h : z_M) : f309_0 r0 x1 x2 h = z_g (z_isk r0 h [17]) (z_g (z_isk r0 h [17]) (z_g (z_isk r0 h [17]) (z_ri (z_shr (z_w ((z_w ((hI h r0 7) + (z_w (x2 * (hI h r0 10))))) + (z_w (x1 * (hI h r0 9))))) 8) h))) := sorry
theorem e310_0 (r0 : Nat) (x1 : Int) (h : z_M) : f310_0 r0 x1 h = z_ki (f317_0 x1 1 7 h) (fun v1 h1 => z_kv (f313_0 v1 h1) (fun h2 => z_g (z_isk r0 h2 [17]) (z_g (z_isk (hP h2 r0 2) h2 [18]) (z_kv (f322_0 (hP h2 r0 2) x1 h2) (fun h3 => z_g (z_isk r0 h3 [17]) (z_kv (f300_0 r0 h3) (fun h4 => z_g (z_isk r0 h4 [17]) (z_g (z_isk (hP h4 r0 2) h4 [18]) (z_ri (hI h4 (hP h4 r0 2) 3) h4))) z_ex)) z_ex))) z_ex) z_ex := sorry
theorem e311_0 (r0 : Nat) (x1 x2 : Int) (h : z_M) : f311_0 r0 x1 x2 h = z_g (z_isk r0 h [17]) (z_g (z_isk r0 h [17]) (z_g (z_isk r0 h [17]) (z_ri (z_shr (z_w ((z_w ((hI h r0 8) + (z_w (x2 * (hI h r0 9))))) - (z_w (x1 * (hI h r0 10))))) 8) h))) := sorry
theorem e312_0 (r0 : Nat) (h : z_M) : f312_0 r0 h = f312_2 r0 0 h := sorry
theorem e312_2 (r0 : Nat) (x1 : Int) (h : z_M) : f312_2 r0 x1 h = z_if (64 ≤ x1) (f312_28 r0 h) (z_g (z_isk r0 h [17]) (z_g (z_isa (hP h r0 17) h 1000 x1 ∧ z_new (hP h r0 17)) (z_g (z_isk r0 (sI h (hP h r0 17) (Int.toNat x1) (-1)) [17]) (z_g (z_isa (hP (sI h (hP h r0 17) (Int.toNat x1) (-1)) r0 18) (sI h (hP h r0 17) (Int.toNat x1) (-1)) 1000 x1 ∧ z_new (hP (sI h (hP h r0 17) (Int.toNat x1) (-1)) r0 18)) (f312_2 r0 (z_w (x1 + 1)) (sI (sI h (hP h r0 17) (Int.toNat x1) (-1)) (hP (sI h (hP h r0 17) (Int.toNat x1) (-1)) r0 18) (Int.toNat x1) 0)))))) := sorry
theorem e312_28 (r0 : Nat) (h : z_M) : f312_28 r0 h = z_g (z_isk r0 h [17]) (z_g (z_isk (hP h r0 16) h [20]) (z_kv (f331_0 (hP h r0 16) h) (fun h1 => z_rv h1) z_ex)) := sorry
theorem e313_0 (x0 : Int) (h : z_M) : f313_0 x0 h = z_if (¬ x0 = 0) (f313_12 h) (z_g (z_isk (hZ h + 1) (sN h 5 6) [5]) (z_kv (f28_0 (hZ h + 1) (sN h 5 6)) (fun h1 => z_g (0 < (hZ h + 1) ∧ z_isk (hZ h + 1) h1 z_exk) (z_ex (hZ h + 1) h1)) z_ex)) := sorry
theorem e313_12 (h : z_M) : f313_12 h = z_rv h := sorry
theorem e314_0 (x0 : Int) (h : z_M) : f314_0 x0 h = z_if (¬ x0 = 0) (f314_12 h) (z_g (z_isk (hZ h + 1) (sN h 2 6) [2, 3]) (z_kv (f27_0 (hZ h + 1) (sN h 2 6)) (fun h1 => z_g (0 < (hZ h + 1) ∧ z_isk (hZ h + 1) h1 z_exk) (z_ex (hZ h + 1) h1)) z_ex)) := sorry
theorem e314_12 (h : z_M) : f314_12 h = z_rv h := sorry
theorem e315_0 (r0 : Nat) (x1 x2 : Int) (h : z_M) : f315_0 r0 x1 x2 h = z_g (z_isk r0 h [17]) (z_ki (f317_0 x1 0 (z_w ((hI h r0 5) - 1)) h) (fun v1 h1 => z_if (v1 = 0) (f315_32 h1) (z_g (z_isk r0 h1 [17]) (z_ki (f317_0 x2 0 (z_w ((hI h1 r0 6) - 1)) h1) (fun v2 h2 => z_if (v2 = 0) (f315_32 h2) (f315_33 1 h2)) z_ex))) z_ex) := sorry
theorem e315_32 (h : z_M) : f315_32 h = f315_33 0 h := sorry
theorem e315_33 (s0 : Int) (h : z_M) : f315_33 s0 h = z_kv (f314_0 s0 h) (fun h1 => z_rv h1) z_ex := sorry
theorem e316_0 (x0 : Int) (h : z_M) : f316_0 x0 h = z_if (¬ x0 = 0) (f316_12 h) (z_g (z_isk (hZ h + 1) (sN h 7 6) [7]) (z_kv (f33_0 (hZ h + 1) (sN h 7 6)) (fun h1 => z_g (0 < (hZ h + 1) ∧ z_isk (hZ h + 1) h1 z_exk) (z_ex (hZ h + 1) h1)) z_ex)) := sorry
theorem e316_12 (h : z_M) : f316_12 h = z_rv h := sorry
theorem e317_0 (x0 x1 x2 : Int) (h : z_M) : f317_0 x0 x1 x2 h = z_if (x0 < x1) (f317_14 h) (z_if (x2 < x0) (f317_14 h) (f317_15 1 h)) := sorry
theorem e317_14 (h : z_M) : f317_14 h = f317_15 0 h := sorry
theorem e317_15 (s0 : Int) (h : z_M) : f317_15 s0 h = z_g (z_01 s0) (z_ri s0 h) := sorry
theorem e320_0 (x0 x1 : Int) (h : z_M) : f320_0 x0 x1 h = f320_4 x0 x1 0 0 h := sorry
theorem e320_4 (x0 x1 x2 x3 : Int) (h : z_M) : f320_4 x0 x1 x2 x3 h = z_if (3 ≤ x3) (f320_39 x2 h) (f320_4 x0 x1 (z_or (z_or (z_shl x2 2) (z_shl (z_xor (z_and (z_shr x0 x3) 1) (z_and (z_shr x1 x3) 1)) 1)) (z_and (z_shr x1 x3) 1)) (z_w (x3 + 1)) h) := sorry
theorem e320_39 (x2 : Int) (h : z_M) : f320_39 x2 h = z_ri x2 h := sorry
theorem e321_0 (r0 : Nat) (x1 x2 x3 : Int) (h : z_M) : f321_0 r0 x1 x2 x3 h = z_g (z_isk r0 h [18]) (z_g (z_isk r0 (sI h r0 1 x1) [18]) (z_g (z_isk r0 (sI (sI h r0 1 x1) r0 2 x2) [18]) (f321_18 r0 0 (sI (sI (sI h r0 1 x1) r0 2 x2) r0 3 x3)))) := sorry
theorem e321_18 (r0 : Nat) (x4 : Int) (h : z_M) : f321_18 r0 x4 h = z_if (64 ≤ x4) (f321_39 h) (z_g (z_isk r0 h [18]) (z_g (z_isa (hP h r0 0) h 1003 x4 ∧ z_new (hP h r0 0)) (f321_18 r0 (z_w (x4 + 1)) (sL h (hP h r0 0) (Int.toNat x4) 0)))) := sorry
theorem e321_39 (h : z_M) : f321_39 h = z_rv h := sorry
theorem e322_0 (r0 : Nat) (x1 : Int) (h : z_M) : f322_0 r0 x1 h = z_g (z_isk r0 h [18]) (z_kv (f321_0 r0 x1 x1 (z_w ((z_w (x1 * x1)) + 1)) h) (fun h1 => f322_15 r0 x1 0 0 h1) z_ex) := sorry
theorem e322_15 (r0 : Nat) (x1 x2 x3 : Int) (h : z_M) : f322_15 r0 x1 x2 x3 h = z_if (64 ≤ x3) (f322_93 h) (f322_24 r0 x1 x2 x3 0 h) := sorry
theorem e322_24 (r0 : Nat) (x1 x2 x3 x4 : Int) (h : z_M) : f322_24 r0 x1 x2 x3 x4 h = z_if ((z_w (x1 * x1)) ≤ x4) (f322_87 r0 x1 x2 x3 h) (z_g (¬ x1 = 0) (z_g (¬ x1 = 0) (z_ki (f320_0 (z_rem x4 x1) (z_div x4 x1) h) (fun v1 h1 => z_if (v1 = x3) (f322_50 r0 x1 x2 x3 x4 h1) (f322_81 r0 x1 x2 x3 x4 h1)) z_ex))) := sorry
theorem e322_50 (r0 : Nat) (x1 x2 x3 x4 : Int) (h : z_M) : f322_50 r0 x1 x2 x3 x4 h = z_g (z_isk r0 h [18]) (z_g (z_isk r0 h [18]) (z_g (z_isa (hP h r0 0) h 1003 x2) (z_g (z_isa (hP h r0 0) h 1003 (z_w (x2 + 1)) ∧ z_new (hP h r0 0)) (z_g (¬ x1 = 0) (z_g (¬ x1 = 0) (z_g (z_isk r0 (sL h (hP h r0 0) (Int.toNat (z_w (x2 + 1))) (hL h (hP h r0 0) (Int.toNat x2))) [18]) (z_kv (f324_0 r0 (z_w (x2 + 1)) (z_rem x4 x1) (z_div x4 x1) 1 (sL h (hP h r0 0) (Int.toNat (z_w (x2 + 1))) (hL h (hP h r0 0) (Int.toNat x2)))) (fun h1 => f322_81 r0 x1 (z_w (x2 + 1)) x3 x4 h1) z_ex))))))) := sorry
theorem e322_81 (r0 : Nat) (x1 x2 x3 x4 : Int) (h : z_M) : f322_81 r0 x1 x2 x3 x4 h = f322_24 r0 x1 x2 x3 (z_w (x4 + 1)) h := sorry
theorem e322_87 (r0 : Nat) (x1 x2 x3 : Int) (h : z_M) : f322_87 r0 x1 x2 x3 h = f322_15 r0 x1 x2 (z_w (x3 + 1)) h := sorry
theorem e322_93 (h : z_M) : f322_93 h = z_rv h := sorry
theorem e323_0 (r0 : Nat) (h : z_M) : f323_0 r0 h = z_g (z_isk r0 h [18]) (z_ki (f32_0 (z_w ((hI h r0 3) - 1)) h) (fun v1 h1 => z_ri (z_w (32 - v1)) h1) z_ex) := sorry
theorem e324_0 (r0 : Nat) (x1 x2 x3 x4 : Int) (h : z_M) : f324_0 r0 x1 x2 x3 x4 h = z_g (z_isk r0 h [18]) (z_if (x4 = 0) (f324_32 r0 x1 (z_lshl 1 (z_w ((z_w (8 * x3)) + x2))) (hP h r0 0) x1 h) (z_g (z_isk r0 h [18]) (z_g (z_isa (hP h r0 0) h 1003 x1) (f324_45 (hP h r0 0) x1 (z_lor (hL h (hP h r0 0) (Int.toNat x1)) (z_lshl 1 (z_w ((z_w (8 * x3)) + x2)))) h)))) := sorry
theorem e324_32 (r0 : Nat) (x1 y5 : Int) (q0 : Nat) (s1 : Int) (h : z_M) : f324_32 r0 x1 y5 q0 s1 h = z_g (z_isk r0 h [18]) (z_g (z_isa (hP h r0 0) h 1003 x1) (f324_45 q0 s1 (z_land (hL h (hP h r0 0) (Int.toNat x1)) (z_lxor y5 (-1))) h)) := sorry
theorem e324_45 (q0 : Nat) (s1 t2 : Int) (h : z_M) : f324_45 q0 s1 t2 h = z_g (z_isa q0 h 1003 s1 ∧ z_new q0) (z_rv (sL h q0 (Int.toNat s1) t2)) := sorry
theorem e329_0 (r0 : Nat) (x1 x2 : Int) (h : z_M) : f329_0 r0 x1 x2 h = z_g (z_isk r0 h [19]) (z_g (z_isk (hP h r0 1) h [17]) (z_g (z_isk r0 h [19]) (z_g (z_isa (hP h r0 0) h 1000 x1) (z_ki (f31_0 (z_and (z_xor (hI h (hP h r0 0) (Int.toNat x1)) x2) (z_ushr (-1) (z_w (32 - (hI h (hP h r0 1) 0))))) h) (fun v1 h1 => z_g (z_isk r0 h1 [19]) (z_g (z_isa (hP h1 r0 0) h1 1000 x1 ∧ z_new (hP h1 r0 0)) (z_ri v1 (sI h1 (hP h1 r0 0) (Int.toNat x1) (z_and x2 (z_ushr (-1) (z_w (32 - (hI h (hP h r0 1) 0))))))))) z_ex)))) := sorry
theorem e331_0 (r0 : Nat) (h : z_M) : f331_0 r0 h = z_g (z_isk r0 h [20]) (z_g (z_isk r0 (sI h r0 0 4) [20]) (z_g (z_isk r0 (sI (sI h r0 0 4) r0 1 1) [20]) (z_rv (sI (sI (sI h r0 0 4) r0 1 1) r0 2 0)))) := sorry
theorem e332_0 (r0 : Nat) (h : z_M) : f332_0 r0 h = f332_2 r0 0 h := sorry
theorem e332_2 (r0 : Nat) (x1 : Int) (h : z_M) : f332_2 r0 x1 h = z_if (8 ≤ x1) (f332_27 x1 h) (z_g (z_isk r0 h [20]) (z_g (z_isk r0 h [20]) (z_if ((hI h r0 0) ≤ (z_shl (hI h r0 1) x1)) (f332_27 x1 h) (f332_2 r0 (z_w (x1 + 1)) h)))) := sorry
theorem e332_27 (x1 : Int) (h : z_M) : f332_27 x1 h = z_ri x1 h := sorry
theorem e334_0 (r0 : Nat) (x1 : Int) (h : z_M) : f334_0 r0 x1 h = z_g (z_isk r0 h [20]) (z_g (z_isk r0 h [20]) (z_g (z_isk r0 (sI h r0 0 (z_w ((hI h r0 0) + x1))) [20]) (z_g (z_isk r0 (sI h r0 0 (z_w ((hI h r0 0) + x1))) [20]) (z_g (z_isk r0 (sI (sI h r0 0 (z_w ((hI h r0 0) + x1))) r0 1 (z_w ((hI (sI h r0 0 (z_w ((hI h r0 0) + x1))) r0 1) + 1))) [20]) (z_g (z_isk r0 (sI (sI h r0 0 (z_w ((hI h r0 0) + x1))) r0 1 (z_w ((hI (sI h r0 0 (z_w ((hI h r0 0) + x1))) r0 1) + 1))) [20]) (z_g (z_isk r0 (sI (sI (sI h r0 0 (z_w ((hI h r0 0) + x1))) r0 1 (z_w ((hI (sI h r0 0 (z_w ((hI h r0 0) + x1))) r0 1) + 1))) r0 2 (z_w ((hI (sI (sI h r0 0 (z_w ((hI h r0 0) + x1))) r0 1 (z_w ((hI (sI h r0 0 (z_w ((hI h r0 0) + x1))) r0 1) + 1))) r0 2) + 1))) [20]) (z_if (¬ (hI (sI (sI (sI h r0 0 (z_w ((hI h r0 0) + x1))) r0 1 (z_w ((hI (sI h r0 0 (z_w ((hI h r0 0) + x1))) r0 1) + 1))) r0 2 (z_w ((hI (sI (sI h r0 0 (z_w ((hI h r0 0) + x1))) r0 1 (z_w ((hI (sI h r0 0 (z_w ((hI h r0 0) + x1))) r0 1) + 1))) r0 2) + 1))) r0 1) = 32) (f334_59 (sI (sI (sI h r0 0 (z_w ((hI h r0 0) + x1))) r0 1 (z_w ((hI (sI h r0 0 (z_w ((hI h r0 0) + x1))) r0 1) + 1))) r0 2 (z_w ((hI (sI (sI h r0 0 (z_w ((hI h r0 0) + x1))) r0 1 (z_w ((hI (sI h r0 0 (z_w ((hI h r0 0) + x1))) r0 1) + 1))) r0 2) + 1)))) (z_g (z_isk r0 (sI (sI (sI h r0 0 (z_w ((hI h r0 0) + x1))) r0 1 (z_w ((hI (sI h r0 0 (z_w ((hI h r0 0) + x1))) r0 1) + 1))) r0 2 (z_w ((hI (sI (sI h r0 0 (z_w ((hI h r0 0) + x1))) r0 1 (z_w ((hI (sI h r0 0 (z_w ((hI h r0 0) + x1))) r0 1) + 1))) r0 2) + 1))) [20]) (z_g (z_isk r0 (sI (sI (sI h r0 0 (z_w ((hI h r0 0) + x1))) r0 1 (z_w ((hI (sI h r0 0 (z_w ((hI h r0 0) + x1))) r0 1) + 1))) r0 2 (z_w ((hI (sI (sI h r0 0 (z_w ((hI h r0 0) + x1))) r0 1 (z_w ((hI (sI h r0 0 (z_w ((hI h r0 0) + x1))) r0 1) + 1))) r0 2) + 1))) [20]) (z_g (z_isk r0 (sI (sI (sI (sI h r0 0 (z_w ((hI h r0 0) + x1))) r0 1 (z_w ((hI (sI h r0 0 (z_w ((hI h r0 0) + x1))) r0 1) + 1))) r0 2 (z_w ((hI (sI (sI h r0 0 (z_w ((hI h r0 0) + x1))) r0 1 (z_w ((hI (sI h r0 0 (z_w ((hI h r0 0) + x1))) r0 1) + 1))) r0 2) + 1))) r0 0 (z_shr (hI (sI (sI (sI h r0 0 (z_w ((hI h r0 0) + x1))) r0 1 (z_w ((hI (sI h r0 0 (z_w ((hI h r0 0) + x1))) r0 1) + 1))) r0 2 (z_w ((hI (sI (sI h r0 0 (z_w ((hI h r0 0) + x1))) r0 1 (z_w ((hI (sI h r0 0 (z_w ((hI h r0 0) + x1))) r0 1) + 1))) r0 2) + 1))) r0 0) 1)) [20]) (z_g (z_isk r0 (sI (sI (sI (sI h r0 0 (z_w ((hI h r0 0) + x1))) r0 1 (z_w ((hI (sI h r0 0 (z_w ((hI h r0 0) + x1))) r0 1) + 1))) r0 2 (z_w ((hI (sI (sI h r0 0 (z_w ((hI h r0 0) + x1))) r0 1 (z_w ((hI (sI h r0 0 (z_w ((hI h r0 0) + x1))) r0 1) + 1))) r0 2) + 1))) r0 0 (z_shr (hI (sI (sI (sI h r0 0 (z_w ((hI h r0 0) + x1))) r0 1 (z_w ((hI (sI h r0 0 (z_w ((hI h r0 0) + x1))) r0 1) + 1))) r0 2 (z_w ((hI (sI (sI h r0 0 (z_w ((hI h r0 0) + x1))) r0 1 (z_w ((hI (sI h r0 0 (z_w ((hI h r0 0) + x1))) r0 1) + 1))) r0 2) + 1))) r0 0) 1)) [20]) (f334_59 (sI (sI (sI (sI (sI h r0 0 (z_w ((hI h r0 0) + x1))) r0 1 (z_w ((hI (sI h r0 0 (z_w ((hI h r0 0) + x1))) r0 1) + 1))) r0 2 (z_w ((hI (sI (sI h r0 0 (z_w ((hI h r0 0) + x1))) r0 1 (z_w ((hI (sI h r0 0 (z_w ((hI h r0 0) + x1))) r0 1) + 1))) r0 2) + 1))) r0 0 (z_shr (hI (sI (sI (sI h r0 0 (z_w ((hI h r0 0) + x1))) r0 1 (z_w ((hI (sI h r0 0 (z_w ((hI h r0 0) + x1))) r0 1) + 1))) r0 2 (z_w ((hI (sI (sI h r0 0 (z_w ((hI h r0 0) + x1))) r0 1 (z_w ((hI (sI h r0 0 (z_w ((hI h r0 0) + x1))) r0 1) + 1))) r0 2) + 1))) r0 0) 1)) r0 1 (z_shr (hI (sI (sI (sI (sI h r0 0 (z_w ((hI h r0 0) + x1))) r0 1 (z_w ((hI (sI h r0 0 (z_w ((hI h r0 0) + x1))) r0 1) + 1))) r0 2 (z_w ((hI (sI (sI h r0 0 (z_w ((hI h r0 0) + x1))) r0 1 (z_w ((hI (sI h r0 0 (z_w ((hI h r0 0) + x1))) r0 1) + 1))) r0 2) + 1))) r0 0 (z_shr (hI (sI (sI (sI h r0 0 (z_w ((hI h r0 0) + x1))) r0 1 (z_w ((hI (sI h r0 0 (z_w ((hI h r0 0) + x1))) r0 1) + 1))) r0 2 (z_w ((hI (sI (sI h r0 0 (z_w ((hI h r0 0) + x1))) r0 1 (z_w ((hI (sI h r0 0 (z_w ((hI h r0 0) + x1))) r0 1) + 1))) r0 2) + 1))) r0 0) 1)) r0 1) 1)))))))))))))) := sorry
theorem e334_59 (h : z_M) : f334_59 h = z_rv h := sorry
theorem e335_0 (r0 : Nat) (h : z_M) : f335_0 r0 h = f335_2 r0 0 h := sorry
theorem e335_2 (r0 : Nat) (x1 : Int) (h : z_M) : f335_2 r0 x1 h = z_if (64 ≤ x1) (f335_34 r0 h) (z_g (z_isk r0 h [21, 22]) (z_g (z_isk (hP h r0 2) h [17]) (z_g (z_isa (hP h (hP h r0 2) 17) h 1000 x1 ∧ z_new (hP h (hP h r0 2) 17)) (z_g (z_isk r0 (sI h (hP h (hP h r0 2) 17) (Int.toNat x1) (-1)) [21, 22]) (z_g (z_isk (hP (sI h (hP h (hP h r0 2) 17) (Int.toNat x1) (-1)) r0 2) (sI h (hP h (hP h r0 2) 17) (Int.toNat x1) (-1)) [17]) (z_g (z_isa (hP (sI h (hP h (hP h r0 2) 17) (Int.toNat x1) (-1)) (hP (sI h (hP h (hP h r0 2) 17) (Int.toNat x1) (-1)) r0 2) 18) (sI h (hP h (hP h r0 2) 17) (Int.toNat x1) (-1)) 1000 x1 ∧ z_new (hP (sI h (hP h (hP h r0 2) 17) (Int.toNat x1) (-1)) (hP (sI h (hP h (hP h r0 2) 17) (Int.toNat x1) (-1)) r0 2) 18)) (f335_2 r0 (z_w (x1 + 1)) (sI (sI h (hP h (hP h r0 2) 17) (Int.toNat x1) (-1)) (hP (sI h (hP h (hP h r0 2) 17) (Int.toNat x1) (-1)) (hP (sI h (hP h (hP h r0 2) 17) (Int.toNat x1) (-1)) r0 2) 18) (Int.toNat x1) 0)))))))) := sorry
theorem e335_34 (r0 : Nat) (h : z_M) : f335_34 r0 h = f335_36 r0 0 h := sorry
theorem e335_36 (r0 : Nat) (x1 : Int) (h : z_M) : f335_36 r0 x1 h = z_g (z_isk r0 h [21, 22]) (z_g (1000 ≤ hK h (hP h r0 0)) (z_if ((hN h (hP h r0 0) : Int) ≤ x1) (f335_70 h) (z_g (z_isk r0 h [21, 22]) (z_g (z_isk r0 h [21, 22]) (z_g (z_isa (hP h r0 0) h 1000 x1) (z_g (z_isa (hP h r0 1) h 1000 x1 ∧ z_new (hP h r0 1)) (z_g (z_isk r0 (sI h (hP h r0 1) (Int.toNat x1) (hI h (hP h r0 0) (Int.toNat x1))) [21, 22]) (z_g (z_isa (hP (sI h (hP h r0 1) (Int.toNat x1) (hI h (hP h r0 0) (Int.toNat x1))) r0 0) (sI h (hP h r0 1) (Int.toNat x1) (hI h (hP h r0 0) (Int.toNat x1))) 1000 x1 ∧ z_new (hP (sI h (hP h r0 1) (Int.toNat x1) (hI h (hP h r0 0) (Int.toNat x1))) r0 0)) (f335_36 r0 (z_w (x1 + 1)) (sI (sI h (hP h r0 1) (Int.toNat x1) (hI h (hP h r0 0) (Int.toNat x1))) (hP (sI h (hP h r0 1) (Int.toNat x1) (hI h (hP h r0 0) (Int.toNat x1))) r0 0) (Int.toNat x1) 0)))))))))) := sorry
theorem e335_70 (h : z_M) : f335_70 h = z_rv h := sorry
theorem e336_0 (r0 : Nat) (x1 x2 : Int) (h : z_M) : f336_0 r0 x1 x2 h = z_g (z_isk r0 h [21, 22]) (z_ki (f340_0 r0 (z_w (x1 - 1)) x2 h) (fun v1 h1 => z_g (z_isk r0 h1 [21, 22]) (z_ki (f340_0 r0 (z_w (x1 - 2)) x2 h1) (fun v2 h2 => z_g (z_isk r0 h2 [21, 22]) (z_ki (f340_0 r0 (z_w (x1 - 1)) (z_w (x2 - 1)) h2) (fun v3 h3 => z_g (z_isk r0 h3 [21, 22]) (z_ki (f340_0 r0 x1 (z_w (x2 - 1)) h3) (fun v4 h4 => z_g (z_isk r0 h4 [21, 22]) (z_ki (f340_0 r0 (z_w (x1 + 1)) (z_w (x2 - 1)) h4) (fun v5 h5 => z_g (z_isk r0 h5 [21, 22]) (z_g (z_isa (hP h5 r0 1) h5 1000 (z_w ((z_w (16 * x2)) + x1))) (z_ri (z_or (z_or (z_or (z_or (z_or (z_shl v1 5) (z_shl v2 4)) (z_shl v3 3)) (z_shl v4 2)) (z_shl v5 1)) (hI h5 (hP h5 r0 1) (Int.toNat (z_w ((z_w (16 * x2)) + x1))))) h5))) z_ex)) z_ex)) z_ex)) z_ex)) z_ex) := sorry
theorem e337_0 (r0 : Nat) (h : z_M) : f337_0 r0 h = z_g (z_isk r0 h [21, 22]) (z_kv (f335_0 r0 h) (fun h1 => z_g (z_isk r0 h1 [21, 22]) (z_kv (f335_0 r0 h1) (fun h2 => z_g (z_isk r0 h2 [21, 22]) (z_g (z_isk (hP h2 r0 2) h2 [17]) (z_g (z_isk (hP h2 (hP h2 r0 2) 2) h2 [18]) (z_ki (f323_0 (hP h2 (hP h2 r0 2) 2) h2) (fun v3 h3 => f337_21 r0 (z_w (v3 - 1)) h3) z_ex)))) z_ex)) z_ex) := sorry
theorem e337_21 (r0 : Nat) (x1 : Int) (h : z_M) : f337_21 r0 x1 h = z_if (x1 < 0) (f337_170 h) (z_g (z_isk r0 h [21, 22]) (z_kv (f335_0 r0 h) (fun h1 => f337_31 r0 x1 0 h1) z_ex)) := sorry
theorem e337_31 (r0 : Nat) (x1 x2 : Int) (h : z_M) : f337_31 r0 x1 x2 h = z_g (z_isk r0 h [21, 22]) (z_g (z_isk (hP h r0 2) h [17]) (z_g (z_isk r0 h [21, 22]) (z_g (z_isk (hP h r0 2) h [17]) (z_if ((z_w ((hI h (hP h r0 2) 5) * (hI h (hP h r0 2) 6))) ≤ x2) (f337_164 r0 x1 h) (z_g (z_isk r0 h [21, 22]) (z_g (z_isk (hP h r0 2) h [17]) (z_g (¬ (hI h (hP h r0 2) 5) = 0) (z_g (z_isk r0 h [21, 22]) (z_g (z_isk (hP h r0 2) h [17]) (z_g (¬ (hI h (hP h r0 2) 5) = 0) (z_g (z_isk r0 h [21, 22]) (z_g (z_isk (hP h r0 2) h [17]) (z_ki (f306_0 (hP h r0 2) (z_rem x2 (hI h (hP h r0 2) 5)) (z_div x2 (hI h (hP h r0 2) 5)) h) (fun v1 h1 => z_if (v1 = 0) (f337_87 r0 x1 x2 (z_rem x2 (hI h (hP h r0 2) 5)) (z_div x2 (hI h (hP h r0 2) 5)) h1) (f337_158 r0 x1 x2 h1)) z_ex))))))))))))) := sorry
theorem e337_87 (r0 : Nat) (x1 x2 x3 x4 : Int) (h : z_M) : f337_87 r0 x1 x2 x3 x4 h = z_g (z_isk r0 h [21, 22]) (z_ki (f336_0 r0 x3 x4 h) (fun v1 h1 => z_g (z_isk r0 h1 [21, 22]) (z_g (z_isk (hP h1 r0 2) h1 [17]) (z_g (z_isa (hP h1 (hP h1 r0 2) 17) h1 1000 v1) (z_if (0 ≤ (hI h1 (hP h1 (hP h1 r0 2) 17) (Int.toNat v1))) (f337_122 r0 x1 x2 x3 x4 v1 r0 (z_w ((z_w (16 * x4)) + x3)) x1 h1) (f337_123 r0 x1 x2 x3 x4 v1 r0 (z_w ((z_w (16 * x4)) + x3)) x1 0 h1))))) z_ex) := sorry
theorem e337_122 (r0 : Nat) (x1 x2 x3 x4 x5 : Int) (q0 : Nat) (s1 s2 : Int) (h : z_M) : f337_122 r0 x1 x2 x3 x4 x5 q0 s1 s2 h = f337_123 r0 x1 x2 x3 x4 x5 q0 s1 s2 1 h := sorry
theorem e337_123 (r0 : Nat) (x1 x2 x3 x4 x5 : Int) (q0 : Nat) (s1 s2 s3 : Int) (h : z_M) : f337_123 r0 x1 x2 x3 x4 x5 q0 s1 s2 s3 h = z_if (hK h q0 = 21) (z_ki (f341_0 q0 s1 s2 s3 h) (fun v3 h3 => z_if (¬ v3 = (-1)) (f337_136 r0 x1 x2 x3 x4 x5 v3 h3) (z_g (z_01 0) (z_ri 0 h3))) z_ex) (z_if (hK h q0 = 22) (z_ki (f347_0 q0 s1 s2 s3 h) (fun v1 h1 => z_if (¬ v1 = (-1)) (f337_136 r0 x1 x2 x3 x4 x5 v1 h1) (z_g (z_01 0) (z_ri 0 h1))) z_ex) (none)) := sorry
theorem e337_136 (r0 : Nat) (x1 x2 x3 x4 x5 x6 : Int) (h : z_M) : f337_136 r0 x1 x2 x3 x4 x5 x6 h = z_g (z_isk r0 h [21, 22]) (z_g (z_isa (hP h r0 0) h 1000 (z_w ((z_w (16 * x4)) + x3)) ∧ z_new (hP h r0 0)) (z_g (z_isk r0 (sI h (hP h r0 0) (Int.toNat (z_w ((z_w (16 * x4)) + x3))) x6) [21, 22]) (z_kv (f339_0 r0 x5 x6 (sI h (hP h r0 0) (Int.toNat (z_w ((z_w (16 * x4)) + x3))) x6)) (fun h1 => f337_158 r0 x1 x2 h1) z_ex))) := sorry
theorem e337_158 (r0 : Nat) (x1 x2 : Int) (h : z_M) : f337_158 r0 x1 x2 h = f337_31 r0 x1 (z_w (x2 + 1)) h := sorry
theorem e337_164 (r0 : Nat) (x1 : Int) (h : z_M) : f337_164 r0 x1 h = f337_21 r0 (z_w (x1 + (-1))) h := sorry
theorem e337_170 (h : z_M) : f337_170 h = z_g (z_01 1) (z_ri 1 h) := sorry
theorem e339_0 (r0 : Nat) (x1 x2 : Int) (h : z_M) : f339_0 r0 x1 x2 h = z_g (z_isk r0 h [21, 22]) (z_g (z_isk (hP h r0 2) h [17]) (z_g (z_isa (hP h (hP h r0 2) 17) h 1000 x1) (z_g (z_isk r0 h [21, 22]) (z_g (z_isk (hP h r0 2) h [17]) (z_if (¬ x2 = 1) (f339_44 r0 x1 (hI h (hP h (hP h r0 2) 17) (Int.toNat x1)) (hP h (hP h r0 2) 17) x1 h) (z_if (0 ≤ (hI h (hP h (hP h r0 2) 17) (Int.toNat x1))) (f339_35 r0 x1 (hI h (hP h (hP h r0 2) 17) (Int.toNat x1)) (hP h (hP h r0 2) 17) x1 7 h) (f339_38 r0 x1 (hP h (hP h r0 2) 17) x1 7 (z_w ((hI h (hP h (hP h r0 2) 17) (Int.toNat x1)) + 2)) h))))))) := sorry
theorem e339_35 (r0 : Nat) (x1 x3 : Int) (q0 : Nat) (s1 s2 : Int) (h : z_M) : f339_35 r0 x1 x3 q0 s1 s2 h = f339_38 r0 x1 q0 s1 s2 (z_w (x3 + 1)) h := sorry
theorem e339_38 (r0 : Nat) (x1 : Int) (q0 : Nat) (s1 s2 s3 : Int) (h : z_M) : f339_38 r0 x1 q0 s1 s2 s3 h = z_ki (f2_0 s2 s3 h) (fun v1 h1 => f339_62 r0 x1 q0 s1 v1 h1) z_ex := sorry
theorem e339_44 (r0 : Nat) (x1 x3 : Int) (q0 : Nat) (s1 : Int) (h : z_M) : f339_44 r0 x1 x3 q0 s1 h = z_if (0 ≤ x3) (f339_56 r0 x1 x3 q0 s1 (-8) h) (f339_59 r0 x1 q0 s1 (-8) (z_w (x3 - 1)) h) := sorry
theorem e339_56 (r0 : Nat) (x1 x3 : Int) (q0 : Nat) (s1 s2 : Int) (h : z_M) : f339_56 r0 x1 x3 q0 s1 s2 h = f339_59 r0 x1 q0 s1 s2 (z_w (x3 - 2)) h := sorry
theorem e339_59 (r0 : Nat) (x1 : Int) (q0 : Nat) (s1 s2 s3 : Int) (h : z_M) : f339_59 r0 x1 q0 s1 s2 s3 h = z_ki (f1_0 s2 s3 h) (fun v1 h1 => f339_62 r0 x1 q0 s1 v1 h1) z_ex := sorry
theorem e339_62 (r0 : Nat) (x1 : Int) (q0 : Nat) (s1 s2 : Int) (h : z_M) : f339_62 r0 x1 q0 s1 s2 h = z_g (z_isa q0 h 1000 s1 ∧ z_new q0) (z_g (z_isk r0 (sI h q0 (Int.toNat s1) s2) [21, 22]) (z_g (z_isk (hP (sI h q0 (Int.toNat s1) s2) r0 2) (sI h q0 (Int.toNat s1) s2) [17]) (z_g (z_isa (hP (sI h q0 (Int.toNat s1) s2) (hP (sI h q0 (Int.toNat s1) s2) r0 2) 18) (sI h q0 (Int.toNat s1) s2) 1000 x1) (z_g (z_isa (hP (sI h q0 (Int.toNat s1) s2) (hP (sI h q0 (Int.toNat s1) s2) r0 2) 18) (sI h q0 (Int.toNat s1) s2) 1000 x1 ∧ z_new (hP (sI h q0 (Int.toNat s1) s2) (hP (sI h q0 (Int.toNat s1) s2) r0 2) 18)) (z_rv (sI (sI h q0 (Int.toNat s1) s2) (hP (sI h q0 (Int.toNat s1) s2) (hP (sI h q0 (Int.toNat s1) s2) r0 2) 18) (Int.toNat x1) (z_w ((hI (sI h q0 (Int.toNat s1) s2) (hP (sI h q0 (Int.toNat s1) s2) (hP (sI h q0 (Int.toNat s1) s2) r0 2) 18) (Int.toNat x1)) + 1)))))))) := sorry
theorem e340_0 (r0 : Nat) (x1 x2 : Int) (h : z_M) : f340_0 r0 x1 x2 h = z_g (z_isk r0 h [21, 22]) (z_g (z_isk (hP h r0 2) h [17]) (z_ki (f317_0 x1 0 (z_w ((hI h (hP h r0 2) 5) - 1)) h) (fun v1 h1 => z_if (v1 = 0) (f340_35 h1) (z_if (x2 < 0) (f340_35 h1) (z_g (z_isk r0 h1 [21, 22]) (z_g (z_isa (hP h1 r0 0) h1 1000 (z_w ((z_w (16 * x2)) + x1))) (f340_36 (hI h1 (hP h1 r0 0) (Int.toNat (z_w ((z_w (16 * x2)) + x1)))) h1))))) z_ex)) := sorry
theorem e340_35 (h : z_M) : f340_35 h = f340_36 0 h := sorry
theorem e340_36 (s0 : Int) (h : z_M) : f340_36 s0 h = z_ri s0 h := sorry
theorem e341_0 (r0 : Nat) (x1 x2 x3 : Int) (h : z_M) : f341_0 r0 x1 x2 x3 h = z_g (z_isk r0 h [21]) (z_g (z_isk (hP h r0 6) h [17]) (z_g (z_isa (hP h (hP h r0 6) 11) h 1000 x1) (z_g (z_isk r0 h [21]) (z_g (z_isk (hP h r0 6) h [17]) (z_g (z_isa (hP h (hP h r0 6) 11) h 1000 x1) (z_if (¬ (z_and (z_shr (z_xor (hI h (hP h (hP h r0 6) 11) (Int.toNat x1)) (z_shr (hI h (hP h (hP h r0 6) 11) (Int.toNat x1)) 1)) x2) 1) = x3) (f341_46 r0 (z_and (z_shr (z_xor (hI h (hP h (hP h r0 6) 11) (Int.toNat x1)) (z_shr (hI h (hP h (hP h r0 6) 11) (Int.toNat x1)) 1)) x2) 1) h) (z_g (z_isk r0 h [21]) (z_g (z_isk r0 h [21]) (f341_50 (z_and (z_shr (z_xor (hI h (hP h (hP h r0 6) 11) (Int.toNat x1)) (z_shr (hI h (hP h (hP h r0 6) 11) (Int.toNat x1)) 1)) x2) 1) (sI h r0 3 (z_w ((hI h r0 3) + 1)))))))))))) := sorry
theorem e341_46 (r0 : Nat) (x4 : Int) (h : z_M) : f341_46 r0 x4 h = z_g (z_isk r0 h [21]) (z_kv (f345_0 r0 h) (fun h1 => f341_50 x4 h1) z_ex) := sorry
theorem e341_50 (x4 : Int) (h : z_M) : f341_50 x4 h = z_ri x4 h := sorry
theorem e343_0 (r0 : Nat) (h : z_M) : f343_0 r0 h = z_g (z_isk r0 h [21]) (z_g (z_isk r0 (sI h r0 3 0) [21]) (z_g (z_isk r0 (sI (sI h r0 3 0) r0 5 0) [21]) (z_g (z_isk (hP (sI (sI h r0 3 0) r0 5 0) r0 6) (sI (sI h r0 3 0) r0 5 0) [17]) (z_g (z_isk r0 (sI (sI (sI h r0 3 0) r0 5 0) (hP (sI (sI h r0 3 0) r0 5 0) r0 6) 20 0) [21]) (z_g (z_isk (hP (sI (sI (sI h r0 3 0) r0 5 0) (hP (sI (sI h r0 3 0) r0 5 0) r0 6) 20 0) r0 6) (sI (sI (sI h r0 3 0) r0 5 0) (hP (sI (sI h r0 3 0) r0 5 0) r0 6) 20 0) [17]) (z_g (z_isk (hP (sI (sI (sI h r0 3 0) r0 5 0) (hP (sI (sI h r0 3 0) r0 5 0) r0 6) 20 0) (hP (sI (sI (sI h r0 3 0) r0 5 0) (hP (sI (sI h r0 3 0) r0 5 0) r0 6) 20 0) r0 6) 16) (sI (sI (sI h r0 3 0) r0 5 0) (hP (sI (sI h r0 3 0) r0 5 0) r0 6) 20 0) [20]) (z_kv (f331_0 (hP (sI (sI (sI h r0 3 0) r0 5 0) (hP (sI (sI h r0 3 0) r0 5 0) r0 6) 20 0) (hP (sI (sI (sI h r0 3 0) r0 5 0) (hP (sI (sI h r0 3 0) r0 5 0) r0 6) 20 0) r0 6) 16) (sI (sI (sI h r0 3 0) r0 5 0) (hP (sI (sI h r0 3 0) r0 5 0) r0 6) 20 0)) (fun h1 => z_g (z_isk r0 h1 [21]) (z_ki (f337_0 r0 h1) (fun v2 h2 => z_g (z_isk r0 h2 [21]) (z_kv (f345_0 r0 h2) (fun h3 => z_g (z_isk r0 h3 [21]) (z_g (z_isk (hP h3 r0 6) h3 [17]) (z_ri (hI h3 (hP h3 r0 6) 20) h3))) z_ex)) z_ex)) z_ex))))))) := sorry
theorem e344_0 (r0 : Nat) (x1 : Int) (h : z_M) : f344_0 r0 x1 h = z_g (z_isk r0 h [21]) (z_if (¬ (hI h r0 5) = 0) (f344_36 r0 x1 h) (z_g (z_isk r0 h [21]) (z_g (z_isk (hP h r0 6) h [17]) (z_g (z_isk r0 h [21]) (z_g (z_isk (hP h r0 6) h [17]) (z_g (z_isk (hP h r0 6) h [17]) (z_g (z_isz (hP h (hP h r0 6) 19) (sI h (hP h r0 6) 20 (z_w ((hI h (hP h r0 6) 20) + 1))) (hI h (hP h r0 6) 20) ∧ z_new (hP h (hP h r0 6) 19) ∧ (hK (sI h (hP h r0 6) 20 (z_w ((hI h (hP h r0 6) 20) + 1))) (hP h (hP h r0 6) 19) = 1002 ∨ z_01 0)) (z_g (z_isk r0 (sI (sI h (hP h r0 6) 20 (z_w ((hI h (hP h r0 6) 20) + 1))) (hP h (hP h r0 6) 19) (Int.toNat (hI h (hP h r0 6) 20)) (z_i8 0)) [21]) (f344_36 r0 x1 (sI (sI (sI h (hP h r0 6) 20 (z_w ((hI h (hP h r0 6) 20) + 1))) (hP h (hP h r0 6) 19) (Int.toNat (hI h (hP h r0 6) 20)) (z_i8 0)) r0 5 8)))))))))) := sorry
theorem e344_36 (r0 : Nat) (x1 : Int) (h : z_M) : f344_36 r0 x1 h = z_g (z_isk r0 h [21]) (z_g (z_isk r0 h [21]) (z_g (z_isk r0 (sI h r0 5 (z_w ((hI h r0 5) - 1))) [21]) (z_g (z_isk (hP (sI h r0 5 (z_w ((hI h r0 5) - 1))) r0 6) (sI h r0 5 (z_w ((hI h r0 5) - 1))) [17]) (z_g (z_isk r0 (sI h r0 5 (z_w ((hI h r0 5) - 1))) [21]) (z_g (z_isk (hP (sI h r0 5 (z_w ((hI h r0 5) - 1))) r0 6) (sI h r0 5 (z_w ((hI h r0 5) - 1))) [17]) (z_g (z_isz (hP (sI h r0 5 (z_w ((hI h r0 5) - 1))) (hP (sI h r0 5 (z_w ((hI h r0 5) - 1))) r0 6) 19) (sI h r0 5 (z_w ((hI h r0 5) - 1))) (z_w ((hI (sI h r0 5 (z_w ((hI h r0 5) - 1))) (hP (sI h r0 5 (z_w ((hI h r0 5) - 1))) r0 6) 20) - 1))) (z_g (z_isk r0 (sI h r0 5 (z_w ((hI h r0 5) - 1))) [21]) (z_g (z_isz (hP (sI h r0 5 (z_w ((hI h r0 5) - 1))) (hP (sI h r0 5 (z_w ((hI h r0 5) - 1))) r0 6) 19) (sI h r0 5 (z_w ((hI h r0 5) - 1))) (z_w ((hI (sI h r0 5 (z_w ((hI h r0 5) - 1))) (hP (sI h r0 5 (z_w ((hI h r0 5) - 1))) r0 6) 20) - 1)) ∧ z_new (hP (sI h r0 5 (z_w ((hI h r0 5) - 1))) (hP (sI h r0 5 (z_w ((hI h r0 5) - 1))) r0 6) 19) ∧ (hK (sI h r0 5 (z_w ((hI h r0 5) - 1))) (hP (sI h r0 5 (z_w ((hI h r0 5) - 1))) (hP (sI h r0 5 (z_w ((hI h r0 5) - 1))) r0 6) 19) = 1002 ∨ z_01 (z_i8 (z_or (hI (sI h r0 5 (z_w ((hI h r0 5) - 1))) (hP (sI h r0 5 (z_w ((hI h r0 5) - 1))) (hP (sI h r0 5 (z_w ((hI h r0 5) - 1))) r0 6) 19) (Int.toNat (z_w ((hI (sI h r0 5 (z_w ((hI h r0 5) - 1))) (hP (sI h r0 5 (z_w ((hI h r0 5) - 1))) r0 6) 20) - 1)))) (z_i8 (z_shl x1 (hI (sI h r0 5 (z_w ((hI h r0 5) - 1))) r0 5))))))) (z_rv (sI (sI h r0 5 (z_w ((hI h r0 5) - 1))) (hP (sI h r0 5 (z_w ((hI h r0 5) - 1))) (hP (sI h r0 5 (z_w ((hI h r0 5) - 1))) r0 6) 19) (Int.toNat (z_w ((hI (sI h r0 5 (z_w ((hI h r0 5) - 1))) (hP (sI h r0 5 (z_w ((hI h r0 5) - 1))) r0 6) 20) - 1))) (z_i8 (z_i8 (z_or (hI (sI h r0 5 (z_w ((hI h r0 5) - 1))) (hP (sI h r0 5 (z_w ((hI h r0 5) - 1))) (hP (sI h r0 5 (z_w ((hI h r0 5) - 1))) r0 6) 19) (Int.toNat (z_w ((hI (sI h r0 5 (z_w ((hI h r0 5) - 1))) (hP (sI h r0 5 (z_w ((hI h r0 5) - 1))) r0 6) 20) - 1)))) (z_i8 (z_shl x1 (hI (sI h r0 5 (z_w ((hI h r0 5) - 1))) r0 5)))))))))))))))) := sorry
theorem e345_0 (r0 : Nat) (h : z_M) : f345_0 r0 h = z_g (z_isk r0 h [21]) (z_g (z_isk (hP h r0 6) h [17]) (z_g (z_isk (hP h (hP h r0 6) 16) h [20]) (z_ki (f332_0 (hP h (hP h r0 6) 16) h) (fun v1 h1 => z_g (z_isk r0 h1 [21]) (z_ki (f2_0 12 (z_shr (hI h1 r0 3) v1) h1) (fun v2 h2 => f345_25 r0 v1 v2 0 h2) z_ex)) z_ex))) := sorry
theorem e345_25 (r0 : Nat) (x1 x2 x3 : Int) (h : z_M) : f345_25 r0 x1 x2 x3 h = z_if (x2 ≤ x3) (f345_41 r0 x1 x2 h) (z_g (z_isk r0 h [21]) (z_kv (f344_0 r0 1 h) (fun h1 => f345_25 r0 x1 x2 (z_w (x3 + 1)) h1) z_ex)) := sorry
theorem e345_41 (r0 : Nat) (x1 x2 : Int) (h : z_M) : f345_41 r0 x1 x2 h = z_if (¬ x2 = 12) (f345_60 r0 x1 h) (z_g (z_isk r0 h [21]) (z_g (z_isk r0 h [21]) (z_kv (f346_0 r0 (hI h r0 3) 13 h) (fun h1 => f345_74 r0 h1) z_ex))) := sorry
theorem e345_60 (r0 : Nat) (x1 : Int) (h : z_M) : f345_60 r0 x1 h = z_g (z_isk r0 h [21]) (z_kv (f344_0 r0 0 h) (fun h1 => z_g (z_isk r0 h1 [21]) (z_g (z_isk r0 h1 [21]) (z_kv (f346_0 r0 (hI h1 r0 3) x1 h1) (fun h2 => f345_74 r0 h2) z_ex))) z_ex) := sorry
theorem e345_74 (r0 : Nat) (h : z_M) : f345_74 r0 h = z_g (z_isk r0 h [21]) (z_g (z_isk (hP h r0 6) h [17]) (z_g (z_isk r0 h [21]) (z_g (z_isk (hP h (hP h r0 6) 16) h [20]) (z_kv (f334_0 (hP h (hP h r0 6) 16) (hI h r0 3) h) (fun h1 => z_g (z_isk r0 h1 [21]) (z_rv (sI h1 r0 3 0))) z_ex)))) := sorry
theorem e346_0 (r0 : Nat) (x1 x2 : Int) (h : z_M) : f346_0 r0 x1 x2 h = f346_4 r0 x1 (z_w (x2 - 1)) h := sorry
theorem e346_4 (r0 : Nat) (x1 x3 : Int) (h : z_M) : f346_4 r0 x1 x3 h = z_if (x3 < 0) (f346_23 h) (z_g (z_isk r0 h [21]) (z_kv (f344_0 r0 (z_and (z_shr x1 x3) 1) h) (fun h1 => f346_4 r0 x1 (z_w (x3 + (-1))) h1) z_ex)) := sorry
theorem e346_23 (h : z_M) : f346_23 h = z_rv h := sorry
theorem e347_0 (r0 : Nat) (x1 x2 x3 : Int) (h : z_M) : f347_0 r0 x1 x2 x3 h = z_g (z_isk r0 h [22]) (z_ki (f351_0 r0 h) (fun v1 h1 => z_if (¬ v1 = 0) (f347_9 r0 x1 x2 x3 h1) (z_ri (-1) h1)) z_ex) := sorry
theorem e347_9 (r0 : Nat) (x1 x2 x3 : Int) (h : z_M) : f347_9 r0 x1 x2 x3 h = z_g (z_isk r0 h [22]) (z_g (z_isk r0 h [22]) (z_g (z_isk r0 (sI h r0 7 (z_w ((hI h r0 7) - 1))) [22]) (z_if ((hI (sI h r0 7 (z_w ((hI h r0 7) - 1))) r0 5) ≤ 0) (f347_30 r0 x1 x2 x3 (sI h r0 7 (z_w ((hI h r0 7) - 1)))) (f347_31 r0 x1 x2 x3 1 (sI h r0 7 (z_w ((hI h r0 7) - 1))))))) := sorry
theorem e347_30 (r0 : Nat) (x1 x2 x3 : Int) (h : z_M) : f347_30 r0 x1 x2 x3 h = f347_31 r0 x1 x2 x3 0 h := sorry
theorem e347_31 (r0 : Nat) (x1 x2 x3 s0 : Int) (h : z_M) : f347_31 r0 x1 x2 x3 s0 h = z_g (z_isk r0 h [22]) (z_if (s0 = 0) (f347_47 r0 x1 x2 x3 s0 r0 (hI h r0 5) h) (f347_48 r0 x1 x2 x3 s0 r0 (hI h r0 5) 1 h)) := sorry
theorem e347_47 (r0 : Nat) (x1 x2 x3 x4 : Int) (q0 : Nat) (s1 : Int) (h : z_M) : f347_47 r0 x1 x2 x3 x4 q0 s1 h = f347_48 r0 x1 x2 x3 x4 q0 s1 0 h := sorry
theorem e347_48 (r0 : Nat) (x1 x2 x3 x4 : Int) (q0 : Nat) (s1 s2 : Int) (h : z_M) : f347_48 r0 x1 x2 x3 x4 q0 s1 s2 h = z_g (z_isk q0 h [22]) (z_g (z_isk r0 (sI h q0 5 (z_w (s1 - s2))) [22] ∧ z_01 x4) (z_if (x4 = 0) (f347_67 r0 x1 x2 x3 (sI (sI h q0 5 (z_w (s1 - s2))) r0 6 x4)) (f347_70 r0 x1 x2 x3 (sI (sI h q0 5 (z_w (s1 - s2))) r0 6 x4)))) := sorry
theorem e347_67 (r0 : Nat) (x1 x2 x3 : Int) (h : z_M) : f347_67 r0 x1 x2 x3 h = f347_70 r0 x1 x2 (z_w (1 - x3)) h := sorry
theorem e347_70 (r0 : Nat) (x1 x2 s0 : Int) (h : z_M) : f347_70 r0 x1 x2 s0 h = z_g (z_isk r0 h [22]) (z_g (z_isa (hP h r0 3) h 1000 x1) (z_g (z_isk r0 h [22]) (z_g (z_isa (hP h r0 3) h 1000 x1) (z_g (z_isa (hP h r0 3) h 1000 x1 ∧ z_new (hP h r0 3)) (z_ri s0 (sI h (hP h r0 3) (Int.toNat x1) (z_or (hI h (hP h r0 3) (Int.toNat x1)) (z_shl (z_xor s0 (z_and (z_shr (hI h (hP h r0 3) (Int.toNat x1)) (z_w (x2 + 1))) 1)) x2)))))))) := sorry
theorem e348_0 (r0 : Nat) (h : z_M) : f348_0 r0 h = z_g (z_isk r0 h [22]) (z_ki (f351_0 r0 h) (fun v1 h1 => z_if (¬ v1 = 0) (f348_9 r0 h1) (z_g (z_01 0) (z_ri 0 h1))) z_ex) := sorry
theorem e348_9 (r0 : Nat) (h : z_M) : f348_9 r0 h = z_g (z_isk r0 h [22]) (z_g (z_isk (hP h r0 9) h [17]) (z_g (z_isk r0 h [22]) (z_if (¬ (z_w ((hI h (hP h r0 9) 22) - (z_shr (z_w ((hI h r0 4) + 7)) 3))) = 0) (f348_33 r0 h) (f348_34 r0 1 h)))) := sorry
theorem e348_33 (r0 : Nat) (h : z_M) : f348_33 r0 h = f348_34 r0 0 h := sorry
theorem e348_34 (r0 : Nat) (s0 : Int) (h : z_M) : f348_34 r0 s0 h = f348_35 r0 s0 h := sorry
theorem e348_35 (r0 : Nat) (x1 : Int) (h : z_M) : f348_35 r0 x1 h = z_g (z_isk r0 h [22]) (z_if ((z_and (hI h r0 4) 7) = 0) (f348_65 r0 x1 h) (z_if (x1 = 0) (f348_65 r0 x1 h) (z_g (z_isk r0 h [22]) (z_ki (f352_0 r0 h) (fun v1 h1 => z_if (¬ v1 = 0) (f348_60 r0 h1) (f348_61 r0 1 h1)) z_ex)))) := sorry
theorem e348_60 (r0 : Nat) (h : z_M) : f348_60 r0 h = f348_61 r0 0 h := sorry
theorem e348_61 (r0 : Nat) (s0 : Int) (h : z_M) : f348_61 r0 s0 h = f348_35 r0 s0 h := sorry
theorem e348_65 (r0 : Nat) (x1 : Int) (h : z_M) : f348_65 r0 x1 h = z_if (x1 = 0) (f348_74 r0 r0 h) (f348_75 r0 r0 0 h) := sorry
theorem e348_74 (r0 q0 : Nat) (h : z_M) : f348_74 r0 q0 h = f348_75 r0 q0 3 h := sorry
theorem e348_75 (r0 q0 : Nat) (s1 : Int) (h : z_M) : f348_75 r0 q0 s1 h = z_g (z_isk q0 h [22]) (f348_80 r0 0 (sI h q0 8 s1)) := sorry
theorem e348_80 (r0 : Nat) (x2 : Int) (h : z_M) : f348_80 r0 x2 h = z_g (z_isk r0 h [22]) (z_g (1000 ≤ hK h (hP h r0 3)) (z_if ((hN h (hP h r0 3) : Int) ≤ x2) (f348_130 r0 h) (z_g (z_isk r0 h [22]) (z_if (¬ (hI h r0 8) = 0) (f348_130 r0 h) (z_g (z_isk r0 h [22]) (z_g (z_isa (hP h r0 3) h 1000 x2) (z_g (z_isk r0 h [22]) (z_g (z_isk (hP h r0 9) h [17]) (z_g (z_isk (hP h (hP h r0 9) 2) h [18]) (z_if ((hI h (hP h (hP h r0 9) 2) 3) ≤ (hI h (hP h r0 3) (Int.toNat x2))) (f348_120 r0 x2 r0 h) (f348_121 r0 x2 r0 0 h))))))))))) := sorry
theorem e348_120 (r0 : Nat) (x2 : Int) (q0 : Nat) (h : z_M) : f348_120 r0 x2 q0 h = f348_121 r0 x2 q0 4 h := sorry
theorem e348_121 (r0 : Nat) (x2 : Int) (q0 : Nat) (s1 : Int) (h : z_M) : f348_121 r0 x2 q0 s1 h = z_g (z_isk q0 h [22]) (f348_80 r0 (z_w (x2 + 1)) (sI h q0 8 s1)) := sorry
theorem e348_130 (r0 : Nat) (h : z_M) : f348_130 r0 h = z_g (z_isk r0 h [22]) (z_if (¬ (hI h r0 8) = 0) (f348_141 h) (f348_142 1 h)) := sorry
theorem e348_141 (h : z_M) : f348_141 h = f348_142 0 h := sorry
theorem e348_142 (s0 : Int) (h : z_M) : f348_142 s0 h = z_g (z_01 s0) (z_ri s0 h) := sorry
theorem e349_0 (r0 : Nat) (h : z_M) : f349_0 r0 h = f349_4 r0 0 0 h := sorry
theorem e349_4 (r0 : Nat) (x1 x2 : Int) (h : z_M) : f349_4 r0 x1 x2 h = z_g (z_isk r0 h [22]) (z_g (z_isk (hP h r0 9) h [17]) (z_g (z_isk r0 h [22]) (z_g (z_isk (hP h r0 9) h [17]) (z_if ((z_w ((hI h (hP h r0 9) 5) * (hI h (hP h r0 9) 6))) ≤ x2) (f349_65 r0 x1 h) (z_g (z_isk r0 h [22]) (z_g (z_isk r0 h [22]) (z_g (z_isk (hP h r0 9) h [17]) (z_g (¬ (hI h (hP h r0 9) 5) = 0) (z_g (z_isk r0 h [22]) (z_g (z_isk (hP h r0 9) h [17]) (z_g (¬ (hI h (hP h r0 9) 5) = 0) (z_g (z_isk (hP h r0 9) h [17]) (z_ki (f306_0 (hP h r0 9) (z_rem x2 (hI h (hP h r0 9) 5)) (z_div x2 (hI h (hP h r0 9) 5)) h) (fun v1 h1 => z_if (v1 = 0) (f349_56 r0 x2 x1 h1) (f349_57 r0 x2 x1 0 h1)) z_ex))))))))))))) := sorry
theorem e349_56 (r0 : Nat) (x2 s0 : Int) (h : z_M) : f349_56 r0 x2 s0 h = f349_57 r0 x2 s0 1 h := sorry
theorem e349_57 (r0 : Nat) (x2 s0 s1 : Int) (h : z_M) : f349_57 r0 x2 s0 s1 h = f349_4 r0 (z_w (s0 + s1)) (z_w (x2 + 1)) h := sorry
theorem e349_65 (r0 : Nat) (x1 : Int) (h : z_M) : f349_65 r0 x1 h = f349_67 r0 x1 0 h := sorry
theorem e349_67 (r0 : Nat) (x1 x2 : Int) (h : z_M) : f349_67 r0 x1 x2 h = z_g (z_isk r0 h [22]) (z_g (1000 ≤ hK h (hP h r0 3)) (z_if ((hN h (hP h r0 3) : Int) ≤ x2) (f349_89 r0 x1 h) (z_g (z_isk r0 h [22]) (z_g (z_isa (hP h r0 3) h 1000 x2 ∧ z_new (hP h r0 3)) (f349_67 r0 x1 (z_w (x2 + 1)) (sI h (hP h r0 3) (Int.toNat x2) 0)))))) := sorry
theorem e349_89 (r0 : Nat) (x1 : Int) (h : z_M) : f349_89 r0 x1 h = z_g (z_isk r0 h [22]) (z_g (z_isk r0 (sI h r0 4 0) [22] ∧ z_01 0) (z_g (z_isk r0 (sI (sI h r0 4 0) r0 6 0) [22]) (z_g (z_isk r0 (sI (sI (sI h r0 4 0) r0 6 0) r0 8 0) [22]) (z_g (z_isk (hP (sI (sI (sI h r0 4 0) r0 6 0) r0 8 0) r0 9) (sI (sI (sI h r0 4 0) r0 6 0) r0 8 0) [17]) (z_g (z_isk (hP (sI (sI (sI h r0 4 0) r0 6 0) r0 8 0) (hP (sI (sI (sI h r0 4 0) r0 6 0) r0 8 0) r0 9) 2) (sI (sI (sI h r0 4 0) r0 6 0) r0 8 0) [18]) (z_ki (f323_0 (hP (sI (sI (sI h r0 4 0) r0 6 0) r0 8 0) (hP (sI (sI (sI h r0 4 0) r0 6 0) r0 8 0) r0 9) 2) (sI (sI (sI h r0 4 0) r0 6 0) r0 8 0)) (fun v1 h1 => z_g (z_isk r0 h1 [22]) (z_g (z_isk r0 (sI h1 r0 7 (z_w (v1 * x1))) [22]) (z_g (z_isk (hP (sI h1 r0 7 (z_w (v1 * x1))) r0 9) (sI h1 r0 7 (z_w (v1 * x1))) [17]) (z_g (z_isk (hP (sI h1 r0 7 (z_w (v1 * x1))) (hP (sI h1 r0 7 (z_w (v1 * x1))) r0 9) 16) (sI h1 r0 7 (z_w (v1 * x1))) [20]) (z_kv (f331_0 (hP (sI h1 r0 7 (z_w (v1 * x1))) (hP (sI h1 r0 7 (z_w (v1 * x1))) r0 9) 16) (sI h1 r0 7 (z_w (v1 * x1)))) (fun h2 => z_g (z_isk r0 h2 [22]) (z_ki (f337_0 r0 h2) (fun v3 h3 => z_if (v3 = 0) (f349_148 r0 x1 h3) (z_g (z_isk r0 h3 [22]) (z_ki (f348_0 r0 h3) (fun v4 h4 => z_if (v4 = 0) (f349_148 r0 x1 h4) (f349_149 r0 x1 1 h4)) z_ex))) z_ex)) z_ex))))) z_ex)))))) := sorry
theorem e349_148 (r0 : Nat) (x1 : Int) (h : z_M) : f349_148 r0 x1 h = f349_149 r0 x1 0 h := sorry
theorem e349_149 (r0 : Nat) (x1 s0 : Int) (h : z_M) : f349_149 r0 x1 s0 h = z_g (z_isk r0 h [22]) (z_g (z_isk (hP h r0 9) h [17]) (z_if (¬ s0 = 0) (f349_169 r0 x1 (sI h (hP h r0 9) 22 0)) (z_g (z_isk r0 (sI h (hP h r0 9) 22 0) [22]) (z_ri (z_w ((-1) - (hI (sI h (hP h r0 9) 22 0) r0 8))) (sI h (hP h r0 9) 22 0))))) := sorry
theorem e349_169 (r0 : Nat) (x1 : Int) (h : z_M) : f349_169 r0 x1 h = z_g (z_isk r0 h [22]) (z_g (z_isk r0 h [22]) (z_g (z_isk (hP h r0 9) h [17]) (z_g (z_isk r0 h [22]) (z_g (z_isk (hP h r0 9) h [17]) (z_g (1000 ≤ hK h (hP h (hP h r0 9) 11)) (z_g (z_cpo z_elc h (hP h r0 3) (hP h (hP h r0 9) 11) 0 0 (hN h (hP h (hP h r0 9) 11) : Int)) (z_ri x1 (z_cpy h (hP h r0 3) (Int.toNat 0) (hP h (hP h r0 9) 11) (Int.toNat 0) (Int.toNat (hN h (hP h (hP h r0 9) 11) : Int)))))))))) := sorry
theorem e351_0 (r0 : Nat) (h : z_M) : f351_0 r0 h = z_g (z_isk r0 h [22]) (z_if ((hI h r0 6) = 0) (f351_9 r0 h) (z_g (z_01 1) (z_ri 1 h))) := sorry
theorem e351_9 (r0 : Nat) (h : z_M) : f351_9 r0 h = z_g (z_isk r0 h [22]) (z_ki (f353_0 r0 h) (fun v1 h1 => z_g (z_isk r0 h1 [22]) (z_g (z_isk r0 (sI h1 r0 5 v1) [22]) (z_if (¬ (hI (sI h1 r0 5 v1) r0 5) = (-1)) (f351_27 r0 (sI h1 r0 5 v1)) (z_g (z_01 0) (z_ri 0 (sI h1 r0 5 v1)))))) z_ex) := sorry
theorem e351_27 (r0 : Nat) (h : z_M) : f351_27 r0 h = z_g (z_isk r0 h [22]) (z_g (z_isk (hP h r0 9) h [17]) (z_g (z_isk r0 h [22]) (z_g (z_isk (hP h (hP h r0 9) 16) h [20]) (z_kv (f334_0 (hP h (hP h r0 9) 16) (hI h r0 5) h) (fun h1 => z_g (z_isk r0 h1 [22]) (z_g (z_isk r0 h1 [22]) (z_if ((hI h1 r0 5) ≤ (hI h1 r0 7)) (f351_57 r0 r0 h1) (f351_58 r0 r0 2 h1)))) z_ex)))) := sorry
theorem e351_57 (r0 q0 : Nat) (h : z_M) : f351_57 r0 q0 h = f351_58 r0 q0 0 h := sorry
theorem e351_58 (r0 q0 : Nat) (s1 : Int) (h : z_M) : f351_58 r0 q0 s1 h = z_g (z_isk q0 h [22]) (z_g (z_isk r0 (sI h q0 8 s1) [22] ∧ z_01 1) (z_g (z_isk r0 (sI (sI h q0 8 s1) r0 6 1) [22]) (z_if (¬ (hI (sI (sI h q0 8 s1) r0 6 1) r0 8) = 0) (f351_77 (sI (sI h q0 8 s1) r0 6 1)) (f351_78 1 (sI (sI h q0 8 s1) r0 6 1))))) := sorry
theorem e351_77 (h : z_M) : f351_77 h = f351_78 0 h := sorry
theorem e351_78 (s0 : Int) (h : z_M) : f351_78 s0 h = z_g (z_01 s0) (z_ri s0 h) := sorry
theorem e352_0 (r0 : Nat) (h : z_M) : f352_0 r0 h = z_g (z_isk r0 h [22]) (z_g (z_isk r0 h [22]) (z_g (z_isk (hP h r0 9) h [17]) (z_if (¬ (hI h r0 4) = (z_w (8 * (hI h (hP h r0 9) 22)))) (f352_24 r0 h) (z_g (z_isk r0 h [22]) (z_ri (-1) (sI h r0 8 1)))))) := sorry
theorem e352_24 (r0 : Nat) (h : z_M) : f352_24 r0 h = z_g (z_isk r0 h [22]) (z_g (z_isk (hP h r0 9) h [17]) (z_g (z_isk r0 h [22]) (z_g (z_isz (hP h (hP h r0 9) 21) h (z_shr (hI h r0 4) 3)) (z_g (z_isk r0 h [22]) (z_g (z_isk r0 h [22]) (z_g (z_isk r0 h [22]) (z_ri (z_and (z_shr (hI h (hP h (hP h r0 9) 21) (Int.toNat (z_shr (hI h r0 4) 3))) (z_w (7 - (z_and (hI h r0 4) 7)))) 1) (sI h r0 4 (z_w ((hI h r0 4) + 1)))))))))) := sorry
theorem e353_0 (r0 : Nat) (h : z_M) : f353_0 r0 h = z_g (z_isk r0 h [22]) (z_g (z_isk (hP h r0 9) h [17]) (z_g (z_isk (hP h (hP h r0 9) 16) h [20]) (z_ki (f332_0 (hP h (hP h r0 9) 16) h) (fun v1 h1 => z_g (z_isk r0 h1 [22]) (z_ki (f352_0 r0 h1) (fun v2 h2 => f353_18 r0 v1 0 v2 h2) z_ex)) z_ex))) := sorry
theorem e353_18 (r0 : Nat) (x1 x2 x3 : Int) (h : z_M) : f353_18 r0 x1 x2 x3 h = z_if (¬ x3 = 1) (f353_40 r0 x1 x2 x3 h) (z_if (12 ≤ (z_w (x2 + 1))) (f353_40 r0 x1 (z_w (x2 + 1)) x3 h) (z_g (z_isk r0 h [22]) (z_ki (f352_0 r0 h) (fun v1 h1 => f353_18 r0 x1 (z_w (x2 + 1)) v1 h1) z_ex))) := sorry
theorem e353_40 (r0 : Nat) (x1 x2 x3 : Int) (h : z_M) : f353_40 r0 x1 x2 x3 h = z_if (¬ x3 = (-1)) (f353_49 r0 x1 x2 h) (f353_65 x1 x2 (-1) h) := sorry
theorem e353_49 (r0 : Nat) (x1 x2 : Int) (h : z_M) : f353_49 r0 x1 x2 h = z_if (¬ x2 = 12) (f353_61 x1 x2 r0 h) (f353_62 x1 x2 r0 13 h) := sorry
theorem e353_61 (x1 x2 : Int) (q0 : Nat) (h : z_M) : f353_61 x1 x2 q0 h = f353_62 x1 x2 q0 x1 h := sorry
theorem e353_62 (x1 x2 : Int) (q0 : Nat) (s1 : Int) (h : z_M) : f353_62 x1 x2 q0 s1 h = z_g (z_isk q0 h [22]) (z_ki (f354_0 q0 s1 h) (fun v1 h1 => f353_65 x1 x2 v1 h1) z_ex) := sorry
theorem e353_65 (x1 x2 s0 : Int) (h : z_M) : f353_65 x1 x2 s0 h = z_if (s0 = (-1)) (f353_79 s0 h) (z_if (¬ x2 = 12) (f353_84 x1 x2 s0 h) (f353_79 s0 h)) := sorry
theorem e353_79 (x4 : Int) (h : z_M) : f353_79 x4 h = f353_90 x4 h := sorry
theorem e353_84 (x1 x2 x4 : Int) (h : z_M) : f353_84 x1 x2 x4 h = f353_90 (z_or (z_shl x2 x1) x4) h := sorry
theorem e353_90 (s0 : Int) (h : z_M) : f353_90 s0 h = z_ri s0 h := sorry
theorem e354_0 (r0 : Nat) (x1 : Int) (h : z_M) : f354_0 r0 x1 h = f354_4 r0 x1 0 0 h := sorry
theorem e354_4 (r0 : Nat) (x1 x2 x3 : Int) (h : z_M) : f354_4 r0 x1 x2 x3 h = z_if (x1 ≤ x3) (f354_43 x2 h) (z_if (x2 = (-1)) (f354_43 x2 h) (z_g (z_isk r0 h [22]) (z_ki (f352_0 r0 h) (fun v1 h1 => z_if (¬ v1 = (-1)) (f354_30 r0 x1 x2 x3 v1 h1) (f354_36 r0 x1 x3 (-1) h1)) z_ex))) := sorry
theorem e354_30 (r0 : Nat) (x1 x2 x3 x4 : Int) (h : z_M) : f354_30 r0 x1 x2 x3 x4 h = f354_36 r0 x1 x3 (z_or (z_shl x2 1) x4) h := sorry
theorem e354_36 (r0 : Nat) (x1 x3 s0 : Int) (h : z_M) : f354_36 r0 x1 x3 s0 h = f354_4 r0 x1 s0 (z_w (x3 + 1)) h := sorry
theorem e354_43 (x2 : Int) (h : z_M) : f354_43 x2 h = z_ri x2 h := sorry
theorem e406_0 (r0 : Nat) (x1 : Int) (h : z_M) : f406_0 r0 x1 h = z_g (z_isk r0 h [26]) (z_kr (f413_0 r0 x1 h) (fun v1 h1 => z_g (z_isk v1 h1 [27]) (z_g (z_isk (hP h1 v1 1) h1 [0]) (z_ki (f18_0 (hP h1 v1 1) h1) (fun v2 h2 => z_g (z_isk v1 h2 [27]) (z_g (z_isk (hP h2 v1 1) h2 [0]) (z_kv (f8_0 (hP h2 v1 1) h2) (fun h3 => z_ri v2 h3) z_ex))) z_ex))) z_ex) := sorry
theorem e413_0 (r0 : Nat) (x1 : Int) (h : z_M) : f413_0 r0 x1 h = z_g (z_isk r0 h [26]) (z_g (1000 ≤ hK h (hP h r0 1)) (z_ki (f419_0 x1 0 (z_w ((hN h (hP h r0 1) : Int) - 1)) h) (fun v1 h1 => z_if (¬ v1 = 0) (f413_23 r0 x1 h1) (z_g (z_isk (hZ h1 + 1) (sN h1 2 6) [2, 3]) (z_kv (f27_0 (hZ h1 + 1) (sN h1 2 6)) (fun h2 => z_g (0 < (hZ h1 + 1) ∧ z_isk (hZ h1 + 1) h2 z_exk) (z_ex (hZ h1 + 1) h2)) z_ex))) z_ex)) := sorry
theorem e413_23 (r0 : Nat) (x1 : Int) (h : z_M) : f413_23 r0 x1 h = z_g (z_isk r0 h [26]) (z_g (z_isr (hP h r0 1) h x1) (z_rr (hP h (hP h r0 1) (Int.toNat x1)) h)) := sorry
theorem e427_0 (r0 : Nat) (x1 x2 : Int) (h : z_M) : f427_0 r0 x1 x2 h = z_g (z_isk r0 h [28]) (z_g (z_isk r0 (sI h r0 0 x1) [28]) (f427_12 r0 0 (sI (sI h r0 0 x1) r0 1 x2))) := sorry
theorem e427_12 (r0 : Nat) (x3 : Int) (h : z_M) : f427_12 r0 x3 h = z_if (24 ≤ x3) (f427_31 h) (z_g (z_isk r0 h [28]) (z_g (z_isa (hP h r0 2) h 1000 x3 ∧ z_new (hP h r0 2)) (f427_12 r0 (z_w (x3 + 1)) (sI h (hP h r0 2) (Int.toNat x3) 0)))) := sorry
theorem e427_31 (h : z_M) : f427_31 h = z_rv h := sorry
theorem e428_0 (r0 : Nat) (h : z_M) : f428_0 r0 h = f428_4 r0 0 0 h := sorry
theorem e428_4 (r0 : Nat) (x1 x2 : Int) (h : z_M) : f428_4 r0 x1 x2 h = z_g (z_isk r0 h [28]) (z_if ((hI h r0 1) ≤ x2) (f428_30 x1 h) (z_g (z_isk r0 h [28]) (z_g (z_isa (hP h r0 2) h 1000 x2) (z_ki (f31_0 (hI h (hP h r0 2) (Int.toNat x2)) h) (fun v1 h1 => f428_4 r0 (z_w (x1 + v1)) (z_w (x2 + 1)) h1) z_ex)))) := sorry
theorem e428_30 (x1 : Int) (h : z_M) : f428_30 x1 h = z_ri x1 h := sorry
theorem e429_0 (r0 : Nat) (x1 x2 x3 x4 : Int) (h : z_M) : f429_0 r0 x1 x2 x3 x4 h = f429_6 r0 x1 x2 x3 x4 0 0 h := sorry
theorem e429_6 (r0 : Nat) (x1 x2 x3 x4 x5 x6 : Int) (h : z_M) : f429_6 r0 x1 x2 x3 x4 x5 x6 h = z_if ((z_w (x3 * x4)) ≤ x6) (f429_50 x5 h) (z_g (¬ x3 = 0) (z_g (¬ x3 = 0) (z_g (z_isk r0 h [28]) (z_ki (f432_0 r0 (z_w (x1 + (z_rem x6 x3))) (z_w (x2 + (z_div x6 x3))) h) (fun v1 h1 => z_if (v1 = 0) (f429_40 r0 x1 x2 x3 x4 x6 x5 h1) (f429_41 r0 x1 x2 x3 x4 x6 x5 1 h1)) z_ex)))) := sorry
theorem e429_40 (r0 : Nat) (x1 x2 x3 x4 x6 s0 : Int) (h : z_M) : f429_40 r0 x1 x2 x3 x4 x6 s0 h = f429_41 r0 x1 x2 x3 x4 x6 s0 0 h := sorry
theorem e429_41 (r0 : Nat) (x1 x2 x3 x4 x6 s0 s1 : Int) (h : z_M) : f429_41 r0 x1 x2 x3 x4 x6 s0 s1 h = f429_6 r0 x1 x2 x3 x4 (z_w (s0 + s1)) (z_w (x6 + 1)) h := sorry
theorem e429_50 (x5 : Int) (h : z_M) : f429_50 x5 h = z_ri x5 h := sorry
theorem e432_0 (r0 : Nat) (x1 x2 : Int) (h : z_M) : f432_0 r0 x1 x2 h = z_g (z_isk r0 h [28]) (z_g (z_isa (hP h r0 2) h 1000 x2) (z_if (¬ (z_and (z_shr (hI h (hP h r0 2) (Int.toNat x2)) x1) 1) = 1) (f432_18 h) (f432_19 1 h))) := sorry
theorem e432_18 (h : z_M) : f432_18 h = f432_19 0 h := sorry
theorem e432_19 (s0 : Int) (h : z_M) : f432_19 s0 h = z_g (z_01 s0) (z_ri s0 h) := sorry
theorem e433_0 (r0 : Nat) (h : z_M) : f433_0 r0 h = z_g (z_isk r0 h [28]) (z_if ((hI h r0 0) ≤ 0) (f433_11 h) (f433_12 1 h)) := sorry
theorem e433_11 (h : z_M) : f433_11 h = f433_12 0 h := sorry
theorem e433_12 (s0 : Int) (h : z_M) : f433_12 s0 h = z_g (z_01 s0) (z_ri s0 h) := sorry
theorem e435_0 (r0 : Nat) (x1 : Int) (h : z_M) : f435_0 r0 x1 h = z_g (z_isk r0 h [29]) (z_g (z_isz (hP h r0 0) h x1) (z_ri (z_and (hI h (hP h r0 0) (Int.toNat x1)) 255) h)) := sorry
theorem e522_0 (r0 : Nat) (x1 x2 x3 x4 : Int) (h : z_M) : f522_0 r0 x1 x2 x3 x4 h = z_ki (f540_0 x1 1 12 h) (fun v1 h1 => z_if (v1 = 0) (f522_44 r0 x1 x2 x3 x4 h1) (z_ki (f540_0 x2 1 12 h1) (fun v2 h2 => z_if (v2 = 0) (f522_44 r0 x1 x2 x3 x4 h2) (z_ki (f540_0 x3 2 8 h2) (fun v3 h3 => z_if (v3 = 0) (f522_44 r0 x1 x2 x3 x4 h3) (z_ki (f540_0 x4 1 4 h3) (fun v4 h4 => z_if (v4 = 0) (f522_44 r0 x1 x2 x3 x4 h4) (f522_45 r0 x1 x2 x3 x4 1 h4)) z_ex)) z_ex)) z_ex)) z_ex := sorry
theorem e522_44 (r0 : Nat) (x1 x2 x3 x4 : Int) (h : z_M) : f522_44 r0 x1 x2 x3 x4 h = f522_45 r0 x1 x2 x3 x4 0 h := sorry
theorem e522_45 (r0 : Nat) (x1 x2 x3 x4 s0 : Int) (h : z_M) : f522_45 r0 x1 x2 x3 x4 s0 h = z_kv (f536_0 s0 h) (fun h1 => z_g (z_isk r0 h1 [39]) (z_g (z_isk (hP h1 r0 1) h1 [40]) (z_kv (f544_0 (hP h1 r0 1) h1) (fun h2 => z_g (z_isk r0 h2 [39]) (z_g (z_isk (hP h2 r0 1) h2 [40]) (z_kv (f547_0 (hP h2 r0 1) x1 x2 x3 x4 h2) (fun h3 => z_g (z_isk r0 h3 [39] ∧ z_01 1) (z_ri (z_w ((z_w (x1 * x2)) * x4)) (sI h3 r0 3 1))) z_ex))) z_ex))) z_ex := sorry
theorem e523_0 (r0 : Nat) (x1 x2 : Int) (h : z_M) : f523_0 r0 x1 x2 h = z_g (z_isk r0 h [39]) (z_kv (f510_0 (hI h r0 3) h) (fun h1 => z_if (¬ x1 = 0) (f523_22 r0 x1 x2 h1) (z_ki (f540_0 x2 3 255 h1) (fun v2 h2 => z_if (¬ v2 = 0) (f523_53 r0 x1 x2 h2) (f523_22 r0 x1 x2 h2)) z_ex)) z_ex) := sorry
theorem e523_22 (r0 : Nat) (x1 x2 : Int) (h : z_M) : f523_22 r0 x1 x2 h = z_if (¬ x1 = 1) (f523_38 r0 x1 x2 h) (z_ki (f540_0 x2 1 255 h) (fun v1 h1 => z_if (¬ v1 = 0) (f523_53 r0 x1 x2 h1) (f523_38 r0 x1 x2 h1)) z_ex) := sorry
theorem e523_38 (r0 : Nat) (x1 x2 : Int) (h : z_M) : f523_38 r0 x1 x2 h = z_if (¬ x1 = 2) (f523_57 r0 x1 x2 h) (z_ki (f540_0 x2 0 12 h) (fun v1 h1 => z_if (v1 = 0) (f523_57 r0 x1 x2 h1) (f523_53 r0 x1 x2 h1)) z_ex) := sorry
theorem e523_53 (r0 : Nat) (x1 x2 : Int) (h : z_M) : f523_53 r0 x1 x2 h = f523_58 r0 x1 x2 1 h := sorry
theorem e523_57 (r0 : Nat) (x1 x2 : Int) (h : z_M) : f523_57 r0 x1 x2 h = f523_58 r0 x1 x2 0 h := sorry
theorem e523_58 (r0 : Nat) (x1 x2 s0 : Int) (h : z_M) : f523_58 r0 x1 x2 s0 h = z_kv (f536_0 s0 h) (fun h1 => z_if (¬ x1 = 0) (f523_75 r0 x1 x2 h1) (z_g (z_isk r0 h1 [39]) (z_g (z_isk (hP h1 r0 1) h1 [40]) (f523_97 r0 x1 x2 (hI h1 (hP h1 r0 1) 7) h1)))) z_ex := sorry
theorem e523_75 (r0 : Nat) (x1 x2 : Int) (h : z_M) : f523_75 r0 x1 x2 h = z_if (¬ x1 = 1) (f523_90 r0 x1 x2 h) (z_g (z_isk r0 h [39]) (z_g (z_isk (hP h r0 1) h [40]) (f523_97 r0 x1 x2 (hI h (hP h r0 1) 8) h))) := sorry
theorem e523_90 (r0 : Nat) (x1 x2 : Int) (h : z_M) : f523_90 r0 x1 x2 h = z_g (z_isk r0 h [39]) (z_g (z_isk (hP h r0 1) h [40]) (f523_97 r0 x1 x2 (hI h (hP h r0 1) 9) h)) := sorry
theorem e523_97 (r0 : Nat) (x1 x2 s0 : Int) (h : z_M) : f523_97 r0 x1 x2 s0 h = z_g (z_isk r0 h [39]) (z_if (¬ x1 = 0) (f523_110 r0 x1 x2 s0 (hP h r0 1) h) (f523_117 r0 x1 x2 s0 (hP h r0 1) x2 h)) := sorry
theorem e523_110 (r0 : Nat) (x1 x2 x3 : Int) (q0 : Nat) (h : z_M) : f523_110 r0 x1 x2 x3 q0 h = z_g (z_isk r0 h [39]) (z_g (z_isk (hP h r0 1) h [40]) (f523_117 r0 x1 x2 x3 q0 (hI h (hP h r0 1) 7) h)) := sorry
theorem e523_117 (r0 : Nat) (x1 x2 x3 : Int) (q0 : Nat) (s1 : Int) (h : z_M) : f523_117 r0 x1 x2 x3 q0 s1 h = z_g (z_isk q0 h [40]) (z_g (z_isk r0 (sI h q0 7 s1) [39]) (z_if (¬ x1 = 1) (f523_133 r0 x1 x2 x3 (hP (sI h q0 7 s1) r0 1) (sI h q0 7 s1)) (f523_140 r0 x1 x2 x3 (hP (sI h q0 7 s1) r0 1) x2 (sI h q0 7 s1)))) := sorry
theorem e523_133 (r0 : Nat) (x1 x2 x3 : Int) (q0 : Nat) (h : z_M) : f523_133 r0 x1 x2 x3 q0 h = z_g (z_isk r0 h [39]) (z_g (z_isk (hP h r0 1) h [40]) (f523_140 r0 x1 x2 x3 q0 (hI h (hP h r0 1) 8) h)) := sorry
theorem e523_140 (r0 : Nat) (x1 x2 x3 : Int) (q0 : Nat) (s1 : Int) (h : z_M) : f523_140 r0 x1 x2 x3 q0 s1 h = z_g (z_isk q0 h [40]) (z_g (z_isk r0 (sI h q0 8 s1) [39]) (z_if (¬ x1 = 2) (f523_156 r0 x3 (hP (sI h q0 8 s1) r0 1) (sI h q0 8 s1)) (f523_163 x3 (hP (sI h q0 8 s1) r0 1) x2 (sI h q0 8 s1)))) := sorry
theorem e523_156 (r0 : Nat) (x3 : Int) (q0 : Nat) (h : z_M) : f523_156 r0 x3 q0 h = z_g (z_isk r0 h [39]) (z_g (z_isk (hP h r0 1) h [40]) (f523_163 x3 q0 (hI h (hP h r0 1) 9) h)) := sorry
theorem e523_163 (x3 : Int) (q0 : Nat) (s1 : Int) (h : z_M) : f523_163 x3 q0 s1 h = z_g (z_isk q0 h [40]) (z_ri x3 (sI h q0 9 s1)) := sorry
theorem e527_0 (r0 : Nat) (x1 : Int) (h : z_M) : f527_0 r0 x1 h = z_g (z_isk r0 h [39]) (z_g (z_isk r0 h [39]) (z_g (z_isk r0 h [39]) (z_g (z_isz (hP h r0 5) (sI h r0 6 (z_w ((hI h r0 6) + 1))) (hI h r0 6) ∧ z_new (hP h r0 5) ∧ (hK (sI h r0 6 (z_w ((hI h r0 6) + 1))) (hP h r0 5) = 1002 ∨ z_01 (z_i8 x1))) (z_rv (sI (sI h r0 6 (z_w ((hI h r0 6) + 1))) (hP h r0 5) (Int.toNat (hI h r0 6)) (z_i8 (z_i8 x1))))))) := sorry
theorem e541_0 (r0 : Nat) (x1 : Int) (h : z_M) : f541_0 r0 x1 h = z_g (z_isk r0 h [39]) (z_kv (f510_0 (hI h r0 3) h) (fun h1 => z_ki (f540_0 x1 0 3 h1) (fun v2 h2 => z_kv (f536_0 v2 h2) (fun h3 => z_g (z_isk r0 h3 [39]) (z_g (z_isk r0 (sI h3 r0 6 0) [39]) (z_kv (f542_0 r0 (sI h3 r0 6 0)) (fun h4 => f541_25 r0 x1 h4) z_ex))) z_ex) z_ex) z_ex) := sorry
theorem e541_25 (r0 : Nat) (x1 : Int) (h : z_M) : f541_25 r0 x1 h = f541_27 r0 x1 0 h := sorry
theorem e541_27 (r0 : Nat) (x1 x2 : Int) (h : z_M) : f541_27 r0 x1 x2 h = z_g (z_isk r0 h [39]) (z_g (z_isk (hP h r0 1) h [40]) (z_if ((hI h (hP h r0 1) 5) ≤ x2) (f541_79 r0 h) (z_g (z_isk r0 h [39]) (z_if ((hI h r0 0) = 0) (f541_49 r0 x1 x2 h) (z_if (¬ x2 = 0) (f541_79 r0 h) (f541_49 r0 x1 x2 h)))))) := sorry
theorem e541_49 (r0 : Nat) (x1 x2 : Int) (h : z_M) : f541_49 r0 x1 x2 h = z_g (z_isk r0 h [39]) (z_if (¬ (hI h r0 0) = 0) (f541_63 r0 x1 x2 r0 x1 x2 h) (f541_70 r0 x1 x2 r0 x1 x2 1 h)) := sorry
theorem e541_63 (r0 : Nat) (x1 x2 : Int) (q0 : Nat) (s1 s2 : Int) (h : z_M) : f541_63 r0 x1 x2 q0 s1 s2 h = z_g (z_isk r0 h [39]) (z_g (z_isk (hP h r0 1) h [40]) (f541_70 r0 x1 x2 q0 s1 s2 (hI h (hP h r0 1) 5) h)) := sorry
theorem e541_70 (r0 : Nat) (x1 x2 : Int) (q0 : Nat) (s1 s2 s3 : Int) (h : z_M) : f541_70 r0 x1 x2 q0 s1 s2 s3 h = z_g (z_isk q0 h [39]) (z_kv (f543_0 q0 s1 s2 s3 h) (fun h1 => f541_27 r0 x1 (z_w (x2 + 1)) h1) (fun e2 h2 => z_if (z_isk e2 h2 [54]) (f541_82 e2 h2) (none))) := sorry
theorem e541_79 (r0 : Nat) (h : z_M) : f541_79 r0 h = f541_85 r0 h := sorry
theorem e541_82 (q0 : Nat) (h : z_M) : f541_82 q0 h = z_ri (-1) h := sorry
theorem e541_85 (r0 : Nat) (h : z_M) : f541_85 r0 h = z_g (z_isk r0 h [39]) (z_kv (f525_0 r0 217 h) (fun h1 => z_g (z_isk r0 h1 [39]) (z_ri (hI h1 r0 6) h1)) z_ex) := sorry
theorem e542_0 (r0 : Nat) (h : z_M) : f542_0 r0 h = z_g (z_isk r0 h [39]) (z_kv (f525_0 r0 216 h) (fun h1 => f542_9 r0 0 h1) z_ex) := sorry
theorem e542_9 (r0 : Nat) (x1 : Int) (h : z_M) : f542_9 r0 x1 h = z_g (z_isk r0 h [39]) (z_g (z_isk (hP h r0 1) h [40]) (z_if ((hI h (hP h r0 1) 6) ≤ x1) (f542_99 r0 h) (z_g (z_isk r0 h [39]) (z_g (z_isk (hP h r0 1) h [40]) (z_g (z_isr (hP h (hP h r0 1) 1) h x1) (z_g (z_isk (hP h (hP h (hP h r0 1) 1) (Int.toNat x1)) h [56]) (z_if (¬ (hI h (hP h (hP h (hP h r0 1) 1) (Int.toNat x1)) 0) = 16) (f542_46 r0 x1 (hP h (hP h (hP h r0 1) 1) (Int.toNat x1)) r0 h) (f542_54 r0 x1 (hP h (hP h (hP h r0 1) 1) (Int.toNat x1)) r0 254 h)))))))) := sorry
theorem e542_46 (r0 : Nat) (x1 : Int) (r2 q0 : Nat) (h : z_M) : f542_46 r0 x1 r2 q0 h = z_g (z_isk r2 h [56]) (f542_54 r0 x1 r2 q0 (z_w (224 + (hI h r2 0))) h) := sorry
theorem e542_54 (r0 : Nat) (x1 : Int) (r2 q0 : Nat) (s1 : Int) (h : z_M) : f542_54 r0 x1 r2 q0 s1 h = z_g (z_isk q0 h [39]) (z_kv (f525_0 q0 s1 h) (fun h1 => z_g (z_isk r2 h1 [56]) (z_g (z_isk r0 h1 [39]) (z_kv (f526_0 r0 (z_w (2 + (hI h1 r2 2))) h1) (fun h2 => f542_69 r0 x1 r2 0 h2) z_ex))) z_ex) := sorry
theorem e542_69 (r0 : Nat) (x1 : Int) (r2 : Nat) (x3 : Int) (h : z_M) : f542_69 r0 x1 r2 x3 h = z_g (z_isk r2 h [56]) (z_if ((hI h r2 2) ≤ x3) (f542_93 r0 x1 h) (z_g (z_isk r2 h [56]) (z_g (z_isz (hP h r2 1) h x3) (z_g (z_isk r0 h [39]) (z_kv (f527_0 r0 (hI h (hP h r2 1) (Int.toNat x3)) h) (fun h1 => f542_69 r0 x1 r2 (z_w (x3 + 1)) h1) z_ex))))) := sorry
theorem e542_93 (r0 : Nat) (x1 : Int) (h : z_M) : f542_93 r0 x1 h = f542_9 r0 (z_w (x1 + 1)) h := sorry
theorem e542_99 (r0 : Nat) (h : z_M) : f542_99 r0 h = z_g (z_isk r0 h [39]) (z_kv (f525_0 r0 247 h) (fun h1 => z_g (z_isk r0 h1 [39]) (z_g (z_isk (hP h1 r0 1) h1 [40]) (z_g (z_isk r0 h1 [39]) (z_kv (f526_0 r0 (z_w (8 + (z_w (3 * (hI h1 (hP h1 r0 1) 5))))) h1) (fun h2 => z_g (z_isk r0 h2 [39]) (z_g (z_isk (hP h2 r0 1) h2 [40]) (z_g (z_isk r0 h2 [39]) (z_kv (f527_0 r0 (hI h2 (hP h2 r0 1) 4) h2) (fun h3 => z_g (z_isk r0 h3 [39]) (z_g (z_isk (hP h3 r0 1) h3 [40]) (z_g (z_isk r0 h3 [39]) (z_kv (f526_0 r0 (hI h3 (hP h3 r0 1) 3) h3) (fun h4 => z_g (z_isk r0 h4 [39]) (z_g (z_isk (hP h4 r0 1) h4 [40]) (z_g (z_isk r0 h4 [39]) (z_kv (f526_0 r0 (hI h4 (hP h4 r0 1) 2) h4) (fun h5 => z_g (z_isk r0 h5 [39]) (z_g (z_isk (hP h5 r0 1) h5 [40]) (z_g (z_isk r0 h5 [39]) (z_kv (f527_0 r0 (hI h5 (hP h5 r0 1) 5) h5) (fun h6 => f542_168 r0 0 h6) z_ex)))) z_ex)))) z_ex)))) z_ex)))) z_ex)))) z_ex) := sorry
theorem e542_168 (r0 : Nat) (x1 : Int) (h : z_M) : f542_168 r0 x1 h = z_g (z_isk r0 h [39]) (z_g (z_isk (hP h r0 1) h [40]) (z_if ((hI h (hP h r0 1) 5) ≤ x1) (f542_203 r0 h) (z_g (z_isk r0 h [39]) (z_kv (f527_0 r0 (z_w (x1 + 1)) h) (fun h1 => z_g (z_isk r0 h1 [39]) (z_kv (f527_0 r0 17 h1) (fun h2 => z_g (z_isk r0 h2 [39]) (z_kv (f527_0 r0 0 h2) (fun h3 => f542_168 r0 (z_w (x1 + 1)) h3) z_ex)) z_ex)) z_ex)))) := sorry
theorem e542_203 (r0 : Nat) (h : z_M) : f542_203 r0 h = z_g (z_isk r0 h [39]) (z_g (z_isk (hP h r0 1) h [40]) (z_if (¬ (hI h (hP h r0 1) 7) = 64) (f542_226 r0 h) (z_g (z_isk r0 h [39]) (z_g (z_isk (hP h r0 1) h [40]) (z_if ((hI h (hP h r0 1) 8) = 4) (f542_265 r0 h) (f542_226 r0 h)))))) := sorry
theorem e542_226 (r0 : Nat) (h : z_M) : f542_226 r0 h = z_g (z_isk r0 h [39]) (z_kv (f525_0 r0 248 h) (fun h1 => z_g (z_isk r0 h1 [39]) (z_kv (f526_0 r0 5 h1) (fun h2 => z_g (z_isk r0 h2 [39]) (z_kv (f527_0 r0 1 h2) (fun h3 => z_g (z_isk r0 h3 [39]) (z_g (z_isk (hP h3 r0 1) h3 [40]) (z_g (z_isk r0 h3 [39]) (z_kv (f527_0 r0 (hI h3 (hP h3 r0 1) 7) h3) (fun h4 => z_g (z_isk r0 h4 [39]) (z_g (z_isk (hP h4 r0 1) h4 [40]) (z_g (z_isk r0 h4 [39]) (z_kv (f527_0 r0 (hI h4 (hP h4 r0 1) 8) h4) (fun h5 => f542_265 r0 h5) z_ex)))) z_ex)))) z_ex)) z_ex)) z_ex) := sorry
theorem e542_265 (r0 : Nat) (h : z_M) : f542_265 r0 h = f542_267 r0 0 h := sorry
theorem e542_267 (r0 : Nat) (x1 : Int) (h : z_M) : f542_267 r0 x1 h = z_g (z_isk r0 h [39]) (z_g (z_isk (hP h r0 1) h [40]) (z_if ((hI h (hP h r0 1) 5) ≤ x1) (f542_387 r0 h) (z_g (z_isk r0 h [39]) (z_g (z_isk (hP h r0 1) h [40]) (z_g (z_isr (hP h (hP h r0 1) 0) h x1) (z_g (z_isk (hP h (hP h (hP h r0 1) 0) (Int.toNat x1)) h [41]) (z_if ((hP h (hP h (hP h (hP h r0 1) 0) (Int.toNat x1)) 1) = 0) (f542_381 r0 x1 h) (z_g (z_isk r0 h [39]) (z_kv (f525_0 r0 248 h) (fun h1 => z_g (z_isk r0 h1 [39]) (z_g (z_isk (hP h1 r0 1) h1 [40]) (z_g (z_isr (hP h1 (hP h1 r0 1) 0) h1 x1) (z_g (z_isk (hP h1 (hP h1 (hP h1 r0 1) 0) (Int.toNat x1)) h1 [41]) (z_g (1000 ≤ hK h1 (hP h1 (hP h1 (hP h1 (hP h1 r0 1) 0) (Int.toNat x1)) 1)) (z_g (z_isk r0 h1 [39]) (z_kv (f526_0 r0 (z_w (5 + (z_w (2 * (hN h1 (hP h1 (hP h1 (hP h1 (hP h1 r0 1) 0) (Int.toNat x1)) 1) : Int))))) h1) (fun h2 => z_g (z_isk r0 h2 [39]) (z_kv (f527_0 r0 2 h2) (fun h3 => z_g (z_isk r0 h3 [39]) (z_kv (f527_0 r0 (z_w (x1 + 1)) h3) (fun h4 => z_g (z_isk r0 h4 [39]) (z_kv (f527_0 r0 2 h4) (fun h5 => z_g (z_isk r0 h5 [39]) (z_g (z_isk (hP h5 r0 1) h5 [40]) (z_g (z_isr (hP h5 (hP h5 r0 1) 0) h5 x1) (z_g (z_isk (hP h5 (hP h5 (hP h5 r0 1) 0) (Int.toNat x1)) h5 [41]) (z_g (1000 ≤ hK h5 (hP h5 (hP h5 (hP h5 (hP h5 r0 1) 0) (Int.toNat x1)) 1)) (f542_357 r0 x1 (hP h5 (hP h5 (hP h5 (hP h5 r0 1) 0) (Int.toNat x1)) 1) (hN h5 (hP h5 (hP h5 (hP h5 (hP h5 r0 1) 0) (Int.toNat x1)) 1) : Int) 0 h5)))))) z_ex)) z_ex)) z_ex)) z_ex))))))) z_ex))))))))) := sorry
theorem e542_357 (r0 : Nat) (x1 : Int) (r2 : Nat) (x3 x4 : Int) (h : z_M) : f542_357 r0 x1 r2 x3 x4 h = z_if (x3 ≤ x4) (f542_381 r0 x1 h) (z_g (z_isa r2 h 1000 x4) (z_g (z_isk r0 h [39]) (z_kv (f526_0 r0 (hI h r2 (Int.toNat x4)) h) (fun h1 => f542_357 r0 x1 r2 x3 (z_w (x4 + 1)) h1) z_ex))) := sorry
theorem e542_381 (r0 : Nat) (x1 : Int) (h : z_M) : f542_381 r0 x1 h = f542_267 r0 (z_w (x1 + 1)) h := sorry
theorem e542_387 (r0 : Nat) (h : z_M) : f542_387 r0 h = z_g (z_isk r0 h [39]) (z_g (z_isk (hP h r0 1) h [40]) (z_if ((hI h (hP h r0 1) 9) ≤ 0) (f542_420 h) (z_g (z_isk r0 h [39]) (z_kv (f525_0 r0 221 h) (fun h1 => z_g (z_isk r0 h1 [39]) (z_kv (f526_0 r0 4 h1) (fun h2 => z_g (z_isk r0 h2 [39]) (z_g (z_isk (hP h2 r0 1) h2 [40]) (z_g (z_isk r0 h2 [39]) (z_kv (f526_0 r0 (hI h2 (hP h2 r0 1) 9) h2) (fun h3 => f542_420 h3) z_ex)))) z_ex)) z_ex)))) := sorry
theorem e542_420 (h : z_M) : f542_420 h = z_rv h := sorry
theorem e543_0 (r0 : Nat) (x1 x2 x3 : Int) (h : z_M) : f543_0 r0 x1 x2 x3 h = z_if (¬ x3 = 1) (f543_9 r0 x1 x2 x3 h) (f543_13 r0 x1 x2 x3 0 h) := sorry
theorem e543_9 (r0 : Nat) (x1 x2 x3 : Int) (h : z_M) : f543_9 r0 x1 x2 x3 h = z_g (z_isk r0 h [39]) (f543_13 r0 x1 x2 x3 (hI h r0 0) h) := sorry
theorem e543_13 (r0 : Nat) (x1 x2 x3 s0 : Int) (h : z_M) : f543_13 r0 x1 x2 x3 s0 h = z_g (z_isk r0 h [39]) (z_kv (f525_0 r0 218 h) (fun h1 => z_g (z_isk r0 h1 [39]) (z_kv (f526_0 r0 (z_w (6 + (z_w (2 * x3)))) h1) (fun h2 => z_g (z_isk r0 h2 [39]) (z_kv (f527_0 r0 x3 h2) (fun h3 => f543_40 r0 x1 x2 x3 s0 x2 h3) z_ex)) z_ex)) z_ex) := sorry
theorem e543_40 (r0 : Nat) (x1 x2 x3 x4 x5 : Int) (h : z_M) : f543_40 r0 x1 x2 x3 x4 x5 h = z_if ((z_w (x2 + x3)) ≤ x5) (f543_90 r0 x1 x2 x3 x4 h) (z_g (z_isk r0 h [39]) (z_kv (f527_0 r0 (z_w (x5 + 1)) h) (fun h1 => z_g (z_isk r0 h1 [39]) (z_g (z_isk (hP h1 r0 1) h1 [40]) (z_g (z_isr (hP h1 (hP h1 r0 1) 0) h1 x5) (z_g (z_isk (hP h1 (hP h1 (hP h1 r0 1) 0) (Int.toNat x5)) h1 [41]) (z_if (¬ (hP h1 (hP h1 (hP h1 (hP h1 r0 1) 0) (Int.toNat x5)) 1) = 0) (f543_77 r0 x1 x2 x3 x4 x5 r0 h1) (f543_81 r0 x1 x2 x3 x4 x5 r0 0 h1)))))) z_ex)) := sorry
theorem e543_77 (r0 : Nat) (x1 x2 x3 x4 x5 : Int) (q0 : Nat) (h : z_M) : f543_77 r0 x1 x2 x3 x4 x5 q0 h = f543_81 r0 x1 x2 x3 x4 x5 q0 (z_w (x5 + 1)) h := sorry
theorem e543_81 (r0 : Nat) (x1 x2 x3 x4 x5 : Int) (q0 : Nat) (s1 : Int) (h : z_M) : f543_81 r0 x1 x2 x3 x4 x5 q0 s1 h = z_g (z_isk q0 h [39]) (z_kv (f527_0 q0 s1 h) (fun h1 => f543_40 r0 x1 x2 x3 x4 (z_w (x5 + 1)) h1) z_ex) := sorry
theorem e543_90 (r0 : Nat) (x1 x2 x3 x4 : Int) (h : z_M) : f543_90 r0 x1 x2 x3 x4 h = z_g (z_isk r0 h [39]) (z_kv (f527_0 r0 x1 h) (fun h1 => z_g (z_isk r0 h1 [39]) (z_kv (f527_0 r0 x4 h1) (fun h2 => z_g (z_isk r0 h2 [39]) (z_kv (f527_0 r0 0 h2) (fun h3 => z_g (z_isk r0 (sN h3 52 13) [39]) (z_g (z_isk (hZ h3 + 1) (sN h3 52 13) [52]) (z_kv (f1064_0 (hZ h3 + 1) r0 (hP (sN h3 52 13) r0 1) x1 x2 x3 x4 (sN h3 52 13)) (fun h4 => z_g (z_isk (hZ h3 + 1) h4 [52]) (z_kv (f1057_0 (hZ h3 + 1) h4) (fun h5 => z_rv h5) z_ex)) z_ex))) z_ex)) z_ex)) z_ex) := sorry
theorem e544_0 (r0 : Nat) (h : z_M) : f544_0 r0 h = z_g (z_isk r0 h [40]) (z_g (1000 ≤ hK h (hP h r0 0)) (f544_10 r0 (hP h r0 0) (hN h (hP h r0 0) : Int) 0 h)) := sorry
theorem e544_10 (r0 r1 : Nat) (x2 x3 : Int) (h : z_M) : f544_10 r0 r1 x2 x3 h = z_if (x2 ≤ x3) (f544_31 r0 h) (z_g (z_isr r1 h x3) (z_g (z_isk (hP h r1 (Int.toNat x3)) h [41]) (z_kv (f549_0 (hP h r1 (Int.toNat x3)) h) (fun h1 => f544_10 r0 r1 x2 (z_w (x3 + 1)) h1) z_ex))) := sorry
theorem e544_31 (r0 : Nat) (h : z_M) : f544_31 r0 h = z_g (z_isk r0 h [40]) (z_g (z_isk r0 (sI h r0 5 0) [40]) (z_g (z_isk r0 (sI (sI h r0 5 0) r0 6 0) [40]) (z_g (z_isk r0 (sI (sI (sI h r0 5 0) r0 6 0) r0 7 64) [40]) (z_g (z_isk r0 (sI (sI (sI (sI h r0 5 0) r0 6 0) r0 7 64) r0 8 4) [40]) (z_g (z_isk r0 (sI (sI (sI (sI (sI h r0 5 0) r0 6 0) r0 7 64) r0 8 4) r0 9 0) [40]) (f544_62 r0 (sI (sI (sI (sI (sI (sI h r0 5 0) r0 6 0) r0 7 64) r0 8 4) r0 9 0) r0 10 0))))))) := sorry
theorem e544_62 (r0 : Nat) (h : z_M) : f544_62 r0 h = z_g (z_isk r0 h [40]) (z_rv (sI h r0 11 0)) := sorry
theorem e549_0 (r0 : Nat) (h : z_M) : f549_0 r0 h = f549_2 r0 0 h := sorry
theorem e549_2 (r0 : Nat) (x1 : Int) (h : z_M) : f549_2 r0 x1 h = z_if (144 ≤ x1) (f549_22 r0 h) (z_g (z_isk r0 h [41]) (z_g (z_isa (hP h r0 0) h 1000 x1 ∧ z_new (hP h r0 0)) (f549_2 r0 (z_w (x1 + 1)) (sI h (hP h r0 0) (Int.toNat x1) 0)))) := sorry
theorem e549_22 (r0 : Nat) (h : z_M) : f549_22 r0 h = z_g (z_isk r0 h [41]) (z_g (z_isk r0 (sP h r0 1 0) [41] ∧ z_01 0) (z_rv (sI (sP h r0 1 0) r0 2 0))) := sorry
theorem e689_0 (x1 x2 x3 : Int) (h : z_M) : f689_0 x1 x2 x3 h = z_ki (f881_0 x1 x2 h) (fun v1 h1 => z_ki (f885_0 x3 0 255 h1) (fun v2 h2 => z_ki (f954_0 v1 v2 1 1 h2) (fun v3 h3 => z_if (¬ v3 = 0) (f689_25 x1 x2 x3 h3) (z_ri 0 h3)) z_ex) z_ex) z_ex := sorry
theorem e689_25 (x1 x2 x3 : Int) (h : z_M) : f689_25 x1 x2 x3 h = z_g (z_inb (z_w ((z_w (1500 * x1)) + x2)) 18000) (z_g (z_inb (z_w ((z_w (1500 * x1)) + x2)) 18000) (z_ri (hI h 1073 (Int.toNat (z_w ((z_w (1500 * x1)) + x2)))) (sI h 1073 (Int.toNat (z_w ((z_w (1500 * x1)) + x2))) x3))) := sorry
theorem e690_0 (x1 x2 : Int) (h : z_M) : f690_0 x1 x2 h = z_ki (f890_0 x1 h) (fun v1 h1 => z_if (v1 = 0) (f690_18 x1 x2 h1) (z_ki (f890_0 x2 h1) (fun v2 h2 => z_if (v2 = 0) (f690_18 x1 x2 h2) (f690_19 x1 x2 1 h2)) z_ex)) z_ex := sorry
theorem e690_18 (x1 x2 : Int) (h : z_M) : f690_18 x1 x2 h = f690_19 x1 x2 0 h := sorry
theorem e690_19 (x1 x2 s0 : Int) (h : z_M) : f690_19 x1 x2 s0 h = z_if (s0 = 0) (f690_74 x1 x2 s0 h) (z_ki (f891_0 x1 h) (fun v1 h1 => z_if (v1 = 0) (f690_74 x1 x2 s0 h1) (z_ki (f891_0 x2 h1) (fun v2 h2 => z_if (v2 = 0) (f690_74 x1 x2 s0 h2) (z_g (z_inb x1 4) (z_g (z_inb x2 4) (z_if (¬ (hI h2 1069 (Int.toNat x1)) = (hI h2 1069 (Int.toNat x2))) (f690_74 x1 x2 s0 h2) (z_g (z_inb x1 4) (z_g (z_inb x2 4) (z_if (¬ (hI h2 1070 (Int.toNat x1)) = (hI h2 1070 (Int.toNat x2))) (f690_74 x1 x2 s0 h2) (f690_75 x1 x2 s0 1 h2)))))))) z_ex)) z_ex) := sorry
theorem e690_74 (x1 x2 x3 : Int) (h : z_M) : f690_74 x1 x2 x3 h = f690_75 x1 x2 x3 0 h := sorry
theorem e690_75 (x1 x2 x3 s0 : Int) (h : z_M) : f690_75 x1 x2 x3 s0 h = z_ki (f954_0 x3 s0 1 1 h) (fun v1 h1 => z_if (¬ v1 = 0) (f690_91 x1 x2 h1) (z_ri 0 h1)) z_ex := sorry
theorem e690_91 (x1 x2 : Int) (h : z_M) : f690_91 x1 x2 h = f690_97 x1 x2 0 0 h := sorry
theorem e690_97 (x1 x2 x5 x6 : Int) (h : z_M) : f690_97 x1 x2 x5 x6 h = z_if (576 ≤ x6) (f690_150 x5 h) (z_g (z_inb (z_w ((z_w (576 * x1)) + x6)) 2304) (z_g (z_inb (z_w ((z_w (576 * x2)) + x6)) 2304) (z_if (¬ (hI h 1071 (Int.toNat (z_w ((z_w (576 * x1)) + x6)))) = (hI h 1071 (Int.toNat (z_w ((z_w (576 * x2)) + x6))))) (f690_140 x1 x2 x6 x5 h) (f690_141 x1 x2 x6 x5 0 h)))) := sorry
theorem e690_140 (x1 x2 x6 s0 : Int) (h : z_M) : f690_140 x1 x2 x6 s0 h = f690_141 x1 x2 x6 s0 1 h := sorry
theorem e690_141 (x1 x2 x6 s0 s1 : Int) (h : z_M) : f690_141 x1 x2 x6 s0 s1 h = f690_97 x1 x2 (z_w (s0 + s1)) (z_w (x6 + 1)) h := sorry
theorem e690_150 (x5 : Int) (h : z_M) : f690_150 x5 h = z_ri x5 h := sorry
theorem e691_0 (x1 x2 : Int) (h : z_M) : f691_0 x1 x2 h = f691_5 x1 x2 1 x1 h := sorry
theorem e691_5 (x1 x2 x3 x4 : Int) (h : z_M) : f691_5 x1 x2 x3 x4 h = z_if ((z_w (x1 + x2)) ≤ x4) (f691_70 x3 h) (z_if (x3 = 0) (f691_70 x3 h) (z_ki (f892_0 x4 h) (fun v1 h1 => z_if (v1 = 0) (f691_62 x1 x2 x4 h1) (z_g (z_inb x4 8) (z_g (z_inb x1 8) (z_if (¬ (hI h1 1065 (Int.toNat x4)) = (hI h1 1065 (Int.toNat x1))) (f691_62 x1 x2 x4 h1) (z_g (z_inb x4 8) (z_g (z_inb x1 8) (z_if (¬ (hI h1 1066 (Int.toNat x4)) = (hI h1 1066 (Int.toNat x1))) (f691_62 x1 x2 x4 h1) (f691_63 x1 x2 x4 1 h1)))))))) z_ex)) := sorry
theorem e691_62 (x1 x2 x4 : Int) (h : z_M) : f691_62 x1 x2 x4 h = f691_63 x1 x2 x4 0 h := sorry
theorem e691_63 (x1 x2 x4 s0 : Int) (h : z_M) : f691_63 x1 x2 x4 s0 h = f691_5 x1 x2 s0 (z_w (x4 + 1)) h := sorry
theorem e691_70 (x3 : Int) (h : z_M) : f691_70 x3 h = z_g (z_01 x3) (z_ri x3 h) := sorry
theorem e693_0 (x1 x2 x3 : Int) (h : z_M) : f693_0 x1 x2 x3 h = z_ki (f955_0 x1 x2 x3 h) (fun v1 h1 => z_if (v1 = 0) (f693_30 h1) (z_g (z_inb (z_w ((z_w ((z_w (144 * x1)) + (z_w (12 * x3)))) + x2)) 1152) (f693_31 (hI h1 1067 (Int.toNat (z_w ((z_w ((z_w (144 * x1)) + (z_w (12 * x3)))) + x2)))) h1))) z_ex := sorry
theorem e693_30 (h : z_M) : f693_30 h = f693_31 0 h := sorry
theorem e693_31 (s0 : Int) (h : z_M) : f693_31 s0 h = z_ri s0 h := sorry
theorem e697_0 (h : z_M) : f697_0 h = f697_2 0 h := sorry
theorem e697_2 (x1 : Int) (h : z_M) : f697_2 x1 h = z_if (64 ≤ x1) (f697_21 h) (z_g (z_inb x1 64) (f697_2 (z_w (x1 + 1)) (sI h 1078 (Int.toNat x1) (-1)))) := sorry
theorem e697_21 (h : z_M) : f697_21 h = f697_23 0 h := sorry
theorem e697_23 (x1 : Int) (h : z_M) : f697_23 x1 h = z_if (144 ≤ x1) (f697_43 h) (z_g (z_inb x1 144) (f697_23 (z_w (x1 + 1)) (sI h 1076 (Int.toNat x1) 0))) := sorry
theorem e697_43 (h : z_M) : f697_43 h = z_rv h := sorry
theorem e698_0 (h : z_M) : f698_0 h = f698_12 0 (sI (sI h 1064 23 4) 1064 24 1) := sorry
theorem e698_12 (x1 : Int) (h : z_M) : f698_12 x1 h = z_if (144 ≤ x1) (f698_32 h) (z_g (z_inb x1 144) (f698_12 (z_w (x1 + 1)) (sI h 1077 (Int.toNat x1) 0))) := sorry
theorem e698_32 (h : z_M) : f698_32 h = z_rv h := sorry
theorem e749_0 (x1 : Int) (h : z_M) : f749_0 x1 h = z_ki (f752_0 x1 h) (fun v1 h1 => z_if (v1 = 0) (f749_13 x1 h1) (f749_14 x1 0 h1)) z_ex := sorry
theorem e749_13 (x1 : Int) (h : z_M) : f749_13 x1 h = f749_14 x1 1 h := sorry
theorem e749_14 (x1 s1 : Int) (h : z_M) : f749_14 x1 s1 h = z_if ((hI (sI h 1064 342 s1) 1064 342) ≤ 0) (f749_26 x1 (sI h 1064 342 s1)) (z_ri 0 (sI h 1064 342 s1)) := sorry
theorem e749_26 (x1 : Int) (h : z_M) : f749_26 x1 h = z_g (z_inb x1 16) (z_g (z_inb x1 16) (z_ri (hI h 1254 (Int.toNat x1)) (sI h 1254 (Int.toNat x1) 0))) := sorry
theorem e752_0 (x1 : Int) (h : z_M) : f752_0 x1 h = z_if (x1 < 0) (f752_14 h) (z_if (8 ≤ x1) (f752_14 h) (f752_15 1 h)) := sorry
theorem e752_14 (h : z_M) : f752_14 h = f752_15 0 h := sorry
theorem e752_15 (s0 : Int) (h : z_M) : f752_15 s0 h = z_g (z_01 s0) (z_ri s0 h) := sorry
theorem e760_0 (x1 x2 : Int) (h : z_M) : f760_0 x1 x2 h = z_ki (f881_0 x1 x2 h) (fun v1 h1 => z_ki (f954_0 v1 1 1 1 h1) (fun v2 h2 => z_if (v2 = 0) (f760_31 h2) (z_g (z_inb (z_w ((z_w (1500 * x1)) + x2)) 18000) (f760_32 (hI h2 1073 (Int.toNat (z_w ((z_w (1500 * x1)) + x2)))) h2))) z_ex) z_ex := sorry
theorem e760_31 (h : z_M) : f760_31 h = f760_32 0 h := sorry
theorem e760_32 (s0 : Int) (h : z_M) : f760_32 s0 h = z_ri s0 h := sorry
theorem e806_0 (x1 x2 : Int) (h : z_M) : f806_0 x1 x2 h = z_ki (f984_0 (z_w (x1 - 1)) x2 x2 h) (fun v1 h1 => z_ki (f984_0 (z_w (x1 - 2)) x2 x2 h1) (fun v2 h2 => z_ki (f984_0 (z_w (x1 - 1)) (z_w (x2 - 1)) x2 h2) (fun v3 h3 => z_ki (f984_0 x1 (z_w (x2 - 1)) x2 h3) (fun v4 h4 => z_ki (f984_0 (z_w (x1 + 1)) (z_w (x2 - 1)) x2 h4) (fun v5 h5 => z_g (z_inb (z_w ((z_w (12 * x2)) + x1)) 144) (z_ri (z_w ((z_w ((z_w ((z_w ((z_w (v1 + (z_w (2 * v2)))) + (z_w (4 * v3)))) + (z_w (8 * v4)))) + (z_w (16 * v5)))) + (z_w (32 * (hI h5 1077 (Int.toNat (z_w ((z_w (12 * x2)) + x1)))))))) h5)) z_ex) z_ex) z_ex) z_ex) z_ex := sorry
theorem e807_0 (x1 x2 : Int) (h : z_M) : f807_0 x1 x2 h = z_ki (f888_0 x1 h) (fun v1 h1 => z_if (v1 = 0) (f807_19 x1 x2 h1) (z_ki (f888_0 x2 h1) (fun v2 h2 => z_if (v2 = 0) (f807_19 x1 x2 h2) (f807_20 x1 x2 1 h2)) z_ex)) z_ex := sorry
theorem e807_19 (x1 x2 : Int) (h : z_M) : f807_19 x1 x2 h = f807_20 x1 x2 0 h := sorry
theorem e807_20 (x1 x2 s1 : Int) (h : z_M) : f807_20 x1 x2 s1 h = z_ki (f954_0 s1 1 1 1 h) (fun v1 h1 => z_if (¬ v1 = 0) (f807_30 x1 x2 h1) (z_rv h1)) z_ex := sorry
theorem e807_30 (x1 x2 : Int) (h : z_M) : f807_30 x1 x2 h = z_g (z_inb x2 8) (z_g (z_inb x1 8) (z_g (z_inb x2 8) (z_g (z_inb x1 8) (f807_56 x1 x2 0 (sI (sI h 1065 (Int.toNat x1) (hI h 1065 (Int.toNat x2))) 1066 (Int.toNat x1) (hI (sI h 1065 (Int.toNat x1) (hI h 1065 (Int.toNat x2))) 1066 (Int.toNat x2))))))) := sorry
theorem e807_56 (x1 x2 x3 : Int) (h : z_M) : f807_56 x1 x2 x3 h = z_if (144 ≤ x3) (f807_117 h) (z_g (z_inb (z_w ((z_w (144 * x2)) + x3)) 1152) (z_g (z_inb (z_w ((z_w (144 * x1)) + x3)) 1152) (z_g (z_inb (z_w ((z_w (144 * x2)) + x3)) 1152) (z_g (z_inb (z_w ((z_w (144 * x1)) + x3)) 1152) (z_g (z_01 (hI (sI h 1067 (Int.toNat (z_w ((z_w (144 * x1)) + x3))) (hI h 1067 (Int.toNat (z_w ((z_w (144 * x2)) + x3))))) 1068 (Int.toNat (z_w ((z_w (144 * x2)) + x3))))) (f807_56 x1 x2 (z_w (x3 + 1)) (sI (sI h 1067 (Int.toNat (z_w ((z_w (144 * x1)) + x3))) (hI h 1067 (Int.toNat (z_w ((z_w (144 * x2)) + x3))))) 1068 (Int.toNat (z_w ((z_w (144 * x1)) + x3))) (hI (sI h 1067 (Int.toNat (z_w ((z_w (144 * x1)) + x3))) (hI h 1067 (Int.toNat (z_w ((z_w (144 * x2)) + x3))))) 1068 (Int.toNat (z_w ((z_w (144 * x2)) + x3))))))))))) := sorry
theorem e807_117 (h : z_M) : f807_117 h = z_rv h := sorry
theorem e808_0 (x1 x2 : Int) (h : z_M) : f808_0 x1 x2 h = f808_5 x1 x2 0 0 h := sorry
theorem e808_5 (x1 x2 x3 x4 : Int) (h : z_M) : f808_5 x1 x2 x3 x4 h = z_if (144 ≤ x4) (f808_74 x1 x2 x3 h) (z_if (¬ x1 = 0) (f808_74 x1 x2 x3 h) (z_g (z_inb x2 8) (z_if ((hI h 1065 (Int.toNat x2)) ≤ 0) (f808_74 x1 x2 x3 h) (z_g (¬ (12 : Int) = 0) (z_g (¬ (12 : Int) = 0) (z_ki (f889_0 x2 (z_rem x4 12) (z_div x4 12) h) (fun v1 h1 => z_if (v1 = 0) (f808_65 x1 x2 x4 x3 h1) (z_g (z_inb (z_w ((z_w (144 * x2)) + x4)) 1152) (z_if ((hI h1 1068 (Int.toNat (z_w ((z_w (144 * x2)) + x4)))) = 0) (f808_65 x1 x2 x4 x3 h1) (f808_66 x1 x2 x4 x3 1 h1)))) z_ex)))))) := sorry
theorem e808_65 (x1 x2 x4 s0 : Int) (h : z_M) : f808_65 x1 x2 x4 s0 h = f808_66 x1 x2 x4 s0 0 h := sorry
theorem e808_66 (x1 x2 x4 s0 s1 : Int) (h : z_M) : f808_66 x1 x2 x4 s0 s1 h = f808_5 x1 x2 (z_w (s0 + s1)) (z_w (x4 + 1)) h := sorry
theorem e808_74 (x1 x2 x3 : Int) (h : z_M) : f808_74 x1 x2 x3 h = f808_77 x1 x2 x3 0 h := sorry
theorem e808_77 (x1 x2 x3 x4 : Int) (h : z_M) : f808_77 x1 x2 x3 x4 h = z_if (576 ≤ x4) (f808_120 x3 h) (z_if (¬ x1 = 1) (f808_120 x3 h) (z_g (z_inb (z_w ((z_w (576 * x2)) + x4)) 2304) (z_if ((hI h 1071 (Int.toNat (z_w ((z_w (576 * x2)) + x4)))) = 0) (f808_111 x1 x2 x4 x3 h) (f808_112 x1 x2 x4 x3 1 h)))) := sorry
theorem e808_111 (x1 x2 x4 s0 : Int) (h : z_M) : f808_111 x1 x2 x4 s0 h = f808_112 x1 x2 x4 s0 0 h := sorry
theorem e808_112 (x1 x2 x4 s0 s1 : Int) (h : z_M) : f808_112 x1 x2 x4 s0 s1 h = f808_77 x1 x2 (z_w (s0 + s1)) (z_w (x4 + 1)) h := sorry
theorem e808_120 (x3 : Int) (h : z_M) : f808_120 x3 h = z_ri x3 h := sorry
theorem e809_0 (x1 : Int) (h : z_M) : f809_0 x1 h = z_if (¬ (hI (sI (sI h 1064 23 (z_w ((hI h 1064 23) + x1))) 1064 24 (z_w ((hI (sI h 1064 23 (z_w ((hI h 1064 23) + x1))) 1064 24) + 1))) 1064 24) = 32) (f809_49 (sI (sI h 1064 23 (z_w ((hI h 1064 23) + x1))) 1064 24 (z_w ((hI (sI h 1064 23 (z_w ((hI h 1064 23) + x1))) 1064 24) + 1)))) (z_g (¬ (2 : Int) = 0) (z_g (¬ (2 : Int) = 0) (f809_49 (sI (sI (sI (sI h 1064 23 (z_w ((hI h 1064 23) + x1))) 1064 24 (z_w ((hI (sI h 1064 23 (z_w ((hI h 1064 23) + x1))) 1064 24) + 1))) 1064 23 (z_div (hI (sI (sI h 1064 23 (z_w ((hI h 1064 23) + x1))) 1064 24 (z_w ((hI (sI h 1064 23 (z_w ((hI h 1064 23) + x1))) 1064 24) + 1))) 1064 23) 2)) 1064 24 (z_div (hI (sI (sI (sI h 1064 23 (z_w ((hI h 1064 23) + x1))) 1064 24 (z_w ((hI (sI h 1064 23 (z_w ((hI h 1064 23) + x1))) 1064 24) + 1))) 1064 23 (z_div (hI (sI (sI h 1064 23 (z_w ((hI h 1064 23) + x1))) 1064 24 (z_w ((hI (sI h 1064 23 (z_w ((hI h 1064 23) + x1))) 1064 24) + 1))) 1064 23) 2)) 1064 24) 2))))) := sorry
theorem e809_49 (h : z_M) : f809_49 h = z_rv h := sorry
theorem e811_0 (x1 x2 : Int) (h : z_M) : f811_0 x1 x2 h = z_ki (f883_0 x1 h) (fun v1 h1 => z_if (x2 < 0) (f811_13 x1 x2 v1 h1) (f811_14 x1 x2 v1 1 h1)) z_ex := sorry
theorem e811_13 (x1 x2 s1 : Int) (h : z_M) : f811_13 x1 x2 s1 h = f811_14 x1 x2 s1 0 h := sorry
theorem e811_14 (x1 x2 s1 s2 : Int) (h : z_M) : f811_14 x1 x2 s1 s2 h = z_ki (f954_0 s1 s2 1 1 h) (fun v1 h1 => z_if (¬ v1 = 0) (f811_24 x1 x2 h1) (z_ri 0 h1)) z_ex := sorry
theorem e811_24 (x1 x2 : Int) (h : z_M) : f811_24 x1 x2 h = z_g (z_inb x1 12) (z_if ((hI h 1072 (Int.toNat x1)) ≤ x2) (f811_43 x1 x1 h) (f811_49 x1 x1 x2 h)) := sorry
theorem e811_43 (x1 s1 : Int) (h : z_M) : f811_43 x1 s1 h = z_g (z_inb x1 12) (f811_49 x1 s1 (hI h 1072 (Int.toNat x1)) h) := sorry
theorem e811_49 (x1 s1 s2 : Int) (h : z_M) : f811_49 x1 s1 s2 h = z_g (z_inb s1 12) (z_g (z_inb x1 12) (z_ri (hI (sI h 1072 (Int.toNat s1) s2) 1072 (Int.toNat x1)) (sI h 1072 (Int.toNat s1) s2))) := sorry
theorem e863_0 (h : z_M) : f863_0 h = f863_2 0 h := sorry
theorem e863_2 (x1 : Int) (h : z_M) : f863_2 x1 h = z_if (144 ≤ x1) (f863_27 h) (z_g (z_inb x1 144) (z_g (z_inb x1 144) (f863_2 (z_w (x1 + 1)) (sI h 1077 (Int.toNat x1) (hI h 1076 (Int.toNat x1)))))) := sorry
theorem e863_27 (h : z_M) : f863_27 h = z_rv h := sorry
theorem e865_0 (x1 : Int) (h : z_M) : f865_0 x1 h = z_ki (f885_0 x1 0 1 h) (fun v1 h1 => z_ki (f954_0 v1 1 1 1 h1) (fun v2 h2 => z_if (¬ v2 = 0) (f865_18 x1 h2) (z_ri 0 h2)) z_ex) z_ex := sorry
theorem e865_18 (x1 : Int) (h : z_M) : f865_18 x1 h = z_if (¬ x1 = 0) (f865_29 h) (f865_33 (hI h 1064 2) h) := sorry
theorem e865_29 (h : z_M) : f865_29 h = f865_33 (hI h 1064 3) h := sorry
theorem e865_33 (s0 : Int) (h : z_M) : f865_33 s0 h = z_ri s0 h := sorry
theorem e866_0 (x1 x2 : Int) (h : z_M) : f866_0 x1 x2 h = z_ki (f883_0 x1 h) (fun v1 h1 => z_ki (f885_0 x2 0 255 h1) (fun v2 h2 => z_ki (f883_0 x1 h2) (fun v3 h3 => z_if (v3 = 0) (f866_36 x1 x2 v1 v2 h3) (z_g (z_inb x1 12) (z_if (1500 ≤ (hI h3 1072 (Int.toNat x1))) (f866_36 x1 x2 v1 v2 h3) (f866_37 x1 x2 v1 v2 1 h3)))) z_ex) z_ex) z_ex := sorry
theorem e866_36 (x1 x2 s1 s2 : Int) (h : z_M) : f866_36 x1 x2 s1 s2 h = f866_37 x1 x2 s1 s2 0 h := sorry
theorem e866_37 (x1 x2 s1 s2 s3 : Int) (h : z_M) : f866_37 x1 x2 s1 s2 s3 h = z_ki (f954_0 s1 s2 s3 1 h) (fun v1 h1 => z_if (¬ v1 = 0) (f866_46 x1 x2 h1) (z_ri 0 h1)) z_ex := sorry
theorem e866_46 (x1 x2 : Int) (h : z_M) : f866_46 x1 x2 h = z_g (z_inb x1 12) (z_g (z_inb (z_w ((z_w (1500 * x1)) + (hI h 1072 (Int.toNat x1)))) 18000) (z_g (z_inb x1 12) (z_g (z_inb x1 12) (z_g (z_inb x1 12) (z_ri (hI (sI (sI h 1073 (Int.toNat (z_w ((z_w (1500 * x1)) + (hI h 1072 (Int.toNat x1))))) x2) 1072 (Int.toNat x1) (z_w ((hI (sI h 1073 (Int.toNat (z_w ((z_w (1500 * x1)) + (hI h 1072 (Int.toNat x1))))) x2) 1072 (Int.toNat x1)) + 1))) 1072 (Int.toNat x1)) (sI (sI h 1073 (Int.toNat (z_w ((z_w (1500 * x1)) + (hI h 1072 (Int.toNat x1))))) x2) 1072 (Int.toNat x1) (z_w ((hI (sI h 1073 (Int.toNat (z_w ((z_w (1500 * x1)) + (hI h 1072 (Int.toNat x1))))) x2) 1072 (Int.toNat x1)) + 1)))))))) := sorry
theorem e870_0 (x1 : Int) (h : z_M) : f870_0 x1 h = z_ki (f749_0 x1 h) (fun v1 h1 => z_ri v1 (sI h1 1064 0 (hI h1 1064 342))) z_ex := sorry
theorem e871_0 (x1 x2 x3 x4 : Int) (h : z_M) : f871_0 x1 x2 x3 x4 h = z_g (z_inb (z_w ((z_w ((z_w (144 * x1)) + (z_w (12 * x3)))) + x2)) 1152) (z_if ((hI h 1068 (Int.toNat (z_w ((z_w ((z_w (144 * x1)) + (z_w (12 * x3)))) + x2)))) = 0) (f871_51 h) (z_g (z_inb (z_w ((z_w ((z_w (144 * x1)) + (z_w (12 * x3)))) + x2)) 1152) (z_g (¬ (255 : Int) = 0) (f871_52 (z_div (z_w ((z_w ((z_w ((z_w (255 - (hI h 1067 (Int.toNat (z_w ((z_w ((z_w (144 * x1)) + (z_w (12 * x3)))) + x2)))))) * x4)) * x4)) + 127)) 255) h)))) := sorry
theorem e871_51 (h : z_M) : f871_51 h = f871_52 0 h := sorry
theorem e871_52 (s0 : Int) (h : z_M) : f871_52 s0 h = z_ri s0 h := sorry
theorem e872_0 (x1 x2 x3 : Int) (h : z_M) : f872_0 x1 x2 x3 h = z_ki (f888_0 x1 h) (fun v1 h1 => z_if (v1 = 0) (f872_19 x1 x2 x3 h1) (z_ki (f883_0 x3 h1) (fun v2 h2 => z_if (v2 = 0) (f872_19 x1 x2 x3 h2) (f872_20 x1 x2 x3 1 h2)) z_ex)) z_ex := sorry
theorem e872_19 (x1 x2 x3 : Int) (h : z_M) : f872_19 x1 x2 x3 h = f872_20 x1 x2 x3 0 h := sorry
theorem e872_20 (x1 x2 x3 s1 : Int) (h : z_M) : f872_20 x1 x2 x3 s1 h = z_ki (f892_0 x1 h) (fun v1 h1 => z_ki (f885_0 x2 1 2 h1) (fun v2 h2 => z_ki (f874_0 h2) (fun v3 h3 => z_ki (f954_0 s1 v1 v2 v3 h3) (fun v4 h4 => z_if (¬ v4 = 0) (f872_43 x1 x2 x3 h4) (z_ri 0 h4)) z_ex) z_ex) z_ex) z_ex := sorry
theorem e872_43 (x1 x2 x3 : Int) (h : z_M) : f872_43 x1 x2 x3 h = z_kv (f948_0 x1 x2 h) (fun h1 => z_ki (f982_0 x3 (sI h1 1064 1 (z_w ((hI h1 1064 1) + 1)))) (fun v2 h2 => z_ri v2 h2) z_ex) z_ex := sorry
theorem e874_0 (h : z_M) : f874_0 h = z_if (300 ≤ (hI h 1064 1)) (f874_14 h) (f874_15 1 h) := sorry
theorem e874_14 (h : z_M) : f874_14 h = f874_15 0 h := sorry
theorem e874_15 (s0 : Int) (h : z_M) : f874_15 s0 h = z_g (z_01 s0) (z_ri s0 h) := sorry
theorem e875_0 (h : z_M) : f875_0 h = z_if (¬ (hI h 1064 30) = 0) (f875_24 h) (z_if (¬ (hI h 1064 27) = (hI h 1064 28)) (f875_24 h) (f875_24 (sI h 1064 30 11))) := sorry
theorem e875_24 (h : z_M) : f875_24 h = z_if ((hI h 1064 30) ≤ 0) (f875_33 h) (z_ri 0 h) := sorry
theorem e875_33 (h : z_M) : f875_33 h = z_g (¬ (8 : Int) = 0) (z_g (z_inb (z_w ((z_w (1500 * (hI h 1064 29))) + (z_div (hI h 1064 27) 8))) 18000) (z_g (¬ (8 : Int) = 0) (z_ri (z_and (z_shr (hI h 1073 (Int.toNat (z_w ((z_w (1500 * (hI h 1064 29))) + (z_div (hI h 1064 27) 8))))) (z_w (7 - (z_rem (hI h 1064 27) 8)))) 1) (sI h 1064 27 (z_w ((hI h 1064 27) + 1)))))) := sorry
theorem e876_0 (h : z_M) : f876_0 h = z_ki (f963_0 (hI h 1064 16) h) (fun v1 h1 => z_kv (f698_0 h1) (fun h2 => z_g (z_01 0) (f876_33 (z_w ((z_w (v1 * (hI h1 1064 17))) * (hI h1 1064 18))) (z_w (v1 - 1)) (sI h2 1064 26 0))) z_ex) z_ex := sorry
theorem e876_33 (x2 x3 : Int) (h : z_M) : f876_33 x2 x3 h = z_if (x3 < 0) (f876_255 h) (z_kv (f697_0 h) (fun h1 => f876_44 x2 x3 0 h1) z_ex) := sorry
theorem e876_44 (x2 x3 x4 : Int) (h : z_M) : f876_44 x2 x3 x4 h = z_if ((z_w ((hI h 1064 17) * (hI h 1064 18))) ≤ x4) (f876_245 x2 x3 h) (z_if (¬ (hI h 1064 30) = 0) (f876_245 x2 x3 h) (z_g (¬ (hI h 1064 17) = 0) (z_g (¬ (hI h 1064 17) = 0) (z_if (¬ (hI h 1064 26) = 0) (f876_95 x2 x3 x4 (z_rem x4 (hI h 1064 17)) (z_div x4 (hI h 1064 17)) h) (z_kv (f878_0 x2 h) (fun h1 => f876_95 x2 x3 x4 (z_rem x4 (hI h 1064 17)) (z_div x4 (hI h 1064 17)) h1) z_ex))))) := sorry
theorem e876_95 (x2 x3 x4 x5 x6 : Int) (h : z_M) : f876_95 x2 x3 x4 x5 x6 h = z_ki (f806_0 x5 x6 h) (fun v1 h1 => z_g (z_inb v1 64) (z_if ((hI h1 1078 (Int.toNat v1)) < 0) (f876_119 x2 x3 x4 x5 x6 v1 h1) (f876_120 x2 x3 x4 x5 x6 v1 1 h1))) z_ex := sorry
theorem e876_119 (x2 x3 x4 x5 x6 x7 : Int) (h : z_M) : f876_119 x2 x3 x4 x5 x6 x7 h = f876_120 x2 x3 x4 x5 x6 x7 0 h := sorry
theorem e876_120 (x2 x3 x4 x5 x6 x7 s0 : Int) (h : z_M) : f876_120 x2 x3 x4 x5 x6 x7 s0 h = z_if ((hI h 1064 25) ≤ 0) (f876_133 x2 x3 x4 x5 x6 x7 s0 h) (f876_134 x2 x3 x4 x5 x6 x7 s0 1 h) := sorry
theorem e876_133 (x2 x3 x4 x5 x6 x7 x8 : Int) (h : z_M) : f876_133 x2 x3 x4 x5 x6 x7 x8 h = f876_134 x2 x3 x4 x5 x6 x7 x8 0 h := sorry
theorem e876_134 (x2 x3 x4 x5 x6 x7 x8 s0 : Int) (h : z_M) : f876_134 x2 x3 x4 x5 x6 x7 x8 s0 h = z_if (¬ s0 = x8) (f876_147 x2 x3 x4 x5 x6 x7 s0 h) (f876_148 x2 x3 x4 x5 x6 x7 s0 1 h) := sorry
theorem e876_147 (x2 x3 x4 x5 x6 x7 x9 : Int) (h : z_M) : f876_147 x2 x3 x4 x5 x6 x7 x9 h = f876_148 x2 x3 x4 x5 x6 x7 x9 0 h := sorry
theorem e876_148 (x2 x3 x4 x5 x6 x7 x9 s0 : Int) (h : z_M) : f876_148 x2 x3 x4 x5 x6 x7 x9 s0 h = z_g (z_01 x9) (z_kv (f906_0 x7 s0 (sI (sI h 1064 25 (z_w ((hI h 1064 25) - 1))) 1064 26 x9)) (fun h1 => z_g (z_inb (z_w ((z_w (12 * x6)) + x5)) 144) (z_g (z_inb (z_w ((z_w (12 * x6)) + x5)) 144) (z_g (z_inb (z_w ((z_w (12 * x6)) + x5)) 144) (z_g (z_inb (z_w ((z_w (12 * x6)) + x5)) 144) (f876_44 (z_w (x2 + (-1))) x3 (z_w (x4 + 1)) (sI (sI h1 1076 (Int.toNat (z_w ((z_w (12 * x6)) + x5))) s0) 1075 (Int.toNat (z_w ((z_w (12 * x6)) + x5))) (z_w ((z_w (2 * (hI (sI h1 1076 (Int.toNat (z_w ((z_w (12 * x6)) + x5))) s0) 1075 (Int.toNat (z_w ((z_w (12 * x6)) + x5)))))) + (z_xor s0 (z_and (hI (sI h1 1076 (Int.toNat (z_w ((z_w (12 * x6)) + x5))) s0) 1075 (Int.toNat (z_w ((z_w (12 * x6)) + x5)))) 1)))))))))) z_ex) := sorry
theorem e876_245 (x2 x3 : Int) (h : z_M) : f876_245 x2 x3 h = z_kv (f863_0 h) (fun h1 => f876_33 x2 (z_w (x3 + (-1))) h1) z_ex := sorry
theorem e876_255 (h : z_M) : f876_255 h = z_if (¬ (hI h 1064 30) = 0) (f876_274 h) (z_if (¬ (hI h 1064 26) = 0) (f876_274 h) (z_kv (f878_0 0 h) (fun h1 => f876_274 h1) z_ex)) := sorry
theorem e876_274 (h : z_M) : f876_274 h = z_rv h := sorry
theorem e877_0 (x1 : Int) (h : z_M) : f877_0 x1 h = f877_4 x1 0 0 h := sorry
theorem e877_4 (x1 x2 x3 : Int) (h : z_M) : f877_4 x1 x2 x3 h = z_if (x1 ≤ x3) (f877_24 x2 h) (z_ki (f875_0 h) (fun v1 h1 => f877_4 x1 (z_w ((z_w (2 * x2)) + v1)) (z_w (x3 + 1)) h1) z_ex) := sorry
theorem e877_24 (x2 : Int) (h : z_M) : f877_24 x2 h = z_ri x2 h := sorry
theorem e878_0 (x1 : Int) (h : z_M) : f878_0 x1 h = z_ki (f967_0 h) (fun v1 h1 => f878_7 x1 v1 0 h1) z_ex := sorry
theorem e878_7 (x1 x2 x3 : Int) (h : z_M) : f878_7 x1 x2 x3 h = z_if (¬ (hI h 1064 30) = 0) (f878_34 x1 x2 x3 h) (z_if (12 ≤ x3) (f878_34 x1 x2 x3 h) (z_ki (f875_0 h) (fun v1 h1 => z_if (¬ v1 = 1) (f878_34 x1 x2 x3 h1) (f878_7 x1 x2 (z_w (x3 + 1)) h1)) z_ex)) := sorry
theorem e878_34 (x1 x2 x3 : Int) (h : z_M) : f878_34 x1 x2 x3 h = z_if (12 ≤ x3) (f878_52 x1 h) (z_ki (f877_0 x2 h) (fun v1 h1 => f878_58 x1 (z_w ((z_shl x3 x2) + v1)) h1) z_ex) := sorry
theorem e878_52 (x1 : Int) (h : z_M) : f878_52 x1 h = z_ki (f877_0 13 h) (fun v1 h1 => f878_58 x1 v1 h1) z_ex := sorry
theorem e878_58 (x1 s0 : Int) (h : z_M) : f878_58 x1 s0 h = z_if (¬ (hI h 1064 30) = 0) (f878_79 s0 h) (z_if (s0 ≤ x1) (f878_79 s0 h) (f878_79 s0 (sI h 1064 30 12))) := sorry
theorem e878_79 (x4 : Int) (h : z_M) : f878_79 x4 h = z_g (z_01 1) (z_kv (f809_0 x4 (sI (sI h 1064 25 x4) 1064 26 1)) (fun h1 => z_rv h1) z_ex) := sorry
theorem e880_0 (x1 x2 x3 x4 x5 : Int) (h : z_M) : f880_0 x1 x2 x3 x4 x5 h = z_ki (f956_0 x1 x2 x3 h) (fun v1 h1 => z_if (v1 = 0) (f880_30 h1) (z_if (x4 ≤ 0) (f880_22 x1 x2 x3 x4 x5 1 1 h1) (f880_23 x1 x2 x3 x4 x5 1 1 1 h1))) z_ex := sorry
theorem e880_22 (x1 x2 x3 x4 x5 s1 s2 : Int) (h : z_M) : f880_22 x1 x2 x3 x4 x5 s1 s2 h = f880_23 x1 x2 x3 x4 x5 s1 s2 0 h := sorry
theorem e880_23 (x1 x2 x3 x4 x5 s1 s2 s3 : Int) (h : z_M) : f880_23 x1 x2 x3 x4 x5 s1 s2 s3 h = z_ki (f954_0 s1 s2 s3 1 h) (fun v1 h1 => z_if (¬ v1 = 0) (f880_32 x1 x2 x3 x4 x5 h1) (f880_30 h1)) z_ex := sorry
theorem e880_30 (h : z_M) : f880_30 h = z_ri 0 h := sorry
theorem e880_32 (x1 x2 x3 x4 x5 : Int) (h : z_M) : f880_32 x1 x2 x3 x4 x5 h = f880_38 x1 x2 x3 x4 x5 0 x2 h := sorry
theorem e880_38 (x1 x2 x3 x4 x5 x6 x7 : Int) (h : z_M) : f880_38 x1 x2 x3 x4 x5 x6 x7 h = z_g (z_inb x1 4) (z_if ((hI h 1069 (Int.toNat x1)) ≤ x7) (f880_110 x6 h) (z_if (x4 ≤ (z_w (x7 - x2))) (f880_110 x6 h) (z_g (z_inb (z_w ((z_w ((z_w (576 * x1)) + (z_w (24 * x3)))) + x7)) 2304) (z_if (¬ (hI h 1071 (Int.toNat (z_w ((z_w ((z_w (576 * x1)) + (z_w (24 * x3)))) + x7)))) = x5) (f880_91 x1 x2 x3 x4 x5 x7 (z_w ((z_w ((z_w (576 * x1)) + (z_w (24 * x3)))) + x7)) x6 h) (f880_92 x1 x2 x3 x4 x5 x7 (z_w ((z_w ((z_w (576 * x1)) + (z_w (24 * x3)))) + x7)) x6 0 h))))) := sorry
theorem e880_91 (x1 x2 x3 x4 x5 x7 x8 s0 : Int) (h : z_M) : f880_91 x1 x2 x3 x4 x5 x7 x8 s0 h = f880_92 x1 x2 x3 x4 x5 x7 x8 s0 1 h := sorry
theorem e880_92 (x1 x2 x3 x4 x5 x7 x8 s0 s1 : Int) (h : z_M) : f880_92 x1 x2 x3 x4 x5 x7 x8 s0 s1 h = z_g (z_inb x8 2304) (z_g (z_01 x5) (f880_38 x1 x2 x3 x4 x5 (z_w (s0 + s1)) (z_w (x7 + 1)) (sI h 1071 (Int.toNat x8) x5))) := sorry
theorem e880_110 (x6 : Int) (h : z_M) : f880_110 x6 h = z_ri x6 h := sorry
theorem e881_0 (x1 x2 : Int) (h : z_M) : f881_0 x1 x2 h = z_ki (f883_0 x1 h) (fun v1 h1 => z_if (v1 = 0) (f881_27 h1) (z_g (z_inb x1 12) (z_ki (f885_0 x2 0 (z_w ((hI h1 1072 (Int.toNat x1)) - 1)) h1) (fun v2 h2 => z_if (v2 = 0) (f881_27 h2) (f881_28 1 h2)) z_ex))) z_ex := sorry
theorem e881_27 (h : z_M) : f881_27 h = f881_28 0 h := sorry
theorem e881_28 (s0 : Int) (h : z_M) : f881_28 s0 h = z_g (z_01 s0) (z_ri s0 h) := sorry
theorem e882_0 (x1 x2 x3 : Int) (h : z_M) : f882_0 x1 x2 x3 h = z_ki (f956_0 x1 x2 x3 h) (fun v1 h1 => z_if (v1 = 0) (f882_34 h1) (z_g (z_inb (z_w ((z_w ((z_w (576 * x1)) + (z_w (24 * x3)))) + x2)) 2304) (z_if ((hI h1 1071 (Int.toNat (z_w ((z_w ((z_w (576 * x1)) + (z_w (24 * x3)))) + x2)))) = 0) (f882_34 h1) (f882_35 1 h1)))) z_ex := sorry
theorem e882_34 (h : z_M) : f882_34 h = f882_35 0 h := sorry
theorem e882_35 (s0 : Int) (h : z_M) : f882_35 s0 h = z_g (z_01 s0) (z_ri s0 h) := sorry
theorem e883_0 (x0 : Int) (h : z_M) : f883_0 x0 h = z_ki (f885_0 x0 0 11 h) (fun v1 h1 => z_g (z_01 v1) (z_ri v1 h1)) z_ex := sorry
theorem e885_0 (x0 x1 x2 : Int) (h : z_M) : f885_0 x0 x1 x2 h = z_if (x0 < x1) (f885_14 h) (z_if (x2 < x0) (f885_14 h) (f885_15 1 h)) := sorry
theorem e885_14 (h : z_M) : f885_14 h = f885_15 0 h := sorry
theorem e885_15 (s0 : Int) (h : z_M) : f885_15 s0 h = z_g (z_01 s0) (z_ri s0 h) := sorry
theorem e887_0 (x1 x2 x3 : Int) (h : z_M) : f887_0 x1 x2 x3 h = z_ki (f955_0 x1 x2 x3 h) (fun v1 h1 => z_if (v1 = 0) (f887_34 h1) (z_g (z_inb (z_w ((z_w ((z_w (144 * x1)) + (z_w (12 * x3)))) + x2)) 1152) (z_if ((hI h1 1068 (Int.toNat (z_w ((z_w ((z_w (144 * x1)) + (z_w (12 * x3)))) + x2)))) = 0) (f887_34 h1) (f887_35 1 h1)))) z_ex := sorry
theorem e887_34 (h : z_M) : f887_34 h = f887_35 0 h := sorry
theorem e887_35 (s0 : Int) (h : z_M) : f887_35 s0 h = z_g (z_01 s0) (z_ri s0 h) := sorry
theorem e888_0 (x0 : Int) (h : z_M) : f888_0 x0 h = z_ki (f885_0 x0 0 7 h) (fun v1 h1 => z_g (z_01 v1) (z_ri v1 h1)) z_ex := sorry
theorem e889_0 (x1 x2 x3 : Int) (h : z_M) : f889_0 x1 x2 x3 h = z_g (z_inb x1 8) (z_ki (f885_0 x2 0 (z_w ((hI h 1065 (Int.toNat x1)) - 1)) h) (fun v1 h1 => z_if (v1 = 0) (f889_36 h1) (z_g (z_inb x1 8) (z_ki (f885_0 x3 0 (z_w ((hI h1 1066 (Int.toNat x1)) - 1)) h1) (fun v2 h2 => z_if (v2 = 0) (f889_36 h2) (f889_37 1 h2)) z_ex))) z_ex) := sorry
theorem e889_36 (h : z_M) : f889_36 h = f889_37 0 h := sorry
theorem e889_37 (s0 : Int) (h : z_M) : f889_37 s0 h = z_g (z_01 s0) (z_ri s0 h) := sorry
theorem e890_0 (x0 : Int) (h : z_M) : f890_0 x0 h = z_ki (f885_0 x0 0 3 h) (fun v1 h1 => z_g (z_01 v1) (z_ri v1 h1)) z_ex := sorry
theorem e891_0 (x1 : Int) (h : z_M) : f891_0 x1 h = z_ki (f890_0 x1 h) (fun v1 h1 => z_if (v1 = 0) (f891_20 h1) (z_g (z_inb x1 4) (z_if ((hI h1 1069 (Int.toNat x1)) ≤ 0) (f891_20 h1) (f891_21 1 h1)))) z_ex := sorry
theorem e891_20 (h : z_M) : f891_20 h = f891_21 0 h := sorry
theorem e891_21 (s0 : Int) (h : z_M) : f891_21 s0 h = z_g (z_01 s0) (z_ri s0 h) := sorry
theorem e892_0 (x1 : Int) (h : z_M) : f892_0 x1 h = z_ki (f888_0 x1 h) (fun v1 h1 => z_if (v1 = 0) (f892_20 h1) (z_g (z_inb x1 8) (z_if ((hI h1 1065 (Int.toNat x1)) ≤ 0) (f892_20 h1) (f892_21 1 h1)))) z_ex := sorry
theorem e892_20 (h : z_M) : f892_20 h = f892_21 0 h := sorry
theorem e892_21 (s0 : Int) (h : z_M) : f892_21 s0 h = z_g (z_01 s0) (z_ri s0 h) := sorry
theorem e895_0 (x1 x2 x3 x4 : Int) (h : z_M) : f895_0 x1 x2 x3 x4 h = z_ki (f881_0 x1 x2 h) (fun v1 h1 => z_if (v1 = 0) (f895_21 x1 x2 x3 x4 h1) (z_ki (f883_0 x4 h1) (fun v2 h2 => z_if (v2 = 0) (f895_21 x1 x2 x3 x4 h2) (f895_22 x1 x2 x3 x4 1 h2)) z_ex)) z_ex := sorry
theorem e895_21 (x1 x2 x3 x4 : Int) (h : z_M) : f895_21 x1 x2 x3 x4 h = f895_22 x1 x2 x3 x4 0 h := sorry
theorem e895_22 (x1 x2 x3 x4 s0 : Int) (h : z_M) : f895_22 x1 x2 x3 x4 s0 h = z_if (¬ s0 = 0) (f895_33 x1 x2 x3 x4 s0 h) (f895_57 x1 x2 x3 x4 s0 0 h) := sorry
theorem e895_33 (x1 x2 x3 x4 x5 : Int) (h : z_M) : f895_33 x1 x2 x3 x4 x5 h = z_g (z_inb x1 12) (z_if ((z_w ((hI h 1072 (Int.toNat x1)) - x2)) ≤ x3) (f895_49 x1 x2 x3 x4 x5 h) (f895_57 x1 x2 x3 x4 x5 x3 h)) := sorry
theorem e895_49 (x1 x2 x3 x4 x5 : Int) (h : z_M) : f895_49 x1 x2 x3 x4 x5 h = z_g (z_inb x1 12) (f895_57 x1 x2 x3 x4 x5 (z_w ((hI h 1072 (Int.toNat x1)) - x2)) h) := sorry
theorem e895_57 (x1 x2 x3 x4 x5 s0 : Int) (h : z_M) : f895_57 x1 x2 x3 x4 x5 s0 h = z_if (x3 < 0) (f895_70 x1 x2 x4 x5 s0 x5 h) (f895_71 x1 x2 x4 x5 s0 x5 1 h) := sorry
theorem e895_70 (x1 x2 x4 x5 x6 s1 : Int) (h : z_M) : f895_70 x1 x2 x4 x5 x6 s1 h = f895_71 x1 x2 x4 x5 x6 s1 0 h := sorry
theorem e895_71 (x1 x2 x4 x5 x6 s1 s2 : Int) (h : z_M) : f895_71 x1 x2 x4 x5 x6 s1 s2 h = z_if (x5 = 0) (f895_96 x1 x2 x4 x6 s1 s2 h) (z_g (z_inb x4 12) (z_if (1500 < (z_w ((hI h 1072 (Int.toNat x4)) + x6))) (f895_96 x1 x2 x4 x6 s1 s2 h) (f895_97 x1 x2 x4 x6 s1 s2 1 h))) := sorry
theorem e895_96 (x1 x2 x4 x6 s1 s2 : Int) (h : z_M) : f895_96 x1 x2 x4 x6 s1 s2 h = f895_97 x1 x2 x4 x6 s1 s2 0 h := sorry
theorem e895_97 (x1 x2 x4 x6 s1 s2 s3 : Int) (h : z_M) : f895_97 x1 x2 x4 x6 s1 s2 s3 h = z_ki (f954_0 s1 s2 s3 1 h) (fun v1 h1 => z_if (¬ v1 = 0) (f895_106 x1 x2 x4 x6 h1) (z_ri 0 h1)) z_ex := sorry
theorem e895_106 (x1 x2 x4 x6 : Int) (h : z_M) : f895_106 x1 x2 x4 x6 h = f895_109 x1 x2 x4 x6 0 h := sorry
theorem e895_109 (x1 x2 x4 x6 x7 : Int) (h : z_M) : f895_109 x1 x2 x4 x6 x7 h = z_if (x6 ≤ x7) (f895_159 x4 x6 h) (z_g (z_inb x4 12) (z_g (z_inb (z_w ((z_w ((z_w (1500 * x1)) + x2)) + x7)) 18000) (z_g (z_inb (z_w ((z_w ((z_w (1500 * x4)) + (hI h 1072 (Int.toNat x4)))) + x7)) 18000) (f895_109 x1 x2 x4 x6 (z_w (x7 + 1)) (sI h 1073 (Int.toNat (z_w ((z_w ((z_w (1500 * x4)) + (hI h 1072 (Int.toNat x4)))) + x7))) (hI h 1073 (Int.toNat (z_w ((z_w ((z_w (1500 * x1)) + x2)) + x7))))))))) := sorry
theorem e895_159 (x4 x6 : Int) (h : z_M) : f895_159 x4 x6 h = z_g (z_inb x4 12) (z_g (z_inb x4 12) (z_ri x6 (sI h 1072 (Int.toNat x4) (z_w ((hI h 1072 (Int.toNat x4)) + x6))))) := sorry
theorem e896_0 (x1 : Int) (h : z_M) : f896_0 x1 h = z_g (z_inb (hI h 1064 14) 12000) (z_rv (sI (sI h 1074 (Int.toNat (hI h 1064 14)) (z_and x1 255)) 1064 14 (z_w ((hI (sI h 1074 (Int.toNat (hI h 1064 14)) (z_and x1 255)) 1064 14) + 1)))) := sorry
theorem e897_0 (x1 : Int) (h : z_M) : f897_0 x1 h = z_g (¬ (8 : Int) = 0) (z_if (¬ (z_rem (hI h 1064 15) 8) = 0) (f897_15 x1 h) (z_kv (f896_0 0 h) (fun h1 => f897_15 x1 h1) z_ex)) := sorry
theorem e897_15 (x1 : Int) (h : z_M) : f897_15 x1 h = z_g (z_inb (z_w ((hI h 1064 14) - 1)) 12000) (z_g (¬ (8 : Int) = 0) (z_g (z_inb (z_w ((hI h 1064 14) - 1)) 12000) (z_rv (sI (sI h 1074 (Int.toNat (z_w ((hI h 1064 14) - 1))) (z_or (hI h 1074 (Int.toNat (z_w ((hI h 1064 14) - 1)))) (z_shl x1 (z_w (7 - (z_rem (hI h 1064 15) 8)))))) 1064 15 (z_w ((hI (sI h 1074 (Int.toNat (z_w ((hI h 1064 14) - 1))) (z_or (hI h 1074 (Int.toNat (z_w ((hI h 1064 14) - 1)))) (z_shl x1 (z_w (7 - (z_rem (hI h 1064 15) 8)))))) 1064 15) + 1)))))) := sorry
theorem e899_0 (x1 x2 : Int) (h : z_M) : f899_0 x1 x2 h = f899_4 x1 (z_w (x2 - 1)) h := sorry
theorem e899_4 (x1 x3 : Int) (h : z_M) : f899_4 x1 x3 h = z_if (x3 < 0) (f899_23 h) (z_kv (f897_0 (z_and (z_shr x1 x3) 1) h) (fun h1 => f899_4 x1 (z_w (x3 + (-1))) h1) z_ex) := sorry
theorem e899_23 (h : z_M) : f899_23 h = z_rv h := sorry
theorem e902_0 (x1 : Int) (h : z_M) : f902_0 x1 h = z_ki (f967_0 h) (fun v1 h1 => z_if (12 ≤ (z_shr x1 v1)) (f902_19 x1 v1 h1) (f902_21 x1 v1 (z_shr x1 v1) h1)) z_ex := sorry
theorem e902_19 (x1 x2 : Int) (h : z_M) : f902_19 x1 x2 h = f902_21 x1 x2 12 h := sorry
theorem e902_21 (x1 x2 s0 : Int) (h : z_M) : f902_21 x1 x2 s0 h = f902_25 x1 x2 s0 0 h := sorry
theorem e902_25 (x1 x2 x3 x4 : Int) (h : z_M) : f902_25 x1 x2 x3 x4 h = z_if (x3 ≤ x4) (f902_42 x1 x2 x3 h) (z_kv (f897_0 1 h) (fun h1 => f902_25 x1 x2 x3 (z_w (x4 + 1)) h1) z_ex) := sorry
theorem e902_42 (x1 x2 x3 : Int) (h : z_M) : f902_42 x1 x2 x3 h = z_if (12 ≤ x3) (f902_62 x1 h) (z_kv (f897_0 0 h) (fun h1 => z_kv (f899_0 x1 x2 h1) (fun h2 => f902_69 x1 h2) z_ex) z_ex) := sorry
theorem e902_62 (x1 : Int) (h : z_M) : f902_62 x1 h = z_kv (f899_0 x1 13 h) (fun h1 => f902_69 x1 h1) z_ex := sorry
theorem e902_69 (x1 : Int) (h : z_M) : f902_69 x1 h = z_kv (f809_0 x1 h) (fun h1 => z_rv h1) z_ex := sorry
theorem e906_0 (x1 x2 : Int) (h : z_M) : f906_0 x1 x2 h = z_g (z_inb x1 64) (z_if (¬ x2 = 1) (f906_28 x1 (hI h 1078 (Int.toNat x1)) h) (z_if (0 ≤ (hI h 1078 (Int.toNat x1))) (f906_22 x1 (hI h 1078 (Int.toNat x1)) h) (f906_41 x1 (z_w ((hI h 1078 (Int.toNat x1)) + 2)) h))) := sorry
theorem e906_22 (x1 x3 : Int) (h : z_M) : f906_22 x1 x3 h = f906_41 x1 (z_w (x3 + 1)) h := sorry
theorem e906_28 (x1 x3 : Int) (h : z_M) : f906_28 x1 x3 h = z_if (0 ≤ x3) (f906_38 x1 x3 h) (f906_41 x1 (z_w (x3 - 1)) h) := sorry
theorem e906_38 (x1 x3 : Int) (h : z_M) : f906_38 x1 x3 h = f906_41 x1 (z_w (x3 - 2)) h := sorry
theorem e906_41 (x1 s0 : Int) (h : z_M) : f906_41 x1 s0 h = z_if (s0 ≤ 7) (f906_60 s0 x1 h) (f906_74 x1 7 h) := sorry
theorem e906_60 (x4 s1 : Int) (h : z_M) : f906_60 x4 s1 h = z_if ((-8) ≤ x4) (f906_72 x4 s1 h) (f906_74 s1 (-8) h) := sorry
theorem e906_72 (x4 s1 : Int) (h : z_M) : f906_72 x4 s1 h = f906_74 s1 x4 h := sorry
theorem e906_74 (s1 s2 : Int) (h : z_M) : f906_74 s1 s2 h = z_g (z_inb s1 64) (z_rv (sI h 1078 (Int.toNat s1) s2)) := sorry
theorem e907_0 (x1 x2 x3 x4 x5 x6 : Int) (h : z_M) : f907_0 x1 x2 x3 x4 x5 x6 h = z_ki (f888_0 x1 h) (fun v1 h1 => z_if (v1 = 0) (f907_20 x1 x2 x3 x4 x5 x6 h1) (z_ki (f883_0 x6 h1) (fun v2 h2 => z_if (v2 = 0) (f907_20 x1 x2 x3 x4 x5 x6 h2) (f907_21 x1 x2 x3 x4 x5 x6 1 h2)) z_ex)) z_ex := sorry
theorem e907_20 (x1 x2 x3 x4 x5 x6 : Int) (h : z_M) : f907_20 x1 x2 x3 x4 x5 x6 h = f907_21 x1 x2 x3 x4 x5 x6 0 h := sorry
theorem e907_21 (x1 x2 x3 x4 x5 x6 s1 : Int) (h : z_M) : f907_21 x1 x2 x3 x4 x5 x6 s1 h = z_ki (f885_0 x2 1 3 h) (fun v1 h1 => z_ki (f954_0 s1 1 v1 1 h1) (fun v2 h2 => z_if (¬ v2 = 0) (f907_37 x1 x2 x3 x4 x5 x6 h2) (z_ri 0 h2)) z_ex) z_ex := sorry
theorem e907_37 (x1 x2 x3 x4 x5 x6 : Int) (h : z_M) : f907_37 x1 x2 x3 x4 x5 x6 h = z_ki (f885_0 x3 0 2 h) (fun v1 h1 => z_if (v1 = 0) (f907_71 x1 x2 x3 x4 x5 x6 h1) (z_ki (f885_0 x4 0 3 h1) (fun v2 h2 => z_if (v2 = 0) (f907_71 x1 x2 x3 x4 x5 x6 h2) (z_ki (f885_0 x5 0 12 h2) (fun v3 h3 => z_if (v3 = 0) (f907_71 x1 x2 x3 x4 x5 x6 h3) (f907_72 x1 x2 x3 x4 x5 x6 1 h3)) z_ex)) z_ex)) z_ex := sorry
theorem e907_71 (x1 x2 x3 x4 x5 x6 : Int) (h : z_M) : f907_71 x1 x2 x3 x4 x5 x6 h = f907_72 x1 x2 x3 x4 x5 x6 0 h := sorry
theorem e907_72 (x1 x2 x3 x4 x5 x6 s0 : Int) (h : z_M) : f907_72 x1 x2 x3 x4 x5 x6 s0 h = z_if (8 < (z_w (x1 + x2))) (f907_87 x1 x2 x3 x4 x5 x6 s0 h) (f907_88 x1 x2 x3 x4 x5 x6 s0 1 h) := sorry
theorem e907_87 (x1 x2 x3 x4 x5 x6 x7 : Int) (h : z_M) : f907_87 x1 x2 x3 x4 x5 x6 x7 h = f907_88 x1 x2 x3 x4 x5 x6 x7 0 h := sorry
theorem e907_88 (x1 x2 x3 x4 x5 x6 x7 s1 : Int) (h : z_M) : f907_88 x1 x2 x3 x4 x5 x6 x7 s1 h = z_ki (f691_0 x1 x2 h) (fun v1 h1 => z_ki (f874_0 h1) (fun v2 h2 => z_ki (f954_0 s1 v1 x7 v2 h2) (fun v3 h3 => z_if (¬ v3 = 0) (f907_108 x1 x2 x3 x4 x5 x6 h3) (z_ri 0 h3)) z_ex) z_ex) z_ex := sorry
theorem e907_108 (x1 x2 x3 x4 x5 x6 : Int) (h : z_M) : f907_108 x1 x2 x3 x4 x5 x6 h = z_kv (f949_0 x1 x2 x3 x4 x5 h) (fun h1 => z_ki (f982_0 x6 (sI h1 1064 1 (z_w ((hI h1 1064 1) + 1)))) (fun v2 h2 => z_ri v2 h2) z_ex) z_ex := sorry
theorem e908_0 (x1 x2 : Int) (h : z_M) : f908_0 x1 x2 h = f908_7 x2 0 (sI h 1064 99 x1) := sorry
theorem e908_7 (x2 x3 : Int) (h : z_M) : f908_7 x2 x3 h = z_if (4 ≤ x3) (f908_32 h) (z_g (z_inb x3 4) (z_g (z_inb x3 4) (f908_7 x2 (z_w (x3 + 1)) (sI (sI h 1111 (Int.toNat x3) x2) 1112 (Int.toNat x3) 1)))) := sorry
theorem e908_32 (h : z_M) : f908_32 h = z_rv h := sorry
theorem e909_0 (x1 : Int) (h : z_M) : f909_0 x1 h = z_if (¬ (hI (sI (sI h 1064 100 (z_w ((z_w (2 * (hI h 1064 100))) + x1))) 1064 101 (z_w ((hI (sI h 1064 100 (z_w ((z_w (2 * (hI h 1064 100))) + x1))) 1064 101) + 1))) 1064 101) = (hI (sI (sI h 1064 100 (z_w ((z_w (2 * (hI h 1064 100))) + x1))) 1064 101 (z_w ((hI (sI h 1064 100 (z_w ((z_w (2 * (hI h 1064 100))) + x1))) 1064 101) + 1))) 1064 102)) (f909_72 (sI (sI h 1064 100 (z_w ((z_w (2 * (hI h 1064 100))) + x1))) 1064 101 (z_w ((hI (sI h 1064 100 (z_w ((z_w (2 * (hI h 1064 100))) + x1))) 1064 101) + 1)))) (z_kv (f931_0 (hI (sI (sI h 1064 100 (z_w ((z_w (2 * (hI h 1064 100))) + x1))) 1064 101 (z_w ((hI (sI h 1064 100 (z_w ((z_w (2 * (hI h 1064 100))) + x1))) 1064 101) + 1))) 1064 100) (sI (sI h 1064 100 (z_w ((z_w (2 * (hI h 1064 100))) + x1))) 1064 101 (z_w ((hI (sI h 1064 100 (z_w ((z_w (2 * (hI h 1064 100))) + x1))) 1064 101) + 1)))) (fun h1 => z_if (¬ (hI h1 1064 100) = 255) (f909_57 h1) (f909_59 7 h1)) z_ex) := sorry
theorem e909_57 (h : z_M) : f909_57 h = f909_59 8 h := sorry
theorem e909_59 (s1 : Int) (h : z_M) : f909_59 s1 h = f909_72 (sI (sI (sI h 1064 102 s1) 1064 100 0) 1064 101 0) := sorry
theorem e909_72 (h : z_M) : f909_72 h = z_rv h := sorry
theorem e912_0 (x1 : Int) (h : z_M) : f912_0 x1 h = z_if (0 ≤ x1) (f912_8 x1 h) (f912_24 0 h) := sorry
theorem e912_8 (x1 : Int) (h : z_M) : f912_8 x1 h = z_if (x1 ≤ (hI h 1064 98)) (f912_23 x1 h) (f912_24 (hI h 1064 98) h) := sorry
theorem e912_23 (x1 : Int) (h : z_M) : f912_23 x1 h = f912_24 x1 h := sorry
theorem e912_24 (s0 : Int) (h : z_M) : f912_24 s0 h = z_ri s0 h := sorry
theorem e913_0 (x1 x2 x3 : Int) (h : z_M) : f913_0 x1 x2 x3 h = z_g (z_inb x1 4) (z_if (¬ (hI h 1112 (Int.toNat x1)) = x3) (f913_30 x1 x2 h) (z_g (z_inb x1 4) (z_g (¬ (2 : Int) = 0) (z_g (z_inb x1 4) (z_g (z_inb x1 4) (z_g (¬ (2 : Int) = 0) (z_g (z_inb x1 4) (f913_30 x1 x2 (sI (sI h 1111 (Int.toNat x1) (z_div (hI h 1111 (Int.toNat x1)) 2)) 1112 (Int.toNat x1) (z_div (hI (sI h 1111 (Int.toNat x1) (z_div (hI h 1111 (Int.toNat x1)) 2)) 1112 (Int.toNat x1)) 2)))))))))) := sorry
theorem e913_30 (x1 x2 : Int) (h : z_M) : f913_30 x1 x2 h = z_g (z_inb x1 4) (z_if (0 ≤ x2) (f913_46 x1 x2 x1 (hI h 1111 (Int.toNat x1)) h) (f913_47 x1 x1 (hI h 1111 (Int.toNat x1)) (z_w (-x2)) h)) := sorry
theorem e913_46 (x1 x2 s1 s2 : Int) (h : z_M) : f913_46 x1 x2 s1 s2 h = f913_47 x1 s1 s2 x2 h := sorry
theorem e913_47 (x1 s1 s2 s3 : Int) (h : z_M) : f913_47 x1 s1 s2 s3 h = z_g (z_inb s1 4) (z_g (z_inb x1 4) (z_g (z_inb x1 4) (z_rv (sI (sI h 1111 (Int.toNat s1) (z_w (s2 + s3))) 1112 (Int.toNat x1) (z_w ((hI (sI h 1111 (Int.toNat s1) (z_w (s2 + s3))) 1112 (Int.toNat x1)) + 1)))))) := sorry
theorem e914_0 (x1 x2 x3 : Int) (h : z_M) : f914_0 x1 x2 x3 h = z_kv (f908_0 0 (hI (sI (sI (sI h 1064 100 0) 1064 101 0) 1064 102 8) 1064 53) (sI (sI (sI h 1064 100 0) 1064 101 0) 1064 102 8)) (fun h1 => f914_31 x1 x2 x3 0 0 h1) z_ex := sorry
theorem e914_31 (x1 x2 x3 x4 x5 : Int) (h : z_M) : f914_31 x1 x2 x3 x4 x5 h = z_if ((hI h 1064 46) ≤ x5) (f914_209 h) (z_if (¬ x3 = 2) (f914_91 x1 x2 x3 x4 x5 h) (f914_48 x1 x2 x3 x4 x5 0 h)) := sorry
theorem e914_48 (x1 x2 x3 x4 x5 x6 : Int) (h : z_M) : f914_48 x1 x2 x3 x4 x5 x6 h = z_if ((hI h 1064 45) ≤ x6) (f914_88 x1 x2 x3 x4 x5 h) (f914_60 x1 x2 x3 x4 x5 x6 x1 h) := sorry
theorem e914_60 (x1 x2 x3 x4 x5 x6 x7 : Int) (h : z_M) : f914_60 x1 x2 x3 x4 x5 x6 x7 h = z_if (x2 ≤ x7) (f914_82 x1 x2 x3 x4 x5 x6 h) (z_kv (f942_0 x7 x6 x5 h) (fun h1 => f914_60 x1 x2 x3 x4 x5 x6 (z_w (x7 + 1)) h1) z_ex) := sorry
theorem e914_82 (x1 x2 x3 x4 x5 x6 : Int) (h : z_M) : f914_82 x1 x2 x3 x4 x5 x6 h = f914_48 x1 x2 x3 x4 x5 (z_w (x6 + 1)) h := sorry
theorem e914_88 (x1 x2 x3 x4 x5 : Int) (h : z_M) : f914_88 x1 x2 x3 x4 x5 h = f914_134 x1 x2 x3 x4 x5 h := sorry
theorem e914_91 (x1 x2 x3 x4 x5 : Int) (h : z_M) : f914_91 x1 x2 x3 x4 x5 h = f914_94 x1 x2 x3 x4 x5 x1 h := sorry
theorem e914_94 (x1 x2 x3 x4 x5 x6 : Int) (h : z_M) : f914_94 x1 x2 x3 x4 x5 x6 h = z_if (x2 ≤ x6) (f914_134 x1 x2 x3 x4 x5 h) (f914_103 x1 x2 x3 x4 x5 x6 0 h) := sorry
theorem e914_103 (x1 x2 x3 x4 x5 x6 x7 : Int) (h : z_M) : f914_103 x1 x2 x3 x4 x5 x6 x7 h = z_if ((hI h 1064 45) ≤ x7) (f914_128 x1 x2 x3 x4 x5 x6 h) (z_kv (f942_0 x6 x7 x5 h) (fun h1 => f914_103 x1 x2 x3 x4 x5 x6 (z_w (x7 + 1)) h1) z_ex) := sorry
theorem e914_128 (x1 x2 x3 x4 x5 x6 : Int) (h : z_M) : f914_128 x1 x2 x3 x4 x5 x6 h = f914_94 x1 x2 x3 x4 x5 (z_w (x6 + 1)) h := sorry
theorem e914_134 (x1 x2 x3 x4 x5 : Int) (h : z_M) : f914_134 x1 x2 x3 x4 x5 h = z_if ((hI h 1064 54) ≤ 0) (f914_203 x1 x2 x3 x4 x5 h) (z_g (¬ (hI h 1064 54) = 0) (z_if (¬ (z_rem (z_w (x5 + 1)) (hI h 1064 54)) = 0) (f914_203 x1 x2 x3 x4 x5 h) (z_if ((hI h 1064 46) ≤ (z_w (x5 + 1))) (f914_203 x1 x2 x3 x4 x5 h) (z_kv (f915_0 h) (fun h1 => z_kv (f931_0 255 h1) (fun h2 => z_g (¬ (8 : Int) = 0) (z_kv (f931_0 (z_w (208 + (z_rem x4 8))) h2) (fun h3 => z_kv (f908_0 (z_w (x5 + 1)) (hI h3 1064 53) h3) (fun h4 => f914_203 x1 x2 x3 (z_w (x4 + 1)) x5 h4) z_ex) z_ex)) z_ex) z_ex)))) := sorry
theorem e914_203 (x1 x2 x3 x4 x5 : Int) (h : z_M) : f914_203 x1 x2 x3 x4 x5 h = f914_31 x1 x2 x3 x4 (z_w (x5 + 1)) h := sorry
theorem e914_209 (h : z_M) : f914_209 h = z_kv (f915_0 h) (fun h1 => z_rv h1) z_ex := sorry
theorem e915_0 (h : z_M) : f915_0 h = z_if ((hI h 1064 101) ≤ 0) (f915_15 h) (z_kv (f909_0 0 h) (fun h1 => f915_0 h1) z_ex) := sorry
theorem e915_15 (h : z_M) : f915_15 h = z_if (¬ (hI h 1064 102) = 7) (f915_29 h) (z_kv (f931_0 0 h) (fun h1 => f915_29 h1) z_ex) := sorry
theorem e915_29 (h : z_M) : f915_29 h = z_rv (sI h 1064 102 8) := sorry
theorem e916_0 (x1 x2 x3 : Int) (h : z_M) : f916_0 x1 x2 x3 h = z_if (¬ x3 = (hI h 1064 99)) (f916_26 x2 x3 (z_w ((z_w ((z_w (144 * x1)) + (z_w (12 * x3)))) + x2)) h) (f916_36 x2 x3 (z_w ((z_w ((z_w (144 * x1)) + (z_w (12 * x3)))) + x2)) 0 h) := sorry
theorem e916_26 (x2 x3 x4 : Int) (h : z_M) : f916_26 x2 x3 x4 h = z_g (z_inb (z_w (x4 - 12)) 576) (f916_36 x2 x3 x4 (hI h 1110 (Int.toNat (z_w (x4 - 12)))) h) := sorry
theorem e916_36 (x2 x3 x4 s0 : Int) (h : z_M) : f916_36 x2 x3 x4 s0 h = z_if (¬ x2 = 0) (f916_47 x2 x3 x4 s0 h) (f916_56 x2 x3 x4 s0 s0 h) := sorry
theorem e916_47 (x2 x3 x4 x5 : Int) (h : z_M) : f916_47 x2 x3 x4 x5 h = z_g (z_inb (z_w (x4 - 1)) 576) (f916_56 x2 x3 x4 x5 (hI h 1110 (Int.toNat (z_w (x4 - 1)))) h) := sorry
theorem e916_56 (x2 x3 x4 x5 s0 : Int) (h : z_M) : f916_56 x2 x3 x4 x5 s0 h = z_if (¬ x2 = 0) (f916_67 x3 x4 x5 s0 h) (f916_91 x5 s0 x5 h) := sorry
theorem e916_67 (x3 x4 x5 x6 : Int) (h : z_M) : f916_67 x3 x4 x5 x6 h = z_if (¬ x3 = (hI h 1064 99)) (f916_79 x4 x5 x6 h) (f916_91 x5 x6 0 h) := sorry
theorem e916_79 (x4 x5 x6 : Int) (h : z_M) : f916_79 x4 x5 x6 h = z_g (z_inb (z_w ((z_w (x4 - 12)) - 1)) 576) (f916_91 x5 x6 (hI h 1110 (Int.toNat (z_w ((z_w (x4 - 12)) - 1)))) h) := sorry
theorem e916_91 (x5 x6 s0 : Int) (h : z_M) : f916_91 x5 x6 s0 h = z_if (x5 ≤ x6) (f916_105 x5 x6 s0 h) (f916_107 x5 x6 s0 x6 h) := sorry
theorem e916_105 (x5 x6 x7 : Int) (h : z_M) : f916_105 x5 x6 x7 h = f916_107 x5 x6 x7 x5 h := sorry
theorem e916_107 (x5 x6 x7 s0 : Int) (h : z_M) : f916_107 x5 x6 x7 s0 h = z_if (x5 ≤ x6) (f916_121 x5 x6 x7 s0 h) (f916_123 x5 x6 x7 s0 x5 h) := sorry
theorem e916_121 (x5 x6 x7 x8 : Int) (h : z_M) : f916_121 x5 x6 x7 x8 h = f916_123 x5 x6 x7 x8 x6 h := sorry
theorem e916_123 (x5 x6 x7 x8 s0 : Int) (h : z_M) : f916_123 x5 x6 x7 x8 s0 h = z_if (x7 < s0) (f916_137 x5 x6 x7 x8 s0 h) (f916_157 x8 h) := sorry
theorem e916_137 (x5 x6 x7 x8 x9 : Int) (h : z_M) : f916_137 x5 x6 x7 x8 x9 h = z_if (x8 < x7) (f916_149 x5 x6 x7 h) (f916_157 x9 h) := sorry
theorem e916_149 (x5 x6 x7 : Int) (h : z_M) : f916_149 x5 x6 x7 h = f916_157 (z_w ((z_w (x6 + x5)) - x7)) h := sorry
theorem e916_157 (s0 : Int) (h : z_M) : f916_157 s0 h = z_ri s0 h := sorry
theorem e931_0 (x1 : Int) (h : z_M) : f931_0 x1 h = z_g (z_inb (hI h 1064 60) 9000) (z_rv (sI (sI h 1094 (Int.toNat (hI h 1064 60)) x1) 1064 60 (z_w ((hI (sI h 1094 (Int.toNat (hI h 1064 60)) x1) 1064 60) + 1)))) := sorry
theorem e933_0 (x1 : Int) (h : z_M) : f933_0 x1 h = f933_2 x1 0 h := sorry
theorem e933_2 (x1 x2 : Int) (h : z_M) : f933_2 x1 x2 h = z_if (12 ≤ x2) (f933_31 x2 h) (z_g (z_inb x1 4) (z_g (z_inb x1 4) (z_if ((hI h 1111 (Int.toNat x1)) ≤ (z_shl (hI h 1112 (Int.toNat x1)) x2)) (f933_31 x2 h) (f933_2 x1 (z_w (x2 + 1)) h)))) := sorry
theorem e933_31 (x2 : Int) (h : z_M) : f933_31 x2 h = z_ri x2 h := sorry
theorem e934_0 (x1 x2 : Int) (h : z_M) : f934_0 x1 x2 h = f934_4 x1 (z_w (x2 - 1)) h := sorry
theorem e934_4 (x1 x3 : Int) (h : z_M) : f934_4 x1 x3 h = z_if (x3 < 0) (f934_23 h) (z_kv (f909_0 (z_and (z_shr x1 x3) 1) h) (fun h1 => f934_4 x1 (z_w (x3 + (-1))) h1) z_ex) := sorry
theorem e934_23 (h : z_M) : f934_23 h = z_rv h := sorry
theorem e936_0 (h : z_M) : f936_0 h = z_ki (f939_0 h) (fun v1 h1 => z_g (¬ v1 = 0) (z_ri (z_w ((z_div (z_w ((hI h 1064 98) + (z_w (2 * (hI h 1064 97))))) v1) + 1)) h1)) z_ex := sorry
theorem e938_0 (x1 x2 x3 : Int) (h : z_M) : f938_0 x1 x2 x3 h = z_kv (f935_0 218 (z_w (6 + (z_w (2 * (z_w (x2 - x1)))))) h) (fun h1 => z_kv (f931_0 (z_w (x2 - x1)) h1) (fun h2 => f938_25 x1 x2 x3 x1 h2) z_ex) z_ex := sorry
theorem e938_25 (x1 x2 x3 x4 : Int) (h : z_M) : f938_25 x1 x2 x3 x4 h = z_if (x2 ≤ x4) (f938_67 x1 x2 x3 h) (z_kv (f931_0 (z_w (x4 + 1)) h) (fun h1 => z_g (z_inb x4 4) (z_if ((hI h1 1089 (Int.toNat x4)) = 0) (f938_57 x1 x2 x3 x4 h1) (f938_58 x1 x2 x3 x4 (z_w (x4 + 1)) h1))) z_ex) := sorry
theorem e938_57 (x1 x2 x3 x4 : Int) (h : z_M) : f938_57 x1 x2 x3 x4 h = f938_58 x1 x2 x3 x4 0 h := sorry
theorem e938_58 (x1 x2 x3 x4 s1 : Int) (h : z_M) : f938_58 x1 x2 x3 x4 s1 h = z_kv (f931_0 s1 h) (fun h1 => f938_25 x1 x2 x3 (z_w (x4 + 1)) h1) z_ex := sorry
theorem e938_67 (x1 x2 x3 : Int) (h : z_M) : f938_67 x1 x2 x3 h = z_kv (f931_0 (hI h 1064 97) h) (fun h1 => z_kv (f931_0 x3 h1) (fun h2 => z_kv (f931_0 0 h2) (fun h3 => z_kv (f914_0 x1 x2 x3 h3) (fun h4 => z_rv h4) z_ex) z_ex) z_ex) z_ex := sorry
theorem e939_0 (h : z_M) : f939_0 h = z_ri (z_w ((z_w (2 * (hI h 1064 97))) + 1)) h := sorry
theorem e942_0 (x1 x2 x3 : Int) (h : z_M) : f942_0 x1 x2 x3 h = z_ki (f916_0 x1 x2 x3 h) (fun v1 h1 => z_g (z_inb (z_w ((z_w ((z_w (144 * x1)) + (z_w (12 * x3)))) + x2)) 576) (z_if ((z_w ((hI h1 1088 (Int.toNat (z_w ((z_w ((z_w (144 * x1)) + (z_w (12 * x3)))) + x2)))) - v1)) ≤ 0) (f942_55 x1 (z_w ((z_w ((z_w (144 * x1)) + (z_w (12 * x3)))) + x2)) v1 (z_w ((hI h1 1088 (Int.toNat (z_w ((z_w ((z_w (144 * x1)) + (z_w (12 * x3)))) + x2)))) - v1)) h1) (z_ki (f939_0 h1) (fun v2 h2 => z_g (¬ v2 = 0) (f942_68 x1 (z_w ((z_w ((z_w (144 * x1)) + (z_w (12 * x3)))) + x2)) v1 (z_div (z_w ((z_w ((hI h1 1088 (Int.toNat (z_w ((z_w ((z_w (144 * x1)) + (z_w (12 * x3)))) + x2)))) - v1)) + (hI h1 1064 97))) v2) h2)) z_ex))) z_ex := sorry
theorem e942_55 (x1 x4 x5 x6 : Int) (h : z_M) : f942_55 x1 x4 x5 x6 h = z_ki (f939_0 h) (fun v1 h1 => z_g (¬ v1 = 0) (f942_68 x1 x4 x5 (z_w (-(z_div (z_w ((hI h 1064 97) - x6)) v1))) h1)) z_ex := sorry
theorem e942_68 (x1 x4 x5 s0 : Int) (h : z_M) : f942_68 x1 x4 x5 s0 h = z_ki (f939_0 h) (fun v1 h1 => z_ki (f912_0 (z_w (x5 + (z_w (v1 * s0)))) h1) (fun v2 h2 => z_g (z_inb x4 576) (z_if (0 ≤ s0) (f942_106 x1 s0 (sI h2 1110 (Int.toNat x4) v2)) (z_ki (f936_0 (sI h2 1110 (Int.toNat x4) v2)) (fun v3 h3 => f942_108 x1 (z_w (s0 + v3)) h3) z_ex))) z_ex) z_ex := sorry
theorem e942_106 (x1 x7 : Int) (h : z_M) : f942_106 x1 x7 h = f942_108 x1 x7 h := sorry
theorem e942_108 (x1 s0 : Int) (h : z_M) : f942_108 x1 s0 h = z_ki (f936_0 h) (fun v1 h1 => z_g (¬ (2 : Int) = 0) (z_if (s0 < (z_div (z_w (v1 + 1)) 2)) (f942_133 x1 s0 h1) (z_ki (f936_0 h1) (fun v2 h2 => f942_135 x1 (z_w (s0 - v2)) h2) z_ex))) z_ex := sorry
theorem e942_133 (x1 x7 : Int) (h : z_M) : f942_133 x1 x7 h = f942_135 x1 x7 h := sorry
theorem e942_135 (x1 s0 : Int) (h : z_M) : f942_135 x1 s0 h = z_if (0 ≤ s0) (f942_152 x1 s0 h) (f942_156 x1 s0 (z_w ((z_w ((-2) * s0)) - 1)) h) := sorry
theorem e942_152 (x1 x7 : Int) (h : z_M) : f942_152 x1 x7 h = f942_156 x1 x7 (z_w (2 * x7)) h := sorry
theorem e942_156 (x1 x7 s0 : Int) (h : z_M) : f942_156 x1 x7 s0 h = z_ki (f933_0 x1 h) (fun v1 h1 => z_if (20 ≤ (z_shr s0 v1)) (f942_183 x1 x7 s0 v1 h1) (f942_185 x1 x7 s0 v1 (z_shr s0 v1) h1)) z_ex := sorry
theorem e942_183 (x1 x7 x8 x9 : Int) (h : z_M) : f942_183 x1 x7 x8 x9 h = f942_185 x1 x7 x8 x9 20 h := sorry
theorem e942_185 (x1 x7 x8 x9 s0 : Int) (h : z_M) : f942_185 x1 x7 x8 x9 s0 h = f942_190 x1 x7 x8 x9 s0 0 h := sorry
theorem e942_190 (x1 x7 x8 x9 x10 x11 : Int) (h : z_M) : f942_190 x1 x7 x8 x9 x10 x11 h = z_if (x10 ≤ x11) (f942_208 x1 x7 x8 x9 x10 h) (z_kv (f909_0 0 h) (fun h1 => f942_190 x1 x7 x8 x9 x10 (z_w (x11 + 1)) h1) z_ex) := sorry
theorem e942_208 (x1 x7 x8 x9 x10 : Int) (h : z_M) : f942_208 x1 x7 x8 x9 x10 h = z_kv (f909_0 1 h) (fun h1 => z_if (20 ≤ x10) (f942_231 x1 x7 x8 h1) (z_kv (f934_0 x8 x9 h1) (fun h2 => f942_239 x1 x7 h2) z_ex)) z_ex := sorry
theorem e942_231 (x1 x7 x8 : Int) (h : z_M) : f942_231 x1 x7 x8 h = z_kv (f934_0 x8 9 h) (fun h1 => f942_239 x1 x7 h1) z_ex := sorry
theorem e942_239 (x1 x7 : Int) (h : z_M) : f942_239 x1 x7 h = z_kv (f913_0 x1 x7 (hI h 1064 52) h) (fun h1 => z_rv h1) z_ex := sorry
theorem e945_0 (x1 : Int) (h : z_M) : f945_0 x1 h = z_if (¬ (hI h 1064 48) = 0) (f945_12 x1 h) (f945_26 x1 1 h) := sorry
theorem e945_12 (x1 : Int) (h : z_M) : f945_12 x1 h = z_ki (f924_0 x1 0 3 h) (fun v1 h1 => z_if (¬ v1 = 0) (f945_25 x1 h1) (f945_26 x1 2 h1)) z_ex := sorry
theorem e945_25 (x1 : Int) (h : z_M) : f945_25 x1 h = f945_26 x1 0 h := sorry
theorem e945_26 (x1 s1 : Int) (h : z_M) : f945_26 x1 s1 h = z_if ((hI (sI h 1064 44 s1) 1064 44) ≤ 0) (f945_38 x1 (sI h 1064 44 s1)) (z_ri 0 (sI h 1064 44 s1)) := sorry
theorem e945_38 (x1 : Int) (h : z_M) : f945_38 x1 h = z_ki (f943_0 (hI (sI h 1064 97 x1) 1064 47) (sI h 1064 97 x1)) (fun v1 h1 => z_kv (f931_0 255 (sI (sI h1 1064 98 v1) 1064 60 0)) (fun h2 => z_kv (f931_0 216 h2) (fun h3 => f945_75 0 h3) z_ex) z_ex) z_ex := sorry
theorem e945_75 (x2 : Int) (h : z_M) : f945_75 x2 h = z_if ((hI h 1064 55) ≤ x2) (f945_161 h) (z_g (z_inb x2 6) (z_if (¬ (hI h 1091 (Int.toNat x2)) = 16) (f945_101 x2 h) (f945_111 x2 254 h))) := sorry
theorem e945_101 (x2 : Int) (h : z_M) : f945_101 x2 h = z_g (z_inb x2 6) (f945_111 x2 (z_w (224 + (hI h 1091 (Int.toNat x2)))) h) := sorry
theorem e945_111 (x2 s1 : Int) (h : z_M) : f945_111 x2 s1 h = z_g (z_inb x2 6) (z_kv (f935_0 s1 (z_w (2 + (hI h 1092 (Int.toNat x2)))) h) (fun h1 => f945_124 x2 0 h1) z_ex) := sorry
theorem e945_124 (x2 x3 : Int) (h : z_M) : f945_124 x2 x3 h = z_g (z_inb x2 6) (z_if ((hI h 1092 (Int.toNat x2)) ≤ x3) (f945_155 x2 h) (z_g (z_inb (z_w ((z_w (30 * x2)) + x3)) 180) (z_kv (f931_0 (hI h 1093 (Int.toNat (z_w ((z_w (30 * x2)) + x3)))) h) (fun h1 => f945_124 x2 (z_w (x3 + 1)) h1) z_ex))) := sorry
theorem e945_155 (x2 : Int) (h : z_M) : f945_155 x2 h = f945_75 (z_w (x2 + 1)) h := sorry
theorem e945_161 (h : z_M) : f945_161 h = z_kv (f935_0 247 (z_w (8 + (z_w (3 * (hI h 1064 48))))) h) (fun h1 => z_kv (f931_0 (hI h1 1064 47) h1) (fun h2 => z_kv (f932_0 (hI h2 1064 46) h2) (fun h3 => z_kv (f932_0 (hI h3 1064 45) h3) (fun h4 => z_kv (f931_0 (hI h4 1064 48) h4) (fun h5 => f945_211 0 h5) z_ex) z_ex) z_ex) z_ex) z_ex := sorry
theorem e945_211 (x2 : Int) (h : z_M) : f945_211 x2 h = z_if ((hI h 1064 48) ≤ x2) (f945_243 h) (z_kv (f931_0 (z_w (x2 + 1)) h) (fun h1 => z_kv (f931_0 17 h1) (fun h2 => z_kv (f931_0 0 h2) (fun h3 => f945_211 (z_w (x2 + 1)) h3) z_ex) z_ex) z_ex) := sorry
theorem e945_243 (h : z_M) : f945_243 h = z_if (¬ (hI h 1064 52) = 64) (f945_260 h) (z_if ((hI h 1064 53) = 4) (f945_289 h) (f945_260 h)) := sorry
theorem e945_260 (h : z_M) : f945_260 h = z_kv (f935_0 248 5 h) (fun h1 => z_kv (f931_0 1 h1) (fun h2 => z_kv (f931_0 (hI h2 1064 52) h2) (fun h3 => z_kv (f931_0 (hI h3 1064 53) h3) (fun h4 => f945_289 h4) z_ex) z_ex) z_ex) z_ex := sorry
theorem e945_289 (h : z_M) : f945_289 h = f945_291 0 h := sorry
theorem e945_291 (x2 : Int) (h : z_M) : f945_291 x2 h = z_if ((hI h 1064 48) ≤ x2) (f945_380 h) (z_g (z_inb x2 4) (z_if ((hI h 1089 (Int.toNat x2)) = 0) (f945_374 x2 h) (z_kv (f935_0 248 (z_w (5 + (z_w (2 * (z_w ((hI h 1064 98) + 1)))))) h) (fun h1 => z_kv (f931_0 2 h1) (fun h2 => z_kv (f931_0 (z_w (x2 + 1)) h2) (fun h3 => z_kv (f931_0 2 h3) (fun h4 => f945_344 x2 0 h4) z_ex) z_ex) z_ex) z_ex))) := sorry
theorem e945_344 (x2 x3 : Int) (h : z_M) : f945_344 x2 x3 h = z_if ((hI h 1064 98) < x3) (f945_374 x2 h) (z_g (z_inb (z_w ((z_w (256 * x2)) + x3)) 1024) (z_kv (f932_0 (hI h 1090 (Int.toNat (z_w ((z_w (256 * x2)) + x3)))) h) (fun h1 => f945_344 x2 (z_w (x3 + 1)) h1) z_ex)) := sorry
theorem e945_374 (x2 : Int) (h : z_M) : f945_374 x2 h = f945_291 (z_w (x2 + 1)) h := sorry
theorem e945_380 (h : z_M) : f945_380 h = z_if ((hI h 1064 54) ≤ 0) (f945_403 h) (z_kv (f935_0 221 4 h) (fun h1 => z_kv (f932_0 (hI h1 1064 54) h1) (fun h2 => f945_403 h2) z_ex) z_ex) := sorry
theorem e945_403 (h : z_M) : f945_403 h = z_if ((hI h 1064 43) = 0) (f945_418 h) (z_if (¬ (hI h 1064 48) = 1) (f945_446 h) (f945_418 h)) := sorry
theorem e945_418 (h : z_M) : f945_418 h = f945_420 0 h := sorry
theorem e945_420 (x2 : Int) (h : z_M) : f945_420 x2 h = z_if ((hI h 1064 48) ≤ x2) (f945_443 h) (z_kv (f938_0 x2 (z_w (x2 + 1)) 0 h) (fun h1 => f945_420 (z_w (x2 + 1)) h1) z_ex) := sorry
theorem e945_443 (h : z_M) : f945_443 h = f945_459 h := sorry
theorem e945_446 (h : z_M) : f945_446 h = z_kv (f938_0 0 (hI h 1064 48) (hI h 1064 43) h) (fun h1 => f945_459 h1) z_ex := sorry
theorem e945_459 (h : z_M) : f945_459 h = z_kv (f931_0 255 h) (fun h1 => z_kv (f931_0 217 h1) (fun h2 => z_ri (hI h2 1064 60) h2) z_ex) z_ex := sorry
theorem e948_0 (x1 x2 : Int) (h : z_M) : f948_0 x1 x2 h = z_kv (f896_0 72 (sI (sI h 1064 14 0) 1064 15 0)) (fun h1 => z_kv (f896_0 x2 h1) (fun h2 => z_g (z_inb x1 8) (z_kv (f896_0 (hI h2 1065 (Int.toNat x1)) h2) (fun h3 => z_g (z_inb x1 8) (z_kv (f896_0 (hI h3 1066 (Int.toNat x1)) h3) (fun h4 => z_g (z_inb x1 8) (z_g (z_inb x1 8) (z_kv (f698_0 (sI (sI h4 1064 17 (hI h4 1065 (Int.toNat x1))) 1064 18 (hI (sI h4 1064 17 (hI h4 1065 (Int.toNat x1))) 1066 (Int.toNat x1)))) (fun h5 => z_ki (f963_0 x2 h5) (fun v6 h6 => f948_75 x1 x2 0 (z_w (v6 - 1)) h6) z_ex) z_ex))) z_ex)) z_ex)) z_ex) z_ex := sorry
theorem e948_75 (x1 x2 x3 x4 : Int) (h : z_M) : f948_75 x1 x2 x3 x4 h = z_if (x4 < 0) (f948_248 x3 h) (z_kv (f697_0 h) (fun h1 => f948_87 x1 x2 x3 x4 0 h1) z_ex) := sorry
theorem e948_87 (x1 x2 x3 x4 x5 : Int) (h : z_M) : f948_87 x1 x2 x3 x4 x5 h = z_if ((hI h 1064 18) ≤ x5) (f948_238 x1 x2 x3 x4 h) (f948_99 x1 x2 x3 x4 x5 0 h) := sorry
theorem e948_99 (x1 x2 x3 x4 x5 x6 : Int) (h : z_M) : f948_99 x1 x2 x3 x4 x5 x6 h = z_if ((hI h 1064 17) ≤ x6) (f948_232 x1 x2 x3 x4 x5 h) (z_ki (f871_0 x1 x6 x5 x2 h) (fun v1 h1 => z_ki (f806_0 x6 x5 h1) (fun v2 h2 => z_g (z_inb v2 64) (z_if ((hI h2 1078 (Int.toNat v2)) < 0) (f948_163 x1 x2 x3 x4 x5 x6 (z_xor (z_and (z_shr v1 x4) 1) (z_and (z_shr v1 (z_w (x4 + 1))) 1)) v2 h2) (f948_164 x1 x2 x3 x4 x5 x6 (z_xor (z_and (z_shr v1 x4) 1) (z_and (z_shr v1 (z_w (x4 + 1))) 1)) v2 1 h2))) z_ex) z_ex) := sorry
theorem e948_163 (x1 x2 x3 x4 x5 x6 x8 x9 : Int) (h : z_M) : f948_163 x1 x2 x3 x4 x5 x6 x8 x9 h = f948_164 x1 x2 x3 x4 x5 x6 x8 x9 0 h := sorry
theorem e948_164 (x1 x2 x3 x4 x5 x6 x8 x9 s0 : Int) (h : z_M) : f948_164 x1 x2 x3 x4 x5 x6 x8 x9 s0 h = z_if (¬ x8 = 1) (f948_174 x1 x2 x3 x4 x5 x6 x8 x9 s0 h) (f948_175 x1 x2 x3 x4 x5 x6 x8 x9 s0 1 h) := sorry
theorem e948_174 (x1 x2 x3 x4 x5 x6 x8 x9 s0 : Int) (h : z_M) : f948_174 x1 x2 x3 x4 x5 x6 x8 x9 s0 h = f948_175 x1 x2 x3 x4 x5 x6 x8 x9 s0 0 h := sorry
theorem e948_175 (x1 x2 x3 x4 x5 x6 x8 x9 s0 s1 : Int) (h : z_M) : f948_175 x1 x2 x3 x4 x5 x6 x8 x9 s0 s1 h = z_if (¬ s0 = s1) (f948_182 x1 x2 x3 x4 x5 x6 x8 x9 h) (f948_183 x1 x2 x3 x4 x5 x6 x8 x9 1 h) := sorry
theorem e948_182 (x1 x2 x3 x4 x5 x6 x8 x9 : Int) (h : z_M) : f948_182 x1 x2 x3 x4 x5 x6 x8 x9 h = f948_183 x1 x2 x3 x4 x5 x6 x8 x9 0 h := sorry
theorem e948_183 (x1 x2 x3 x4 x5 x6 x8 x9 s0 : Int) (h : z_M) : f948_183 x1 x2 x3 x4 x5 x6 x8 x9 s0 h = z_if (s0 = 0) (f948_196 x1 x2 x3 x4 x5 x6 x8 x9 h) (f948_203 x1 x2 (z_w (x3 + 1)) x4 x5 x6 x8 x9 h) := sorry
theorem e948_196 (x1 x2 x3 x4 x5 x6 x8 x9 : Int) (h : z_M) : f948_196 x1 x2 x3 x4 x5 x6 x8 x9 h = z_kv (f902_0 x3 h) (fun h1 => f948_203 x1 x2 0 x4 x5 x6 x8 x9 h1) z_ex := sorry
theorem e948_203 (x1 x2 x3 x4 x5 x6 x8 x9 : Int) (h : z_M) : f948_203 x1 x2 x3 x4 x5 x6 x8 x9 h = z_kv (f906_0 x9 x8 h) (fun h1 => z_g (z_inb (z_w ((z_w (12 * x5)) + x6)) 144) (f948_99 x1 x2 x3 x4 x5 (z_w (x6 + 1)) (sI h1 1076 (Int.toNat (z_w ((z_w (12 * x5)) + x6))) x8))) z_ex := sorry
theorem e948_232 (x1 x2 x3 x4 x5 : Int) (h : z_M) : f948_232 x1 x2 x3 x4 x5 h = f948_87 x1 x2 x3 x4 (z_w (x5 + 1)) h := sorry
theorem e948_238 (x1 x2 x3 x4 : Int) (h : z_M) : f948_238 x1 x2 x3 x4 h = z_kv (f863_0 h) (fun h1 => f948_75 x1 x2 x3 (z_w (x4 + (-1))) h1) z_ex := sorry
theorem e948_248 (x3 : Int) (h : z_M) : f948_248 x3 h = z_kv (f902_0 x3 h) (fun h1 => z_rv h1) z_ex := sorry
theorem e949_0 (x1 x2 x3 x4 x5 : Int) (h : z_M) : f949_0 x1 x2 x3 x4 x5 h = z_g (z_inb x1 8) (z_g (z_inb x1 8) (f949_39 x1 x2 x4 x5 0 (sI (sI (sI (sI (sI h 1064 43 x3) 1064 45 (hI (sI h 1064 43 x3) 1065 (Int.toNat x1))) 1064 46 (hI (sI (sI h 1064 43 x3) 1064 45 (hI (sI h 1064 43 x3) 1065 (Int.toNat x1))) 1066 (Int.toNat x1))) 1064 47 8) 1064 48 x2))) := sorry
theorem e949_39 (x1 x2 x4 x5 x6 : Int) (h : z_M) : f949_39 x1 x2 x4 x5 x6 h = z_if ((z_w (144 * x2)) ≤ x6) (f949_75 x4 x5 h) (z_g (z_inb (z_w ((z_w (144 * x1)) + x6)) 1152) (z_g (z_inb x6 576) (f949_39 x1 x2 x4 x5 (z_w (x6 + 1)) (sI h 1088 (Int.toNat x6) (hI h 1067 (Int.toNat (z_w ((z_w (144 * x1)) + x6)))))))) := sorry
theorem e949_75 (x4 x5 : Int) (h : z_M) : f949_75 x4 x5 h = f949_78 x4 x5 0 h := sorry
theorem e949_78 (x4 x5 x6 : Int) (h : z_M) : f949_78 x4 x5 x6 h = z_if (4 ≤ x6) (f949_98 x4 x5 h) (z_g (z_inb x6 4) (z_g (z_01 0) (f949_78 x4 x5 (z_w (x6 + 1)) (sI h 1089 (Int.toNat x6) 0)))) := sorry
theorem e949_98 (x4 x5 : Int) (h : z_M) : f949_98 x4 x5 h = z_ki (f945_0 x4 (sI (sI (sI (sI h 1064 52 64) 1064 53 4) 1064 54 x5) 1064 55 0)) (fun v1 h1 => f949_133 0 (sI h1 1064 14 v1)) z_ex := sorry
theorem e949_133 (x6 : Int) (h : z_M) : f949_133 x6 h = z_if ((hI h 1064 14) ≤ x6) (f949_162 h) (z_g (z_inb x6 9000) (z_g (z_inb x6 12000) (f949_133 (z_w (x6 + 1)) (sI h 1074 (Int.toNat x6) (hI h 1094 (Int.toNat x6)))))) := sorry
theorem e949_162 (h : z_M) : f949_162 h = z_rv h := sorry
theorem e950_0 (x1 x2 x3 x4 : Int) (h : z_M) : f950_0 x1 x2 x3 x4 h = z_g (z_inb x1 8) (z_g (z_inb x1 8) (f950_21 x1 x4 (z_w (144 * x1)) (sI (sI h 1065 (Int.toNat x1) x2) 1066 (Int.toNat x1) x3))) := sorry
theorem e950_21 (x1 x4 x5 : Int) (h : z_M) : f950_21 x1 x4 x5 h = z_if ((z_w ((z_w (144 * x1)) + 144)) ≤ x5) (f950_58 h) (z_g (z_inb x5 1152) (z_g (z_inb x5 1152) (z_g (z_01 x4) (f950_21 x1 x4 (z_w (x5 + 1)) (sI (sI h 1067 (Int.toNat x5) 0) 1068 (Int.toNat x5) x4))))) := sorry
theorem e950_58 (h : z_M) : f950_58 h = z_rv h := sorry
theorem e951_0 (x1 x2 x3 : Int) (h : z_M) : f951_0 x1 x2 x3 h = z_g (z_inb x1 4) (z_g (z_inb x1 4) (f951_21 x1 (z_w (576 * x1)) (sI (sI h 1069 (Int.toNat x1) x2) 1070 (Int.toNat x1) x3))) := sorry
theorem e951_21 (x1 x4 : Int) (h : z_M) : f951_21 x1 x4 h = z_if ((z_w ((z_w (576 * x1)) + 576)) ≤ x4) (f951_49 h) (z_g (z_inb x4 2304) (z_g (z_01 0) (f951_21 x1 (z_w (x4 + 1)) (sI h 1071 (Int.toNat x4) 0)))) := sorry
theorem e951_49 (h : z_M) : f951_49 h = z_rv h := sorry
theorem e954_0 (x1 x2 x3 x4 : Int) (h : z_M) : f954_0 x1 x2 x3 x4 h = z_if (¬ x1 = 0) (f954_9 x2 x3 x4 h) (f954_35 1 h) := sorry
theorem e954_9 (x2 x3 x4 : Int) (h : z_M) : f954_9 x2 x3 x4 h = z_if (¬ x2 = 0) (f954_17 x3 x4 h) (f954_35 2 h) := sorry
theorem e954_17 (x3 x4 : Int) (h : z_M) : f954_17 x3 x4 h = z_if (¬ x3 = 0) (f954_25 x4 h) (f954_35 3 h) := sorry
theorem e954_25 (x4 : Int) (h : z_M) : f954_25 x4 h = z_if (¬ x4 = 0) (f954_34 h) (f954_35 4 h) := sorry
theorem e954_34 (h : z_M) : f954_34 h = f954_35 0 h := sorry
theorem e954_35 (s1 : Int) (h : z_M) : f954_35 s1 h = z_if (¬ (hI (sI h 1064 0 s1) 1064 0) = 0) (f954_49 (sI h 1064 0 s1)) (f954_50 1 (sI h 1064 0 s1)) := sorry
theorem e954_49 (h : z_M) : f954_49 h = f954_50 0 h := sorry
theorem e954_50 (s0 : Int) (h : z_M) : f954_50 s0 h = z_g (z_01 s0) (z_ri s0 h) := sorry
theorem e961_0 (x1 x2 x3 : Int) (h : z_M) : f961_0 x1 x2 x3 h = z_ki (f888_0 x1 h) (fun v1 h1 => z_ki (f885_0 x2 1 12 h1) (fun v2 h2 => z_if (v2 = 0) (f961_29 x1 x2 x3 v1 h2) (z_ki (f885_0 x3 1 12 h2) (fun v3 h3 => z_if (v3 = 0) (f961_29 x1 x2 x3 v1 h3) (f961_30 x1 x2 x3 v1 1 h3)) z_ex)) z_ex) z_ex := sorry
theorem e961_29 (x1 x2 x3 s1 : Int) (h : z_M) : f961_29 x1 x2 x3 s1 h = f961_30 x1 x2 x3 s1 0 h := sorry
theorem e961_30 (x1 x2 x3 s1 s2 : Int) (h : z_M) : f961_30 x1 x2 x3 s1 s2 h = z_ki (f954_0 s1 s2 1 1 h) (fun v1 h1 => z_if (v1 = 0) (f961_46 h1) (z_kv (f950_0 x1 x2 x3 1 h1) (fun h2 => f961_46 h2) z_ex)) z_ex := sorry
theorem e961_46 (h : z_M) : f961_46 h = z_rv h := sorry
theorem e963_0 (x0 : Int) (h : z_M) : f963_0 x0 h = z_if (¬ x0 = 1) (f963_9 h) (f963_10 1 h) := sorry
theorem e963_9 (h : z_M) : f963_9 h = f963_10 3 h := sorry
theorem e963_10 (s0 : Int) (h : z_M) : f963_10 s0 h = z_ri s0 h := sorry
theorem e964_0 (x1 x2 x3 x4 x5 : Int) (h : z_M) : f964_0 x1 x2 x3 x4 x5 h = z_ki (f955_0 x1 x2 x3 h) (fun v1 h1 => z_if (v1 = 0) (f964_42 h1) (z_if (x4 ≤ 0) (f964_34 x1 x2 x3 x4 x5 1 1 h1) (z_ki (f885_0 x5 0 255 h1) (fun v2 h2 => z_if (v2 = 0) (f964_34 x1 x2 x3 x4 x5 1 1 h2) (f964_35 x1 x2 x3 x4 x5 1 1 1 h2)) z_ex))) z_ex := sorry
theorem e964_34 (x1 x2 x3 x4 x5 s1 s2 : Int) (h : z_M) : f964_34 x1 x2 x3 x4 x5 s1 s2 h = f964_35 x1 x2 x3 x4 x5 s1 s2 0 h := sorry
theorem e964_35 (x1 x2 x3 x4 x5 s1 s2 s3 : Int) (h : z_M) : f964_35 x1 x2 x3 x4 x5 s1 s2 s3 h = z_ki (f954_0 s1 s2 s3 1 h) (fun v1 h1 => z_if (¬ v1 = 0) (f964_44 x1 x2 x3 x4 x5 h1) (f964_42 h1)) z_ex := sorry
theorem e964_42 (h : z_M) : f964_42 h = z_ri 0 h := sorry
theorem e964_44 (x1 x2 x3 x4 x5 : Int) (h : z_M) : f964_44 x1 x2 x3 x4 x5 h = f964_50 x1 x2 x3 x4 x5 0 x2 h := sorry
theorem e964_50 (x1 x2 x3 x4 x5 x6 x7 : Int) (h : z_M) : f964_50 x1 x2 x3 x4 x5 x6 x7 h = z_g (z_inb x1 8) (z_if ((hI h 1065 (Int.toNat x1)) ≤ x7) (f964_122 x6 h) (z_if (x4 ≤ (z_w (x7 - x2))) (f964_122 x6 h) (z_g (z_inb (z_w ((z_w ((z_w (144 * x1)) + (z_w (12 * x3)))) + x7)) 1152) (z_if (¬ (hI h 1067 (Int.toNat (z_w ((z_w ((z_w (144 * x1)) + (z_w (12 * x3)))) + x7)))) = x5) (f964_103 x1 x2 x3 x4 x5 x7 (z_w ((z_w ((z_w (144 * x1)) + (z_w (12 * x3)))) + x7)) x6 h) (f964_104 x1 x2 x3 x4 x5 x7 (z_w ((z_w ((z_w (144 * x1)) + (z_w (12 * x3)))) + x7)) x6 0 h))))) := sorry
theorem e964_103 (x1 x2 x3 x4 x5 x7 x8 s0 : Int) (h : z_M) : f964_103 x1 x2 x3 x4 x5 x7 x8 s0 h = f964_104 x1 x2 x3 x4 x5 x7 x8 s0 1 h := sorry
theorem e964_104 (x1 x2 x3 x4 x5 x7 x8 s0 s1 : Int) (h : z_M) : f964_104 x1 x2 x3 x4 x5 x7 x8 s0 s1 h = z_g (z_inb x8 1152) (f964_50 x1 x2 x3 x4 x5 (z_w (s0 + s1)) (z_w (x7 + 1)) (sI h 1067 (Int.toNat x8) x5)) := sorry
theorem e964_122 (x6 : Int) (h : z_M) : f964_122 x6 h = z_ri x6 h := sorry
theorem e967_0 (h : z_M) : f967_0 h = f967_2 0 h := sorry
theorem e967_2 (x1 : Int) (h : z_M) : f967_2 x1 h = z_if (8 ≤ x1) (f967_27 x1 h) (z_if ((hI h 1064 23) ≤ (z_shl (hI h 1064 24) x1)) (f967_27 x1 h) (f967_2 (z_w (x1 + 1)) h)) := sorry
theorem e967_27 (x1 : Int) (h : z_M) : f967_27 x1 h = z_ri x1 h := sorry
theorem e969_0 (x1 x2 x3 : Int) (h : z_M) : f969_0 x1 x2 x3 h = z_ki (f885_0 x2 1 3 h) (fun v1 h1 => z_ki (f891_0 x1 h1) (fun v2 h2 => z_if (v2 = 0) (f969_73 x1 x2 x3 v1 v2 h2) (z_if (v1 = 0) (f969_73 x1 x2 x3 v1 v2 h2) (z_g (z_inb x1 4) (z_g (¬ x2 = 0) (z_if (¬ (z_rem (hI h2 1069 (Int.toNat x1)) x2) = 0) (f969_77 x1 x2 x3 v1 v2 h2) (z_g (z_inb x1 4) (z_g (¬ x2 = 0) (z_if (¬ (z_rem (hI h2 1070 (Int.toNat x1)) x2) = 0) (f969_77 x1 x2 x3 v1 v2 h2) (z_g (z_inb x1 4) (z_g (¬ x2 = 0) (z_if (12 < (z_div (hI h2 1069 (Int.toNat x1)) x2)) (f969_77 x1 x2 x3 v1 v2 h2) (z_g (z_inb x1 4) (z_g (¬ x2 = 0) (z_if (12 < (z_div (hI h2 1070 (Int.toNat x1)) x2)) (f969_77 x1 x2 x3 v1 v2 h2) (f969_73 x1 x2 x3 v1 v2 h2))))))))))))))) z_ex) z_ex := sorry
theorem e969_73 (x1 x2 x3 x4 x5 : Int) (h : z_M) : f969_73 x1 x2 x3 x4 x5 h = f969_78 x1 x2 x3 x4 x5 1 h := sorry
theorem e969_77 (x1 x2 x3 x4 x5 : Int) (h : z_M) : f969_77 x1 x2 x3 x4 x5 h = f969_78 x1 x2 x3 x4 x5 0 h := sorry
theorem e969_78 (x1 x2 x3 x4 x5 s0 : Int) (h : z_M) : f969_78 x1 x2 x3 x4 x5 s0 h = z_ki (f890_0 x1 h) (fun v1 h1 => z_if (v1 = 0) (f969_99 x1 x2 x3 x4 x5 s0 h1) (z_ki (f888_0 x3 h1) (fun v2 h2 => z_if (v2 = 0) (f969_99 x1 x2 x3 x4 x5 s0 h2) (f969_100 x1 x2 x3 x4 x5 s0 1 h2)) z_ex)) z_ex := sorry
theorem e969_99 (x1 x2 x3 x4 x5 x6 : Int) (h : z_M) : f969_99 x1 x2 x3 x4 x5 x6 h = f969_100 x1 x2 x3 x4 x5 x6 0 h := sorry
theorem e969_100 (x1 x2 x3 x4 x5 x6 s1 : Int) (h : z_M) : f969_100 x1 x2 x3 x4 x5 x6 s1 h = z_if (x5 = 0) (f969_114 x1 x2 x3 x4 s1 h) (z_if (x6 = 0) (f969_114 x1 x2 x3 x4 s1 h) (f969_115 x1 x2 x3 x4 s1 1 h)) := sorry
theorem e969_114 (x1 x2 x3 x4 s1 : Int) (h : z_M) : f969_114 x1 x2 x3 x4 s1 h = f969_115 x1 x2 x3 x4 s1 0 h := sorry
theorem e969_115 (x1 x2 x3 x4 s1 s2 : Int) (h : z_M) : f969_115 x1 x2 x3 x4 s1 s2 h = z_ki (f954_0 s1 s2 x4 1 h) (fun v1 h1 => z_if (¬ v1 = 0) (f969_126 x1 x2 x3 h1) (z_ri 0 h1)) z_ex := sorry
theorem e969_126 (x1 x2 x3 : Int) (h : z_M) : f969_126 x1 x2 x3 h = z_g (z_inb x1 4) (z_g (¬ x2 = 0) (z_g (z_inb x1 4) (z_g (¬ x2 = 0) (z_kv (f950_0 x3 (z_div (hI h 1069 (Int.toNat x1)) x2) (z_div (hI h 1070 (Int.toNat x1)) x2) 1 h) (fun h1 => f969_154 x1 x2 x3 0 0 h1) z_ex)))) := sorry
theorem e969_154 (x1 x2 x3 x7 x8 : Int) (h : z_M) : f969_154 x1 x2 x3 x7 x8 h = z_g (z_inb x3 8) (z_if ((hI h 1066 (Int.toNat x3)) ≤ x8) (f969_314 x7 h) (f969_168 x1 x2 x3 x7 x8 0 h)) := sorry
theorem e969_168 (x1 x2 x3 x7 x8 x9 : Int) (h : z_M) : f969_168 x1 x2 x3 x7 x8 x9 h = z_g (z_inb x3 8) (z_if ((hI h 1065 (Int.toNat x3)) ≤ x9) (f969_308 x1 x2 x3 x7 x8 h) (f969_185 x1 x2 x3 x7 x8 x9 0 0 h)) := sorry
theorem e969_185 (x1 x2 x3 x7 x8 x9 x10 x11 : Int) (h : z_M) : f969_185 x1 x2 x3 x7 x8 x9 x10 x11 h = z_if ((z_w (x2 * x2)) ≤ x11) (f969_245 x1 x2 x3 x7 x8 x9 x10 h) (z_g (¬ x2 = 0) (z_g (¬ x2 = 0) (z_g (z_inb (z_w ((z_w ((z_w ((z_w (576 * x1)) + (z_w (24 * (z_w ((z_w (x2 * x8)) + (z_div x11 x2))))))) + (z_w (x2 * x9)))) + (z_rem x11 x2))) 2304) (z_if ((hI h 1071 (Int.toNat (z_w ((z_w ((z_w ((z_w (576 * x1)) + (z_w (24 * (z_w ((z_w (x2 * x8)) + (z_div x11 x2))))))) + (z_w (x2 * x9)))) + (z_rem x11 x2))))) = 0) (f969_235 x1 x2 x3 x7 x8 x9 x11 x10 h) (f969_236 x1 x2 x3 x7 x8 x9 x11 x10 1 h))))) := sorry
theorem e969_235 (x1 x2 x3 x7 x8 x9 x11 s0 : Int) (h : z_M) : f969_235 x1 x2 x3 x7 x8 x9 x11 s0 h = f969_236 x1 x2 x3 x7 x8 x9 x11 s0 0 h := sorry
theorem e969_236 (x1 x2 x3 x7 x8 x9 x11 s0 s1 : Int) (h : z_M) : f969_236 x1 x2 x3 x7 x8 x9 x11 s0 s1 h = f969_185 x1 x2 x3 x7 x8 x9 (z_w (s0 + s1)) (z_w (x11 + 1)) h := sorry
theorem e969_245 (x1 x2 x3 x7 x8 x9 x10 : Int) (h : z_M) : f969_245 x1 x2 x3 x7 x8 x9 x10 h = z_g (¬ (z_w (x2 * x2)) = 0) (z_g (z_inb (z_w ((z_w ((z_w (144 * x3)) + (z_w (12 * x8)))) + x9)) 1152) (z_g (z_inb (z_w ((z_w ((z_w (144 * x3)) + (z_w (12 * x8)))) + x9)) 1152) (f969_168 x1 x2 x3 (z_w (x7 + (hI (sI h 1067 (Int.toNat (z_w ((z_w ((z_w (144 * x3)) + (z_w (12 * x8)))) + x9))) (z_w (255 - (z_div (z_w (255 * x10)) (z_w (x2 * x2)))))) 1067 (Int.toNat (z_w ((z_w ((z_w (144 * x3)) + (z_w (12 * x8)))) + x9)))))) x8 (z_w (x9 + 1)) (sI h 1067 (Int.toNat (z_w ((z_w ((z_w (144 * x3)) + (z_w (12 * x8)))) + x9))) (z_w (255 - (z_div (z_w (255 * x10)) (z_w (x2 * x2))))))))) := sorry
theorem e969_308 (x1 x2 x3 x7 x8 : Int) (h : z_M) : f969_308 x1 x2 x3 x7 x8 h = f969_154 x1 x2 x3 x7 (z_w (x8 + 1)) h := sorry
theorem e969_314 (x7 : Int) (h : z_M) : f969_314 x7 h = z_ri x7 h := sorry
theorem e970_0 (x1 x2 x3 x4 x5 : Int) (h : z_M) : f970_0 x1 x2 x3 x4 x5 h = z_ki (f955_0 x1 x2 x3 h) (fun v1 h1 => z_if (v1 = 0) (f970_30 h1) (z_if (x4 ≤ 0) (f970_22 x1 x2 x3 x4 x5 1 1 h1) (f970_23 x1 x2 x3 x4 x5 1 1 1 h1))) z_ex := sorry
theorem e970_22 (x1 x2 x3 x4 x5 s1 s2 : Int) (h : z_M) : f970_22 x1 x2 x3 x4 x5 s1 s2 h = f970_23 x1 x2 x3 x4 x5 s1 s2 0 h := sorry
theorem e970_23 (x1 x2 x3 x4 x5 s1 s2 s3 : Int) (h : z_M) : f970_23 x1 x2 x3 x4 x5 s1 s2 s3 h = z_ki (f954_0 s1 s2 s3 1 h) (fun v1 h1 => z_if (¬ v1 = 0) (f970_32 x1 x2 x3 x4 x5 h1) (f970_30 h1)) z_ex := sorry
theorem e970_30 (h : z_M) : f970_30 h = z_ri 0 h := sorry
theorem e970_32 (x1 x2 x3 x4 x5 : Int) (h : z_M) : f970_32 x1 x2 x3 x4 x5 h = f970_38 x1 x2 x3 x4 x5 0 x2 h := sorry
theorem e970_38 (x1 x2 x3 x4 x5 x6 x7 : Int) (h : z_M) : f970_38 x1 x2 x3 x4 x5 x6 x7 h = z_g (z_inb x1 8) (z_if ((hI h 1065 (Int.toNat x1)) ≤ x7) (f970_110 x6 h) (z_if (x4 ≤ (z_w (x7 - x2))) (f970_110 x6 h) (z_g (z_inb (z_w ((z_w ((z_w (144 * x1)) + (z_w (12 * x3)))) + x7)) 1152) (z_if (¬ (hI h 1068 (Int.toNat (z_w ((z_w ((z_w (144 * x1)) + (z_w (12 * x3)))) + x7)))) = x5) (f970_91 x1 x2 x3 x4 x5 x7 (z_w ((z_w ((z_w (144 * x1)) + (z_w (12 * x3)))) + x7)) x6 h) (f970_92 x1 x2 x3 x4 x5 x7 (z_w ((z_w ((z_w (144 * x1)) + (z_w (12 * x3)))) + x7)) x6 0 h))))) := sorry
theorem e970_91 (x1 x2 x3 x4 x5 x7 x8 s0 : Int) (h : z_M) : f970_91 x1 x2 x3 x4 x5 x7 x8 s0 h = f970_92 x1 x2 x3 x4 x5 x7 x8 s0 1 h := sorry
theorem e970_92 (x1 x2 x3 x4 x5 x7 x8 s0 s1 : Int) (h : z_M) : f970_92 x1 x2 x3 x4 x5 x7 x8 s0 s1 h = z_g (z_inb x8 1152) (z_g (z_01 x5) (f970_38 x1 x2 x3 x4 x5 (z_w (s0 + s1)) (z_w (x7 + 1)) (sI h 1068 (Int.toNat x8) x5))) := sorry
theorem e970_110 (x6 : Int) (h : z_M) : f970_110 x6 h = z_ri x6 h := sorry
theorem e971_0 (x1 x2 x3 : Int) (h : z_M) : f971_0 x1 x2 x3 h = z_ki (f890_0 x1 h) (fun v1 h1 => z_ki (f885_0 x2 1 24 h1) (fun v2 h2 => z_if (v2 = 0) (f971_29 x1 x2 x3 v1 h2) (z_ki (f885_0 x3 1 24 h2) (fun v3 h3 => z_if (v3 = 0) (f971_29 x1 x2 x3 v1 h3) (f971_30 x1 x2 x3 v1 1 h3)) z_ex)) z_ex) z_ex := sorry
theorem e971_29 (x1 x2 x3 s1 : Int) (h : z_M) : f971_29 x1 x2 x3 s1 h = f971_30 x1 x2 x3 s1 0 h := sorry
theorem e971_30 (x1 x2 x3 s1 s2 : Int) (h : z_M) : f971_30 x1 x2 x3 s1 s2 h = z_ki (f954_0 s1 s2 1 1 h) (fun v1 h1 => z_if (v1 = 0) (f971_45 h1) (z_kv (f951_0 x1 x2 x3 h1) (fun h2 => f971_45 h2) z_ex)) z_ex := sorry
theorem e971_45 (h : z_M) : f971_45 h = z_rv h := sorry
theorem e974_0 (x1 x2 x3 : Int) (h : z_M) : f974_0 x1 x2 x3 h = z_ki (f885_0 x1 0 2 h) (fun v1 h1 => z_if (v1 = 0) (f974_49 x1 x2 x3 v1 h1) (z_if (¬ x1 = 0) (f974_27 x1 x2 x3 v1 h1) (z_ki (f888_0 x2 h1) (fun v2 h2 => z_if (v2 = 0) (f974_53 x1 x2 x3 v1 h2) (f974_49 x1 x2 x3 v1 h2)) z_ex))) z_ex := sorry
theorem e974_27 (x1 x2 x3 x4 : Int) (h : z_M) : f974_27 x1 x2 x3 x4 h = z_if (¬ x1 = 1) (f974_42 x1 x2 x3 x4 h) (z_ki (f890_0 x2 h) (fun v1 h1 => z_if (v1 = 0) (f974_53 x1 x2 x3 x4 h1) (f974_49 x1 x2 x3 x4 h1)) z_ex) := sorry
theorem e974_42 (x1 x2 x3 x4 : Int) (h : z_M) : f974_42 x1 x2 x3 x4 h = z_ki (f883_0 x2 h) (fun v1 h1 => z_if (v1 = 0) (f974_53 x1 x2 x3 x4 h1) (f974_49 x1 x2 x3 x4 h1)) z_ex := sorry
theorem e974_49 (x1 x2 x3 x4 : Int) (h : z_M) : f974_49 x1 x2 x3 x4 h = f974_54 x1 x2 x3 x4 1 h := sorry
theorem e974_53 (x1 x2 x3 x4 : Int) (h : z_M) : f974_53 x1 x2 x3 x4 h = f974_54 x1 x2 x3 x4 0 h := sorry
theorem e974_54 (x1 x2 x3 x4 s0 : Int) (h : z_M) : f974_54 x1 x2 x3 x4 s0 h = z_if (x4 = 0) (f974_86 x1 x2 x3 s0 h) (z_if (¬ x1 = 2) (f974_75 x1 x2 x3 s0 x3 0 h) (f974_76 x1 x2 x3 s0 x3 0 0 h)) := sorry
theorem e974_75 (x1 x2 x3 s1 s2 s3 : Int) (h : z_M) : f974_75 x1 x2 x3 s1 s2 s3 h = f974_76 x1 x2 x3 s1 s2 s3 2 h := sorry
theorem e974_76 (x1 x2 x3 s1 s2 s3 s4 : Int) (h : z_M) : f974_76 x1 x2 x3 s1 s2 s3 s4 h = z_ki (f885_0 s2 s3 s4 h) (fun v1 h1 => z_if (v1 = 0) (f974_86 x1 x2 x3 s1 h1) (f974_87 x1 x2 x3 s1 1 h1)) z_ex := sorry
theorem e974_86 (x1 x2 x3 s1 : Int) (h : z_M) : f974_86 x1 x2 x3 s1 h = f974_87 x1 x2 x3 s1 0 h := sorry
theorem e974_87 (x1 x2 x3 s1 s2 : Int) (h : z_M) : f974_87 x1 x2 x3 s1 s2 h = z_ki (f954_0 s1 s2 1 1 h) (fun v1 h1 => z_if (¬ v1 = 0) (f974_97 x1 x2 x3 h1) (z_ri 0 h1)) z_ex := sorry
theorem e974_97 (x1 x2 x3 : Int) (h : z_M) : f974_97 x1 x2 x3 h = z_if (¬ x1 = 2) (f974_109 x1 x2 x3 h) (z_g (z_inb x2 12) (z_ri (hI h 1072 (Int.toNat x2)) h)) := sorry
theorem e974_109 (x1 x2 x3 : Int) (h : z_M) : f974_109 x1 x2 x3 h = z_if (¬ x1 = 0) (f974_122 x1 x2 x3 h) (z_g (z_inb x2 8) (f974_128 x1 x2 x3 (hI h 1065 (Int.toNat x2)) h)) := sorry
theorem e974_122 (x1 x2 x3 : Int) (h : z_M) : f974_122 x1 x2 x3 h = z_g (z_inb x2 4) (f974_128 x1 x2 x3 (hI h 1069 (Int.toNat x2)) h) := sorry
theorem e974_128 (x1 x2 x3 s0 : Int) (h : z_M) : f974_128 x1 x2 x3 s0 h = z_if (¬ x1 = 0) (f974_143 x1 x2 x3 s0 h) (z_g (z_inb x2 8) (f974_149 x1 x2 x3 s0 (hI h 1066 (Int.toNat x2)) h)) := sorry
theorem e974_143 (x1 x2 x3 x6 : Int) (h : z_M) : f974_143 x1 x2 x3 x6 h = z_g (z_inb x2 4) (f974_149 x1 x2 x3 x6 (hI h 1070 (Int.toNat x2)) h) := sorry
theorem e974_149 (x1 x2 x3 x6 s0 : Int) (h : z_M) : f974_149 x1 x2 x3 x6 s0 h = z_if (¬ x3 = 2) (f974_165 x3 x6 s0 h) (z_ki (f808_0 x1 x2 h) (fun v1 h1 => f974_185 v1 h1) z_ex) := sorry
theorem e974_165 (x3 x6 x7 : Int) (h : z_M) : f974_165 x3 x6 x7 h = z_if (¬ x6 = 0) (f974_174 x3 x6 x7 h) (f974_185 (-1) h) := sorry
theorem e974_174 (x3 x6 x7 : Int) (h : z_M) : f974_174 x3 x6 x7 h = z_if (¬ x3 = 0) (f974_183 x7 h) (f974_185 x6 h) := sorry
theorem e974_183 (x7 : Int) (h : z_M) : f974_183 x7 h = f974_185 x7 h := sorry
theorem e974_185 (s0 : Int) (h : z_M) : f974_185 s0 h = z_ri s0 h := sorry
theorem e975_0 (x1 : Int) (h : z_M) : f975_0 x1 h = z_ki (f756_0 x1 h) (fun v1 h1 => z_ri v1 (sI h1 1064 0 (hI h1 1064 342))) z_ex := sorry
theorem e982_0 (x1 : Int) (h : z_M) : f982_0 x1 h = z_if ((hI h 1064 14) ≤ 1500) (f982_12 x1 h) (z_ri (-1) h) := sorry
theorem e982_12 (x1 : Int) (h : z_M) : f982_12 x1 h = f982_14 x1 0 h := sorry
theorem e982_14 (x1 x2 : Int) (h : z_M) : f982_14 x1 x2 h = z_if ((hI h 1064 14) ≤ x2) (f982_46 x1 h) (z_g (z_inb x2 12000) (z_g (z_inb (z_w ((z_w (1500 * x1)) + x2)) 18000) (f982_14 x1 (z_w (x2 + 1)) (sI h 1073 (Int.toNat (z_w ((z_w (1500 * x1)) + x2))) (hI h 1074 (Int.toNat x2)))))) := sorry
theorem e982_46 (x1 : Int) (h : z_M) : f982_46 x1 h = z_g (z_inb x1 12) (z_ri (hI (sI h 1072 (Int.toNat x1) (hI h 1064 14)) 1064 14) (sI h 1072 (Int.toNat x1) (hI h 1064 14))) := sorry
theorem e984_0 (x1 x2 x3 : Int) (h : z_M) : f984_0 x1 x2 x3 h = z_if (x1 < 0) (f984_25 h) (z_if ((hI h 1064 17) ≤ x1) (f984_25 h) (z_if (x2 < 0) (f984_25 h) (z_if (¬ x2 = x3) (f984_29 x1 x2 h) (z_if (0 ≤ x1) (f984_29 x1 x2 h) (f984_25 h))))) := sorry
theorem e984_25 (h : z_M) : f984_25 h = f984_40 0 h := sorry
theorem e984_29 (x1 x2 : Int) (h : z_M) : f984_29 x1 x2 h = z_g (z_inb (z_w ((z_w (12 * x2)) + x1)) 144) (f984_40 (hI h 1076 (Int.toNat (z_w ((z_w (12 * x2)) + x1)))) h) := sorry
theorem e984_40 (s0 : Int) (h : z_M) : f984_40 s0 h = z_ri s0 h := sorry
theorem e985_0 (x1 x2 x3 : Int) (h : z_M) : f985_0 x1 x2 x3 h = z_if (¬ x1 = 0) (f985_14 x1 x2 x3 (sI h 1064 2 x1)) (f985_15 x1 x2 x3 (-1) (sI h 1064 2 x1)) := sorry
theorem e985_14 (x1 x2 x3 : Int) (h : z_M) : f985_14 x1 x2 x3 h = f985_15 x1 x2 x3 x2 h := sorry
theorem e985_15 (x1 x2 x3 s1 : Int) (h : z_M) : f985_15 x1 x2 x3 s1 h = z_if (¬ x1 = 0) (f985_36 x2 (sI (sI h 1064 3 s1) 1064 1 (z_w ((hI (sI h 1064 3 s1) 1064 1) + 1)))) (f985_39 x3 (sI (sI h 1064 3 s1) 1064 1 (z_w ((hI (sI h 1064 3 s1) 1064 1) + 1)))) := sorry
theorem e985_36 (x2 : Int) (h : z_M) : f985_36 x2 h = f985_39 (z_w ((-1) - x2)) h := sorry
theorem e985_39 (s0 : Int) (h : z_M) : f985_39 s0 h = z_ri s0 h := sorry
theorem e1023_0 (x1 x2 : Int) (h : z_M) : f1023_0 x1 x2 h = z_ki (f883_0 x1 h) (fun v1 h1 => z_if (v1 = 0) (f1023_19 x1 x2 h1) (z_ki (f888_0 x2 h1) (fun v2 h2 => z_if (v2 = 0) (f1023_19 x1 x2 h2) (f1023_20 x1 x2 1 h2)) z_ex)) z_ex := sorry
theorem e1023_19 (x1 x2 : Int) (h : z_M) : f1023_19 x1 x2 h = f1023_20 x1 x2 0 h := sorry
theorem e1023_20 (x1 x2 s1 : Int) (h : z_M) : f1023_20 x1 x2 s1 h = z_ki (f874_0 h) (fun v1 h1 => z_ki (f954_0 s1 v1 1 1 h1) (fun v2 h2 => z_if (¬ v2 = 0) (f1023_34 x1 x2 h2) (z_ri 0 h2)) z_ex) z_ex := sorry
theorem e1023_34 (x1 x2 : Int) (h : z_M) : f1023_34 x1 x2 h = z_g (z_inb x1 12) (z_if ((hI h 1072 (Int.toNat x1)) < 4) (f1023_111 h) (z_g (z_inb (z_w (1500 * x1)) 18000) (z_if (¬ (hI h 1073 (Int.toNat (z_w (1500 * x1)))) = 72) (f1023_111 h) (z_g (z_inb (z_w ((z_w (1500 * x1)) + 1)) 18000) (z_ki (f885_0 (hI h 1073 (Int.toNat (z_w ((z_w (1500 * x1)) + 1)))) 1 2 h) (fun v1 h1 => z_if (v1 = 0) (f1023_111 h1) (z_g (z_inb (z_w ((z_w (1500 * x1)) + 2)) 18000) (z_ki (f885_0 (hI h1 1073 (Int.toNat (z_w ((z_w (1500 * x1)) + 2)))) 1 12 h1) (fun v2 h2 => z_if (v2 = 0) (f1023_111 h2) (z_g (z_inb (z_w ((z_w (1500 * x1)) + 3)) 18000) (z_ki (f885_0 (hI h2 1073 (Int.toNat (z_w ((z_w (1500 * x1)) + 3)))) 1 12 h2) (fun v3 h3 => z_if (¬ v3 = 0) (f1023_119 x1 x2 (z_w (1500 * x1)) h3) (f1023_111 h3)) z_ex))) z_ex))) z_ex))))) := sorry
theorem e1023_111 (h : z_M) : f1023_111 h = z_ki (f985_0 1 0 0 h) (fun v1 h1 => z_ri v1 h1) z_ex := sorry
theorem e1023_119 (x1 x2 x3 : Int) (h : z_M) : f1023_119 x1 x2 x3 h = z_g (z_inb (z_w (x3 + 1)) 18000) (z_g (z_inb (z_w (x3 + 2)) 18000) (z_g (z_inb (z_w (x3 + 3)) 18000) (f1023_158 x1 x2 0 (sI (sI (sI h 1064 16 (hI h 1073 (Int.toNat (z_w (x3 + 1))))) 1064 17 (hI (sI h 1064 16 (hI h 1073 (Int.toNat (z_w (x3 + 1))))) 1073 (Int.toNat (z_w (x3 + 2))))) 1064 18 (hI (sI (sI h 1064 16 (hI h 1073 (Int.toNat (z_w (x3 + 1))))) 1064 17 (hI (sI h 1064 16 (hI h 1073 (Int.toNat (z_w (x3 + 1))))) 1073 (Int.toNat (z_w (x3 + 2))))) 1073 (Int.toNat (z_w (x3 + 3)))))))) := sorry
theorem e1023_158 (x1 x2 x4 : Int) (h : z_M) : f1023_158 x1 x2 x4 h = z_if (144 ≤ x4) (f1023_180 x1 x2 h) (z_g (z_inb x4 144) (f1023_158 x1 x2 (z_w (x4 + 1)) (sI h 1075 (Int.toNat x4) 0))) := sorry
theorem e1023_180 (x1 x2 : Int) (h : z_M) : f1023_180 x1 x2 h = z_g (z_inb x1 12) (z_kv (f876_0 (sI (sI (sI (sI h 1064 29 x1) 1064 30 0) 1064 27 32) 1064 28 (z_w (8 * (hI (sI (sI (sI h 1064 29 x1) 1064 30 0) 1064 27 32) 1072 (Int.toNat x1)))))) (fun h1 => f1023_213 x2 h1) z_ex) := sorry
theorem e1023_213 (x2 : Int) (h : z_M) : f1023_213 x2 h = z_if (¬ (hI h 1064 30) = 0) (f1023_262 x2 h) (z_if ((hI h 1064 28) ≤ (hI h 1064 27)) (f1023_262 x2 h) (z_g (¬ (8 : Int) = 0) (z_if ((z_rem (hI h 1064 27) 8) ≤ 0) (f1023_262 x2 h) (z_ki (f875_0 h) (fun v1 h1 => z_if (¬ v1 = 1) (f1023_255 x2 h1) (f1023_256 x2 13 h1)) z_ex)))) := sorry
theorem e1023_255 (x2 : Int) (h : z_M) : f1023_255 x2 h = f1023_256 x2 0 h := sorry
theorem e1023_256 (x2 s1 : Int) (h : z_M) : f1023_256 x2 s1 h = f1023_213 x2 (sI h 1064 30 s1) := sorry
theorem e1023_262 (x2 : Int) (h : z_M) : f1023_262 x2 h = z_if (¬ (hI h 1064 30) = 0) (f1023_286 x2 h) (z_if ((hI h 1064 28) ≤ (hI h 1064 27)) (f1023_286 x2 h) (f1023_290 x2 13 h)) := sorry
theorem e1023_286 (x2 : Int) (h : z_M) : f1023_286 x2 h = f1023_290 x2 (hI h 1064 30) h := sorry
theorem e1023_290 (x2 s1 : Int) (h : z_M) : f1023_290 x2 s1 h = f1023_307 x2 (z_w ((hI (sI h 1064 30 s1) 1064 16) * (hI (sI h 1064 30 s1) 1064 16))) 0 (sI h 1064 30 s1) := sorry
theorem e1023_307 (x2 x4 x5 : Int) (h : z_M) : f1023_307 x2 x4 x5 h = z_if (144 ≤ x5) (f1023_353 x2 x4 h) (z_if (¬ (hI h 1064 30) = 0) (f1023_340 x2 x4 x5 h) (z_g (z_inb x5 144) (z_if ((hI h 1075 (Int.toNat x5)) ≤ x4) (f1023_340 x2 x4 x5 h) (f1023_344 x2 x4 x5 14 h)))) := sorry
theorem e1023_340 (x2 x4 x5 : Int) (h : z_M) : f1023_340 x2 x4 x5 h = f1023_344 x2 x4 x5 (hI h 1064 30) h := sorry
theorem e1023_344 (x2 x4 x5 s1 : Int) (h : z_M) : f1023_344 x2 x4 x5 s1 h = f1023_307 x2 x4 (z_w (x5 + 1)) (sI h 1064 30 s1) := sorry
theorem e1023_353 (x2 x4 : Int) (h : z_M) : f1023_353 x2 x4 h = z_if ((hI h 1064 30) ≤ 0) (f1023_371 x2 x4 h) (z_ki (f985_0 (hI h 1064 30) 4 0 h) (fun v1 h1 => z_ri v1 h1) z_ex) := sorry
theorem e1023_371 (x2 x4 : Int) (h : z_M) : f1023_371 x2 x4 h = z_kv (f950_0 x2 (hI h 1064 17) (hI h 1064 18) 1 h) (fun h1 => f1023_388 x2 x4 0 h1) z_ex := sorry
theorem e1023_388 (x2 x4 x5 : Int) (h : z_M) : f1023_388 x2 x4 x5 h = z_if (144 ≤ x5) (f1023_455 h) (z_g (¬ (12 : Int) = 0) (z_g (¬ (12 : Int) = 0) (z_ki (f889_0 x2 (z_rem x5 12) (z_div x5 12) h) (fun v1 h1 => z_if (v1 = 0) (f1023_447 x2 x4 x5 (z_w ((z_w (144 * x2)) + x5)) h1) (z_g (z_inb x5 144) (z_g (¬ x4 = 0) (f1023_448 x2 x4 x5 (z_w ((z_w (144 * x2)) + x5)) (z_w (255 - (z_div (z_w (255 * (hI h1 1075 (Int.toNat x5)))) x4))) h1)))) z_ex))) := sorry
theorem e1023_447 (x2 x4 x5 s1 : Int) (h : z_M) : f1023_447 x2 x4 x5 s1 h = f1023_448 x2 x4 x5 s1 0 h := sorry
theorem e1023_448 (x2 x4 x5 s1 s2 : Int) (h : z_M) : f1023_448 x2 x4 x5 s1 s2 h = z_g (z_inb s1 1152) (f1023_388 x2 x4 (z_w (x5 + 1)) (sI h 1067 (Int.toNat s1) s2)) := sorry
theorem e1023_455 (h : z_M) : f1023_455 h = z_ki (f985_0 0 0 (z_w ((hI h 1064 17) * (hI h 1064 18))) h) (fun v1 h1 => z_ri v1 h1) z_ex := sorry
theorem e1056_0 (r0 : Nat) (x1 x2 x3 : Int) (h : z_M) : f1056_0 r0 x1 x2 x3 h = z_g (z_isk r0 h [52, 55]) (z_g (z_isr (hP h r0 7) h x1) (z_g (z_isk (hP h (hP h r0 7) (Int.toNat x1)) h [53]) (z_ki (f1070_0 (hP h (hP h r0 7) (Int.toNat x1)) x2 x3 h) (fun v1 h1 => z_g (z_isk r0 h1 [52, 55]) (z_g (z_isk (hP h1 r0 0) h1 [40]) (z_g (z_isr (hP h1 (hP h1 r0 0) 0) h1 x1) (z_if (hK h1 r0 = 52) (z_ki (f1062_0 r0 (hP h1 (hP h1 (hP h1 r0 0) 0) (Int.toNat x1)) (z_w ((z_w (12 * x3)) + x2)) v1 (hP h (hP h r0 7) (Int.toNat x1)) h1) (fun v4 h4 => z_g (z_isk r0 h4 [52, 55]) (z_g (z_isk r0 h4 [52, 55]) (z_if ((z_w (-(hI h4 r0 1))) ≤ (z_w (v1 + (z_w ((hI h4 r0 2) * v4))))) (f1056_78 r0 x1 x2 x3 (hP h (hP h r0 7) (Int.toNat x1)) v4 (z_w (v1 + (z_w ((hI h4 r0 2) * v4)))) (z_w (v1 + (z_w ((hI h4 r0 2) * v4)))) h4) (z_g (z_isk r0 h4 [52, 55]) (z_g (z_isk r0 h4 [52, 55]) (f1056_109 r0 x1 x2 x3 (hP h (hP h r0 7) (Int.toNat x1)) v4 (z_w (v1 + (z_w ((hI h4 r0 2) * v4)))) (z_w ((hI h4 r0 2) * (hI h4 r0 3))) h4)))))) z_ex) (z_if (hK h1 r0 = 55) (z_ki (f1077_0 r0 (hP h1 (hP h1 (hP h1 r0 0) 0) (Int.toNat x1)) (z_w ((z_w (12 * x3)) + x2)) v1 (hP h (hP h r0 7) (Int.toNat x1)) h1) (fun v2 h2 => z_g (z_isk r0 h2 [52, 55]) (z_g (z_isk r0 h2 [52, 55]) (z_if ((z_w (-(hI h2 r0 1))) ≤ (z_w (v1 + (z_w ((hI h2 r0 2) * v2))))) (f1056_78 r0 x1 x2 x3 (hP h (hP h r0 7) (Int.toNat x1)) v2 (z_w (v1 + (z_w ((hI h2 r0 2) * v2)))) (z_w (v1 + (z_w ((hI h2 r0 2) * v2)))) h2) (z_g (z_isk r0 h2 [52, 55]) (z_g (z_isk r0 h2 [52, 55]) (f1056_109 r0 x1 x2 x3 (hP h (hP h r0 7) (Int.toNat x1)) v2 (z_w (v1 + (z_w ((hI h2 r0 2) * v2)))) (z_w ((hI h2 r0 2) * (hI h2 r0 3))) h2)))))) z_ex) (none)))))) z_ex))) := sorry
theorem e1056_78 (r0 : Nat) (x1 x2 x3 : Int) (r4 : Nat) (x6 x7 s0 : Int) (h : z_M) : f1056_78 r0 x1 x2 x3 r4 x6 x7 s0 h = z_g (z_isk r0 h [52, 55]) (z_g (z_isk (hP h r0 0) h [40]) (z_ki (f548_0 (hP h r0 0) h) (fun v1 h1 => z_g (z_isk r0 h1 [52, 55]) (z_if (x7 ≤ (z_w (v1 + (hI h1 r0 1)))) (f1056_108 r0 x1 x2 x3 r4 x6 s0 h1) (z_g (z_isk r0 h1 [52, 55]) (z_g (z_isk r0 h1 [52, 55]) (f1056_109 r0 x1 x2 x3 r4 x6 s0 (z_w ((z_w (-(hI h1 r0 2))) * (hI h1 r0 3))) h1))))) z_ex)) := sorry
theorem e1056_108 (r0 : Nat) (x1 x2 x3 : Int) (r4 : Nat) (x6 s0 : Int) (h : z_M) : f1056_108 r0 x1 x2 x3 r4 x6 s0 h = f1056_109 r0 x1 x2 x3 r4 x6 s0 0 h := sorry
theorem e1056_109 (r0 : Nat) (x1 x2 x3 : Int) (r4 : Nat) (x6 s0 s1 : Int) (h : z_M) : f1056_109 r0 x1 x2 x3 r4 x6 s0 s1 h = z_g (z_isk r4 h [53]) (z_g (z_isk r0 h [52, 55]) (z_g (z_isk (hP h r0 0) h [40]) (z_ki (f548_0 (hP h r0 0) h) (fun v1 h1 => z_ki (f512_0 (z_w (s0 + s1)) 0 v1 h1) (fun v2 h2 => z_g (z_isa (hP h r4 0) h2 1000 (z_w ((z_w (12 * x3)) + x2)) ∧ z_new (hP h r4 0)) (z_g (z_isk r0 (sI h2 (hP h r4 0) (Int.toNat (z_w ((z_w (12 * x3)) + x2))) v2) [52, 55]) (z_g (z_isk (hP (sI h2 (hP h r4 0) (Int.toNat (z_w ((z_w (12 * x3)) + x2))) v2) r0 0) (sI h2 (hP h r4 0) (Int.toNat (z_w ((z_w (12 * x3)) + x2))) v2) [40]) (z_g (z_isr (hP (sI h2 (hP h r4 0) (Int.toNat (z_w ((z_w (12 * x3)) + x2))) v2) (hP (sI h2 (hP h r4 0) (Int.toNat (z_w ((z_w (12 * x3)) + x2))) v2) r0 0) 0) (sI h2 (hP h r4 0) (Int.toNat (z_w ((z_w (12 * x3)) + x2))) v2) x1) (z_g (z_isk r4 (sI h2 (hP h r4 0) (Int.toNat (z_w ((z_w (12 * x3)) + x2))) v2) [53]) (z_g (z_isa (hP (sI h2 (hP h r4 0) (Int.toNat (z_w ((z_w (12 * x3)) + x2))) v2) r4 0) (sI h2 (hP h r4 0) (Int.toNat (z_w ((z_w (12 * x3)) + x2))) v2) 1000 (z_w ((z_w (12 * x3)) + x2))) (z_if (hK (sI h2 (hP h r4 0) (Int.toNat (z_w ((z_w (12 * x3)) + x2))) v2) r0 = 52) (z_kv (f1059_0 r0 (hP (sI h2 (hP h r4 0) (Int.toNat (z_w ((z_w (12 * x3)) + x2))) v2) (hP (sI h2 (hP h r4 0) (Int.toNat (z_w ((z_w (12 * x3)) + x2))) v2) (hP (sI h2 (hP h r4 0) (Int.toNat (z_w ((z_w (12 * x3)) + x2))) v2) r0 0) 0) (Int.toNat x1)) (z_w ((z_w (12 * x3)) + x2)) (hI (sI h2 (hP h r4 0) (Int.toNat (z_w ((z_w (12 * x3)) + x2))) v2) (hP (sI h2 (hP h r4 0) (Int.toNat (z_w ((z_w (12 * x3)) + x2))) v2) r4 0) (Int.toNat (z_w ((z_w (12 * x3)) + x2)))) (sI h2 (hP h r4 0) (Int.toNat (z_w ((z_w (12 * x3)) + x2))) v2)) (fun h7 => z_g (z_isk r0 h7 [52, 55]) (z_g (z_isk (hP h7 r0 0) h7 [40]) (z_g (z_isk r4 h7 [53]) (z_kv (f1072_0 r4 x6 (hI h7 (hP h7 r0 0) 7) h7) (fun h8 => z_rv h8) z_ex)))) z_ex) (z_if (hK (sI h2 (hP h r4 0) (Int.toNat (z_w ((z_w (12 * x3)) + x2))) v2) r0 = 55) (z_kv (f1078_0 r0 (hP (sI h2 (hP h r4 0) (Int.toNat (z_w ((z_w (12 * x3)) + x2))) v2) (hP (sI h2 (hP h r4 0) (Int.toNat (z_w ((z_w (12 * x3)) + x2))) v2) (hP (sI h2 (hP h r4 0) (Int.toNat (z_w ((z_w (12 * x3)) + x2))) v2) r0 0) 0) (Int.toNat x1)) (z_w ((z_w (12 * x3)) + x2)) (hI (sI h2 (hP h r4 0) (Int.toNat (z_w ((z_w (12 * x3)) + x2))) v2) (hP (sI h2 (hP h r4 0) (Int.toNat (z_w ((z_w (12 * x3)) + x2))) v2) r4 0) (Int.toNat (z_w ((z_w (12 * x3)) + x2)))) (sI h2 (hP h r4 0) (Int.toNat (z_w ((z_w (12 * x3)) + x2))) v2)) (fun h3 => z_g (z_isk r0 h3 [52, 55]) (z_g (z_isk (hP h3 r0 0) h3 [40]) (z_g (z_isk r4 h3 [53]) (z_kv (f1072_0 r4 x6 (hI h3 (hP h3 r0 0) 7) h3) (fun h4 => z_rv h4) z_ex)))) z_ex) (none))))))))) z_ex) z_ex))) := sorry
theorem e1057_0 (r0 : Nat) (h : z_M) : f1057_0 r0 h = f1057_4 r0 0 0 h := sorry
theorem e1057_4 (r0 : Nat) (x1 x2 : Int) (h : z_M) : f1057_4 r0 x1 x2 h = z_g (z_isk r0 h [52, 55]) (z_g (z_isk (hP h r0 0) h [40]) (z_if ((hI h (hP h r0 0) 3) ≤ x2) (f1057_123 r0 h) (z_g (z_isk r0 h [52, 55]) (z_g (z_isk (hP h r0 0) h [40]) (z_if ((hI h (hP h r0 0) 9) ≤ 0) (f1057_45 r0 x1 x2 h) (z_if (x2 ≤ 0) (f1057_45 r0 x1 x2 h) (z_g (z_isk r0 h [52, 55]) (z_g (z_isk (hP h r0 0) h [40]) (z_g (¬ (hI h (hP h r0 0) 9) = 0) (z_if (¬ (z_rem x2 (hI h (hP h r0 0) 9)) = 0) (f1057_45 r0 x1 x2 h) (f1057_46 r0 x1 x2 1 h))))))))))) := sorry
theorem e1057_45 (r0 : Nat) (x1 x2 : Int) (h : z_M) : f1057_45 r0 x1 x2 h = f1057_46 r0 x1 x2 0 h := sorry
theorem e1057_46 (r0 : Nat) (x1 x2 s0 : Int) (h : z_M) : f1057_46 r0 x1 x2 s0 h = z_if (s0 = 0) (f1057_63 r0 x1 x2 s0 h) (z_if (hK h r0 = 52) (z_kv (f1061_0 r0 h) (fun h7 => z_if (hK h7 r0 = 52) (z_kv (f1065_0 r0 x1 h7) (fun h10 => f1057_63 r0 (z_w (x1 + 1)) x2 s0 h10) z_ex) (z_if (hK h7 r0 = 55) (z_kv (f1080_0 r0 x1 h7) (fun h8 => f1057_63 r0 (z_w (x1 + 1)) x2 s0 h8) z_ex) (none))) z_ex) (z_if (hK h r0 = 55) (z_kv (f1076_0 r0 h) (fun h1 => z_if (hK h1 r0 = 52) (z_kv (f1065_0 r0 x1 h1) (fun h4 => f1057_63 r0 (z_w (x1 + 1)) x2 s0 h4) z_ex) (z_if (hK h1 r0 = 55) (z_kv (f1080_0 r0 x1 h1) (fun h2 => f1057_63 r0 (z_w (x1 + 1)) x2 s0 h2) z_ex) (none))) z_ex) (none))) := sorry
theorem e1057_63 (r0 : Nat) (x1 x2 x3 : Int) (h : z_M) : f1057_63 r0 x1 x2 x3 h = z_g (z_isk r0 h [52, 55]) (f1057_69 r0 x1 x2 x3 (hI h r0 4) h) := sorry
theorem e1057_69 (r0 : Nat) (x1 x2 x3 x4 : Int) (h : z_M) : f1057_69 r0 x1 x2 x3 x4 h = z_g (z_isk r0 h [52, 55]) (z_g (z_isk r0 h [52, 55]) (z_if ((z_w ((hI h r0 4) + (hI h r0 5))) ≤ x4) (f1057_112 r0 x1 x2 h) (z_if (¬ x3 = 0) (f1057_91 r0 x1 x2 x3 x4 h) (z_if (¬ x2 = 0) (f1057_112 r0 x1 x2 h) (f1057_91 r0 x1 x2 x3 x4 h))))) := sorry
theorem e1057_91 (r0 : Nat) (x1 x2 x3 x4 : Int) (h : z_M) : f1057_91 r0 x1 x2 x3 x4 h = z_g (z_isk r0 h [52, 55]) (z_g (z_isr (hP h r0 7) h x4) (z_g (z_isk r0 h [52, 55]) (z_g (z_isk (hP h (hP h r0 7) (Int.toNat x4)) h [53]) (z_kv (f1068_0 (hP h (hP h r0 7) (Int.toNat x4)) x2 (hP h r0 0) h) (fun h1 => f1057_69 r0 x1 x2 x3 (z_w (x4 + 1)) h1) z_ex)))) := sorry
theorem e1057_112 (r0 : Nat) (x1 x2 : Int) (h : z_M) : f1057_112 r0 x1 x2 h = z_g (z_isk r0 h [52, 55]) (z_kv (f1058_0 r0 x2 h) (fun h1 => f1057_4 r0 x1 (z_w (x2 + 1)) h1) z_ex) := sorry
theorem e1057_123 (r0 : Nat) (h : z_M) : f1057_123 r0 h = z_if (hK h r0 = 52) (z_kv (f1061_0 r0 h) (fun h3 => z_rv h3) z_ex) (z_if (hK h r0 = 55) (z_kv (f1076_0 r0 h) (fun h1 => z_rv h1) z_ex) (none)) := sorry
theorem e1058_0 (r0 : Nat) (x1 : Int) (h : z_M) : f1058_0 r0 x1 h = z_g (z_isk r0 h [52, 55]) (z_if (¬ (hI h r0 6) = 2) (f1058_55 r0 x1 h) (f1058_10 r0 x1 0 h)) := sorry
theorem e1058_10 (r0 : Nat) (x1 x2 : Int) (h : z_M) : f1058_10 r0 x1 x2 h = z_g (z_isk r0 h [52, 55]) (z_g (z_isk (hP h r0 0) h [40]) (z_g (z_isk r0 h [52, 55]) (z_if ((z_w ((hI h (hP h r0 0) 2) * (hI h r0 5))) ≤ x2) (f1058_54 h) (z_g (z_isk r0 h [52, 55]) (z_g (z_isk r0 h [52, 55]) (z_g (¬ (hI h r0 5) = 0) (z_g (z_isk r0 h [52, 55]) (z_g (¬ (hI h r0 5) = 0) (z_g (z_isk r0 h [52, 55]) (z_kv (f1056_0 r0 (z_w ((hI h r0 4) + (z_rem x2 (hI h r0 5)))) (z_div x2 (hI h r0 5)) x1 h) (fun h1 => f1058_10 r0 x1 (z_w (x2 + 1)) h1) z_ex)))))))))) := sorry
theorem e1058_54 (h : z_M) : f1058_54 h = z_rv h := sorry
theorem e1058_55 (r0 : Nat) (x1 : Int) (h : z_M) : f1058_55 r0 x1 h = z_g (z_isk r0 h [52, 55]) (f1058_60 r0 x1 (hI h r0 4) h) := sorry
theorem e1058_60 (r0 : Nat) (x1 x2 : Int) (h : z_M) : f1058_60 r0 x1 x2 h = z_g (z_isk r0 h [52, 55]) (z_g (z_isk r0 h [52, 55]) (z_if ((z_w ((hI h r0 4) + (hI h r0 5))) ≤ x2) (f1058_105 h) (f1058_75 r0 x1 x2 0 h))) := sorry
theorem e1058_75 (r0 : Nat) (x1 x2 x3 : Int) (h : z_M) : f1058_75 r0 x1 x2 x3 h = z_g (z_isk r0 h [52, 55]) (z_g (z_isk (hP h r0 0) h [40]) (z_if ((hI h (hP h r0 0) 2) ≤ x3) (f1058_99 r0 x1 x2 h) (z_g (z_isk r0 h [52, 55]) (z_kv (f1056_0 r0 x2 x3 x1 h) (fun h1 => f1058_75 r0 x1 x2 (z_w (x3 + 1)) h1) z_ex)))) := sorry
theorem e1058_99 (r0 : Nat) (x1 x2 : Int) (h : z_M) : f1058_99 r0 x1 x2 h = f1058_60 r0 x1 (z_w (x2 + 1)) h := sorry
theorem e1058_105 (h : z_M) : f1058_105 h = z_rv h := sorry
theorem e1060_0 (r0 r1 r2 : Nat) (x3 x4 x5 x6 : Int) (h : z_M) : f1060_0 r0 r1 r2 x3 x4 x5 x6 h = z_g (z_isk r0 h [52, 55]) (z_g (0 < r0 ∧ z_new r0) (z_g (z_sz 4) (z_g (z_isk r0 (sN (sP h r0 8 r1) 1110 (Int.toNat 4)) [52, 55]) (z_g (z_isk r0 (sP (sN (sP h r0 8 r1) 1110 (Int.toNat 4)) r0 7 (hZ (sP h r0 8 r1) + 1)) [52, 55]) (z_g (z_isk r0 (sP (sP (sN (sP h r0 8 r1) 1110 (Int.toNat 4)) r0 7 (hZ (sP h r0 8 r1) + 1)) r0 0 r2) [52, 55]) (z_g (z_isk r0 (sI (sP (sP (sN (sP h r0 8 r1) 1110 (Int.toNat 4)) r0 7 (hZ (sP h r0 8 r1) + 1)) r0 0 r2) r0 1 x3) [52, 55]) (f1060_33 r0 r2 x3 x4 x5 x6 (sI (sI (sP (sP (sN (sP h r0 8 r1) 1110 (Int.toNat 4)) r0 7 (hZ (sP h r0 8 r1) + 1)) r0 0 r2) r0 1 x3) r0 4 x4)))))))) := sorry
theorem e1060_33 (r0 r2 : Nat) (x3 x4 x5 x6 : Int) (h : z_M) : f1060_33 r0 r2 x3 x4 x5 x6 h = z_g (z_isk r0 h [52, 55]) (z_g (z_isk r0 (sI h r0 5 x5) [52, 55]) (z_g (z_isk r0 (sI (sI h r0 5 x5) r0 6 x6) [52, 55]) (z_g (z_isk r2 (sI (sI (sI h r0 5 x5) r0 6 x6) r0 2 (z_w ((z_w (2 * x3)) + 1))) [40]) (z_ki (f548_0 r2 (sI (sI (sI h r0 5 x5) r0 6 x6) r0 2 (z_w ((z_w (2 * x3)) + 1)))) (fun v1 h1 => z_g (z_isk r0 h1 [52, 55]) (z_g (¬ (hI h1 r0 2) = 0) (z_g (z_isk r0 h1 [52, 55]) (f1060_77 r0 x4 x5 x4 (sI h1 r0 3 (z_w ((z_div (z_w (v1 + (z_w (2 * x3)))) (hI h1 r0 2)) + 1))))))) z_ex)))) := sorry
theorem e1060_77 (r0 : Nat) (x4 x5 x7 : Int) (h : z_M) : f1060_77 r0 x4 x5 x7 h = z_if ((z_w (x4 + x5)) ≤ x7) (f1060_107 h) (z_g (z_isk r0 h [52, 55]) (z_g (z_isk (hZ h + 1) (sN h 53 4) [53]) (z_kv (f1071_0 (hZ h + 1) (sN h 53 4)) (fun h1 => z_g (z_isr (hP h r0 7) h1 x7 ∧ z_new (hP h r0 7) ∧ ((hZ h + 1) = 0 ∨ z_isk (hZ h + 1) h1 (z_elc (hK h1 (hP h r0 7))))) (f1060_77 r0 x4 x5 (z_w (x7 + 1)) (sP h1 (hP h r0 7) (Int.toNat x7) (hZ h + 1)))) z_ex))) := sorry
theorem e1060_107 (h : z_M) : f1060_107 h = z_rv h := sorry
theorem e1061_0 (r0 : Nat) (h : z_M) : f1061_0 r0 h = z_g (z_isk r0 h [52]) (z_if (¬ (hI h r0 11) = 0) (f1061_16 r0 h) (z_g (z_isk r0 h [52]) (z_if (¬ (hI h r0 10) = 7) (f1061_20 r0 h) (f1061_16 r0 h)))) := sorry
theorem e1061_16 (r0 : Nat) (h : z_M) : f1061_16 r0 h = z_g (z_isk r0 h [52]) (z_kv (f1063_0 r0 h) (fun h1 => f1061_20 r0 h1) z_ex) := sorry
theorem e1061_20 (r0 : Nat) (h : z_M) : f1061_20 r0 h = z_g (z_isk r0 h [52]) (z_if (¬ (hI h r0 10) = 7) (f1061_33 h) (z_g (z_isk r0 h [52]) (z_kv (f1063_0 r0 h) (fun h1 => f1061_33 h1) z_ex))) := sorry
theorem e1061_33 (h : z_M) : f1061_33 h = z_rv h := sorry
theorem e1062_0 (r0 r1 : Nat) (x2 x3 : Int) (r4 : Nat) (h : z_M) : f1062_0 r0 r1 x2 x3 r4 h = z_g (z_isk r1 h [41]) (z_g (z_isa (hP h r1 0) h 1000 x2) (z_if ((z_w ((hI h (hP h r1 0) (Int.toNat x2)) - x3)) ≤ 0) (f1062_30 r0 r4 (z_w ((hI h (hP h r1 0) (Int.toNat x2)) - x3)) h) (z_g (z_isk r0 h [52]) (z_g (z_isk r0 h [52]) (z_g (¬ (hI h r0 2) = 0) (f1062_43 r0 r4 (z_div (z_w ((z_w ((hI h (hP h r1 0) (Int.toNat x2)) - x3)) + (hI h r0 1))) (hI h r0 2)) h)))))) := sorry
theorem e1062_30 (r0 r4 : Nat) (x5 : Int) (h : z_M) : f1062_30 r0 r4 x5 h = z_g (z_isk r0 h [52]) (z_g (z_isk r0 h [52]) (z_g (¬ (hI h r0 2) = 0) (f1062_43 r0 r4 (z_w (-(z_div (z_w ((hI h r0 1) - x5)) (hI h r0 2)))) h))) := sorry
theorem e1062_43 (r0 r4 : Nat) (s0 : Int) (h : z_M) : f1062_43 r0 r4 s0 h = z_if (0 ≤ s0) (f1062_59 r0 r4 s0 h) (z_g (z_isk r0 h [52]) (f1062_60 r0 r4 s0 (hI h r0 3) h)) := sorry
theorem e1062_59 (r0 r4 : Nat) (s0 : Int) (h : z_M) : f1062_59 r0 r4 s0 h = f1062_60 r0 r4 s0 0 h := sorry
theorem e1062_60 (r0 r4 : Nat) (s0 s1 : Int) (h : z_M) : f1062_60 r0 r4 s0 s1 h = z_g (z_isk r0 h [52]) (z_g (¬ (2 : Int) = 0) (z_if ((z_w (s0 + s1)) < (z_div (z_w ((hI h r0 3) + 1)) 2)) (f1062_85 r0 r4 (z_w (s0 + s1)) h) (z_g (z_isk r0 h [52]) (f1062_86 r0 r4 (z_w (s0 + s1)) (hI h r0 3) h)))) := sorry
theorem e1062_85 (r0 r4 : Nat) (s0 : Int) (h : z_M) : f1062_85 r0 r4 s0 h = f1062_86 r0 r4 s0 0 h := sorry
theorem e1062_86 (r0 r4 : Nat) (s0 s1 : Int) (h : z_M) : f1062_86 r0 r4 s0 s1 h = z_if (0 ≤ (z_w (s0 - s1))) (f1062_104 r0 r4 (z_w (s0 - s1)) h) (f1062_108 r0 r4 (z_w (s0 - s1)) (z_w ((z_w ((-2) * (z_w (s0 - s1)))) - 1)) h) := sorry
theorem e1062_104 (r0 r4 : Nat) (x6 : Int) (h : z_M) : f1062_104 r0 r4 x6 h = f1062_108 r0 r4 x6 (z_w (2 * x6)) h := sorry
theorem e1062_108 (r0 r4 : Nat) (x6 s0 : Int) (h : z_M) : f1062_108 r0 r4 x6 s0 h = z_g (z_isk r4 h [53]) (z_ki (f1069_0 r4 h) (fun v1 h1 => z_ki (f2_0 20 (z_shr s0 v1) h1) (fun v2 h2 => z_g (z_isk r0 h2 [52]) (z_kv (f1066_0 r0 0 v2 h2) (fun h3 => z_g (z_isk r0 h3 [52]) (z_kv (f1067_0 r0 1 h3) (fun h4 => z_if (¬ v2 = 20) (f1062_156 x6 v1 r0 s0 h4) (f1062_158 x6 r0 s0 9 h4)) z_ex)) z_ex)) z_ex) z_ex) := sorry
theorem e1062_156 (x6 x8 : Int) (q0 : Nat) (s1 : Int) (h : z_M) : f1062_156 x6 x8 q0 s1 h = f1062_158 x6 q0 s1 x8 h := sorry
theorem e1062_158 (x6 : Int) (q0 : Nat) (s1 s2 : Int) (h : z_M) : f1062_158 x6 q0 s1 s2 h = z_g (z_isk q0 h [52]) (z_kv (f1066_0 q0 s1 s2 h) (fun h1 => z_ri x6 h1) z_ex) := sorry
theorem e1063_0 (r0 : Nat) (h : z_M) : f1063_0 r0 h = z_g (z_isk r0 h [52]) (z_g (z_isk r0 h [52]) (z_g (z_isk (hP h r0 12) h [39]) (z_kv (f527_0 (hP h r0 12) (hI h r0 9) h) (fun h1 => z_g (z_isk r0 h1 [52]) (z_if (¬ (hI h1 r0 9) = 255) (f1063_27 r0 r0 h1) (f1063_29 r0 r0 7 h1))) z_ex))) := sorry
theorem e1063_27 (r0 q0 : Nat) (h : z_M) : f1063_27 r0 q0 h = f1063_29 r0 q0 8 h := sorry
theorem e1063_29 (r0 q0 : Nat) (s1 : Int) (h : z_M) : f1063_29 r0 q0 s1 h = z_g (z_isk q0 h [52]) (z_g (z_isk r0 (sI h q0 10 s1) [52]) (z_g (z_isk r0 (sI (sI h q0 10 s1) r0 9 0) [52] ∧ z_01 0) (z_rv (sI (sI (sI h q0 10 s1) r0 9 0) r0 11 0)))) := sorry
theorem e1064_0 (r0 r1 r2 : Nat) (x3 x4 x5 x6 : Int) (h : z_M) : f1064_0 r0 r1 r2 x3 x4 x5 x6 h = z_g (z_isk r0 h [52]) (z_g (z_isk r0 (sP h r0 12 r1) [52, 55]) (z_kv (f1060_0 r0 r1 r2 x3 x4 x5 x6 (sP h r0 12 r1)) (fun h1 => z_g (z_isk r0 h1 [52]) (z_rv (sI h1 r0 10 8))) z_ex)) := sorry
theorem e1065_0 (r0 : Nat) (x1 : Int) (h : z_M) : f1065_0 r0 x1 h = z_g (z_isk r0 h [52]) (z_g (¬ (8 : Int) = 0) (z_g (z_isk (hP h r0 12) h [39]) (z_kv (f525_0 (hP h r0 12) (z_w (208 + (z_rem x1 8))) h) (fun h1 => z_g (z_isk r0 h1 [52]) (z_rv (sI h1 r0 10 8))) z_ex))) := sorry
theorem e1066_0 (r0 : Nat) (x1 x2 : Int) (h : z_M) : f1066_0 r0 x1 x2 h = f1066_4 r0 x1 (z_w (x2 - 1)) h := sorry
theorem e1066_4 (r0 : Nat) (x1 x3 : Int) (h : z_M) : f1066_4 r0 x1 x3 h = z_if (x3 < 0) (f1066_23 h) (z_g (z_isk r0 h [52]) (z_kv (f1067_0 r0 (z_and (z_shr x1 x3) 1) h) (fun h1 => f1066_4 r0 x1 (z_w (x3 + (-1))) h1) z_ex)) := sorry
theorem e1066_23 (h : z_M) : f1066_23 h = z_rv h := sorry
theorem e1067_0 (r0 : Nat) (x1 : Int) (h : z_M) : f1067_0 r0 x1 h = z_g (z_isk r0 h [52]) (z_g (z_isk r0 h [52]) (z_g (z_isk r0 (sI h r0 10 (z_w ((hI h r0 10) - 1))) [52]) (z_g (z_isk r0 (sI h r0 10 (z_w ((hI h r0 10) - 1))) [52]) (z_g (z_isk r0 (sI h r0 10 (z_w ((hI h r0 10) - 1))) [52]) (z_g (z_isk r0 (sI (sI h r0 10 (z_w ((hI h r0 10) - 1))) r0 9 (z_or (hI (sI h r0 10 (z_w ((hI h r0 10) - 1))) r0 9) (z_shl x1 (hI (sI h r0 10 (z_w ((hI h r0 10) - 1))) r0 10)))) [52] ∧ z_01 1) (z_g (z_isk r0 (sI (sI (sI h r0 10 (z_w ((hI h r0 10) - 1))) r0 9 (z_or (hI (sI h r0 10 (z_w ((hI h r0 10) - 1))) r0 9) (z_shl x1 (hI (sI h r0 10 (z_w ((hI h r0 10) - 1))) r0 10)))) r0 11 1) [52]) (z_if (¬ (hI (sI (sI (sI h r0 10 (z_w ((hI h r0 10) - 1))) r0 9 (z_or (hI (sI h r0 10 (z_w ((hI h r0 10) - 1))) r0 9) (z_shl x1 (hI (sI h r0 10 (z_w ((hI h r0 10) - 1))) r0 10)))) r0 11 1) r0 10) = 0) (f1067_41 (sI (sI (sI h r0 10 (z_w ((hI h r0 10) - 1))) r0 9 (z_or (hI (sI h r0 10 (z_w ((hI h r0 10) - 1))) r0 9) (z_shl x1 (hI (sI h r0 10 (z_w ((hI h r0 10) - 1))) r0 10)))) r0 11 1)) (z_g (z_isk r0 (sI (sI (sI h r0 10 (z_w ((hI h r0 10) - 1))) r0 9 (z_or (hI (sI h r0 10 (z_w ((hI h r0 10) - 1))) r0 9) (z_shl x1 (hI (sI h r0 10 (z_w ((hI h r0 10) - 1))) r0 10)))) r0 11 1) [52]) (z_kv (f1063_0 r0 (sI (sI (sI h r0 10 (z_w ((hI h r0 10) - 1))) r0 9 (z_or (hI (sI h r0 10 (z_w ((hI h r0 10) - 1))) r0 9) (z_shl x1 (hI (sI h r0 10 (z_w ((hI h r0 10) - 1))) r0 10)))) r0 11 1)) (fun h1 => f1067_41 h1) z_ex))))))))) := sorry
theorem e1067_41 (h : z_M) : f1067_41 h = z_rv h := sorry
theorem e1068_0 (r0 : Nat) (x1 : Int) (r2 : Nat) (h : z_M) : f1068_0 r0 x1 r2 h = z_g (z_isk r0 h [53]) (z_g (z_isk r2 (sI h r0 1 x1) [40]) (z_g (z_isk r0 (sI h r0 1 x1) [53]) (z_g (z_isk r0 (sI (sI h r0 1 x1) r0 2 (hI (sI h r0 1 x1) r2 8)) [53]) (z_rv (sI (sI (sI h r0 1 x1) r0 2 (hI (sI h r0 1 x1) r2 8)) r0 3 1))))) := sorry
theorem e1069_0 (r0 : Nat) (h : z_M) : f1069_0 r0 h = f1069_2 r0 0 h := sorry
theorem e1069_2 (r0 : Nat) (x1 : Int) (h : z_M) : f1069_2 r0 x1 h = z_if (12 ≤ x1) (f1069_27 x1 h) (z_g (z_isk r0 h [53]) (z_g (z_isk r0 h [53]) (z_if ((hI h r0 2) ≤ (z_shl (hI h r0 3) x1)) (f1069_27 x1 h) (f1069_2 r0 (z_w (x1 + 1)) h)))) := sorry
theorem e1069_27 (x1 : Int) (h : z_M) : f1069_27 x1 h = z_ri x1 h := sorry
theorem e1070_0 (r0 : Nat) (x1 x2 : Int) (h : z_M) : f1070_0 r0 x1 x2 h = z_g (z_isk r0 h [53]) (z_if (x2 ≤ (hI h r0 1)) (f1070_24 r0 x1 x2 h) (z_g (z_isk r0 h [53]) (z_g (z_isa (hP h r0 0) h 1000 (z_w ((z_w (12 * (z_w (x2 - 1)))) + x1))) (f1070_25 r0 x1 x2 (hI h (hP h r0 0) (Int.toNat (z_w ((z_w (12 * (z_w (x2 - 1)))) + x1)))) h)))) := sorry
theorem e1070_24 (r0 : Nat) (x1 x2 : Int) (h : z_M) : f1070_24 r0 x1 x2 h = f1070_25 r0 x1 x2 0 h := sorry
theorem e1070_25 (r0 : Nat) (x1 x2 s0 : Int) (h : z_M) : f1070_25 r0 x1 x2 s0 h = z_if (x1 ≤ 0) (f1070_46 r0 x1 x2 s0 h) (z_g (z_isk r0 h [53]) (z_g (z_isa (hP h r0 0) h 1000 (z_w ((z_w ((z_w (12 * x2)) + x1)) - 1))) (f1070_47 r0 x1 x2 s0 (hI h (hP h r0 0) (Int.toNat (z_w ((z_w ((z_w (12 * x2)) + x1)) - 1)))) h))) := sorry
theorem e1070_46 (r0 : Nat) (x1 x2 x3 : Int) (h : z_M) : f1070_46 r0 x1 x2 x3 h = f1070_47 r0 x1 x2 x3 x3 h := sorry
theorem e1070_47 (r0 : Nat) (x1 x2 x3 s0 : Int) (h : z_M) : f1070_47 r0 x1 x2 x3 s0 h = z_if (x1 ≤ 0) (f1070_83 x3 s0 h) (z_g (z_isk r0 h [53]) (z_if (x2 ≤ (hI h r0 1)) (f1070_79 x3 s0 h) (z_g (z_isk r0 h [53]) (z_g (z_isa (hP h r0 0) h 1000 (z_w ((z_w ((z_w (12 * (z_w (x2 - 1)))) + x1)) - 1))) (f1070_84 x3 s0 (hI h (hP h r0 0) (Int.toNat (z_w ((z_w ((z_w (12 * (z_w (x2 - 1)))) + x1)) - 1)))) h))))) := sorry
theorem e1070_79 (x3 x4 : Int) (h : z_M) : f1070_79 x3 x4 h = f1070_84 x3 x4 0 h := sorry
theorem e1070_83 (x3 x4 : Int) (h : z_M) : f1070_83 x3 x4 h = f1070_84 x3 x4 x3 h := sorry
theorem e1070_84 (x3 x4 s0 : Int) (h : z_M) : f1070_84 x3 x4 s0 h = z_ki (f1_0 x4 x3 h) (fun v1 h1 => z_if (s0 < v1) (f1070_106 x3 x4 s0 h1) (z_ki (f2_0 x4 x3 h1) (fun v2 h2 => f1070_133 v2 h2) z_ex)) z_ex := sorry
theorem e1070_106 (x3 x4 x5 : Int) (h : z_M) : f1070_106 x3 x4 x5 h = z_ki (f2_0 x4 x3 h) (fun v1 h1 => z_if (v1 < x5) (f1070_126 x3 x4 x5 h1) (z_ki (f1_0 x4 x3 h1) (fun v2 h2 => f1070_133 v2 h2) z_ex)) z_ex := sorry
theorem e1070_126 (x3 x4 x5 : Int) (h : z_M) : f1070_126 x3 x4 x5 h = f1070_133 (z_w ((z_w (x4 + x3)) - x5)) h := sorry
theorem e1070_133 (s0 : Int) (h : z_M) : f1070_133 s0 h = z_ri s0 h := sorry
theorem e1071_0 (r0 : Nat) (h : z_M) : f1071_0 r0 h = z_g (0 < r0 ∧ z_new r0) (z_g (z_sz 144) (z_g (z_isk r0 (sN h 1000 (Int.toNat 144)) [53]) (z_rv (sP (sN h 1000 (Int.toNat 144)) r0 0 (hZ h + 1))))) := sorry
theorem e1072_0 (r0 : Nat) (x1 x2 : Int) (h : z_M) : f1072_0 r0 x1 x2 h = z_g (z_isk r0 h [53]) (z_if (¬ (hI h r0 3) = x2) (f1072_28 r0 x1 h) (z_g (z_isk r0 h [53]) (z_g (z_isk r0 h [53]) (z_g (z_isk r0 (sI h r0 2 (z_shr (hI h r0 2) 1)) [53]) (z_g (z_isk r0 (sI h r0 2 (z_shr (hI h r0 2) 1)) [53]) (f1072_28 r0 x1 (sI (sI h r0 2 (z_shr (hI h r0 2) 1)) r0 3 (z_shr (hI (sI h r0 2 (z_shr (hI h r0 2) 1)) r0 3) 1)))))))) := sorry
theorem e1072_28 (r0 : Nat) (x1 : Int) (h : z_M) : f1072_28 r0 x1 h = z_g (z_isk r0 h [53]) (z_ki (f0_0 x1 h) (fun v1 h1 => z_g (z_isk r0 h1 [53]) (z_g (z_isk r0 (sI h1 r0 2 (z_w ((hI h r0 2) + v1))) [53]) (z_g (z_isk r0 (sI h1 r0 2 (z_w ((hI h r0 2) + v1))) [53]) (z_rv (sI (sI h1 r0 2 (z_w ((hI h r0 2) + v1))) r0 3 (z_w ((hI (sI h1 r0 2 (z_w ((hI h r0 2) + v1))) r0 3) + 1))))))) z_ex) := sorry
