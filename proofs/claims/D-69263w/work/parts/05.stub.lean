set_option maxRecDepth 100000
set_option linter.unusedVariables false
noncomputable def f0_0 (x0 : Int) (h : z_M) : z_Z := none
noncomputable def f0_9 (x0 : Int) (h : z_M) : z_Z := none
noncomputable def f0_10 (s0 : Int) (h : z_M) : z_Z := none
noncomputable def f1_0 (x0 x1 : Int) (h : z_M) : z_Z := none
noncomputable def f1_9 (x1 : Int) (h : z_M) : z_Z := none
noncomputable def f1_10 (s0 : Int) (h : z_M) : z_Z := none
noncomputable def f2_0 (x0 x1 : Int) (h : z_M) : z_Z := none
noncomputable def f2_9 (x1 : Int) (h : z_M) : z_Z := none
noncomputable def f2_10 (s0 : Int) (h : z_M) : z_Z := none
noncomputable def f23_0 (r0 : Nat) (h : z_M) : z_Z := none
noncomputable def f26_0 (r0 : Nat) (h : z_M) : z_Z := none
noncomputable def f27_0 (r0 : Nat) (h : z_M) : z_Z := none
noncomputable def f28_0 (r0 : Nat) (h : z_M) : z_Z := none
noncomputable def f29_0 (r0 : Nat) (h : z_M) : z_Z := none
noncomputable def f33_0 (r0 : Nat) (h : z_M) : z_Z := none
noncomputable def f110_0 (x0 : Int) (h : z_M) : z_Z := none
noncomputable def f110_12 (h : z_M) : z_Z := none
noncomputable def f158_0 (r0 : Nat) (x1 : Int) (h : z_M) : z_Z := none
noncomputable def f194_0 (x0 : Int) (h : z_M) : z_Z := none
noncomputable def f194_12 (h : z_M) : z_Z := none
noncomputable def f195_0 (x0 : Int) (h : z_M) : z_Z := none
noncomputable def f195_12 (h : z_M) : z_Z := none
noncomputable def f196_0 (x0 : Int) (h : z_M) : z_Z := none
noncomputable def f196_12 (h : z_M) : z_Z := none
noncomputable def f201_0 (y0 y2 y4 : Int) (h : z_M) : z_Z := none
noncomputable def f201_17 (h : z_M) : z_Z := none
noncomputable def f201_18 (s0 : Int) (h : z_M) : z_Z := none
noncomputable def f305_0 (r0 : Nat) (x1 x2 : Int) (h : z_M) : z_Z := none
noncomputable def f305_57 (h : z_M) : z_Z := none
noncomputable def f305_61 (h : z_M) : z_Z := none
noncomputable def f305_62 (s0 : Int) (h : z_M) : z_Z := none
noncomputable def f306_0 (r0 : Nat) (x1 x2 : Int) (h : z_M) : z_Z := none
noncomputable def f306_20 (h : z_M) : z_Z := none
noncomputable def f306_21 (s0 : Int) (h : z_M) : z_Z := none
noncomputable def f317_0 (x0 x1 x2 : Int) (h : z_M) : z_Z := none
noncomputable def f317_14 (h : z_M) : z_Z := none
noncomputable def f317_15 (s0 : Int) (h : z_M) : z_Z := none
noncomputable def f323_0 (r0 : Nat) (h : z_M) : z_Z := none
noncomputable def f331_0 (r0 : Nat) (h : z_M) : z_Z := none
noncomputable def f332_0 (r0 : Nat) (h : z_M) : z_Z := none
noncomputable def f332_2 (r0 : Nat) (x1 : Int) (h : z_M) : z_Z := none
noncomputable def f332_27 (x1 : Int) (h : z_M) : z_Z := none
noncomputable def f334_0 (r0 : Nat) (x1 : Int) (h : z_M) : z_Z := none
noncomputable def f334_59 (h : z_M) : z_Z := none
noncomputable def f335_0 (r0 : Nat) (h : z_M) : z_Z := none
noncomputable def f335_2 (r0 : Nat) (x1 : Int) (h : z_M) : z_Z := none
noncomputable def f335_34 (r0 : Nat) (h : z_M) : z_Z := none
noncomputable def f335_36 (r0 : Nat) (x1 : Int) (h : z_M) : z_Z := none
noncomputable def f335_70 (h : z_M) : z_Z := none
noncomputable def f336_0 (r0 : Nat) (x1 x2 : Int) (h : z_M) : z_Z := none
noncomputable def f337_0 (r0 : Nat) (h : z_M) : z_Z := none
noncomputable def f337_21 (r0 : Nat) (x1 : Int) (h : z_M) : z_Z := none
noncomputable def f337_31 (r0 : Nat) (x1 x2 : Int) (h : z_M) : z_Z := none
noncomputable def f337_87 (r0 : Nat) (x1 x2 x3 x4 : Int) (h : z_M) : z_Z := none
noncomputable def f337_122 (r0 : Nat) (x1 x2 x3 x4 x5 : Int) (q0 : Nat) (s1 s2 : Int) (h : z_M) : z_Z := none
noncomputable def f337_123 (r0 : Nat) (x1 x2 x3 x4 x5 : Int) (q0 : Nat) (s1 s2 s3 : Int) (h : z_M) : z_Z := none
noncomputable def f337_136 (r0 : Nat) (x1 x2 x3 x4 x5 x6 : Int) (h : z_M) : z_Z := none
noncomputable def f337_158 (r0 : Nat) (x1 x2 : Int) (h : z_M) : z_Z := none
noncomputable def f337_164 (r0 : Nat) (x1 : Int) (h : z_M) : z_Z := none
noncomputable def f337_170 (h : z_M) : z_Z := none
noncomputable def f339_0 (r0 : Nat) (x1 x2 : Int) (h : z_M) : z_Z := none
noncomputable def f339_35 (r0 : Nat) (x1 x3 : Int) (q0 : Nat) (s1 s2 : Int) (h : z_M) : z_Z := none
noncomputable def f339_38 (r0 : Nat) (x1 : Int) (q0 : Nat) (s1 s2 s3 : Int) (h : z_M) : z_Z := none
noncomputable def f339_44 (r0 : Nat) (x1 x3 : Int) (q0 : Nat) (s1 : Int) (h : z_M) : z_Z := none
noncomputable def f339_56 (r0 : Nat) (x1 x3 : Int) (q0 : Nat) (s1 s2 : Int) (h : z_M) : z_Z := none
noncomputable def f339_59 (r0 : Nat) (x1 : Int) (q0 : Nat) (s1 s2 s3 : Int) (h : z_M) : z_Z := none
noncomputable def f339_62 (r0 : Nat) (x1 : Int) (q0 : Nat) (s1 s2 : Int) (h : z_M) : z_Z := none
noncomputable def f340_0 (r0 : Nat) (x1 x2 : Int) (h : z_M) : z_Z := none
noncomputable def f340_35 (h : z_M) : z_Z := none
noncomputable def f340_36 (s0 : Int) (h : z_M) : z_Z := none
noncomputable def f341_0 (r0 : Nat) (x1 x2 x3 : Int) (h : z_M) : z_Z := none
noncomputable def f341_46 (r0 : Nat) (x4 : Int) (h : z_M) : z_Z := none
noncomputable def f341_50 (x4 : Int) (h : z_M) : z_Z := none
noncomputable def f344_0 (r0 : Nat) (x1 : Int) (h : z_M) : z_Z := none
noncomputable def f344_36 (r0 : Nat) (x1 : Int) (h : z_M) : z_Z := none
noncomputable def f345_0 (r0 : Nat) (h : z_M) : z_Z := none
noncomputable def f345_25 (r0 : Nat) (x1 x2 x3 : Int) (h : z_M) : z_Z := none
noncomputable def f345_41 (r0 : Nat) (x1 x2 : Int) (h : z_M) : z_Z := none
noncomputable def f345_60 (r0 : Nat) (x1 : Int) (h : z_M) : z_Z := none
noncomputable def f345_74 (r0 : Nat) (h : z_M) : z_Z := none
noncomputable def f346_0 (r0 : Nat) (x1 x2 : Int) (h : z_M) : z_Z := none
noncomputable def f346_4 (r0 : Nat) (x1 x3 : Int) (h : z_M) : z_Z := none
noncomputable def f346_23 (h : z_M) : z_Z := none
noncomputable def f347_0 (r0 : Nat) (x1 x2 x3 : Int) (h : z_M) : z_Z := none
noncomputable def f347_9 (r0 : Nat) (x1 x2 x3 : Int) (h : z_M) : z_Z := none
noncomputable def f347_30 (r0 : Nat) (x1 x2 x3 : Int) (h : z_M) : z_Z := none
noncomputable def f347_31 (r0 : Nat) (x1 x2 x3 s0 : Int) (h : z_M) : z_Z := none
noncomputable def f347_47 (r0 : Nat) (x1 x2 x3 x4 : Int) (q0 : Nat) (s1 : Int) (h : z_M) : z_Z := none
noncomputable def f347_48 (r0 : Nat) (x1 x2 x3 x4 : Int) (q0 : Nat) (s1 s2 : Int) (h : z_M) : z_Z := none
noncomputable def f347_67 (r0 : Nat) (x1 x2 x3 : Int) (h : z_M) : z_Z := none
noncomputable def f347_70 (r0 : Nat) (x1 x2 s0 : Int) (h : z_M) : z_Z := none
noncomputable def f348_0 (r0 : Nat) (h : z_M) : z_Z := none
noncomputable def f348_9 (r0 : Nat) (h : z_M) : z_Z := none
noncomputable def f348_33 (r0 : Nat) (h : z_M) : z_Z := none
noncomputable def f348_34 (r0 : Nat) (s0 : Int) (h : z_M) : z_Z := none
noncomputable def f348_35 (r0 : Nat) (x1 : Int) (h : z_M) : z_Z := none
noncomputable def f348_60 (r0 : Nat) (h : z_M) : z_Z := none
noncomputable def f348_61 (r0 : Nat) (s0 : Int) (h : z_M) : z_Z := none
noncomputable def f348_65 (r0 : Nat) (x1 : Int) (h : z_M) : z_Z := none
noncomputable def f348_74 (r0 q0 : Nat) (h : z_M) : z_Z := none
noncomputable def f348_75 (r0 q0 : Nat) (s1 : Int) (h : z_M) : z_Z := none
noncomputable def f348_80 (r0 : Nat) (x2 : Int) (h : z_M) : z_Z := none
noncomputable def f348_120 (r0 : Nat) (x2 : Int) (q0 : Nat) (h : z_M) : z_Z := none
noncomputable def f348_121 (r0 : Nat) (x2 : Int) (q0 : Nat) (s1 : Int) (h : z_M) : z_Z := none
noncomputable def f348_130 (r0 : Nat) (h : z_M) : z_Z := none
noncomputable def f348_141 (h : z_M) : z_Z := none
noncomputable def f348_142 (s0 : Int) (h : z_M) : z_Z := none
noncomputable def f349_0 (r0 : Nat) (h : z_M) : z_Z := none
noncomputable def f349_4 (r0 : Nat) (x1 x2 : Int) (h : z_M) : z_Z := none
noncomputable def f349_56 (r0 : Nat) (x2 s0 : Int) (h : z_M) : z_Z := none
noncomputable def f349_57 (r0 : Nat) (x2 s0 s1 : Int) (h : z_M) : z_Z := none
noncomputable def f349_65 (r0 : Nat) (x1 : Int) (h : z_M) : z_Z := none
noncomputable def f349_67 (r0 : Nat) (x1 x2 : Int) (h : z_M) : z_Z := none
noncomputable def f349_89 (r0 : Nat) (x1 : Int) (h : z_M) : z_Z := none
noncomputable def f349_148 (r0 : Nat) (x1 : Int) (h : z_M) : z_Z := none
noncomputable def f349_149 (r0 : Nat) (x1 s0 : Int) (h : z_M) : z_Z := none
noncomputable def f349_169 (r0 : Nat) (x1 : Int) (h : z_M) : z_Z := none
noncomputable def f351_0 (r0 : Nat) (h : z_M) : z_Z := none
noncomputable def f351_9 (r0 : Nat) (h : z_M) : z_Z := none
noncomputable def f351_27 (r0 : Nat) (h : z_M) : z_Z := none
noncomputable def f351_57 (r0 q0 : Nat) (h : z_M) : z_Z := none
noncomputable def f351_58 (r0 q0 : Nat) (s1 : Int) (h : z_M) : z_Z := none
noncomputable def f351_77 (h : z_M) : z_Z := none
noncomputable def f351_78 (s0 : Int) (h : z_M) : z_Z := none
noncomputable def f352_0 (r0 : Nat) (h : z_M) : z_Z := none
noncomputable def f352_24 (r0 : Nat) (h : z_M) : z_Z := none
noncomputable def f353_0 (r0 : Nat) (h : z_M) : z_Z := none
noncomputable def f353_18 (r0 : Nat) (x1 x2 x3 : Int) (h : z_M) : z_Z := none
noncomputable def f353_40 (r0 : Nat) (x1 x2 x3 : Int) (h : z_M) : z_Z := none
noncomputable def f353_49 (r0 : Nat) (x1 x2 : Int) (h : z_M) : z_Z := none
noncomputable def f353_61 (x1 x2 : Int) (q0 : Nat) (h : z_M) : z_Z := none
noncomputable def f353_62 (x1 x2 : Int) (q0 : Nat) (s1 : Int) (h : z_M) : z_Z := none
noncomputable def f353_65 (x1 x2 s0 : Int) (h : z_M) : z_Z := none
noncomputable def f353_79 (x4 : Int) (h : z_M) : z_Z := none
noncomputable def f353_84 (x1 x2 x4 : Int) (h : z_M) : z_Z := none
noncomputable def f353_90 (s0 : Int) (h : z_M) : z_Z := none
noncomputable def f354_0 (r0 : Nat) (x1 : Int) (h : z_M) : z_Z := none
noncomputable def f354_4 (r0 : Nat) (x1 x2 x3 : Int) (h : z_M) : z_Z := none
noncomputable def f354_30 (r0 : Nat) (x1 x2 x3 x4 : Int) (h : z_M) : z_Z := none
noncomputable def f354_36 (r0 : Nat) (x1 x3 s0 : Int) (h : z_M) : z_Z := none
noncomputable def f354_43 (x2 : Int) (h : z_M) : z_Z := none
noncomputable def f697_0 (h : z_M) : z_Z := none
noncomputable def f697_2 (x1 : Int) (h : z_M) : z_Z := none
noncomputable def f697_21 (h : z_M) : z_Z := none
noncomputable def f697_23 (x1 : Int) (h : z_M) : z_Z := none
noncomputable def f697_43 (h : z_M) : z_Z := none
noncomputable def f698_0 (h : z_M) : z_Z := none
noncomputable def f698_12 (x1 : Int) (h : z_M) : z_Z := none
noncomputable def f698_32 (h : z_M) : z_Z := none
noncomputable def f806_0 (x1 x2 : Int) (h : z_M) : z_Z := none
noncomputable def f809_0 (x1 : Int) (h : z_M) : z_Z := none
noncomputable def f809_49 (h : z_M) : z_Z := none
noncomputable def f863_0 (h : z_M) : z_Z := none
noncomputable def f863_2 (x1 : Int) (h : z_M) : z_Z := none
noncomputable def f863_27 (h : z_M) : z_Z := none
noncomputable def f871_0 (x1 x2 x3 x4 : Int) (h : z_M) : z_Z := none
noncomputable def f871_51 (h : z_M) : z_Z := none
noncomputable def f871_52 (s0 : Int) (h : z_M) : z_Z := none
noncomputable def f874_0 (h : z_M) : z_Z := none
noncomputable def f874_14 (h : z_M) : z_Z := none
noncomputable def f874_15 (s0 : Int) (h : z_M) : z_Z := none
noncomputable def f875_0 (h : z_M) : z_Z := none
noncomputable def f875_24 (h : z_M) : z_Z := none
noncomputable def f875_33 (h : z_M) : z_Z := none
noncomputable def f876_0 (h : z_M) : z_Z := none
noncomputable def f876_33 (x2 x3 : Int) (h : z_M) : z_Z := none
noncomputable def f876_44 (x2 x3 x4 : Int) (h : z_M) : z_Z := none
noncomputable def f876_95 (x2 x3 x4 x5 x6 : Int) (h : z_M) : z_Z := none
noncomputable def f876_119 (x2 x3 x4 x5 x6 x7 : Int) (h : z_M) : z_Z := none
noncomputable def f876_120 (x2 x3 x4 x5 x6 x7 s0 : Int) (h : z_M) : z_Z := none
noncomputable def f876_133 (x2 x3 x4 x5 x6 x7 x8 : Int) (h : z_M) : z_Z := none
noncomputable def f876_134 (x2 x3 x4 x5 x6 x7 x8 s0 : Int) (h : z_M) : z_Z := none
noncomputable def f876_147 (x2 x3 x4 x5 x6 x7 x9 : Int) (h : z_M) : z_Z := none
noncomputable def f876_148 (x2 x3 x4 x5 x6 x7 x9 s0 : Int) (h : z_M) : z_Z := none
noncomputable def f876_245 (x2 x3 : Int) (h : z_M) : z_Z := none
noncomputable def f876_255 (h : z_M) : z_Z := none
noncomputable def f876_274 (h : z_M) : z_Z := none
noncomputable def f877_0 (x1 : Int) (h : z_M) : z_Z := none
noncomputable def f877_4 (x1 x2 x3 : Int) (h : z_M) : z_Z := none
noncomputable def f877_24 (x2 : Int) (h : z_M) : z_Z := none
noncomputable def f878_0 (x1 : Int) (h : z_M) : z_Z := none
noncomputable def f878_7 (x1 x2 x3 : Int) (h : z_M) : z_Z := none
noncomputable def f878_34 (x1 x2 x3 : Int) (h : z_M) : z_Z := none
noncomputable def f878_52 (x1 : Int) (h : z_M) : z_Z := none
noncomputable def f878_58 (x1 s0 : Int) (h : z_M) : z_Z := none
noncomputable def f878_79 (x4 : Int) (h : z_M) : z_Z := none
noncomputable def f883_0 (x0 : Int) (h : z_M) : z_Z := none
noncomputable def f885_0 (x0 x1 x2 : Int) (h : z_M) : z_Z := none
noncomputable def f885_14 (h : z_M) : z_Z := none
noncomputable def f885_15 (s0 : Int) (h : z_M) : z_Z := none
noncomputable def f888_0 (x0 : Int) (h : z_M) : z_Z := none
noncomputable def f889_0 (x1 x2 x3 : Int) (h : z_M) : z_Z := none
noncomputable def f889_36 (h : z_M) : z_Z := none
noncomputable def f889_37 (s0 : Int) (h : z_M) : z_Z := none
noncomputable def f890_0 (x0 : Int) (h : z_M) : z_Z := none
noncomputable def f896_0 (x1 : Int) (h : z_M) : z_Z := none
noncomputable def f897_0 (x1 : Int) (h : z_M) : z_Z := none
noncomputable def f897_15 (x1 : Int) (h : z_M) : z_Z := none
noncomputable def f899_0 (x1 x2 : Int) (h : z_M) : z_Z := none
noncomputable def f899_4 (x1 x3 : Int) (h : z_M) : z_Z := none
noncomputable def f899_23 (h : z_M) : z_Z := none
noncomputable def f902_0 (x1 : Int) (h : z_M) : z_Z := none
noncomputable def f902_19 (x1 x2 : Int) (h : z_M) : z_Z := none
noncomputable def f902_21 (x1 x2 s0 : Int) (h : z_M) : z_Z := none
noncomputable def f902_25 (x1 x2 x3 x4 : Int) (h : z_M) : z_Z := none
noncomputable def f902_42 (x1 x2 x3 : Int) (h : z_M) : z_Z := none
noncomputable def f902_62 (x1 : Int) (h : z_M) : z_Z := none
noncomputable def f902_69 (x1 : Int) (h : z_M) : z_Z := none
noncomputable def f906_0 (x1 x2 : Int) (h : z_M) : z_Z := none
noncomputable def f906_22 (x1 x3 : Int) (h : z_M) : z_Z := none
noncomputable def f906_28 (x1 x3 : Int) (h : z_M) : z_Z := none
noncomputable def f906_38 (x1 x3 : Int) (h : z_M) : z_Z := none
noncomputable def f906_41 (x1 s0 : Int) (h : z_M) : z_Z := none
noncomputable def f906_60 (x4 s1 : Int) (h : z_M) : z_Z := none
noncomputable def f906_72 (x4 s1 : Int) (h : z_M) : z_Z := none
noncomputable def f906_74 (s1 s2 : Int) (h : z_M) : z_Z := none
noncomputable def f916_0 (x1 x2 x3 : Int) (h : z_M) : z_Z := none
noncomputable def f916_26 (x2 x3 x4 : Int) (h : z_M) : z_Z := none
noncomputable def f916_36 (x2 x3 x4 s0 : Int) (h : z_M) : z_Z := none
noncomputable def f916_47 (x2 x3 x4 x5 : Int) (h : z_M) : z_Z := none
noncomputable def f916_56 (x2 x3 x4 x5 s0 : Int) (h : z_M) : z_Z := none
noncomputable def f916_67 (x3 x4 x5 x6 : Int) (h : z_M) : z_Z := none
noncomputable def f916_79 (x4 x5 x6 : Int) (h : z_M) : z_Z := none
noncomputable def f916_91 (x5 x6 s0 : Int) (h : z_M) : z_Z := none
noncomputable def f916_105 (x5 x6 x7 : Int) (h : z_M) : z_Z := none
noncomputable def f916_107 (x5 x6 x7 s0 : Int) (h : z_M) : z_Z := none
noncomputable def f916_121 (x5 x6 x7 x8 : Int) (h : z_M) : z_Z := none
noncomputable def f916_123 (x5 x6 x7 x8 s0 : Int) (h : z_M) : z_Z := none
noncomputable def f916_137 (x5 x6 x7 x8 x9 : Int) (h : z_M) : z_Z := none
noncomputable def f916_149 (x5 x6 x7 : Int) (h : z_M) : z_Z := none
noncomputable def f916_157 (s0 : Int) (h : z_M) : z_Z := none
noncomputable def f948_0 (x1 x2 : Int) (h : z_M) : z_Z := none
noncomputable def f948_75 (x1 x2 x3 x4 : Int) (h : z_M) : z_Z := none
noncomputable def f948_87 (x1 x2 x3 x4 x5 : Int) (h : z_M) : z_Z := none
noncomputable def f948_99 (x1 x2 x3 x4 x5 x6 : Int) (h : z_M) : z_Z := none
noncomputable def f948_163 (x1 x2 x3 x4 x5 x6 x8 x9 : Int) (h : z_M) : z_Z := none
noncomputable def f948_164 (x1 x2 x3 x4 x5 x6 x8 x9 s0 : Int) (h : z_M) : z_Z := none
noncomputable def f948_174 (x1 x2 x3 x4 x5 x6 x8 x9 s0 : Int) (h : z_M) : z_Z := none
noncomputable def f948_175 (x1 x2 x3 x4 x5 x6 x8 x9 s0 s1 : Int) (h : z_M) : z_Z := none
noncomputable def f948_182 (x1 x2 x3 x4 x5 x6 x8 x9 : Int) (h : z_M) : z_Z := none
noncomputable def f948_183 (x1 x2 x3 x4 x5 x6 x8 x9 s0 : Int) (h : z_M) : z_Z := none
noncomputable def f948_196 (x1 x2 x3 x4 x5 x6 x8 x9 : Int) (h : z_M) : z_Z := none
noncomputable def f948_203 (x1 x2 x3 x4 x5 x6 x8 x9 : Int) (h : z_M) : z_Z := none
noncomputable def f948_232 (x1 x2 x3 x4 x5 : Int) (h : z_M) : z_Z := none
noncomputable def f948_238 (x1 x2 x3 x4 : Int) (h : z_M) : z_Z := none
noncomputable def f948_248 (x3 : Int) (h : z_M) : z_Z := none
noncomputable def f950_0 (x1 x2 x3 x4 : Int) (h : z_M) : z_Z := none
noncomputable def f950_21 (x1 x4 x5 : Int) (h : z_M) : z_Z := none
noncomputable def f950_58 (h : z_M) : z_Z := none
noncomputable def f954_0 (x1 x2 x3 x4 : Int) (h : z_M) : z_Z := none
noncomputable def f954_9 (x2 x3 x4 : Int) (h : z_M) : z_Z := none
noncomputable def f954_17 (x3 x4 : Int) (h : z_M) : z_Z := none
noncomputable def f954_25 (x4 : Int) (h : z_M) : z_Z := none
noncomputable def f954_34 (h : z_M) : z_Z := none
noncomputable def f954_35 (s1 : Int) (h : z_M) : z_Z := none
noncomputable def f954_49 (h : z_M) : z_Z := none
noncomputable def f954_50 (s0 : Int) (h : z_M) : z_Z := none
noncomputable def f963_0 (x0 : Int) (h : z_M) : z_Z := none
noncomputable def f963_9 (h : z_M) : z_Z := none
noncomputable def f963_10 (s0 : Int) (h : z_M) : z_Z := none
noncomputable def f967_0 (h : z_M) : z_Z := none
noncomputable def f967_2 (x1 : Int) (h : z_M) : z_Z := none
noncomputable def f967_27 (x1 : Int) (h : z_M) : z_Z := none
noncomputable def f984_0 (x1 x2 x3 : Int) (h : z_M) : z_Z := none
noncomputable def f984_25 (h : z_M) : z_Z := none
noncomputable def f984_29 (x1 x2 : Int) (h : z_M) : z_Z := none
noncomputable def f984_40 (s0 : Int) (h : z_M) : z_Z := none
noncomputable def f985_0 (x1 x2 x3 : Int) (h : z_M) : z_Z := none
noncomputable def f985_14 (x1 x2 x3 : Int) (h : z_M) : z_Z := none
noncomputable def f985_15 (x1 x2 x3 s1 : Int) (h : z_M) : z_Z := none
noncomputable def f985_36 (x2 : Int) (h : z_M) : z_Z := none
noncomputable def f985_39 (s0 : Int) (h : z_M) : z_Z := none
noncomputable def f1023_0 (x1 x2 : Int) (h : z_M) : z_Z := none
noncomputable def f1023_19 (x1 x2 : Int) (h : z_M) : z_Z := none
noncomputable def f1023_20 (x1 x2 s1 : Int) (h : z_M) : z_Z := none
noncomputable def f1023_34 (x1 x2 : Int) (h : z_M) : z_Z := none
noncomputable def f1023_111 (h : z_M) : z_Z := none
noncomputable def f1023_119 (x1 x2 x3 : Int) (h : z_M) : z_Z := none
noncomputable def f1023_158 (x1 x2 x4 : Int) (h : z_M) : z_Z := none
noncomputable def f1023_180 (x1 x2 : Int) (h : z_M) : z_Z := none
noncomputable def f1023_213 (x2 : Int) (h : z_M) : z_Z := none
noncomputable def f1023_255 (x2 : Int) (h : z_M) : z_Z := none
noncomputable def f1023_256 (x2 s1 : Int) (h : z_M) : z_Z := none
noncomputable def f1023_262 (x2 : Int) (h : z_M) : z_Z := none
noncomputable def f1023_286 (x2 : Int) (h : z_M) : z_Z := none
noncomputable def f1023_290 (x2 s1 : Int) (h : z_M) : z_Z := none
noncomputable def f1023_307 (x2 x4 x5 : Int) (h : z_M) : z_Z := none
noncomputable def f1023_340 (x2 x4 x5 : Int) (h : z_M) : z_Z := none
noncomputable def f1023_344 (x2 x4 x5 s1 : Int) (h : z_M) : z_Z := none
noncomputable def f1023_353 (x2 x4 : Int) (h : z_M) : z_Z := none
noncomputable def f1023_371 (x2 x4 : Int) (h : z_M) : z_Z := none
noncomputable def f1023_388 (x2 x4 x5 : Int) (h : z_M) : z_Z := none
noncomputable def f1023_447 (x2 x4 x5 s1 : Int) (h : z_M) : z_Z := none
noncomputable def f1023_448 (x2 x4 x5 s1 s2 : Int) (h : z_M) : z_Z := none
noncomputable def f1023_455 (h : z_M) : z_Z := none
noncomputable def f1070_0 (r0 : Nat) (x1 x2 : Int) (h : z_M) : z_Z := none
noncomputable def f1070_24 (r0 : Nat) (x1 x2 : Int) (h : z_M) : z_Z := none
noncomputable def f1070_25 (r0 : Nat) (x1 x2 s0 : Int) (h : z_M) : z_Z := none
noncomputable def f1070_46 (r0 : Nat) (x1 x2 x3 : Int) (h : z_M) : z_Z := none
noncomputable def f1070_47 (r0 : Nat) (x1 x2 x3 s0 : Int) (h : z_M) : z_Z := none
noncomputable def f1070_79 (x3 x4 : Int) (h : z_M) : z_Z := none
noncomputable def f1070_83 (x3 x4 : Int) (h : z_M) : z_Z := none
noncomputable def f1070_84 (x3 x4 s0 : Int) (h : z_M) : z_Z := none
noncomputable def f1070_106 (x3 x4 x5 : Int) (h : z_M) : z_Z := none
noncomputable def f1070_126 (x3 x4 x5 : Int) (h : z_M) : z_Z := none
noncomputable def f1070_133 (s0 : Int) (h : z_M) : z_Z := none
theorem e0_0 (x0 : Int) (h : z_M) : f0_0 x0 h = z_if (0 ≤ x0) (f0_9 x0 h) (f0_10 (z_w (-x0)) h) := sorry
theorem e0_9 (x0 : Int) (h : z_M) : f0_9 x0 h = f0_10 x0 h := sorry
theorem e0_10 (s0 : Int) (h : z_M) : f0_10 s0 h = z_ri s0 h := sorry
theorem e1_0 (x0 x1 : Int) (h : z_M) : f1_0 x0 x1 h = z_if (x0 < x1) (f1_9 x1 h) (f1_10 x0 h) := sorry
theorem e1_9 (x1 : Int) (h : z_M) : f1_9 x1 h = f1_10 x1 h := sorry
theorem e1_10 (s0 : Int) (h : z_M) : f1_10 s0 h = z_ri s0 h := sorry
theorem e2_0 (x0 x1 : Int) (h : z_M) : f2_0 x0 x1 h = z_if (x1 < x0) (f2_9 x1 h) (f2_10 x0 h) := sorry
theorem e2_9 (x1 : Int) (h : z_M) : f2_9 x1 h = f2_10 x1 h := sorry
theorem e2_10 (s0 : Int) (h : z_M) : f2_10 s0 h = z_ri s0 h := sorry
theorem e26_0 (r0 : Nat) (h : z_M) : f26_0 r0 h = z_g (z_isk r0 h [2, 3, 5, 6, 7, 54, 63, 64, 65, 66, 67, 68, 69, 70, 76]) (z_kv (f23_0 r0 h) (fun h1 => z_rv h1) z_ex) := sorry
theorem e110_0 (x0 : Int) (h : z_M) : f110_0 x0 h = z_if (¬ x0 = 0) (f110_12 h) (z_g (z_isk (hZ h + 1) (sN h 6 6) [6]) (z_kv (f29_0 (hZ h + 1) (sN h 6 6)) (fun h1 => z_g (0 < (hZ h + 1) ∧ z_isk (hZ h + 1) h1 z_exk) (z_ex (hZ h + 1) h1)) z_ex)) := sorry
theorem e110_12 (h : z_M) : f110_12 h = z_rv h := sorry
theorem e158_0 (r0 : Nat) (x1 : Int) (h : z_M) : f158_0 r0 x1 h = z_ki (f201_0 x1 0 7 h) (fun v1 h1 => z_kv (f195_0 v1 h1) (fun h2 => z_g (z_isk r0 h2 [10]) (z_g (z_isr (hP h2 r0 0) h2 x1) (z_rr (hP h2 (hP h2 r0 0) (Int.toNat x1)) h2))) z_ex) z_ex := sorry
theorem e194_0 (x0 : Int) (h : z_M) : f194_0 x0 h = z_if (¬ x0 = 0) (f194_12 h) (z_g (z_isk (hZ h + 1) (sN h 5 6) [5]) (z_kv (f28_0 (hZ h + 1) (sN h 5 6)) (fun h1 => z_g (0 < (hZ h + 1) ∧ z_isk (hZ h + 1) h1 z_exk) (z_ex (hZ h + 1) h1)) z_ex)) := sorry
theorem e194_12 (h : z_M) : f194_12 h = z_rv h := sorry
theorem e195_0 (x0 : Int) (h : z_M) : f195_0 x0 h = z_if (¬ x0 = 0) (f195_12 h) (z_g (z_isk (hZ h + 1) (sN h 2 6) [2, 3]) (z_kv (f27_0 (hZ h + 1) (sN h 2 6)) (fun h1 => z_g (0 < (hZ h + 1) ∧ z_isk (hZ h + 1) h1 z_exk) (z_ex (hZ h + 1) h1)) z_ex)) := sorry
theorem e195_12 (h : z_M) : f195_12 h = z_rv h := sorry
theorem e196_0 (x0 : Int) (h : z_M) : f196_0 x0 h = z_if (¬ x0 = 0) (f196_12 h) (z_g (z_isk (hZ h + 1) (sN h 7 6) [7]) (z_kv (f33_0 (hZ h + 1) (sN h 7 6)) (fun h1 => z_g (0 < (hZ h + 1) ∧ z_isk (hZ h + 1) h1 z_exk) (z_ex (hZ h + 1) h1)) z_ex)) := sorry
theorem e196_12 (h : z_M) : f196_12 h = z_rv h := sorry
theorem e201_0 (y0 y2 y4 : Int) (h : z_M) : f201_0 y0 y2 y4 h = z_if ((z_lcmp y0 y2) < 0) (f201_17 h) (z_if (0 < (z_lcmp y0 y4)) (f201_17 h) (f201_18 1 h)) := sorry
theorem e201_17 (h : z_M) : f201_17 h = f201_18 0 h := sorry
theorem e201_18 (s0 : Int) (h : z_M) : f201_18 s0 h = z_g (z_01 s0) (z_ri s0 h) := sorry
theorem e306_0 (r0 : Nat) (x1 x2 : Int) (h : z_M) : f306_0 r0 x1 x2 h = z_g (z_isk r0 h [17]) (z_if ((hI h r0 15) = 0) (f306_20 h) (z_g (z_isk r0 h [17]) (z_ki (f305_0 r0 x1 x2 h) (fun v1 h1 => z_if (v1 = 0) (f306_20 h1) (f306_21 1 h1)) z_ex))) := sorry
theorem e306_20 (h : z_M) : f306_20 h = f306_21 0 h := sorry
theorem e306_21 (s0 : Int) (h : z_M) : f306_21 s0 h = z_g (z_01 s0) (z_ri s0 h) := sorry
theorem e317_0 (x0 x1 x2 : Int) (h : z_M) : f317_0 x0 x1 x2 h = z_if (x0 < x1) (f317_14 h) (z_if (x2 < x0) (f317_14 h) (f317_15 1 h)) := sorry
theorem e317_14 (h : z_M) : f317_14 h = f317_15 0 h := sorry
theorem e317_15 (s0 : Int) (h : z_M) : f317_15 s0 h = z_g (z_01 s0) (z_ri s0 h) := sorry
theorem e332_0 (r0 : Nat) (h : z_M) : f332_0 r0 h = f332_2 r0 0 h := sorry
theorem e332_2 (r0 : Nat) (x1 : Int) (h : z_M) : f332_2 r0 x1 h = z_if (8 ≤ x1) (f332_27 x1 h) (z_g (z_isk r0 h [20]) (z_g (z_isk r0 h [20]) (z_if ((hI h r0 0) ≤ (z_shl (hI h r0 1) x1)) (f332_27 x1 h) (f332_2 r0 (z_w (x1 + 1)) h)))) := sorry
theorem e332_27 (x1 : Int) (h : z_M) : f332_27 x1 h = z_ri x1 h := sorry
theorem e334_0 (r0 : Nat) (x1 : Int) (h : z_M) : f334_0 r0 x1 h = z_g (z_isk r0 h [20]) (z_g (z_isk r0 h [20]) (z_g (z_isk r0 (sI h r0 0 (z_w ((hI h r0 0) + x1))) [20]) (z_g (z_isk r0 (sI h r0 0 (z_w ((hI h r0 0) + x1))) [20]) (z_g (z_isk r0 (sI (sI h r0 0 (z_w ((hI h r0 0) + x1))) r0 1 (z_w ((hI (sI h r0 0 (z_w ((hI h r0 0) + x1))) r0 1) + 1))) [20]) (z_g (z_isk r0 (sI (sI h r0 0 (z_w ((hI h r0 0) + x1))) r0 1 (z_w ((hI (sI h r0 0 (z_w ((hI h r0 0) + x1))) r0 1) + 1))) [20]) (z_g (z_isk r0 (sI (sI (sI h r0 0 (z_w ((hI h r0 0) + x1))) r0 1 (z_w ((hI (sI h r0 0 (z_w ((hI h r0 0) + x1))) r0 1) + 1))) r0 2 (z_w ((hI (sI (sI h r0 0 (z_w ((hI h r0 0) + x1))) r0 1 (z_w ((hI (sI h r0 0 (z_w ((hI h r0 0) + x1))) r0 1) + 1))) r0 2) + 1))) [20]) (z_if (¬ (hI (sI (sI (sI h r0 0 (z_w ((hI h r0 0) + x1))) r0 1 (z_w ((hI (sI h r0 0 (z_w ((hI h r0 0) + x1))) r0 1) + 1))) r0 2 (z_w ((hI (sI (sI h r0 0 (z_w ((hI h r0 0) + x1))) r0 1 (z_w ((hI (sI h r0 0 (z_w ((hI h r0 0) + x1))) r0 1) + 1))) r0 2) + 1))) r0 1) = 32) (f334_59 (sI (sI (sI h r0 0 (z_w ((hI h r0 0) + x1))) r0 1 (z_w ((hI (sI h r0 0 (z_w ((hI h r0 0) + x1))) r0 1) + 1))) r0 2 (z_w ((hI (sI (sI h r0 0 (z_w ((hI h r0 0) + x1))) r0 1 (z_w ((hI (sI h r0 0 (z_w ((hI h r0 0) + x1))) r0 1) + 1))) r0 2) + 1)))) (z_g (z_isk r0 (sI (sI (sI h r0 0 (z_w ((hI h r0 0) + x1))) r0 1 (z_w ((hI (sI h r0 0 (z_w ((hI h r0 0) + x1))) r0 1) + 1))) r0 2 (z_w ((hI (sI (sI h r0 0 (z_w ((hI h r0 0) + x1))) r0 1 (z_w ((hI (sI h r0 0 (z_w ((hI h r0 0) + x1))) r0 1) + 1))) r0 2) + 1))) [20]) (z_g (z_isk r0 (sI (sI (sI h r0 0 (z_w ((hI h r0 0) + x1))) r0 1 (z_w ((hI (sI h r0 0 (z_w ((hI h r0 0) + x1))) r0 1) + 1))) r0 2 (z_w ((hI (sI (sI h r0 0 (z_w ((hI h r0 0) + x1))) r0 1 (z_w ((hI (sI h r0 0 (z_w ((hI h r0 0) + x1))) r0 1) + 1))) r0 2) + 1))) [20]) (z_g (z_isk r0 (sI (sI (sI (sI h r0 0 (z_w ((hI h r0 0) + x1))) r0 1 (z_w ((hI (sI h r0 0 (z_w ((hI h r0 0) + x1))) r0 1) + 1))) r0 2 (z_w ((hI (sI (sI h r0 0 (z_w ((hI h r0 0) + x1))) r0 1 (z_w ((hI (sI h r0 0 (z_w ((hI h r0 0) + x1))) r0 1) + 1))) r0 2) + 1))) r0 0 (z_shr (hI (sI (sI (sI h r0 0 (z_w ((hI h r0 0) + x1))) r0 1 (z_w ((hI (sI h r0 0 (z_w ((hI h r0 0) + x1))) r0 1) + 1))) r0 2 (z_w ((hI (sI (sI h r0 0 (z_w ((hI h r0 0) + x1))) r0 1 (z_w ((hI (sI h r0 0 (z_w ((hI h r0 0) + x1))) r0 1) + 1))) r0 2) + 1))) r0 0) 1)) [20]) (z_g (z_isk r0 (sI (sI (sI (sI h r0 0 (z_w ((hI h r0 0) + x1))) r0 1 (z_w ((hI (sI h r0 0 (z_w ((hI h r0 0) + x1))) r0 1) + 1))) r0 2 (z_w ((hI (sI (sI h r0 0 (z_w ((hI h r0 0) + x1))) r0 1 (z_w ((hI (sI h r0 0 (z_w ((hI h r0 0) + x1))) r0 1) + 1))) r0 2) + 1))) r0 0 (z_shr (hI (sI (sI (sI h r0 0 (z_w ((hI h r0 0) + x1))) r0 1 (z_w ((hI (sI h r0 0 (z_w ((hI h r0 0) + x1))) r0 1) + 1))) r0 2 (z_w ((hI (sI (sI h r0 0 (z_w ((hI h r0 0) + x1))) r0 1 (z_w ((hI (sI h r0 0 (z_w ((hI h r0 0) + x1))) r0 1) + 1))) r0 2) + 1))) r0 0) 1)) [20]) (f334_59 (sI (sI (sI (sI (sI h r0 0 (z_w ((hI h r0 0) + x1))) r0 1 (z_w ((hI (sI h r0 0 (z_w ((hI h r0 0) + x1))) r0 1) + 1))) r0 2 (z_w ((hI (sI (sI h r0 0 (z_w ((hI h r0 0) + x1))) r0 1 (z_w ((hI (sI h r0 0 (z_w ((hI h r0 0) + x1))) r0 1) + 1))) r0 2) + 1))) r0 0 (z_shr (hI (sI (sI (sI h r0 0 (z_w ((hI h r0 0) + x1))) r0 1 (z_w ((hI (sI h r0 0 (z_w ((hI h r0 0) + x1))) r0 1) + 1))) r0 2 (z_w ((hI (sI (sI h r0 0 (z_w ((hI h r0 0) + x1))) r0 1 (z_w ((hI (sI h r0 0 (z_w ((hI h r0 0) + x1))) r0 1) + 1))) r0 2) + 1))) r0 0) 1)) r0 1 (z_shr (hI (sI (sI (sI (sI h r0 0 (z_w ((hI h r0 0) + x1))) r0 1 (z_w ((hI (sI h r0 0 (z_w ((hI h r0 0) + x1))) r0 1) + 1))) r0 2 (z_w ((hI (sI (sI h r0 0 (z_w ((hI h r0 0) + x1))) r0 1 (z_w ((hI (sI h r0 0 (z_w ((hI h r0 0) + x1))) r0 1) + 1))) r0 2) + 1))) r0 0 (z_shr (hI (sI (sI (sI h r0 0 (z_w ((hI h r0 0) + x1))) r0 1 (z_w ((hI (sI h r0 0 (z_w ((hI h r0 0) + x1))) r0 1) + 1))) r0 2 (z_w ((hI (sI (sI h r0 0 (z_w ((hI h r0 0) + x1))) r0 1 (z_w ((hI (sI h r0 0 (z_w ((hI h r0 0) + x1))) r0 1) + 1))) r0 2) + 1))) r0 0) 1)) r0 1) 1)))))))))))))) := sorry
theorem e334_59 (h : z_M) : f334_59 h = z_rv h := sorry
theorem e335_0 (r0 : Nat) (h : z_M) : f335_0 r0 h = f335_2 r0 0 h := sorry
theorem e335_2 (r0 : Nat) (x1 : Int) (h : z_M) : f335_2 r0 x1 h = z_if (64 ≤ x1) (f335_34 r0 h) (z_g (z_isk r0 h [21, 22]) (z_g (z_isk (hP h r0 2) h [17]) (z_g (z_isa (hP h (hP h r0 2) 17) h 1000 x1 ∧ z_new (hP h (hP h r0 2) 17)) (z_g (z_isk r0 (sI h (hP h (hP h r0 2) 17) (Int.toNat x1) (-1)) [21, 22]) (z_g (z_isk (hP (sI h (hP h (hP h r0 2) 17) (Int.toNat x1) (-1)) r0 2) (sI h (hP h (hP h r0 2) 17) (Int.toNat x1) (-1)) [17]) (z_g (z_isa (hP (sI h (hP h (hP h r0 2) 17) (Int.toNat x1) (-1)) (hP (sI h (hP h (hP h r0 2) 17) (Int.toNat x1) (-1)) r0 2) 18) (sI h (hP h (hP h r0 2) 17) (Int.toNat x1) (-1)) 1000 x1 ∧ z_new (hP (sI h (hP h (hP h r0 2) 17) (Int.toNat x1) (-1)) (hP (sI h (hP h (hP h r0 2) 17) (Int.toNat x1) (-1)) r0 2) 18)) (f335_2 r0 (z_w (x1 + 1)) (sI (sI h (hP h (hP h r0 2) 17) (Int.toNat x1) (-1)) (hP (sI h (hP h (hP h r0 2) 17) (Int.toNat x1) (-1)) (hP (sI h (hP h (hP h r0 2) 17) (Int.toNat x1) (-1)) r0 2) 18) (Int.toNat x1) 0)))))))) := sorry
theorem e335_34 (r0 : Nat) (h : z_M) : f335_34 r0 h = f335_36 r0 0 h := sorry
theorem e335_36 (r0 : Nat) (x1 : Int) (h : z_M) : f335_36 r0 x1 h = z_g (z_isk r0 h [21, 22]) (z_g (1000 ≤ hK h (hP h r0 0)) (z_if ((hN h (hP h r0 0) : Int) ≤ x1) (f335_70 h) (z_g (z_isk r0 h [21, 22]) (z_g (z_isk r0 h [21, 22]) (z_g (z_isa (hP h r0 0) h 1000 x1) (z_g (z_isa (hP h r0 1) h 1000 x1 ∧ z_new (hP h r0 1)) (z_g (z_isk r0 (sI h (hP h r0 1) (Int.toNat x1) (hI h (hP h r0 0) (Int.toNat x1))) [21, 22]) (z_g (z_isa (hP (sI h (hP h r0 1) (Int.toNat x1) (hI h (hP h r0 0) (Int.toNat x1))) r0 0) (sI h (hP h r0 1) (Int.toNat x1) (hI h (hP h r0 0) (Int.toNat x1))) 1000 x1 ∧ z_new (hP (sI h (hP h r0 1) (Int.toNat x1) (hI h (hP h r0 0) (Int.toNat x1))) r0 0)) (f335_36 r0 (z_w (x1 + 1)) (sI (sI h (hP h r0 1) (Int.toNat x1) (hI h (hP h r0 0) (Int.toNat x1))) (hP (sI h (hP h r0 1) (Int.toNat x1) (hI h (hP h r0 0) (Int.toNat x1))) r0 0) (Int.toNat x1) 0)))))))))) := sorry
theorem e335_70 (h : z_M) : f335_70 h = z_rv h := sorry
theorem e336_0 (r0 : Nat) (x1 x2 : Int) (h : z_M) : f336_0 r0 x1 x2 h = z_g (z_isk r0 h [21, 22]) (z_ki (f340_0 r0 (z_w (x1 - 1)) x2 h) (fun v1 h1 => z_g (z_isk r0 h1 [21, 22]) (z_ki (f340_0 r0 (z_w (x1 - 2)) x2 h1) (fun v2 h2 => z_g (z_isk r0 h2 [21, 22]) (z_ki (f340_0 r0 (z_w (x1 - 1)) (z_w (x2 - 1)) h2) (fun v3 h3 => z_g (z_isk r0 h3 [21, 22]) (z_ki (f340_0 r0 x1 (z_w (x2 - 1)) h3) (fun v4 h4 => z_g (z_isk r0 h4 [21, 22]) (z_ki (f340_0 r0 (z_w (x1 + 1)) (z_w (x2 - 1)) h4) (fun v5 h5 => z_g (z_isk r0 h5 [21, 22]) (z_g (z_isa (hP h5 r0 1) h5 1000 (z_w ((z_w (16 * x2)) + x1))) (z_ri (z_or (z_or (z_or (z_or (z_or (z_shl v1 5) (z_shl v2 4)) (z_shl v3 3)) (z_shl v4 2)) (z_shl v5 1)) (hI h5 (hP h5 r0 1) (Int.toNat (z_w ((z_w (16 * x2)) + x1))))) h5))) z_ex)) z_ex)) z_ex)) z_ex)) z_ex) := sorry
theorem e337_0 (r0 : Nat) (h : z_M) : f337_0 r0 h = z_g (z_isk r0 h [21, 22]) (z_kv (f335_0 r0 h) (fun h1 => z_g (z_isk r0 h1 [21, 22]) (z_kv (f335_0 r0 h1) (fun h2 => z_g (z_isk r0 h2 [21, 22]) (z_g (z_isk (hP h2 r0 2) h2 [17]) (z_g (z_isk (hP h2 (hP h2 r0 2) 2) h2 [18]) (z_ki (f323_0 (hP h2 (hP h2 r0 2) 2) h2) (fun v3 h3 => f337_21 r0 (z_w (v3 - 1)) h3) z_ex)))) z_ex)) z_ex) := sorry
theorem e337_21 (r0 : Nat) (x1 : Int) (h : z_M) : f337_21 r0 x1 h = z_if (x1 < 0) (f337_170 h) (z_g (z_isk r0 h [21, 22]) (z_kv (f335_0 r0 h) (fun h1 => f337_31 r0 x1 0 h1) z_ex)) := sorry
theorem e337_31 (r0 : Nat) (x1 x2 : Int) (h : z_M) : f337_31 r0 x1 x2 h = z_g (z_isk r0 h [21, 22]) (z_g (z_isk (hP h r0 2) h [17]) (z_g (z_isk r0 h [21, 22]) (z_g (z_isk (hP h r0 2) h [17]) (z_if ((z_w ((hI h (hP h r0 2) 5) * (hI h (hP h r0 2) 6))) ≤ x2) (f337_164 r0 x1 h) (z_g (z_isk r0 h [21, 22]) (z_g (z_isk (hP h r0 2) h [17]) (z_g (¬ (hI h (hP h r0 2) 5) = 0) (z_g (z_isk r0 h [21, 22]) (z_g (z_isk (hP h r0 2) h [17]) (z_g (¬ (hI h (hP h r0 2) 5) = 0) (z_g (z_isk r0 h [21, 22]) (z_g (z_isk (hP h r0 2) h [17]) (z_ki (f306_0 (hP h r0 2) (z_rem x2 (hI h (hP h r0 2) 5)) (z_div x2 (hI h (hP h r0 2) 5)) h) (fun v1 h1 => z_if (v1 = 0) (f337_87 r0 x1 x2 (z_rem x2 (hI h (hP h r0 2) 5)) (z_div x2 (hI h (hP h r0 2) 5)) h1) (f337_158 r0 x1 x2 h1)) z_ex))))))))))))) := sorry
theorem e337_87 (r0 : Nat) (x1 x2 x3 x4 : Int) (h : z_M) : f337_87 r0 x1 x2 x3 x4 h = z_g (z_isk r0 h [21, 22]) (z_ki (f336_0 r0 x3 x4 h) (fun v1 h1 => z_g (z_isk r0 h1 [21, 22]) (z_g (z_isk (hP h1 r0 2) h1 [17]) (z_g (z_isa (hP h1 (hP h1 r0 2) 17) h1 1000 v1) (z_if (0 ≤ (hI h1 (hP h1 (hP h1 r0 2) 17) (Int.toNat v1))) (f337_122 r0 x1 x2 x3 x4 v1 r0 (z_w ((z_w (16 * x4)) + x3)) x1 h1) (f337_123 r0 x1 x2 x3 x4 v1 r0 (z_w ((z_w (16 * x4)) + x3)) x1 0 h1))))) z_ex) := sorry
theorem e337_122 (r0 : Nat) (x1 x2 x3 x4 x5 : Int) (q0 : Nat) (s1 s2 : Int) (h : z_M) : f337_122 r0 x1 x2 x3 x4 x5 q0 s1 s2 h = f337_123 r0 x1 x2 x3 x4 x5 q0 s1 s2 1 h := sorry
theorem e337_123 (r0 : Nat) (x1 x2 x3 x4 x5 : Int) (q0 : Nat) (s1 s2 s3 : Int) (h : z_M) : f337_123 r0 x1 x2 x3 x4 x5 q0 s1 s2 s3 h = z_if (hK h q0 = 21) (z_ki (f341_0 q0 s1 s2 s3 h) (fun v3 h3 => z_if (¬ v3 = (-1)) (f337_136 r0 x1 x2 x3 x4 x5 v3 h3) (z_g (z_01 0) (z_ri 0 h3))) z_ex) (z_if (hK h q0 = 22) (z_ki (f347_0 q0 s1 s2 s3 h) (fun v1 h1 => z_if (¬ v1 = (-1)) (f337_136 r0 x1 x2 x3 x4 x5 v1 h1) (z_g (z_01 0) (z_ri 0 h1))) z_ex) (none)) := sorry
theorem e337_136 (r0 : Nat) (x1 x2 x3 x4 x5 x6 : Int) (h : z_M) : f337_136 r0 x1 x2 x3 x4 x5 x6 h = z_g (z_isk r0 h [21, 22]) (z_g (z_isa (hP h r0 0) h 1000 (z_w ((z_w (16 * x4)) + x3)) ∧ z_new (hP h r0 0)) (z_g (z_isk r0 (sI h (hP h r0 0) (Int.toNat (z_w ((z_w (16 * x4)) + x3))) x6) [21, 22]) (z_kv (f339_0 r0 x5 x6 (sI h (hP h r0 0) (Int.toNat (z_w ((z_w (16 * x4)) + x3))) x6)) (fun h1 => f337_158 r0 x1 x2 h1) z_ex))) := sorry
theorem e337_158 (r0 : Nat) (x1 x2 : Int) (h : z_M) : f337_158 r0 x1 x2 h = f337_31 r0 x1 (z_w (x2 + 1)) h := sorry
theorem e337_164 (r0 : Nat) (x1 : Int) (h : z_M) : f337_164 r0 x1 h = f337_21 r0 (z_w (x1 + (-1))) h := sorry
theorem e337_170 (h : z_M) : f337_170 h = z_g (z_01 1) (z_ri 1 h) := sorry
theorem e339_0 (r0 : Nat) (x1 x2 : Int) (h : z_M) : f339_0 r0 x1 x2 h = z_g (z_isk r0 h [21, 22]) (z_g (z_isk (hP h r0 2) h [17]) (z_g (z_isa (hP h (hP h r0 2) 17) h 1000 x1) (z_g (z_isk r0 h [21, 22]) (z_g (z_isk (hP h r0 2) h [17]) (z_if (¬ x2 = 1) (f339_44 r0 x1 (hI h (hP h (hP h r0 2) 17) (Int.toNat x1)) (hP h (hP h r0 2) 17) x1 h) (z_if (0 ≤ (hI h (hP h (hP h r0 2) 17) (Int.toNat x1))) (f339_35 r0 x1 (hI h (hP h (hP h r0 2) 17) (Int.toNat x1)) (hP h (hP h r0 2) 17) x1 7 h) (f339_38 r0 x1 (hP h (hP h r0 2) 17) x1 7 (z_w ((hI h (hP h (hP h r0 2) 17) (Int.toNat x1)) + 2)) h))))))) := sorry
theorem e339_35 (r0 : Nat) (x1 x3 : Int) (q0 : Nat) (s1 s2 : Int) (h : z_M) : f339_35 r0 x1 x3 q0 s1 s2 h = f339_38 r0 x1 q0 s1 s2 (z_w (x3 + 1)) h := sorry
theorem e339_38 (r0 : Nat) (x1 : Int) (q0 : Nat) (s1 s2 s3 : Int) (h : z_M) : f339_38 r0 x1 q0 s1 s2 s3 h = z_ki (f2_0 s2 s3 h) (fun v1 h1 => f339_62 r0 x1 q0 s1 v1 h1) z_ex := sorry
theorem e339_44 (r0 : Nat) (x1 x3 : Int) (q0 : Nat) (s1 : Int) (h : z_M) : f339_44 r0 x1 x3 q0 s1 h = z_if (0 ≤ x3) (f339_56 r0 x1 x3 q0 s1 (-8) h) (f339_59 r0 x1 q0 s1 (-8) (z_w (x3 - 1)) h) := sorry
theorem e339_56 (r0 : Nat) (x1 x3 : Int) (q0 : Nat) (s1 s2 : Int) (h : z_M) : f339_56 r0 x1 x3 q0 s1 s2 h = f339_59 r0 x1 q0 s1 s2 (z_w (x3 - 2)) h := sorry
theorem e339_59 (r0 : Nat) (x1 : Int) (q0 : Nat) (s1 s2 s3 : Int) (h : z_M) : f339_59 r0 x1 q0 s1 s2 s3 h = z_ki (f1_0 s2 s3 h) (fun v1 h1 => f339_62 r0 x1 q0 s1 v1 h1) z_ex := sorry
theorem e339_62 (r0 : Nat) (x1 : Int) (q0 : Nat) (s1 s2 : Int) (h : z_M) : f339_62 r0 x1 q0 s1 s2 h = z_g (z_isa q0 h 1000 s1 ∧ z_new q0) (z_g (z_isk r0 (sI h q0 (Int.toNat s1) s2) [21, 22]) (z_g (z_isk (hP (sI h q0 (Int.toNat s1) s2) r0 2) (sI h q0 (Int.toNat s1) s2) [17]) (z_g (z_isa (hP (sI h q0 (Int.toNat s1) s2) (hP (sI h q0 (Int.toNat s1) s2) r0 2) 18) (sI h q0 (Int.toNat s1) s2) 1000 x1) (z_g (z_isa (hP (sI h q0 (Int.toNat s1) s2) (hP (sI h q0 (Int.toNat s1) s2) r0 2) 18) (sI h q0 (Int.toNat s1) s2) 1000 x1 ∧ z_new (hP (sI h q0 (Int.toNat s1) s2) (hP (sI h q0 (Int.toNat s1) s2) r0 2) 18)) (z_rv (sI (sI h q0 (Int.toNat s1) s2) (hP (sI h q0 (Int.toNat s1) s2) (hP (sI h q0 (Int.toNat s1) s2) r0 2) 18) (Int.toNat x1) (z_w ((hI (sI h q0 (Int.toNat s1) s2) (hP (sI h q0 (Int.toNat s1) s2) (hP (sI h q0 (Int.toNat s1) s2) r0 2) 18) (Int.toNat x1)) + 1)))))))) := sorry
theorem e340_0 (r0 : Nat) (x1 x2 : Int) (h : z_M) : f340_0 r0 x1 x2 h = z_g (z_isk r0 h [21, 22]) (z_g (z_isk (hP h r0 2) h [17]) (z_ki (f317_0 x1 0 (z_w ((hI h (hP h r0 2) 5) - 1)) h) (fun v1 h1 => z_if (v1 = 0) (f340_35 h1) (z_if (x2 < 0) (f340_35 h1) (z_g (z_isk r0 h1 [21, 22]) (z_g (z_isa (hP h1 r0 0) h1 1000 (z_w ((z_w (16 * x2)) + x1))) (f340_36 (hI h1 (hP h1 r0 0) (Int.toNat (z_w ((z_w (16 * x2)) + x1)))) h1))))) z_ex)) := sorry
theorem e340_35 (h : z_M) : f340_35 h = f340_36 0 h := sorry
theorem e340_36 (s0 : Int) (h : z_M) : f340_36 s0 h = z_ri s0 h := sorry
theorem e344_0 (r0 : Nat) (x1 : Int) (h : z_M) : f344_0 r0 x1 h = z_g (z_isk r0 h [21]) (z_if (¬ (hI h r0 5) = 0) (f344_36 r0 x1 h) (z_g (z_isk r0 h [21]) (z_g (z_isk (hP h r0 6) h [17]) (z_g (z_isk r0 h [21]) (z_g (z_isk (hP h r0 6) h [17]) (z_g (z_isk (hP h r0 6) h [17]) (z_g (z_isz (hP h (hP h r0 6) 19) (sI h (hP h r0 6) 20 (z_w ((hI h (hP h r0 6) 20) + 1))) (hI h (hP h r0 6) 20) ∧ z_new (hP h (hP h r0 6) 19) ∧ (hK (sI h (hP h r0 6) 20 (z_w ((hI h (hP h r0 6) 20) + 1))) (hP h (hP h r0 6) 19) = 1002 ∨ z_01 0)) (z_g (z_isk r0 (sI (sI h (hP h r0 6) 20 (z_w ((hI h (hP h r0 6) 20) + 1))) (hP h (hP h r0 6) 19) (Int.toNat (hI h (hP h r0 6) 20)) (z_i8 0)) [21]) (f344_36 r0 x1 (sI (sI (sI h (hP h r0 6) 20 (z_w ((hI h (hP h r0 6) 20) + 1))) (hP h (hP h r0 6) 19) (Int.toNat (hI h (hP h r0 6) 20)) (z_i8 0)) r0 5 8)))))))))) := sorry
theorem e344_36 (r0 : Nat) (x1 : Int) (h : z_M) : f344_36 r0 x1 h = z_g (z_isk r0 h [21]) (z_g (z_isk r0 h [21]) (z_g (z_isk r0 (sI h r0 5 (z_w ((hI h r0 5) - 1))) [21]) (z_g (z_isk (hP (sI h r0 5 (z_w ((hI h r0 5) - 1))) r0 6) (sI h r0 5 (z_w ((hI h r0 5) - 1))) [17]) (z_g (z_isk r0 (sI h r0 5 (z_w ((hI h r0 5) - 1))) [21]) (z_g (z_isk (hP (sI h r0 5 (z_w ((hI h r0 5) - 1))) r0 6) (sI h r0 5 (z_w ((hI h r0 5) - 1))) [17]) (z_g (z_isz (hP (sI h r0 5 (z_w ((hI h r0 5) - 1))) (hP (sI h r0 5 (z_w ((hI h r0 5) - 1))) r0 6) 19) (sI h r0 5 (z_w ((hI h r0 5) - 1))) (z_w ((hI (sI h r0 5 (z_w ((hI h r0 5) - 1))) (hP (sI h r0 5 (z_w ((hI h r0 5) - 1))) r0 6) 20) - 1))) (z_g (z_isk r0 (sI h r0 5 (z_w ((hI h r0 5) - 1))) [21]) (z_g (z_isz (hP (sI h r0 5 (z_w ((hI h r0 5) - 1))) (hP (sI h r0 5 (z_w ((hI h r0 5) - 1))) r0 6) 19) (sI h r0 5 (z_w ((hI h r0 5) - 1))) (z_w ((hI (sI h r0 5 (z_w ((hI h r0 5) - 1))) (hP (sI h r0 5 (z_w ((hI h r0 5) - 1))) r0 6) 20) - 1)) ∧ z_new (hP (sI h r0 5 (z_w ((hI h r0 5) - 1))) (hP (sI h r0 5 (z_w ((hI h r0 5) - 1))) r0 6) 19) ∧ (hK (sI h r0 5 (z_w ((hI h r0 5) - 1))) (hP (sI h r0 5 (z_w ((hI h r0 5) - 1))) (hP (sI h r0 5 (z_w ((hI h r0 5) - 1))) r0 6) 19) = 1002 ∨ z_01 (z_i8 (z_or (hI (sI h r0 5 (z_w ((hI h r0 5) - 1))) (hP (sI h r0 5 (z_w ((hI h r0 5) - 1))) (hP (sI h r0 5 (z_w ((hI h r0 5) - 1))) r0 6) 19) (Int.toNat (z_w ((hI (sI h r0 5 (z_w ((hI h r0 5) - 1))) (hP (sI h r0 5 (z_w ((hI h r0 5) - 1))) r0 6) 20) - 1)))) (z_i8 (z_shl x1 (hI (sI h r0 5 (z_w ((hI h r0 5) - 1))) r0 5))))))) (z_rv (sI (sI h r0 5 (z_w ((hI h r0 5) - 1))) (hP (sI h r0 5 (z_w ((hI h r0 5) - 1))) (hP (sI h r0 5 (z_w ((hI h r0 5) - 1))) r0 6) 19) (Int.toNat (z_w ((hI (sI h r0 5 (z_w ((hI h r0 5) - 1))) (hP (sI h r0 5 (z_w ((hI h r0 5) - 1))) r0 6) 20) - 1))) (z_i8 (z_i8 (z_or (hI (sI h r0 5 (z_w ((hI h r0 5) - 1))) (hP (sI h r0 5 (z_w ((hI h r0 5) - 1))) (hP (sI h r0 5 (z_w ((hI h r0 5) - 1))) r0 6) 19) (Int.toNat (z_w ((hI (sI h r0 5 (z_w ((hI h r0 5) - 1))) (hP (sI h r0 5 (z_w ((hI h r0 5) - 1))) r0 6) 20) - 1)))) (z_i8 (z_shl x1 (hI (sI h r0 5 (z_w ((hI h r0 5) - 1))) r0 5)))))))))))))))) := sorry
theorem e345_0 (r0 : Nat) (h : z_M) : f345_0 r0 h = z_g (z_isk r0 h [21]) (z_g (z_isk (hP h r0 6) h [17]) (z_g (z_isk (hP h (hP h r0 6) 16) h [20]) (z_ki (f332_0 (hP h (hP h r0 6) 16) h) (fun v1 h1 => z_g (z_isk r0 h1 [21]) (z_ki (f2_0 12 (z_shr (hI h1 r0 3) v1) h1) (fun v2 h2 => f345_25 r0 v1 v2 0 h2) z_ex)) z_ex))) := sorry
theorem e345_25 (r0 : Nat) (x1 x2 x3 : Int) (h : z_M) : f345_25 r0 x1 x2 x3 h = z_if (x2 ≤ x3) (f345_41 r0 x1 x2 h) (z_g (z_isk r0 h [21]) (z_kv (f344_0 r0 1 h) (fun h1 => f345_25 r0 x1 x2 (z_w (x3 + 1)) h1) z_ex)) := sorry
theorem e345_41 (r0 : Nat) (x1 x2 : Int) (h : z_M) : f345_41 r0 x1 x2 h = z_if (¬ x2 = 12) (f345_60 r0 x1 h) (z_g (z_isk r0 h [21]) (z_g (z_isk r0 h [21]) (z_kv (f346_0 r0 (hI h r0 3) 13 h) (fun h1 => f345_74 r0 h1) z_ex))) := sorry
theorem e345_60 (r0 : Nat) (x1 : Int) (h : z_M) : f345_60 r0 x1 h = z_g (z_isk r0 h [21]) (z_kv (f344_0 r0 0 h) (fun h1 => z_g (z_isk r0 h1 [21]) (z_g (z_isk r0 h1 [21]) (z_kv (f346_0 r0 (hI h1 r0 3) x1 h1) (fun h2 => f345_74 r0 h2) z_ex))) z_ex) := sorry
theorem e345_74 (r0 : Nat) (h : z_M) : f345_74 r0 h = z_g (z_isk r0 h [21]) (z_g (z_isk (hP h r0 6) h [17]) (z_g (z_isk r0 h [21]) (z_g (z_isk (hP h (hP h r0 6) 16) h [20]) (z_kv (f334_0 (hP h (hP h r0 6) 16) (hI h r0 3) h) (fun h1 => z_g (z_isk r0 h1 [21]) (z_rv (sI h1 r0 3 0))) z_ex)))) := sorry
theorem e346_0 (r0 : Nat) (x1 x2 : Int) (h : z_M) : f346_0 r0 x1 x2 h = f346_4 r0 x1 (z_w (x2 - 1)) h := sorry
theorem e346_4 (r0 : Nat) (x1 x3 : Int) (h : z_M) : f346_4 r0 x1 x3 h = z_if (x3 < 0) (f346_23 h) (z_g (z_isk r0 h [21]) (z_kv (f344_0 r0 (z_and (z_shr x1 x3) 1) h) (fun h1 => f346_4 r0 x1 (z_w (x3 + (-1))) h1) z_ex)) := sorry
theorem e346_23 (h : z_M) : f346_23 h = z_rv h := sorry
theorem e347_0 (r0 : Nat) (x1 x2 x3 : Int) (h : z_M) : f347_0 r0 x1 x2 x3 h = z_g (z_isk r0 h [22]) (z_ki (f351_0 r0 h) (fun v1 h1 => z_if (¬ v1 = 0) (f347_9 r0 x1 x2 x3 h1) (z_ri (-1) h1)) z_ex) := sorry
theorem e347_9 (r0 : Nat) (x1 x2 x3 : Int) (h : z_M) : f347_9 r0 x1 x2 x3 h = z_g (z_isk r0 h [22]) (z_g (z_isk r0 h [22]) (z_g (z_isk r0 (sI h r0 7 (z_w ((hI h r0 7) - 1))) [22]) (z_if ((hI (sI h r0 7 (z_w ((hI h r0 7) - 1))) r0 5) ≤ 0) (f347_30 r0 x1 x2 x3 (sI h r0 7 (z_w ((hI h r0 7) - 1)))) (f347_31 r0 x1 x2 x3 1 (sI h r0 7 (z_w ((hI h r0 7) - 1))))))) := sorry
theorem e347_30 (r0 : Nat) (x1 x2 x3 : Int) (h : z_M) : f347_30 r0 x1 x2 x3 h = f347_31 r0 x1 x2 x3 0 h := sorry
theorem e347_31 (r0 : Nat) (x1 x2 x3 s0 : Int) (h : z_M) : f347_31 r0 x1 x2 x3 s0 h = z_g (z_isk r0 h [22]) (z_if (s0 = 0) (f347_47 r0 x1 x2 x3 s0 r0 (hI h r0 5) h) (f347_48 r0 x1 x2 x3 s0 r0 (hI h r0 5) 1 h)) := sorry
theorem e347_47 (r0 : Nat) (x1 x2 x3 x4 : Int) (q0 : Nat) (s1 : Int) (h : z_M) : f347_47 r0 x1 x2 x3 x4 q0 s1 h = f347_48 r0 x1 x2 x3 x4 q0 s1 0 h := sorry
theorem e347_48 (r0 : Nat) (x1 x2 x3 x4 : Int) (q0 : Nat) (s1 s2 : Int) (h : z_M) : f347_48 r0 x1 x2 x3 x4 q0 s1 s2 h = z_g (z_isk q0 h [22]) (z_g (z_isk r0 (sI h q0 5 (z_w (s1 - s2))) [22] ∧ z_01 x4) (z_if (x4 = 0) (f347_67 r0 x1 x2 x3 (sI (sI h q0 5 (z_w (s1 - s2))) r0 6 x4)) (f347_70 r0 x1 x2 x3 (sI (sI h q0 5 (z_w (s1 - s2))) r0 6 x4)))) := sorry
theorem e347_67 (r0 : Nat) (x1 x2 x3 : Int) (h : z_M) : f347_67 r0 x1 x2 x3 h = f347_70 r0 x1 x2 (z_w (1 - x3)) h := sorry
theorem e347_70 (r0 : Nat) (x1 x2 s0 : Int) (h : z_M) : f347_70 r0 x1 x2 s0 h = z_g (z_isk r0 h [22]) (z_g (z_isa (hP h r0 3) h 1000 x1) (z_g (z_isk r0 h [22]) (z_g (z_isa (hP h r0 3) h 1000 x1) (z_g (z_isa (hP h r0 3) h 1000 x1 ∧ z_new (hP h r0 3)) (z_ri s0 (sI h (hP h r0 3) (Int.toNat x1) (z_or (hI h (hP h r0 3) (Int.toNat x1)) (z_shl (z_xor s0 (z_and (z_shr (hI h (hP h r0 3) (Int.toNat x1)) (z_w (x2 + 1))) 1)) x2)))))))) := sorry
theorem e348_0 (r0 : Nat) (h : z_M) : f348_0 r0 h = z_g (z_isk r0 h [22]) (z_ki (f351_0 r0 h) (fun v1 h1 => z_if (¬ v1 = 0) (f348_9 r0 h1) (z_g (z_01 0) (z_ri 0 h1))) z_ex) := sorry
theorem e348_9 (r0 : Nat) (h : z_M) : f348_9 r0 h = z_g (z_isk r0 h [22]) (z_g (z_isk (hP h r0 9) h [17]) (z_g (z_isk r0 h [22]) (z_if (¬ (z_w ((hI h (hP h r0 9) 22) - (z_shr (z_w ((hI h r0 4) + 7)) 3))) = 0) (f348_33 r0 h) (f348_34 r0 1 h)))) := sorry
theorem e348_33 (r0 : Nat) (h : z_M) : f348_33 r0 h = f348_34 r0 0 h := sorry
theorem e348_34 (r0 : Nat) (s0 : Int) (h : z_M) : f348_34 r0 s0 h = f348_35 r0 s0 h := sorry
theorem e348_35 (r0 : Nat) (x1 : Int) (h : z_M) : f348_35 r0 x1 h = z_g (z_isk r0 h [22]) (z_if ((z_and (hI h r0 4) 7) = 0) (f348_65 r0 x1 h) (z_if (x1 = 0) (f348_65 r0 x1 h) (z_g (z_isk r0 h [22]) (z_ki (f352_0 r0 h) (fun v1 h1 => z_if (¬ v1 = 0) (f348_60 r0 h1) (f348_61 r0 1 h1)) z_ex)))) := sorry
theorem e348_60 (r0 : Nat) (h : z_M) : f348_60 r0 h = f348_61 r0 0 h := sorry
theorem e348_61 (r0 : Nat) (s0 : Int) (h : z_M) : f348_61 r0 s0 h = f348_35 r0 s0 h := sorry
theorem e348_65 (r0 : Nat) (x1 : Int) (h : z_M) : f348_65 r0 x1 h = z_if (x1 = 0) (f348_74 r0 r0 h) (f348_75 r0 r0 0 h) := sorry
theorem e348_74 (r0 q0 : Nat) (h : z_M) : f348_74 r0 q0 h = f348_75 r0 q0 3 h := sorry
theorem e348_75 (r0 q0 : Nat) (s1 : Int) (h : z_M) : f348_75 r0 q0 s1 h = z_g (z_isk q0 h [22]) (f348_80 r0 0 (sI h q0 8 s1)) := sorry
theorem e348_80 (r0 : Nat) (x2 : Int) (h : z_M) : f348_80 r0 x2 h = z_g (z_isk r0 h [22]) (z_g (1000 ≤ hK h (hP h r0 3)) (z_if ((hN h (hP h r0 3) : Int) ≤ x2) (f348_130 r0 h) (z_g (z_isk r0 h [22]) (z_if (¬ (hI h r0 8) = 0) (f348_130 r0 h) (z_g (z_isk r0 h [22]) (z_g (z_isa (hP h r0 3) h 1000 x2) (z_g (z_isk r0 h [22]) (z_g (z_isk (hP h r0 9) h [17]) (z_g (z_isk (hP h (hP h r0 9) 2) h [18]) (z_if ((hI h (hP h (hP h r0 9) 2) 3) ≤ (hI h (hP h r0 3) (Int.toNat x2))) (f348_120 r0 x2 r0 h) (f348_121 r0 x2 r0 0 h))))))))))) := sorry
theorem e348_120 (r0 : Nat) (x2 : Int) (q0 : Nat) (h : z_M) : f348_120 r0 x2 q0 h = f348_121 r0 x2 q0 4 h := sorry
theorem e348_121 (r0 : Nat) (x2 : Int) (q0 : Nat) (s1 : Int) (h : z_M) : f348_121 r0 x2 q0 s1 h = z_g (z_isk q0 h [22]) (f348_80 r0 (z_w (x2 + 1)) (sI h q0 8 s1)) := sorry
theorem e348_130 (r0 : Nat) (h : z_M) : f348_130 r0 h = z_g (z_isk r0 h [22]) (z_if (¬ (hI h r0 8) = 0) (f348_141 h) (f348_142 1 h)) := sorry
theorem e348_141 (h : z_M) : f348_141 h = f348_142 0 h := sorry
theorem e348_142 (s0 : Int) (h : z_M) : f348_142 s0 h = z_g (z_01 s0) (z_ri s0 h) := sorry
theorem e349_0 (r0 : Nat) (h : z_M) : f349_0 r0 h = f349_4 r0 0 0 h := sorry
theorem e349_4 (r0 : Nat) (x1 x2 : Int) (h : z_M) : f349_4 r0 x1 x2 h = z_g (z_isk r0 h [22]) (z_g (z_isk (hP h r0 9) h [17]) (z_g (z_isk r0 h [22]) (z_g (z_isk (hP h r0 9) h [17]) (z_if ((z_w ((hI h (hP h r0 9) 5) * (hI h (hP h r0 9) 6))) ≤ x2) (f349_65 r0 x1 h) (z_g (z_isk r0 h [22]) (z_g (z_isk r0 h [22]) (z_g (z_isk (hP h r0 9) h [17]) (z_g (¬ (hI h (hP h r0 9) 5) = 0) (z_g (z_isk r0 h [22]) (z_g (z_isk (hP h r0 9) h [17]) (z_g (¬ (hI h (hP h r0 9) 5) = 0) (z_g (z_isk (hP h r0 9) h [17]) (z_ki (f306_0 (hP h r0 9) (z_rem x2 (hI h (hP h r0 9) 5)) (z_div x2 (hI h (hP h r0 9) 5)) h) (fun v1 h1 => z_if (v1 = 0) (f349_56 r0 x2 x1 h1) (f349_57 r0 x2 x1 0 h1)) z_ex))))))))))))) := sorry
theorem e349_56 (r0 : Nat) (x2 s0 : Int) (h : z_M) : f349_56 r0 x2 s0 h = f349_57 r0 x2 s0 1 h := sorry
theorem e349_57 (r0 : Nat) (x2 s0 s1 : Int) (h : z_M) : f349_57 r0 x2 s0 s1 h = f349_4 r0 (z_w (s0 + s1)) (z_w (x2 + 1)) h := sorry
theorem e349_65 (r0 : Nat) (x1 : Int) (h : z_M) : f349_65 r0 x1 h = f349_67 r0 x1 0 h := sorry
theorem e349_67 (r0 : Nat) (x1 x2 : Int) (h : z_M) : f349_67 r0 x1 x2 h = z_g (z_isk r0 h [22]) (z_g (1000 ≤ hK h (hP h r0 3)) (z_if ((hN h (hP h r0 3) : Int) ≤ x2) (f349_89 r0 x1 h) (z_g (z_isk r0 h [22]) (z_g (z_isa (hP h r0 3) h 1000 x2 ∧ z_new (hP h r0 3)) (f349_67 r0 x1 (z_w (x2 + 1)) (sI h (hP h r0 3) (Int.toNat x2) 0)))))) := sorry
theorem e349_89 (r0 : Nat) (x1 : Int) (h : z_M) : f349_89 r0 x1 h = z_g (z_isk r0 h [22]) (z_g (z_isk r0 (sI h r0 4 0) [22] ∧ z_01 0) (z_g (z_isk r0 (sI (sI h r0 4 0) r0 6 0) [22]) (z_g (z_isk r0 (sI (sI (sI h r0 4 0) r0 6 0) r0 8 0) [22]) (z_g (z_isk (hP (sI (sI (sI h r0 4 0) r0 6 0) r0 8 0) r0 9) (sI (sI (sI h r0 4 0) r0 6 0) r0 8 0) [17]) (z_g (z_isk (hP (sI (sI (sI h r0 4 0) r0 6 0) r0 8 0) (hP (sI (sI (sI h r0 4 0) r0 6 0) r0 8 0) r0 9) 2) (sI (sI (sI h r0 4 0) r0 6 0) r0 8 0) [18]) (z_ki (f323_0 (hP (sI (sI (sI h r0 4 0) r0 6 0) r0 8 0) (hP (sI (sI (sI h r0 4 0) r0 6 0) r0 8 0) r0 9) 2) (sI (sI (sI h r0 4 0) r0 6 0) r0 8 0)) (fun v1 h1 => z_g (z_isk r0 h1 [22]) (z_g (z_isk r0 (sI h1 r0 7 (z_w (v1 * x1))) [22]) (z_g (z_isk (hP (sI h1 r0 7 (z_w (v1 * x1))) r0 9) (sI h1 r0 7 (z_w (v1 * x1))) [17]) (z_g (z_isk (hP (sI h1 r0 7 (z_w (v1 * x1))) (hP (sI h1 r0 7 (z_w (v1 * x1))) r0 9) 16) (sI h1 r0 7 (z_w (v1 * x1))) [20]) (z_kv (f331_0 (hP (sI h1 r0 7 (z_w (v1 * x1))) (hP (sI h1 r0 7 (z_w (v1 * x1))) r0 9) 16) (sI h1 r0 7 (z_w (v1 * x1)))) (fun h2 => z_g (z_isk r0 h2 [22]) (z_ki (f337_0 r0 h2) (fun v3 h3 => z_if (v3 = 0) (f349_148 r0 x1 h3) (z_g (z_isk r0 h3 [22]) (z_ki (f348_0 r0 h3) (fun v4 h4 => z_if (v4 = 0) (f349_148 r0 x1 h4) (f349_149 r0 x1 1 h4)) z_ex))) z_ex)) z_ex))))) z_ex)))))) := sorry
theorem e349_148 (r0 : Nat) (x1 : Int) (h : z_M) : f349_148 r0 x1 h = f349_149 r0 x1 0 h := sorry
theorem e349_149 (r0 : Nat) (x1 s0 : Int) (h : z_M) : f349_149 r0 x1 s0 h = z_g (z_isk r0 h [22]) (z_g (z_isk (hP h r0 9) h [17]) (z_if (¬ s0 = 0) (f349_169 r0 x1 (sI h (hP h r0 9) 22 0)) (z_g (z_isk r0 (sI h (hP h r0 9) 22 0) [22]) (z_ri (z_w ((-1) - (hI (sI h (hP h r0 9) 22 0) r0 8))) (sI h (hP h r0 9) 22 0))))) := sorry
theorem e349_169 (r0 : Nat) (x1 : Int) (h : z_M) : f349_169 r0 x1 h = z_g (z_isk r0 h [22]) (z_g (z_isk r0 h [22]) (z_g (z_isk (hP h r0 9) h [17]) (z_g (z_isk r0 h [22]) (z_g (z_isk (hP h r0 9) h [17]) (z_g (1000 ≤ hK h (hP h (hP h r0 9) 11)) (z_g (z_cpo z_elc h (hP h r0 3) (hP h (hP h r0 9) 11) 0 0 (hN h (hP h (hP h r0 9) 11) : Int)) (z_ri x1 (z_cpy h (hP h r0 3) (Int.toNat 0) (hP h (hP h r0 9) 11) (Int.toNat 0) (Int.toNat (hN h (hP h (hP h r0 9) 11) : Int)))))))))) := sorry
theorem e351_0 (r0 : Nat) (h : z_M) : f351_0 r0 h = z_g (z_isk r0 h [22]) (z_if ((hI h r0 6) = 0) (f351_9 r0 h) (z_g (z_01 1) (z_ri 1 h))) := sorry
theorem e351_9 (r0 : Nat) (h : z_M) : f351_9 r0 h = z_g (z_isk r0 h [22]) (z_ki (f353_0 r0 h) (fun v1 h1 => z_g (z_isk r0 h1 [22]) (z_g (z_isk r0 (sI h1 r0 5 v1) [22]) (z_if (¬ (hI (sI h1 r0 5 v1) r0 5) = (-1)) (f351_27 r0 (sI h1 r0 5 v1)) (z_g (z_01 0) (z_ri 0 (sI h1 r0 5 v1)))))) z_ex) := sorry
theorem e351_27 (r0 : Nat) (h : z_M) : f351_27 r0 h = z_g (z_isk r0 h [22]) (z_g (z_isk (hP h r0 9) h [17]) (z_g (z_isk r0 h [22]) (z_g (z_isk (hP h (hP h r0 9) 16) h [20]) (z_kv (f334_0 (hP h (hP h r0 9) 16) (hI h r0 5) h) (fun h1 => z_g (z_isk r0 h1 [22]) (z_g (z_isk r0 h1 [22]) (z_if ((hI h1 r0 5) ≤ (hI h1 r0 7)) (f351_57 r0 r0 h1) (f351_58 r0 r0 2 h1)))) z_ex)))) := sorry
theorem e351_57 (r0 q0 : Nat) (h : z_M) : f351_57 r0 q0 h = f351_58 r0 q0 0 h := sorry
theorem e351_58 (r0 q0 : Nat) (s1 : Int) (h : z_M) : f351_58 r0 q0 s1 h = z_g (z_isk q0 h [22]) (z_g (z_isk r0 (sI h q0 8 s1) [22] ∧ z_01 1) (z_g (z_isk r0 (sI (sI h q0 8 s1) r0 6 1) [22]) (z_if (¬ (hI (sI (sI h q0 8 s1) r0 6 1) r0 8) = 0) (f351_77 (sI (sI h q0 8 s1) r0 6 1)) (f351_78 1 (sI (sI h q0 8 s1) r0 6 1))))) := sorry
theorem e351_77 (h : z_M) : f351_77 h = f351_78 0 h := sorry
theorem e351_78 (s0 : Int) (h : z_M) : f351_78 s0 h = z_g (z_01 s0) (z_ri s0 h) := sorry
theorem e352_0 (r0 : Nat) (h : z_M) : f352_0 r0 h = z_g (z_isk r0 h [22]) (z_g (z_isk r0 h [22]) (z_g (z_isk (hP h r0 9) h [17]) (z_if (¬ (hI h r0 4) = (z_w (8 * (hI h (hP h r0 9) 22)))) (f352_24 r0 h) (z_g (z_isk r0 h [22]) (z_ri (-1) (sI h r0 8 1)))))) := sorry
theorem e352_24 (r0 : Nat) (h : z_M) : f352_24 r0 h = z_g (z_isk r0 h [22]) (z_g (z_isk (hP h r0 9) h [17]) (z_g (z_isk r0 h [22]) (z_g (z_isz (hP h (hP h r0 9) 21) h (z_shr (hI h r0 4) 3)) (z_g (z_isk r0 h [22]) (z_g (z_isk r0 h [22]) (z_g (z_isk r0 h [22]) (z_ri (z_and (z_shr (hI h (hP h (hP h r0 9) 21) (Int.toNat (z_shr (hI h r0 4) 3))) (z_w (7 - (z_and (hI h r0 4) 7)))) 1) (sI h r0 4 (z_w ((hI h r0 4) + 1)))))))))) := sorry
theorem e353_0 (r0 : Nat) (h : z_M) : f353_0 r0 h = z_g (z_isk r0 h [22]) (z_g (z_isk (hP h r0 9) h [17]) (z_g (z_isk (hP h (hP h r0 9) 16) h [20]) (z_ki (f332_0 (hP h (hP h r0 9) 16) h) (fun v1 h1 => z_g (z_isk r0 h1 [22]) (z_ki (f352_0 r0 h1) (fun v2 h2 => f353_18 r0 v1 0 v2 h2) z_ex)) z_ex))) := sorry
theorem e353_18 (r0 : Nat) (x1 x2 x3 : Int) (h : z_M) : f353_18 r0 x1 x2 x3 h = z_if (¬ x3 = 1) (f353_40 r0 x1 x2 x3 h) (z_if (12 ≤ (z_w (x2 + 1))) (f353_40 r0 x1 (z_w (x2 + 1)) x3 h) (z_g (z_isk r0 h [22]) (z_ki (f352_0 r0 h) (fun v1 h1 => f353_18 r0 x1 (z_w (x2 + 1)) v1 h1) z_ex))) := sorry
theorem e353_40 (r0 : Nat) (x1 x2 x3 : Int) (h : z_M) : f353_40 r0 x1 x2 x3 h = z_if (¬ x3 = (-1)) (f353_49 r0 x1 x2 h) (f353_65 x1 x2 (-1) h) := sorry
theorem e353_49 (r0 : Nat) (x1 x2 : Int) (h : z_M) : f353_49 r0 x1 x2 h = z_if (¬ x2 = 12) (f353_61 x1 x2 r0 h) (f353_62 x1 x2 r0 13 h) := sorry
theorem e353_61 (x1 x2 : Int) (q0 : Nat) (h : z_M) : f353_61 x1 x2 q0 h = f353_62 x1 x2 q0 x1 h := sorry
theorem e353_62 (x1 x2 : Int) (q0 : Nat) (s1 : Int) (h : z_M) : f353_62 x1 x2 q0 s1 h = z_g (z_isk q0 h [22]) (z_ki (f354_0 q0 s1 h) (fun v1 h1 => f353_65 x1 x2 v1 h1) z_ex) := sorry
theorem e353_65 (x1 x2 s0 : Int) (h : z_M) : f353_65 x1 x2 s0 h = z_if (s0 = (-1)) (f353_79 s0 h) (z_if (¬ x2 = 12) (f353_84 x1 x2 s0 h) (f353_79 s0 h)) := sorry
theorem e353_79 (x4 : Int) (h : z_M) : f353_79 x4 h = f353_90 x4 h := sorry
theorem e353_84 (x1 x2 x4 : Int) (h : z_M) : f353_84 x1 x2 x4 h = f353_90 (z_or (z_shl x2 x1) x4) h := sorry
theorem e353_90 (s0 : Int) (h : z_M) : f353_90 s0 h = z_ri s0 h := sorry
theorem e354_0 (r0 : Nat) (x1 : Int) (h : z_M) : f354_0 r0 x1 h = f354_4 r0 x1 0 0 h := sorry
theorem e354_4 (r0 : Nat) (x1 x2 x3 : Int) (h : z_M) : f354_4 r0 x1 x2 x3 h = z_if (x1 ≤ x3) (f354_43 x2 h) (z_if (x2 = (-1)) (f354_43 x2 h) (z_g (z_isk r0 h [22]) (z_ki (f352_0 r0 h) (fun v1 h1 => z_if (¬ v1 = (-1)) (f354_30 r0 x1 x2 x3 v1 h1) (f354_36 r0 x1 x3 (-1) h1)) z_ex))) := sorry
theorem e354_30 (r0 : Nat) (x1 x2 x3 x4 : Int) (h : z_M) : f354_30 r0 x1 x2 x3 x4 h = f354_36 r0 x1 x3 (z_or (z_shl x2 1) x4) h := sorry
theorem e354_36 (r0 : Nat) (x1 x3 s0 : Int) (h : z_M) : f354_36 r0 x1 x3 s0 h = f354_4 r0 x1 s0 (z_w (x3 + 1)) h := sorry
theorem e354_43 (x2 : Int) (h : z_M) : f354_43 x2 h = z_ri x2 h := sorry
theorem e697_0 (h : z_M) : f697_0 h = f697_2 0 h := sorry
theorem e697_2 (x1 : Int) (h : z_M) : f697_2 x1 h = z_if (64 ≤ x1) (f697_21 h) (z_g (z_inb x1 64) (f697_2 (z_w (x1 + 1)) (sI h 1078 (Int.toNat x1) (-1)))) := sorry
theorem e697_21 (h : z_M) : f697_21 h = f697_23 0 h := sorry
theorem e697_23 (x1 : Int) (h : z_M) : f697_23 x1 h = z_if (144 ≤ x1) (f697_43 h) (z_g (z_inb x1 144) (f697_23 (z_w (x1 + 1)) (sI h 1076 (Int.toNat x1) 0))) := sorry
theorem e697_43 (h : z_M) : f697_43 h = z_rv h := sorry
theorem e698_0 (h : z_M) : f698_0 h = f698_12 0 (sI (sI h 1064 23 4) 1064 24 1) := sorry
theorem e698_12 (x1 : Int) (h : z_M) : f698_12 x1 h = z_if (144 ≤ x1) (f698_32 h) (z_g (z_inb x1 144) (f698_12 (z_w (x1 + 1)) (sI h 1077 (Int.toNat x1) 0))) := sorry
theorem e698_32 (h : z_M) : f698_32 h = z_rv h := sorry
theorem e806_0 (x1 x2 : Int) (h : z_M) : f806_0 x1 x2 h = z_ki (f984_0 (z_w (x1 - 1)) x2 x2 h) (fun v1 h1 => z_ki (f984_0 (z_w (x1 - 2)) x2 x2 h1) (fun v2 h2 => z_ki (f984_0 (z_w (x1 - 1)) (z_w (x2 - 1)) x2 h2) (fun v3 h3 => z_ki (f984_0 x1 (z_w (x2 - 1)) x2 h3) (fun v4 h4 => z_ki (f984_0 (z_w (x1 + 1)) (z_w (x2 - 1)) x2 h4) (fun v5 h5 => z_g (z_inb (z_w ((z_w (12 * x2)) + x1)) 144) (z_ri (z_w ((z_w ((z_w ((z_w ((z_w (v1 + (z_w (2 * v2)))) + (z_w (4 * v3)))) + (z_w (8 * v4)))) + (z_w (16 * v5)))) + (z_w (32 * (hI h5 1077 (Int.toNat (z_w ((z_w (12 * x2)) + x1)))))))) h5)) z_ex) z_ex) z_ex) z_ex) z_ex := sorry
theorem e809_0 (x1 : Int) (h : z_M) : f809_0 x1 h = z_if (¬ (hI (sI (sI h 1064 23 (z_w ((hI h 1064 23) + x1))) 1064 24 (z_w ((hI (sI h 1064 23 (z_w ((hI h 1064 23) + x1))) 1064 24) + 1))) 1064 24) = 32) (f809_49 (sI (sI h 1064 23 (z_w ((hI h 1064 23) + x1))) 1064 24 (z_w ((hI (sI h 1064 23 (z_w ((hI h 1064 23) + x1))) 1064 24) + 1)))) (z_g (¬ (2 : Int) = 0) (z_g (¬ (2 : Int) = 0) (f809_49 (sI (sI (sI (sI h 1064 23 (z_w ((hI h 1064 23) + x1))) 1064 24 (z_w ((hI (sI h 1064 23 (z_w ((hI h 1064 23) + x1))) 1064 24) + 1))) 1064 23 (z_div (hI (sI (sI h 1064 23 (z_w ((hI h 1064 23) + x1))) 1064 24 (z_w ((hI (sI h 1064 23 (z_w ((hI h 1064 23) + x1))) 1064 24) + 1))) 1064 23) 2)) 1064 24 (z_div (hI (sI (sI (sI h 1064 23 (z_w ((hI h 1064 23) + x1))) 1064 24 (z_w ((hI (sI h 1064 23 (z_w ((hI h 1064 23) + x1))) 1064 24) + 1))) 1064 23 (z_div (hI (sI (sI h 1064 23 (z_w ((hI h 1064 23) + x1))) 1064 24 (z_w ((hI (sI h 1064 23 (z_w ((hI h 1064 23) + x1))) 1064 24) + 1))) 1064 23) 2)) 1064 24) 2))))) := sorry
theorem e809_49 (h : z_M) : f809_49 h = z_rv h := sorry
theorem e863_0 (h : z_M) : f863_0 h = f863_2 0 h := sorry
theorem e863_2 (x1 : Int) (h : z_M) : f863_2 x1 h = z_if (144 ≤ x1) (f863_27 h) (z_g (z_inb x1 144) (z_g (z_inb x1 144) (f863_2 (z_w (x1 + 1)) (sI h 1077 (Int.toNat x1) (hI h 1076 (Int.toNat x1)))))) := sorry
theorem e863_27 (h : z_M) : f863_27 h = z_rv h := sorry
theorem e871_0 (x1 x2 x3 x4 : Int) (h : z_M) : f871_0 x1 x2 x3 x4 h = z_g (z_inb (z_w ((z_w ((z_w (144 * x1)) + (z_w (12 * x3)))) + x2)) 1152) (z_if ((hI h 1068 (Int.toNat (z_w ((z_w ((z_w (144 * x1)) + (z_w (12 * x3)))) + x2)))) = 0) (f871_51 h) (z_g (z_inb (z_w ((z_w ((z_w (144 * x1)) + (z_w (12 * x3)))) + x2)) 1152) (z_g (¬ (255 : Int) = 0) (f871_52 (z_div (z_w ((z_w ((z_w ((z_w (255 - (hI h 1067 (Int.toNat (z_w ((z_w ((z_w (144 * x1)) + (z_w (12 * x3)))) + x2)))))) * x4)) * x4)) + 127)) 255) h)))) := sorry
theorem e871_51 (h : z_M) : f871_51 h = f871_52 0 h := sorry
theorem e871_52 (s0 : Int) (h : z_M) : f871_52 s0 h = z_ri s0 h := sorry
theorem e875_0 (h : z_M) : f875_0 h = z_if (¬ (hI h 1064 30) = 0) (f875_24 h) (z_if (¬ (hI h 1064 27) = (hI h 1064 28)) (f875_24 h) (f875_24 (sI h 1064 30 11))) := sorry
theorem e875_24 (h : z_M) : f875_24 h = z_if ((hI h 1064 30) ≤ 0) (f875_33 h) (z_ri 0 h) := sorry
theorem e875_33 (h : z_M) : f875_33 h = z_g (¬ (8 : Int) = 0) (z_g (z_inb (z_w ((z_w (1500 * (hI h 1064 29))) + (z_div (hI h 1064 27) 8))) 18000) (z_g (¬ (8 : Int) = 0) (z_ri (z_and (z_shr (hI h 1073 (Int.toNat (z_w ((z_w (1500 * (hI h 1064 29))) + (z_div (hI h 1064 27) 8))))) (z_w (7 - (z_rem (hI h 1064 27) 8)))) 1) (sI h 1064 27 (z_w ((hI h 1064 27) + 1)))))) := sorry
theorem e876_0 (h : z_M) : f876_0 h = z_ki (f963_0 (hI h 1064 16) h) (fun v1 h1 => z_kv (f698_0 h1) (fun h2 => z_g (z_01 0) (f876_33 (z_w ((z_w (v1 * (hI h1 1064 17))) * (hI h1 1064 18))) (z_w (v1 - 1)) (sI h2 1064 26 0))) z_ex) z_ex := sorry
theorem e876_33 (x2 x3 : Int) (h : z_M) : f876_33 x2 x3 h = z_if (x3 < 0) (f876_255 h) (z_kv (f697_0 h) (fun h1 => f876_44 x2 x3 0 h1) z_ex) := sorry
theorem e876_44 (x2 x3 x4 : Int) (h : z_M) : f876_44 x2 x3 x4 h = z_if ((z_w ((hI h 1064 17) * (hI h 1064 18))) ≤ x4) (f876_245 x2 x3 h) (z_if (¬ (hI h 1064 30) = 0) (f876_245 x2 x3 h) (z_g (¬ (hI h 1064 17) = 0) (z_g (¬ (hI h 1064 17) = 0) (z_if (¬ (hI h 1064 26) = 0) (f876_95 x2 x3 x4 (z_rem x4 (hI h 1064 17)) (z_div x4 (hI h 1064 17)) h) (z_kv (f878_0 x2 h) (fun h1 => f876_95 x2 x3 x4 (z_rem x4 (hI h 1064 17)) (z_div x4 (hI h 1064 17)) h1) z_ex))))) := sorry
theorem e876_95 (x2 x3 x4 x5 x6 : Int) (h : z_M) : f876_95 x2 x3 x4 x5 x6 h = z_ki (f806_0 x5 x6 h) (fun v1 h1 => z_g (z_inb v1 64) (z_if ((hI h1 1078 (Int.toNat v1)) < 0) (f876_119 x2 x3 x4 x5 x6 v1 h1) (f876_120 x2 x3 x4 x5 x6 v1 1 h1))) z_ex := sorry
theorem e876_119 (x2 x3 x4 x5 x6 x7 : Int) (h : z_M) : f876_119 x2 x3 x4 x5 x6 x7 h = f876_120 x2 x3 x4 x5 x6 x7 0 h := sorry
theorem e876_120 (x2 x3 x4 x5 x6 x7 s0 : Int) (h : z_M) : f876_120 x2 x3 x4 x5 x6 x7 s0 h = z_if ((hI h 1064 25) ≤ 0) (f876_133 x2 x3 x4 x5 x6 x7 s0 h) (f876_134 x2 x3 x4 x5 x6 x7 s0 1 h) := sorry
theorem e876_133 (x2 x3 x4 x5 x6 x7 x8 : Int) (h : z_M) : f876_133 x2 x3 x4 x5 x6 x7 x8 h = f876_134 x2 x3 x4 x5 x6 x7 x8 0 h := sorry
theorem e876_134 (x2 x3 x4 x5 x6 x7 x8 s0 : Int) (h : z_M) : f876_134 x2 x3 x4 x5 x6 x7 x8 s0 h = z_if (¬ s0 = x8) (f876_147 x2 x3 x4 x5 x6 x7 s0 h) (f876_148 x2 x3 x4 x5 x6 x7 s0 1 h) := sorry
theorem e876_147 (x2 x3 x4 x5 x6 x7 x9 : Int) (h : z_M) : f876_147 x2 x3 x4 x5 x6 x7 x9 h = f876_148 x2 x3 x4 x5 x6 x7 x9 0 h := sorry
theorem e876_148 (x2 x3 x4 x5 x6 x7 x9 s0 : Int) (h : z_M) : f876_148 x2 x3 x4 x5 x6 x7 x9 s0 h = z_g (z_01 x9) (z_kv (f906_0 x7 s0 (sI (sI h 1064 25 (z_w ((hI h 1064 25) - 1))) 1064 26 x9)) (fun h1 => z_g (z_inb (z_w ((z_w (12 * x6)) + x5)) 144) (z_g (z_inb (z_w ((z_w (12 * x6)) + x5)) 144) (z_g (z_inb (z_w ((z_w (12 * x6)) + x5)) 144) (z_g (z_inb (z_w ((z_w (12 * x6)) + x5)) 144) (f876_44 (z_w (x2 + (-1))) x3 (z_w (x4 + 1)) (sI (sI h1 1076 (Int.toNat (z_w ((z_w (12 * x6)) + x5))) s0) 1075 (Int.toNat (z_w ((z_w (12 * x6)) + x5))) (z_w ((z_w (2 * (hI (sI h1 1076 (Int.toNat (z_w ((z_w (12 * x6)) + x5))) s0) 1075 (Int.toNat (z_w ((z_w (12 * x6)) + x5)))))) + (z_xor s0 (z_and (hI (sI h1 1076 (Int.toNat (z_w ((z_w (12 * x6)) + x5))) s0) 1075 (Int.toNat (z_w ((z_w (12 * x6)) + x5)))) 1)))))))))) z_ex) := sorry
theorem e876_245 (x2 x3 : Int) (h : z_M) : f876_245 x2 x3 h = z_kv (f863_0 h) (fun h1 => f876_33 x2 (z_w (x3 + (-1))) h1) z_ex := sorry
theorem e876_255 (h : z_M) : f876_255 h = z_if (¬ (hI h 1064 30) = 0) (f876_274 h) (z_if (¬ (hI h 1064 26) = 0) (f876_274 h) (z_kv (f878_0 0 h) (fun h1 => f876_274 h1) z_ex)) := sorry
theorem e876_274 (h : z_M) : f876_274 h = z_rv h := sorry
theorem e877_0 (x1 : Int) (h : z_M) : f877_0 x1 h = f877_4 x1 0 0 h := sorry
theorem e877_4 (x1 x2 x3 : Int) (h : z_M) : f877_4 x1 x2 x3 h = z_if (x1 ≤ x3) (f877_24 x2 h) (z_ki (f875_0 h) (fun v1 h1 => f877_4 x1 (z_w ((z_w (2 * x2)) + v1)) (z_w (x3 + 1)) h1) z_ex) := sorry
theorem e877_24 (x2 : Int) (h : z_M) : f877_24 x2 h = z_ri x2 h := sorry
theorem e878_0 (x1 : Int) (h : z_M) : f878_0 x1 h = z_ki (f967_0 h) (fun v1 h1 => f878_7 x1 v1 0 h1) z_ex := sorry
theorem e878_7 (x1 x2 x3 : Int) (h : z_M) : f878_7 x1 x2 x3 h = z_if (¬ (hI h 1064 30) = 0) (f878_34 x1 x2 x3 h) (z_if (12 ≤ x3) (f878_34 x1 x2 x3 h) (z_ki (f875_0 h) (fun v1 h1 => z_if (¬ v1 = 1) (f878_34 x1 x2 x3 h1) (f878_7 x1 x2 (z_w (x3 + 1)) h1)) z_ex)) := sorry
theorem e878_34 (x1 x2 x3 : Int) (h : z_M) : f878_34 x1 x2 x3 h = z_if (12 ≤ x3) (f878_52 x1 h) (z_ki (f877_0 x2 h) (fun v1 h1 => f878_58 x1 (z_w ((z_shl x3 x2) + v1)) h1) z_ex) := sorry
theorem e878_52 (x1 : Int) (h : z_M) : f878_52 x1 h = z_ki (f877_0 13 h) (fun v1 h1 => f878_58 x1 v1 h1) z_ex := sorry
theorem e878_58 (x1 s0 : Int) (h : z_M) : f878_58 x1 s0 h = z_if (¬ (hI h 1064 30) = 0) (f878_79 s0 h) (z_if (s0 ≤ x1) (f878_79 s0 h) (f878_79 s0 (sI h 1064 30 12))) := sorry
theorem e878_79 (x4 : Int) (h : z_M) : f878_79 x4 h = z_g (z_01 1) (z_kv (f809_0 x4 (sI (sI h 1064 25 x4) 1064 26 1)) (fun h1 => z_rv h1) z_ex) := sorry
theorem e883_0 (x0 : Int) (h : z_M) : f883_0 x0 h = z_ki (f885_0 x0 0 11 h) (fun v1 h1 => z_g (z_01 v1) (z_ri v1 h1)) z_ex := sorry
theorem e885_0 (x0 x1 x2 : Int) (h : z_M) : f885_0 x0 x1 x2 h = z_if (x0 < x1) (f885_14 h) (z_if (x2 < x0) (f885_14 h) (f885_15 1 h)) := sorry
theorem e885_14 (h : z_M) : f885_14 h = f885_15 0 h := sorry
theorem e885_15 (s0 : Int) (h : z_M) : f885_15 s0 h = z_g (z_01 s0) (z_ri s0 h) := sorry
theorem e888_0 (x0 : Int) (h : z_M) : f888_0 x0 h = z_ki (f885_0 x0 0 7 h) (fun v1 h1 => z_g (z_01 v1) (z_ri v1 h1)) z_ex := sorry
theorem e890_0 (x0 : Int) (h : z_M) : f890_0 x0 h = z_ki (f885_0 x0 0 3 h) (fun v1 h1 => z_g (z_01 v1) (z_ri v1 h1)) z_ex := sorry
theorem e897_0 (x1 : Int) (h : z_M) : f897_0 x1 h = z_g (¬ (8 : Int) = 0) (z_if (¬ (z_rem (hI h 1064 15) 8) = 0) (f897_15 x1 h) (z_kv (f896_0 0 h) (fun h1 => f897_15 x1 h1) z_ex)) := sorry
theorem e897_15 (x1 : Int) (h : z_M) : f897_15 x1 h = z_g (z_inb (z_w ((hI h 1064 14) - 1)) 12000) (z_g (¬ (8 : Int) = 0) (z_g (z_inb (z_w ((hI h 1064 14) - 1)) 12000) (z_rv (sI (sI h 1074 (Int.toNat (z_w ((hI h 1064 14) - 1))) (z_or (hI h 1074 (Int.toNat (z_w ((hI h 1064 14) - 1)))) (z_shl x1 (z_w (7 - (z_rem (hI h 1064 15) 8)))))) 1064 15 (z_w ((hI (sI h 1074 (Int.toNat (z_w ((hI h 1064 14) - 1))) (z_or (hI h 1074 (Int.toNat (z_w ((hI h 1064 14) - 1)))) (z_shl x1 (z_w (7 - (z_rem (hI h 1064 15) 8)))))) 1064 15) + 1)))))) := sorry
theorem e899_0 (x1 x2 : Int) (h : z_M) : f899_0 x1 x2 h = f899_4 x1 (z_w (x2 - 1)) h := sorry
theorem e899_4 (x1 x3 : Int) (h : z_M) : f899_4 x1 x3 h = z_if (x3 < 0) (f899_23 h) (z_kv (f897_0 (z_and (z_shr x1 x3) 1) h) (fun h1 => f899_4 x1 (z_w (x3 + (-1))) h1) z_ex) := sorry
theorem e899_23 (h : z_M) : f899_23 h = z_rv h := sorry
theorem e902_0 (x1 : Int) (h : z_M) : f902_0 x1 h = z_ki (f967_0 h) (fun v1 h1 => z_if (12 ≤ (z_shr x1 v1)) (f902_19 x1 v1 h1) (f902_21 x1 v1 (z_shr x1 v1) h1)) z_ex := sorry
theorem e902_19 (x1 x2 : Int) (h : z_M) : f902_19 x1 x2 h = f902_21 x1 x2 12 h := sorry
theorem e902_21 (x1 x2 s0 : Int) (h : z_M) : f902_21 x1 x2 s0 h = f902_25 x1 x2 s0 0 h := sorry
theorem e902_25 (x1 x2 x3 x4 : Int) (h : z_M) : f902_25 x1 x2 x3 x4 h = z_if (x3 ≤ x4) (f902_42 x1 x2 x3 h) (z_kv (f897_0 1 h) (fun h1 => f902_25 x1 x2 x3 (z_w (x4 + 1)) h1) z_ex) := sorry
theorem e902_42 (x1 x2 x3 : Int) (h : z_M) : f902_42 x1 x2 x3 h = z_if (12 ≤ x3) (f902_62 x1 h) (z_kv (f897_0 0 h) (fun h1 => z_kv (f899_0 x1 x2 h1) (fun h2 => f902_69 x1 h2) z_ex) z_ex) := sorry
theorem e902_62 (x1 : Int) (h : z_M) : f902_62 x1 h = z_kv (f899_0 x1 13 h) (fun h1 => f902_69 x1 h1) z_ex := sorry
theorem e902_69 (x1 : Int) (h : z_M) : f902_69 x1 h = z_kv (f809_0 x1 h) (fun h1 => z_rv h1) z_ex := sorry
theorem e906_0 (x1 x2 : Int) (h : z_M) : f906_0 x1 x2 h = z_g (z_inb x1 64) (z_if (¬ x2 = 1) (f906_28 x1 (hI h 1078 (Int.toNat x1)) h) (z_if (0 ≤ (hI h 1078 (Int.toNat x1))) (f906_22 x1 (hI h 1078 (Int.toNat x1)) h) (f906_41 x1 (z_w ((hI h 1078 (Int.toNat x1)) + 2)) h))) := sorry
theorem e906_22 (x1 x3 : Int) (h : z_M) : f906_22 x1 x3 h = f906_41 x1 (z_w (x3 + 1)) h := sorry
theorem e906_28 (x1 x3 : Int) (h : z_M) : f906_28 x1 x3 h = z_if (0 ≤ x3) (f906_38 x1 x3 h) (f906_41 x1 (z_w (x3 - 1)) h) := sorry
theorem e906_38 (x1 x3 : Int) (h : z_M) : f906_38 x1 x3 h = f906_41 x1 (z_w (x3 - 2)) h := sorry
theorem e906_41 (x1 s0 : Int) (h : z_M) : f906_41 x1 s0 h = z_if (s0 ≤ 7) (f906_60 s0 x1 h) (f906_74 x1 7 h) := sorry
theorem e906_60 (x4 s1 : Int) (h : z_M) : f906_60 x4 s1 h = z_if ((-8) ≤ x4) (f906_72 x4 s1 h) (f906_74 s1 (-8) h) := sorry
theorem e906_72 (x4 s1 : Int) (h : z_M) : f906_72 x4 s1 h = f906_74 s1 x4 h := sorry
theorem e906_74 (s1 s2 : Int) (h : z_M) : f906_74 s1 s2 h = z_g (z_inb s1 64) (z_rv (sI h 1078 (Int.toNat s1) s2)) := sorry
theorem e916_0 (x1 x2 x3 : Int) (h : z_M) : f916_0 x1 x2 x3 h = z_if (¬ x3 = (hI h 1064 99)) (f916_26 x2 x3 (z_w ((z_w ((z_w (144 * x1)) + (z_w (12 * x3)))) + x2)) h) (f916_36 x2 x3 (z_w ((z_w ((z_w (144 * x1)) + (z_w (12 * x3)))) + x2)) 0 h) := sorry
theorem e916_26 (x2 x3 x4 : Int) (h : z_M) : f916_26 x2 x3 x4 h = z_g (z_inb (z_w (x4 - 12)) 576) (f916_36 x2 x3 x4 (hI h 1110 (Int.toNat (z_w (x4 - 12)))) h) := sorry
theorem e916_36 (x2 x3 x4 s0 : Int) (h : z_M) : f916_36 x2 x3 x4 s0 h = z_if (¬ x2 = 0) (f916_47 x2 x3 x4 s0 h) (f916_56 x2 x3 x4 s0 s0 h) := sorry
theorem e916_47 (x2 x3 x4 x5 : Int) (h : z_M) : f916_47 x2 x3 x4 x5 h = z_g (z_inb (z_w (x4 - 1)) 576) (f916_56 x2 x3 x4 x5 (hI h 1110 (Int.toNat (z_w (x4 - 1)))) h) := sorry
theorem e916_56 (x2 x3 x4 x5 s0 : Int) (h : z_M) : f916_56 x2 x3 x4 x5 s0 h = z_if (¬ x2 = 0) (f916_67 x3 x4 x5 s0 h) (f916_91 x5 s0 x5 h) := sorry
theorem e916_67 (x3 x4 x5 x6 : Int) (h : z_M) : f916_67 x3 x4 x5 x6 h = z_if (¬ x3 = (hI h 1064 99)) (f916_79 x4 x5 x6 h) (f916_91 x5 x6 0 h) := sorry
theorem e916_79 (x4 x5 x6 : Int) (h : z_M) : f916_79 x4 x5 x6 h = z_g (z_inb (z_w ((z_w (x4 - 12)) - 1)) 576) (f916_91 x5 x6 (hI h 1110 (Int.toNat (z_w ((z_w (x4 - 12)) - 1)))) h) := sorry
theorem e916_91 (x5 x6 s0 : Int) (h : z_M) : f916_91 x5 x6 s0 h = z_if (x5 ≤ x6) (f916_105 x5 x6 s0 h) (f916_107 x5 x6 s0 x6 h) := sorry
theorem e916_105 (x5 x6 x7 : Int) (h : z_M) : f916_105 x5 x6 x7 h = f916_107 x5 x6 x7 x5 h := sorry
theorem e916_107 (x5 x6 x7 s0 : Int) (h : z_M) : f916_107 x5 x6 x7 s0 h = z_if (x5 ≤ x6) (f916_121 x5 x6 x7 s0 h) (f916_123 x5 x6 x7 s0 x5 h) := sorry
theorem e916_121 (x5 x6 x7 x8 : Int) (h : z_M) : f916_121 x5 x6 x7 x8 h = f916_123 x5 x6 x7 x8 x6 h := sorry
theorem e916_123 (x5 x6 x7 x8 s0 : Int) (h : z_M) : f916_123 x5 x6 x7 x8 s0 h = z_if (x7 < s0) (f916_137 x5 x6 x7 x8 s0 h) (f916_157 x8 h) := sorry
theorem e916_137 (x5 x6 x7 x8 x9 : Int) (h : z_M) : f916_137 x5 x6 x7 x8 x9 h = z_if (x8 < x7) (f916_149 x5 x6 x7 h) (f916_157 x9 h) := sorry
theorem e916_149 (x5 x6 x7 : Int) (h : z_M) : f916_149 x5 x6 x7 h = f916_157 (z_w ((z_w (x6 + x5)) - x7)) h := sorry
theorem e916_157 (s0 : Int) (h : z_M) : f916_157 s0 h = z_ri s0 h := sorry
theorem e948_0 (x1 x2 : Int) (h : z_M) : f948_0 x1 x2 h = z_kv (f896_0 72 (sI (sI h 1064 14 0) 1064 15 0)) (fun h1 => z_kv (f896_0 x2 h1) (fun h2 => z_g (z_inb x1 8) (z_kv (f896_0 (hI h2 1065 (Int.toNat x1)) h2) (fun h3 => z_g (z_inb x1 8) (z_kv (f896_0 (hI h3 1066 (Int.toNat x1)) h3) (fun h4 => z_g (z_inb x1 8) (z_g (z_inb x1 8) (z_kv (f698_0 (sI (sI h4 1064 17 (hI h4 1065 (Int.toNat x1))) 1064 18 (hI (sI h4 1064 17 (hI h4 1065 (Int.toNat x1))) 1066 (Int.toNat x1)))) (fun h5 => z_ki (f963_0 x2 h5) (fun v6 h6 => f948_75 x1 x2 0 (z_w (v6 - 1)) h6) z_ex) z_ex))) z_ex)) z_ex)) z_ex) z_ex := sorry
theorem e948_75 (x1 x2 x3 x4 : Int) (h : z_M) : f948_75 x1 x2 x3 x4 h = z_if (x4 < 0) (f948_248 x3 h) (z_kv (f697_0 h) (fun h1 => f948_87 x1 x2 x3 x4 0 h1) z_ex) := sorry
theorem e948_87 (x1 x2 x3 x4 x5 : Int) (h : z_M) : f948_87 x1 x2 x3 x4 x5 h = z_if ((hI h 1064 18) ≤ x5) (f948_238 x1 x2 x3 x4 h) (f948_99 x1 x2 x3 x4 x5 0 h) := sorry
theorem e948_99 (x1 x2 x3 x4 x5 x6 : Int) (h : z_M) : f948_99 x1 x2 x3 x4 x5 x6 h = z_if ((hI h 1064 17) ≤ x6) (f948_232 x1 x2 x3 x4 x5 h) (z_ki (f871_0 x1 x6 x5 x2 h) (fun v1 h1 => z_ki (f806_0 x6 x5 h1) (fun v2 h2 => z_g (z_inb v2 64) (z_if ((hI h2 1078 (Int.toNat v2)) < 0) (f948_163 x1 x2 x3 x4 x5 x6 (z_xor (z_and (z_shr v1 x4) 1) (z_and (z_shr v1 (z_w (x4 + 1))) 1)) v2 h2) (f948_164 x1 x2 x3 x4 x5 x6 (z_xor (z_and (z_shr v1 x4) 1) (z_and (z_shr v1 (z_w (x4 + 1))) 1)) v2 1 h2))) z_ex) z_ex) := sorry
theorem e948_163 (x1 x2 x3 x4 x5 x6 x8 x9 : Int) (h : z_M) : f948_163 x1 x2 x3 x4 x5 x6 x8 x9 h = f948_164 x1 x2 x3 x4 x5 x6 x8 x9 0 h := sorry
theorem e948_164 (x1 x2 x3 x4 x5 x6 x8 x9 s0 : Int) (h : z_M) : f948_164 x1 x2 x3 x4 x5 x6 x8 x9 s0 h = z_if (¬ x8 = 1) (f948_174 x1 x2 x3 x4 x5 x6 x8 x9 s0 h) (f948_175 x1 x2 x3 x4 x5 x6 x8 x9 s0 1 h) := sorry
theorem e948_174 (x1 x2 x3 x4 x5 x6 x8 x9 s0 : Int) (h : z_M) : f948_174 x1 x2 x3 x4 x5 x6 x8 x9 s0 h = f948_175 x1 x2 x3 x4 x5 x6 x8 x9 s0 0 h := sorry
theorem e948_175 (x1 x2 x3 x4 x5 x6 x8 x9 s0 s1 : Int) (h : z_M) : f948_175 x1 x2 x3 x4 x5 x6 x8 x9 s0 s1 h = z_if (¬ s0 = s1) (f948_182 x1 x2 x3 x4 x5 x6 x8 x9 h) (f948_183 x1 x2 x3 x4 x5 x6 x8 x9 1 h) := sorry
theorem e948_182 (x1 x2 x3 x4 x5 x6 x8 x9 : Int) (h : z_M) : f948_182 x1 x2 x3 x4 x5 x6 x8 x9 h = f948_183 x1 x2 x3 x4 x5 x6 x8 x9 0 h := sorry
theorem e948_183 (x1 x2 x3 x4 x5 x6 x8 x9 s0 : Int) (h : z_M) : f948_183 x1 x2 x3 x4 x5 x6 x8 x9 s0 h = z_if (s0 = 0) (f948_196 x1 x2 x3 x4 x5 x6 x8 x9 h) (f948_203 x1 x2 (z_w (x3 + 1)) x4 x5 x6 x8 x9 h) := sorry
theorem e948_196 (x1 x2 x3 x4 x5 x6 x8 x9 : Int) (h : z_M) : f948_196 x1 x2 x3 x4 x5 x6 x8 x9 h = z_kv (f902_0 x3 h) (fun h1 => f948_203 x1 x2 0 x4 x5 x6 x8 x9 h1) z_ex := sorry
theorem e948_203 (x1 x2 x3 x4 x5 x6 x8 x9 : Int) (h : z_M) : f948_203 x1 x2 x3 x4 x5 x6 x8 x9 h = z_kv (f906_0 x9 x8 h) (fun h1 => z_g (z_inb (z_w ((z_w (12 * x5)) + x6)) 144) (f948_99 x1 x2 x3 x4 x5 (z_w (x6 + 1)) (sI h1 1076 (Int.toNat (z_w ((z_w (12 * x5)) + x6))) x8))) z_ex := sorry
theorem e948_232 (x1 x2 x3 x4 x5 : Int) (h : z_M) : f948_232 x1 x2 x3 x4 x5 h = f948_87 x1 x2 x3 x4 (z_w (x5 + 1)) h := sorry
theorem e948_238 (x1 x2 x3 x4 : Int) (h : z_M) : f948_238 x1 x2 x3 x4 h = z_kv (f863_0 h) (fun h1 => f948_75 x1 x2 x3 (z_w (x4 + (-1))) h1) z_ex := sorry
theorem e948_248 (x3 : Int) (h : z_M) : f948_248 x3 h = z_kv (f902_0 x3 h) (fun h1 => z_rv h1) z_ex := sorry
theorem e967_0 (h : z_M) : f967_0 h = f967_2 0 h := sorry
theorem e967_2 (x1 : Int) (h : z_M) : f967_2 x1 h = z_if (8 ≤ x1) (f967_27 x1 h) (z_if ((hI h 1064 23) ≤ (z_shl (hI h 1064 24) x1)) (f967_27 x1 h) (f967_2 (z_w (x1 + 1)) h)) := sorry
theorem e967_27 (x1 : Int) (h : z_M) : f967_27 x1 h = z_ri x1 h := sorry
theorem e984_0 (x1 x2 x3 : Int) (h : z_M) : f984_0 x1 x2 x3 h = z_if (x1 < 0) (f984_25 h) (z_if ((hI h 1064 17) ≤ x1) (f984_25 h) (z_if (x2 < 0) (f984_25 h) (z_if (¬ x2 = x3) (f984_29 x1 x2 h) (z_if (0 ≤ x1) (f984_29 x1 x2 h) (f984_25 h))))) := sorry
theorem e984_25 (h : z_M) : f984_25 h = f984_40 0 h := sorry
theorem e984_29 (x1 x2 : Int) (h : z_M) : f984_29 x1 x2 h = z_g (z_inb (z_w ((z_w (12 * x2)) + x1)) 144) (f984_40 (hI h 1076 (Int.toNat (z_w ((z_w (12 * x2)) + x1)))) h) := sorry
theorem e984_40 (s0 : Int) (h : z_M) : f984_40 s0 h = z_ri s0 h := sorry
theorem e1023_0 (x1 x2 : Int) (h : z_M) : f1023_0 x1 x2 h = z_ki (f883_0 x1 h) (fun v1 h1 => z_if (v1 = 0) (f1023_19 x1 x2 h1) (z_ki (f888_0 x2 h1) (fun v2 h2 => z_if (v2 = 0) (f1023_19 x1 x2 h2) (f1023_20 x1 x2 1 h2)) z_ex)) z_ex := sorry
theorem e1023_19 (x1 x2 : Int) (h : z_M) : f1023_19 x1 x2 h = f1023_20 x1 x2 0 h := sorry
theorem e1023_20 (x1 x2 s1 : Int) (h : z_M) : f1023_20 x1 x2 s1 h = z_ki (f874_0 h) (fun v1 h1 => z_ki (f954_0 s1 v1 1 1 h1) (fun v2 h2 => z_if (¬ v2 = 0) (f1023_34 x1 x2 h2) (z_ri 0 h2)) z_ex) z_ex := sorry
theorem e1023_34 (x1 x2 : Int) (h : z_M) : f1023_34 x1 x2 h = z_g (z_inb x1 12) (z_if ((hI h 1072 (Int.toNat x1)) < 4) (f1023_111 h) (z_g (z_inb (z_w (1500 * x1)) 18000) (z_if (¬ (hI h 1073 (Int.toNat (z_w (1500 * x1)))) = 72) (f1023_111 h) (z_g (z_inb (z_w ((z_w (1500 * x1)) + 1)) 18000) (z_ki (f885_0 (hI h 1073 (Int.toNat (z_w ((z_w (1500 * x1)) + 1)))) 1 2 h) (fun v1 h1 => z_if (v1 = 0) (f1023_111 h1) (z_g (z_inb (z_w ((z_w (1500 * x1)) + 2)) 18000) (z_ki (f885_0 (hI h1 1073 (Int.toNat (z_w ((z_w (1500 * x1)) + 2)))) 1 12 h1) (fun v2 h2 => z_if (v2 = 0) (f1023_111 h2) (z_g (z_inb (z_w ((z_w (1500 * x1)) + 3)) 18000) (z_ki (f885_0 (hI h2 1073 (Int.toNat (z_w ((z_w (1500 * x1)) + 3)))) 1 12 h2) (fun v3 h3 => z_if (¬ v3 = 0) (f1023_119 x1 x2 (z_w (1500 * x1)) h3) (f1023_111 h3)) z_ex))) z_ex))) z_ex))))) := sorry
theorem e1023_111 (h : z_M) : f1023_111 h = z_ki (f985_0 1 0 0 h) (fun v1 h1 => z_ri v1 h1) z_ex := sorry
theorem e1023_119 (x1 x2 x3 : Int) (h : z_M) : f1023_119 x1 x2 x3 h = z_g (z_inb (z_w (x3 + 1)) 18000) (z_g (z_inb (z_w (x3 + 2)) 18000) (z_g (z_inb (z_w (x3 + 3)) 18000) (f1023_158 x1 x2 0 (sI (sI (sI h 1064 16 (hI h 1073 (Int.toNat (z_w (x3 + 1))))) 1064 17 (hI (sI h 1064 16 (hI h 1073 (Int.toNat (z_w (x3 + 1))))) 1073 (Int.toNat (z_w (x3 + 2))))) 1064 18 (hI (sI (sI h 1064 16 (hI h 1073 (Int.toNat (z_w (x3 + 1))))) 1064 17 (hI (sI h 1064 16 (hI h 1073 (Int.toNat (z_w (x3 + 1))))) 1073 (Int.toNat (z_w (x3 + 2))))) 1073 (Int.toNat (z_w (x3 + 3)))))))) := sorry
theorem e1023_158 (x1 x2 x4 : Int) (h : z_M) : f1023_158 x1 x2 x4 h = z_if (144 ≤ x4) (f1023_180 x1 x2 h) (z_g (z_inb x4 144) (f1023_158 x1 x2 (z_w (x4 + 1)) (sI h 1075 (Int.toNat x4) 0))) := sorry
theorem e1023_180 (x1 x2 : Int) (h : z_M) : f1023_180 x1 x2 h = z_g (z_inb x1 12) (z_kv (f876_0 (sI (sI (sI (sI h 1064 29 x1) 1064 30 0) 1064 27 32) 1064 28 (z_w (8 * (hI (sI (sI (sI h 1064 29 x1) 1064 30 0) 1064 27 32) 1072 (Int.toNat x1)))))) (fun h1 => f1023_213 x2 h1) z_ex) := sorry
theorem e1023_213 (x2 : Int) (h : z_M) : f1023_213 x2 h = z_if (¬ (hI h 1064 30) = 0) (f1023_262 x2 h) (z_if ((hI h 1064 28) ≤ (hI h 1064 27)) (f1023_262 x2 h) (z_g (¬ (8 : Int) = 0) (z_if ((z_rem (hI h 1064 27) 8) ≤ 0) (f1023_262 x2 h) (z_ki (f875_0 h) (fun v1 h1 => z_if (¬ v1 = 1) (f1023_255 x2 h1) (f1023_256 x2 13 h1)) z_ex)))) := sorry
theorem e1023_255 (x2 : Int) (h : z_M) : f1023_255 x2 h = f1023_256 x2 0 h := sorry
theorem e1023_256 (x2 s1 : Int) (h : z_M) : f1023_256 x2 s1 h = f1023_213 x2 (sI h 1064 30 s1) := sorry
theorem e1023_262 (x2 : Int) (h : z_M) : f1023_262 x2 h = z_if (¬ (hI h 1064 30) = 0) (f1023_286 x2 h) (z_if ((hI h 1064 28) ≤ (hI h 1064 27)) (f1023_286 x2 h) (f1023_290 x2 13 h)) := sorry
theorem e1023_286 (x2 : Int) (h : z_M) : f1023_286 x2 h = f1023_290 x2 (hI h 1064 30) h := sorry
theorem e1023_290 (x2 s1 : Int) (h : z_M) : f1023_290 x2 s1 h = f1023_307 x2 (z_w ((hI (sI h 1064 30 s1) 1064 16) * (hI (sI h 1064 30 s1) 1064 16))) 0 (sI h 1064 30 s1) := sorry
theorem e1023_307 (x2 x4 x5 : Int) (h : z_M) : f1023_307 x2 x4 x5 h = z_if (144 ≤ x5) (f1023_353 x2 x4 h) (z_if (¬ (hI h 1064 30) = 0) (f1023_340 x2 x4 x5 h) (z_g (z_inb x5 144) (z_if ((hI h 1075 (Int.toNat x5)) ≤ x4) (f1023_340 x2 x4 x5 h) (f1023_344 x2 x4 x5 14 h)))) := sorry
theorem e1023_340 (x2 x4 x5 : Int) (h : z_M) : f1023_340 x2 x4 x5 h = f1023_344 x2 x4 x5 (hI h 1064 30) h := sorry
theorem e1023_344 (x2 x4 x5 s1 : Int) (h : z_M) : f1023_344 x2 x4 x5 s1 h = f1023_307 x2 x4 (z_w (x5 + 1)) (sI h 1064 30 s1) := sorry
theorem e1023_353 (x2 x4 : Int) (h : z_M) : f1023_353 x2 x4 h = z_if ((hI h 1064 30) ≤ 0) (f1023_371 x2 x4 h) (z_ki (f985_0 (hI h 1064 30) 4 0 h) (fun v1 h1 => z_ri v1 h1) z_ex) := sorry
theorem e1023_371 (x2 x4 : Int) (h : z_M) : f1023_371 x2 x4 h = z_kv (f950_0 x2 (hI h 1064 17) (hI h 1064 18) 1 h) (fun h1 => f1023_388 x2 x4 0 h1) z_ex := sorry
theorem e1023_388 (x2 x4 x5 : Int) (h : z_M) : f1023_388 x2 x4 x5 h = z_if (144 ≤ x5) (f1023_455 h) (z_g (¬ (12 : Int) = 0) (z_g (¬ (12 : Int) = 0) (z_ki (f889_0 x2 (z_rem x5 12) (z_div x5 12) h) (fun v1 h1 => z_if (v1 = 0) (f1023_447 x2 x4 x5 (z_w ((z_w (144 * x2)) + x5)) h1) (z_g (z_inb x5 144) (z_g (¬ x4 = 0) (f1023_448 x2 x4 x5 (z_w ((z_w (144 * x2)) + x5)) (z_w (255 - (z_div (z_w (255 * (hI h1 1075 (Int.toNat x5)))) x4))) h1)))) z_ex))) := sorry
theorem e1023_447 (x2 x4 x5 s1 : Int) (h : z_M) : f1023_447 x2 x4 x5 s1 h = f1023_448 x2 x4 x5 s1 0 h := sorry
theorem e1023_448 (x2 x4 x5 s1 s2 : Int) (h : z_M) : f1023_448 x2 x4 x5 s1 s2 h = z_g (z_inb s1 1152) (f1023_388 x2 x4 (z_w (x5 + 1)) (sI h 1067 (Int.toNat s1) s2)) := sorry
theorem e1023_455 (h : z_M) : f1023_455 h = z_ki (f985_0 0 0 (z_w ((hI h 1064 17) * (hI h 1064 18))) h) (fun v1 h1 => z_ri v1 h1) z_ex := sorry
theorem e1070_0 (r0 : Nat) (x1 x2 : Int) (h : z_M) : f1070_0 r0 x1 x2 h = z_g (z_isk r0 h [53]) (z_if (x2 ≤ (hI h r0 1)) (f1070_24 r0 x1 x2 h) (z_g (z_isk r0 h [53]) (z_g (z_isa (hP h r0 0) h 1000 (z_w ((z_w (12 * (z_w (x2 - 1)))) + x1))) (f1070_25 r0 x1 x2 (hI h (hP h r0 0) (Int.toNat (z_w ((z_w (12 * (z_w (x2 - 1)))) + x1)))) h)))) := sorry
theorem e1070_24 (r0 : Nat) (x1 x2 : Int) (h : z_M) : f1070_24 r0 x1 x2 h = f1070_25 r0 x1 x2 0 h := sorry
theorem e1070_25 (r0 : Nat) (x1 x2 s0 : Int) (h : z_M) : f1070_25 r0 x1 x2 s0 h = z_if (x1 ≤ 0) (f1070_46 r0 x1 x2 s0 h) (z_g (z_isk r0 h [53]) (z_g (z_isa (hP h r0 0) h 1000 (z_w ((z_w ((z_w (12 * x2)) + x1)) - 1))) (f1070_47 r0 x1 x2 s0 (hI h (hP h r0 0) (Int.toNat (z_w ((z_w ((z_w (12 * x2)) + x1)) - 1)))) h))) := sorry
theorem e1070_46 (r0 : Nat) (x1 x2 x3 : Int) (h : z_M) : f1070_46 r0 x1 x2 x3 h = f1070_47 r0 x1 x2 x3 x3 h := sorry
theorem e1070_47 (r0 : Nat) (x1 x2 x3 s0 : Int) (h : z_M) : f1070_47 r0 x1 x2 x3 s0 h = z_if (x1 ≤ 0) (f1070_83 x3 s0 h) (z_g (z_isk r0 h [53]) (z_if (x2 ≤ (hI h r0 1)) (f1070_79 x3 s0 h) (z_g (z_isk r0 h [53]) (z_g (z_isa (hP h r0 0) h 1000 (z_w ((z_w ((z_w (12 * (z_w (x2 - 1)))) + x1)) - 1))) (f1070_84 x3 s0 (hI h (hP h r0 0) (Int.toNat (z_w ((z_w ((z_w (12 * (z_w (x2 - 1)))) + x1)) - 1)))) h))))) := sorry
theorem e1070_79 (x3 x4 : Int) (h : z_M) : f1070_79 x3 x4 h = f1070_84 x3 x4 0 h := sorry
theorem e1070_83 (x3 x4 : Int) (h : z_M) : f1070_83 x3 x4 h = f1070_84 x3 x4 x3 h := sorry
theorem e1070_84 (x3 x4 s0 : Int) (h : z_M) : f1070_84 x3 x4 s0 h = z_ki (f1_0 x4 x3 h) (fun v1 h1 => z_if (s0 < v1) (f1070_106 x3 x4 s0 h1) (z_ki (f2_0 x4 x3 h1) (fun v2 h2 => f1070_133 v2 h2) z_ex)) z_ex := sorry
theorem e1070_106 (x3 x4 x5 : Int) (h : z_M) : f1070_106 x3 x4 x5 h = z_ki (f2_0 x4 x3 h) (fun v1 h1 => z_if (v1 < x5) (f1070_126 x3 x4 x5 h1) (z_ki (f1_0 x4 x3 h1) (fun v2 h2 => f1070_133 v2 h2) z_ex)) z_ex := sorry
theorem e1070_126 (x3 x4 x5 : Int) (h : z_M) : f1070_126 x3 x4 x5 h = f1070_133 (z_w ((z_w (x4 + x3)) - x5)) h := sorry
theorem e1070_133 (s0 : Int) (h : z_M) : f1070_133 s0 h = z_ri s0 h := sorry
