set_option maxRecDepth 100000
set_option linter.unusedVariables false
set_option maxHeartbeats 200000
/-! PLAIN: the calls on files (printed) -/
theorem call_byteAt {hc ht : z_M} (S : z_shf hc) (O : z_out hc) (R : R_fil hc ht) (f : Int) (i : Int)  : z_ci (f63_0 1 f i 1272 hc) (f760_0 f i ht) (z_q (z_rd hc ht) hc ht) := sorry
theorem call_feed {hc ht : z_M} (S : z_shf hc) (O : z_out hc) (R : R_fil hc ht) (f : Int) (b : Int)  : z_ci (f70_0 1 f b 1272 hc) (f866_0 f b ht) (z_q (z_fch hc) hc ht) := sorry
theorem call_alter {hc ht : z_M} (S : z_shf hc) (O : z_out hc) (R : R_fil hc ht) (f : Int) (i : Int) (b : Int)  : z_ci (f57_0 1 f i b 1272 hc) (f689_0 f i b ht) (z_q (z_fch hc) hc ht) := sorry
theorem call_cut {hc ht : z_M} (S : z_shf hc) (O : z_out hc) (R : R_fil hc ht) (f : Int) (n : Int)  : z_ci (f67_0 1 f n 1272 hc) (f811_0 f n ht) (z_q (z_fch hc) hc ht) := sorry
theorem call_fault {hc ht : z_M} (S : z_shf hc) (O : z_out hc) (R : R_num hc ht) (w : Int)  : z_ci (f69_0 1 w 1272 hc) (f865_0 w ht) (z_q (z_rd hc ht) hc ht) := sorry
