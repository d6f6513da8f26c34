section
/-! the step over naturals, its iterates, and that they are linear under xor -/
theorem jg_mx (x y k : Nat) : (x ^^^ y) * 2 ^ k = x * 2 ^ k ^^^ y * 2 ^ k := by
  rw [← Nat.shiftLeft_eq, ← Nat.shiftLeft_eq, ← Nat.shiftLeft_eq, Nat.shiftLeft_xor_distrib]
theorem jg_x4 (a b c d : Nat) : (a ^^^ b) ^^^ (c ^^^ d) = (a ^^^ c) ^^^ (b ^^^ d) := by
  apply Nat.eq_of_testBit_eq
  intro i
  simp only [Nat.testBit_xor]
  cases a.testBit i <;> cases b.testBit i <;> cases c.testBit i <;> cases d.testBit i <;> rfl
def jg_s1 (x : Nat) : Nat := x ^^^ x * 2 ^ 7 % 2 ^ 16
def jg_s2 (x : Nat) : Nat := x ^^^ x / 2 ^ 9
def jg_s3 (x : Nat) : Nat := x ^^^ x * 2 ^ 8 % 2 ^ 16
def jg_st (x : Nat) : Nat := jg_s3 (jg_s2 (jg_s1 x))
theorem jg_s1x (x y : Nat) : jg_s1 (x ^^^ y) = jg_s1 x ^^^ jg_s1 y := by
  unfold jg_s1
  rw [jg_mx, Nat.xor_mod_two_pow, jg_x4]
theorem jg_s2x (x y : Nat) : jg_s2 (x ^^^ y) = jg_s2 x ^^^ jg_s2 y := by
  unfold jg_s2
  rw [Nat.xor_div_two_pow, jg_x4]
theorem jg_s3x (x y : Nat) : jg_s3 (x ^^^ y) = jg_s3 x ^^^ jg_s3 y := by
  unfold jg_s3
  rw [jg_mx, Nat.xor_mod_two_pow, jg_x4]
theorem jg_stx (x y : Nat) : jg_st (x ^^^ y) = jg_st x ^^^ jg_st y := by
  unfold jg_st
  rw [jg_s1x, jg_s2x, jg_s3x]
theorem jg_xlt {x y : Nat} (hx : x < 65536) (hy : y < 65536) : x ^^^ y < 65536 :=
  Nat.xor_lt_two_pow (n := 16) hx hy
theorem jg_s1l {x : Nat} (h : x < 65536) : jg_s1 x < 65536 := jg_xlt h (Nat.mod_lt _ (by decide))
theorem jg_s2l {x : Nat} (h : x < 65536) : jg_s2 x < 65536 := jg_xlt h (by omega)
theorem jg_s3l {x : Nat} (h : x < 65536) : jg_s3 x < 65536 := jg_xlt h (Nat.mod_lt _ (by decide))
theorem jg_stl {x : Nat} (h : x < 65536) : jg_st x < 65536 := jg_s3l (jg_s2l (jg_s1l h))
theorem jg_st0 : jg_st 0 = 0 := by decide
/-- n steps -/
def jg_it : Nat → Nat → Nat
  | 0, x => x
  | n + 1, x => jg_it n (jg_st x)
theorem jg_it0 (x : Nat) : jg_it 0 x = x := rfl
theorem jg_itS (n x : Nat) : jg_it (n + 1) x = jg_it n (jg_st x) := rfl
theorem jg_it1 (x : Nat) : jg_it 1 x = jg_st x := rfl
theorem jg_add (m n : Nat) : ∀ x, jg_it (m + n) x = jg_it m (jg_it n x) := by
  induction n with
  | zero => intro x; rfl
  | succ n ih =>
    intro x
    rw [← Nat.add_assoc, jg_itS, jg_itS, ih]
theorem jg_itE (n x : Nat) : jg_it (n + 1) x = jg_st (jg_it n x) := by
  rw [Nat.add_comm n 1, jg_add, jg_it1]
theorem jg_itx (n : Nat) : ∀ x y, jg_it n (x ^^^ y) = jg_it n x ^^^ jg_it n y := by
  induction n with
  | zero => intro x y; rfl
  | succ n ih =>
    intro x y
    rw [jg_itS, jg_itS, jg_itS, jg_stx, ih]
theorem jg_itl (n : Nat) : ∀ {x : Nat}, x < 65536 → jg_it n x < 65536 := by
  induction n with
  | zero => intro x h; exact h
  | succ n ih =>
    intro x h
    rw [jg_itS]
    exact ih (jg_stl h)
theorem jg_itz (n : Nat) : jg_it n 0 = 0 := by
  induction n with
  | zero => rfl
  | succ n ih => rw [jg_itS, jg_st0, ih]
/-! bits -/
theorem jg_b1 {x i : Nat} (h : x.testBit i = true) : x % 2 ^ (i + 1) = x % 2 ^ i ^^^ 2 ^ i := by
  apply Nat.eq_of_testBit_eq
  intro j
  rw [Nat.testBit_xor, Nat.testBit_mod_two_pow, Nat.testBit_mod_two_pow, Nat.testBit_two_pow]
  rcases Nat.lt_trichotomy j i with g | g | g
  · rw [decide_eq_true (show j < i + 1 by omega), decide_eq_true g, decide_eq_false (show ¬ i = j by omega)]
    simp
  · subst g
    rw [h, decide_eq_true (show j < j + 1 by omega), decide_eq_false (Nat.lt_irrefl j), decide_eq_true (rfl : j = j)]
    rfl
  · rw [decide_eq_false (show ¬ j < i + 1 by omega), decide_eq_false (show ¬ j < i by omega), decide_eq_false (show ¬ i = j by omega)]
    simp
theorem jg_b0 {x i : Nat} (h : x.testBit i = false) : x % 2 ^ (i + 1) = x % 2 ^ i := by
  apply Nat.eq_of_testBit_eq
  intro j
  rw [Nat.testBit_mod_two_pow, Nat.testBit_mod_two_pow]
  rcases Nat.lt_trichotomy j i with g | g | g
  · rw [decide_eq_true (show j < i + 1 by omega), decide_eq_true g]
  · subst g
    rw [h]
    simp
  · rw [decide_eq_false (show ¬ j < i + 1 by omega), decide_eq_false (show ¬ j < i by omega)]
theorem jg_tb (x i : Nat) : x.testBit i = decide (x / 2 ^ i % 2 = 1) := Nat.testBit_eq_decide_div_mod_eq
theorem jg_a1 {x i : Nat} (h : x.testBit i = true) : x % 2 ^ (i + 1) = 2 ^ i + x % 2 ^ i := by
  rw [jg_tb] at h
  have h2 := of_decide_eq_true h
  rw [Nat.mod_pow_succ, h2, Nat.mul_one, Nat.add_comm]
/-- two maps that are linear under xor and agree on the sixteen single bits -/
theorem jg_lin {f g : Nat → Nat} (hf : ∀ x y, f (x ^^^ y) = f x ^^^ f y) (hg : ∀ x y, g (x ^^^ y) = g x ^^^ g y)
    (h : ∀ i, i < 16 → f (2 ^ i) = g (2 ^ i)) {x : Nat} (hx : x < 65536) : f x = g x := by
  have f0 : f 0 = 0 := by
    have := hf 0 0
    rw [Nat.xor_self, Nat.xor_self] at this
    exact this
  have g0 : g 0 = 0 := by
    have := hg 0 0
    rw [Nat.xor_self, Nat.xor_self] at this
    exact this
  have main : ∀ m, m ≤ 16 → f (x % 2 ^ m) = g (x % 2 ^ m) := by
    intro m
    induction m with
    | zero => intro _; rw [Nat.pow_zero, Nat.mod_one, f0, g0]
    | succ m ih =>
      intro hm
      cases hb : x.testBit m
      · rw [jg_b0 hb]
        exact ih (by omega)
      · rw [jg_b1 hb, hf, hg, ih (by omega), h m (by omega)]
  have e := main 16 (Nat.le_refl 16)
  rw [Nat.mod_eq_of_lt (show x < 2 ^ 16 from hx)] at e
  exact e
/-! the xor of the first n states -/
def jg_S (x : Nat) : Nat → Nat
  | 0 => 0
  | n + 1 => jg_S x n ^^^ jg_it n x
theorem jg_S0 (x : Nat) : jg_S x 0 = 0 := rfl
theorem jg_SS (x n : Nat) : jg_S x (n + 1) = jg_S x n ^^^ jg_it n x := rfl
theorem jg_Sl {x : Nat} (h : x < 65536) : ∀ n, jg_S x n < 65536 := by
  intro n
  induction n with
  | zero => exact (by decide : 0 < 65536)
  | succ n ih => exact jg_xlt ih (jg_itl n h)
theorem jg_Sa (x m : Nat) : ∀ n, jg_S x (m + n) = jg_S x m ^^^ jg_it m (jg_S x n) := by
  intro n
  induction n with
  | zero => rw [Nat.add_zero, jg_S0, jg_itz, Nat.xor_zero]
  | succ n ih => rw [← Nat.add_assoc, jg_SS, jg_SS, ih, jg_itx, ← jg_add, Nat.xor_assoc]
end
section
def jg_tT : List (List Nat) := [[33153, 770, 1797, 3594, 7188, 14376, 28752, 57504, 49472, 769, 1538, 3076, 6152, 12304, 24608, 49216],
  [24609, 49475, 17095, 1039, 2335, 4670, 9340, 18680, 4464, 17344, 1537, 3331, 6662, 13324, 26648, 53296],
  [11787, 11334, 42233, 57771, 62150, 50540, 19352, 5809, 13355, 22060, 9696, 47888, 55105, 28355, 23559, 47375],
  [17913, 13076, 22287, 36827, 57136, 16229, 32972, 43933, 47848, 30900, 59213, 11100, 4157, 42364, 45826, 51369],
  [61313, 65314, 10263, 52147, 34190, 5715, 15148, 27989, 46575, 12760, 58919, 52052, 27973, 34877, 36000, 3629],
  [8480, 10176, 65107, 9157, 11318, 5307, 24556, 58677, 2992, 18643, 62376, 23387, 24763, 23169, 22616, 1757],
  [17802, 20627, 61861, 31816, 4972, 27534, 41095, 7138, 50560, 37644, 62871, 30244, 64068, 61310, 13223, 53538],
  [13449, 54388, 63100, 31201, 59948, 15085, 49410, 23188, 51568, 61447, 11162, 55853, 17333, 56799, 55142, 58972],
  [41484, 48810, 60051, 53155, 29631, 44591, 11326, 63549, 13220, 47569, 9128, 55644, 42673, 21650, 47493, 37835],
  [23480, 1494, 35189, 4219, 56808, 5061, 59500, 23453, 50391, 36512, 18262, 7350, 55937, 2484, 15282, 47113],
  [12857, 24891, 38116, 45781, 30274, 61898, 62494, 62257, 32239, 9489, 36788, 39026, 51977, 50340, 5522, 15433],
  [11736, 51846, 6901, 49477, 9663, 36696, 39050, 52025, 62400, 29316, 37676, 32159, 27067, 12400, 56602, 27801],
  [39498, 42450, 43225, 60900, 3500, 32542, 47175, 2850, 15039, 10137, 53390, 19402, 9456, 27558, 60215, 450],
  [47376, 39758, 59593, 17418, 37114, 53056, 10840, 35872, 8240, 55086, 9672, 18056, 31487, 44874, 12876, 11272],
  [4095, 64180, 44260, 51392, 28785, 41026, 49220, 32776, 61680, 20128, 18624, 2176, 256, 57856, 33792, 34816],
  [65280, 22015, 26282, 17612, 30856, 20720, 24736, 16576, 32639, 43690, 52428, 34952, 61680, 41120, 49344, 32896],
  [33153, 770, 1797, 3594, 7188, 14376, 28752, 57504, 49472, 769, 1538, 3076, 6152, 12304, 24608, 49216]]
def jg_tU : List (List Nat) := [[1, 2, 4, 8, 16, 32, 64, 128, 256, 512, 1024, 2048, 4096, 8192, 16384, 32768],
  [33153, 770, 1797, 3594, 7188, 14376, 28752, 57504, 49472, 769, 1538, 3076, 6152, 12304, 24608, 49216],
  [59801, 37875, 30295, 36238, 23260, 13624, 27505, 55010, 36132, 12945, 33922, 18885, 4874, 10005, 20010, 40020],
  [12071, 25735, 35235, 27761, 36039, 32328, 47594, 62854, 29249, 9682, 42520, 1255, 30891, 20752, 40026, 60697],
  [46518, 31564, 47880, 65295, 3595, 48625, 17575, 23753, 48066, 16300, 41671, 53915, 16593, 50919, 63414, 48444],
  [37152, 65075, 28549, 15798, 51131, 23020, 10549, 48861, 3437, 54430, 55557, 60891, 45270, 11756, 11352, 944],
  [31085, 47858, 54031, 40274, 5843, 7164, 60820, 46750, 5282, 65219, 45478, 5261, 29595, 35382, 41581, 40667],
  [38487, 45604, 54969, 36397, 8655, 38022, 45795, 30579, 12076, 18812, 53442, 56406, 4558, 60894, 44606, 64129],
  [17371, 17568, 28207, 26133, 57433, 63215, 51639, 43743, 41071, 23141, 15725, 35358, 19130, 65137, 45339, 60263],
  [18249, 52287, 14731, 19534, 19698, 430, 4910, 14846, 31966, 46391, 15966, 7011, 36268, 51434, 62198, 22993],
  [38204, 53526, 7900, 5350, 6232, 4183, 8171, 59984, 16806, 61835, 44841, 10631, 63080, 10900, 12113, 3315],
  [42146, 7328, 44674, 18311, 25586, 36531, 37635, 53824, 40793, 18815, 50931, 5614, 15314, 26704, 15353, 50275],
  [16674, 50025, 49505, 63968, 24572, 30254, 25400, 12854, 15229, 24006, 20001, 50314, 6554, 11712, 45273, 53795],
  [2884, 18212, 36185, 6317, 52559, 52359, 737, 6006, 3128, 53330, 45758, 31087, 6973, 31032, 34803, 43290],
  [29447, 50963, 10432, 27332, 63985, 15283, 1798, 44620, 30960, 17751, 51844, 60100, 33024, 39665, 9538, 43588],
  [33023, 32682, 43724, 52360, 35056, 61600, 41152, 49280, 65535, 54698, 26316, 17544, 30960, 20640, 24768, 16512],
  [1, 2, 4, 8, 16, 32, 64, 128, 256, 512, 1024, 2048, 4096, 8192, 16384, 32768]]
def jg_tN : List Nat := [22608, 63601, 20509, 40814, 60090, 45872, 8728, 15456, 8304, 35216, 19743, 61930, 20659, 33570, 14908, 23592]
def jg_tK : List Nat := [0, 255, 32895, 85, 49215, 51, 10965, 37485, 57375, 7310, 6579, 47685, 16405, 45390, 51510, 17, 61455, 15, 3655, 58650, 9843, 12495, 56610, 48450, 19125, 5253, 22695, 17000, 25755, 49725, 2193, 50745, 63495, 15895, 1935, 7497, 12750, 33660, 29325, 15130, 11475, 41565, 17170, 1530, 28305, 1462, 24225, 44625, 20485, 5355, 9180, 5, 44115, 24735, 8500, 9537, 45645, 19550, 57630, 15555, 3281, 15045, 58140, 4165, 64515, 9078, 18870, 59670, 2895, 16150, 10302, 46155, 6375, 43095, 16830, 1751, 47430, 62985, 7565, 62220, 12291, 20230, 53550, 24480, 8585, 3, 765, 16575, 46920, 6630, 731, 53295, 44880, 16915, 55080, 11730, 21165, 13515, 35445, 12580, 4590, 7140, 645, 1275, 54825, 2499, 45135, 62475, 4250, 57120, 11322, 11220, 55590, 29580, 9775, 9690, 28815, 12325, 40545, 2205, 3825, 4335, 40290, 13855, 29070, 3672, 13005, 21675, 65025, 510, 4539, 52530, 9435, 36465, 29835, 3400, 3375, 61710, 8075, 24990, 5151, 14875, 55845, 33915, 14110, 9945, 54315, 1785, 8415, 17595, 3060, 20400, 23715, 430, 64260, 10149, 14705, 60945, 31110, 8245, 12699, 44370, 10115, 10455, 26775, 3179, 12240, 60435, 15215, 18615, 387, 21080, 33150, 13260, 19210, 11985, 23460, 5185, 3315, 14280, 2550, 18105, 59415, 5015, 22440, 6732, 19380, 2805, 27540, 8670, 5865, 46665, 21505, 1020, 39525, 3026, 50490, 57885, 6290, 7905, 2295, 19890, 3570, 35190, 965, 8313, 33405, 12665, 60180, 23205, 3434, 41310, 55335, 15385, 64005, 306, 2125, 54060, 28560, 14365, 5661, 2670, 5610, 17340, 27795, 2040, 14790, 50235, 15810, 39780, 4845, 20995, 47175, 46410, 17085, 8925, 53040, 20740, 3030, 40035, 4097, 4080, 34935, 14025, 20145, 1071, 17850, 19635, 14535, 8160, 1836, 54570, 17425, 16320, 43605, 1]
def jg_T (k i : Nat) : Nat := (jg_tT.getD k []).getD i 0
def jg_U (k i : Nat) : Nat := (jg_tU.getD k []).getD i 0
def jg_N (i : Nat) : Nat := jg_tN.getD i 0
def jg_K (i : Nat) : Nat := jg_tK.getD i 0
/-- the xor of g over the bits below m of x -/
def jg_am (g : Nat → Nat) (x : Nat) : Nat → Nat
  | 0 => 0
  | i + 1 => if x.testBit i = true then jg_am g x i ^^^ g i else jg_am g x i
theorem jg_am1 {g : Nat → Nat} {x i : Nat} (h : x.testBit i = true) : jg_am g x (i + 1) = jg_am g x i ^^^ g i := if_pos h
theorem jg_am0 {g : Nat → Nat} {x i : Nat} (h : x.testBit i = false) : jg_am g x (i + 1) = jg_am g x i := if_neg (by rw [h]; decide)
theorem jg_amx (g : Nat → Nat) (x y : Nat) : ∀ m, jg_am g (x ^^^ y) m = jg_am g x m ^^^ jg_am g y m := by
  intro m
  induction m with
  | zero => exact (Nat.xor_self 0).symm
  | succ m ih =>
    cases hx : x.testBit m <;> cases hy : y.testBit m
    · rw [jg_am0 hx, jg_am0 hy, jg_am0 (by rw [Nat.testBit_xor, hx, hy]; rfl), ih]
    · rw [jg_am0 hx, jg_am1 hy, jg_am1 (by rw [Nat.testBit_xor, hx, hy]; rfl), ih, Nat.xor_assoc]
    · rw [jg_am1 hx, jg_am0 hy, jg_am1 (by rw [Nat.testBit_xor, hx, hy]; rfl), ih, Nat.xor_assoc, Nat.xor_assoc, Nat.xor_comm (g m)]
    · rw [jg_am1 hx, jg_am1 hy, jg_am0 (by rw [Nat.testBit_xor, hx, hy]; rfl), ih, jg_x4, Nat.xor_self, Nat.xor_zero]
theorem jg_amz (g : Nat → Nat) : ∀ m, jg_am g 0 m = 0 := by
  intro m
  induction m with
  | zero => rfl
  | succ m ih => rw [jg_am0 (Nat.zero_testBit m), ih]
/-- over the images of the single bits after n steps it is n steps -/
theorem jg_amI {g : Nat → Nat} {n : Nat} (hg : ∀ i, i < 16 → g i = jg_it n (2 ^ i)) {x : Nat} (hx : x < 65536) : jg_am g x 16 = jg_it n x := by
  have main : ∀ m, m ≤ 16 → jg_am g x m = jg_it n (x % 2 ^ m) := by
    intro m
    induction m with
    | zero => intro _; rw [Nat.pow_zero, Nat.mod_one, jg_itz]; rfl
    | succ m ih =>
      intro hm
      cases hb : x.testBit m
      · rw [jg_b0 hb, jg_am0 hb]
        exact ih (by omega)
      · rw [jg_b1 hb, jg_am1 hb, jg_itx, ih (by omega), hg m (by omega)]
  have e := main 16 (Nat.le_refl 16)
  rw [Nat.mod_eq_of_lt (show x < 2 ^ 16 from hx)] at e
  exact e
theorem jg_c0 : ∀ i, i < 16 → jg_T 0 i = jg_st (2 ^ i) := by decide +kernel
theorem jg_c1 : ∀ k, k < 16 → ∀ i, i < 16 → jg_am (jg_T k) (jg_T k i) 16 = jg_T (k + 1) i := by decide +kernel
theorem jg_c2 : ∀ i, i < 16 → jg_U 0 i = 2 ^ i := by decide +kernel
theorem jg_c3 : ∀ k, k < 16 → ∀ i, i < 16 → jg_am (jg_T k) (jg_U k i) 16 = jg_U (k + 1) i := by decide +kernel
theorem jg_c4 : ∀ i, i < 16 → jg_U 16 i = 2 ^ i := by decide +kernel
theorem jg_c5 : ∀ i, i < 16 → jg_am jg_N (jg_U 8 i ^^^ 2 ^ i) 16 = 2 ^ i := by decide +kernel
theorem jg_c6 : ∀ d, d < 256 → d = 0 ∨ d * jg_K d % 65535 = 255 := by decide +kernel
theorem jg_p16 {i : Nat} (h : i < 16) : 2 ^ i < 65536 := (Nat.pow_lt_pow_right (a := 2) (by decide) h : 2 ^ i < 2 ^ 16)
theorem jg_dbl (k : Nat) : 2 ^ (k + 1) = 2 ^ k + 2 ^ k := by
  rw [Nat.pow_succ, Nat.mul_two]
theorem jg_Te : ∀ k, k ≤ 16 → ∀ i, i < 16 → jg_T k i = jg_it (2 ^ k) (2 ^ i) := by
  intro k
  induction k with
  | zero => intro _ i hi; exact jg_c0 i hi
  | succ k ih =>
    intro hk i hi
    have e := ih (by omega)
    rw [← jg_c1 k (by omega) i hi, e i hi, jg_amI e (jg_itl _ (jg_p16 hi)), ← jg_add, ← jg_dbl]
theorem jg_Ue : ∀ k, k ≤ 16 → ∀ i, i < 16 → jg_U k i = jg_it (2 ^ k - 1) (2 ^ i) := by
  intro k
  induction k with
  | zero => intro _ i hi; exact jg_c2 i hi
  | succ k ih =>
    intro hk i hi
    have hp : 0 < 2 ^ k := Nat.two_pow_pos k
    rw [← jg_c3 k (by omega) i hi, ih (by omega) i hi, jg_amI (jg_Te k (by omega)) (jg_itl _ (jg_p16 hi)), ← jg_add, show 2 ^ k + (2 ^ k - 1) = 2 ^ (k + 1) - 1 from by rw [jg_dbl]; omega]
theorem jg_per {n x : Nat} (hn : n = 65535) (hx : x < 65536) : jg_it n x = x := by
  refine jg_lin (f := jg_it n) (g := fun z => z) (jg_itx n) (fun _ _ => rfl) (fun i hi => ?_) hx
  have e := jg_Ue 16 (Nat.le_refl 16) i hi
  rw [show 2 ^ 16 - 1 = n from hn.symm, jg_c4 i hi] at e
  exact e.symm
theorem jg_255 {n x : Nat} (hn : n = 255) (hx : x < 65536) (h : jg_it n x = x) : x = 0 := by
  have e : jg_am jg_N (jg_it n x ^^^ x) 16 = x := by
    refine jg_lin (f := fun z => jg_am jg_N (jg_it n z ^^^ z) 16) (g := fun z => z) (fun a b => ?_) (fun _ _ => rfl) (fun i hi => ?_) hx
    · show jg_am jg_N (jg_it n (a ^^^ b) ^^^ (a ^^^ b)) 16 = jg_am jg_N (jg_it n a ^^^ a) 16 ^^^ jg_am jg_N (jg_it n b ^^^ b) 16
      rw [jg_itx, jg_x4, jg_amx]
    · show jg_am jg_N (jg_it n (2 ^ i) ^^^ 2 ^ i) 16 = 2 ^ i
      have e := jg_Ue 8 (by omega) i hi
      rw [show 2 ^ 8 - 1 = n from hn.symm] at e
      rw [← e]
      exact jg_c5 i hi
  rw [h, Nat.xor_self, jg_amz] at e
  exact e.symm
theorem jg_mul {d x : Nat} (h : jg_it d x = x) : ∀ k, jg_it (d * k) x = x := by
  intro k
  induction k with
  | zero => rfl
  | succ k ih => rw [Nat.mul_succ, jg_add, h, ih]
theorem jg_nz1 {x : Nat} (hx : x < 65536) (h : jg_st x = 0) : x = 0 := by
  have e := jg_per (n := 65534 + 1) (by decide) hx
  rw [jg_itS, h, jg_itz] at e
  exact e.symm
theorem jg_nz {x : Nat} (hx : x < 65536) (h0 : x ≠ 0) (n : Nat) : jg_it n x ≠ 0 := by
  induction n with
  | zero => exact h0
  | succ n ih =>
    intro h
    rw [jg_itE] at h
    exact ih (jg_nz1 (jg_itl n hx) h)
/-- no state comes again within 255 steps -/
theorem jg_dist {d x : Nat} (hx : x < 65536) (h0 : x ≠ 0) (h1 : 1 ≤ d) (h2 : d < 256) : jg_it d x ≠ x := by
  intro h
  rcases jg_c6 d h2 with z | z
  · omega
  · have e1 := jg_mul h (jg_K d)
    have e2 := Nat.div_add_mod (d * jg_K d) 65535
    rw [z] at e2
    rw [← e2, jg_add, jg_mul (jg_per rfl (jg_itl 255 hx))] at e1
    exact h0 (jg_255 rfl hx e1)
theorem jg_inj {i j x : Nat} (hx : x < 65536) (h0 : x ≠ 0) (h1 : i < j) (h2 : j < i + 256) : jg_it j x ≠ jg_it i x := by
  rw [show j = (j - i) + i by omega, jg_add]
  exact jg_dist (jg_itl i hx) (jg_nz hx h0 i) (by omega) (by omega)
theorem jg_back {l m x : Nat} (hx : x < 65536) (h : m + l = 65535) : jg_it m (jg_it l x) = x := by
  rw [← jg_add]
  exact jg_per h hx
end
section
/-! ints by naturals -/
theorem jw_xor (a b : Nat) : nI a ^^^ nI b = nI (a ^^^ b) := by
  apply Int32.toBitVec_inj.1
  show BitVec.ofNat 32 a ^^^ BitVec.ofNat 32 b = BitVec.ofNat 32 (a ^^^ b)
  apply BitVec.eq_of_getLsbD_eq
  intro i hi
  simp [hi]
theorem jw_sl : ∀ n, n < 32 → ((nI n &&& 31).toBitVec.smod 32).toNat = n := by decide +kernel
theorem jw_one : ∀ i, i < 16 → (1 : Int32) <<< (nI i &&& 31) = nI (2 ^ i) := by decide +kernel
theorem jw_bit {x i : Nat} (hx : x < 65536) (hi : i < 32) : ((nI x >>> (nI i &&& 31)) &&& 1) = 0 ↔ x.testBit i = false := by
  have hd : x / 2 ^ i ≤ x := Nat.div_le_self _ _
  have h2 : x / 2 ^ i % 2 ^ 1 < 2 := Nat.mod_lt _ (by decide)
  rw [pk_shrN (by omega) _ i (jw_sl i hi), pk_andN (by omega) (m := 1) 1 (by decide), ← nI_0, nI_eq (by omega) (by decide), jg_tb, decide_eq_false_iff_not]
  rw [Nat.pow_one]
  omega
theorem jw_i7 {x : Nat} (hx : x < 65536) : (nI x <<< ((7 : Int32) &&& 31)) &&& 65535 = nI (x * 2 ^ 7 % 2 ^ 16) := by
  rw [pk_shlN ((7 : Int32) &&& 31) 7 (by decide) (by omega), pk_andN (by omega) (m := 65535) 16 (by decide)]
theorem jw_i9 {x : Nat} (hx : x < 65536) : nI x >>> ((9 : Int32) &&& 31) = nI (x / 2 ^ 9) :=
  pk_shrN (by omega) ((9 : Int32) &&& 31) 9 (by decide)
theorem jw_i8 {x : Nat} (hx : x < 65536) : (nI x <<< ((8 : Int32) &&& 31)) &&& 65535 = nI (x * 2 ^ 8 % 2 ^ 16) := by
  rw [pk_shlN ((8 : Int32) &&& 31) 8 (by decide) (by omega), pk_andN (by omega) (m := 65535) 16 (by decide)]
theorem jw_e1 {x : Nat} (hx : x < 65536) : nI x ^^^ ((nI x <<< ((7 : Int32) &&& 31)) &&& 65535) = nI (jg_s1 x) := by
  rw [jw_i7 hx, jw_xor]
  rfl
theorem jw_e2 {x : Nat} (hx : x < 65536) : nI x ^^^ (nI x >>> ((9 : Int32) &&& 31)) = nI (jg_s2 x) := by
  rw [jw_i9 hx, jw_xor]
  rfl
theorem jw_e3 {x : Nat} (hx : x < 65536) : nI x ^^^ ((nI x <<< ((8 : Int32) &&& 31)) &&& 65535) = nI (jg_s3 x) := by
  rw [jw_i8 hx, jw_xor]
  rfl
theorem jw_f1 {x : Nat} (hx : x < 65536) : (nI x ^^^ (nI x <<< ((7 : Int32) &&& 31))) &&& 65535 = nI (jg_s1 x) := by
  have hb : x ^^^ x * 2 ^ 7 < 2 ^ 32 := Nat.xor_lt_two_pow (by omega) (by omega)
  rw [pk_shlN ((7 : Int32) &&& 31) 7 (by decide) (by omega), jw_xor, pk_andN hb (m := 65535) 16 (by decide), Nat.xor_mod_two_pow, Nat.mod_eq_of_lt (show x < 2 ^ 16 from hx)]
  rfl
theorem jw_f3 {x : Nat} (hx : x < 65536) : (nI x ^^^ (nI x <<< ((8 : Int32) &&& 31))) &&& 65535 = nI (jg_s3 x) := by
  have hb : x ^^^ x * 2 ^ 8 < 2 ^ 32 := Nat.xor_lt_two_pow (by omega) (by omega)
  rw [pk_shlN ((8 : Int32) &&& 31) 8 (by decide) (by omega), jw_xor, pk_andN hb (m := 65535) 16 (by decide), Nat.xor_mod_two_pow, Nat.mod_eq_of_lt (show x < 2 ^ 16 from hx)]
  rfl
theorem jw_step {post : Int32 → Prop} {x : Nat} (hx : x < 65536) (hp : post (nI (jg_st x))) : wpX_step post () (nI x) := by
  refine nm_r (jw_e1 hx) (nm_r (jw_e2 (jg_s1l hx)) ?_)
  rw [jw_e3 (jg_s2l (jg_s1l hx))]
  exact hp
theorem jw_lstep {post : Int32 → Prop} {x : Nat} (hx : x < 65536) (hp : post (nI (jg_st x))) : wpL_step post () (nI x) := by
  refine nm_r (jw_f1 hx) (nm_r (jw_e2 (jg_s1l hx)) ?_)
  rw [jw_f3 (jg_s2l (jg_s1l hx))]
  exact hp
/-! apply and wind -/
def jg_row (a : Nat → Int32) (k : Nat) : Prop := ∀ i, i < 16 → a (k * 16 + i) = nI (jg_it (2 ^ k) (2 ^ i))
def jg_im (a : Nat → Int32) : Prop := ∀ k, k < 17 → jg_row a k
theorem jw_ix (k i : Nat) : nI k * 16 + nI i = nI (k * 16 + i) := by
  rw [show (16 : Int32) = nI 16 from rfl, pk_mul, nI_add]
theorem jw_apply {post : Int32 → Prop} {c : Int32} {a1 a2 a3 a4 : Nat → Int32} {k x : Nat} (hk : k < 17) (hx : x < 65536) (hr : jg_row a2 k) (hp : post (nI (jg_it (2 ^ k) x))) : wpX_apply post (c, a1, a2, a3, a4) (nI k) (nI x) := by
  have main : ∃ n, wX_apply_5 post (nI k) (nI x) c a1 a2 a3 a4 n (nI (jg_it (2 ^ k) (x % 2 ^ 0))) (nI 0) := by
    refine pk_loop (σ := Unit) (fun n i _ => wX_apply_5 post (nI k) (nI x) c a1 a2 a3 a4 n (nI (jg_it (2 ^ k) (x % 2 ^ i))) (nI i)) (fun _ _ => True) 16 0 () (by omega) trivial (fun n _ _ => ?_) (fun n i _ hi _ hw => ?_)
    · refine pk_le 16 16 (fun _ => ?_) (fun z => absurd z (by omega))
      rw [Nat.mod_eq_of_lt (show x < 2 ^ 16 from hx)]
      exact hp
    · have hw' : wX_apply_5 post (nI k) (nI x) c a1 a2 a3 a4 n (nI (jg_it (2 ^ k) (x % 2 ^ (i + 1)))) (nI (i + 1)) := hw () trivial
      refine pk_le 16 i (fun z => absurd z (by omega)) (fun _ => ek_if (jw_bit hx (by omega)) (fun hb => ?_) (fun hb => ?_))
      · rw [jg_b0 hb] at hw'
        exact nm_r (nI_1 i) hw'
      · have hb' : x.testBit i = true := by
          cases g : x.testBit i
          · exact absurd g hb
          · rfl
        refine ⟨pk_in (k * 16 + i) 272 (by omega) (jw_ix k i), nm_r (e' := nI (jg_it (2 ^ k) (x % 2 ^ (i + 1)))) ?_ (nm_r (nI_1 i) hw')⟩
        rw [pk_cl (k * 16 + i) (jw_ix k i), hr i hi, jw_xor, ← jg_itx, ← jg_b1 hb']
  rw [Nat.pow_zero, Nat.mod_one, jg_itz] at main
  exact main
theorem jw_w24 {post : Int32 → Prop} {c : Int32} {a1 a2 a3 a4 : Nat → Int32} {l x : Nat} (hl : l < 65536) (hx : x < 65536) (hr : jg_im a2) (hp : post (nI (jg_it l x))) : ∃ n, wX_wind_24 post (nI l) c a1 a2 a3 a4 n (nI x) 0 := by
  have main : ∃ n, wX_wind_24 post (nI l) c a1 a2 a3 a4 n (nI (jg_it (l % 2 ^ 0) x)) (nI 0) := by
    refine pk_loop (σ := Unit) (fun n i _ => wX_wind_24 post (nI l) c a1 a2 a3 a4 n (nI (jg_it (l % 2 ^ i) x)) (nI i)) (fun _ _ => True) 16 0 () (by omega) trivial (fun n _ _ => ?_) (fun n i _ hi _ hw => ?_)
    · refine pk_le 16 16 (fun _ => ?_) (fun z => absurd z (by omega))
      rw [Nat.mod_eq_of_lt (show l < 2 ^ 16 from hl)]
      exact hp
    · have hw' : wX_wind_24 post (nI l) c a1 a2 a3 a4 n (nI (jg_it (l % 2 ^ (i + 1)) x)) (nI (i + 1)) := hw () trivial
      refine pk_le 16 i (fun z => absurd z (by omega)) (fun _ => ek_if (jw_bit hl (by omega)) (fun hb => ?_) (fun hb => ?_))
      · rw [jg_b0 hb] at hw'
        exact nm_r (nI_1 i) hw'
      · have hb' : l.testBit i = true := by
          cases g : l.testBit i
          · exact absurd g hb
          · rfl
        rw [jg_a1 hb', jg_add] at hw'
        exact jw_apply (by omega) (jg_itl _ hx) (hr i (by omega)) (nm_r (nI_1 i) hw')
  rw [Nat.pow_zero, Nat.mod_one, jg_it0] at main
  exact main
theorem jw_wind {post : Int32 → Prop} {c : Int32} {a1 a2 a3 a4 : Nat → Int32} {l x : Nat} (hl : l < 65535) (hx : x < 65536) (hr : jg_im a2) (hp : post (nI (jg_it l x))) : wpX_wind post (c, a1, a2, a3, a4) (nI x) (nI l) := by
  refine ⟨by decide, nm_r (e' := nI l) ?_ (br_t (nI_pos' (by omega)) (jw_w24 (by omega) hx hr hp))⟩
  rw [show (65535 : Int32) = nI 65535 from rfl, pk_rem (by omega) (by omega) (by omega), Nat.mod_eq_of_lt hl]
theorem jw_n1 : ∀ l, l < 9 → (-nI l) - (-nI l) / 65535 * 65535 = -nI l := by decide +kernel
theorem jw_n2 : ∀ l, l < 9 → l = 0 ∨ ¬ 0 ≤ -nI l := by decide +kernel
theorem jw_n3 : ∀ l, l < 9 → -nI l + 65535 = nI (65535 - l) := by decide +kernel
theorem jw_n4 : ∀ l, l < 9 → ¬ nI l < (-100000) ∧ nI l ≤ 100000 ∧ ¬ -nI l < (-100000) ∧ -nI l ≤ 100000 := by decide +kernel
/-- winding back what was wound -/
theorem jw_unwind {post : Int32 → Prop} {c : Int32} {a1 a2 a3 a4 : Nat → Int32} {l x : Nat} (hl : l < 9) (hx : x < 65536) (hr : jg_im a2) (hp : post (nI x)) : wpX_wind post (c, a1, a2, a3, a4) (nI (jg_it l x)) (-nI l) := by
  rcases jw_n2 l hl with h | h
  · subst h
    exact jw_wind (l := 0) (by omega) hx hr hp
  · refine ⟨by decide, nm_r (jw_n1 l hl) (br_f h (nm_r (jw_n3 l hl) (jw_w24 (by omega) (jg_itl l hx) hr ?_)))⟩
    rw [jg_back hx (by omega)]
    exact hp
/-! the small methods -/
theorem jw_isState {post : Int32 → Prop} {x : Nat} (h0 : x ≠ 0) (hx : x < 65536) (hp : post 1) : wpX_isState post () (nI x) :=
  pk_lt x 1 (fun z => absurd z (by omega)) (fun _ => pk_lt 65535 x (fun z => absurd z (by omega)) (fun _ => hp))
theorem jw_isMark {post : Int32 → Prop} {m : Nat} (hm : m < 8) (hp : post 1) : wpX_isMark post () (nI m) :=
  pk_lt m 0 (fun z => absurd z (by omega)) (fun _ => pk_le 8 m (fun z => absurd z (by omega)) (fun _ => hp))
theorem jw_10 : ¬ (1 : Int32) = 0 := by decide
theorem jw_seed {post : Int32 → St2 → Prop} {c : Int32} {a1 a2 a3 a4 : Nat → Int32} {x : Nat} (h0 : x ≠ 0) (hx : x < 65536) (hp : post 1 (nI x, a1, a2, a3, a4)) : wpX_seed post (c, a1, a2, a3, a4) (nI x) := by
  unfold wpX_seed
  dsimp only
  exact jw_isState h0 hx (br_f jw_10 hp)
theorem jw_mark {post : Int32 → St2 → Prop} {c : Int32} {a1 a2 a3 a4 : Nat → Int32} {m : Nat} (hm : m < 8) (hp : post 1 (c, upd a1 m c, a2, a3, a4)) : wpX_mark post (c, a1, a2, a3, a4) (nI m) := by
  unfold wpX_mark
  dsimp only
  exact jw_isMark hm (br_f jw_10 ⟨pk_in m 8 hm, nm_r (by rw [nI_clamp (by omega)]) hp⟩)
theorem jw_back {post : Int32 → St2 → Prop} {c : Int32} {a1 a2 a3 a4 : Nat → Int32} {m x : Nat} (hm : m < 8) (h0 : x ≠ 0) (hx : x < 65536) (ha : a1 m = nI x) (hp : post 1 (nI x, a1, a2, a3, a4)) : wpX_back post (c, a1, a2, a3, a4) (nI m) := by
  have e : a1 (nI m).toNatClampNeg = nI x := by
    rw [nI_clamp (by omega)]
    exact ha
  unfold wpX_back
  dsimp only
  refine jw_isMark hm (br_f jw_10 ⟨pk_in m 8 hm, br_f ?_ ⟨pk_in m 8 hm, nm_r e hp⟩⟩)
  rw [e]
  exact nI_ne0 (by omega) (by omega)
theorem jw_peek {post : Int32 → Prop} {c : Int32} {a1 a2 a3 a4 : Nat → Int32} {p : Int32} (h1 : ¬ p < (-100000)) (h2 : p ≤ 100000) (hw : wpX_wind post (c, a1, a2, a3, a4) c p) : wpX_peek post (c, a1, a2, a3, a4) p :=
  br_f h1 (br_t h2 hw)
theorem jw_jump {post : Int32 → St2 → Prop} {c : Int32} {a1 a2 a3 a4 : Nat → Int32} {p : Int32} (h1 : ¬ p < (-100000)) (h2 : p ≤ 100000) (hw : wpX_wind (fun r => post r (r, a1, a2, a3, a4)) (c, a1, a2, a3, a4) c p) : wpX_jump post (c, a1, a2, a3, a4) p :=
  br_f h1 (br_t h2 hw)
theorem jw_apart {post : Int32 → Prop} {c : Int32} {a1 a2 a3 a4 : Nat → Int32} {x y l : Nat} (hx0 : x ≠ 0) (hx : x < 65536) (hy0 : y ≠ 0) (hy : y < 65536) (hl : l < 9) (hr : jg_im a2) (hp : post (nI (jg_it l x ^^^ jg_it l y))) : wpX_apart post (c, a1, a2, a3, a4) (nI x) (nI y) (nI l) := by
  unfold wpX_apart
  dsimp only
  refine jw_isState hx0 hx (br_f jw_10 (jw_isState hy0 hy (br_f jw_10 (pk_lt l 0 (fun z => absurd z (by omega)) (fun _ => pk_lt 100000 l (fun z => absurd z (by omega)) (fun _ => ?_))))))
  rw [jw_xor]
  refine jw_wind (by omega) (jg_xlt hx hy) hr ?_
  rw [jg_itx]
  exact hp
theorem jw_before {post : Int32 → Prop} {c : Int32} {a1 a2 a3 a4 : Nat → Int32} {x l : Nat} (hx0 : x ≠ 0) (hx : x < 65536) (hl : l < 9) (hr : jg_im a2) (hp : post (nI x)) : wpX_before post (c, a1, a2, a3, a4) (nI (jg_it l x)) (nI l) := by
  unfold wpX_before
  dsimp only
  exact jw_isState (jg_nz hx hx0 l) (jg_itl l hx) (br_f jw_10 (pk_lt l 0 (fun z => absurd z (by omega)) (fun _ => pk_lt 100000 l (fun z => absurd z (by omega)) (fun _ => jw_unwind hl hx hr hp))))
end
section
/-! the constructor fills the images -/
theorem jw_put {a : Nat → Int32} {i k : Nat} {x : Int32} {P : Nat → Int32} (hk : k = i) (h : ∀ j, j < i → a j = P j) (hx : x = P i) : ∀ j, j < i + 1 → upd a k x j = P j := by
  intro j hj
  subst hk
  by_cases e : j = k
  · rw [e, pk_us, hx]
  · rw [pk_un e]
    exact h j (by omega)
theorem jw_i80 {post : St2 → Prop} {mc ms kc ks : Nat} {J : Int32 → (Nat → Int32) → (Nat → Int32) → (Nat → Int32) → (Nat → Int32) → Prop} {c : Int32} {b1 b2 b3 b4 : Nat → Int32} {q : Nat} (hq : q < 16) (h : ∀ k, k < q + 1 → jg_row b2 k)
    (hJ : ∀ s, (∀ k, k < q + 2 → jg_row s k) → J (nI (q + 2)) b1 s b3 b4) : ∃ n, wX_init_80 post mc ms J (nI (q + 1)) kc ks c n 0 b1 b2 b3 b4 := by
  refine pk_loop (fun n i s => wX_init_80 post mc ms J (nI (q + 1)) kc ks c n (nI i) b1 s b3 b4) (fun i s => (∀ k, k < q + 1 → jg_row s k) ∧ ∀ j, j < i → s ((q + 1) * 16 + j) = nI (jg_it (2 ^ (q + 1)) (2 ^ j))) 16 0 b2 (by omega) ⟨h, fun j hj => absurd hj (by omega)⟩ (fun n s hs => ?_) (fun n i s hi hs hw => ?_)
  · refine pk_le 16 16 (fun _ => nm_r (nI_1 (q + 1)) (hJ s (fun k hk => ?_))) (fun z => absurd z (by omega))
    by_cases e : k < q + 1
    · exact hs.1 k e
    · rw [show k = q + 1 by omega]
      exact hs.2
  · obtain ⟨h1, h2⟩ := hs
    have e1 : (nI (q + 1) - 1) * 16 + nI i = nI (q * 16 + i) := by rw [nI_pred, jw_ix]
    have e2 : s ((nI (q + 1) - 1) * 16 + nI i).toNatClampNeg = nI (jg_it (2 ^ q) (2 ^ i)) := by
      rw [pk_cl (q * 16 + i) e1]
      exact h1 q (by omega) i hi
    refine pk_le 16 i (fun z => absurd z (by omega)) (fun _ => ⟨pk_in (q * 16 + i) 272 (by omega) e1, nm_r e2 ?_⟩)
    rw [nI_pred]
    refine jw_apply (by omega) (jg_itl _ (jg_p16 hi)) (h1 q (by omega)) ⟨pk_in ((q + 1) * 16 + i) 272 (by omega) (jw_ix _ _), nm_r (e' := upd s ((q + 1) * 16 + i) (nI (jg_it (2 ^ q) (jg_it (2 ^ q) (2 ^ i))))) (by rw [pk_cl ((q + 1) * 16 + i) (jw_ix _ _)]) (nm_r (nI_1 i) (hw _ ⟨fun k hk j hj => ?_, fun j hj => ?_⟩))⟩
    · rw [pk_un (show k * 16 + j ≠ (q + 1) * 16 + i by omega)]
      exact h1 k hk j hj
    · by_cases e : j = i
      · rw [e, pk_us, jg_dbl, jg_add]
      · rw [pk_un (show (q + 1) * 16 + j ≠ (q + 1) * 16 + i by omega)]
        exact h2 j (by omega)
theorem jw_i72 {post : St2 → Prop} {mc ms kc ks : Nat} {c : Int32} {b1 b2 b3 b4 : Nat → Int32} (h : jg_row b2 0) (hp : ∀ s, jg_im s → post (c, b1, s, b3, b4)) : ∃ n, wX_init_72 post mc ms kc ks c n 1 b1 b2 b3 b4 := by
  refine pk_loop (fun n i s => wX_init_72 post mc ms kc ks c n (nI (i + 1)) b1 s b3 b4) (fun i s => ∀ k, k < i + 1 → jg_row s k) 16 0 b2 (by omega) (fun k hk => ?_) (fun n s hs => ?_) (fun n i s hi hs hw => ?_)
  · rw [show k = 0 by omega]
    exact h
  · exact pk_lt 16 17 (fun _ => hp s hs) (fun z => absurd z (by omega))
  · exact pk_lt 16 (i + 1) (fun z => absurd z (by omega)) (fun _ => jw_i80 hi hs (fun s' hs' => hw s' hs'))
theorem jw_i46 {post : St2 → Prop} {mc ms kc ks : Nat} {c : Int32} {b1 b2 b3 b4 : Nat → Int32} (hp : ∀ s, jg_im s → post (c, b1, s, b3, b4)) : ∃ n, wX_init_46 post mc ms kc ks c n 0 b1 b2 b3 b4 := by
  refine pk_loop (fun n i s => wX_init_46 post mc ms kc ks c n (nI i) b1 s b3 b4) (fun i s => ∀ j, j < i → s j = nI (jg_st (2 ^ j))) 16 0 b2 (by omega) (fun j hj => absurd hj (by omega)) (fun n s hs => ?_) (fun n i s hi hs hw => ?_)
  · refine pk_le 16 16 (fun _ => jw_i72 (fun j hj => ?_) hp) (fun z => absurd z (by omega))
    rw [show 0 * 16 + j = j by omega]
    exact hs j hj
  · refine pk_le 16 i (fun z => absurd z (by omega)) (fun _ => ?_)
    rw [jw_one i hi]
    exact jw_step (jg_p16 hi) ⟨pk_in i 272 (by omega), nm_e (nm_r (nI_1 i) (hw _ (jw_put (P := fun j => nI (jg_st (2 ^ j))) (nI_clamp (by omega)) hs rfl)))⟩
theorem jw_init {post : St2 → Prop} {mc ms : Nat} {c : Int32} (hc : 4 ≤ mc) (hs : 2328 ≤ ms) (hp : ∀ s, jg_im s → post (1, fun _ => 0, s, fun _ => 0, fun _ => 0)) : wpX_init post mc ms c :=
  ⟨by omega, by omega, by omega, by omega, by omega, by omega, hc, hs, jw_i46 hp⟩
end
section
/-! the table of noted states: free places are 0, a state lies on its own path, nothing empty before it -/
def jg_h (x : Nat) : Nat := ((nI x * 40503) >>> ((6 : Int32) &&& 31)).toBitVec.toNat % 2 ^ 10
def jg_q (x t : Nat) : Nat := (jg_h x + t) % 1024
theorem jg_hl (x : Nat) : jg_h x < 1024 := Nat.mod_lt _ (by decide)
theorem jg_ql (x t : Nat) : jg_q x t < 1024 := Nat.mod_lt _ (by decide)
theorem jg_q0 (x : Nat) : jg_q x 0 = jg_h x := by
  unfold jg_q
  rw [Nat.add_zero, Nat.mod_eq_of_lt (jg_hl x)]
theorem jg_qs (x t : Nat) : (jg_q x t + 1) % 1024 = jg_q x (t + 1) := by
  unfold jg_q
  omega
theorem jw_qs (x t : Nat) : (nI (jg_q x t) + 1) &&& 1023 = nI (jg_q x (t + 1)) := by
  have h := jg_ql x t
  rw [nI_1, pk_andN (by omega) (m := 1023) 10 (by decide), ← jg_qs]
/-- the path of x is taken up to its place t -/
def jg_at (a : Nat → Int32) (x t : Nat) : Prop := ∀ s, s < t → a (jg_q x s) ≠ 0 ∧ a (jg_q x s) ≠ nI x
theorem jw_place {post : Int32 → Prop} {c : Int32} {a1 a2 a3 a4 : Nat → Int32} {x t : Nat} (ht : t < 1024) (h1 : jg_at a3 x t) (h2 : a3 (jg_q x t) = 0 ∨ a3 (jg_q x t) = nI x) (hp : post (nI (jg_q x t))) : wpX_placeOf post (c, a1, a2, a3, a4) (nI x) := by
  refine nm_r (e' := nI (jg_q x 0)) ?_ ?_
  · rw [jg_q0]
    exact pk_and _ (m := 1023) 10 (by decide)
  · refine pk_loop (σ := Unit) (fun n i _ => wX_placeOf_14 post (nI x) c a1 a2 a3 a4 n (nI (jg_q x i)) (nI i)) (fun _ _ => True) t 0 () (by omega) trivial (fun n _ _ => ?_) (fun n i _ hi _ hw => ?_)
    · have hq := jg_ql x t
      have e : (nI (jg_q x t)).toNatClampNeg = jg_q x t := nI_clamp (by omega)
      refine pk_le 1024 t (fun z => absurd z (by omega)) (fun _ => ⟨pk_in _ 1024 hq, br_c (fun _ => hp) (fun g => ⟨pk_in _ 1024 hq, br_t ?_ hp⟩)⟩)
      rw [e] at g ⊢
      rcases h2 with z | z
      · exact absurd z g
      · exact z
    · have hq := jg_ql x i
      have e : (nI (jg_q x i)).toNatClampNeg = jg_q x i := nI_clamp (by omega)
      obtain ⟨g1, g2⟩ := h1 i hi
      exact pk_le 1024 i (fun z => absurd z (by omega)) (fun _ => ⟨pk_in _ 1024 hq, br_f (by rw [e]; exact g1) ⟨pk_in _ 1024 hq, br_f (by rw [e]; exact g2) (nm_r (jw_qs x i) (nm_r (nI_1 i) (hw () trivial)))⟩⟩)
theorem jg_find {a : Nat → Int32} (x : Nat) (h : ∃ e, e < 1024 ∧ a e = 0) : ∃ t, t < 1024 ∧ jg_at a x t ∧ (a (jg_q x t) = 0 ∨ a (jg_q x t) = nI x) := by
  obtain ⟨e, he, h0⟩ := h
  have hh := jg_hl x
  have hx : ∃ t, t < 1024 ∧ (a (jg_q x t) = 0 ∨ a (jg_q x t) = nI x) := by
    refine ⟨(e + 1024 - jg_h x) % 1024, Nat.mod_lt _ (by decide), Or.inl ?_⟩
    rw [show jg_q x ((e + 1024 - jg_h x) % 1024) = e from by unfold jg_q; omega]
    exact h0
  obtain ⟨t, ⟨h1, h2⟩, h3⟩ := pk_least (fun t => t < 1024 ∧ (a (jg_q x t) = 0 ∨ a (jg_q x t) = nI x)) hx
  refine ⟨t, h1, fun s hs => ⟨fun z => h3 s hs ⟨by omega, Or.inl z⟩, fun z => h3 s hs ⟨by omega, Or.inr z⟩⟩, h2⟩
/-! how many places are taken -/
def jg_ct (a : Nat → Int32) : Nat → Nat
  | 0 => 0
  | m + 1 => jg_ct a m + (if a m = 0 then 0 else 1)
theorem jg_ctS (a : Nat → Int32) (m : Nat) : jg_ct a (m + 1) = jg_ct a m + (if a m = 0 then 0 else 1) := rfl
theorem jg_hole {a : Nat → Int32} : ∀ m, jg_ct a m < m → ∃ e, e < m ∧ a e = 0 := by
  intro m
  induction m with
  | zero => intro h; exact absurd h (by omega)
  | succ m ih =>
    intro h
    rw [jg_ctS] at h
    by_cases e : a m = 0
    · exact ⟨m, by omega, e⟩
    · rw [if_neg e] at h
      obtain ⟨d, h1, h2⟩ := ih (by omega)
      exact ⟨d, by omega, h2⟩
theorem jg_ct0 {a : Nat → Int32} : ∀ m, (∀ j, j < m → a j = 0) → jg_ct a m = 0 := by
  intro m
  induction m with
  | zero => intro _; rfl
  | succ m ih =>
    intro h
    rw [jg_ctS, if_pos (h m (by omega)), ih (fun j hj => h j (by omega))]
theorem jg_ctU {a : Nat → Int32} {p : Nat} {v : Int32} : ∀ m, (m ≤ p → jg_ct (upd a p v) m = jg_ct a m) ∧ jg_ct (upd a p v) m ≤ jg_ct a m + 1 := by
  intro m
  induction m with
  | zero => exact ⟨fun _ => rfl, by show (0 : Nat) ≤ 0 + 1; omega⟩
  | succ m ih =>
    rw [jg_ctS, jg_ctS]
    by_cases e : m = p
    · rw [ih.1 (by omega)]
      refine ⟨fun z => absurd z (by omega), ?_⟩
      split <;> split <;> omega
    · rw [pk_un e]
      exact ⟨fun z => by rw [ih.1 (by omega)], by have := ih.2; omega⟩
/-- j states from g on are noted -/
def jg_tab (g j : Nat) (a b : Nat → Int32) : Prop :=
  (∀ p, p < 1024 → a p = 0 ∨ ∃ i, i < j ∧ a p = nI (jg_it i g)) ∧
  (∀ i, i < j → ∃ t, t < 1024 ∧ a (jg_q (jg_it i g) t) = nI (jg_it i g) ∧ b (jg_q (jg_it i g) t) = nI i ∧ jg_at a (jg_it i g) t) ∧
  jg_ct a 1024 ≤ j
theorem jg_tab0 {g : Nat} {a b : Nat → Int32} (h : ∀ j, j < 1024 → a j = 0) : jg_tab g 0 a b :=
  ⟨fun p hp => Or.inl (h p hp), fun i hi => absurd hi (by omega), by rw [jg_ct0 1024 h]; exact Nat.le_refl 0⟩
theorem jg_tabS {g j t : Nat} {a b : Nat → Int32} (hg : g < 65536) (h0 : g ≠ 0) (hj : j < 256) (h : jg_tab g j a b) (ht : t < 1024) (h1 : jg_at a (jg_it j g) t)
    (h2 : a (jg_q (jg_it j g) t) = 0 ∨ a (jg_q (jg_it j g) t) = nI (jg_it j g)) :
    jg_tab g (j + 1) (upd a (jg_q (jg_it j g) t) (nI (jg_it j g))) (upd b (jg_q (jg_it j g) t) (nI j)) := by
  obtain ⟨hA, hB, hC⟩ := h
  have hl : ∀ i, jg_it i g < 65536 := fun i => jg_itl i hg
  have hne : ∀ i, i < j → nI (jg_it j g) ≠ nI (jg_it i g) := by
    intro i hi z
    have a1 := hl i
    have a2 := hl j
    rw [nI_eq (by omega) (by omega)] at z
    exact jg_inj hg h0 hi (by omega) z
  have hn0 : ∀ i, nI (jg_it i g) ≠ 0 := by
    intro i
    have a1 := hl i
    have a2 := jg_nz hg h0 i
    exact nI_ne0 (by omega) (by omega)
  have hz : a (jg_q (jg_it j g) t) = 0 := by
    rcases hA _ (jg_ql (jg_it j g) t) with z | ⟨i, hi, z⟩
    · exact z
    · rcases h2 with y | y
      · exact y
      · exact absurd (y.symm.trans z) (hne i hi)
  refine ⟨fun p hp => ?_, fun i hi => ?_, Nat.le_trans (jg_ctU 1024).2 (by omega)⟩
  · by_cases e : p = jg_q (jg_it j g) t
    · rw [e, pk_us]
      exact Or.inr ⟨j, by omega, rfl⟩
    · rw [pk_un e]
      rcases hA p hp with z | ⟨i, hi, z⟩
      · exact Or.inl z
      · exact Or.inr ⟨i, by omega, z⟩
  · by_cases e : i = j
    · subst e
      refine ⟨t, ht, pk_us, pk_us, fun s hs => ?_⟩
      obtain ⟨g1, g2⟩ := h1 s hs
      rw [pk_un (fun z => g1 (by rw [z]; exact hz))]
      exact ⟨g1, g2⟩
    · obtain ⟨t', u1, u2, u3, u4⟩ := hB i (by omega)
      have n1 : jg_q (jg_it i g) t' ≠ jg_q (jg_it j g) t := fun z => hn0 i (by rw [← u2, z]; exact hz)
      refine ⟨t', u1, by rw [pk_un n1]; exact u2, by rw [pk_un n1]; exact u3, fun s hs => ?_⟩
      obtain ⟨g1, g2⟩ := u4 s hs
      rw [pk_un (fun z => g1 (by rw [z]; exact hz))]
      exact ⟨g1, g2⟩
/-! noteFrom, steps -/
theorem jw_sh : ∀ j, j < 256 → (nI j).toInt16.toInt32 = nI j := by decide +kernel
theorem jw_n26 {post : St2 → Prop} {c : Int32} {a1 a2 a3 a4 : Nat → Int32} {g : Nat} (hg : g < 65536) (h0 : g ≠ 0) (h : ∀ j, j < 1024 → a3 j = 0) (hp : ∀ a b, jg_tab g 256 a b → post (c, a1, a2, a, b)) : ∃ n, wX_noteFrom_26 post c n (nI g) 0 a1 a2 a3 a4 := by
  refine pk_loop (σ := (Nat → Int32) × (Nat → Int32)) (fun n j s => wX_noteFrom_26 post c n (nI (jg_it j g)) (nI j) a1 a2 s.1 s.2) (fun j s => jg_tab g j s.1 s.2) 256 0 (a3, a4) (by omega) (jg_tab0 h) (fun n s hs => ?_) (fun n j s hj hs hw => ?_)
  · exact pk_le 256 256 (fun _ => hp s.1 s.2 hs) (fun z => absurd z (by omega))
  · obtain ⟨t, ht, t1, t2⟩ := jg_find (jg_it j g) (jg_hole 1024 (show jg_ct s.1 1024 < 1024 from Nat.lt_of_le_of_lt hs.2.2 (by omega)))
    have hq := jg_ql (jg_it j g) t
    have e : (nI (jg_q (jg_it j g) t)).toNatClampNeg = jg_q (jg_it j g) t := nI_clamp (by omega)
    have hw' := hw (upd s.1 (jg_q (jg_it j g) t) (nI (jg_it j g)), upd s.2 (jg_q (jg_it j g) t) (nI j)) (jg_tabS hg h0 hj hs ht t1 t2)
    dsimp only at hw'
    rw [jg_itE] at hw'
    refine pk_le 256 j (fun z => absurd z (by omega)) (fun _ => jw_place ht t1 t2 ⟨pk_in _ 1024 hq, nm_r (by rw [e]) ⟨pk_in _ 1024 hq, nm_r (by rw [e, jw_sh j hj]) (jw_step (jg_itl j hg) (nm_r (nI_1 j) hw'))⟩⟩)
theorem jw_n2' {post : St2 → Prop} {c : Int32} {a1 a2 a3 a4 : Nat → Int32} {g : Nat} (hg : g < 65536) (h0 : g ≠ 0) (hp : ∀ a b, jg_tab g 256 a b → post (c, a1, a2, a, b)) : wpX_noteFrom post (c, a1, a2, a3, a4) (nI g) := by
  refine pk_loop (fun n i s => wX_noteFrom_2 post (nI g) c n (nI i) a1 a2 s a4) (fun i s => ∀ j, j < i → s j = 0) 1024 0 a3 (by omega) (fun j hj => absurd hj (by omega)) (fun n s hs => ?_) (fun n i s hi hs hw => ?_)
  · exact pk_le 1024 1024 (fun _ => jw_n26 hg h0 hs hp) (fun z => absurd z (by omega))
  · exact pk_le 1024 i (fun z => absurd z (by omega)) (fun _ => ⟨pk_in i 1024 hi, nm_e (nm_r (nI_1 i) (hw _ (jw_put (P := fun _ => 0) (nI_clamp (by omega)) hs rfl)))⟩)
theorem jw_sub : ∀ f, f < 9 → (256 * 1) - nI (256 - f) = nI f := by decide +kernel
theorem jw_steps {post : Int32 → St2 → Prop} {c : Int32} {a1 a2 a3 a4 : Nat → Int32} {x f : Nat} (hx : x < 65536) (h0 : x ≠ 0) (hf : f < 9) (hr : jg_im a2) (hp : ∀ a b, post (nI f) (c, a1, a2, a, b)) : wpX_steps post (c, a1, a2, a3, a4) (nI x) (nI (jg_it f x)) := by
  by_cases z : f = 0
  · subst z
    exact br_t rfl (hp a3 a4)
  · have hl := jg_itl f hx
    have hn : ¬ nI x = nI (jg_it f x) := by
      rw [nI_eq (by omega) (by omega)]
      exact fun e => jg_dist hx h0 (by omega) (by omega) e.symm
    refine br_f hn (jw_n2' hl (jg_nz hx h0 f) (fun a b ht => ⟨1, ?_⟩))
    refine pk_lt 256 1 (fun z => absurd z (by omega)) (fun _ => jw_apply (k := 8) (by omega) hx (hr 8 (by omega)) ?_)
    have e : jg_it (2 ^ 8) x = jg_it (256 - f) (jg_it f x) := by
      rw [← jg_add, show 256 - f + f = 2 ^ 8 by omega]
    rw [e]
    obtain ⟨t, t1, t2, t3, t4⟩ := ht.2.1 (256 - f) (by omega)
    have hq := jg_ql (jg_it (256 - f) (jg_it f x)) t
    have ec : (nI (jg_q (jg_it (256 - f) (jg_it f x)) t)).toNatClampNeg = jg_q (jg_it (256 - f) (jg_it f x)) t := nI_clamp (by omega)
    refine jw_place t1 t4 (Or.inr t2) ⟨pk_in _ 1024 hq, br_t (by rw [ec]; exact t2) ⟨pk_in _ 1024 hq, ?_⟩⟩
    rw [ec, t3, jw_sub f hf]
    exact hp a b
theorem jw_between {post : Int32 → St2 → Prop} {c : Int32} {a1 a2 a3 a4 : Nat → Int32} {x f p q : Nat} (hx : x < 65536) (h0 : x ≠ 0) (hf : f < 9) (hr : jg_im a2) (hp8 : p < 8) (hq8 : q < 8) (ep : a1 p = nI x) (eq : a1 q = nI (jg_it f x)) (hp : ∀ a b, post (nI f) (c, a1, a2, a, b)) : wpX_between post (c, a1, a2, a3, a4) (nI p) (nI q) := by
  have hl := jg_itl f hx
  have hn := jg_nz hx h0 f
  have e1 : a1 (nI p).toNatClampNeg = nI x := by rw [nI_clamp (by omega)]; exact ep
  have e2 : a1 (nI q).toNatClampNeg = nI (jg_it f x) := by rw [nI_clamp (by omega)]; exact eq
  unfold wpX_between
  dsimp only
  refine jw_isMark hp8 (br_f jw_10 (jw_isMark hq8 (br_f jw_10 ⟨pk_in p 8 hp8, br_f (by rw [e1]; exact nI_ne0 (by omega) (by omega)) ⟨pk_in q 8 hq8, br_f (by rw [e2]; exact nI_ne0 (by omega) (by omega)) ⟨pk_in p 8 hp8, pk_in q 8 hq8, ?_⟩⟩⟩)))
  rw [e1, e2]
  exact jw_steps hx h0 hf hr hp
theorem jw_distance {post : Int32 → St2 → Prop} {a1 a2 a3 a4 : Nat → Int32} {x f : Nat} (hx : x < 65536) (h0 : x ≠ 0) (hf : f < 9) (hr : jg_im a2) (hp : ∀ a b, post (nI f) (nI x, a1, a2, a, b)) : wpX_distance post (nI x, a1, a2, a3, a4) (nI (jg_it f x)) := by
  unfold wpX_distance
  dsimp only
  exact jw_isState (jg_nz hx h0 f) (jg_itl f hx) (br_f jw_10 (jw_steps hx h0 hf hr hp))
end
section
/-! nextRound and mixed -/
def jg_P (m : Int32) (x j : Nat) : Prop := (nI (jg_it j x) &&& m) = 0
def jg_M (k : Nat) : Int32 := ((1 : Int32) <<< (nI k &&& 31)) - 1
theorem jw_next {post : Int32 → Prop} {a1 a2 a3 a4 : Nat → Int32} {x k : Nat} (hx : x < 65536) (hk : k < 8)
    (hp : ∀ r, ((∃ m, r = nI m ∧ m < 65535 ∧ jg_P (jg_M k) x m ∧ ∀ j, j < m → ¬ jg_P (jg_M k) x j) ∨ (r = -1 ∧ ∀ j, j < 65535 → ¬ jg_P (jg_M k) x j)) → post r) : wpX_nextRound post (nI x, a1, a2, a3, a4) (nI k) := by
  refine pk_lt k 0 (fun z => absurd z (by omega)) (fun _ => pk_le k 8 (fun _ => ?_) (fun z => absurd z (by omega)))
  refine pk_loop (σ := Unit) (fun n i _ => wX_nextRound_19 post (nI k) (nI x) a1 a2 a3 a4 n (nI (jg_it i x)) (nI i)) (fun i _ => ∀ j, j < i → ¬ jg_P (jg_M k) x j) 65535 0 () (by omega) lt_0 (fun n _ hs => ?_) (fun n i _ hi hs hw => ?_)
  · exact pk_le 65535 65535 (fun _ => hp _ (Or.inr ⟨rfl, hs⟩)) (fun z => absurd z (by omega))
  · refine pk_le 65535 i (fun z => absurd z (by omega)) (fun _ => br_c (fun g => hp _ (Or.inl ⟨i, rfl, hi, g, hs⟩)) (fun g => jw_step (jg_itl i hx) (nm_r (nI_1 i) ?_)))
    rw [← jg_itE]
    exact hw () (lt_s hs g)
theorem jw_mixed {post : Int32 → Prop} {a1 a2 a3 a4 : Nat → Int32} {x f : Nat} (hx : x < 65536) (hf : f < 8) (hr : jg_im a2) (hp : post (nI (jg_S x f))) : wpX_mixed post (nI x, a1, a2, a3, a4) (nI f) := by
  refine pk_lt f 0 (fun z => absurd z (by omega)) (fun _ => pk_le f 100000 (fun _ => ⟨17 + 1, ?_⟩) (fun z => absurd z (by omega)))
  have main : wX_mixed_20 post (nI f) (nI x) a1 a2 a3 a4 (17 + 1) (nI (jg_S x (f / 2 ^ 17))) (nI (f / 2 ^ 17)) (nI 17 + (-1)) := by
    refine pk_loopD (σ := Unit) (fun n i _ => wX_mixed_20 post (nI f) (nI x) a1 a2 a3 a4 n (nI (jg_S x (f / 2 ^ i))) (nI (f / 2 ^ i)) (nI i + (-1))) (fun i _ => i ≤ 17) (fun n _ _ => ?_) (fun n i _ hi hw => ?_) 17 () (Nat.le_refl 17)
    · refine br_t (by decide) ?_
      rw [Nat.pow_zero, Nat.div_one]
      exact hp
    · have hw' : wX_mixed_20 post (nI f) (nI x) a1 a2 a3 a4 n (nI (jg_S x (f / 2 ^ i))) (nI (f / 2 ^ i)) (nI i + (-1)) := hw () (by omega)
      show wX_mixed_20 post (nI f) (nI x) a1 a2 a3 a4 (n + 1) (nI (jg_S x (f / 2 ^ (i + 1)))) (nI (f / 2 ^ (i + 1))) (nI (i + 1) + (-1))
      rw [pk_m1]
      have hl : f / 2 ^ (i + 1) ≤ f := Nat.div_le_self _ _
      have hd : f / 2 ^ (i + 1) = f / 2 ^ i / 2 := by rw [Nat.pow_succ, Nat.div_div_eq_div_mul]
      have hb := jw_bit (x := f) (i := i) (by omega) (by omega)
      rw [jg_tb] at hb
      generalize f / 2 ^ (i + 1) = l at hl hd ⊢
      generalize f / 2 ^ i = w at hd hb hw'
      refine pk_lt i 0 (fun z => absurd z (by omega)) (fun _ => jw_wind (by omega) (jg_Sl hx l) hr (nm_r (e' := nI (jg_S x (l + l))) (by rw [jw_xor, ← jg_Sa]) (nm_r (e' := nI (l + l)) (by rw [show (2 : Int32) = nI 2 from rfl, pk_mul, Nat.mul_two]) (ek_if hb (fun g => nm_e ?_) (fun g => ?_)))))
      · have g' := of_decide_eq_false g
        rw [show w = l + l by omega] at hw'
        exact hw'
      · have g' : w % 2 = 1 := by
          by_cases q : w % 2 = 1
          · exact q
          · exact absurd (decide_eq_false q) g
        rw [show w = l + l + 1 by omega] at hw'
        exact jw_wind (by omega) hx hr (nm_r (e' := nI (jg_S x (l + l + 1))) (by rw [jw_xor, ← jg_SS]) (nm_r (nI_1 (l + l)) (nm_e hw')))
  rw [show f / 2 ^ 17 = 0 by omega, pk_m1 16] at main
  exact main
/-! the law -/
theorem jw_394 {post : Int32 → St0 → Prop} {mc ms kc ks : Nat} {a1 a2 a3 a4 : Nat → Int32} {x u f p q : Nat} (hx0 : x ≠ 0) (hx : x < 65536) (hu0 : u ≠ 0) (hu : u < 65536) (hf : f < 8) (hp8 : p < 8) (hq8 : q < 8) (hr : jg_im a2) (ep : a1 p = nI x) (eq : a1 q = nI (jg_it f x)) (hp : post 1 ()) :
    wL_lawOf_394 post mc ms (nI x) (nI u) (nI p) (nI q) (nI (jg_it 8 x)) (nI (jg_it 8 u)) (nI (jg_it f x)) (nI f) kc ks (nI (jg_it f x)) a1 a2 a3 a4 := by
  unfold wL_lawOf_394
  refine jw_between hx hx0 (by omega) hr hp8 hq8 ep eq (fun b3 b4 => br_t rfl ?_)
  refine jw_back hp8 hx0 hx ep (br_f jw_10 ?_)
  refine jw_distance hx hx0 (by omega) hr (fun d3 d4 => br_t rfl ?_)
  refine jw_jump (p := 8) (jw_n4 8 (by omega)).1 (jw_n4 8 (by omega)).2.1 (jw_wind (l := 8) (by omega) hx hr (br_t rfl ?_))
  refine jw_peek (p := -8) (jw_n4 8 (by omega)).2.2.1 (jw_n4 8 (by omega)).2.2.2 (jw_unwind (l := 8) (by omega) hx hr (br_t rfl ?_))
  exact jw_apart (l := 8) hx0 hx hu0 hu (by omega) hr (br_t (jw_xor _ _).symm hp)
theorem jw_322 {post : Int32 → St0 → Prop} {mc ms kc ks : Nat} {a1 a2 a3 a4 : Nat → Int32} {x u f p q : Nat} (hx0 : x ≠ 0) (hx : x < 65536) (hu0 : u ≠ 0) (hu : u < 65536) (hf : f < 8) (hp8 : p < 8) (hq8 : q < 8) (hpq : p ≠ q) (hr : jg_im a2) (ep : a1 p = nI x) (hp : post 1 ()) :
    wL_lawOf_322 post mc ms (nI x) (nI u) (nI f) (nI p) (nI q) (nI (jg_it 8 x)) (nI (jg_it 8 u)) (-1) (nI f) (nI (jg_it f x)) kc ks (nI x) a1 a2 a3 a4 := by
  obtain ⟨n1, n2, n3, n4⟩ := jw_n4 f (by omega)
  unfold wL_lawOf_322
  refine jw_jump n1 n2 (jw_wind (by omega) hx hr (br_t rfl ?_))
  refine jw_mark hq8 (br_f jw_10 ?_)
  refine jw_jump n3 n4 (jw_unwind (by omega) hx hr (br_t rfl ?_))
  refine jw_back hq8 (jg_nz hx hx0 f) (jg_itl f hx) pk_us (br_f jw_10 ?_)
  refine br_t rfl (br_f (by decide) ?_)
  exact jw_394 hx0 hx hu0 hu hf hp8 hq8 hr (by rw [pk_un hpq]; exact ep) pk_us hp
theorem jw_179 {post : Int32 → St0 → Prop} {mc ms kc ks : Nat} {J : Int32 → Int32 → Int32 → Int32 → Int32 → Int32 → Int32 → Int32 → Int32 → Prop} {x2 x7 x8 x9 x10 x11 x14 x16 x17 x18 x19 c : Int32} {a1 a2 a3 a4 : Nat → Int32} {x u i : Nat} (hx0 : x ≠ 0) (hx : x < 65536) (hu : u < 65536) (hi : i < 8)
    (hJ : J (nI (jg_it (i + 1) x)) (nI (jg_it (i + 1) u)) x14 (-1) x16 x17 x18 x19 (nI (i + 1))) :
    wL_lawOf_179 post mc ms J x2 (nI x) x7 x8 x9 x10 x11 (nI (jg_it i x)) (nI (jg_it i u)) x14 (-1) x16 x17 x18 x19 (nI i) kc ks c a1 a2 a3 a4 := by
  unfold wL_lawOf_179
  refine jw_lstep (jg_itl i hx) (br_f (by decide) (br_f ?_ ?_))
  · have hl := jg_itl (i + 1) hx
    rw [← jg_itE, nI_eq (by omega) (by omega)]
    exact jg_dist hx hx0 (by omega) (by omega)
  · unfold wL_lawOf_205 wL_lawOf_207
    refine jw_lstep (jg_itl i hu) (nm_r (nI_1 i) ?_)
    rw [← jg_itE, ← jg_itE]
    exact hJ
theorem jw_143 {post : Int32 → St0 → Prop} {mc ms kc ks : Nat} {J : Int32 → Int32 → Int32 → Int32 → Int32 → Int32 → Int32 → Int32 → Int32 → Prop} {x2 x7 x9 x10 x11 z0 c : Int32} {a1 a2 a3 a4 : Nat → Int32} {x u i f : Nat} (hx0 : x ≠ 0) (hx : x < 65536) (hu : u < 65536) (hi : i < 8) (hf : f < 8)
    (hJ : J (nI (jg_it (i + 1) x)) (nI (jg_it (i + 1) u)) (nI (jg_S x (min (i + 1) f))) (-1) (nI (min (i + 1) f)) z0 (nI (jg_it (min (i + 1) f) x)) (nI (jg_it (min (i + 1) f) u)) (nI (i + 1))) :
    wL_lawOf_143 post mc ms J x2 (nI x) x7 (nI f) x9 x10 x11 (nI (jg_it i x)) (nI (jg_it i u)) (nI (jg_S x (min i f))) (-1) (nI (min i f)) (nI (jg_it (min i f) x)) (nI (jg_it (min i f) u)) (nI i) z0 kc ks c a1 a2 a3 a4 := by
  unfold wL_lawOf_143
  refine pk_le f i (fun z => jw_179 hx0 hx hu hi ?_) (fun z => ?_)
  · rw [show min (i + 1) f = min i f by omega] at hJ
    exact hJ
  · rw [show min (i + 1) f = i + 1 by omega] at hJ
    rw [show min i f = i by omega]
    refine nm_r (e' := nI (jg_S x (i + 1))) (by rw [jw_xor, ← jg_SS]) (jw_lstep (jg_itl i hx) (jw_lstep (jg_itl i hu) (nm_r (nI_1 i) (jw_179 hx0 hx hu hi ?_))))
    rw [← jg_itE, ← jg_itE]
    exact hJ
theorem jw_116 {post : Int32 → St0 → Prop} {mc ms kc ks : Nat} {p2 : Int32} {a1 a2 a3 a4 : Nat → Int32} {x u f k p q : Nat} (hx0 : x ≠ 0) (hx : x < 65536) (hu0 : u ≠ 0) (hu : u < 65536) (hf : f < 8) (hk : k < 8) (ek : p2 &&& 7 = nI k) (hp8 : p < 8) (hq8 : q < 8) (hpq : p ≠ q) (hr : jg_im a2) (ep : a1 p = nI x) (hp : post 1 ()) :
    ∃ n, wL_lawOf_116 post mc ms p2 (nI x) (nI u) (nI f) (jg_M k) (nI p) (nI q) kc ks (nI x) a1 a2 a3 a4 n (nI x) (nI u) 0 (-1) 0 (-1) (nI x) (nI u) 0 := by
  have main : ∃ n, wL_lawOf_116 post mc ms p2 (nI x) (nI u) (nI f) (jg_M k) (nI p) (nI q) kc ks (nI x) a1 a2 a3 a4 n (nI (jg_it 0 x)) (nI (jg_it 0 u)) (nI (jg_S x (min 0 f))) (-1) (nI (min 0 f)) (-1) (nI (jg_it (min 0 f) x)) (nI (jg_it (min 0 f) u)) (nI 0) := by
    refine pk_loop (σ := Int32) (fun n i s => wL_lawOf_116 post mc ms p2 (nI x) (nI u) (nI f) (jg_M k) (nI p) (nI q) kc ks (nI x) a1 a2 a3 a4 n (nI (jg_it i x)) (nI (jg_it i u)) (nI (jg_S x (min i f))) (-1) (nI (min i f)) s (nI (jg_it (min i f) x)) (nI (jg_it (min i f) u)) (nI i))
      (fun i s => (s = -1 ∧ ∀ j, j < i → ¬ jg_P (jg_M k) x j) ∨ ∃ m, m < i ∧ s = nI m ∧ jg_P (jg_M k) x m ∧ ∀ j, j < m → ¬ jg_P (jg_M k) x j) 8 0 (-1) (by omega) (Or.inl ⟨rfl, lt_0⟩) (fun n s hs => ?_) (fun n i s hi hs hw => ?_)
    · show wL_lawOf_116 post mc ms p2 (nI x) (nI u) (nI f) (jg_M k) (nI p) (nI q) kc ks (nI x) a1 a2 a3 a4 (n + 1) (nI (jg_it 8 x)) (nI (jg_it 8 u)) (nI (jg_S x (min 8 f))) (-1) (nI (min 8 f)) s (nI (jg_it (min 8 f) x)) (nI (jg_it (min 8 f) u)) (nI 8)
      rw [show min 8 f = f by omega]
      have H : wL_lawOf_322 post mc ms (nI x) (nI u) (nI f) (nI p) (nI q) (nI (jg_it 8 x)) (nI (jg_it 8 u)) (-1) (nI f) (nI (jg_it f x)) kc ks (nI x) a1 a2 a3 a4 := jw_322 hx0 hx hu0 hu hf hp8 hq8 hpq hr ep hp
      refine pk_le 8 8 (fun _ => ?_) (fun z => absurd z (by omega))
      rw [ek]
      refine jw_next hx hk (fun r hrr => ?_)
      obtain ⟨n1, n2, n3, n4⟩ := jw_n4 f (by omega)
      refine jw_peek n1 n2 (jw_wind (by omega) hx hr (br_t rfl ?_))
      refine jw_mixed hx hf hr (br_t rfl ?_)
      refine jw_apart hx0 hx hu0 hu (by omega) hr (br_t (jw_xor _ _).symm ?_)
      refine jw_before hx0 hx (by omega) hr (br_t rfl ?_)
      rcases hs with ⟨rfl, hs⟩ | ⟨m, hm, rfl, hm1, hm2⟩
      · refine br_t (by decide) ?_
        rcases hrr with ⟨w, rfl, hw, hw1, hw2⟩ | ⟨rfl, hw⟩
        · have h8 : 8 ≤ w := by
            rcases Nat.lt_or_ge w 8 with z | z
            · exact absurd hw1 (hs w z)
            · exact z
          exact br_c (fun _ => H) (fun _ => br_t (nI_le h8 (by omega)) H)
        · exact br_t rfl H
      · refine br_f (nI_pos (by omega)) ?_
        rcases hrr with ⟨w, rfl, hw, hw1, hw2⟩ | ⟨rfl, hw⟩
        · have e : w = m := by
            rcases Nat.lt_trichotomy w m with z | z | z
            · exact absurd hw1 (hm2 w z)
            · exact z
            · exact absurd hm1 (hw2 m z)
          exact br_t (by rw [e]) H
        · exact absurd hm1 (hw m (by omega))
    · show wL_lawOf_116 post mc ms p2 (nI x) (nI u) (nI f) (jg_M k) (nI p) (nI q) kc ks (nI x) a1 a2 a3 a4 (n + 1) (nI (jg_it i x)) (nI (jg_it i u)) (nI (jg_S x (min i f))) (-1) (nI (min i f)) s (nI (jg_it (min i f) x)) (nI (jg_it (min i f) u)) (nI i)
      refine pk_le 8 i (fun z => absurd z (by omega)) (fun _ => ?_)
      rcases hs with ⟨rfl, hs⟩ | ⟨m, hm, rfl, hm1, hm2⟩
      · refine br_f (by decide) (br_c (fun g => jw_143 hx0 hx hu hi hf (hw _ (Or.inr ⟨i, by omega, rfl, g, hs⟩))) (fun g => ?_))
        unfold wL_lawOf_141
        exact jw_143 hx0 hx hu hi hf (hw _ (Or.inl ⟨rfl, lt_s hs g⟩))
      · refine br_t (nI_pos' (by omega)) ?_
        unfold wL_lawOf_141
        exact jw_143 hx0 hx hu hi hf (hw _ (Or.inr ⟨m, by omega, rfl, hm1, hm2⟩))
  rw [Nat.zero_min] at main
  exact main
theorem jw_pick (v : Int32) : ∃ x, x ≠ 0 ∧ x < 65536 ∧ 1 + ((v &&& 2147483647) - (v &&& 2147483647) / 65535 * 65535) = nI x := by
  obtain ⟨j, hj, e⟩ := pk_andE v (m := 2147483647) 31 (by decide)
  have hm : j % 65535 < 65535 := Nat.mod_lt _ (by decide)
  refine ⟨1 + j % 65535, by omega, by omega, ?_⟩
  rw [e, show (65535 : Int32) = nI 65535 from rfl, pk_rem hj (by decide) (by decide), show (1 : Int32) = nI 1 from rfl, nI_add]
theorem jw_lawOf (p0 p1 p2 p3 p4 : Int32) : wpL_lawOf (fun r _ => r = 1) 5 2333 () p0 p1 p2 p3 p4 := by
  obtain ⟨x, hx0, hx, ex⟩ := jw_pick p0
  obtain ⟨u, hu0, hu, eu⟩ := jw_pick p4
  obtain ⟨f, hf, ef⟩ := pk_andE p1 (m := 7) 3 (by decide)
  obtain ⟨k, hk, ek⟩ := pk_andE p2 (m := 7) 3 (by decide)
  obtain ⟨p, hp, ep⟩ := pk_andE p3 (m := 7) 3 (by decide)
  have eq : (nI p + 1) &&& 7 = nI ((p + 1) % 2 ^ 3) := by rw [nI_1, pk_andN (by omega) (m := 7) 3 (by decide)]
  refine ⟨by omega, by omega, 4, 2328, by omega, by omega, jw_init (by omega) (by omega) (fun s hs => ⟨by decide, nm_r ex ⟨by decide, nm_r eu (nm_r ef (nm_r (e' := jg_M k) (by rw [ek]; rfl) (nm_r ep (nm_r eq ?_))))⟩⟩)⟩
  refine jw_seed hx0 hx (br_f jw_10 (jw_mark hp (br_f jw_10 ?_)))
  exact jw_116 hx0 hx hu0 hu hf hk ek hp (Nat.mod_lt _ (by decide)) (by omega) hs pk_us rfl
theorem jw_cell {post : Int32 → Prop} {L : Nat} {xs : Nat → Int32} (hL : L ≤ 5) (k : Nat) (hk : k < 5) (hp : ∀ r, post r) : wpL_cellAt post L xs () (nI k) :=
  pk_le L k (fun _ => hp _) (fun z => ⟨pk_in k L z, hp _⟩)
theorem i_vc (xs : Nat → Int32) (L : Nat) (hL : L ≤ 5) : wpL_law (fun r => r = 1) L xs := by
  unfold wpL_law
  exact jw_cell hL 0 (by omega) (fun r1 => jw_cell hL 1 (by omega) (fun r2 => jw_cell hL 2 (by omega) (fun r3 => jw_cell hL 3 (by omega) (fun r4 => jw_cell hL 4 (by omega) (fun r5 => ⟨5, 2333, by omega, by omega, jw_lawOf r1 r2 r3 r4 r5⟩)))))
end
