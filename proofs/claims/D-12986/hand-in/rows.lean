section
/-! the pure picture: one step over naturals below 2^16, its iterates -/
def jg_a (x : Nat) : Nat := x ^^^ x * 2 ^ 7 % 2 ^ 16
def jg_b (x : Nat) : Nat := x ^^^ x / 2 ^ 9
def jg_c (x : Nat) : Nat := x ^^^ x * 2 ^ 8 % 2 ^ 16
def jg_st (x : Nat) : Nat := jg_c (jg_b (jg_a x))
theorem jg_x4 (a b c d : Nat) : (a ^^^ b) ^^^ (c ^^^ d) = (a ^^^ c) ^^^ (b ^^^ d) := by
  rw [Nat.xor_assoc, Nat.xor_assoc, ← Nat.xor_assoc b c d, ← Nat.xor_assoc c b d, Nat.xor_comm b c]
theorem jg_mulx (a b n : Nat) : (a ^^^ b) * 2 ^ n = a * 2 ^ n ^^^ b * 2 ^ n := by
  have h : (a ^^^ b) <<< n = a <<< n ^^^ b <<< n := Nat.shiftLeft_xor_distrib
  rw [Nat.shiftLeft_eq, Nat.shiftLeft_eq, Nat.shiftLeft_eq] at h
  exact h
theorem jg_ax (x y : Nat) : jg_a (x ^^^ y) = jg_a x ^^^ jg_a y := by
  unfold jg_a
  rw [jg_mulx, Nat.xor_mod_two_pow, jg_x4]
theorem jg_bx (x y : Nat) : jg_b (x ^^^ y) = jg_b x ^^^ jg_b y := by
  unfold jg_b
  rw [Nat.xor_div_two_pow, jg_x4]
theorem jg_cx (x y : Nat) : jg_c (x ^^^ y) = jg_c x ^^^ jg_c y := by
  unfold jg_c
  rw [jg_mulx, Nat.xor_mod_two_pow, jg_x4]
theorem jg_sx (x y : Nat) : jg_st (x ^^^ y) = jg_st x ^^^ jg_st y := by
  unfold jg_st
  rw [jg_ax, jg_bx, jg_cx]
theorem jg_a_lt {x : Nat} (h : x < 2 ^ 16) : jg_a x < 2 ^ 16 := Nat.xor_lt_two_pow h (Nat.mod_lt _ (by decide))
theorem jg_b_lt {x : Nat} (h : x < 2 ^ 16) : jg_b x < 2 ^ 16 := Nat.xor_lt_two_pow h (Nat.lt_of_le_of_lt (Nat.div_le_self _ _) h)
theorem jg_c_lt {x : Nat} (h : x < 2 ^ 16) : jg_c x < 2 ^ 16 := Nat.xor_lt_two_pow h (Nat.mod_lt _ (by decide))
theorem jg_st_lt {x : Nat} (h : x < 2 ^ 16) : jg_st x < 2 ^ 16 := jg_c_lt (jg_b_lt (jg_a_lt h))
theorem jg_st_0 : jg_st 0 = 0 := by decide +kernel
def jg_it : Nat → Nat → Nat
  | 0, x => x
  | n + 1, x => jg_it n (jg_st x)
theorem jg_it_add (m n x : Nat) : jg_it (m + n) x = jg_it n (jg_it m x) := by
  induction m generalizing x with
  | zero => rw [Nat.zero_add]; rfl
  | succ m ih =>
    rw [show m + 1 + n = (m + n) + 1 by omega]
    exact ih (jg_st x)
theorem jg_it_s (n x : Nat) : jg_it (n + 1) x = jg_st (jg_it n x) := jg_it_add n 1 x
theorem jg_it_c (m n x : Nat) : jg_it m (jg_it n x) = jg_it n (jg_it m x) := by
  rw [← jg_it_add, ← jg_it_add, Nat.add_comm]
theorem jg_it_x (n x y : Nat) : jg_it n (x ^^^ y) = jg_it n x ^^^ jg_it n y := by
  induction n generalizing x y with
  | zero => rfl
  | succ n ih =>
    show jg_it n (jg_st (x ^^^ y)) = jg_it n (jg_st x) ^^^ jg_it n (jg_st y)
    rw [jg_sx, ih]
theorem jg_it_lt (n : Nat) {x : Nat} (h : x < 2 ^ 16) : jg_it n x < 2 ^ 16 := by
  induction n generalizing x with
  | zero => exact h
  | succ n ih => exact ih (jg_st_lt h)
theorem jg_it_0 (n : Nat) : jg_it n 0 = 0 := by
  induction n with
  | zero => rfl
  | succ n ih =>
    show jg_it n (jg_st 0) = 0
    rw [jg_st_0, ih]
/-! sums of what bits become -/
def jg_bs (f : Nat → Nat) (x : Nat) : Nat → Nat
  | 0 => 0
  | i + 1 => jg_bs f x i ^^^ (if x.testBit i = true then f i else 0)
theorem jg_bs_f {f : Nat → Nat} {x i : Nat} (b : x.testBit i = false) : jg_bs f x (i + 1) = jg_bs f x i := by
  show jg_bs f x i ^^^ (if x.testBit i = true then f i else 0) = _
  rw [b, if_neg (by decide), Nat.xor_zero]
theorem jg_bs_t {f : Nat → Nat} {x i : Nat} (b : x.testBit i = true) : jg_bs f x (i + 1) = jg_bs f x i ^^^ f i := by
  show jg_bs f x i ^^^ (if x.testBit i = true then f i else 0) = _
  rw [if_pos b]
theorem jg_bs_c {f g : Nat → Nat} {x n : Nat} (h : ∀ i, i < n → f i = g i) : jg_bs f x n = jg_bs g x n := by
  induction n with
  | zero => rfl
  | succ n ih =>
    show jg_bs f x n ^^^ (if x.testBit n = true then f n else 0) = jg_bs g x n ^^^ (if x.testBit n = true then g n else 0)
    rw [ih (fun i hi => h i (by omega)), h n (by omega)]
theorem jg_bs_mod (x n : Nat) : jg_bs (fun i => 2 ^ i) x n = x % 2 ^ n := by
  induction n with
  | zero => rw [Nat.pow_zero, Nat.mod_one]; rfl
  | succ n ih =>
    show jg_bs (fun i => 2 ^ i) x n ^^^ (if x.testBit n = true then 2 ^ n else 0) = _
    rw [ih]
    apply Nat.eq_of_testBit_eq
    intro i
    rw [Nat.testBit_xor, Nat.testBit_mod_two_pow, Nat.testBit_mod_two_pow]
    rcases Nat.lt_trichotomy i n with h | h | h
    · have e : (if x.testBit n = true then 2 ^ n else 0).testBit i = false := by
        by_cases b : x.testBit n = true
        · rw [if_pos b, Nat.testBit_two_pow, decide_eq_false (by omega)]
        · rw [if_neg b, Nat.zero_testBit]
      rw [e, decide_eq_true h, decide_eq_true (show i < n + 1 by omega), Bool.xor_false]
    · subst h
      have e : (if x.testBit i = true then 2 ^ i else 0).testBit i = x.testBit i := by
        by_cases b : x.testBit i = true
        · rw [if_pos b, Nat.testBit_two_pow_self, b]
        · rw [if_neg b, Nat.zero_testBit]
          cases h : x.testBit i with
          | false => rfl
          | true => exact absurd h b
      rw [e, decide_eq_false (Nat.lt_irrefl i), decide_eq_true (show i < i + 1 by omega), Bool.false_and, Bool.true_and, Bool.false_xor]
    · have e : (if x.testBit n = true then 2 ^ n else 0).testBit i = false := by
        by_cases b : x.testBit n = true
        · rw [if_pos b, Nat.testBit_two_pow, decide_eq_false (by omega)]
        · rw [if_neg b, Nat.zero_testBit]
      rw [e, decide_eq_false (show ¬ i < n by omega), decide_eq_false (show ¬ i < n + 1 by omega), Bool.false_and]
      rfl
theorem jg_bs_it (m x n : Nat) : jg_bs (fun i => jg_it m (2 ^ i)) x n = jg_it m (jg_bs (fun i => 2 ^ i) x n) := by
  induction n with
  | zero => exact (jg_it_0 m).symm
  | succ n ih =>
    show jg_bs (fun i => jg_it m (2 ^ i)) x n ^^^ (if x.testBit n = true then jg_it m (2 ^ n) else 0) = jg_it m (jg_bs (fun i => 2 ^ i) x n ^^^ (if x.testBit n = true then 2 ^ n else 0))
    rw [jg_it_x, ih]
    by_cases b : x.testBit n = true
    · rw [if_pos b, if_pos b]
    · rw [if_neg b, if_neg b, jg_it_0]
theorem jg_lin (m : Nat) {x : Nat} (h : x < 2 ^ 16) : jg_bs (fun i => jg_it m (2 ^ i)) x 16 = jg_it m x := by
  rw [jg_bs_it, jg_bs_mod, Nat.mod_eq_of_lt h]
theorem jg_bs_x (f g : Nat → Nat) (x n : Nat) : jg_bs (fun i => f i ^^^ g i) x n = jg_bs f x n ^^^ jg_bs g x n := by
  induction n with
  | zero => exact (Nat.xor_self 0).symm
  | succ n ih =>
    show jg_bs (fun i => f i ^^^ g i) x n ^^^ (if x.testBit n = true then f n ^^^ g n else 0) = (jg_bs f x n ^^^ (if x.testBit n = true then f n else 0)) ^^^ (jg_bs g x n ^^^ (if x.testBit n = true then g n else 0))
    rw [ih, jg_x4 (jg_bs f x n)]
    by_cases b : x.testBit n = true
    · rw [if_pos b, if_pos b, if_pos b]
    · rw [if_neg b, if_neg b, if_neg b, Nat.xor_zero, Nat.xor_zero, Nat.xor_zero]
/-! the table of what bit i becomes after 2^k steps; the cycle -/
def jg_T : List (List Nat) := [[33153, 770, 1797, 3594, 7188, 14376, 28752, 57504, 49472, 769, 1538, 3076, 6152, 12304, 24608, 49216], [24609, 49475, 17095, 1039, 2335, 4670, 9340, 18680, 4464, 17344, 1537, 3331, 6662, 13324, 26648, 53296], [11787, 11334, 42233, 57771, 62150, 50540, 19352, 5809, 13355, 22060, 9696, 47888, 55105, 28355, 23559, 47375], [17913, 13076, 22287, 36827, 57136, 16229, 32972, 43933, 47848, 30900, 59213, 11100, 4157, 42364, 45826, 51369], [61313, 65314, 10263, 52147, 34190, 5715, 15148, 27989, 46575, 12760, 58919, 52052, 27973, 34877, 36000, 3629], [8480, 10176, 65107, 9157, 11318, 5307, 24556, 58677, 2992, 18643, 62376, 23387, 24763, 23169, 22616, 1757], [17802, 20627, 61861, 31816, 4972, 27534, 41095, 7138, 50560, 37644, 62871, 30244, 64068, 61310, 13223, 53538], [13449, 54388, 63100, 31201, 59948, 15085, 49410, 23188, 51568, 61447, 11162, 55853, 17333, 56799, 55142, 58972], [41484, 48810, 60051, 53155, 29631, 44591, 11326, 63549, 13220, 47569, 9128, 55644, 42673, 21650, 47493, 37835], [23480, 1494, 35189, 4219, 56808, 5061, 59500, 23453, 50391, 36512, 18262, 7350, 55937, 2484, 15282, 47113], [12857, 24891, 38116, 45781, 30274, 61898, 62494, 62257, 32239, 9489, 36788, 39026, 51977, 50340, 5522, 15433], [11736, 51846, 6901, 49477, 9663, 36696, 39050, 52025, 62400, 29316, 37676, 32159, 27067, 12400, 56602, 27801], [39498, 42450, 43225, 60900, 3500, 32542, 47175, 2850, 15039, 10137, 53390, 19402, 9456, 27558, 60215, 450], [47376, 39758, 59593, 17418, 37114, 53056, 10840, 35872, 8240, 55086, 9672, 18056, 31487, 44874, 12876, 11272], [4095, 64180, 44260, 51392, 28785, 41026, 49220, 32776, 61680, 20128, 18624, 2176, 256, 57856, 33792, 34816], [65280, 22015, 26282, 17612, 30856, 20720, 24736, 16576, 32639, 43690, 52428, 34952, 61680, 41120, 49344, 32896]]
def jg_row (k i : Nat) : Nat := (jg_T.getD k []).getD i 0
theorem jg_row_0 : ∀ i, i < 16 → jg_row 0 i = jg_st (2 ^ i) := by decide +kernel
theorem jg_row_s : ∀ k, k < 15 → ∀ i, i < 16 → jg_row (k + 1) i = jg_bs (jg_row k) (jg_row k i) 16 := by decide +kernel
theorem jg_dbl (k x : Nat) : jg_it (2 ^ (k + 1)) x = jg_it (2 ^ k) (jg_it (2 ^ k) x) := by
  rw [← jg_it_add, Nat.pow_succ, Nat.mul_two]
theorem jg_p16 {i : Nat} (h : i < 16) : 2 ^ i < 2 ^ 16 := Nat.pow_lt_pow_right (by decide) h
theorem jg_row_it (k : Nat) (hk : k < 16) : ∀ i, i < 16 → jg_row k i = jg_it (2 ^ k) (2 ^ i) := by
  induction k with
  | zero => exact fun i hi => jg_row_0 i hi
  | succ k ih =>
    intro i hi
    have h := ih (by omega)
    rw [jg_row_s k (by omega) i hi, jg_bs_c h, h i hi, jg_lin _ (jg_it_lt _ (jg_p16 hi)), jg_dbl]
def jg_w (m x : Nat) : Nat → Nat
  | 0 => x
  | k + 1 => if m.testBit k = true then jg_bs (jg_row k) (jg_w m x k) 16 else jg_w m x k
theorem jg_mod_f {m k : Nat} (b : m.testBit k = false) : m % 2 ^ (k + 1) = m % 2 ^ k := by
  rw [Nat.mod_pow_succ]
  rw [Nat.testBit_eq_decide_div_mod_eq, decide_eq_false_iff_not] at b
  have h : m / 2 ^ k % 2 = 0 := by
    generalize m / 2 ^ k = z at b ⊢
    omega
  rw [h, Nat.mul_zero, Nat.add_zero]
theorem jg_mod_t {m k : Nat} (b : m.testBit k = true) : m % 2 ^ (k + 1) = m % 2 ^ k + 2 ^ k := by
  rw [Nat.mod_pow_succ]
  rw [Nat.testBit_eq_decide_div_mod_eq, decide_eq_true_iff] at b
  rw [b, Nat.mul_one]
theorem jg_nt {b : Bool} (h : ¬ b = true) : b = false := by
  cases b with
  | false => rfl
  | true => exact absurd rfl h
theorem jg_nf {b : Bool} (h : ¬ b = false) : b = true := by
  cases b with
  | true => rfl
  | false => exact absurd rfl h
theorem jg_w_it (m : Nat) {x : Nat} (hx : x < 2 ^ 16) (k : Nat) (hk : k ≤ 16) : jg_w m x k = jg_it (m % 2 ^ k) x := by
  induction k with
  | zero => rw [Nat.pow_zero, Nat.mod_one]; rfl
  | succ k ih =>
    show (if m.testBit k = true then jg_bs (jg_row k) (jg_w m x k) 16 else jg_w m x k) = _
    rw [ih (by omega)]
    by_cases b : m.testBit k = true
    · rw [if_pos b, jg_mod_t b, jg_it_add, jg_bs_c (jg_row_it k (by omega)), jg_lin _ (jg_it_lt _ hx)]
    · rw [if_neg b, jg_mod_f (jg_nt b)]
theorem jg_w16 {m x : Nat} (hm : m < 2 ^ 16) (hx : x < 2 ^ 16) : jg_w m x 16 = jg_it m x := by
  rw [jg_w_it m hx 16 (by omega), Nat.mod_eq_of_lt hm]
theorem jg_k1 : ∀ i, i < 16 → jg_w 65535 (2 ^ i) 16 = 2 ^ i := by decide +kernel
theorem jg_k2 : ∀ i, i < 16 → jg_w 255 (2 ^ i) 16 ^^^ 2 ^ i = jg_w 13363 (2 ^ i) 16 := by decide +kernel
theorem jg_cyc {x : Nat} (h : x < 2 ^ 16) : jg_it 65535 x = x := by
  rw [← jg_lin 65535 h, jg_bs_c (g := fun i => jg_it 0 (2 ^ i)) (fun i hi => by rw [← jg_w16 (by decide) (jg_p16 hi)]; exact jg_k1 i hi), jg_lin 0 h]
  rfl
theorem jg_zech {x : Nat} (h : x < 2 ^ 16) : jg_it 255 x ^^^ x = jg_it 13363 x := by
  have e : jg_it 255 x ^^^ jg_it 0 x = jg_it 13363 x := by
    rw [← jg_lin 255 h, ← jg_lin 0 h, ← jg_lin 13363 h, ← jg_bs_x]
    refine jg_bs_c (fun i hi => ?_)
    show jg_it 255 (2 ^ i) ^^^ 2 ^ i = jg_it 13363 (2 ^ i)
    rw [← jg_w16 (by decide) (jg_p16 hi), ← jg_w16 (m := 13363) (by decide) (jg_p16 hi)]
    exact jg_k2 i hi
  exact e
theorem jg_per (q : Nat) {x : Nat} (h : x < 2 ^ 16) : jg_it (65535 * q) x = x := by
  induction q with
  | zero => rfl
  | succ q ih => rw [Nat.mul_succ, jg_it_add, ih, jg_cyc h]
theorem jg_itmod (n : Nat) {x : Nat} (h : x < 2 ^ 16) : jg_it n x = jg_it (n % 65535) x := by
  have e : jg_it (65535 * (n / 65535) + n % 65535) x = jg_it (n % 65535) x := by rw [jg_it_add, jg_per _ h]
  rw [Nat.div_add_mod] at e
  exact e
theorem jg_fixm {d x : Nat} (h : jg_it d x = x) (m : Nat) : jg_it (d * m) x = x := by
  induction m with
  | zero => rfl
  | succ m ih => rw [Nat.mul_succ, jg_it_add, ih, h]
theorem jg_nz (n : Nat) {x : Nat} (hx : x < 2 ^ 16) (h0 : x ≠ 0) : jg_it n x ≠ 0 := by
  intro e
  have h := jg_per n hx
  rw [show 65535 * n = n + 65534 * n by omega, jg_it_add, e, jg_it_0] at h
  exact h0 h.symm
theorem jg_255 {x : Nat} (hx : x < 2 ^ 16) (h0 : x ≠ 0) : jg_it 255 x ≠ x := by
  intro e
  have h := jg_zech hx
  rw [e, Nat.xor_self] at h
  exact jg_nz 13363 hx h0 h.symm
def jg_M : List Nat := [0, 255, 32895, 85, 49215, 51, 10965, 37485, 57375, 7310, 6579, 47685, 16405, 45390, 51510, 17, 61455, 15, 3655, 58650, 9843, 12495, 56610, 48450, 19125, 5253, 22695, 17000, 25755, 49725, 2193, 50745, 63495, 15895, 1935, 7497, 12750, 33660, 29325, 15130, 11475, 41565, 17170, 1530, 28305, 1462, 24225, 44625, 20485, 5355, 9180, 5, 44115, 24735, 8500, 9537, 45645, 19550, 57630, 15555, 3281, 15045, 58140, 4165, 64515, 9078, 18870, 59670, 2895, 16150, 10302, 46155, 6375, 43095, 16830, 1751, 47430, 62985, 7565, 62220, 12291, 20230, 53550, 24480, 8585, 3, 765, 16575, 46920, 6630, 731, 53295, 44880, 16915, 55080, 11730, 21165, 13515, 35445, 12580, 4590, 7140, 645, 1275, 54825, 2499, 45135, 62475, 4250, 57120, 11322, 11220, 55590, 29580, 9775, 9690, 28815, 12325, 40545, 2205, 3825, 4335, 40290, 13855, 29070, 3672, 13005, 21675, 65025, 510, 4539, 52530, 9435, 36465, 29835, 3400, 3375, 61710, 8075, 24990, 5151, 14875, 55845, 33915, 14110, 9945, 54315, 1785, 8415, 17595, 3060, 20400, 23715, 430, 64260, 10149, 14705, 60945, 31110, 8245, 12699, 44370, 10115, 10455, 26775, 3179, 12240, 60435, 15215, 18615, 387, 21080, 33150, 13260, 19210, 11985, 23460, 5185, 3315, 14280, 2550, 18105, 59415, 5015, 22440, 6732, 19380, 2805, 27540, 8670, 5865, 46665, 21505, 1020, 39525, 3026, 50490, 57885, 6290, 7905, 2295, 19890, 3570, 35190, 965, 8313, 33405, 12665, 60180, 23205, 3434, 41310, 55335, 15385, 64005, 306, 2125, 54060, 28560, 14365, 5661, 2670, 5610, 17340, 27795, 2040, 14790, 50235, 15810, 39780, 4845, 20995, 47175, 46410, 17085, 8925, 53040, 20740, 3030, 40035, 4097, 4080, 34935, 14025, 20145, 1071, 17850, 19635, 14535, 8160, 1836, 54570, 17425, 16320, 43605, 1]
theorem jg_M_k : ∀ d, d < 256 → 0 < d → d * jg_M.getD d 0 % 65535 = 255 := by decide +kernel
theorem jg_nofix {d x : Nat} (hd : 0 < d) (hd2 : d < 256) (hx : x < 2 ^ 16) (h0 : x ≠ 0) : jg_it d x ≠ x := by
  intro e
  have h := jg_fixm e (jg_M.getD d 0)
  rw [jg_itmod _ hx, jg_M_k d hd2 hd] at h
  exact jg_255 hx h0 h
theorem jg_ne {a b x : Nat} (hab : a < b) (hb : b < 256) (hx : x < 2 ^ 16) (h0 : x ≠ 0) : jg_it a x ≠ jg_it b x := by
  intro e
  rw [show b = a + (b - a) by omega, jg_it_add] at e
  exact jg_nofix (d := b - a) (by omega) (by omega) (jg_it_lt a hx) (jg_nz a hx h0) e.symm
/-! the exclusive sum of the first n states -/
def jg_S (x : Nat) : Nat → Nat
  | 0 => 0
  | n + 1 => jg_S x n ^^^ jg_it n x
theorem jg_S_lt {x : Nat} (h : x < 2 ^ 16) (n : Nat) : jg_S x n < 2 ^ 16 := by
  induction n with
  | zero => show 0 < 2 ^ 16; decide
  | succ n ih => exact Nat.xor_lt_two_pow ih (jg_it_lt n h)
theorem jg_S_add (x m n : Nat) : jg_S x (m + n) = jg_S x m ^^^ jg_it m (jg_S x n) := by
  induction n with
  | zero =>
    show jg_S x m = jg_S x m ^^^ jg_it m 0
    rw [jg_it_0, Nat.xor_zero]
  | succ n ih =>
    show jg_S x (m + n) ^^^ jg_it (m + n) x = jg_S x m ^^^ jg_it m (jg_S x n ^^^ jg_it n x)
    rw [ih, jg_it_x, jg_it_add, jg_it_c n m, Nat.xor_assoc]
end
section
/-! rows of the kit's BITS text (starting text): nI under and, xor, 65535; shift counts -/
theorem s_l : ∀ n, n < 32 → ((nI n &&& 31).toBitVec.smod 32).toNat = n := by decide +kernel
theorem nx_and (a b : Nat) : nI a &&& nI b = nI (a &&& b) := by
  apply Int32.toBitVec_inj.1
  show BitVec.ofNat 32 a &&& BitVec.ofNat 32 b = BitVec.ofNat 32 (a &&& b)
  apply BitVec.eq_of_getLsbD_eq
  intro i hi
  simp [hi]
theorem nx_xor (a b : Nat) : nI a ^^^ nI b = nI (a ^^^ b) := by
  apply Int32.toBitVec_inj.1
  show BitVec.ofNat 32 a ^^^ BitVec.ofNat 32 b = BitVec.ofNat 32 (a ^^^ b)
  apply BitVec.eq_of_getLsbD_eq
  intro i hi
  simp [hi]
theorem nx_mod (k : Nat) : nI k &&& 65535 = nI (k % 65536) := by
  show nI k &&& nI 65535 = _
  rw [nx_and, show (65535 : Nat) = 2 ^ 16 - 1 from rfl, Nat.and_two_pow_sub_one_eq_mod]
/-! the two steps -/
theorem jg_ea {x : Nat} (hx : x < 2 ^ 16) : nI x ^^^ ((nI x <<< ((7 : Int32) &&& 31)) &&& 65535) = nI (jg_a x) := by
  rw [pk_shlN (n := x) ((7 : Int32) &&& 31) 7 (by decide) (by omega), nx_mod, nx_xor]
  rfl
theorem jg_eb {x : Nat} (hx : x < 2 ^ 16) : nI x ^^^ (nI x >>> ((9 : Int32) &&& 31)) = nI (jg_b x) := by
  rw [pk_shrN (n := x) (by omega) ((9 : Int32) &&& 31) 9 (by decide), nx_xor]
  rfl
theorem jg_ec {x : Nat} (hx : x < 2 ^ 16) : nI x ^^^ ((nI x <<< ((8 : Int32) &&& 31)) &&& 65535) = nI (jg_c x) := by
  rw [pk_shlN (n := x) ((8 : Int32) &&& 31) 8 (by decide) (by omega), nx_mod, nx_xor]
  rfl
theorem jg_la {x : Nat} (hx : x < 2 ^ 16) : (nI x ^^^ (nI x <<< ((7 : Int32) &&& 31))) &&& 65535 = nI (jg_a x) := by
  rw [pk_shlN (n := x) ((7 : Int32) &&& 31) 7 (by decide) (by omega), nx_xor, nx_mod, show (65536 : Nat) = 2 ^ 16 from rfl, Nat.xor_mod_two_pow, Nat.mod_eq_of_lt hx]
  rfl
theorem jg_lc {x : Nat} (hx : x < 2 ^ 16) : (nI x ^^^ (nI x <<< ((8 : Int32) &&& 31))) &&& 65535 = nI (jg_c x) := by
  rw [pk_shlN (n := x) ((8 : Int32) &&& 31) 8 (by decide) (by omega), nx_xor, nx_mod, show (65536 : Nat) = 2 ^ 16 from rfl, Nat.xor_mod_two_pow, Nat.mod_eq_of_lt hx]
  rfl
theorem jg_Xstep {post : Int32 → Prop} {x : Nat} (hx : x < 2 ^ 16) (h : post (nI (jg_st x))) : wpX_step post () (nI x) := by
  unfold wpX_step
  refine nm_r (jg_ea hx) (nm_r (jg_eb (jg_a_lt hx)) ?_)
  rw [jg_ec (jg_b_lt (jg_a_lt hx))]
  exact h
theorem jg_Lstep {post : Int32 → Prop} {x : Nat} (hx : x < 2 ^ 16) (h : post (nI (jg_st x))) : wpL_step post () (nI x) := by
  unfold wpL_step
  refine nm_r (jg_la hx) (nm_r (jg_eb (jg_a_lt hx)) ?_)
  rw [jg_lc (jg_b_lt (jg_a_lt hx))]
  exact h
/-! one bit, the table's places -/
theorem jg_bit {x i : Nat} (hx : x < 2 ^ 31) (hi : i < 32) : ((nI x >>> (nI i &&& 31)) &&& 1) = 0 ↔ x.testBit i = false := by
  have h2 : x / 2 ^ i ≤ x := Nat.div_le_self _ _
  have h3 : x / 2 ^ i % 2 ^ 1 < 2 := Nat.mod_lt _ (by decide)
  rw [pk_shrN hx (nI i &&& 31) i (s_l i hi), pk_andN (by omega) 1 (m := 1) (by decide), ← nI_0, nI_eq (by omega) (by omega), Nat.testBit_eq_decide_div_mod_eq, decide_eq_false_iff_not]
  generalize x / 2 ^ i = z
  omega
theorem jg_ix (k i : Nat) : nI k * 16 + nI i = nI (k * 16 + i) := by
  show nI k * nI 16 + nI i = _
  rw [pk_mul, nI_add]
def jg_Im (a : Nat → Int32) (K : Nat) : Prop := ∀ k, k < K → ∀ i, i < 16 → a (k * 16 + i) = nI (jg_it (2 ^ k) (2 ^ i))
theorem jg_apply {post : Int32 → Prop} {f0 : Int32} {a1 a2 a3 a4 : Nat → Int32} {k x : Nat} (hk : k < 17) (hx : x < 2 ^ 16)
    (hI : ∀ i, i < 16 → a2 (k * 16 + i) = nI (jg_it (2 ^ k) (2 ^ i))) (h : post (nI (jg_it (2 ^ k) x))) : wpX_apply post (f0, a1, a2, a3, a4) (nI k) (nI x) := by
  refine pk_loop (fun n i s => wX_apply_5 post (nI k) (nI x) f0 a1 a2 a3 a4 n s (nI i)) (fun i s => s = nI (jg_bs (fun i => jg_it (2 ^ k) (2 ^ i)) x i)) 16 0 0 (by omega) rfl ?_ ?_
  · intro n s hs
    refine pk_le 16 16 (fun _ => ?_) (fun z => absurd z (by omega))
    rw [hs, jg_lin _ hx]
    exact h
  · intro n i s hi hs hw
    refine pk_le 16 i (fun z => absurd z (by omega)) (fun _ => ?_)
    refine ek_if (jg_bit (x := x) (i := i) (by omega) (by omega)) (fun b => ?_) (fun b => ?_)
    · exact nm_r (nI_1 i) (hw s (by rw [hs, jg_bs_f b]))
    · have e : (nI k * 16 + nI i).toNatClampNeg = k * 16 + i := by rw [jg_ix, nI_clamp (by omega)]
      refine ⟨pk_in (k * 16 + i) 272 (by omega) (jg_ix k i), ?_⟩
      rw [e, hI i hi, hs, nx_xor]
      exact nm_e (nm_r (nI_1 i) (hw _ (by rw [jg_bs_t (jg_nf b)])))
theorem jg_wind24 {post : Int32 → Prop} {f0 : Int32} {a1 a2 a3 a4 : Nat → Int32} {m x : Nat} (hI : jg_Im a2 17) (hm : m < 2 ^ 16) (hx : x < 2 ^ 16)
    (h : post (nI (jg_it m x))) : ∃ n, wX_wind_24 post (nI m) f0 a1 a2 a3 a4 n (nI x) 0 := by
  refine pk_loop (fun n i s => wX_wind_24 post (nI m) f0 a1 a2 a3 a4 n s (nI i)) (fun i s => s = nI (jg_it (m % 2 ^ i) x)) 16 0 (nI x) (by omega) (by rw [Nat.pow_zero, Nat.mod_one]; rfl) ?_ ?_
  · intro n s hs
    refine pk_le 16 16 (fun _ => ?_) (fun z => absurd z (by omega))
    rw [hs, Nat.mod_eq_of_lt hm]
    exact h
  · intro n i s hi hs hw
    refine pk_le 16 i (fun z => absurd z (by omega)) (fun _ => ?_)
    refine ek_if (jg_bit (x := m) (i := i) (by omega) (by omega)) (fun b => ?_) (fun b => ?_)
    · exact nm_r (nI_1 i) (hw s (by rw [hs, jg_mod_f b]))
    · rw [hs]
      refine jg_apply (by omega) (jg_it_lt _ hx) (hI i (by omega)) ?_
      exact nm_r (nI_1 i) (hw _ (by rw [jg_mod_t (jg_nf b), jg_it_add]))
theorem jg_wind {post : Int32 → Prop} {f0 : Int32} {a1 a2 a3 a4 : Nat → Int32} {m x : Nat} (hI : jg_Im a2 17) (hm : m < 65535) (hx : x < 2 ^ 16)
    (h : post (nI (jg_it m x))) : wpX_wind post (f0, a1, a2, a3, a4) (nI x) (nI m) := by
  refine ⟨by decide, nm_r (e' := nI m) ?_ (br_t (nI_pos' (by omega)) (jg_wind24 hI (by omega) hx h))⟩
  show nI m - nI m / nI 65535 * nI 65535 = nI m
  rw [pk_rem (by omega) (by omega) (by omega), Nat.mod_eq_of_lt hm]
theorem jg_neg1 : ∀ m, m < 64 → (-nI m) - (-nI m) / 65535 * 65535 = -nI m := by decide +kernel
theorem jg_neg2 : ∀ m, m < 64 → 0 < m → ¬ 0 ≤ -nI m := by decide +kernel
theorem jg_neg3 : ∀ m, m < 64 → -nI m + 65535 = nI (65535 - m) := by decide +kernel
theorem jg_windN {post : Int32 → Prop} {f0 : Int32} {a1 a2 a3 a4 : Nat → Int32} {m x : Nat} (hI : jg_Im a2 17) (hm : m < 64) (hx : x < 2 ^ 16)
    (h : post (nI (jg_it (65535 - m) x))) : wpX_wind post (f0, a1, a2, a3, a4) (nI x) (-nI m) := by
  refine ⟨by decide, nm_r (jg_neg1 m hm) ?_⟩
  rcases Nat.eq_zero_or_pos m with z | z
  · subst z
    rw [show (65535 : Nat) - 0 = 65535 from rfl, jg_cyc hx] at h
    exact br_t (by decide) (jg_wind24 (m := 0) hI (by decide) hx h)
  · exact br_f (jg_neg2 m hm z) (nm_r (jg_neg3 m hm) (jg_wind24 hI (by omega) hx h))
end
section
/-! the law's own steps; pick -/
theorem jg_steps {post : Int32 → Prop} {x m : Nat} (hx : x < 2 ^ 16) (hm : m ≤ 64) (h : post (nI (jg_it m x))) : wpL_steps post () (nI x) (nI m) := by
  refine pk_loop (fun n k s => wL_steps_4 post (nI m) n s (nI k)) (fun k s => s = nI (jg_it (min k m) x)) 64 0 (nI x) (by omega) (by rw [Nat.zero_min]; rfl) ?_ ?_
  · intro n s hs
    refine pk_le 64 64 (fun _ => ?_) (fun z => absurd z (by omega))
    rw [hs, show min 64 m = m by omega]
    exact h
  · intro n k s hk hs hw
    refine pk_le 64 k (fun z => absurd z (by omega)) (fun _ => ?_)
    refine pk_le m k (fun z => ?_) (fun z => ?_)
    · exact nm_r (nI_1 k) (hw s (by rw [hs, show min (k + 1) m = min k m by omega]))
    · rw [hs]
      refine jg_Lstep (jg_it_lt _ hx) ?_
      exact nm_r (nI_1 k) (hw _ (by rw [show min (k + 1) m = min k m + 1 by omega, jg_it_s]))
theorem jg_pick {post : Int32 → Prop} {L : Nat} {xs : Nat → Int32} {p : Int32} {i d : Nat} (hp : p = nI i) (hi : i < 2 ^ 31) (hL : L < 2 ^ 31) (h0 : 0 < d) (hd : d < 2 ^ 31)
    (h : ∀ v, v < d → post (nI v)) : wpL_pick post L xs () p (nI d) := by
  subst hp
  have H : ∀ c : Int32, post ((c &&& 2147483647) - (c &&& 2147483647) / nI d * nI d) := by
    intro c
    rw [pk_and c 31 (by decide), pk_rem (Nat.mod_lt _ (by decide)) h0 hd]
    exact h _ (Nat.mod_lt _ h0)
  exact pk_le L i (fun _ => ⟨nI_ne0 h0 hd, H 0⟩) (fun z => ⟨pk_in i L z, nm_e ⟨nI_ne0 h0 hd, H _⟩⟩)
/-! the exclusive sum of a row of states -/
theorem jg_half {n i : Nat} : n / 2 ^ i = 2 * (n / 2 ^ (i + 1)) + n / 2 ^ i % 2 := by
  rw [Nat.pow_succ, ← Nat.div_div_eq_div_mul]
  generalize n / 2 ^ i = z
  omega
theorem jg_half_f {n i : Nat} (b : n.testBit i = false) : n / 2 ^ i = n / 2 ^ (i + 1) + n / 2 ^ (i + 1) := by
  rw [Nat.testBit_eq_decide_div_mod_eq, decide_eq_false_iff_not] at b
  have h := jg_half (n := n) (i := i)
  generalize n / 2 ^ i = z at b h ⊢
  generalize n / 2 ^ (i + 1) = y at h ⊢
  omega
theorem jg_half_t {n i : Nat} (b : n.testBit i = true) : n / 2 ^ i = n / 2 ^ (i + 1) + n / 2 ^ (i + 1) + 1 := by
  rw [Nat.testBit_eq_decide_div_mod_eq, decide_eq_true_iff] at b
  have h := jg_half (n := n) (i := i)
  generalize n / 2 ^ i = z at b h ⊢
  generalize n / 2 ^ (i + 1) = y at h ⊢
  omega
theorem jg_twice (n : Nat) : nI n * 2 = nI (n + n) := by
  show nI n * nI 2 = _
  rw [pk_mul, Nat.mul_two]
theorem jg_mixed {post : Int32 → Prop} {a1 a2 a3 a4 : Nat → Int32} {x n : Nat} (hI : jg_Im a2 17) (hx : x < 2 ^ 16) (hn : n < 64)
    (h : post (nI (jg_S x n))) : wpX_mixed post (nI x, a1, a2, a3, a4) (nI n) := by
  have L : ∃ fu : Nat, wX_mixed_20 post (nI n) (nI x) a1 a2 a3 a4 fu 0 0 16 := by
    refine ⟨17 + 1, pk_loopD (fun f i (s : Int32 × Int32) => wX_mixed_20 post (nI n) (nI x) a1 a2 a3 a4 f s.1 s.2 (nI i + (-1))) (fun i s => i ≤ 17 ∧ s = (nI (jg_S x (n / 2 ^ i)), nI (n / 2 ^ i))) ?_ ?_ 17 (0, 0) ?_⟩
    · intro f s hs
      obtain ⟨_, rfl⟩ := hs
      refine br_t (by decide) ?_
      dsimp only
      rw [Nat.pow_zero, Nat.div_one]
      exact h
    · intro f i s hs hw
      obtain ⟨hi, rfl⟩ := hs
      dsimp only
      rw [pk_m1]
      have q : n / 2 ^ (i + 1) ≤ n := Nat.div_le_self _ _
      refine br_f (nI_pos (by omega)) ?_
      refine jg_wind hI (by omega) (jg_S_lt hx _) ?_
      rw [nx_xor, ← jg_S_add, jg_twice]
      refine nm_e (nm_e ?_)
      refine ek_if (jg_bit (x := n) (i := i) (by omega) (by omega)) (fun b => ?_) (fun b => ?_)
      · exact nm_e (hw (_, _) ⟨by omega, by rw [jg_half_f b]; rfl⟩)
      · refine jg_wind hI (by omega) hx ?_
        refine nm_e (nm_e (nm_e (hw (_, _) ⟨by omega, ?_⟩)))
        rw [jg_half_t (jg_nf b), nx_xor, nI_1]
        rfl
    · refine ⟨Nat.le_refl _, ?_⟩
      rw [Nat.div_eq_of_lt (by omega)]
      rfl
  exact br_f (nI_pos (by omega)) (br_t (nI_le (b := 100000) (by omega) (by decide)) L)
/-! the first state of a row that is round -/
def jg_R (x K : Nat) (r : Int32) : Prop := (∃ m, m < K ∧ r = nI m ∧ jg_it m x % 16 = 0 ∧ ∀ i, i < m → jg_it i x % 16 ≠ 0) ∨ (r = -1 ∧ ∀ i, i < K → jg_it i x % 16 ≠ 0)
theorem jg_and15 {y : Nat} (hy : y < 2 ^ 16) {m : Int32} (hm : m.toBitVec.toNat = 2 ^ 4 - 1) : nI y &&& m = 0 ↔ y % 16 = 0 := by
  have h : y % 2 ^ 4 < 16 := Nat.mod_lt _ (by decide)
  rw [pk_andN (by omega) 4 hm, ← nI_0, nI_eq (by omega) (by omega)]
theorem jg_round {post : Int32 → Prop} {a1 a2 a3 a4 : Nat → Int32} {x : Nat} (hx : x < 2 ^ 16) (h : ∀ r, jg_R x 65535 r → post r) : wpX_nextRound post (nI x, a1, a2, a3, a4) 4 := by
  refine br_f (by decide) (br_t (by decide) ?_)
  refine pk_loop (fun n k s => wX_nextRound_19 post 4 (nI x) a1 a2 a3 a4 n s (nI k)) (fun k s => s = nI (jg_it k x) ∧ ∀ i, i < k → jg_it i x % 16 ≠ 0) 65535 0 (nI x) (by omega) ⟨rfl, fun i hi => absurd hi (by omega)⟩ ?_ ?_
  · intro n s hs
    exact pk_le 65535 65535 (fun _ => h _ (Or.inr ⟨rfl, hs.2⟩)) (fun z => absurd z (by omega))
  · intro n k s hk hs hw
    obtain ⟨rfl, hb⟩ := hs
    refine pk_le 65535 k (fun z => absurd z (by omega)) (fun _ => ?_)
    refine ek_if (jg_and15 (jg_it_lt k hx) (by decide)) (fun b => ?_) (fun b => ?_)
    · exact h _ (Or.inl ⟨k, hk, rfl, b, hb⟩)
    · refine jg_Xstep (jg_it_lt k hx) ?_
      refine nm_r (nI_1 k) (hw _ ⟨by rw [jg_it_s], fun i hi => ?_⟩)
      rcases Nat.lt_or_ge i k with z | z
      · exact hb i z
      · rw [show i = k by omega]
        exact b
/-! the small methods -/
theorem jg_isState {post : Int32 → Prop} {x : Nat} (h0 : x ≠ 0) (hx : x < 2 ^ 16) (h : post 1) : wpX_isState post () (nI x) :=
  pk_lt x 1 (fun z => absurd z (by omega)) (fun _ => pk_lt 65535 x (fun z => absurd z (by omega)) (fun _ => h))
theorem jg_isState2 {post : Int32 → Prop} {x : Nat} (hx : x < 65537) (h0 : x = 0 ∨ x = 65536 → post 0) (h1 : x ≠ 0 ∧ x < 2 ^ 16 → post 1) : wpX_isState post () (nI x) :=
  pk_lt x 1 (fun z => h0 (by omega)) (fun z => pk_lt 65535 x (fun y => h0 (by omega)) (fun y => h1 (by omega)))
theorem jg_seed {post : Int32 → St1 → Prop} {f0 : Int32} {a1 a2 a3 a4 : Nat → Int32} {x : Nat} (hx : x < 65537) (h0 : x = 0 ∨ x = 65536 → post 0 (f0, a1, a2, a3, a4))
    (h1 : x ≠ 0 ∧ x < 2 ^ 16 → post 1 (nI x, a1, a2, a3, a4)) : wpX_seed post (f0, a1, a2, a3, a4) (nI x) := by
  unfold wpX_seed
  exact jg_isState2 hx (fun z => br_t rfl (h0 z)) (fun z => br_f (by decide) (h1 z))
theorem jg_next {post : Int32 → St1 → Prop} {a1 a2 a3 a4 : Nat → Int32} {x : Nat} (hx : x < 2 ^ 16)
    (h : post (nI (jg_st x)) (nI (jg_st x), a1, a2, a3, a4)) : wpX_next post (nI x, a1, a2, a3, a4) :=
  jg_Xstep (post := fun r => post r (r, a1, a2, a3, a4)) hx h
theorem jg_jump {post : Int32 → St1 → Prop} {a1 a2 a3 a4 : Nat → Int32} {x n : Nat} (hI : jg_Im a2 17) (hx : x < 2 ^ 16) (hn : n < 64)
    (h : post (nI (jg_it n x)) (nI (jg_it n x), a1, a2, a3, a4)) : wpX_jump post (nI x, a1, a2, a3, a4) (nI n) :=
  br_f ((by decide +kernel : ∀ m, m < 64 → ¬ nI m < (-100000)) n hn) (br_t (nI_le (b := 100000) (by omega) (by decide)) (jg_wind (post := fun r => post r (r, a1, a2, a3, a4)) hI (by omega) hx h))
theorem jg_jumpN {post : Int32 → St1 → Prop} {a1 a2 a3 a4 : Nat → Int32} {x n : Nat} (hI : jg_Im a2 17) (hx : x < 2 ^ 16) (hn : n < 64)
    (h : post (nI (jg_it (65535 - n) x)) (nI (jg_it (65535 - n) x), a1, a2, a3, a4)) : wpX_jump post (nI x, a1, a2, a3, a4) (-nI n) :=
  br_f ((by decide +kernel : ∀ m, m < 64 → ¬ -nI m < (-100000)) n hn) (br_t ((by decide +kernel : ∀ m, m < 64 → -nI m ≤ 100000) n hn) (jg_windN (post := fun r => post r (r, a1, a2, a3, a4)) hI hn hx h))
theorem jg_before {post : Int32 → Prop} {f0 : Int32} {a1 a2 a3 a4 : Nat → Int32} {x n : Nat} (hI : jg_Im a2 17) (h0 : x ≠ 0) (hx : x < 2 ^ 16) (hn : n < 64)
    (h : post (nI (jg_it (65535 - n) x))) : wpX_before post (f0, a1, a2, a3, a4) (nI x) (nI n) := by
  unfold wpX_before
  exact jg_isState h0 hx (br_f (by decide) (br_f (nI_pos (by omega)) (br_f (nI_nlt (a := 100000) (by omega) (by decide)) (jg_windN hI hn hx h))))
theorem jg_isMark {post : Int32 → Prop} {m : Nat} (hm : m < 9) (h0 : m = 8 → post 0) (h1 : m < 8 → post 1) : wpX_isMark post () (nI m) :=
  br_f (nI_pos (by omega)) (pk_le 8 m (fun z => h0 (by omega)) (fun z => h1 z))
theorem jg_mark {post : Int32 → St1 → Prop} {f0 : Int32} {a1 a2 a3 a4 : Nat → Int32} {m : Nat} (hm : m < 9) (h0 : m = 8 → post 0 (f0, a1, a2, a3, a4))
    (h1 : m < 8 → post 1 (f0, upd a1 m f0, a2, a3, a4)) : wpX_mark post (f0, a1, a2, a3, a4) (nI m) := by
  unfold wpX_mark
  refine jg_isMark hm (fun z => br_t rfl (h0 z)) (fun z => br_f (by decide) ⟨pk_in m 8 z, ?_⟩)
  rw [nI_clamp (by omega)]
  exact nm_e (h1 z)
theorem jg_back {post : Int32 → St1 → Prop} {f0 : Int32} {a1 a2 a3 a4 : Nat → Int32} {m : Nat} (hm : m < 9) (h0 : m = 8 ∨ a1 m = 0 → post 0 (f0, a1, a2, a3, a4))
    (h1 : m < 8 → ¬ a1 m = 0 → post 1 (a1 m, a1, a2, a3, a4)) : wpX_back post (f0, a1, a2, a3, a4) (nI m) := by
  unfold wpX_back
  refine jg_isMark hm (fun z => br_t rfl (h0 (Or.inl z))) (fun z => br_f (by decide) ⟨pk_in m 8 z, ?_⟩)
  rw [nI_clamp (by omega)]
  exact br_c (fun y => h0 (Or.inr y)) (fun y => ⟨pk_in m 8 z, nm_e (h1 z y)⟩)
end
section
/-! the places of the noted states -/
def jg_h (v : Int32) : Nat := ((v * 40503) >>> ((6 : Int32) &&& 31)).toBitVec.toNat % 2 ^ 10
theorem jg_h_eq (v : Int32) : ((v * 40503) >>> ((6 : Int32) &&& 31)) &&& 1023 = nI (jg_h v) := pk_and _ 10 (by decide)
theorem jg_h_lt (v : Int32) : jg_h v < 1024 := Nat.mod_lt _ (by decide)
def jg_pl (v : Int32) (t : Nat) : Nat := (jg_h v + t) % 1024
theorem jg_pl_lt (v : Int32) (t : Nat) : jg_pl v t < 1024 := Nat.mod_lt _ (by decide)
theorem jg_pl_c (v : Int32) (t : Nat) : (nI (jg_pl v t)).toNatClampNeg = jg_pl v t := nI_clamp (by have := jg_pl_lt v t; omega)
theorem jg_pl_0 (v : Int32) : jg_pl v 0 = jg_h v := Nat.mod_eq_of_lt (jg_h_lt v)
theorem jg_pl_s (v : Int32) (t : Nat) : (nI (jg_pl v t) + 1) &&& 1023 = nI (jg_pl v (t + 1)) := by
  have h := jg_pl_lt v t
  have e : (jg_pl v t + 1) % 2 ^ 10 = jg_pl v (t + 1) := by
    show ((jg_h v + t) % 1024 + 1) % 1024 = (jg_h v + (t + 1)) % 1024
    omega
  rw [nI_1, pk_andN (by omega) 10 (by decide), e]
theorem jg_place {post : Int32 → Prop} {f0 : Int32} {a1 a2 a3 a4 : Nat → Int32} {v : Int32} {t : Nat} (ht : t < 1024)
    (hb : ∀ s, s < t → ¬ a3 (jg_pl v s) = 0 ∧ ¬ a3 (jg_pl v s) = v) (he : a3 (jg_pl v t) = 0 ∨ a3 (jg_pl v t) = v) (h : post (nI (jg_pl v t))) : wpX_placeOf post (f0, a1, a2, a3, a4) v := by
  refine nm_r (jg_h_eq v) ?_
  have L : ∃ n, wX_placeOf_14 post v f0 a1 a2 a3 a4 n (nI (jg_pl v 0)) (nI 0) := by
    refine pk_loop (σ := Unit) (fun n i _ => wX_placeOf_14 post v f0 a1 a2 a3 a4 n (nI (jg_pl v i)) (nI i)) (fun _ _ => True) t 0 () (by omega) trivial ?_ ?_
    · intro n _ _
      refine pk_le 1024 t (fun z => absurd z (by omega)) (fun _ => ⟨pk_in _ 1024 (jg_pl_lt v t), ?_⟩)
      rw [jg_pl_c]
      exact br_c (fun _ => h) (fun z => ⟨pk_in _ 1024 (jg_pl_lt v t), br_t (he.resolve_left z) h⟩)
    · intro n i _ hi _ hw
      refine pk_le 1024 i (fun z => absurd z (by omega)) (fun _ => ⟨pk_in _ 1024 (jg_pl_lt v i), ?_⟩)
      rw [jg_pl_c]
      exact br_f (hb i hi).1 ⟨pk_in _ 1024 (jg_pl_lt v i), br_f (hb i hi).2 (nm_r (jg_pl_s v i) (nm_r (nI_1 i) (hw () trivial)))⟩
  rw [jg_pl_0] at L
  exact L
/-! how many places are taken -/
def jg_cnt (a : Nat → Int32) : Nat → Nat
  | 0 => 0
  | n + 1 => jg_cnt a n + (if a n = 0 then 0 else 1)
theorem jg_cnt_full {a : Nat → Int32} {n : Nat} (h : ∀ i, i < n → ¬ a i = 0) : jg_cnt a n = n := by
  induction n with
  | zero => rfl
  | succ n ih =>
    show jg_cnt a n + (if a n = 0 then 0 else 1) = n + 1
    rw [ih (fun i hi => h i (by omega)), if_neg (h n (by omega))]
theorem jg_cnt_0 {a : Nat → Int32} {n : Nat} (h : ∀ i, i < n → a i = 0) : jg_cnt a n = 0 := by
  induction n with
  | zero => rfl
  | succ n ih =>
    show jg_cnt a n + (if a n = 0 then 0 else 1) = 0
    rw [ih (fun i hi => h i (by omega)), if_pos (h n (by omega))]
theorem jg_cnt_u {a : Nat → Int32} {k : Nat} {v : Int32} (n : Nat) : jg_cnt (upd a k v) n ≤ jg_cnt a n + 1 ∧ (n ≤ k → jg_cnt (upd a k v) n = jg_cnt a n) := by
  induction n with
  | zero => exact ⟨Nat.le_succ _, fun _ => rfl⟩
  | succ n ih =>
    obtain ⟨h1, h2⟩ := ih
    have e1 : jg_cnt (upd a k v) (n + 1) = jg_cnt (upd a k v) n + (if upd a k v n = 0 then 0 else 1) := rfl
    have e2 : jg_cnt a (n + 1) = jg_cnt a n + (if a n = 0 then 0 else 1) := rfl
    by_cases hk : n = k
    · have h3 := h2 (by omega)
      refine ⟨?_, fun z => absurd z (by omega)⟩
      rw [e1, e2, h3]
      split <;> split <;> omega
    · rw [pk_un hk] at e1
      refine ⟨by rw [e1, e2]; omega, fun z => ?_⟩
      rw [e1, e2, h2 (by omega)]
theorem jg_free {a : Nat → Int32} (v : Int32) (hc : jg_cnt a 1024 < 1024) : ∃ t, t < 1024 ∧ a (jg_pl v t) = 0 := by
  refine Classical.byContradiction (fun hn => ?_)
  have h : ∀ c, c < 1024 → ¬ a c = 0 := by
    intro c hc1 hz
    refine hn ⟨(c + 1024 - jg_h v) % 1024, Nat.mod_lt _ (by decide), ?_⟩
    have hh := jg_h_lt v
    have e : jg_pl v ((c + 1024 - jg_h v) % 1024) = c := by
      show (jg_h v + (c + 1024 - jg_h v) % 1024) % 1024 = c
      omega
    rw [e]
    exact hz
  rw [jg_cnt_full h] at hc
  omega
theorem jg_stop {a : Nat → Int32} (v : Int32) (hc : jg_cnt a 1024 < 1024) : ∃ t, t < 1024 ∧ (∀ s, s < t → ¬ a (jg_pl v s) = 0 ∧ ¬ a (jg_pl v s) = v) ∧ (a (jg_pl v t) = 0 ∨ a (jg_pl v t) = v) := by
  obtain ⟨t, ht, hz⟩ := jg_free v hc
  obtain ⟨k, hk, hl⟩ := pk_least (fun s => a (jg_pl v s) = 0 ∨ a (jg_pl v s) = v) ⟨t, Or.inl hz⟩
  have hkt : k ≤ t := Nat.not_lt.mp (fun z => hl t z (Or.inl hz))
  exact ⟨k, by omega, fun s hs => ⟨fun z => hl s hs (Or.inl z), fun z => hl s hs (Or.inr z)⟩, hk⟩
/-! what the two arrays hold when j states are noted -/
def jg_F (a3 a4 : Nat → Int32) (v : Int32) (i : Nat) : Prop :=
  ∃ t, t < 1024 ∧ a3 (jg_pl v t) = v ∧ a4 (jg_pl v t) = nI i ∧ ∀ s, s < t → ¬ a3 (jg_pl v s) = 0 ∧ ¬ a3 (jg_pl v s) = v
def jg_H (g j : Nat) (a3 a4 : Nat → Int32) : Prop :=
  jg_cnt a3 1024 ≤ j ∧ (∀ i, i < j → jg_F a3 a4 (nI (jg_it i g)) i) ∧ (∀ c, c < 1024 → a3 c = 0 ∨ ∃ i, i < j ∧ a3 c = nI (jg_it i g))
theorem jg_v0 (i : Nat) {g : Nat} (hg : g < 2 ^ 16) (h0 : g ≠ 0) : ¬ nI (jg_it i g) = 0 := by
  have h1 := jg_it_lt i hg
  have h2 := jg_nz i hg h0
  exact nI_ne0 (by omega) (by omega)
theorem jg_H_0 {g : Nat} {a3 a4 : Nat → Int32} (h : ∀ i, i < 1024 → a3 i = 0) : jg_H g 0 a3 a4 :=
  ⟨by rw [jg_cnt_0 h]; exact Nat.le_refl 0, fun i hi => absurd hi (by omega), fun c hc => Or.inl (h c hc)⟩
theorem jg_H_add {g j t : Nat} {a3 a4 : Nat → Int32} (hg : g < 2 ^ 16) (h0 : g ≠ 0) (hj : j < 256) (H : jg_H g j a3 a4) (ht : t < 1024)
    (hb : ∀ s, s < t → ¬ a3 (jg_pl (nI (jg_it j g)) s) = 0 ∧ ¬ a3 (jg_pl (nI (jg_it j g)) s) = nI (jg_it j g))
    (he : a3 (jg_pl (nI (jg_it j g)) t) = 0 ∨ a3 (jg_pl (nI (jg_it j g)) t) = nI (jg_it j g)) :
    jg_H g (j + 1) (upd a3 (jg_pl (nI (jg_it j g)) t) (nI (jg_it j g))) (upd a4 (jg_pl (nI (jg_it j g)) t) (nI j)) := by
  obtain ⟨H1, H2, H3⟩ := H
  have hv := jg_v0 j hg h0
  have hz : a3 (jg_pl (nI (jg_it j g)) t) = 0 := by
    refine he.resolve_right (fun e => ?_)
    rcases H3 _ (jg_pl_lt (nI (jg_it j g)) t) with z | ⟨i, hi, z⟩
    · exact hv (e.symm.trans z)
    · have l1 := jg_it_lt i hg
      have l2 := jg_it_lt j hg
      exact jg_ne hi hj hg h0 ((nI_eq (by omega) (by omega)).mp (z.symm.trans e))
  generalize hp : jg_pl (nI (jg_it j g)) t = p at hz ⊢
  have keep : ∀ c, ¬ a3 c = 0 → c ≠ p := fun c hc e => hc (by rw [e]; exact hz)
  refine ⟨Nat.le_trans (jg_cnt_u 1024).1 (by omega), fun i hi => ?_, fun c hc => ?_⟩
  · rcases Nat.lt_or_ge i j with z | z
    · obtain ⟨t', k1, k2, k3, k4⟩ := H2 i z
      have q : jg_pl (nI (jg_it i g)) t' ≠ p := keep _ (by rw [k2]; exact jg_v0 i hg h0)
      refine ⟨t', k1, by rw [pk_un q]; exact k2, by rw [pk_un q]; exact k3, fun s hs => ?_⟩
      rw [pk_un (keep _ (k4 s hs).1)]
      exact k4 s hs
    · have e : i = j := by omega
      subst e
      refine ⟨t, ht, by rw [hp, pk_us], by rw [hp, pk_us], fun s hs => ?_⟩
      rw [pk_un (keep _ (hb s hs).1)]
      exact hb s hs
  · by_cases e : c = p
    · exact Or.inr ⟨j, by omega, by rw [e, pk_us]⟩
    · rw [pk_un e]
      rcases H3 c hc with z | ⟨i, hi, z⟩
      · exact Or.inl z
      · exact Or.inr ⟨i, by omega, z⟩
theorem jg_short : ∀ j, j < 256 → (nI j).toInt16.toInt32 = nI j := by decide +kernel
theorem jg_note26 {post : St1 → Prop} {f0 : Int32} {a1 a2 a3 a4 : Nat → Int32} {g : Nat} (hg : g < 2 ^ 16) (h0 : g ≠ 0) (H : jg_H g 0 a3 a4)
    (h : ∀ b3 b4, jg_H g 256 b3 b4 → post (f0, a1, a2, b3, b4)) : ∃ n, wX_noteFrom_26 post f0 n (nI g) 0 a1 a2 a3 a4 := by
  refine pk_loop (fun n j (s : Int32 × (Nat → Int32) × (Nat → Int32)) => wX_noteFrom_26 post f0 n s.1 (nI j) a1 a2 s.2.1 s.2.2) (fun j s => s.1 = nI (jg_it j g) ∧ jg_H g j s.2.1 s.2.2) 256 0 (nI g, a3, a4) (by omega) ⟨rfl, H⟩ ?_ ?_
  · intro n s hs
    exact pk_le 256 256 (fun _ => h _ _ hs.2) (fun z => absurd z (by omega))
  · intro n j s hj hs hw
    obtain ⟨x, b3, b4⟩ := s
    obtain ⟨e, K⟩ := hs
    have e' : x = nI (jg_it j g) := e
    have K' : jg_H g j b3 b4 := K
    subst e'
    obtain ⟨t, ht, hb, he⟩ := jg_stop (nI (jg_it j g)) (Nat.lt_of_le_of_lt K'.1 (show j < 1024 by omega))
    refine pk_le 256 j (fun z => absurd z (by omega)) (fun _ => ?_)
    refine jg_place ht hb he ⟨pk_in _ 1024 (jg_pl_lt _ t), ?_⟩
    rw [jg_pl_c, jg_short j hj]
    refine nm_e ⟨pk_in _ 1024 (jg_pl_lt _ t), nm_e (jg_Xstep (jg_it_lt j hg) (nm_r (nI_1 j) ?_))⟩
    exact hw (nI (jg_st (jg_it j g)), _, _) ⟨by rw [jg_it_s], jg_H_add hg h0 hj K' ht hb he⟩
theorem jg_note {post : St1 → Prop} {f0 : Int32} {a1 a2 a3 a4 : Nat → Int32} {g : Nat} (hg : g < 2 ^ 16) (h0 : g ≠ 0)
    (h : ∀ b3 b4, jg_H g 256 b3 b4 → post (f0, a1, a2, b3, b4)) : wpX_noteFrom post (f0, a1, a2, a3, a4) (nI g) := by
  refine pk_loop (fun n i s => wX_noteFrom_2 post (nI g) f0 n (nI i) a1 a2 s a4) (fun i s => ∀ j, j < i → s j = 0) 1024 0 a3 (by omega) (fun j hj => absurd hj (by omega)) ?_ ?_
  · intro n s hs
    exact pk_le 1024 1024 (fun _ => jg_note26 hg h0 (jg_H_0 hs) h) (fun z => absurd z (by omega))
  · intro n i s hi hs hw
    refine pk_le 1024 i (fun z => absurd z (by omega)) (fun _ => ⟨pk_in i 1024 hi, ?_⟩)
    rw [nI_clamp (by omega)]
    refine nm_e (nm_r (nI_1 i) (hw _ (fun j hj => ?_)))
    by_cases e : j = i
    · rw [e, pk_us]
    · rw [pk_un e]
      exact hs j (by omega)
theorem jg_256 : ∀ n, n < 256 → (256 * 1 : Int32) - nI (256 - n) = nI n := by decide +kernel
theorem jg_stepsX {post : Int32 → St1 → Prop} {f0 : Int32} {a1 a2 a3 a4 : Nat → Int32} {x n : Nat} (hI : jg_Im a2 17) (hx : x < 2 ^ 16) (h0 : x ≠ 0) (hn : n < 64)
    (h : ∀ b3 b4, post (nI n) (f0, a1, a2, b3, b4)) : wpX_steps post (f0, a1, a2, a3, a4) (nI x) (nI (jg_it n x)) := by
  have l := jg_it_lt n hx
  rcases Nat.eq_zero_or_pos n with z | z
  · subst z
    exact br_t rfl (h a3 a4)
  · have ne : ¬ nI x = nI (jg_it n x) := fun e => jg_nofix z (by omega) hx h0 ((nI_eq (by omega) (by omega)).mp e).symm
    refine br_f ne (jg_note l (jg_nz n hx h0) (fun b3 b4 H => ?_))
    have w : ∀ f, wX_steps_17 post f0 a1 a2 b3 b4 (f + 1) (nI x) 1 := by
      intro f
      refine br_f (by decide) (jg_apply (k := 8) (by omega) hx (hI 8 (by omega)) ?_)
      have e : jg_it (2 ^ 8) x = jg_it (256 - n) (jg_it n x) := by
        rw [← jg_it_add, show n + (256 - n) = 2 ^ 8 by omega]
      rw [e]
      obtain ⟨t, ht, k1, k2, k3⟩ := H.2.1 (256 - n) (by omega)
      refine jg_place ht k3 (Or.inr k1) ⟨pk_in _ 1024 (jg_pl_lt _ t), ?_⟩
      rw [jg_pl_c, k1, k2]
      refine br_t rfl ⟨pk_in _ 1024 (jg_pl_lt _ t), ?_⟩
      rw [jg_256 n (by omega)]
      exact h b3 b4
    exact ⟨_, w 0⟩
theorem jg_distance {post : Int32 → St1 → Prop} {a1 a2 a3 a4 : Nat → Int32} {x n : Nat} (hI : jg_Im a2 17) (hx : x < 2 ^ 16) (h0 : x ≠ 0) (hn : n < 64)
    (h : ∀ b3 b4, post (nI n) (nI x, a1, a2, b3, b4)) : wpX_distance post (nI x, a1, a2, a3, a4) (nI (jg_it n x)) := by
  unfold wpX_distance
  exact jg_isState (jg_nz n hx h0) (jg_it_lt n hx) (br_f (by decide) (jg_stepsX hI hx h0 hn (fun b3 b4 => h b3 b4)))
end
section
/-! the constructor fills the table -/
theorem jg_one : ∀ i, i < 16 → (1 : Int32) <<< (nI i &&& 31) = nI (2 ^ i) := by decide +kernel
theorem jg_init80 {post : St1 → Prop} {mc ms kc ks : Nat} {f0 : Int32} {J : Int32 → (Nat → Int32) → (Nat → Int32) → (Nat → Int32) → (Nat → Int32) → Prop} {a1 a2 a3 a4 : Nat → Int32} {k : Nat} (hk0 : 0 < k) (hk : k < 17)
    (hI : jg_Im a2 k) (hJ : ∀ b2, jg_Im b2 (k + 1) → J (nI (k + 1)) a1 b2 a3 a4) : ∃ n, wX_init_80 post mc ms J (nI k) kc ks f0 n 0 a1 a2 a3 a4 := by
  have ek : nI k - 1 = nI (k - 1) := by
    show nI k - nI 1 = _
    rw [pk_sub hk0]
  refine pk_loop (fun n i s => wX_init_80 post mc ms J (nI k) kc ks f0 n (nI i) a1 s a3 a4) (fun i s => jg_Im s k ∧ ∀ j, j < i → s (k * 16 + j) = nI (jg_it (2 ^ k) (2 ^ j))) 16 0 a2 (by omega) ⟨hI, fun j hj => absurd hj (by omega)⟩ ?_ ?_
  · intro n s hs
    refine pk_le 16 16 (fun _ => nm_r (nI_1 k) (hJ s (fun q hq i hi => ?_))) (fun z => absurd z (by omega))
    rcases Nat.lt_or_ge q k with z | z
    · exact hs.1 q z i hi
    · rw [show q = k by omega]
      exact hs.2 i hi
  · intro n i s hi hs hw
    refine pk_le 16 i (fun z => absurd z (by omega)) (fun _ => ?_)
    have e1 : (nI k - 1) * 16 + nI i = nI ((k - 1) * 16 + i) := by rw [ek, jg_ix]
    have v1 : s ((k - 1) * 16 + i) = nI (jg_it (2 ^ (k - 1)) (2 ^ i)) := hs.1 (k - 1) (by omega) i hi
    refine ⟨pk_in ((k - 1) * 16 + i) 272 (by omega) e1, nm_r (e' := nI (jg_it (2 ^ (k - 1)) (2 ^ i))) (by rw [e1, nI_clamp (by omega), v1]) ?_⟩
    rw [ek]
    refine jg_apply (by omega) (jg_it_lt _ (jg_p16 hi)) (hs.1 (k - 1) (by omega)) ?_
    refine ⟨pk_in (k * 16 + i) 272 (by omega) (jg_ix k i), ?_⟩
    rw [jg_ix, nI_clamp (by omega), ← jg_dbl, show k - 1 + 1 = k by omega]
    refine nm_e (nm_r (nI_1 i) (hw _ ⟨fun q hq j hj => ?_, fun j hj => ?_⟩))
    · rw [pk_un (by omega)]
      exact hs.1 q hq j hj
    · by_cases e : j = i
      · rw [e, pk_us]
      · rw [pk_un (by omega)]
        exact hs.2 j (by omega)
theorem jg_init72 {post : St1 → Prop} {mc ms kc ks : Nat} {f0 : Int32} {a1 a2 a3 a4 : Nat → Int32} (hI : jg_Im a2 1)
    (h : ∀ b2, jg_Im b2 17 → post (f0, a1, b2, a3, a4)) : ∃ n, wX_init_72 post mc ms kc ks f0 n 1 a1 a2 a3 a4 := by
  refine pk_loop (fun n k s => wX_init_72 post mc ms kc ks f0 n (nI k) a1 s a3 a4) (fun k s => 0 < k ∧ jg_Im s k) 17 1 a2 (by omega) ⟨by omega, hI⟩ ?_ ?_
  · intro n s hs
    exact pk_lt 16 17 (fun _ => h s hs.2) (fun z => absurd z (by omega))
  · intro n k s hk hs hw
    exact pk_lt 16 k (fun z => absurd z (by omega)) (fun _ => jg_init80 hs.1 hk hs.2 (fun b2 hb => hw b2 ⟨by omega, hb⟩))
theorem jg_init {post : St1 → Prop} (h : ∀ b2, jg_Im b2 17 → post (1, fun _ => 0, b2, fun _ => 0, fun _ => 0)) : wpX_init post 4 2328 0 := by
  refine ⟨by omega, by omega, by omega, by omega, by omega, by omega, by omega, by omega, ?_⟩
  refine pk_loop (fun n i s => wX_init_46 post 4 2328 4 2328 1 n (nI i) (fun _ => 0) s (fun _ => 0) (fun _ => 0)) (fun i s => ∀ j, j < i → s j = nI (jg_it 1 (2 ^ j))) 16 0 (fun _ => 0) (by omega) (fun j hj => absurd hj (by omega)) ?_ ?_
  · intro n s hs
    refine pk_le 16 16 (fun _ => jg_init72 (fun k hk i hi => ?_) h) (fun z => absurd z (by omega))
    rw [show k = 0 by omega, Nat.zero_mul, Nat.zero_add]
    exact hs i hi
  · intro n i s hi hs hw
    refine pk_le 16 i (fun z => absurd z (by omega)) (fun _ => ?_)
    rw [jg_one i hi]
    refine jg_Xstep (jg_p16 hi) ⟨pk_in i 272 (by omega), ?_⟩
    rw [nI_clamp (by omega)]
    refine nm_e (nm_r (nI_1 i) (hw _ (fun j hj => ?_)))
    by_cases e : j = i
    · rw [e, pk_us]
      rfl
    · rw [pk_un e]
      exact hs j (by omega)
end
section
/-! four marks in one long -/
def jg_P (w : Int64) (mk : Nat → Nat) (o : Nat) : Prop := ∀ j, j < 4 → ∀ i, i < 16 → w.toBitVec.getLsbD (16 * j + i) = (mk (o + j)).testBit i
theorem jg_amt : ∀ j, j < 4 → (((16 * nI j).toInt64 &&& 63).toBitVec.smod 64).toNat = 16 * j := by decide +kernel
theorem jg_65535 : ∀ i, i < 64 → (65535 : Int64).toBitVec.getLsbD i = decide (i < 16) := by decide +kernel
theorem jg_m1 : ∀ i, i < 64 → (-1 : Int64).toBitVec.getLsbD i = true := by decide +kernel
theorem jg_hi {v i : Nat} (hv : v < 2 ^ 16) (hi : 16 ≤ i) : v.testBit i = false :=
  Nat.testBit_lt_two_pow (Nat.lt_of_lt_of_le hv (Nat.pow_le_pow_right (by decide) hi))
theorem jg_read {w : Int64} {mk : Nat → Nat} {o j : Nat} (hP : jg_P w mk o) (hj : j < 4) (hm : mk (o + j) < 2 ^ 16) :
    ((w >>> ((16 * nI j).toInt64 &&& 63)) &&& 65535).toInt32 = nI (mk (o + j)) := by
  apply Int32.toBitVec_inj.mp
  apply BitVec.eq_of_getLsbD_eq
  intro i hi
  rw [Int64.toBitVec_toInt32, BitVec.getLsbD_signExtend, Int64.toBitVec_and, BitVec.getLsbD_and, Int64.toBitVec_shiftRight, BitVec.sshiftRight_eq', jg_amt j hj, BitVec.getLsbD_sshiftRight]
  have r : (nI (mk (o + j))).toBitVec.getLsbD i = (mk (o + j)).testBit i := by
    show (BitVec.ofNat 32 (mk (o + j))).getLsbD i = _
    rw [BitVec.getLsbD_ofNat, decide_eq_true hi, Bool.true_and]
  rw [r, jg_65535 i (by omega), if_pos (show i < 64 by omega), decide_eq_true hi, Bool.true_and, decide_eq_false (show ¬ 64 ≤ i by omega), Bool.not_false, Bool.true_and]
  rcases Nat.lt_or_ge i 16 with z | z
  · rw [if_pos (by omega), hP j hj i z, decide_eq_true z, Bool.and_true]
  · rw [decide_eq_false (by omega), Bool.and_false, jg_hi hm z]
theorem jg_write {w : Int64} {mk mk' : Nat → Nat} {o j v : Nat} (hP : jg_P w mk o) (hj : j < 4) (hv : v < 2 ^ 16) (h1 : mk' (o + j) = v) (h2 : ∀ q, q ≠ o + j → mk' q = mk q) :
    jg_P ((w &&& (((65535 : Int64) <<< ((16 * nI j).toInt64 &&& 63)) ^^^ (-1))) ||| ((nI v).toInt64 <<< ((16 * nI j).toInt64 &&& 63))) mk' o := by
  intro k hk i hi
  have hp : 16 * k + i < 64 := by omega
  have r : ∀ q, q < 64 → (lN v).toBitVec.getLsbD q = v.testBit q := by
    intro q hq
    show (BitVec.ofNat 64 v).getLsbD q = _
    rw [BitVec.getLsbD_ofNat, decide_eq_true hq, Bool.true_and]
  rw [nI_l (by omega), Int64.toBitVec_or, BitVec.getLsbD_or, Int64.toBitVec_and, BitVec.getLsbD_and, Int64.toBitVec_xor, BitVec.getLsbD_xor, Int64.toBitVec_shiftLeft, Int64.toBitVec_shiftLeft, BitVec.shiftLeft_eq', BitVec.shiftLeft_eq', jg_amt j hj, BitVec.getLsbD_shiftLeft, BitVec.getLsbD_shiftLeft, jg_m1 _ hp, hP k hk i hi, jg_65535 _ (show 16 * k + i - 16 * j < 64 by omega), r _ (show 16 * k + i - 16 * j < 64 by omega), decide_eq_true hp, Bool.true_and]
  rcases Nat.lt_trichotomy k j with z | z | z
  · rw [decide_eq_true (show 16 * k + i < 16 * j by omega), h2 (o + k) (by omega)]
    simp
  · subst z
    rw [decide_eq_false (show ¬ 16 * k + i < 16 * k by omega), show 16 * k + i - 16 * k = i by omega, decide_eq_true hi, h1]
    simp
  · rw [decide_eq_false (show ¬ 16 * k + i < 16 * j by omega), decide_eq_false (show ¬ 16 * k + i - 16 * j < 16 by omega), jg_hi hv (show 16 ≤ 16 * k + i - 16 * j by omega), h2 (o + k) (by omega)]
    simp
theorem jg_P_c {w : Int64} {mk mk' : Nat → Nat} {o : Nat} (hP : jg_P w mk o) (h : ∀ j, j < 4 → mk' (o + j) = mk (o + j)) : jg_P w mk' o := by
  intro j hj i hi
  rw [h j hj]
  exact hP j hj i hi
theorem jg_and3a : ∀ m, m < 4 → nI m &&& 3 = nI m := by decide +kernel
theorem jg_and3b : ∀ m, m < 8 → 4 ≤ m → nI m &&& 3 = nI (m - 4) := by decide +kernel
end
section
/-! the law's inner loop and its checks -/
section
variable {L : Nat} {xs : Nat → Int32} {J18 : Int32 → Int64 → Int64 → Int32 → Int32 → (Nat → Int32) → (Nat → Int32) → (Nat → Int32) → (Nat → Int32) → Prop} {J437 : Int32 → Int32 → Int32 → Int32 → Int32 → Prop}
variable {x2 x7 x15 : Int32} {w3 w5 : Int64} {kc ks : Nat} {f0 : Int32} {a1 a2 a3 a4 : Nat → Int32} {x n k i : Nat} {r z0 z1 : Int32}
theorem jg_506 (hx : x < 2 ^ 16) (HJ : J437 x2 x7 r (nI (jg_it (k + 1) x)) (nI (k + 1))) {y2 y7 y10 : Int32} :
    wL_law_506 (fun r => r = 1) L xs J18 J437 y2 w3 w5 y7 y10 x15 x2 x7 (nI (jg_it k x)) (nI k) r kc ks f0 a1 a2 a3 a4 := by
  unfold wL_law_506
  refine jg_Lstep (jg_it_lt k hx) (nm_r (nI_1 k) ?_)
  rw [← jg_it_s]
  exact HJ
theorem jg_483 (hx : x < 2 ^ 16) (hR : jg_R x k r) (hk : k < 64) {e16 e17 : Int32} (hz : z1 ^^^ z0 = e17)
    (HJ : ∀ q, jg_R x (k + 1) q → J437 e16 e17 q (nI (jg_it (k + 1) x)) (nI (k + 1))) {y2 y7 y10 : Int32} :
    wL_law_483 (fun r => r = 1) L xs J18 J437 y2 w3 w5 y7 y10 x15 e16 r (nI (jg_it k x)) (nI k) z0 z1 kc ks f0 a1 a2 a3 a4 := by
  unfold wL_law_483
  refine nm_r hz ?_
  rcases hR with ⟨m, hm, rfl, h1, h2⟩ | ⟨rfl, h2⟩
  · refine br_t (nI_pos' (by omega)) ?_
    unfold wL_law_504
    exact jg_506 hx (HJ _ (Or.inl ⟨m, by omega, rfl, h1, h2⟩))
  · refine br_f (by decide) (ek_if (jg_and15 (jg_it_lt k hx) (by decide)) (fun b => ?_) (fun b => ?_))
    · exact jg_506 hx (HJ _ (Or.inl ⟨k, by omega, rfl, b, h2⟩))
    · unfold wL_law_504
      refine jg_506 hx (HJ _ (Or.inr ⟨rfl, fun j hj => ?_⟩))
      rcases Nat.lt_or_ge j k with z | z
      · exact h2 j z
      · rw [show j = k by omega]
        exact b
theorem jg_465 (hx : x < 2 ^ 16) (hR : jg_R x k r) (hk : k < 64) (hn : n < 64) (hz : z1 + z0 = nI (min (k + 1) n))
    (HJ : ∀ q, jg_R x (k + 1) q → J437 (nI (min (k + 1) n)) (nI (jg_S x (min (k + 1) n))) q (nI (jg_it (k + 1) x)) (nI (k + 1))) {y2 y7 : Int32} :
    wL_law_465 (fun r => r = 1) L xs J18 J437 y2 w3 w5 y7 (nI n) x15 (nI (jg_S x (min k n))) r (nI (jg_it k x)) (nI k) z0 z1 kc ks f0 a1 a2 a3 a4 := by
  unfold wL_law_465
  refine nm_r hz (pk_le n k (fun c => jg_483 hx hR hk ?_ HJ) (fun c => jg_483 hx hR hk ?_ HJ))
  · rw [show min (k + 1) n = min k n by omega]
    exact Int32.xor_zero
  · rw [nx_xor, show min (k + 1) n = k + 1 by omega, show min k n = k by omega]
    rfl
theorem jg_p3 (i : Nat) : nI i + 3 = nI (i + 3) := nI_add i 3
theorem jg_first {K K' m : Nat} {q : Int32} (h : jg_R x K' q) (hm : m < K) (hK : K ≤ K') (h1 : jg_it m x % 16 = 0) (h2 : ∀ i, i < m → jg_it i x % 16 ≠ 0) : q = nI m := by
  rcases h with ⟨m', hm', rfl, g1, g2⟩ | ⟨rfl, g2⟩
  · rcases Nat.lt_trichotomy m m' with z | z | z
    · exact absurd h1 (g2 m z)
    · rw [z]
    · exact absurd g1 (h2 m' z)
  · exact absurd h1 (g2 m (by omega))
theorem jg_414 (h0 : x ≠ 0) (hx : x < 2 ^ 16) (hn : n < 64) (hI : jg_Im a2 17) (HJ : ∀ b3 b4, J18 (nI x) w3 w5 (nI (i + 3)) (nI x) a1 a2 b3 b4) :
    wL_law_414 (fun r => r = 1) L xs J18 (nI x) w3 w5 (nI i) (nI n) kc ks (nI x) a1 a2 a3 a4 := by
  unfold wL_law_414
  refine jg_steps hx (by omega) ?_
  refine pk_loop (fun f k (s : Int32 × Int32 × Int32 × Int32) => wL_law_437 (fun r => r = 1) L xs J18 (nI x) w3 w5 (nI i) (nI n) (nI (jg_it n x)) kc ks (nI x) a1 a2 a3 a4 f s.1 s.2.1 s.2.2.1 s.2.2.2 (nI k))
    (fun k s => s.1 = nI (min k n) ∧ s.2.1 = nI (jg_S x (min k n)) ∧ jg_R x k s.2.2.1 ∧ s.2.2.2 = nI (jg_it k x)) 64 0 (0, 0, -1, nI x) (by omega) ⟨by rw [Nat.zero_min]; rfl, by rw [Nat.zero_min]; rfl, Or.inr ⟨rfl, fun i hi => absurd hi (by omega)⟩, rfl⟩ ?_ ?_
  · intro f s hs
    obtain ⟨s1, s2, s3, s4⟩ := s
    obtain ⟨e1, e2, e3, e4⟩ := hs
    have e1' : s1 = nI n := by
      have t : s1 = nI (min 64 n) := e1
      rw [t, show min 64 n = n by omega]
    have e2' : s2 = nI (jg_S x n) := by
      have t : s2 = nI (jg_S x (min 64 n)) := e2
      rw [t, show min 64 n = n by omega]
    have e3' : jg_R x 64 s3 := e3
    subst e1' e2'
    refine pk_le 64 64 (fun _ => ?_) (fun z => absurd z (by omega))
    refine jg_round hx (fun q hq => ?_)
    refine br_t rfl (jg_distance hI hx h0 hn (fun b3 b4 => ?_))
    refine br_t rfl (jg_mixed hI hx hn ?_)
    refine br_t rfl (jg_before hI (jg_nz n hx h0) (jg_it_lt n hx) hn ?_)
    rw [← jg_it_add, show n + (65535 - n) = 65535 by omega, jg_cyc hx]
    refine br_t rfl ?_
    rcases e3' with ⟨m, hm, rfl, h1, h2⟩ | ⟨rfl, h2⟩
    · exact br_f (nI_pos (by omega)) (br_t (jg_first hq hm (by omega) h1 h2) (nm_r (jg_p3 i) (HJ b3 b4)))
    · refine br_t (show (-1 : Int32) < 0 by decide) ?_
      rcases hq with ⟨m', hm', rfl, g1, g2⟩ | ⟨rfl, g2⟩
      · refine br_f (nI_pos (by omega)) (br_t (nI_le (a := 64) ?_ (by omega)) (nm_r (jg_p3 i) (HJ b3 b4)))
        exact Nat.not_lt.mp (fun z => h2 m' z g1)
      · exact br_t (by decide) (nm_r (jg_p3 i) (HJ b3 b4))
  · intro f k s hk hs hw
    obtain ⟨s1, s2, s3, s4⟩ := s
    obtain ⟨e1, e2, e3, e4⟩ := hs
    have e1' : s1 = nI (min k n) := e1
    have e2' : s2 = nI (jg_S x (min k n)) := e2
    have e3' : jg_R x k s3 := e3
    have e4' : s4 = nI (jg_it k x) := e4
    subst e1' e2' e4'
    have l1 := jg_it_lt k hx
    have l2 := jg_it_lt n hx
    have T : ∀ z0 z1 : Int32, z1 + z0 = nI (min (k + 1) n) → wL_law_465 (fun r => r = 1) L xs J18 (wL_law_437 (fun r => r = 1) L xs J18 (nI x) w3 w5 (nI i) (nI n) (nI (jg_it n x)) kc ks (nI x) a1 a2 a3 a4 f) (nI x) w3 w5 (nI i) (nI n) (nI (jg_it n x)) (nI (jg_S x (min k n))) s3 (nI (jg_it k x)) (nI k) z0 z1 kc ks (nI x) a1 a2 a3 a4 :=
      fun z0 z1 hz => jg_465 hx e3' hk hn hz (fun q hq => hw (nI (min (k + 1) n), nI (jg_S x (min (k + 1) n)), q, nI (jg_it (k + 1) x)) ⟨rfl, rfl, hq, rfl⟩)
    refine pk_le 64 k (fun z => absurd z (by omega)) (fun _ => ?_)
    refine pk_eq (min k n) k (fun e => ?_) (fun e => ?_)
    · refine pk_eq (jg_it k x) (jg_it n x) (fun q => ?_) (fun q => ?_)
      · have hkn : k = n := by
          rcases Nat.lt_or_ge k n with z | z
          · exact absurd q (jg_ne z (by omega) hx h0)
          · omega
        unfold wL_law_464
        exact T 0 _ (by rw [Int32.add_zero, show min (k + 1) n = min k n by omega])
      · have hkn : k ≠ n := fun z => q (by rw [z])
        exact T 1 _ (by rw [nI_1, show min (k + 1) n = min k n + 1 by omega])
    · unfold wL_law_464
      exact T 0 _ (by rw [Int32.add_zero, show min (k + 1) n = min k n by omega])
end
end
section
/-! one turn of the law, and the whole -/
def jg_K (x : Nat) (mk : Nat → Nat) (w3 w5 : Int64) (a1 a2 : Nat → Int32) : Prop :=
  x ≠ 0 ∧ x < 2 ^ 16 ∧ (∀ m, m < 8 → mk m < 2 ^ 16 ∧ a1 m = nI (mk m)) ∧ jg_P w3 mk 0 ∧ jg_P w5 mk 4 ∧ jg_Im a2 17
theorem jg_K_at {x y : Nat} {mk : Nat → Nat} {w3 w5 : Int64} {a1 a2 : Nat → Int32} (K : jg_K x mk w3 w5 a1 a2) (h0 : y ≠ 0) (hy : y < 2 ^ 16) : jg_K y mk w3 w5 a1 a2 := ⟨h0, hy, K.2.2⟩
def jg_J (J18 : Int32 → Int64 → Int64 → Int32 → Int32 → (Nat → Int32) → (Nat → Int32) → (Nat → Int32) → (Nat → Int32) → Prop) (i : Nat) : Prop :=
  ∀ (x : Nat) (mk : Nat → Nat) (w3 w5 : Int64) (a1 a2 a3 a4 : Nat → Int32), jg_K x mk w3 w5 a1 a2 → J18 (nI x) w3 w5 (nI (i + 3)) (nI x) a1 a2 a3 a4
def jg_mu (mk : Nat → Nat) (m x : Nat) : Nat → Nat := fun q => if q = m then x else mk q
theorem jg_mu_s (mk : Nat → Nat) (m x : Nat) : jg_mu mk m x m = x := if_pos rfl
theorem jg_mu_n {mk : Nat → Nat} {m x q : Nat} (h : q ≠ m) : jg_mu mk m x q = mk q := if_neg h
theorem jg_mu_a {mk : Nat → Nat} {m x : Nat} {a1 : Nat → Int32} (hx : x < 2 ^ 16) (h : ∀ m, m < 8 → mk m < 2 ^ 16 ∧ a1 m = nI (mk m)) : ∀ q, q < 8 → jg_mu mk m x q < 2 ^ 16 ∧ upd a1 m (nI x) q = nI (jg_mu mk m x q) := by
  intro q hq
  by_cases e : q = m
  · rw [e, jg_mu_s, pk_us]
    exact ⟨hx, rfl⟩
  · rw [jg_mu_n e, pk_un e]
    exact h q hq
section
variable {L : Nat} {xs : Nat → Int32} {J18 : Int32 → Int64 → Int64 → Int32 → Int32 → (Nat → Int32) → (Nat → Int32) → (Nat → Int32) → (Nat → Int32) → Prop}
variable {w3 w5 : Int64} {kc ks : Nat} {a1 a2 a3 a4 : Nat → Int32} {x n i m c d : Nat} {mk : Nat → Nat} {v : Nat}
theorem jg_go (K : jg_K x mk w3 w5 a1 a2) (hn : n < 64) (HJ : jg_J J18 i) : wL_law_414 (fun r => r = 1) L xs J18 (nI x) w3 w5 (nI i) (nI n) kc ks (nI x) a1 a2 a3 a4 :=
  jg_414 K.1 K.2.1 hn K.2.2.2.2.2 (fun b3 b4 => HJ x mk w3 w5 a1 a2 b3 b4 K)
theorem jg_op_seed (K : jg_K x mk w3 w5 a1 a2) (hn : n < 64) (HJ : jg_J J18 i) (hc : c < 65537) :
    (nI c < 1 → wL_law_131 (fun r => r = 1) L xs J18 (nI x) w3 w5 (nI i) (nI c) (nI n) kc ks (nI x) a1 a2 a3 a4) ∧ (¬ nI c < 1 → ((65535 < nI c → wL_law_131 (fun r => r = 1) L xs J18 (nI x) w3 w5 (nI i) (nI c) (nI n) kc ks (nI x) a1 a2 a3 a4) ∧ (¬ 65535 < nI c → wL_law_132 (fun r => r = 1) L xs J18 (nI x) w3 w5 (nI i) (nI c) (nI n) 1 kc ks (nI x) a1 a2 a3 a4))) := by
  have T : c = 0 ∨ c = 65536 → wL_law_131 (fun r => r = 1) L xs J18 (nI x) w3 w5 (nI i) (nI c) (nI n) kc ks (nI x) a1 a2 a3 a4 := by
    intro z
    unfold wL_law_131 wL_law_132
    refine jg_seed hc (fun _ => br_t rfl (br_t rfl ?_)) (fun q => absurd q (by omega))
    unfold wL_law_158
    exact jg_go K hn HJ
  refine pk_lt c 1 (fun z => T (by omega)) (fun z => pk_lt 65535 c (fun y => T (by omega)) (fun y => ?_))
  unfold wL_law_132
  refine jg_seed hc (fun q => absurd q (by omega)) (fun q => br_t rfl (br_f (by decide) ?_))
  unfold wL_law_158
  exact jg_go (jg_K_at K q.1 q.2) hn HJ
theorem jg_op_fwd {o : Nat} (K : jg_K x mk w3 w5 a1 a2) (hn : n < 64) (HJ : jg_J J18 i) (ho : o < 8) :
    (nI o = 7 → wL_law_183 (fun r => r = 1) L xs J18 w3 w5 (nI i) (nI o) (nI n) 1 (nI x) kc ks (nI x) a1 a2 a3 a4) ∧ (¬ nI o = 7 → wL_law_183 (fun r => r = 1) L xs J18 w3 w5 (nI i) (nI o) (nI n) (nI n) (nI x) kc ks (nI x) a1 a2 a3 a4) := by
  have hx := K.2.1
  refine br_c (fun z => ?_) (fun z => ?_)
  · unfold wL_law_183
    refine jg_steps (m := 1) hx (by omega) (br_t z (jg_next hx ?_))
    dsimp only
    unfold wL_law_208
    refine br_t rfl ?_
    exact jg_go (x := jg_st x) (jg_K_at K (jg_nz 1 hx K.1) (jg_st_lt hx)) hn HJ
  · unfold wL_law_183
    refine jg_steps hx (by omega) (br_f z (jg_jump K.2.2.2.2.2 hx hn ?_))
    dsimp only
    unfold wL_law_208
    refine br_t rfl ?_
    exact jg_go (jg_K_at K (jg_nz n hx K.1) (jg_it_lt n hx)) hn HJ
theorem jg_op_rev (K : jg_K x mk w3 w5 a1 a2) (hn : n < 64) (HJ : jg_J J18 i) {A B C : Prop} :
    (nI (jg_it (65535 - n) x) < 1 → A) ∧ (¬ nI (jg_it (65535 - n) x) < 1 → ((65535 < nI (jg_it (65535 - n) x) → B) ∧ (¬ 65535 < nI (jg_it (65535 - n) x) → wpL_steps (fun r => (r = nI x → wL_law_414 (fun r => r = 1) L xs J18 (nI (jg_it (65535 - n) x)) w3 w5 (nI i) (nI n) kc ks (nI (jg_it (65535 - n) x)) a1 a2 a3 a4) ∧ (¬ r = nI x → C)) () (nI (jg_it (65535 - n) x)) (nI n)))) := by
  have hx := K.2.1
  have g0 := jg_nz (65535 - n) hx K.1
  have g1 := jg_it_lt (65535 - n) hx
  refine pk_lt (jg_it (65535 - n) x) 1 (fun z => absurd z (by omega)) (fun _ => pk_lt 65535 (jg_it (65535 - n) x) (fun z => absurd z (by omega)) (fun _ => ?_))
  refine jg_steps g1 (by omega) ?_
  refine br_t ?_ (jg_go (jg_K_at K g0 g1) hn HJ)
  rw [← jg_it_add, show 65535 - n + n = 65535 by omega, jg_cyc hx]
theorem jg_376 (K : jg_K x mk w3 w5 a1 a2) (hn : n < 64) (HJ : jg_J J18 i) : wL_law_376 (fun r => r = 1) L xs J18 (nI x) w3 (nI i) (nI n) w5 kc ks (nI x) a1 a2 a3 a4 := by
  unfold wL_law_376
  exact jg_go K hn HJ
theorem jg_374 (K : jg_K x mk w3 w5 a1 a2) (hn : n < 64) (HJ : jg_J J18 i) : wL_law_374 (fun r => r = 1) L xs J18 (nI x) w3 w5 (nI i) (nI n) kc ks (nI x) a1 a2 a3 a4 := by
  unfold wL_law_374
  exact jg_376 K hn HJ
theorem jg_294_0 (K : jg_K x mk w3 w5 a1 a2) (hn : n < 64) (HJ : jg_J J18 i) : wL_law_294 (fun r => r = 1) L xs J18 (nI x) w3 w5 (nI i) (nI n) (nI 8) 0 0 kc ks (nI x) a1 a2 a3 a4 := by
  unfold wL_law_294
  refine br_t rfl (nm_e (nm_e (pk_le 4 8 (fun _ => ?_) (fun z => absurd z (by omega)))))
  unfold wL_law_345
  exact pk_lt 8 4 (fun z => absurd z (by omega)) (fun _ => pk_lt 7 8 (fun _ => jg_374 K hn HJ) (fun z => absurd z (by omega)))
theorem jg_294_1 (K : jg_K x mk w3 w5 a1 a2) (hn : n < 64) (HJ : jg_J J18 i) (hm : m < 8) : wL_law_294 (fun r => r = 1) L xs J18 (nI x) w3 w5 (nI i) (nI n) (nI m) 1 1 kc ks (nI x) (upd a1 m (nI x)) a2 a3 a4 := by
  obtain ⟨h0, hx, hM, P3, P5, hI⟩ := K
  unfold wL_law_294
  refine br_t rfl ?_
  rcases Nat.lt_or_ge m 4 with z | z
  · rw [jg_and3a m z]
    refine nm_e (nm_e (br_f (nI_ge z (by decide)) ?_))
    unfold wL_law_345
    refine br_t (nI_lt z (by decide)) (jg_374 (mk := jg_mu mk m x) ⟨h0, hx, jg_mu_a hx hM, ?_, ?_, hI⟩ hn HJ)
    · exact jg_write P3 z hx (by rw [Nat.zero_add]; exact jg_mu_s mk m x) (fun q hq => jg_mu_n (by rw [Nat.zero_add] at hq; exact hq))
    · exact jg_P_c P5 (fun j hj => jg_mu_n (by omega))
  · rw [jg_and3b m hm z]
    refine nm_e (nm_e (br_t (nI_le z (by omega)) ?_))
    unfold wL_law_345
    refine br_f (nI_nlt z (by omega)) (br_f (nI_nlt (b := m) (a := 7) (by omega) (by omega)) (jg_376 (mk := jg_mu mk m x) ⟨h0, hx, jg_mu_a hx hM, ?_, ?_, hI⟩ hn HJ))
    · exact jg_P_c P3 (fun j hj => jg_mu_n (by omega))
    · have e : 4 + (m - 4) = m := by omega
      exact jg_write P5 (show m - 4 < 4 by omega) hx (by rw [e]; exact jg_mu_s mk m x) (fun q hq => jg_mu_n (by rw [e] at hq; exact hq))
theorem jg_397 {r : Int32} (hr : r = if v = 0 then 0 else 1) (hv : v < 2 ^ 16) (K0 : v = 0 → jg_K x mk w3 w5 a1 a2) (K1 : v ≠ 0 → jg_K v mk w3 w5 a1 a2) (hn : n < 64) (HJ : jg_J J18 i) :
    (nI v = 0 → wL_law_397 (fun r => r = 1) L xs J18 (nI x) w3 w5 (nI i) (nI n) (nI v) 0 r kc ks (if v = 0 then nI x else nI v) a1 a2 a3 a4) ∧ (¬ nI v = 0 → wL_law_397 (fun r => r = 1) L xs J18 (nI x) w3 w5 (nI i) (nI n) (nI v) 1 r kc ks (if v = 0 then nI x else nI v) a1 a2 a3 a4) := by
  refine pk_eq v 0 (fun z => ?_) (fun z => ?_)
  · rw [if_pos z] at hr ⊢
    unfold wL_law_397 wL_law_413
    exact br_t hr (br_t (by rw [z]; rfl) (jg_go (K0 z) hn HJ))
  · rw [if_neg z] at hr ⊢
    unfold wL_law_397 wL_law_413
    exact br_t hr (br_f (nI_ne0 (by omega) (by omega)) (jg_go (K1 z) hn HJ))
theorem jg_106 {o : Nat} (K : jg_K x mk w3 w5 a1 a2) (hn : n < 64) (HJ : jg_J J18 i) (hc : c < 65537) (ho : o < 16) (hm : m < 9) (h8 : m = 8 → v = 0) (h7 : m < 8 → v = mk m) :
    wL_law_106 (fun r => r = 1) L xs J18 (nI x) w3 w5 (nI i) (nI o) (nI c) (nI n) (nI m) (nI v) kc ks (nI x) a1 a2 a3 a4 := by
  unfold wL_law_106
  have hx := K.2.1
  have hM := K.2.2.1
  have hv : v < 2 ^ 16 := by
    rcases Nat.lt_or_ge m 8 with z | z
    · rw [h7 z]
      exact (hM m z).1
    · rw [h8 (by omega)]
      decide
  refine pk_lt 3 o (fun o3 => ?_) (fun o3 => jg_op_seed K hn HJ hc)
  refine pk_lt 7 o (fun o7 => ?_) (fun o7 => jg_op_fwd K hn HJ (by omega))
  refine pk_lt 9 o (fun o9 => ?_) (fun o9 => jg_jumpN K.2.2.2.2.2 hx hn (jg_op_rev K hn HJ))
  refine pk_lt 13 o (fun o13 => ?_) (fun o13 => ?_)
  · refine jg_back hm (fun z => ?_) (fun z y => ?_)
    · have e : v = 0 := by
        rcases Nat.lt_or_ge m 8 with q | q
        · have t := z.resolve_left (by omega)
          rw [(hM m q).2, ← nI_0, nI_eq (by have := (hM m q).1; omega) (by omega)] at t
          rw [h7 q, t]
        · exact h8 (by omega)
      have t := jg_397 (L := L) (xs := xs) (kc := kc) (ks := ks) (a3 := a3) (a4 := a4) (r := 0) (by rw [if_pos e]) hv (fun _ => K) (fun q => absurd e q) hn HJ
      rw [if_pos e] at t
      exact t
    · rw [(hM m z).2, ← h7 z] at y ⊢
      have e : v ≠ 0 := fun q => y (by rw [q]; rfl)
      have t := jg_397 (L := L) (xs := xs) (kc := kc) (ks := ks) (a3 := a3) (a4 := a4) (r := 1) (by rw [if_neg e]) hv (fun q => absurd q e) (fun _ => jg_K_at K e hv) hn HJ (x := x)
      rw [if_neg e] at t
      exact t
  · refine jg_mark hm (fun z => ?_) (fun z => ?_)
    · subst z
      exact pk_lt 7 8 (fun _ => jg_294_0 K hn HJ) (fun z => absurd z (by omega))
    · exact pk_lt 7 m (fun q => absurd q (by omega)) (fun _ => jg_294_1 K hn HJ z)
theorem jg_78 {o : Nat} {w : Int64} (K : jg_K x mk w3 w5 a1 a2) (hn : n < 64) (HJ : jg_J J18 i) (hc : c < 65537) (ho : o < 16) (hm : m < 9)
    (hw : m < 8 → ((w >>> ((16 * (nI m &&& 3)).toInt64 &&& 63)) &&& 65535).toInt32 = nI (mk m)) :
    wL_law_78 (fun r => r = 1) L xs J18 (nI x) w3 w5 (nI i) (nI o) (nI c) (nI n) (nI m) w kc ks (nI x) a1 a2 a3 a4 := by
  unfold wL_law_78
  refine pk_le m 7 (fun z => ?_) (fun z => ?_)
  · rw [hw (by omega)]
    exact jg_106 K hn HJ hc ho hm (fun q => absurd q (by omega)) (fun _ => rfl)
  · exact jg_106 (v := 0) K hn HJ hc ho hm (fun _ => rfl) (fun q => absurd q (by omega))
end
theorem jg_turn {L : Nat} {xs : Nat → Int32} (hL : L ≤ 260) (kc ks : Nat) (a1 a2 a3 a4 : Nat → Int32) {x : Nat} {mk : Nat → Nat} {w3 w5 : Int64} (K : jg_K x mk w3 w5 a1 a2) :
    ∃ n, wL_law_18 (fun r => r = 1) L xs kc ks n (nI x) w3 w5 0 (nI x) a1 a2 a3 a4 := by
  refine lp9 (wL_law_18 (fun r => r = 1) L xs kc ks) (fun x2 w3 w5 x7 f0 a1 a2 a3 a4 => ∃ (x i : Nat) (mk : Nat → Nat), x2 = nI x ∧ f0 = nI x ∧ x7 = nI i ∧ i < 263 ∧ jg_K x mk w3 w5 a1 a2)
    (fun x2 w3 w5 x7 f0 a1 a2 a3 a4 => 263 - x7.toNatClampNeg) ?_ (nI x) w3 w5 0 (nI x) a1 a2 a3 a4 ⟨x, 0, mk, rfl, rfl, rfl, by omega, K⟩
  rintro f x2 w3 w5 x7 f0 a1 a2 a3 a4 ⟨x, i, mk, rfl, rfl, rfl, hi, K⟩ hw
  refine pk_le L i (fun _ => rfl) (fun z => ?_)
  have HJ : jg_J (wL_law_18 (fun r => r = 1) L xs kc ks f) i := by
    intro y mk' v3 v5 b1 b2 b3 b4 K'
    refine hw _ _ _ _ _ _ _ _ _ ⟨y, i + 3, mk', rfl, rfl, rfl, by omega, K'⟩ ?_
    show 263 - (nI (i + 3)).toNatClampNeg < 263 - (nI i).toNatClampNeg
    rw [nI_clamp (by omega), nI_clamp (by omega)]
    omega
  refine jg_pick (d := 16) rfl (by omega) (by omega) (by omega) (by omega) (fun o ho => ?_)
  refine jg_pick (d := 65537) (nI_1 i) (by omega) (by omega) (by omega) (by omega) (fun c hc => ?_)
  refine jg_pick (d := 64) (nI_add i 2) (by omega) (by omega) (by omega) (by omega) (fun n hn => ?_)
  have hm : c % 9 < 9 := Nat.mod_lt _ (by decide)
  refine ⟨by decide, nm_r (pk_rem (d := 9) (by omega) (by omega) (by omega)) ?_⟩
  refine pk_le 4 (c % 9) (fun z => ?_) (fun z => ?_)
  · refine jg_78 K hn HJ hc ho hm (fun q => ?_)
    have e : 4 + (c % 9 - 4) = c % 9 := by omega
    have t := jg_read K.2.2.2.2.1 (show c % 9 - 4 < 4 by omega) (by rw [e]; exact (K.2.2.1 _ q).1)
    rw [e] at t
    rw [jg_and3b _ q z]
    exact t
  · refine jg_78 K hn HJ hc ho hm (fun q => ?_)
    have t := jg_read K.2.2.2.1 z (by rw [Nat.zero_add]; exact (K.2.2.1 _ q).1)
    rw [Nat.zero_add] at t
    rw [jg_and3a _ z]
    exact t
theorem jg_P_0 (o : Nat) : jg_P 0 (fun _ => 0) o := by
  intro j hj i hi
  rw [Nat.zero_testBit]
  exact BitVec.getLsbD_zero
theorem i_vc (xs : Nat → Int32) (L : Nat) (hL : L ≤ 260) : wpL_law (fun r => r = 1) L xs := by
  refine ⟨4, 2328, by omega, by omega, jg_init (fun b2 hb => ?_)⟩
  exact jg_turn hL _ _ _ _ _ _ (x := 1) (mk := fun _ => 0) ⟨by decide, by decide, fun m _ => ⟨show 0 < 2 ^ 16 by decide, rfl⟩, jg_P_0 0, jg_P_0 4, hb⟩
end
