section
/-! bits of an Int32 -/
def rt_b (x : Int32) (i : Nat) : Bool := x.toBitVec.getLsbD i
theorem rt_ext {x y : Int32} (h : ∀ i, i < 32 → rt_b x i = rt_b y i) : x = y := Int32.toBitVec_inj.mp (BitVec.eq_of_getLsbD_eq (fun i hi => h i hi))
theorem rt_or (x y : Int32) (i : Nat) : rt_b (x ||| y) i = (rt_b x i || rt_b y i) := by unfold rt_b; rw [Int32.toBitVec_or, BitVec.getLsbD_or]
theorem rt_and (x y : Int32) (i : Nat) : rt_b (x &&& y) i = (rt_b x i && rt_b y i) := by unfold rt_b; rw [Int32.toBitVec_and, BitVec.getLsbD_and]
theorem rt_xor (x y : Int32) (i : Nat) : rt_b (x ^^^ y) i = (rt_b x i ^^ rt_b y i) := by unfold rt_b; rw [Int32.toBitVec_xor, BitVec.getLsbD_xor]
theorem rt_big {x : Int32} {i : Nat} (h : 32 ≤ i) : rt_b x i = false := BitVec.getLsbD_of_ge _ _ h
theorem rt_m1 : ∀ i, i < 32 → rt_b (-1) i = true := by decide +kernel
theorem rt_0 (i : Nat) : rt_b 0 i = false := BitVec.getLsbD_zero
theorem rt_1 : ∀ i, i < 32 → rt_b 1 i = decide (i = 0) := by decide +kernel
theorem rt_sl : ∀ n, n < 32 → ((nI n &&& 31).toBitVec.smod 32).toNat = n := by decide +kernel
theorem rt_shl (n : Nat) (hn : n < 32) (x : Int32) {i : Nat} (hi : i < 32) : rt_b (x <<< (nI n &&& 31)) i = (decide (n ≤ i) && rt_b x (i - n)) := by
  unfold rt_b
  rw [Int32.toBitVec_shiftLeft]
  show (x.toBitVec <<< ((nI n &&& 31).toBitVec.smod 32).toNat).getLsbD i = _
  rw [rt_sl n hn, BitVec.getLsbD_shiftLeft]
  rcases Nat.lt_or_ge i n with h | h
  · simp [h, Nat.not_le.mpr h]
  · simp [hi, h, Nat.not_lt.mpr h]
theorem rt_sshr (n : Nat) (hn : n < 32) (x : Int32) {i : Nat} (hi : i < 32) : rt_b (x >>> (nI n &&& 31)) i = if n + i < 32 then rt_b x (n + i) else rt_b x 31 := by
  unfold rt_b
  rw [Int32.toBitVec_shiftRight]
  show (x.toBitVec.sshiftRight ((nI n &&& 31).toBitVec.smod 32).toNat).getLsbD i = _
  rw [rt_sl n hn, BitVec.getLsbD_sshiftRight, BitVec.msb_eq_getLsbD_last]
  simp [hi]
/-- one bit: 1 << n -/
theorem rt_bit (n : Nat) (hn : n < 32) {i : Nat} (hi : i < 32) : rt_b ((1 : Int32) <<< (nI n &&& 31)) i = decide (i = n) := by
  rw [rt_shl n hn 1 hi, rt_1 _ (by omega)]
  by_cases h : i = n
  · subst h; simp
  · by_cases h2 : n ≤ i
    · have : ¬ i - n = 0 := by omega
      simp [h, h2, this]
    · simp [h, h2]
/-- ~(1 << n) -/
theorem rt_nbit (n : Nat) (hn : n < 32) {i : Nat} (hi : i < 32) : rt_b (((1 : Int32) <<< (nI n &&& 31)) ^^^ (-1)) i = !decide (i = n) := by
  rw [rt_xor, rt_bit n hn hi, rt_m1 i hi, Bool.xor_true]
theorem rt_not (x : Int32) {i : Nat} (hi : i < 32) : rt_b (x ^^^ (-1)) i = !rt_b x i := by
  rw [rt_xor, rt_m1 i hi, Bool.xor_true]
/-- the test (x >> n & 1) -/
theorem rt_tst (x : Int32) (n : Nat) (hn : n < 32) : (x >>> (nI n &&& 31)) &&& 1 = if rt_b x n then 1 else 0 := by
  apply rt_ext
  intro i hi
  rw [rt_and, rt_1 i hi, rt_sshr n hn x hi]
  by_cases h : i = 0
  · subst h
    rw [if_pos (by omega), Nat.add_zero]
    cases rt_b x n
    · rw [if_neg (by decide), rt_0]; rfl
    · rw [if_pos rfl, rt_1 0 (by omega)]; rfl
  · rw [decide_eq_false h, Bool.and_false]
    cases rt_b x n
    · rw [if_neg (by decide), rt_0]
    · rw [if_pos rfl, rt_1 i hi, decide_eq_false h]
theorem rt_t1 (x : Int32) (n : Nat) (hn : n < 32) : ((x >>> (nI n &&& 31)) &&& 1) = 1 ↔ rt_b x n = true := by
  rw [rt_tst x n hn]
  cases rt_b x n <;> decide
theorem rt_t0 (x : Int32) (n : Nat) (hn : n < 32) : ((x >>> (nI n &&& 31)) &&& 1) = 0 ↔ rt_b x n = false := by
  rw [rt_tst x n hn]
  cases rt_b x n <;> decide
/-- the lowest bit goes: x & (x - 1) -/
theorem rt_low {x : Int32} (hx : ¬ x = 0) : ∃ j, j < 32 ∧ rt_b x j = true ∧ ∀ i, i < 32 → rt_b (x &&& (x - 1)) i = (rt_b x i && !decide (i = j)) := by
  have ex : ∃ k, rt_b x k = true := by
    apply Classical.byContradiction
    intro hn
    apply hx
    apply rt_ext
    intro i _
    rw [rt_0]
    cases h : rt_b x i
    · rfl
    · exact absurd ⟨i, h⟩ hn
  obtain ⟨j, hj, hl⟩ := pk_least (fun k => rt_b x k = true) ex
  have hj : rt_b x j = true := hj
  have hj32 : j < 32 := by
    rcases Nat.lt_or_ge j 32 with h | h
    · exact h
    · rw [rt_big h] at hj; exact absurd hj (by decide)
  refine ⟨j, hj32, hj, ?_⟩
  have hb : ∀ i, x.toBitVec.toNat.testBit i = rt_b x i := fun i => rfl
  have hm : x.toBitVec.toNat % 2 ^ (j + 1) = 2 ^ j := by
    apply Nat.eq_of_testBit_eq
    intro i
    rw [Nat.testBit_mod_two_pow, hb, Nat.testBit_two_pow]
    by_cases h : i < j
    · have : rt_b x i = false := by
        cases e : rt_b x i
        · rfl
        · exact absurd e (hl i h)
      rw [this, Bool.and_false, decide_eq_false (by omega)]
    · by_cases h2 : i = j
      · subst h2
        rw [hj, decide_eq_true (by omega), decide_eq_true rfl]; rfl
      · rw [decide_eq_false (by omega), decide_eq_false (by omega), Bool.false_and]
  have hp : 0 < 2 ^ j := Nat.two_pow_pos j
  have hlt : x.toBitVec.toNat < 2 ^ 32 := x.toBitVec.isLt
  have hd : x.toBitVec.toNat = 2 ^ (j + 1) * (x.toBitVec.toNat / 2 ^ (j + 1)) + 2 ^ j := by
    have := Nat.div_add_mod x.toBitVec.toNat (2 ^ (j + 1))
    omega
  have hs : (x - 1).toBitVec.toNat = x.toBitVec.toNat - 1 := by
    rw [Int32.toBitVec_sub, BitVec.toNat_sub]
    have e1 : (1 : Int32).toBitVec.toNat = 1 := by decide
    rw [e1]
    omega
  have hd' : (x - 1).toBitVec.toNat = 2 ^ (j + 1) * (x.toBitVec.toNat / 2 ^ (j + 1)) + (2 ^ j - 1) := by
    omega
  intro i hi
  rw [rt_and]
  have e : rt_b (x - 1) i = if i < j + 1 then (2 ^ j - 1).testBit i else rt_b x i := by
    show (x - 1).toBitVec.toNat.testBit i = _
    rw [hd', Nat.testBit_two_pow_mul_add _ (by have := Nat.pow_succ (n := 2) (m := j); omega)]
    by_cases h : i < j + 1
    · rw [if_pos h, if_pos h]
    · rw [if_neg h, if_neg h]
      rw [Nat.testBit_div_two_pow, ← hb]
      congr 1
      omega
  rw [e]
  by_cases h : i < j
  · have : rt_b x i = false := by
      cases e : rt_b x i
      · rfl
      · exact absurd e (hl i h)
    rw [this, Bool.false_and, Bool.false_and]
  · by_cases h2 : i = j
    · subst h2
      rw [if_pos (by omega), Nat.testBit_two_pow_sub_one, decide_eq_false (by omega), decide_eq_true rfl]
      cases rt_b x i <;> rfl
    · rw [if_neg (by omega), decide_eq_false h2]
      cases rt_b x i <;> rfl
/-! sums -/
def rt_s (f : Nat → Nat) : Nat → Nat
  | 0 => 0
  | n + 1 => rt_s f n + f n
theorem rt_s_congr {f g : Nat → Nat} {n : Nat} (h : ∀ i, i < n → f i = g i) : rt_s f n = rt_s g n := by
  induction n with
  | zero => rfl
  | succ n ih =>
    show rt_s f n + f n = rt_s g n + g n
    rw [ih (fun i hi => h i (by omega)), h n (by omega)]
theorem rt_s_add (f g : Nat → Nat) (n : Nat) : rt_s (fun i => f i + g i) n = rt_s f n + rt_s g n := by
  induction n with
  | zero => rfl
  | succ n ih =>
    show rt_s (fun i => f i + g i) n + (f n + g n) = (rt_s f n + f n) + (rt_s g n + g n)
    rw [ih]; omega
theorem rt_s_zero {f : Nat → Nat} {n : Nat} (h : ∀ i, i < n → f i = 0) : rt_s f n = 0 := by
  induction n with
  | zero => rfl
  | succ n ih =>
    show rt_s f n + f n = 0
    rw [ih (fun i hi => h i (by omega)), h n (by omega)]
theorem rt_s_zero_of {f : Nat → Nat} {n : Nat} (h : rt_s f n = 0) : ∀ i, i < n → f i = 0 := by
  induction n with
  | zero => intro i hi; omega
  | succ n ih =>
    have h' : rt_s f n + f n = 0 := h
    intro i hi
    by_cases e : i = n
    · subst e; omega
    · exact ih (by omega) i (by omega)
theorem rt_s_le {f : Nat → Nat} {n b : Nat} (h : ∀ i, i < n → f i ≤ b) : rt_s f n ≤ n * b := by
  induction n with
  | zero => exact Nat.zero_le _
  | succ n ih =>
    show rt_s f n + f n ≤ (n + 1) * b
    have h1 := ih (fun i hi => h i (by omega))
    have h2 := h n (by omega)
    rw [Nat.succ_mul]; omega
theorem rt_s_ge {f : Nat → Nat} {n : Nat} (i : Nat) (hi : i < n) : f i ≤ rt_s f n := by
  induction n with
  | zero => omega
  | succ n ih =>
    show f i ≤ rt_s f n + f n
    by_cases e : i = n
    · subst e; omega
    · have := ih (by omega); omega
theorem rt_s_swap (f : Nat → Nat → Nat) (n m : Nat) : rt_s (fun i => rt_s (fun j => f i j) m) n = rt_s (fun j => rt_s (fun i => f i j) n) m := by
  induction n with
  | zero => exact (rt_s_zero (fun _ _ => rfl)).symm
  | succ n ih =>
    show rt_s (fun i => rt_s (fun j => f i j) m) n + rt_s (fun j => f n j) m = rt_s (fun j => rt_s (fun i => f i j) n + f n j) m
    rw [ih, rt_s_add]
/-- a sum with one place alone -/
theorem rt_s_one (g : Nat → Nat) (j n : Nat) : rt_s (fun i => if i = j then g i else 0) n = if j < n then g j else 0 := by
  induction n with
  | zero => rfl
  | succ n ih =>
    show rt_s (fun i => if i = j then g i else 0) n + (if n = j then g n else 0) = _
    rw [ih]
    by_cases h : n = j
    · subst h
      rw [if_neg (by omega), if_pos rfl, if_pos (by omega)]; omega
    · rw [if_neg h]
      by_cases h2 : j < n
      · rw [if_pos h2, if_pos (by omega)]; omega
      · rw [if_neg h2, if_neg (by omega)]
/-- a sum over a * b places as a sum of sums -/
theorem rt_s_app (f : Nat → Nat) (n m : Nat) : rt_s f (n + m) = rt_s f n + rt_s (fun j => f (n + j)) m := by
  induction m with
  | zero => rfl
  | succ m ih =>
    show rt_s f (n + m) + f (n + m) = rt_s f n + (rt_s (fun j => f (n + j)) m + f (n + m))
    rw [ih]; omega
theorem rt_s_mul (f : Nat → Nat) (a b : Nat) : rt_s f (a * b) = rt_s (fun i => rt_s (fun j => f (i * b + j)) b) a := by
  induction a with
  | zero => rw [Nat.zero_mul]; rfl
  | succ a ih =>
    rw [Nat.succ_mul, rt_s_app, ih]; rfl
/-- how many of i < n -/
def rt_c (p : Nat → Bool) (n : Nat) : Nat := rt_s (fun i => if p i = true then 1 else 0) n
theorem rt_c_congr {p q : Nat → Bool} {n : Nat} (h : ∀ i, i < n → p i = q i) : rt_c p n = rt_c q n := rt_s_congr (fun i hi => by rw [h i hi])
theorem rt_c_le (p : Nat → Bool) (n : Nat) : rt_c p n ≤ n := by
  have := rt_s_le (f := fun i => if p i = true then 1 else 0) (n := n) (b := 1) (fun i _ => by by_cases h : p i = true <;> simp [h])
  unfold rt_c; omega
theorem rt_c_del {p q : Nat → Bool} {n j : Nat} (hj : j < n) (hp : p j = true) (hq : ∀ i, i < n → q i = (p i && !decide (i = j))) : rt_c p n = rt_c q n + 1 := by
  unfold rt_c
  have e : rt_s (fun i => if p i = true then 1 else 0) n = rt_s (fun i => (if q i = true then 1 else 0) + (if i = j then (fun _ => 1) i else 0)) n := by
    apply rt_s_congr
    intro i hi
    show (if p i = true then 1 else 0) = (if q i = true then 1 else 0) + (if i = j then 1 else 0)
    rw [hq i hi]
    by_cases h : i = j
    · subst h; simp [hp]
    · simp [h]
  rw [e, rt_s_add, rt_s_one (fun _ => 1) j n, if_pos hj]
theorem rt_c_dis {p q r : Nat → Bool} {n : Nat} (h : ∀ i, i < n → (r i = (p i && !q i)) ∧ (q i = true → p i = true)) : rt_c p n = rt_c r n + rt_c q n := by
  unfold rt_c
  rw [← rt_s_add]
  apply rt_s_congr
  intro i hi
  obtain ⟨h1, h2⟩ := h i hi
  show (if p i = true then 1 else 0) = (if r i = true then 1 else 0) + (if q i = true then 1 else 0)
  rw [h1]
  cases e : q i
  · simp
  · simp [h2 e]
theorem rt_c_0 {p : Nat → Bool} {n : Nat} (h : rt_c p n = 0) : ∀ i, i < n → p i = false := by
  intro i hi
  have := rt_s_zero_of h i hi
  cases e : p i
  · rfl
  · simp [e] at this
/-! the number of bits -/
theorem rt_ones {post : Int32 → Prop} {x : Int32} (hz : ∀ i, 20 ≤ i → rt_b x i = false) (H : post (nI (rt_c (rt_b x) 20))) : wpX_ones post () x := by
  refine lp3 (wX_ones_6 post) (fun x1 x2 x3 => ∃ i : Nat, i ≤ 20 ∧ x1 = nI i ∧ x3 = nI i ∧ i + rt_c (rt_b x2) 20 = rt_c (rt_b x) 20 ∧ ∀ k, 20 ≤ k → rt_b x2 k = false) (fun _ _ x3 => 20 - x3.toNatClampNeg) ?_ 0 x 0 ⟨0, by omega, rfl, rfl, by omega, hz⟩
  rintro n x1 x2 x3 ⟨i, hi, rfl, rfl, hc, hz2⟩ hw
  have hle := rt_c_le (rt_b x) 20
  refine pk_le 20 i (fun h => ?_) (fun h => br_c (fun e => ?_) (fun e => nm_e (nm_r (nI_1 i) (nm_r (nI_1 i) (hw _ _ _ ?_ ?_)))))
  · have e : rt_c (rt_b x) 20 = i := by omega
    rw [e] at H; exact H
  · have e0 : rt_c (rt_b x2) 20 = 0 := rt_s_zero (fun k _ => by rw [e, rt_0]; rfl)
    have e1 : rt_c (rt_b x) 20 = i := by omega
    rw [e1] at H; exact H
  · obtain ⟨j, hj, hb, hall⟩ := rt_low e
    have hj20 : j < 20 := by
      rcases Nat.lt_or_ge j 20 with g | g
      · exact g
      · rw [hz2 j g] at hb; exact absurd hb (by decide)
    have hd := rt_c_del (n := 20) hj20 hb (q := rt_b (x2 &&& (x2 - 1))) (fun i hi => hall i (by omega))
    refine ⟨i + 1, by omega, rfl, rfl, by omega, fun k hk => ?_⟩
    rw [rt_and, hz2 k hk, Bool.false_and]
  · show 20 - (nI (i + 1)).toNatClampNeg < 20 - (nI i).toNatClampNeg
    rw [nI_clamp (by omega), nI_clamp (by omega)]
    omega
end
section
/-! the picture of a state -/
/-- 0 out of range -/
def rt_Z (n : Nat) (a : Nat → Int32) : Prop := ∀ j, n ≤ j → a j = 0
/-- a reference -/
def rt_v (r : Int32) : Prop := r = -1 ∨ ∃ v : Nat, v < 20 ∧ r = nI v
/-- holders are what references say -/
def rt_isH (a4 a6 : Nat → Int32) : Prop := (∀ c v i, c < 6 → v < 20 → i < 32 → rt_b (a6 (20 * c + v)) i = (decide (i < 20) && decide (a4 (20 * c + i) = nI v))) ∧ rt_Z 120 a6
/-- refs are references -/
def rt_R (a4 : Nat → Int32) : Prop := rt_Z 120 a4 ∧ ∀ j, j < 120 → rt_v (a4 j)
def rt_W (a3 a4 a5 : Nat → Int32) : Prop := rt_Z 3 a3 ∧ rt_Z 60 a5 ∧ rt_R a4 ∧ (∀ t i, 20 ≤ i → rt_b (a3 t) i = false) ∧ (∀ c k, c < 6 → k < 20 → a4 (20 * c + k) = -1 ∨ rt_b (a3 (c / 2)) k = true)
theorem rt_Zu {n k : Nat} {a : Nat → Int32} {x : Int32} (h : rt_Z n a) (hk : k < n) : rt_Z n (upd a k x) := fun j hj => by
  rw [pk_un (by omega)]; exact h j hj
theorem rt_uu (f : Nat → Int32) (k : Nat) (v w : Int32) : upd (upd f k v) k w = upd f k w := by
  funext j
  by_cases h : j = k
  · subst h; rw [pk_us, pk_us]
  · rw [pk_un h, pk_un h, pk_un h]
theorem rt_ui {f : Nat → Int32} {k : Nat} {v : Int32} (h : f k = v) : upd f k v = f := by
  funext j
  by_cases e : j = k
  · subst e; rw [pk_us, h]
  · rw [pk_un e]
theorem rt_eqZ {n : Nat} {a b : Nat → Int32} (ha : rt_Z n a) (hb : rt_Z n b) (h : ∀ j, j < n → a j = b j) : a = b := by
  funext j
  rcases Nat.lt_or_ge j n with g | g
  · exact h j g
  · rw [ha j g, hb j g]
theorem rt_ne1 {v : Nat} (h : v < 2 ^ 31) : ¬ (nI v = -1) := by
  intro e
  have h1 := nI_toInt h
  rw [e] at h1
  have h2 : (-1 : Int32).toInt = -1 := by decide
  omega
theorem rt_neg1 : (-1 : Int32) < 0 := by decide
theorem rt_isH_uniq {a4 a6 b6 : Nat → Int32} (h : rt_isH a4 a6) (g : rt_isH a4 b6) : a6 = b6 := by
  refine rt_eqZ h.2 g.2 (fun j hj => rt_ext (fun i hi => ?_))
  have e : j = 20 * (j / 20) + j % 20 := by omega
  rw [e, h.1 (j / 20) (j % 20) i (by omega) (by omega) hi, g.1 (j / 20) (j % 20) i (by omega) (by omega) hi]
theorem rt_isH_hi {a4 a6 : Nat → Int32} (h : rt_isH a4 a6) : ∀ j i, 20 ≤ i → rt_b (a6 j) i = false := by
  intro j i hi
  rcases Nat.lt_or_ge i 32 with g | g
  · rcases Nat.lt_or_ge j 120 with q | q
    · have e : j = 20 * (j / 20) + j % 20 := by omega
      rw [e, h.1 (j / 20) (j % 20) i (by omega) (by omega) g, decide_eq_false (by omega), Bool.false_and]
    · rw [h.2 j q, rt_0]
  · exact rt_big g
/-- a reference goes -/
theorem rt_isH_clr {a4 a6 : Nat → Int32} {c k w : Nat} (h : rt_isH a4 a6) (hc : c < 6) (hk : k < 20) (hw : w < 20) (e : a4 (20 * c + k) = nI w) :
    rt_isH (upd a4 (20 * c + k) (-1)) (upd a6 (20 * c + w) (a6 (20 * c + w) &&& (((1 : Int32) <<< (nI k &&& 31)) ^^^ (-1)))) := by
  refine ⟨fun c' v i hc' hv hi => ?_, rt_Zu h.2 (by omega)⟩
  have h1 := h.1 c' v i hc' hv hi
  by_cases E : 20 * c' + v = 20 * c + w
  · have ec : c' = c := by omega
    have ev : v = w := by omega
    subst ec ev
    rw [pk_us, rt_and, rt_nbit k (by omega) hi, h1]
    by_cases ei : i = k
    · subst ei
      rw [pk_us, decide_eq_false (p := (-1 : Int32) = nI v) (fun z => rt_ne1 (by omega) z.symm)]
      simp
    · rw [pk_un (by omega), decide_eq_false ei]
      simp
  · rw [pk_un E, h1]
    by_cases ei : 20 * c' + i = 20 * c + k
    · rw [ei, pk_us, e, decide_eq_false (p := (-1 : Int32) = nI v) (fun z => rt_ne1 (by omega) z.symm)]
      by_cases hi20 : i < 20
      · have : ¬ nI w = nI v := by
          rw [nI_eq (by omega) (by omega)]; omega
        rw [decide_eq_false this]
      · rw [decide_eq_false hi20]; rfl
    · rw [pk_un ei]
/-- a reference comes -/
theorem rt_isH_set {a4 a6 : Nat → Int32} {c k v : Nat} (h : rt_isH a4 a6) (hc : c < 6) (hk : k < 20) (hv : v < 20) (e : a4 (20 * c + k) = -1) :
    rt_isH (upd a4 (20 * c + k) (nI v)) (upd a6 (20 * c + v) (a6 (20 * c + v) ||| ((1 : Int32) <<< (nI k &&& 31)))) := by
  refine ⟨fun c' v' i hc' hv' hi => ?_, rt_Zu h.2 (by omega)⟩
  have h1 := h.1 c' v' i hc' hv' hi
  by_cases E : 20 * c' + v' = 20 * c + v
  · have ec : c' = c := by omega
    have ev : v' = v := by omega
    subst ec ev
    rw [pk_us, rt_or, rt_bit k (by omega) hi, h1]
    by_cases ei : i = k
    · subst ei
      rw [pk_us]
      simp [hk]
    · rw [pk_un (by omega), decide_eq_false ei]
      simp
  · rw [pk_un E, h1]
    by_cases ei : 20 * c' + i = 20 * c + k
    · rw [ei, pk_us, e, decide_eq_false (p := (-1 : Int32) = nI v') (fun z => rt_ne1 (by omega) z.symm)]
      by_cases hi20 : i < 20
      · have : ¬ nI v = nI v' := by
          rw [nI_eq (by omega) (by omega)]; omega
        rw [decide_eq_false this]
      · rw [decide_eq_false hi20]; rfl
    · rw [pk_un ei]
theorem rt_ix (c k : Nat) : (20 * nI c) + nI k = nI (20 * c + k) := by
  show nI 20 * nI c + nI k = _
  rw [pk_mul, nI_add]
theorem rt_set50 {post : Int32 → St1 → Prop} {o m : Int32} {a1 a2 a3 a4 a5 a6 a7 a8 : Nat → Int32} {c k : Nat} {r x4 : Int32} (hc : c < 6) (hk : k < 20) (hx : x4 = nI (20 * c + k)) (hr : rt_v r)
    (H0 : r = -1 → post 1 (o, m, a1, a2, a3, upd a4 (20 * c + k) r, a5, a6, a7, a8))
    (H1 : ∀ v, v < 20 → r = nI v → post 1 (o, m, a1, a2, a3, upd a4 (20 * c + k) r, a5, upd a6 (20 * c + v) (a6 (20 * c + v) ||| ((1 : Int32) <<< (nI k &&& 31))), a7, a8)) :
    wX_setRef_50 post (nI c) (nI k) r x4 o m a1 a2 a3 a4 a5 a6 a7 a8 := by
  subst hx
  unfold wX_setRef_50
  rw [nI_clamp (show 20 * c + k < 2 ^ 31 by omega)]
  rcases hr with e | ⟨v, hv, e⟩
  · refine br_t (by rw [e]; exact rt_neg1) ⟨pk_in (20 * c + k) 120 (by omega), nm_e (H0 e)⟩
  · have hn : ¬ r < 0 := by rw [e]; exact nI_pos (by omega)
    refine br_f hn ?_
    have ei : (20 * nI c) + r = nI (20 * c + v) := by rw [e, rt_ix]
    rw [ei, nI_clamp (show 20 * c + v < 2 ^ 31 by omega)]
    exact ⟨pk_in (20 * c + v) 120 (by omega), pk_in (20 * c + v) 120 (by omega), nm_e ⟨pk_in (20 * c + k) 120 (by omega), nm_e (H1 v hv e)⟩⟩
theorem rt_setRef {post : Int32 → St1 → Prop} {o m : Int32} {a1 a2 a3 a4 a5 a6 a7 a8 : Nat → Int32} {c k : Nat} {r : Int32} (hc : c < 6) (hk : k < 20) (hr : rt_v r) (ho : rt_v (a4 (20 * c + k))) (hh : rt_isH a4 a6)
    (H : ∀ q b6, rt_isH (upd a4 (20 * c + k) r) b6 → post q (o, m, a1, a2, a3, upd a4 (20 * c + k) r, a5, b6, a7, a8)) :
    wpX_setRef post (o, m, a1, a2, a3, a4, a5, a6, a7, a8) (nI c) (nI k) r := by
  unfold wpX_setRef
  refine nm_r (rt_ix c k) ⟨pk_in (20 * c + k) 120 (by omega), ?_⟩
  rw [nI_clamp (show 20 * c + k < 2 ^ 31 by omega)]
  refine nm_e (br_c (fun e => ?_) (fun e => ?_))
  · have e2 := rt_ui e
    have H' := H 0 a6
    rw [e2] at H'
    exact H' hh
  · rcases ho with eo | ⟨w, hw, eo⟩
    · refine br_t (by rw [eo]; exact rt_neg1) (rt_set50 hc hk rfl hr (fun er => ?_) (fun v hv er => ?_))
      · exact absurd (eo.trans er.symm) e
      · refine H 1 _ ?_
        have := rt_isH_set hh hc hk hv eo
        rw [← er] at this
        exact this
    · have hn : ¬ a4 (20 * c + k) < 0 := by rw [eo]; exact nI_pos (by omega)
      refine br_f hn ?_
      have ei : (20 * nI c) + a4 (20 * c + k) = nI (20 * c + w) := by rw [eo, rt_ix]
      rw [ei, nI_clamp (show 20 * c + w < 2 ^ 31 by omega)]
      have hclr := rt_isH_clr hh hc hk hw eo
      refine ⟨pk_in (20 * c + w) 120 (by omega), pk_in (20 * c + w) 120 (by omega), nm_e (rt_set50 hc hk rfl hr (fun er => ?_) (fun v hv er => ?_))⟩
      · refine H 1 _ ?_
        rw [er]; exact hclr
      · refine H 1 _ ?_
        have := rt_isH_set hclr hc hk hv pk_us
        rw [rt_uu, ← er] at this
        exact this
theorem rt_Ru {a4 : Nat → Int32} {j : Nat} {r : Int32} (h : rt_R a4) (hj : j < 120) (hr : rt_v r) : rt_R (upd a4 j r) :=
  ⟨rt_Zu h.1 hj, fun i hi => by
    by_cases e : i = j
    · subst e; rw [pk_us]; exact hr
    · rw [pk_un e]; exact h.2 i hi⟩
theorem rt_v1 : rt_v (-1) := Or.inl rfl
theorem rt_vn {v : Nat} (h : v < 20) : rt_v (nI v) := Or.inr ⟨v, h, rfl⟩
/-! small questions -/
theorem rt_isTable {post : Int32 → Prop} {t : Nat} (ht : t < 3) (H : post 1) : wpX_isTable post () (nI t) :=
  br_f (nI_pos (by omega)) (br_f (nI_ge (b := 3) ht (by decide)) H)
theorem rt_isKey {post : Int32 → Prop} {k : Nat} (hk : k < 20) (H : post 1) : wpX_isKey post () (nI k) :=
  br_f (nI_pos (by omega)) (br_f (nI_ge (b := 20) hk (by decide)) H)
theorem rt_isColumn {post : Int32 → Prop} {k : Nat} (hk : k < 2) (H : post 1) : wpX_isColumn post () (nI k) :=
  pk_eq k 0 (fun _ => H) (fun h0 => pk_eq k 1 (fun _ => H) (fun h1 => absurd hk (by omega)))
theorem rt_hasRow {post : Int32 → Prop} {o m : Int32} {a1 a2 a3 a4 a5 a6 a7 a8 : Nat → Int32} {t k : Nat} (ht : t < 3) (hk : k < 20)
    (H1 : rt_b (a3 t) k = true → post 1) (H0 : rt_b (a3 t) k = false → post 0) : wpX_hasRow post (o, m, a1, a2, a3, a4, a5, a6, a7, a8) (nI t) (nI k) := by
  unfold wpX_hasRow
  refine rt_isKey hk (br_f (by decide) ⟨pk_in t 3 ht, ?_⟩)
  rw [nI_clamp (show t < 2 ^ 31 by omega)]
  exact br_c (fun e => H1 ((rt_t1 _ k (by omega)).mp e)) (fun e => H0 (by
    cases g : rt_b (a3 t) k
    · rfl
    · exact absurd ((rt_t1 _ k (by omega)).mpr g) e))
end
section
/-! links -/
def rt_L (a1 a2 : Nat → Int32) : Prop := ∀ c, c < 6 → (∃ l : Nat, l < 3 ∧ a1 c = nI l) ∧ (a2 c = -1 ∨ ∃ v : Nat, v < 4 ∧ a2 c = nI v)
def rt_ln (a1 : Nat → Int32) (c : Nat) : Nat := (a1 c).toNatClampNeg
theorem rt_ln_lt {a1 a2 : Nat → Int32} (h : rt_L a1 a2) {c : Nat} (hc : c < 6) : rt_ln a1 c < 3 ∧ a1 c = nI (rt_ln a1 c) := by
  obtain ⟨⟨l, hl, e⟩, _⟩ := h c hc
  have : rt_ln a1 c = l := by unfold rt_ln; rw [e, nI_clamp (by omega)]
  rw [this]; exact ⟨hl, e⟩
theorem rt_ln_in {a1 a2 : Nat → Int32} (h : rt_L a1 a2) {c : Nat} (hc : c < 6) : vp_in (a1 c) 3 := by
  have g := rt_ln_lt h hc
  rw [g.2]; exact vp_in_nI g.1 (by decide)
/-- how many references of column c are v -/
def rt_C (a4 : Nat → Int32) (c v : Nat) : Nat := rt_c (fun i => decide (a4 (20 * c + i) = nI v)) 20
/-- dangling references of column c -/
def rt_D (a1 a3 a4 : Nat → Int32) (c : Nat) : Nat := rt_s (fun k => if rt_b (a3 (rt_ln a1 c)) k = true then 0 else rt_C a4 c k) 20
def rt_DG (a1 a2 a3 a4 : Nat → Int32) : Nat := rt_s (fun c => if a2 c < 0 then 0 else rt_D a1 a3 a4 c) 6
def rt_RF (a1 a2 a4 : Nat → Int32) (t k : Nat) : Nat := rt_s (fun c => if a2 c < 0 then 0 else if rt_ln a1 c = t then rt_C a4 c k else 0) 6
theorem rt_C_le (a4 : Nat → Int32) (c v : Nat) : rt_C a4 c v ≤ 20 := rt_c_le _ 20
theorem rt_D_le (a1 a3 a4 : Nat → Int32) (c : Nat) : rt_D a1 a3 a4 c ≤ 400 :=
  rt_s_le (b := 20) (fun k _ => by
    show (if rt_b (a3 (rt_ln a1 c)) k = true then 0 else rt_C a4 c k) ≤ 20
    have := rt_C_le a4 c k
    split <;> omega)
theorem rt_RF_le (a1 a2 a4 : Nat → Int32) (t k : Nat) : rt_RF a1 a2 a4 t k ≤ 120 :=
  rt_s_le (b := 20) (fun c _ => by
    show (if a2 c < 0 then 0 else if rt_ln a1 c = t then rt_C a4 c k else 0) ≤ 20
    have := rt_C_le a4 c k
    split
    · omega
    · split <;> omega)
section
variable {o m : Int32} {a1 a2 a3 a4 a5 a6 a7 a8 : Nat → Int32}
theorem rt_C_ones {post : Int32 → Prop} (hh : rt_isH a4 a6) {c v : Nat} (hc : c < 6) (hv : v < 20) (H : post (nI (rt_C a4 c v))) : wpX_ones post () (a6 (20 * c + v)) := by
  refine rt_ones (rt_isH_hi hh _) ?_
  have e : rt_c (rt_b (a6 (20 * c + v))) 20 = rt_C a4 c v := rt_c_congr (fun i hi => by
    rw [hh.1 c v i hc hv (by omega), decide_eq_true hi, Bool.true_and])
  rw [e]; exact H
theorem rt_danglingIn {post : Int32 → Prop} (hl : rt_L a1 a2) (hh : rt_isH a4 a6) {c : Nat} (hc : c < 6) (H : post (nI (rt_D a1 a3 a4 c))) : wpX_danglingIn post (o, m, a1, a2, a3, a4, a5, a6, a7, a8) (nI c) := by
  unfold wpX_danglingIn
  refine pk_loop (σ := Unit) (fun n i _ => wX_danglingIn_4 post (nI c) o m a1 a2 a3 a4 a5 a6 a7 a8 n (nI (rt_s (fun k => if rt_b (a3 (rt_ln a1 c)) k = true then 0 else rt_C a4 c k) i)) (nI i)) (fun _ _ => True) 20 0 () (by omega) trivial ?_ ?_
  · intro n _ _
    exact pk_le 20 20 (fun _ => H) (fun z => absurd z (by omega))
  · intro n i _ hi _ hw
    have hw' : wX_danglingIn_4 post (nI c) o m a1 a2 a3 a4 a5 a6 a7 a8 n (nI (rt_s (fun k => if rt_b (a3 (rt_ln a1 c)) k = true then 0 else rt_C a4 c k) i + (if rt_b (a3 (rt_ln a1 c)) i = true then 0 else rt_C a4 c i))) (nI (i + 1)) := hw () trivial
    refine pk_le 20 i (fun z => absurd z (by omega)) (fun _ => ⟨pk_in c 6 hc, ?_⟩)
    rw [nI_clamp (show c < 2 ^ 31 by omega)]
    refine ⟨rt_ln_in hl hc, br_c (fun e => ?_) (fun e => ?_)⟩
    · have eb := (rt_t0 _ i (by omega)).mp e
      rw [rt_ix c i]
      refine ⟨pk_in (20 * c + i) 120 (by omega), ?_⟩
      rw [nI_clamp (show 20 * c + i < 2 ^ 31 by omega)]
      refine rt_C_ones hh hc hi (nm_r (nI_add _ _) (nm_r (nI_1 i) ?_))
      have eb' : rt_b (a3 (rt_ln a1 c)) i = false := eb
      rw [eb', if_neg (by decide)] at hw'
      exact hw'
    · have eb : rt_b (a3 (rt_ln a1 c)) i = true := by
        cases g : rt_b (a3 (rt_ln a1 c)) i
        · exact absurd ((rt_t0 _ i (by omega)).mpr g) e
        · rfl
      rw [eb, if_pos rfl, Nat.add_zero] at hw'
      exact nm_r (nI_1 i) hw'
theorem rt_dangling {post : Int32 → Prop} (hl : rt_L a1 a2) (hh : rt_isH a4 a6) (H : post (nI (rt_DG a1 a2 a3 a4))) : wpX_dangling post (o, m, a1, a2, a3, a4, a5, a6, a7, a8) := by
  unfold wpX_dangling
  refine pk_loop (σ := Unit) (fun n i _ => wX_dangling_4 post o m a1 a2 a3 a4 a5 a6 a7 a8 n (nI (rt_s (fun c => if a2 c < 0 then 0 else rt_D a1 a3 a4 c) i)) (nI i)) (fun _ _ => True) 6 0 () (by omega) trivial ?_ ?_
  · intro n _ _
    exact pk_le 6 6 (fun _ => H) (fun z => absurd z (by omega))
  · intro n i _ hi _ hw
    have hw' : wX_dangling_4 post o m a1 a2 a3 a4 a5 a6 a7 a8 n (nI (rt_s (fun c => if a2 c < 0 then 0 else rt_D a1 a3 a4 c) i + (if a2 i < 0 then 0 else rt_D a1 a3 a4 i))) (nI (i + 1)) := hw () trivial
    refine pk_le 6 i (fun z => absurd z (by omega)) (fun _ => ⟨pk_in i 6 hi, ?_⟩)
    rw [nI_clamp (show i < 2 ^ 31 by omega)]
    refine br_c (fun e => ?_) (fun e => ?_)
    · rw [if_pos e] at hw'
      exact nm_r (nI_add _ 0) (nm_r (nI_1 i) hw')
    · rw [if_neg e] at hw'
      exact rt_danglingIn hl hh hi (nm_r (nI_add _ _) (nm_r (nI_1 i) hw'))
/-- sound: the links that are asked for have nothing dangling -/
def rt_S (q : Int32) (a1 a2 a3 a4 : Nat → Int32) : Prop := ∀ c, c < 6 → ¬ a2 c < 0 → (a2 c = 3 → ¬ q = 0) → rt_D a1 a3 a4 c = 0
theorem rt_isSound {post : Int32 → Prop} {q : Int32} (hl : rt_L a1 a2) (hh : rt_isH a4 a6) (H1 : rt_S q a1 a2 a3 a4 → post 1) (H0 : post 0) : wpX_isSound post (o, m, a1, a2, a3, a4, a5, a6, a7, a8) q := by
  unfold wpX_isSound
  refine pk_loop (σ := Unit) (fun n i _ => wX_isSound_2 post q o m a1 a2 a3 a4 a5 a6 a7 a8 n (nI i)) (fun i _ => ∀ c, c < i → ¬ a2 c < 0 → (a2 c = 3 → ¬ q = 0) → rt_D a1 a3 a4 c = 0) 6 0 () (by omega) (fun c h => absurd h (by omega)) ?_ ?_
  · intro n _ h
    exact pk_le 6 6 (fun _ => H1 h) (fun z => absurd z (by omega))
  · intro n i _ hi h hw
    have skip : (a2 i < 0 ∨ (a2 i = 3 ∧ q = 0) ∨ rt_D a1 a3 a4 i = 0) → wX_isSound_2 post q o m a1 a2 a3 a4 a5 a6 a7 a8 n (nI (i + 1)) := by
      intro hz
      refine hw () (fun c hc g1 g2 => ?_)
      by_cases e : c = i
      · subst e
        rcases hz with z | z | z
        · exact absurd z g1
        · exact absurd z.2 (g2 z.1)
        · exact z
      · exact h c (by omega) g1 g2
    have ask : wX_isSound_31 post (wX_isSound_2 post q o m a1 a2 a3 a4 a5 a6 a7 a8 n) q (nI i) o m a1 a2 a3 a4 a5 a6 a7 a8 := by
      refine br_f (by decide) (rt_danglingIn hl hh hi ?_)
      have hD := rt_D_le a1 a3 a4 i
      exact pk_le (rt_D a1 a3 a4 i) 0 (fun z => nm_r (nI_1 i) (skip (Or.inr (Or.inr (by omega))))) (fun _ => H0)
    refine pk_le 6 i (fun z => absurd z (by omega)) (fun _ => ⟨pk_in i 6 hi, ?_⟩)
    rw [nI_clamp (show i < 2 ^ 31 by omega)]
    refine br_c (fun e => br_t rfl (nm_r (nI_1 i) (skip (Or.inl e)))) (fun e => ⟨pk_in i 6 hi, br_c (fun e3 => br_c (fun e0 => br_t rfl (nm_r (nI_1 i) (skip (Or.inr (Or.inl ⟨e3, e0⟩))))) (fun _ => ask)) (fun _ => ask)⟩)
theorem rt_ix2 (t e k : Nat) : (20 * ((2 * nI t) + nI e)) + nI k = nI (20 * (2 * t + e) + k) := by
  show nI 20 * (nI 2 * nI t + nI e) + nI k = _
  rw [pk_mul, nI_add, pk_mul, nI_add]
theorem rt_reference {post : Int32 → Prop} {t k e : Nat} (ht : t < 3) (hk : k < 20) (he : e < 2)
    (H1 : rt_b (a3 t) k = true → post (a4 (20 * (2 * t + e) + k))) (H0 : rt_b (a3 t) k = false → post (-3)) : wpX_reference post (o, m, a1, a2, a3, a4, a5, a6, a7, a8) (nI t) (nI k) (nI e) := by
  unfold wpX_reference
  refine rt_isTable ht (br_f (by decide) (rt_hasRow ht hk (fun g => br_f (by decide) (rt_isColumn he (br_f (by decide) ?_))) (fun g => br_t rfl (H0 g))))
  rw [rt_ix2 t e k, nI_clamp (show 20 * (2 * t + e) + k < 2 ^ 31 by omega)]
  exact ⟨pk_in (20 * (2 * t + e) + k) 120 (by omega), H1 g⟩
theorem rt_valueOf {post : Int32 → Prop} {t k : Nat} (ht : t < 3) (hk : k < 20)
    (H1 : rt_b (a3 t) k = true → post (a5 (20 * t + k))) (H0 : rt_b (a3 t) k = false → post 0) : wpX_valueOf post (o, m, a1, a2, a3, a4, a5, a6, a7, a8) (nI t) (nI k) := by
  unfold wpX_valueOf
  refine rt_isTable ht (br_f (by decide) (rt_hasRow ht hk (fun g => br_f (by decide) ?_) (fun g => br_t rfl (H0 g))))
  rw [rt_ix t k, nI_clamp (show 20 * t + k < 2 ^ 31 by omega)]
  exact ⟨pk_in (20 * t + k) 60 (by omega), H1 g⟩
theorem rt_referrers {post : Int32 → Prop} (hl : rt_L a1 a2) (hh : rt_isH a4 a6) {t k : Nat} (ht : t < 3) (hk : k < 20)
    (H1 : rt_b (a3 t) k = true → post (nI (rt_RF a1 a2 a4 t k))) (H0 : rt_b (a3 t) k = false → post (-2)) : wpX_referrers post (o, m, a1, a2, a3, a4, a5, a6, a7, a8) (nI t) (nI k) := by
  unfold wpX_referrers
  refine rt_isTable ht (br_f (by decide) (rt_hasRow ht hk (fun g => br_f (by decide) ?_) (fun g => br_t rfl (H0 g))))
  refine pk_loop (σ := Unit) (fun n i _ => wX_referrers_26 post (nI t) (nI k) o m a1 a2 a3 a4 a5 a6 a7 a8 n (nI (rt_s (fun c => if a2 c < 0 then 0 else if rt_ln a1 c = t then rt_C a4 c k else 0) i)) (nI i)) (fun _ _ => True) 6 0 () (by omega) trivial ?_ ?_
  · intro n _ _
    exact pk_le 6 6 (fun _ => H1 g) (fun z => absurd z (by omega))
  · intro n i _ hi _ hw
    have hw' : wX_referrers_26 post (nI t) (nI k) o m a1 a2 a3 a4 a5 a6 a7 a8 n (nI (rt_s (fun c => if a2 c < 0 then 0 else if rt_ln a1 c = t then rt_C a4 c k else 0) i + (if a2 i < 0 then 0 else if rt_ln a1 i = t then rt_C a4 i k else 0))) (nI (i + 1)) := hw () trivial
    refine pk_le 6 i (fun z => absurd z (by omega)) (fun _ => ⟨pk_in i 6 hi, ?_⟩)
    rw [nI_clamp (show i < 2 ^ 31 by omega)]
    refine br_c (fun e => ?_) (fun e => ⟨pk_in i 6 hi, ?_⟩)
    · rw [if_pos e, Nat.add_zero] at hw'
      exact nm_r (nI_1 i) hw'
    · rw [if_neg e] at hw'
      have hln := rt_ln_lt hl hi
      refine pk_eq (rt_ln a1 i) t (fun z => ?_) (fun z => ?_) hln.2
      · rw [if_pos z] at hw'
        rw [rt_ix i k]
        refine ⟨pk_in (20 * i + k) 120 (by omega), ?_⟩
        rw [nI_clamp (show 20 * i + k < 2 ^ 31 by omega)]
        exact rt_C_ones hh hi hk (nm_r (nI_add _ _) (nm_r (nI_1 i) hw'))
      · rw [if_neg z, Nat.add_zero] at hw'
        exact nm_r (nI_1 i) hw'
end
end
section
/-! look: it ends, and its answer hangs on a1 .. a6 alone -/
theorem rt_key14 (a3 : Nat → Int32) {t : Nat} (ht : t < 3) (k : Int32) (d : Nat) : d ≤ 20 → ∀ x3 : Int32, ∃ v : Int32, ∀ (o m : Int32) (a1 a2 a4 a5 a6 a7 a8 : Nat → Int32) (post : Int32 → Prop), post v → ∃ n, wX_keyAt_14 post (nI t) k o m a1 a2 a3 a4 a5 a6 a7 a8 n x3 (nI (20 - d)) := by
  induction d with
  | zero => exact fun _ x3 => ⟨-2, fun o m a1 a2 a4 a5 a6 a7 a8 post h => ⟨1, pk_le 20 20 (fun _ => h) (fun z => absurd z (by omega))⟩⟩
  | succ d ih =>
    intro hd x3
    obtain ⟨i, e1, e2, hi⟩ : ∃ i, 20 - (d + 1) = i ∧ 20 - d = i + 1 ∧ i < 20 := ⟨20 - (d + 1), rfl, by omega, by omega⟩
    rw [e1]
    have ih := ih (by omega)
    rw [e2] at ih
    by_cases hb : ((a3 t >>> (nI i &&& 31)) &&& 1) = 1
    · by_cases hx : x3 = k
      · refine ⟨nI i, fun o m a1 a2 a4 a5 a6 a7 a8 post h => ⟨1, pk_le 20 i (fun z => absurd z (by omega)) (fun _ => ⟨pk_in t 3 ht, ?_⟩)⟩⟩
        rw [nI_clamp (show t < 2 ^ 31 by omega)]
        exact br_t hb (br_t hx h)
      · obtain ⟨v, hv⟩ := ih (x3 + 1)
        refine ⟨v, fun o m a1 a2 a4 a5 a6 a7 a8 post h => ?_⟩
        obtain ⟨n, hn⟩ := hv o m a1 a2 a4 a5 a6 a7 a8 post h
        refine ⟨n + 1, pk_le 20 i (fun z => absurd z (by omega)) (fun _ => ⟨pk_in t 3 ht, ?_⟩)⟩
        rw [nI_clamp (show t < 2 ^ 31 by omega)]
        exact br_t hb (br_f hx (nm_e (nm_r (nI_1 i) hn)))
    · obtain ⟨v, hv⟩ := ih x3
      refine ⟨v, fun o m a1 a2 a4 a5 a6 a7 a8 post h => ?_⟩
      obtain ⟨n, hn⟩ := hv o m a1 a2 a4 a5 a6 a7 a8 post h
      refine ⟨n + 1, pk_le 20 i (fun z => absurd z (by omega)) (fun _ => ⟨pk_in t 3 ht, ?_⟩)⟩
      rw [nI_clamp (show t < 2 ^ 31 by omega)]
      exact br_f hb (nm_r (nI_1 i) hn)
theorem rt_keyAt (a3 : Nat → Int32) {t : Nat} (ht : t < 3) (k : Int32) : ∃ v : Int32, ∀ (o m : Int32) (a1 a2 a4 a5 a6 a7 a8 : Nat → Int32) (post : Int32 → Prop), post v → wpX_keyAt post (o, m, a1, a2, a3, a4, a5, a6, a7, a8) (nI t) k := by
  obtain ⟨v, hv⟩ := rt_key14 a3 ht k 20 (by omega) 0
  refine ⟨v, fun o m a1 a2 a4 a5 a6 a7 a8 post h => ?_⟩
  unfold wpX_keyAt
  exact rt_isTable ht (br_f (by decide) (hv o m a1 a2 a4 a5 a6 a7 a8 post h))
theorem rt_look16 (a1 a2 a3 a4 a5 a6 : Nat → Int32) {t : Nat} (ht : t < 3) (d : Nat) : d ≤ 20 → ∀ x1 : Int64, ∃ v : Int64, ∀ (o m : Int32) (a7 a8 : Nat → Int32) (post : Int64 → Prop) (J : Int64 → Int32 → Prop), J v (nI (t + 1)) → ∃ n, wL_look_16 post J (nI t) o m a1 a2 a3 a4 a5 a6 a7 a8 n x1 (nI (20 - d)) := by
  induction d with
  | zero => exact fun _ x1 => ⟨x1, fun o m a7 a8 post J h => ⟨1, pk_le 20 20 (fun _ => nm_r (nI_1 t) h) (fun z => absurd z (by omega))⟩⟩
  | succ d ih =>
    intro hd x1
    obtain ⟨i, e1, e2, hi⟩ : ∃ i, 20 - (d + 1) = i ∧ 20 - d = i + 1 ∧ i < 20 := ⟨20 - (d + 1), rfl, by omega, by omega⟩
    rw [e1]
    have ih := ih (by omega)
    rw [e2] at ih
    obtain ⟨r5, h5⟩ := rt_keyAt a3 ht (nI i)
    have ref : ∀ e, e < 2 → ∃ r : Int32, ∀ (o m : Int32) (a7 a8 : Nat → Int32) (post : Int32 → Prop), post r → wpX_reference post (o, m, a1, a2, a3, a4, a5, a6, a7, a8) (nI t) (nI i) (nI e) := by
      intro e he
      cases hb : rt_b (a3 t) i
      · exact ⟨-3, fun o m a7 a8 post h => rt_reference ht hi he (fun z => by rw [hb] at z; exact absurd z (by decide)) (fun _ => h)⟩
      · exact ⟨_, fun o m a7 a8 post h => rt_reference ht hi he (fun _ => h) (fun z => by rw [hb] at z; exact absurd z (by decide))⟩
    obtain ⟨r6, h6⟩ := ref 0 (by omega)
    obtain ⟨r7, h7⟩ := ref 1 (by omega)
    have val : ∃ r : Int32, ∀ (o m : Int32) (a7 a8 : Nat → Int32) (post : Int32 → Prop), post r → wpX_valueOf post (o, m, a1, a2, a3, a4, a5, a6, a7, a8) (nI t) (nI i) := by
      cases hb : rt_b (a3 t) i
      · exact ⟨0, fun o m a7 a8 post h => rt_valueOf ht hi (fun z => by rw [hb] at z; exact absurd z (by decide)) (fun _ => h)⟩
      · exact ⟨_, fun o m a7 a8 post h => rt_valueOf ht hi (fun _ => h) (fun z => by rw [hb] at z; exact absurd z (by decide))⟩
    obtain ⟨r8, h8⟩ := val
    obtain ⟨v, hv⟩ := ih ((31 * ((31 * ((31 * ((31 * x1) + r5.toInt64)) + r6.toInt64)) + r7.toInt64)) + r8.toInt64)
    refine ⟨v, fun o m a7 a8 post J h => ?_⟩
    obtain ⟨n, hn⟩ := hv o m a7 a8 post J h
    exact ⟨n + 1, pk_le 20 i (fun z => absurd z (by omega)) (fun _ => h5 o m a1 a2 a4 a5 a6 a7 a8 _ (h6 o m a7 a8 _ (h7 o m a7 a8 _ (h8 o m a7 a8 _ (nm_e (nm_r (nI_1 i) hn))))))⟩
theorem rt_look8 (a1 a2 a3 a4 a5 a6 : Nat → Int32) (d : Nat) : d ≤ 3 → ∀ x1 : Int64, ∃ v : Int64, ∀ (o m : Int32) (a7 a8 : Nat → Int32) (post : Int64 → Prop), post v → ∃ n, wL_look_8 post o m a1 a2 a3 a4 a5 a6 a7 a8 n x1 (nI (3 - d)) := by
  induction d with
  | zero => exact fun _ x1 => ⟨x1, fun o m a7 a8 post h => ⟨1, pk_le 3 3 (fun _ => h) (fun z => absurd z (by omega))⟩⟩
  | succ d ih =>
    intro hd x1
    obtain ⟨i, e1, e2, hi⟩ : ∃ i, 3 - (d + 1) = i ∧ 3 - d = i + 1 ∧ i < 3 := ⟨3 - (d + 1), rfl, by omega, by omega⟩
    rw [e1]
    have ih := ih (by omega)
    rw [e2] at ih
    obtain ⟨v1, h1⟩ := rt_look16 a1 a2 a3 a4 a5 a6 hi 20 (by omega) x1
    obtain ⟨v, hv⟩ := ih v1
    refine ⟨v, fun o m a7 a8 post h => ?_⟩
    obtain ⟨n, hn⟩ := hv o m a7 a8 post h
    exact ⟨n + 1, pk_le 3 i (fun z => absurd z (by omega)) (fun _ => h1 o m a7 a8 post (wL_look_8 post o m a1 a2 a3 a4 a5 a6 a7 a8 n) hn)⟩
/-- look answers v there -/
def rt_Lk (v : Int64) (a1 a2 a3 a4 a5 a6 : Nat → Int32) : Prop := ∀ (o m : Int32) (a7 a8 : Nat → Int32) (post : Int64 → Prop), post v → wpL_look post (o, m, a1, a2, a3, a4, a5, a6, a7, a8)
theorem rt_look {a1 a2 a3 a4 a5 a6 : Nat → Int32} (hl : rt_L a1 a2) (hh : rt_isH a4 a6) : ∃ v, rt_Lk v a1 a2 a3 a4 a5 a6 := by
  obtain ⟨v, hv⟩ := rt_look8 a1 a2 a3 a4 a5 a6 3 (by omega) (nI (rt_DG a1 a2 a3 a4)).toInt64
  refine ⟨v, fun o m a7 a8 post h => ?_⟩
  unfold wpL_look
  exact rt_dangling hl hh (hv o m a7 a8 post h)
end
section
/-! what counted counts -/
theorem rt_s_120 (g : Nat → Nat → Nat → Nat) : rt_s (fun p => g (p / 40) (p / 2 % 20) (p % 2)) 120 = rt_s (fun t => rt_s (fun k => rt_s (fun e => g t k e) 2) 20) 3 := by
  have h := rt_s_mul (fun p => g (p / 40) (p / 2 % 20) (p % 2)) 3 40
  rw [show (120 : Nat) = 3 * 40 from rfl, h]
  apply rt_s_congr
  intro t ht
  have h2 := rt_s_mul (fun j => g ((t * 40 + j) / 40) ((t * 40 + j) / 2 % 20) ((t * 40 + j) % 2)) 20 2
  show rt_s (fun j => g ((t * 40 + j) / 40) ((t * 40 + j) / 2 % 20) ((t * 40 + j) % 2)) (20 * 2) = _
  rw [h2]
  apply rt_s_congr
  intro k hk
  apply rt_s_congr
  intro e he
  show g ((t * 40 + (k * 2 + e)) / 40) ((t * 40 + (k * 2 + e)) / 2 % 20) ((t * 40 + (k * 2 + e)) % 2) = g t k e
  rw [show (t * 40 + (k * 2 + e)) / 40 = t by omega, show (t * 40 + (k * 2 + e)) / 2 % 20 = k by omega, show (t * 40 + (k * 2 + e)) % 2 = e by omega]
/-- references of column c in all -/
def rt_N (a4 : Nat → Int32) (c : Nat) : Nat := rt_s (fun k => if a4 (20 * c + k) < 0 then 0 else 1) 20
theorem rt_sumC {a4 : Nat → Int32} (h : rt_R a4) {c : Nat} (hc : c < 6) : rt_s (fun v => rt_C a4 c v) 20 = rt_N a4 c := by
  unfold rt_C rt_c rt_N
  rw [rt_s_swap]
  apply rt_s_congr
  intro i hi
  show rt_s (fun v => if decide (a4 (20 * c + i) = nI v) = true then 1 else 0) 20 = if a4 (20 * c + i) < 0 then 0 else 1
  rcases h.2 (20 * c + i) (by omega) with e | ⟨w, hw, e⟩
  · rw [e, if_pos rt_neg1]
    apply rt_s_zero
    intro v hv
    rw [if_neg]
    intro z
    exact rt_ne1 (v := v) (by omega) (of_decide_eq_true z).symm
  · rw [e, if_neg (nI_pos (by omega))]
    have := rt_s_one (fun _ => 1) w 20
    rw [if_pos hw] at this
    refine (rt_s_congr (g := fun i => if i = w then (fun _ => 1) i else 0) (fun v hv => ?_)).trans this
    show (if decide (nI w = nI v) = true then 1 else 0) = if v = w then 1 else 0
    by_cases ev : v = w
    · subst ev; simp
    · have : ¬ nI w = nI v := by rw [nI_eq (by omega) (by omega)]; omega
      rw [if_neg ev, if_neg (by simpa using this)]
def rt_gA (a2 a3 a4 : Nat → Int32) (t k e : Nat) : Nat := if rt_b (a3 t) k = true ∧ ¬ a4 (20 * (2 * t + e) + k) < 0 ∧ ¬ a2 (2 * t + e) < 0 then 1 else 0
def rt_gB (a1 a2 a3 a4 : Nat → Int32) (t k e : Nat) : Nat := if e = 0 ∧ rt_b (a3 t) k = true then rt_RF a1 a2 a4 t k else 0
theorem rt_sumA {a2 a3 a4 a5 : Nat → Int32} (h : rt_W a3 a4 a5) : rt_s (fun p => rt_gA a2 a3 a4 (p / 40) (p / 2 % 20) (p % 2)) 120 = rt_s (fun c => if a2 c < 0 then 0 else rt_N a4 c) 6 := by
  rw [rt_s_120]
  have h2 := rt_s_mul (fun c => if a2 c < 0 then 0 else rt_N a4 c) 3 2
  rw [show (6 : Nat) = 3 * 2 from rfl, h2]
  apply rt_s_congr
  intro t ht
  rw [rt_s_swap]
  apply rt_s_congr
  intro e he
  show rt_s (fun k => rt_gA a2 a3 a4 t k e) 20 = if a2 (t * 2 + e) < 0 then 0 else rt_N a4 (t * 2 + e)
  rw [show t * 2 + e = 2 * t + e by omega]
  by_cases g : a2 (2 * t + e) < 0
  · rw [if_pos g]
    exact rt_s_zero (fun k _ => if_neg (fun z => z.2.2 g))
  · rw [if_neg g]
    unfold rt_N
    apply rt_s_congr
    intro k hk
    show rt_gA a2 a3 a4 t k e = if a4 (20 * (2 * t + e) + k) < 0 then 0 else 1
    unfold rt_gA
    by_cases q : a4 (20 * (2 * t + e) + k) < 0
    · rw [if_pos q, if_neg (fun z => z.2.1 q)]
    · rw [if_neg q]
      have hrow := h.2.2.2.2 (2 * t + e) k (by omega) hk
      rw [show (2 * t + e) / 2 = t by omega] at hrow
      rcases hrow with z | z
      · rw [z] at q; exact absurd rt_neg1 q
      · rw [if_pos ⟨z, q, g⟩]
theorem rt_sumB {a1 a2 a3 a4 : Nat → Int32} (hl : rt_L a1 a2) : rt_s (fun p => rt_gB a1 a2 a3 a4 (p / 40) (p / 2 % 20) (p % 2)) 120 = rt_s (fun c => if a2 c < 0 then 0 else rt_s (fun k => if rt_b (a3 (rt_ln a1 c)) k = true then rt_C a4 c k else 0) 20) 6 := by
  rw [rt_s_120]
  have e1 : ∀ t, t < 3 → rt_s (fun k => rt_s (fun e => rt_gB a1 a2 a3 a4 t k e) 2) 20 = rt_s (fun c => rt_s (fun k => if rt_b (a3 t) k = true then (if a2 c < 0 then 0 else if rt_ln a1 c = t then rt_C a4 c k else 0) else 0) 20) 6 := by
    intro t ht
    rw [rt_s_swap (fun c k => if rt_b (a3 t) k = true then (if a2 c < 0 then 0 else if rt_ln a1 c = t then rt_C a4 c k else 0) else 0) 6 20]
    apply rt_s_congr
    intro k hk
    show 0 + rt_gB a1 a2 a3 a4 t k 0 + rt_gB a1 a2 a3 a4 t k 1 = _
    have g1 : rt_gB a1 a2 a3 a4 t k 1 = 0 := if_neg (fun z => absurd z.1 (by decide))
    rw [g1, Nat.zero_add, Nat.add_zero]
    unfold rt_gB
    by_cases hb : rt_b (a3 t) k = true
    · rw [if_pos ⟨rfl, hb⟩]
      unfold rt_RF
      apply rt_s_congr
      intro c hc
      rw [if_pos hb]
    · rw [if_neg (fun z => hb z.2)]
      exact (rt_s_zero (fun c _ => if_neg hb)).symm
  rw [rt_s_congr e1, rt_s_swap]
  apply rt_s_congr
  intro c hc
  show rt_s (fun t => rt_s (fun k => if rt_b (a3 t) k = true then (if a2 c < 0 then 0 else if rt_ln a1 c = t then rt_C a4 c k else 0) else 0) 20) 3 = _
  by_cases g : a2 c < 0
  · rw [if_pos g]
    apply rt_s_zero
    intro t ht
    apply rt_s_zero
    intro k hk
    show (if rt_b (a3 t) k = true then (if a2 c < 0 then 0 else if rt_ln a1 c = t then rt_C a4 c k else 0) else 0) = 0
    rw [if_pos g]
    split <;> rfl
  · rw [if_neg g]
    have hln := (rt_ln_lt hl hc).1
    have key := rt_s_one (fun t => rt_s (fun k => if rt_b (a3 t) k = true then rt_C a4 c k else 0) 20) (rt_ln a1 c) 3
    rw [if_pos hln] at key
    rw [← key]
    apply rt_s_congr
    intro t ht
    show rt_s (fun k => if rt_b (a3 t) k = true then (if a2 c < 0 then 0 else if rt_ln a1 c = t then rt_C a4 c k else 0) else 0) 20 = if t = rt_ln a1 c then rt_s (fun k => if rt_b (a3 t) k = true then rt_C a4 c k else 0) 20 else 0
    by_cases et : t = rt_ln a1 c
    · rw [if_pos et]
      apply rt_s_congr
      intro k hk
      show (if rt_b (a3 t) k = true then (if a2 c < 0 then 0 else if rt_ln a1 c = t then rt_C a4 c k else 0) else 0) = if rt_b (a3 t) k = true then rt_C a4 c k else 0
      rw [if_neg g, if_pos et.symm]
    · rw [if_neg et]
      apply rt_s_zero
      intro k hk
      show (if rt_b (a3 t) k = true then (if a2 c < 0 then 0 else if rt_ln a1 c = t then rt_C a4 c k else 0) else 0) = 0
      rw [if_neg g, if_neg (c := rt_ln a1 c = t) (fun z => et z.symm)]
      split <;> rfl
theorem rt_count {a1 a2 a3 a4 a5 : Nat → Int32} (hl : rt_L a1 a2) (h : rt_W a3 a4 a5) :
    rt_s (fun p => rt_gB a1 a2 a3 a4 (p / 40) (p / 2 % 20) (p % 2)) 120 + rt_DG a1 a2 a3 a4 = rt_s (fun p => rt_gA a2 a3 a4 (p / 40) (p / 2 % 20) (p % 2)) 120 := by
  rw [rt_sumB hl, rt_sumA h]
  unfold rt_DG
  rw [← rt_s_add]
  apply rt_s_congr
  intro c hc
  show (if a2 c < 0 then 0 else rt_s (fun k => if rt_b (a3 (rt_ln a1 c)) k = true then rt_C a4 c k else 0) 20) + (if a2 c < 0 then 0 else rt_D a1 a3 a4 c) = if a2 c < 0 then 0 else rt_N a4 c
  by_cases g : a2 c < 0
  · rw [if_pos g, if_pos g, if_pos g]
  · rw [if_neg g, if_neg g, if_neg g, ← rt_sumC h.2.2.1 hc]
    unfold rt_D
    rw [← rt_s_add]
    apply rt_s_congr
    intro k hk
    show (if rt_b (a3 (rt_ln a1 c)) k = true then rt_C a4 c k else 0) + (if rt_b (a3 (rt_ln a1 c)) k = true then 0 else rt_C a4 c k) = rt_C a4 c k
    split <;> omega
theorem rt_C_pos {a4 : Nat → Int32} {c k v : Nat} (hk : k < 20) (e : a4 (20 * c + k) = nI v) : 1 ≤ rt_C a4 c v := by
  have := rt_s_ge (f := fun i => if decide (a4 (20 * c + i) = nI v) = true then 1 else 0) (n := 20) k hk
  have e2 : (if decide (a4 (20 * c + k) = nI v) = true then 1 else 0) = 1 := if_pos (by simpa using e)
  unfold rt_C rt_c
  have this' : (if decide (a4 (20 * c + k) = nI v) = true then 1 else 0) ≤ rt_s (fun i => if decide (a4 (20 * c + i) = nI v) = true then 1 else 0) 20 := this
  rw [e2] at this'
  exact this'
/-- a sound reference has its row, and the row has a referrer -/
theorem rt_D_row {a1 a3 a4 : Nat → Int32} {c k v : Nat} (hk : k < 20) (hv : v < 20) (e : a4 (20 * c + k) = nI v) (hD : rt_D a1 a3 a4 c = 0) : rt_b (a3 (rt_ln a1 c)) v = true := by
  have h := rt_s_zero_of hD v hv
  have hC := rt_C_pos hk e
  cases g : rt_b (a3 (rt_ln a1 c)) v
  · have h' : (if rt_b (a3 (rt_ln a1 c)) v = true then 0 else rt_C a4 c v) = 0 := h
    rw [g, if_neg (by decide)] at h'
    omega
  · rfl
theorem rt_RF_pos {a1 a2 a4 : Nat → Int32} {c k v : Nat} (hc : c < 6) (hk : k < 20) (e : a4 (20 * c + k) = nI v) (h2 : ¬ a2 c < 0) : 1 ≤ rt_RF a1 a2 a4 (rt_ln a1 c) v := by
  have h := rt_s_ge (f := fun c' => if a2 c' < 0 then 0 else if rt_ln a1 c' = rt_ln a1 c then rt_C a4 c' v else 0) (n := 6) c hc
  have h' : (if a2 c < 0 then 0 else if rt_ln a1 c = rt_ln a1 c then rt_C a4 c v else 0) ≤ rt_RF a1 a2 a4 (rt_ln a1 c) v := h
  rw [if_neg h2, if_pos rfl] at h'
  have := rt_C_pos hk e
  omega
end
section
/-! the walk through counted -/
def rt_ru (ls x : Int32) : Int32 := (((ls >>> ((5 * x) &&& 31)) &&& 7) - ((ls >>> ((5 * x) &&& 31)) &&& 7) / 5 * 5) - 1
def rt_li (ls x : Int32) : Int32 := ((ls >>> (((5 * x) + 3) &&& 31)) &&& 3) - ((ls >>> (((5 * x) + 3) &&& 31)) &&& 3) / 3 * 3
theorem rt_rule {post : Int32 → Prop} {ls x v : Int32} (e : rt_ru ls x = v) (H : post v) : wpL_rule post () ls x := by
  subst e
  exact ⟨by decide, H⟩
theorem rt_linked {post : Int32 → Prop} {ls x v : Int32} (e : rt_li ls x = v) (H : post v) : wpL_linked post () ls x := by
  subst e
  exact ⟨by decide, H⟩
theorem rt_ru_in (ls x : Int32) : rt_ru ls x = -1 ∨ ∃ v : Nat, v < 4 ∧ rt_ru ls x = nI v := by
  obtain ⟨j, hj, e⟩ := pk_andE (ls >>> ((5 * x) &&& 31)) (m := 7) 3 (by decide)
  unfold rt_ru
  rw [e]
  have er : nI j - nI j / 5 * 5 = nI (j % 5) := pk_rem (d := 5) (by omega) (by decide) (by decide)
  rw [er]
  by_cases h : j % 5 = 0
  · left; rw [h]; decide
  · right
    refine ⟨j % 5 - 1, by omega, ?_⟩
    have := nI_pred (j % 5 - 1)
    rw [show j % 5 - 1 + 1 = j % 5 by omega] at this
    exact this
theorem rt_li_in (ls x : Int32) : ∃ l : Nat, l < 3 ∧ rt_li ls x = nI l := by
  obtain ⟨j, hj, e⟩ := pk_andE (ls >>> (((5 * x) + 3) &&& 31)) (m := 3) 2 (by decide)
  unfold rt_li
  rw [e]
  have er : nI j - nI j / 3 * 3 = nI (j % 3) := pk_rem (d := 3) (by omega) (by decide) (by decide)
  rw [er]
  exact ⟨j % 3, by omega, rfl⟩
def rt_K (ls : Int32) (a1 a2 : Nat → Int32) : Prop := ∀ c, c < 6 → rt_ru ls (nI c) = a2 c ∧ (¬ a2 c < 0 → rt_li ls (nI c) = a1 c)
section
variable {o m : Int32} {a1 a2 a3 a4 a5 a6 a7 a8 : Nat → Int32}
theorem rt_cnt119 {post : Int32 → Prop} {J : Int32 → Int32 → Int32 → Prop} {x1 x2 z : Int32} {s p b : Nat} (hz : (z ≤ 0 ∧ b = 0) ∨ (z = nI b ∧ b < 2 ^ 31)) (hJ : J x2 (nI (s + b)) (nI (p + 1))) :
    wL_counted_119 post J x1 x2 (nI s) (nI p) z o m a1 a2 a3 a4 a5 a6 a7 a8 := by
  unfold wL_counted_119
  rcases hz with ⟨h, rfl⟩ | ⟨rfl, h⟩
  · exact br_t h (nm_r (nI_add s 0) (nm_r (nI_1 p) hJ))
  · refine pk_le b 0 (fun g => ?_) (fun g => nm_r (nI_add s b) (nm_r (nI_1 p) hJ))
    have e : b = 0 := by omega
    subst e
    exact nm_r (nI_add s 0) (nm_r (nI_1 p) hJ)
theorem rt_cnt100 {post : Int32 → Prop} {J : Int32 → Int32 → Int32 → Prop} {x1 x2 : Int32} {s p : Nat} (hl : rt_L a1 a2) (hh : rt_isH a4 a6) (hp : p < 120)
    (hJ : J x2 (nI (s + rt_gB a1 a2 a3 a4 (p / 40) (p / 2 % 20) (p % 2))) (nI (p + 1))) :
    wL_counted_100 post J x1 x2 (nI s) (nI p) (nI (p / 40)) (nI (p / 2 % 20)) o m a1 a2 a3 a4 a5 a6 a7 a8 := by
  unfold wL_counted_100
  have e : nI p - nI p / 2 * 2 = nI (p % 2) := pk_rem (d := 2) (by omega) (by decide) (by decide)
  rw [e]
  refine ⟨by decide, pk_eq (p % 2) 0 (fun z => ?_) (fun z => ?_)⟩
  · refine rt_referrers hl hh (by omega) (by omega) (fun g => ?_) (fun g => ?_)
    · have hle := rt_RF_le a1 a2 a4 (p / 40) (p / 2 % 20)
      have eg : rt_gB a1 a2 a3 a4 (p / 40) (p / 2 % 20) (p % 2) = rt_RF a1 a2 a4 (p / 40) (p / 2 % 20) := if_pos ⟨z, g⟩
      rw [eg] at hJ
      exact rt_cnt119 (Or.inr ⟨rfl, by omega⟩) hJ
    · have eg : rt_gB a1 a2 a3 a4 (p / 40) (p / 2 % 20) (p % 2) = 0 := if_neg (fun q => by rw [g] at q; exact absurd q.2 (by decide))
      rw [eg] at hJ
      exact rt_cnt119 (Or.inl ⟨by decide, rfl⟩) hJ
  · have eg : rt_gB a1 a2 a3 a4 (p / 40) (p / 2 % 20) (p % 2) = 0 := if_neg (fun q => z q.1)
    rw [eg] at hJ
    exact rt_cnt119 (Or.inl ⟨by decide, rfl⟩) hJ
theorem rt_counted {post : Int32 → Prop} {ls : Int32} (hK : rt_K ls a1 a2) (hl : rt_L a1 a2) (hh : rt_isH a4 a6) (hW : rt_W a3 a4 a5) (hS : rt_S 0 a1 a2 a3 a4) (H : post 1) :
    wpL_counted post (o, m, a1, a2, a3, a4, a5, a6, a7, a8) ls := by
  unfold wpL_counted
  refine pk_loop (σ := Unit) (fun n p _ => wL_counted_7 post ls o m a1 a2 a3 a4 a5 a6 a7 a8 n (nI (rt_s (fun p => rt_gA a2 a3 a4 (p / 40) (p / 2 % 20) (p % 2)) p)) (nI (rt_s (fun p => rt_gB a1 a2 a3 a4 (p / 40) (p / 2 % 20) (p % 2)) p)) (nI p)) (fun _ _ => True) 120 0 () (by omega) trivial ?_ ?_
  · intro n _ _
    refine pk_le 120 120 (fun _ => rt_dangling hl hh (br_t ?_ H)) (fun z => absurd z (by omega))
    rw [nI_add, rt_count hl hW]
  · intro n p _ hp _ hw
    have c100 : ∀ a : Nat, rt_gA a2 a3 a4 (p / 40) (p / 2 % 20) (p % 2) = a → wL_counted_100 post (wL_counted_7 post ls o m a1 a2 a3 a4 a5 a6 a7 a8 n) ls (nI (rt_s (fun p => rt_gA a2 a3 a4 (p / 40) (p / 2 % 20) (p % 2)) p + a)) (nI (rt_s (fun p => rt_gB a1 a2 a3 a4 (p / 40) (p / 2 % 20) (p % 2)) p)) (nI p) (nI (p / 40)) (nI (p / 2 % 20)) o m a1 a2 a3 a4 a5 a6 a7 a8 := by
      intro a ea
      subst ea
      exact rt_cnt100 hl hh hp (hw () trivial)
    have e2 : nI p - nI p / 2 * 2 = nI (p % 2) := pk_rem (d := 2) (by omega) (by decide) (by decide)
    have e5 : nI p / 40 = nI (p / 40) := pk_div (d := 40) (by omega) (by decide) (by decide)
    have eh : nI p / 2 = nI (p / 2) := pk_div (d := 2) (by omega) (by decide) (by decide)
    have e6 : nI p / 2 - nI p / 2 / 20 * 20 = nI (p / 2 % 20) := by
      rw [eh]; exact pk_rem (d := 20) (by omega) (by decide) (by decide)
    have e7 : 2 * nI (p / 40) + (nI p - nI p / 2 * 2) = nI (2 * (p / 40) + p % 2) := by
      rw [e2]
      show nI 2 * nI (p / 40) + nI (p % 2) = _
      rw [pk_mul, nI_add]
    refine pk_le 120 p (fun z => absurd z (by omega)) (fun _ => ⟨by decide, nm_r e5 ⟨by decide, by decide, nm_r e6 ⟨by decide, nm_r e7 ⟨by decide, ?_⟩⟩⟩⟩)
    rw [e2]
    have hcol : 2 * (p / 40) + p % 2 < 6 := by omega
    have hkk : p / 2 % 20 < 20 := by omega
    refine rt_reference (by omega) hkk (by omega) (fun hb => br_c (fun neg => c100 0 (if_neg (fun q => q.2.1 neg))) (fun nn => rt_rule (hK _ hcol).1 (br_c (fun neg => c100 0 (if_neg (fun q => q.2.2 neg))) (fun n2 => nm_r (nI_1 _) (rt_rule (hK _ hcol).1 (br_c (fun _ => c100 1 (if_pos ⟨hb, nn, n2⟩)) (fun n3 => ?_))))))) (fun hb => br_t (by decide) (c100 0 (if_neg (fun q => by rw [hb] at q; exact absurd q.1 (by decide)))))
    have hln := rt_ln_lt hl hcol
    refine rt_linked (((hK _ hcol).2 n2).trans hln.2) ?_
    have hD := hS _ hcol n2 (fun z => absurd (by rw [z]; decide) n3)
    rcases hW.2.2.1.2 (20 * (2 * (p / 40) + p % 2) + p / 2 % 20) (by omega) with ev | ⟨v, hv, ev⟩
    · rw [ev] at nn; exact absurd rt_neg1 nn
    · have hrow := rt_D_row hkk hv ev hD
      have hRF := rt_RF_pos (a1 := a1) hcol hkk ev n2
      have hle := rt_RF_le a1 a2 a4 (rt_ln a1 (2 * (p / 40) + p % 2)) v
      have c1 := c100 1 (if_pos ⟨hb, nn, n2⟩)
      rw [ev]
      exact rt_referrers hl hh hln.1 hv (fun _ => pk_le 1 (rt_RF a1 a2 a4 (rt_ln a1 (2 * (p / 40) + p % 2)) v) (fun _ => c1) (fun z => absurd z (by omega))) (fun q => by rw [hrow] at q; exact absurd q (by decide))
end
end
section
/-! the constructor and the links -/
def rt_z : Nat → Int32 := fun _ => 0
theorem rt_init90 {post : St1 → Prop} {mc ms kc ks : Nat} {a2 : Nat → Int32} (H : ∀ a4, rt_Z 120 a4 → (∀ j, j < 120 → a4 j = -1) → post (0, 0, rt_z, a2, rt_z, a4, rt_z, rt_z, rt_z, rt_z)) :
    ∃ n, wX_init_90 post mc ms kc ks 0 0 n 0 rt_z a2 rt_z rt_z rt_z rt_z rt_z rt_z :=
  pk_loop (fun n i s => wX_init_90 post mc ms kc ks 0 0 n (nI i) rt_z a2 rt_z s rt_z rt_z rt_z rt_z) (fun i s => (∀ j, j < i → s j = -1) ∧ rt_Z 120 s) 120 0 rt_z (by omega) ⟨fun j hj => absurd hj (by omega), fun _ _ => rfl⟩
    (fun n s h => pk_le 120 120 (fun _ => H s h.2 h.1) (fun z => absurd z (by omega)))
    (fun n i s hi h hw => pk_le 120 i (fun z => absurd z (by omega)) (fun _ => ⟨pk_in i 120 hi, nm_r (by rw [nI_clamp (by omega)]) (nm_r (nI_1 i) (hw (upd s i (-1)) ⟨fun j hj => by
      by_cases e : j = i
      · rw [e, pk_us]
      · rw [pk_un e]; exact h.1 j (by omega), rt_Zu h.2 hi⟩))⟩))
theorem rt_init {post : St1 → Prop} (H : ∀ a2 a4, (∀ j, j < 6 → a2 j = -1) → rt_Z 120 a4 → (∀ j, j < 120 → a4 j = -1) → post (0, 0, rt_z, a2, rt_z, a4, rt_z, rt_z, rt_z, rt_z)) : wpX_init post 8 1233 (0, 0) := by
  unfold wpX_init
  refine ⟨by omega, by omega, by omega, by omega, by omega, by omega, by omega, by omega, by omega, by omega, by omega, by omega, by omega, by omega, by omega, by omega, ?_⟩
  exact pk_loop (fun n i s => wX_init_69 post 8 1233 8 1233 0 0 n (nI i) rt_z s rt_z rt_z rt_z rt_z rt_z rt_z) (fun i s => ∀ j, j < i → s j = -1) 6 0 rt_z (by omega) (fun j hj => absurd hj (by omega))
    (fun n s h => pk_le 6 6 (fun _ => rt_init90 (fun a4 h1 h2 => H s a4 h h1 h2)) (fun z => absurd z (by omega)))
    (fun n i s hi h hw => pk_le 6 i (fun z => absurd z (by omega)) (fun _ => ⟨pk_in i 6 hi, nm_r (by rw [nI_clamp (by omega)]) (nm_r (nI_1 i) (hw (upd s i (-1)) (fun j hj => by
      by_cases e : j = i
      · rw [e, pk_us]
      · rw [pk_un e]; exact h j (by omega))))⟩))
theorem rt_link67 {post : Int32 → St1 → Prop} {m : Int32} {a1 a2 a3 a4 a5 a7 a8 : Nat → Int32} {c l : Nat} {r : Int32} (hc : c < 6)
    (H0 : r = -1 → post (a2 c) (0, m, upd a1 c 0, upd a2 c r, a3, a4, a5, rt_z, a7, a8)) (H1 : ¬ r = -1 → post (a2 c) (0, m, upd a1 c (nI l), upd a2 c r, a3, a4, a5, rt_z, a7, a8)) :
    ∃ n, wX_link_67 post (nI l) r (nI c) 0 m a1 a2 a3 a4 a5 rt_z a7 a8 n 0 := by
  refine pk_loop (σ := Unit) (fun n i _ => wX_link_67 post (nI l) r (nI c) 0 m a1 a2 a3 a4 a5 rt_z a7 a8 n (nI i)) (fun _ _ => True) 20 0 () (by omega) trivial ?_ ?_
  · intro n _ _
    refine pk_le 20 20 (fun _ => ⟨pk_in c 6 hc, ?_⟩) (fun z => absurd z (by omega))
    rw [nI_clamp (show c < 2 ^ 31 by omega)]
    exact nm_e ⟨pk_in c 6 hc, nm_e (br_c (fun e => ⟨pk_in c 6 hc, nm_e (H0 e)⟩) (fun e => ⟨pk_in c 6 hc, nm_e (H1 e)⟩))⟩
  · intro n i _ hi _ hw
    exact pk_le 20 i (fun z => absurd z (by omega)) (fun _ => ⟨pk_in (20 * c + i) 120 (by omega) (rt_ix c i), br_t rfl (nm_r (nI_1 i) (hw () trivial))⟩)
theorem rt_link22 {post : Int32 → St1 → Prop} {m : Int32} {a1 a2 a3 a4 a5 a7 a8 : Nat → Int32} {t e l : Nat} {r : Int32} (ht : t < 3) (he : e < 2) (hr : r = -1 ∨ ∃ v : Nat, v < 4 ∧ r = nI v)
    (H0 : r = -1 → post (a2 (2 * t + e)) (0, m, upd a1 (2 * t + e) 0, upd a2 (2 * t + e) r, a3, a4, a5, rt_z, a7, a8)) (H1 : ¬ r = -1 → post (a2 (2 * t + e)) (0, m, upd a1 (2 * t + e) (nI l), upd a2 (2 * t + e) r, a3, a4, a5, rt_z, a7, a8)) :
    wX_link_22 post (nI t) (nI e) (nI l) r 0 m a1 a2 a3 a4 a5 rt_z a7 a8 := by
  unfold wX_link_22
  have h1 : ¬ r < -1 := by
    rcases hr with rfl | ⟨v, hv, rfl⟩
    · decide
    · exact (by decide +kernel : ∀ v, v < 4 → ¬ nI v < -1) v hv
  have h2 : r ≤ 3 := by
    rcases hr with rfl | ⟨v, hv, rfl⟩
    · decide
    · exact (by decide +kernel : ∀ v, v < 4 → nI v ≤ 3) v hv
  have e5 : (2 * nI t) + nI e = nI (2 * t + e) := by
    show nI 2 * nI t + nI e = _
    rw [pk_mul, nI_add]
  exact rt_isColumn he (br_f (by decide) (br_f h1 (br_t h2 (br_t rfl (nm_r e5 (rt_link67 (by omega) H0 H1))))))
theorem rt_link {post : Int32 → St1 → Prop} {m : Int32} {a1 a2 a3 a4 a5 a7 a8 : Nat → Int32} {t e l : Nat} {r : Int32} (ht : t < 3) (he : e < 2) (hl : l < 3) (hr : r = -1 ∨ ∃ v : Nat, v < 4 ∧ r = nI v)
    (H0 : r = -1 → post (a2 (2 * t + e)) (0, m, upd a1 (2 * t + e) 0, upd a2 (2 * t + e) r, a3, a4, a5, rt_z, a7, a8)) (H1 : ¬ r = -1 → post (a2 (2 * t + e)) (0, m, upd a1 (2 * t + e) (nI l), upd a2 (2 * t + e) r, a3, a4, a5, rt_z, a7, a8)) :
    wpX_link post (0, m, a1, a2, a3, a4, a5, rt_z, a7, a8) (nI t) (nI e) (nI l) r := by
  unfold wpX_link
  exact rt_isTable ht (br_f (by decide) (br_c (fun _ => rt_link22 ht he hr H0 H1) (fun _ => rt_isTable hl (br_f (by decide) (rt_link22 ht he hr H0 H1)))))
theorem rt_law19 {post : Int32 → Prop} {L : Nat} {xs : Nat → Int32} {ls : Int32} {kc ks : Nat} {a2 a4 : Nat → Int32} (h2 : ∀ j, j < 6 → a2 j = -1)
    (H : ∀ b1 b2, rt_K ls b1 b2 → rt_L b1 b2 → ∃ n, wL_law_71 post L xs ls kc ks n 0 0 0 0 1 0 0 b1 b2 rt_z a4 rt_z rt_z rt_z rt_z) :
    ∃ n, wL_law_19 post L xs ls kc ks n 0 0 0 rt_z a2 rt_z a4 rt_z rt_z rt_z rt_z := by
  refine pk_loop (fun n i s => wL_law_19 post L xs ls kc ks n (nI i) 0 0 s.1 s.2 rt_z a4 rt_z rt_z rt_z rt_z)
    (fun i (s : (Nat → Int32) × (Nat → Int32)) => (∀ c, c < i → rt_ru ls (nI c) = s.2 c ∧ (¬ s.2 c < 0 → rt_li ls (nI c) = s.1 c) ∧ ∃ l : Nat, l < 3 ∧ s.1 c = nI l) ∧ ∀ c, i ≤ c → c < 6 → s.2 c = -1) 6 0 (rt_z, a2) (by omega) ⟨fun c hc => absurd hc (by omega), fun c _ hc => h2 c hc⟩ ?_ ?_
  · intro n s h
    refine pk_le 6 6 (fun _ => H s.1 s.2 (fun c hc => ⟨(h.1 c hc).1, (h.1 c hc).2.1⟩) (fun c hc => ⟨(h.1 c hc).2.2, ?_⟩)) (fun z => absurd z (by omega))
    have := rt_ru_in ls (nI c)
    rw [(h.1 c hc).1] at this
    exact this
  · intro n i s hi h hw
    have e1 : nI i / 2 = nI (i / 2) := pk_div (d := 2) (by omega) (by decide) (by decide)
    have e2 : nI i - nI i / 2 * 2 = nI (i % 2) := pk_rem (d := 2) (by omega) (by decide) (by decide)
    refine pk_le 6 i (fun z => absurd z (by omega)) (fun _ => ⟨by decide, by decide, ?_⟩)
    obtain ⟨l, hl, el⟩ := rt_li_in ls (nI i)
    refine rt_linked el (rt_rule rfl ?_)
    rw [e2, e1]
    have ei : 2 * (i / 2) + i % 2 = i := by omega
    have hri := rt_ru_in ls (nI i)
    have step : ∀ x : Int32, (∃ l : Nat, l < 3 ∧ x = nI l) → (¬ rt_ru ls (nI i) = -1 → x = nI l) → wL_law_19 post L xs ls kc ks n (nI (i + 1)) 0 0 (upd s.1 i x) (upd s.2 i (rt_ru ls (nI i))) rt_z a4 rt_z rt_z rt_z rt_z := by
      intro x hx hxl
      refine hw (upd s.1 i x, upd s.2 i (rt_ru ls (nI i))) ⟨fun c hc => ?_, fun c hc hc6 => ?_⟩
      · by_cases e : c = i
        · subst e
          show rt_ru ls (nI c) = upd s.2 c (rt_ru ls (nI c)) c ∧ (¬ upd s.2 c (rt_ru ls (nI c)) c < 0 → rt_li ls (nI c) = upd s.1 c x c) ∧ ∃ l : Nat, l < 3 ∧ upd s.1 c x c = nI l
          rw [pk_us, pk_us]
          refine ⟨rfl, fun g => ?_, hx⟩
          rw [el]
          exact (hxl (fun z => g (by rw [z]; exact rt_neg1))).symm
        · show rt_ru ls (nI c) = upd s.2 i (rt_ru ls (nI i)) c ∧ (¬ upd s.2 i (rt_ru ls (nI i)) c < 0 → rt_li ls (nI c) = upd s.1 i x c) ∧ ∃ l : Nat, l < 3 ∧ upd s.1 i x c = nI l
          rw [pk_un e, pk_un e]
          exact h.1 c (by omega)
      · show upd s.2 i (rt_ru ls (nI i)) c = -1
        rw [pk_un (by omega)]
        exact h.2 c (by omega) hc6
    refine rt_link (by omega) (by omega) hl hri (fun g => ?_) (fun g => ?_)
    · rw [ei]
      exact br_t (h.2 i (by omega) hi) (nm_r (nI_1 i) (step 0 ⟨0, by omega, rfl⟩ (fun z => absurd g z)))
    · rw [ei]
      exact br_t (h.2 i (by omega) hi) (nm_r (nI_1 i) (step (nI l) ⟨l, hl, rfl⟩ (fun _ => rfl)))
theorem rt_isH_0 {a4 : Nat → Int32} (h : ∀ j, j < 120 → a4 j = -1) : rt_isH a4 rt_z := by
  refine ⟨fun c v i hc hv hi => ?_, fun _ _ => rfl⟩
  show rt_b 0 i = _
  rw [rt_0]
  by_cases h20 : i < 20
  · rw [h (20 * c + i) (by omega), decide_eq_false (p := (-1 : Int32) = nI v) (fun z => rt_ne1 (by omega) z.symm), Bool.and_false]
  · rw [decide_eq_false h20, Bool.false_and]
theorem rt_W_0 {a4 : Nat → Int32} (hz : rt_Z 120 a4) (h : ∀ j, j < 120 → a4 j = -1) : rt_W rt_z a4 rt_z :=
  ⟨fun _ _ => rfl, fun _ _ => rfl, ⟨hz, fun j hj => Or.inl (h j hj)⟩, fun _ i _ => rt_0 i, fun c k hc hk => Or.inl (h _ (by omega))⟩
theorem rt_S_0 {a1 a2 a4 : Nat → Int32} {q : Int32} (h : ∀ j, j < 120 → a4 j = -1) : rt_S q a1 a2 rt_z a4 := by
  intro c hc _ _
  apply rt_s_zero
  intro k hk
  show (if rt_b 0 k = true then 0 else rt_C a4 c k) = 0
  rw [rt_0, if_neg (by decide)]
  apply rt_s_zero
  intro i hi
  show (if decide (a4 (20 * c + i) = nI k) = true then 1 else 0) = 0
  rw [h (20 * c + i) (by omega), decide_eq_false (p := (-1 : Int32) = nI k) (fun z => rt_ne1 (by omega) z.symm)]
  rfl
end
section
/-! pictures -/
/-- f is written over g from b on, i places -/
def rt_F (b : Nat) (f g : Nat → Int32) (i : Nat) (s : Nat → Int32) : Prop := (∀ j, j < i → s (b + j) = f j) ∧ ∀ j, (j < b ∨ b + i ≤ j) → s j = g j
theorem rt_F_0 (b : Nat) (f g : Nat → Int32) : rt_F b f g 0 g := ⟨fun j hj => absurd hj (by omega), fun _ _ => rfl⟩
theorem rt_F_s {b i : Nat} {f g s : Nat → Int32} (h : rt_F b f g i s) : rt_F b f g (i + 1) (upd s (b + i) (f i)) := by
  refine ⟨fun j hj => ?_, fun j hj => ?_⟩
  · by_cases e : j = i
    · rw [e, pk_us]
    · rw [pk_un (by omega)]; exact h.1 j (by omega)
  · rw [pk_un (by omega)]; exact h.2 j (by omega)
def rt_P (a7 : Nat → Int32) (p : Nat) (b3 b4 b5 : Nat → Int32) : Prop := (∀ j, j < 3 → a7 (183 * p + j) = b3 j) ∧ (∀ j, j < 120 → a7 (183 * p + 3 + j) = b4 j) ∧ (∀ j, j < 60 → a7 (183 * p + 123 + j) = b5 j)
theorem rt_P_keep {a7 b7 b3 b4 b5 : Nat → Int32} {p : Nat} (h : rt_P a7 p b3 b4 b5) (e : ∀ j, 183 * p ≤ j → j < 183 * p + 183 → b7 j = a7 j) : rt_P b7 p b3 b4 b5 :=
  ⟨fun j hj => by rw [e _ (by omega) (by omega)]; exact h.1 j hj, fun j hj => by rw [e _ (by omega) (by omega)]; exact h.2.1 j hj, fun j hj => by rw [e _ (by omega) (by omega)]; exact h.2.2 j hj⟩
section
variable {o m : Int32} {a1 a2 a3 a4 a5 a6 a7 a8 : Nat → Int32}
theorem rt_keep65 {post : St1 → Prop} {q : Nat} (hq : q + 183 ≤ 915) (H : ∀ b7, rt_F (q + 123) a5 a7 60 b7 → post (o, m, a1, a2, a3, a4, a5, a6, b7, a8)) :
    ∃ n, wX_keep_65 post (nI q) o m n 0 a1 a2 a3 a4 a5 a6 a7 a8 := by
  refine pk_loop (fun n i s => wX_keep_65 post (nI q) o m n (nI i) a1 a2 a3 a4 a5 a6 s a8) (fun i s => rt_F (q + 123) a5 a7 i s) 60 0 a7 (by omega) (rt_F_0 _ _ _) ?_ ?_
  · intro n s h
    exact pk_le 60 60 (fun _ => H s h) (fun z => absurd z (by omega))
  · intro n i s hi h hw
    have e : (nI q + 123) + nI i = nI (q + 123 + i) := by
      show nI q + nI 123 + nI i = _
      rw [nI_add, nI_add]
    refine pk_le 60 i (fun z => absurd z (by omega)) (fun _ => ⟨pk_in i 60 hi, pk_in (q + 123 + i) 915 (by omega) e, nm_r ?_ (nm_r (nI_1 i) (hw _ (rt_F_s h)))⟩)
    rw [e, nI_clamp (show q + 123 + i < 2 ^ 31 by omega), nI_clamp (show i < 2 ^ 31 by omega)]
theorem rt_keep35 {post : St1 → Prop} {q : Nat} (hq : q + 183 ≤ 915) (H : ∀ c7 b7, rt_F (q + 3) a4 a7 120 c7 → rt_F (q + 123) a5 c7 60 b7 → post (o, m, a1, a2, a3, a4, a5, a6, b7, a8)) :
    ∃ n, wX_keep_35 post (nI q) o m n 0 a1 a2 a3 a4 a5 a6 a7 a8 := by
  refine pk_loop (fun n i s => wX_keep_35 post (nI q) o m n (nI i) a1 a2 a3 a4 a5 a6 s a8) (fun i s => rt_F (q + 3) a4 a7 i s) 120 0 a7 (by omega) (rt_F_0 _ _ _) ?_ ?_
  · intro n s h
    exact pk_le 120 120 (fun _ => rt_keep65 hq (fun b7 h7 => H s b7 h h7)) (fun z => absurd z (by omega))
  · intro n i s hi h hw
    have e : (nI q + 3) + nI i = nI (q + 3 + i) := by
      show nI q + nI 3 + nI i = _
      rw [nI_add, nI_add]
    refine pk_le 120 i (fun z => absurd z (by omega)) (fun _ => ⟨pk_in i 120 hi, pk_in (q + 3 + i) 915 (by omega) e, nm_r ?_ (nm_r (nI_1 i) (hw _ (rt_F_s h)))⟩)
    rw [e, nI_clamp (show q + 3 + i < 2 ^ 31 by omega), nI_clamp (show i < 2 ^ 31 by omega)]
theorem rt_keep {post : St1 → Prop} {p : Nat} (hp : p < 5) (H : ∀ b7, rt_P b7 p a3 a4 a5 → (∀ j, (j < 183 * p ∨ 183 * p + 183 ≤ j) → b7 j = a7 j) → post (o, m, a1, a2, a3, a4, a5, a6, b7, a8)) :
    wpX_keep post (o, m, a1, a2, a3, a4, a5, a6, a7, a8) (nI p) := by
  unfold wpX_keep
  have e0 : 183 * nI p = nI (183 * p) := pk_mul 183 p
  refine nm_r e0 ?_
  refine pk_loop (fun n i s => wX_keep_8 post (nI (183 * p)) o m n (nI i) a1 a2 a3 a4 a5 a6 s a8) (fun i s => rt_F (183 * p) a3 a7 i s) 3 0 a7 (by omega) (rt_F_0 _ _ _) ?_ ?_
  · intro n s h
    refine pk_le 3 3 (fun _ => rt_keep35 (by omega) (fun c7 b7 h1 h2 => H b7 ⟨fun j hj => ?_, fun j hj => ?_, fun j hj => ?_⟩ (fun j hj => ?_))) (fun z => absurd z (by omega))
    · rw [h2.2 _ (by omega), h1.2 _ (by omega)]; exact h.1 j hj
    · rw [h2.2 _ (by omega)]; exact h1.1 j hj
    · exact h2.1 j hj
    · rw [h2.2 _ (by omega), h1.2 _ (by omega)]; exact h.2 j (by omega)
  · intro n i s hi h hw
    have e : nI (183 * p) + nI i = nI (183 * p + i) := nI_add _ _
    refine pk_le 3 i (fun z => absurd z (by omega)) (fun _ => ⟨pk_in i 3 hi, pk_in (183 * p + i) 915 (by omega) e, nm_r ?_ (nm_r (nI_1 i) (hw _ (rt_F_s h)))⟩)
    rw [e, nI_clamp (show 183 * p + i < 2 ^ 31 by omega), nI_clamp (show i < 2 ^ 31 by omega)]
theorem rt_F_eq {n : Nat} {f g s : Nat → Int32} (h : rt_F 0 f g n s) (hg : rt_Z n g) (hf : rt_Z n f) : s = f := by
  funext j
  rcases Nat.lt_or_ge j n with z | z
  · have := h.1 j z
    rw [Nat.zero_add] at this
    exact this
  · rw [h.2 j (Or.inr (by omega)), hg j z, hf j z]
theorem rt_rest72 {post : St1 → Prop} {q : Nat} {b5 : Nat → Int32} (hq : q + 183 ≤ 915) (hz : rt_Z 60 a5) (hb : rt_Z 60 b5) (h7 : ∀ j, j < 60 → a7 (q + 123 + j) = b5 j) (H : post (o, m, a1, a2, a3, a4, b5, a6, a7, a8)) :
    ∃ n, wX_restore_72 post (nI q) o m n 0 a1 a2 a3 a4 a5 a6 a7 a8 := by
  refine pk_loop (fun n i s => wX_restore_72 post (nI q) o m n (nI i) a1 a2 a3 a4 s a6 a7 a8) (fun i s => rt_F 0 b5 a5 i s) 60 0 a5 (by omega) (rt_F_0 _ _ _) ?_ ?_
  · intro n s h
    have e := rt_F_eq h hz hb
    subst e
    exact pk_le 60 60 (fun _ => H) (fun z => absurd z (by omega))
  · intro n i s hi h hw
    have e : (nI q + 123) + nI i = nI (q + 123 + i) := by
      show nI q + nI 123 + nI i = _
      rw [nI_add, nI_add]
    refine pk_le 60 i (fun z => absurd z (by omega)) (fun _ => ⟨pk_in (q + 123 + i) 915 (by omega) e, pk_in i 60 hi, nm_r ?_ (nm_r (nI_1 i) (hw _ (rt_F_s h)))⟩)
    rw [e, nI_clamp (show q + 123 + i < 2 ^ 31 by omega), nI_clamp (show i < 2 ^ 31 by omega), h7 i hi, Nat.zero_add]
theorem rt_rest35 {post : St1 → Prop} {q : Nat} {b4 b5 : Nat → Int32} (hq : q + 183 ≤ 915) (hz : rt_Z 60 a5) (hb : rt_Z 60 b5) (h7 : ∀ j, j < 60 → a7 (q + 123 + j) = b5 j) (hR : rt_R a4) (hh : rt_isH a4 a6) (hR' : rt_R b4) (h4 : ∀ j, j < 120 → a7 (q + 3 + j) = b4 j)
    (H : ∀ b6, rt_isH b4 b6 → post (o, m, a1, a2, a3, b4, b5, b6, a7, a8)) :
    ∃ n, wX_restore_35 post (nI q) n 0 o m a1 a2 a3 a4 a5 a6 a7 a8 := by
  refine pk_loop (fun n i s => wX_restore_35 post (nI q) n (nI i) o m a1 a2 a3 s.1 a5 s.2 a7 a8) (fun i (s : (Nat → Int32) × (Nat → Int32)) => rt_R s.1 ∧ rt_isH s.1 s.2 ∧ ∀ j, j < i → s.1 j = b4 j) 120 0 (a4, a6) (by omega) ⟨hR, hh, fun j hj => absurd hj (by omega)⟩ ?_ ?_
  · intro n s h
    have e : s.1 = b4 := rt_eqZ h.1.1 hR'.1 h.2.2
    have hh2 := h.2.1
    rw [e] at hh2
    refine pk_le 120 120 (fun _ => ?_) (fun z => absurd z (by omega))
    show ∃ n, wX_restore_72 post (nI q) o m n 0 a1 a2 a3 s.1 a5 s.2 a7 a8
    rw [e]
    exact rt_rest72 hq hz hb h7 (H s.2 hh2)
  · intro n i s hi h hw
    have e : (nI q + 3) + nI i = nI (q + 3 + i) := by
      show nI q + nI 3 + nI i = _
      rw [nI_add, nI_add]
    have e1 : nI i / 20 = nI (i / 20) := pk_div (d := 20) (by omega) (by decide) (by decide)
    have e2 : nI i - nI i / 20 * 20 = nI (i % 20) := pk_rem (d := 20) (by omega) (by decide) (by decide)
    refine pk_le 120 i (fun z => absurd z (by omega)) (fun _ => ⟨by decide, by decide, pk_in (q + 3 + i) 915 (by omega) e, ?_⟩)
    rw [e2, e1, e, nI_clamp (show q + 3 + i < 2 ^ 31 by omega), h4 i hi]
    have ei : 20 * (i / 20) + i % 20 = i := by omega
    refine rt_setRef (by omega) (by omega) (hR'.2 i hi) (by rw [ei]; exact h.1.2 i hi) h.2.1 (fun r b6 hb6 => ?_)
    rw [ei] at hb6 ⊢
    refine nm_r (nI_1 i) (hw (upd s.1 i (b4 i), b6) ⟨rt_Ru h.1 hi (hR'.2 i hi), hb6, fun j hj => ?_⟩)
    show upd s.1 i (b4 i) j = b4 j
    by_cases ej : j = i
    · rw [ej, pk_us]
    · rw [pk_un ej]; exact h.2.2 j (by omega)
theorem rt_restore {post : St1 → Prop} {p : Nat} {b3 b4 b5 : Nat → Int32} (hp : p < 5) (hP : rt_P a7 p b3 b4 b5) (hW : rt_W b3 b4 b5) (hz3 : rt_Z 3 a3) (hz5 : rt_Z 60 a5) (hR : rt_R a4) (hh : rt_isH a4 a6)
    (H : ∀ b6, rt_isH b4 b6 → post (o, m, a1, a2, b3, b4, b5, b6, a7, a8)) : wpX_restore post (o, m, a1, a2, a3, a4, a5, a6, a7, a8) (nI p) := by
  unfold wpX_restore
  have e0 : 183 * nI p = nI (183 * p) := pk_mul 183 p
  refine nm_r e0 ?_
  refine pk_loop (fun n i s => wX_restore_8 post (nI (183 * p)) o m n (nI i) a1 a2 s a4 a5 a6 a7 a8) (fun i s => rt_F 0 b3 a3 i s) 3 0 a3 (by omega) (rt_F_0 _ _ _) ?_ ?_
  · intro n s h
    have e := rt_F_eq h hz3 hW.1
    subst e
    exact pk_le 3 3 (fun _ => rt_rest35 (by omega) hz5 hW.2.1 hP.2.2 hR hh hW.2.2.1 hP.2.1 H) (fun z => absurd z (by omega))
  · intro n i s hi h hw
    have e : nI (183 * p) + nI i = nI (183 * p + i) := nI_add _ _
    refine pk_le 3 i (fun z => absurd z (by omega)) (fun _ => ⟨pk_in (183 * p + i) 915 (by omega) e, pk_in i 3 hi, nm_r ?_ (nm_r (nI_1 i) (hw _ (rt_F_s h)))⟩)
    rw [e, nI_clamp (show 183 * p + i < 2 ^ 31 by omega), nI_clamp (show i < 2 ^ 31 by omega), hP.1 i hi, Nat.zero_add]
/-- what holds between calls: links that count at once are sound; all are when no transaction runs -/
def rt_G (o : Int32) (a1 a2 a3 a4 : Nat → Int32) : Prop := rt_S 0 a1 a2 a3 a4 ∧ (o = 0 → rt_S 1 a1 a2 a3 a4)
theorem rt_S1 {q : Int32} (h : rt_S 1 a1 a2 a3 a4) : rt_S q a1 a2 a3 a4 := fun c hc h1 _ => h c hc h1 (fun _ => by decide)
theorem rt_settle {post : Int32 → St1 → Prop} {r : Int32} {b3 b4 b5 : Nat → Int32} (hl : rt_L a1 a2) (hP : rt_P a7 4 b3 b4 b5) (hW : rt_W b3 b4 b5) (hz3 : rt_Z 3 a3) (hz5 : rt_Z 60 a5) (hR : rt_R a4) (hh : rt_isH a4 a6)
    (H1 : rt_G o a1 a2 a3 a4 → post r (o, m, a1, a2, a3, a4, a5, a6, a7, a8)) (H0 : ∀ b6, rt_isH b4 b6 → post (-9) (o, m, a1, a2, b3, b4, b5, b6, a7, a8)) :
    wpX_settle post (o, m, a1, a2, a3, a4, a5, a6, a7, a8) r := by
  unfold wpX_settle
  have rest : ∀ z : Int32, (rt_S z a1 a2 a3 a4 → rt_G o a1 a2 a3 a4) → wX_settle_13 post r z o m a1 a2 a3 a4 a5 a6 a7 a8 := by
    intro z hz
    unfold wX_settle_13
    exact rt_isSound hl hh (fun hs => br_f (by decide) (H1 (hz hs))) (br_t rfl (rt_restore (p := 4) (by omega) hP hW hz3 hz5 hR hh H0))
  exact br_c (fun e => rest 1 (fun hs => ⟨rt_S1 hs, fun _ => hs⟩)) (fun e => rest 0 (fun hs => ⟨hs, fun z => absurd z e⟩))
end
end
section
/-! single changes keep the picture -/
section
variable {o m : Int32} {a1 a2 a3 a4 a5 a6 a7 a8 : Nat → Int32}
theorem rt_orb (a3 : Nat → Int32) (t k t' i : Nat) (hk : k < 20) : rt_b (upd a3 t (a3 t ||| ((1 : Int32) <<< (nI k &&& 31))) t') i = (rt_b (a3 t') i || (decide (t' = t) && decide (i = k))) := by
  by_cases e : t' = t
  · subst e
    rw [pk_us, rt_or, decide_eq_true rfl, Bool.true_and]
    rcases Nat.lt_or_ge i 32 with g | g
    · rw [rt_bit k (by omega) g]
    · rw [rt_big (x := (1 : Int32) <<< (nI k &&& 31)) g, decide_eq_false (by omega)]
  · rw [pk_un e, decide_eq_false e, Bool.false_and, Bool.or_false]
theorem rt_andb (a3 : Nat → Int32) (t k t' i : Nat) (hk : k < 20) : rt_b (upd a3 t (a3 t &&& (((1 : Int32) <<< (nI k &&& 31)) ^^^ (-1))) t') i = (rt_b (a3 t') i && !(decide (t' = t) && decide (i = k))) := by
  by_cases e : t' = t
  · subst e
    rw [pk_us, rt_and, decide_eq_true rfl, Bool.true_and]
    rcases Nat.lt_or_ge i 32 with g | g
    · rw [rt_nbit k (by omega) g]
    · rw [rt_big (x := a3 t') g, Bool.false_and, Bool.false_and]
  · rw [pk_un e, decide_eq_false e, Bool.false_and, Bool.not_false, Bool.and_true]
theorem rt_W_or {t k : Nat} (h : rt_W a3 a4 a5) (ht : t < 3) (hk : k < 20) : rt_W (upd a3 t (a3 t ||| ((1 : Int32) <<< (nI k &&& 31)))) a4 a5 := by
  refine ⟨rt_Zu h.1 ht, h.2.1, h.2.2.1, fun t' i hi => ?_, fun c k' hc hk' => ?_⟩
  · rw [rt_orb a3 t k t' i hk, h.2.2.2.1 t' i hi, decide_eq_false (p := i = k) (by omega), Bool.and_false, Bool.or_false]
  · rcases h.2.2.2.2 c k' hc hk' with g | g
    · exact Or.inl g
    · right; rw [rt_orb a3 t k _ k' hk, g, Bool.true_or]
theorem rt_W_and {t k : Nat} (h : rt_W a3 a4 a5) (ht : t < 3) (hk : k < 20) (h1 : a4 (20 * (2 * t) + k) = -1) (h2 : a4 (20 * (2 * t + 1) + k) = -1) : rt_W (upd a3 t (a3 t &&& (((1 : Int32) <<< (nI k &&& 31)) ^^^ (-1)))) a4 a5 := by
  refine ⟨rt_Zu h.1 ht, h.2.1, h.2.2.1, fun t' i hi => ?_, fun c k' hc hk' => ?_⟩
  · rw [rt_andb a3 t k t' i hk, h.2.2.2.1 t' i hi, Bool.false_and]
  · by_cases e : c / 2 = t ∧ k' = k
    · left
      rcases (show c = 2 * t ∨ c = 2 * t + 1 by omega) with z | z
      · rw [z, e.2]; exact h1
      · rw [z, e.2]; exact h2
    · rcases h.2.2.2.2 c k' hc hk' with g | g
      · exact Or.inl g
      · right
        rw [rt_andb a3 t k _ k' hk, g, Bool.true_and]
        by_cases e1 : c / 2 = t
        · rw [decide_eq_false (p := k' = k) (fun z => e ⟨e1, z⟩), Bool.and_false]; rfl
        · rw [decide_eq_false e1, Bool.false_and]; rfl
theorem rt_W_ref {c k : Nat} {r : Int32} (h : rt_W a3 a4 a5) (hc : c < 6) (hk : k < 20) (hr : rt_v r) (hrow : r = -1 ∨ rt_b (a3 (c / 2)) k = true) : rt_W a3 (upd a4 (20 * c + k) r) a5 := by
  refine ⟨h.1, h.2.1, rt_Ru h.2.2.1 (by omega) hr, h.2.2.2.1, fun c' k' hc' hk' => ?_⟩
  by_cases e : 20 * c' + k' = 20 * c + k
  · have ec : c' = c := by omega
    have ek : k' = k := by omega
    subst ec ek
    rw [pk_us]; exact hrow
  · rw [pk_un e]; exact h.2.2.2.2 c' k' hc' hk'
theorem rt_W_val {j : Nat} {v : Int32} (h : rt_W a3 a4 a5) (hj : j < 60) : rt_W a3 a4 (upd a5 j v) :=
  ⟨h.1, rt_Zu h.2.1 hj, h.2.2.1, h.2.2.2.1, h.2.2.2.2⟩
theorem rt_D_mono {b3 : Nat → Int32} {c : Nat} (h : ∀ t k, rt_b (a3 t) k = true → rt_b (b3 t) k = true) (hD : rt_D a1 a3 a4 c = 0) : rt_D a1 b3 a4 c = 0 := by
  apply rt_s_zero
  intro k hk
  have h0 : (if rt_b (a3 (rt_ln a1 c)) k = true then 0 else rt_C a4 c k) = 0 := rt_s_zero_of hD k hk
  show (if rt_b (b3 (rt_ln a1 c)) k = true then 0 else rt_C a4 c k) = 0
  by_cases g : rt_b (a3 (rt_ln a1 c)) k = true
  · rw [if_pos (h _ _ g)]
  · rw [if_neg g] at h0
    rw [h0]; split <;> rfl
theorem rt_G_mono {b3 : Nat → Int32} (h : ∀ t k, rt_b (a3 t) k = true → rt_b (b3 t) k = true) (hG : rt_G o a1 a2 a3 a4) : rt_G o a1 a2 b3 a4 :=
  ⟨fun c hc h1 h2 => rt_D_mono h (hG.1 c hc h1 h2), fun ho c hc h1 h2 => rt_D_mono h (hG.2 ho c hc h1 h2)⟩
/-! statements -/
theorem rt_insert {post : Int32 → St1 → Prop} {t k : Nat} (ht : t < 3) (hk : k < 20) (hW : rt_W a3 a4 a5) (hG : rt_G o a1 a2 a3 a4)
    (H : ∀ r b3, rt_W b3 a4 a5 → rt_G o a1 a2 b3 a4 → post r (o, m, a1, a2, b3, a4, a5, a6, a7, a8)) : wpX_insert post (o, m, a1, a2, a3, a4, a5, a6, a7, a8) (nI t) (nI k) := by
  unfold wpX_insert
  refine rt_isTable ht (br_f (by decide) (rt_isKey hk (br_f (by decide) (rt_hasRow ht hk (fun g => br_f (by decide) (H _ a3 hW hG)) (fun g => br_t rfl ⟨pk_in t 3 ht, ?_⟩)))))
  rw [nI_clamp (show t < 2 ^ 31 by omega)]
  exact rt_ones (hW.2.2.2.1 t) (br_c (fun _ => ⟨pk_in t 3 ht, pk_in t 3 ht, nm_e (H _ _ (rt_W_or hW ht hk) (rt_G_mono (fun t' k' g => by rw [rt_orb a3 t k t' k' hk, g, Bool.true_or]) hG))⟩) (fun _ => H _ a3 hW hG))
theorem rt_value {post : Int32 → St1 → Prop} {t k : Nat} {v : Int32} (ht : t < 3) (hk : k < 20) (hW : rt_W a3 a4 a5)
    (H : ∀ r b5, rt_W a3 a4 b5 → post r (o, m, a1, a2, a3, a4, b5, a6, a7, a8)) : wpX_value post (o, m, a1, a2, a3, a4, a5, a6, a7, a8) (nI t) (nI k) v := by
  unfold wpX_value
  refine rt_isTable ht (br_f (by decide) (rt_hasRow ht hk (fun g => br_f (by decide) ?_) (fun g => br_t rfl (H _ a5 hW))))
  rw [rt_ix t k, nI_clamp (show 20 * t + k < 2 ^ 31 by omega)]
  exact ⟨pk_in (20 * t + k) 60 (by omega), nm_e (H _ _ (rt_W_val hW (by omega)))⟩
theorem rt_v_lo {r : Int32} (h : rt_v r) : ¬ r < -1 ∧ r < 20 := by
  rcases h with rfl | ⟨v, hv, rfl⟩
  · decide
  · exact (by decide +kernel : ∀ v, v < 20 → ¬ nI v < -1 ∧ nI v < 20) v hv
theorem rt_refer {post : Int32 → St1 → Prop} {t k e : Nat} {r : Int32} (ht : t < 3) (hk : k < 20) (he : e < 2) (hr : rt_v r) (hl : rt_L a1 a2) (hh : rt_isH a4 a6) (hW : rt_W a3 a4 a5) (hG : rt_G o a1 a2 a3 a4)
    (H : ∀ q b4 b6 b7, rt_W a3 b4 a5 → rt_isH b4 b6 → rt_G o a1 a2 a3 b4 → (∀ j, j < 732 → b7 j = a7 j) → post q (o, m, a1, a2, a3, b4, a5, b6, b7, a8)) :
    wpX_refer post (o, m, a1, a2, a3, a4, a5, a6, a7, a8) (nI t) (nI k) (nI e) r := by
  unfold wpX_refer
  have hv := rt_v_lo hr
  have e5 : (2 * nI t) + nI e = nI (2 * t + e) := by
    show nI 2 * nI t + nI e = _
    rw [pk_mul, nI_add]
  refine rt_isTable ht (br_f (by decide) (rt_hasRow ht hk (fun g => br_f (by decide) (rt_isColumn he (br_f (by decide) (br_f hv.1 (br_t hv.2 ?_))))) (fun g => br_t rfl (H _ a4 a6 a7 hW hh hG (fun _ _ => rfl)))))
  refine rt_keep (p := 4) (by omega) (fun b7 hP h7 => nm_r e5 ⟨pk_in (20 * (2 * t + e) + k) 120 (by omega) (rt_ix _ _), nm_e ?_⟩)
  have hrow : rt_b (a3 ((2 * t + e) / 2)) k = true := by rw [show (2 * t + e) / 2 = t by omega]; exact g
  have hW' := rt_W_ref (r := r) hW (show 2 * t + e < 6 by omega) hk hr (Or.inr hrow)
  refine rt_setRef (by omega) hk hr (hW.2.2.1.2 _ (by omega)) hh (fun q b6 hb6 => ?_)
  exact rt_settle hl hP hW hW.1 hW.2.1 hW'.2.2.1 hb6 (fun hg => H _ _ _ _ hW' hb6 hg (fun j hj => h7 j (by omega))) (fun c6 hc6 => H _ _ _ _ hW hc6 hG (fun j hj => h7 j (by omega)))
theorem rt_dropRow {post : St1 → Prop} {t k : Nat} (ht : t < 3) (hk : k < 20) (hW : rt_W a3 a4 a5) (hh : rt_isH a4 a6)
    (H : ∀ b4 b5 b6, rt_W (upd a3 t (a3 t &&& (((1 : Int32) <<< (nI k &&& 31)) ^^^ (-1)))) b4 b5 → rt_isH b4 b6 → post (o, m, a1, a2, upd a3 t (a3 t &&& (((1 : Int32) <<< (nI k &&& 31)) ^^^ (-1))), b4, b5, b6, a7, a8)) :
    wpX_dropRow post (o, m, a1, a2, a3, a4, a5, a6, a7, a8) (nI t) (nI k) := by
  unfold wpX_dropRow
  have e1 : 2 * nI t = nI (2 * t) := pk_mul 2 t
  rw [e1, nI_1 (2 * t), rt_ix t k, nI_clamp (show 20 * t + k < 2 ^ 31 by omega), nI_clamp (show t < 2 ^ 31 by omega)]
  have hW1 := rt_W_ref (r := -1) hW (show 2 * t < 6 by omega) hk rt_v1 (Or.inl rfl)
  have hW2 := rt_W_ref (r := -1) hW1 (show 2 * t + 1 < 6 by omega) hk rt_v1 (Or.inl rfl)
  have hW3 := rt_W_and (rt_W_val (j := 20 * t + k) (v := 0) hW2 (by omega)) ht hk (by rw [pk_un (by omega), pk_us]) (by rw [pk_us])
  refine rt_setRef (by omega) hk rt_v1 (hW.2.2.1.2 _ (by omega)) hh (fun q b6 hb6 => ?_)
  refine rt_setRef (by omega) hk rt_v1 (hW1.2.2.1.2 _ (by omega)) hb6 (fun q2 c6 hc6 => ?_)
  exact ⟨pk_in (20 * t + k) 60 (by omega), nm_e ⟨pk_in t 3 ht, pk_in t 3 ht, nm_e (H _ _ _ hW3 hc6)⟩⟩
theorem rt_moveRow {post : St1 → Prop} {t k k2 : Nat} (ht : t < 3) (hk : k < 20) (hk2 : k2 < 20) (hW : rt_W a3 a4 a5) (hh : rt_isH a4 a6)
    (H : ∀ b3 b4 b5 b6, rt_W b3 b4 b5 → rt_isH b4 b6 → post (o, m, a1, a2, b3, b4, b5, b6, a7, a8)) :
    wpX_moveRow post (o, m, a1, a2, a3, a4, a5, a6, a7, a8) (nI t) (nI k) (nI k2) := by
  unfold wpX_moveRow
  have e1 : 2 * nI t = nI (2 * t) := pk_mul 2 t
  rw [e1, nI_1 (2 * t), rt_ix (2 * t) k, rt_ix (2 * t + 1) k, rt_ix t k, rt_ix t k2, nI_clamp (show 20 * (2 * t) + k < 2 ^ 31 by omega), nI_clamp (show 20 * (2 * t + 1) + k < 2 ^ 31 by omega), nI_clamp (show 20 * t + k < 2 ^ 31 by omega), nI_clamp (show 20 * t + k2 < 2 ^ 31 by omega), nI_clamp (show t < 2 ^ 31 by omega)]
  have hv1 := hW.2.2.1.2 (20 * (2 * t) + k) (by omega)
  have hv2 := hW.2.2.1.2 (20 * (2 * t + 1) + k) (by omega)
  refine ⟨pk_in (20 * (2 * t) + k) 120 (by omega), nm_e ⟨pk_in (20 * (2 * t + 1) + k) 120 (by omega), nm_e ⟨pk_in (20 * t + k) 60 (by omega), nm_e ?_⟩⟩⟩
  refine rt_dropRow ht hk hW hh (fun b4 b5 b6 hW1 hb6 => ⟨pk_in t 3 ht, pk_in t 3 ht, nm_e ?_⟩)
  have hW2 := rt_W_or hW1 ht hk2
  have row : rt_b (upd (upd a3 t (a3 t &&& (((1 : Int32) <<< (nI k &&& 31)) ^^^ (-1)))) t (upd a3 t (a3 t &&& (((1 : Int32) <<< (nI k &&& 31)) ^^^ (-1))) t ||| ((1 : Int32) <<< (nI k2 &&& 31))) t) k2 = true := by
    rw [rt_orb _ t k2 t k2 hk2]; simp
  have hW3 := rt_W_ref hW2 (show 2 * t < 6 by omega) hk2 hv1 (Or.inr (by rw [show 2 * t / 2 = t by omega]; exact row))
  have hW4 := rt_W_ref hW3 (show 2 * t + 1 < 6 by omega) hk2 hv2 (Or.inr (by rw [show (2 * t + 1) / 2 = t by omega]; exact row))
  refine rt_setRef (by omega) hk2 hv1 (hW2.2.2.1.2 _ (by omega)) hb6 (fun q c6 hc6 => ?_)
  refine rt_setRef (by omega) hk2 hv2 (hW3.2.2.1.2 _ (by omega)) hc6 (fun q2 d6 hd6 => ?_)
  exact ⟨pk_in (20 * t + k2) 60 (by omega), nm_e (H _ _ _ _ (rt_W_val hW4 (by omega)) hd6)⟩
theorem rt_turnRefs {post : Int32 → St1 → Prop} {c k : Nat} {to : Int32} (hc : c < 6) (hk : k < 20) (hto : rt_v to) (hW : rt_W a3 a4 a5) (hh : rt_isH a4 a6)
    (H : ∀ q b4 b6, rt_W a3 b4 a5 → rt_isH b4 b6 → post q (o, m, a1, a2, a3, b4, a5, b6, a7, a8)) :
    wpX_turnRefs post (o, m, a1, a2, a3, a4, a5, a6, a7, a8) (nI c) (nI k) to := by
  unfold wpX_turnRefs
  rw [rt_ix c k, nI_clamp (show 20 * c + k < 2 ^ 31 by omega)]
  refine ⟨pk_in (20 * c + k) 120 (by omega), nm_e ?_⟩
  refine pk_loop (fun n i s => wX_turnRefs_16 post (nI c) to (a6 (20 * c + k)) n (nI i) o m a1 a2 a3 s.1 a5 s.2 a7 a8) (fun _ (s : (Nat → Int32) × (Nat → Int32)) => rt_W a3 s.1 a5 ∧ rt_isH s.1 s.2) 20 0 (a4, a6) (by omega) ⟨hW, hh⟩ ?_ ?_
  · intro n s h
    exact pk_le 20 20 (fun _ => rt_ones (rt_isH_hi hh _) (H _ s.1 s.2 h.1 h.2)) (fun z => absurd z (by omega))
  · intro n i s hi h hw
    refine pk_le 20 i (fun z => absurd z (by omega)) (fun _ => br_c (fun e => ?_) (fun e => nm_r (nI_1 i) (hw s h)))
    have eb := (rt_t1 _ i (by omega)).mp e
    rw [hh.1 c k i hc hk (by omega), decide_eq_true hi, Bool.true_and] at eb
    have e4 : a4 (20 * c + i) = nI k := of_decide_eq_true eb
    have hrow : rt_b (a3 (c / 2)) i = true := by
      rcases hW.2.2.2.2 c i hc hi with z | z
      · rw [e4] at z; exact absurd z (rt_ne1 (by omega))
      · exact z
    exact rt_setRef hc hi hto (h.1.2.2.1.2 _ (by omega)) h.2 (fun q b6 hb6 => nm_r (nI_1 i) (hw (upd s.1 (20 * c + i) to, b6) ⟨rt_W_ref h.1 hc hi hto (Or.inr hrow), hb6⟩))
theorem rt_rekey116 {post : Int32 → St1 → Prop} {t k k2 : Nat} {b3 b4 b5 : Nat → Int32} (hk : k < 20) (hk2 : k2 < 20) (hl : rt_L a1 a2) (hW : rt_W a3 a4 a5) (hh : rt_isH a4 a6) (hP : rt_P a7 4 b3 b4 b5) (hWb : rt_W b3 b4 b5)
    (H1 : ∀ q c4 c6, rt_W a3 c4 a5 → rt_isH c4 c6 → rt_G o a1 a2 a3 c4 → post q (o, m, a1, a2, a3, c4, a5, c6, a7, a8)) (H0 : ∀ c6, rt_isH b4 c6 → post (-9) (o, m, a1, a2, b3, b4, b5, c6, a7, a8)) :
    ∃ n, wX_rekey_116 post (nI t) (nI k) (nI k2) n 0 0 o m a1 a2 a3 a4 a5 a6 a7 a8 := by
  refine pk_loop (fun n i s => wX_rekey_116 post (nI t) (nI k) (nI k2) n s.1 (nI i) o m a1 a2 a3 s.2.1 a5 s.2.2 a7 a8) (fun _ (s : Int32 × (Nat → Int32) × (Nat → Int32)) => rt_W a3 s.2.1 a5 ∧ rt_isH s.2.1 s.2.2) 6 0 (0, a4, a6) (by omega) ⟨hW, hh⟩ ?_ ?_
  · intro n s h
    exact pk_le 6 6 (fun _ => rt_settle hl hP hWb h.1.1 h.1.2.1 h.1.2.2.1 h.2 (fun hg => H1 _ _ _ h.1 h.2 hg) H0) (fun z => absurd z (by omega))
  · intro n i s hi h hw
    have skip : wX_rekey_116 post (nI t) (nI k) (nI k2) n s.1 (nI (i + 1)) o m a1 a2 a3 s.2.1 a5 s.2.2 a7 a8 := hw s h
    have turn : ∀ to, rt_v to → wX_rekey_177 post (wX_rekey_116 post (nI t) (nI k) (nI k2) n) (nI t) (nI k) (nI k2) (nI i) to (nI k) (nI i) s.1 o m a1 a2 a3 s.2.1 a5 s.2.2 a7 a8 := by
      intro to hto
      unfold wX_rekey_177
      exact rt_turnRefs hi hk hto h.1 h.2 (fun q c4 c6 g1 g2 => nm_e (nm_r (nI_1 i) (hw (_, c4, c6) ⟨g1, g2⟩)))
    refine pk_le 6 i (fun z => absurd z (by omega)) (fun _ => ⟨pk_in i 6 hi, br_c (fun _ => nm_r (nI_1 i) skip) (fun _ => ⟨pk_in i 6 hi, br_c (fun _ => nm_r (nI_1 i) skip) (fun _ => ⟨pk_in i 6 hi, br_c (fun _ => ⟨pk_in i 6 hi, br_c (fun _ => turn _ (rt_vn hk2)) (fun _ => turn _ rt_v1)⟩) (fun _ => nm_r (nI_1 i) skip)⟩)⟩)⟩)
theorem rt_rekey {post : Int32 → St1 → Prop} {t k k2 : Nat} (ht : t < 3) (hk : k < 20) (hk2 : k2 < 20) (hl : rt_L a1 a2) (hh : rt_isH a4 a6) (hW : rt_W a3 a4 a5) (hG : rt_G o a1 a2 a3 a4)
    (H : ∀ q b3 b4 b5 b6 b7, rt_W b3 b4 b5 → rt_isH b4 b6 → rt_G o a1 a2 b3 b4 → (∀ j, j < 732 → b7 j = a7 j) → post q (o, m, a1, a2, b3, b4, b5, b6, b7, a8)) :
    wpX_rekey post (o, m, a1, a2, a3, a4, a5, a6, a7, a8) (nI t) (nI k) (nI k2) := by
  unfold wpX_rekey
  have same : ∀ q, post q (o, m, a1, a2, a3, a4, a5, a6, a7, a8) := fun q => H q _ _ _ _ _ hW hh hG (fun _ _ => rfl)
  refine rt_isTable ht (br_f (by decide) (rt_hasRow ht hk (fun g => br_f (by decide) (rt_isKey hk2 (br_f (by decide) (rt_hasRow ht hk2 (fun _ => br_f (by decide) (same _)) (fun _ => br_t rfl ?_))))) (fun g => br_t rfl (same _))))
  refine pk_loop (σ := Unit) (fun n i _ => wX_rekey_46 post (nI t) (nI k) (nI k2) o m a1 a2 a3 a4 a5 a6 a7 a8 n (nI i)) (fun _ _ => True) 6 0 () (by omega) trivial ?_ ?_
  · intro n _ _
    refine pk_le 6 6 (fun _ => rt_keep (p := 4) (by omega) (fun b7 hP h7 => rt_moveRow ht hk hk2 hW hh (fun c3 c4 c5 c6 hWc hhc => ?_))) (fun z => absurd z (by omega))
    exact rt_rekey116 hk hk2 hl hWc hhc hP hW (fun q d4 d6 g1 g2 g3 => H q _ _ _ _ _ g1 g2 g3 (fun j hj => h7 j (by omega))) (fun d6 hd6 => H _ _ _ _ _ _ hW hd6 hG (fun j hj => h7 j (by omega)))
  · intro n i _ hi _ hw
    have skip : wX_rekey_46 post (nI t) (nI k) (nI k2) o m a1 a2 a3 a4 a5 a6 a7 a8 n (nI (i + 1)) := hw () trivial
    exact pk_le 6 i (fun z => absurd z (by omega)) (fun _ => ⟨pk_in i 6 hi, br_c (fun _ => ⟨pk_in i 6 hi, br_c (fun _ => ⟨pk_in (20 * i + k) 120 (by omega) (rt_ix i k), br_c (fun _ => nm_r (nI_1 i) skip) (fun _ => same _)⟩) (fun _ => nm_r (nI_1 i) skip)⟩) (fun _ => nm_r (nI_1 i) skip)⟩)
/-- a field of a word: (x >> s & 15) % d -/
theorem rt_fld (x s : Int32) (d : Nat) (h0 : 0 < d) (hd : d < 2 ^ 31) {D : Int32} (hD : D = nI d) : ∃ j : Nat, j < d ∧ ((x >>> (s &&& 31)) &&& 15) - ((x >>> (s &&& 31)) &&& 15) / D * D = nI j := by
  obtain ⟨j, hj, e⟩ := pk_andE (x >>> (s &&& 31)) (m := 15) 4 (by decide)
  subst hD
  rw [e, pk_rem (by omega) h0 hd]
  exact ⟨j % d, Nat.mod_lt _ h0, rfl⟩
theorem rt_sub01 {y : Nat} (hy : y < 20) : rt_v (nI y - 1) ∧ rt_v (nI y - 0) := by
  constructor
  · by_cases h : y = 0
    · left; rw [h]; decide
    · right
      refine ⟨y - 1, by omega, ?_⟩
      have := nI_pred (y - 1)
      rw [show y - 1 + 1 = y by omega] at this
      exact this
  · right
    exact ⟨y, hy, pk_sub (a := y) (b := 0) (by omega)⟩
theorem rt_statement {post : Int32 → St1 → Prop} {p1 p2 : Int32} (hl : rt_L a1 a2) (hh : rt_isH a4 a6) (hW : rt_W a3 a4 a5) (hG : rt_G o a1 a2 a3 a4)
    (H : ∀ q b3 b4 b5 b6 b7, rt_W b3 b4 b5 → rt_isH b4 b6 → rt_G o a1 a2 b3 b4 → (∀ j, j < 732 → b7 j = a7 j) → post q (o, m, a1, a2, b3, b4, b5, b6, b7, a8)) :
    wpL_statement post (o, m, a1, a2, a3, a4, a5, a6, a7, a8) p1 p2 := by
  unfold wpL_statement
  obtain ⟨t, ht, et⟩ := rt_fld p1 4 3 (by decide) (by decide) (D := 3) rfl
  obtain ⟨x, hx, ex⟩ := rt_fld p1 8 6 (by decide) (by decide) (D := 6) rfl
  obtain ⟨y, hy, ey⟩ := rt_fld p1 12 6 (by decide) (by decide) (D := 6) rfl
  obtain ⟨e, he, ee⟩ := pk_andE (p1 >>> ((16 : Int32) &&& 31)) (m := 1) 1 (by decide)
  have hv := rt_sub01 (y := y) (by omega)
  have same7 : ∀ j, j < 732 → a7 j = a7 j := fun _ _ => rfl
  refine nm_e ⟨by decide, nm_r et ⟨by decide, nm_r ex ⟨by decide, nm_r ey ?_⟩⟩⟩
  rw [ee]
  refine br_c (fun _ => br_c (fun _ => br_c (fun _ => ?_) (fun _ => ?_)) (fun _ => br_c (fun _ => ?_) (fun _ => ?_))) (fun _ => ?_)
  · exact rt_value ht (by omega) hW (fun r b5 g => H _ _ _ _ _ _ g hh hG same7)
  · exact rt_rekey ht (by omega) (by omega) hl hh hW hG H
  · exact rt_refer ht (by omega) (by omega) hv.1 hl hh hW hG (fun q b4 b6 b7 g1 g2 g3 g4 => H _ _ _ _ _ _ g1 g2 g3 g4)
  · exact rt_refer ht (by omega) (by omega) hv.2 hl hh hW hG (fun q b4 b6 b7 g1 g2 g3 g4 => H _ _ _ _ _ _ g1 g2 g3 g4)
  · exact rt_insert ht (by omega) hW hG (fun r b3 g1 g2 => H _ _ _ _ _ _ g1 hh g2 same7)
end
end
section
/-! what goes along -/
section
variable {o m : Int32} {a1 a2 a3 a4 a5 a6 a7 a8 : Nat → Int32}
theorem rt_a6_row {c v i : Nat} (hW : rt_W a3 a4 a5) (hh : rt_isH a4 a6) (hc : c < 6) (hv : v < 20) (h : rt_b (a6 (20 * c + v)) i = true) : rt_b (a3 (c / 2)) i = true := by
  have hi : i < 20 := by
    rcases Nat.lt_or_ge i 20 with g | g
    · exact g
    · rw [rt_isH_hi hh _ i g] at h; exact absurd h (by decide)
  rw [hh.1 c v i hc hv (by omega), decide_eq_true hi, Bool.true_and] at h
  have e4 : a4 (20 * c + i) = nI v := of_decide_eq_true h
  rcases hW.2.2.2.2 c i hc hi with z | z
  · rw [e4] at z; exact absurd z (rt_ne1 (by omega))
  · exact z
theorem rt_hold5 {c : Nat} (hW : rt_W a3 a4 a5) (hh : rt_isH a4 a6) (hc : c < 6) (set : Int32) (d : Nat) : d ≤ 20 → ∀ x3 : Int32, (∀ i, rt_b x3 i = true → rt_b (a3 (c / 2)) i = true) →
    ∃ v : Int32, (∀ i, rt_b v i = true → rt_b (a3 (c / 2)) i = true) ∧ ∀ (a8 : Nat → Int32) (post : Int32 → Prop), post v → ∃ n, wX_holdersOf_5 post (nI c) set o m a1 a2 a3 a4 a5 a6 a7 a8 n x3 (nI (20 - d)) := by
  induction d with
  | zero => exact fun _ x3 h3 => ⟨x3, h3, fun a8 post h => ⟨1, pk_le 20 20 (fun _ => h) (fun z => absurd z (by omega))⟩⟩
  | succ d ih =>
    intro hd x3 h3
    obtain ⟨i, e1, e2, hi⟩ : ∃ i, 20 - (d + 1) = i ∧ 20 - d = i + 1 ∧ i < 20 := ⟨20 - (d + 1), rfl, by omega, by omega⟩
    rw [e1]
    have ih := ih (by omega)
    rw [e2] at ih
    by_cases hb : ((set >>> (nI i &&& 31)) &&& 1) = 1
    · obtain ⟨v, hv, hp⟩ := ih (x3 ||| a6 (20 * c + i)) (fun j hj => by
        rw [rt_or, Bool.or_eq_true] at hj
        rcases hj with z | z
        · exact h3 j z
        · exact rt_a6_row hW hh hc hi z)
      refine ⟨v, hv, fun a8 post h => ?_⟩
      obtain ⟨n, hn⟩ := hp a8 post h
      refine ⟨n + 1, pk_le 20 i (fun z => absurd z (by omega)) (fun _ => br_t hb ⟨pk_in (20 * c + i) 120 (by omega) (rt_ix c i), nm_r ?_ (nm_r (nI_1 i) hn)⟩)⟩
      rw [rt_ix, nI_clamp (show 20 * c + i < 2 ^ 31 by omega)]
    · obtain ⟨v, hv, hp⟩ := ih (x3 ||| 0) (fun j hj => by
        rw [rt_or, rt_0, Bool.or_false] at hj
        exact h3 j hj)
      refine ⟨v, hv, fun a8 post h => ?_⟩
      obtain ⟨n, hn⟩ := hp a8 post h
      exact ⟨n + 1, pk_le 20 i (fun z => absurd z (by omega)) (fun _ => br_f hb (nm_e (nm_r (nI_1 i) hn)))⟩
theorem rt_holdersOf {c : Nat} (hW : rt_W a3 a4 a5) (hh : rt_isH a4 a6) (hc : c < 6) (set : Int32) :
    ∃ v : Int32, (∀ i, rt_b v i = true → rt_b (a3 (c / 2)) i = true) ∧ ∀ (a8 : Nat → Int32) (post : Int32 → Prop), post v → wpX_holdersOf post (o, m, a1, a2, a3, a4, a5, a6, a7, a8) (nI c) set := by
  obtain ⟨v, hv, hp⟩ := rt_hold5 (o := o) (m := m) (a1 := a1) (a2 := a2) (a7 := a7) hW hh hc set 20 (by omega) 0 (fun i h => by rw [rt_0] at h; exact absurd h (by decide))
  refine ⟨v, hv, fun a8 post h => ?_⟩
  unfold wpX_holdersOf
  exact hp a8 post h
/-- what goes: rows that are there, the first one among them -/
def rt_Go (a3 : Nat → Int32) (t k : Nat) (g : Nat → Int32) : Prop := rt_Z 3 g ∧ (∀ t' i, rt_b (g t') i = true → rt_b (a3 t') i = true) ∧ rt_b (g t) k = true
theorem rt_Go_or {t k c : Nat} {g : Nat → Int32} {v : Int32} (h : rt_Go a3 t k g) (hc : c < 6) (hv : ∀ i, rt_b v i = true → rt_b (a3 (c / 2)) i = true) : rt_Go a3 t k (upd g (c / 2) (g (c / 2) ||| (v &&& (g (c / 2) ^^^ (-1))))) := by
  refine ⟨rt_Zu h.1 (by omega), fun t' i hi => ?_, ?_⟩
  · by_cases e : t' = c / 2
    · rw [e] at hi ⊢
      rw [pk_us, rt_or, Bool.or_eq_true] at hi
      rcases hi with z | z
      · exact h.2.1 _ i z
      · rw [rt_and, Bool.and_eq_true] at z
        exact hv i z.1
    · rw [pk_un e] at hi
      exact h.2.1 t' i hi
  · by_cases e : t = c / 2
    · have h3 := h.2.2
      rw [e] at h3 ⊢
      rw [pk_us, rt_or, h3, Bool.true_or]
    · rw [pk_un e]; exact h.2.2
theorem rt_spr52 {t k : Nat} (hl : rt_L a1 a2) (hW : rt_W a3 a4 a5) (hh : rt_isH a4 a6) (x4 : Int32) (d : Nat) : d ≤ 6 → ∀ (x3 : Int32) (g : Nat → Int32), rt_Go a3 t k g →
    ∃ (x3' : Int32) (g' : Nat → Int32), rt_Go a3 t k g' ∧ ∀ (post : Int32 → St1 → Prop) (J : Int32 → Int32 → (Nat → Int32) → (Nat → Int32) → (Nat → Int32) → (Nat → Int32) → (Nat → Int32) → (Nat → Int32) → (Nat → Int32) → (Nat → Int32) → Prop),
      J x3' (x4 + 1) a1 a2 a3 a4 a5 a6 a7 g' → ∃ n, wX_spread_52 post J x4 o m n x3 (nI (6 - d)) a1 a2 a3 a4 a5 a6 a7 g := by
  induction d with
  | zero => exact fun _ x3 g hg => ⟨x3, g, hg, fun post J h => ⟨1, pk_le 6 6 (fun _ => nm_e h) (fun z => absurd z (by omega))⟩⟩
  | succ d ih =>
    intro hd x3 g hg
    obtain ⟨i, e1, e2, hi⟩ : ∃ i, 6 - (d + 1) = i ∧ 6 - d = i + 1 ∧ i < 6 := ⟨6 - (d + 1), rfl, by omega, by omega⟩
    rw [e1]
    have ih := ih (by omega)
    rw [e2] at ih
    have eh : nI i / 2 = nI (i / 2) := pk_div (d := 2) (by omega) (by decide) (by decide)
    by_cases h1 : a2 i = 1
    · obtain ⟨v, hv, hp⟩ := rt_holdersOf (o := o) (m := m) (a1 := a1) (a2 := a2) (a7 := a7) hW hh hi (g (rt_ln a1 i))
      have hg' := rt_Go_or hg hi hv
      obtain ⟨y3, ey⟩ : ∃ y3 : Int32, y3 = if x3 = 0 then (if v &&& (g (i / 2) ^^^ (-1)) = 0 then 0 else 1) else 1 := ⟨_, rfl⟩
      obtain ⟨x3', g', hG, hJ⟩ := ih y3 _ hg'
      refine ⟨x3', g', hG, fun post J h => ?_⟩
      obtain ⟨n, hn⟩ := hJ post J h
      refine ⟨n + 1, pk_le 6 i (fun z => absurd z (by omega)) (fun _ => ⟨pk_in i 6 hi, ?_⟩)⟩
      rw [eh, nI_clamp (show i < 2 ^ 31 by omega), nI_clamp (show i / 2 < 2 ^ 31 by omega)]
      refine br_t h1 ⟨pk_in i 6 hi, rt_ln_in hl hi, hp g _ ⟨by decide, pk_in (i / 2) 3 (by omega), nm_e ⟨by decide, pk_in (i / 2) 3 (by omega), pk_in (i / 2) 3 (by omega), nm_e (br_c (fun z3 => br_c (fun z6 => ?_) (fun z6 => ?_)) (fun z3 => ?_))⟩⟩⟩
      · rw [if_pos z3, if_pos z6] at ey
        subst ey
        exact nm_r (nI_1 i) hn
      · rw [if_pos z3, if_neg z6] at ey
        subst ey
        exact nm_r (nI_1 i) hn
      · rw [if_neg z3] at ey
        subst ey
        exact nm_r (nI_1 i) hn
    · obtain ⟨x3', g', hG, hJ⟩ := ih x3 g hg
      refine ⟨x3', g', hG, fun post J h => ?_⟩
      obtain ⟨n, hn⟩ := hJ post J h
      refine ⟨n + 1, pk_le 6 i (fun z => absurd z (by omega)) (fun _ => ⟨pk_in i 6 hi, ?_⟩)⟩
      rw [nI_clamp (show i < 2 ^ 31 by omega)]
      exact br_f h1 (nm_r (nI_1 i) hn)
theorem rt_spr146 (hl : rt_L a1 a2) (hW : rt_W a3 a4 a5) (hh : rt_isH a4 a6) (g : Nat → Int32) (d : Nat) : d ≤ 6 →
    ∃ r : Int32, (r = 0 ∨ r = 1) ∧ ∀ (post : Int32 → St1 → Prop), post r (o, m, a1, a2, a3, a4, a5, a6, a7, g) → ∃ n, wX_spread_146 post o m a1 a2 a3 a4 a5 a6 a7 g n (nI (6 - d)) := by
  induction d with
  | zero => exact fun _ => ⟨1, Or.inr rfl, fun post h => ⟨1, pk_le 6 6 (fun _ => h) (fun z => absurd z (by omega))⟩⟩
  | succ d ih =>
    intro hd
    obtain ⟨i, e1, e2, hi⟩ : ∃ i, 6 - (d + 1) = i ∧ 6 - d = i + 1 ∧ i < 6 := ⟨6 - (d + 1), rfl, by omega, by omega⟩
    rw [e1]
    have ih := ih (by omega)
    rw [e2] at ih
    obtain ⟨r, hr, hp⟩ := ih
    have eh : nI i / 2 = nI (i / 2) := pk_div (d := 2) (by omega) (by decide) (by decide)
    by_cases h1 : a2 i = 0
    · obtain ⟨v, _, hv⟩ := rt_holdersOf (o := o) (m := m) (a1 := a1) (a2 := a2) (a7 := a7) hW hh hi (g (rt_ln a1 i))
      by_cases h0 : v &&& (g (i / 2) ^^^ (-1)) = 0
      · refine ⟨r, hr, fun post h => ?_⟩
        obtain ⟨n, hn⟩ := hp post h
        refine ⟨n + 1, pk_le 6 i (fun z => absurd z (by omega)) (fun _ => ⟨pk_in i 6 hi, ?_⟩)⟩
        rw [eh, nI_clamp (show i < 2 ^ 31 by omega), nI_clamp (show i / 2 < 2 ^ 31 by omega)]
        exact br_t h1 ⟨pk_in i 6 hi, rt_ln_in hl hi, hv g _ ⟨by decide, pk_in (i / 2) 3 (by omega), nm_e (br_t h0 (nm_r (nI_1 i) hn))⟩⟩
      · refine ⟨0, Or.inl rfl, fun post h => ?_⟩
        refine ⟨1, pk_le 6 i (fun z => absurd z (by omega)) (fun _ => ⟨pk_in i 6 hi, ?_⟩)⟩
        rw [eh, nI_clamp (show i < 2 ^ 31 by omega), nI_clamp (show i / 2 < 2 ^ 31 by omega)]
        exact br_t h1 ⟨pk_in i 6 hi, rt_ln_in hl hi, hv g _ ⟨by decide, pk_in (i / 2) 3 (by omega), nm_e (br_f h0 h)⟩⟩
    · refine ⟨r, hr, fun post h => ?_⟩
      obtain ⟨n, hn⟩ := hp post h
      refine ⟨n + 1, pk_le 6 i (fun z => absurd z (by omega)) (fun _ => ⟨pk_in i 6 hi, ?_⟩)⟩
      rw [nI_clamp (show i < 2 ^ 31 by omega)]
      exact br_f h1 (nm_r (nI_1 i) hn)
theorem rt_spr36 {t k : Nat} (hl : rt_L a1 a2) (hW : rt_W a3 a4 a5) (hh : rt_isH a4 a6) (d : Nat) : d ≤ 64 → ∀ (x3 : Int32) (g : Nat → Int32), rt_Go a3 t k g →
    ∃ (r : Int32) (g' : Nat → Int32), rt_Go a3 t k g' ∧ (r = 0 ∨ r = 1) ∧ ∀ (post : Int32 → St1 → Prop), post r (o, m, a1, a2, a3, a4, a5, a6, a7, g') → ∃ n, wX_spread_36 post o m n x3 (nI (64 - d)) a1 a2 a3 a4 a5 a6 a7 g := by
  induction d with
  | zero =>
    intro _ x3 g hg
    obtain ⟨r, hr, hp⟩ := rt_spr146 (o := o) (m := m) (a7 := a7) hl hW hh g 6 (by omega)
    exact ⟨r, g, hg, hr, fun post h => ⟨1, pk_le 64 64 (fun _ => hp post h) (fun z => absurd z (by omega))⟩⟩
  | succ d ih =>
    intro hd x3 g hg
    obtain ⟨i, e1, e2, hi⟩ : ∃ i, 64 - (d + 1) = i ∧ 64 - d = i + 1 ∧ i < 64 := ⟨64 - (d + 1), rfl, by omega, by omega⟩
    rw [e1]
    have ih := ih (by omega)
    rw [e2] at ih
    by_cases h0 : x3 = 0
    · obtain ⟨r, hr, hp⟩ := rt_spr146 (o := o) (m := m) (a7 := a7) hl hW hh g 6 (by omega)
      exact ⟨r, g, hg, hr, fun post h => ⟨1, pk_le 64 i (fun z => absurd z (by omega)) (fun _ => br_t h0 (hp post h))⟩⟩
    · obtain ⟨x3', g', hg', hJ⟩ := rt_spr52 (o := o) (m := m) (a7 := a7) hl hW hh (nI i) 6 (by omega) 0 g hg
      obtain ⟨r, g2, hg2, hr, hp⟩ := ih x3' g' hg'
      refine ⟨r, g2, hg2, hr, fun post h => ?_⟩
      obtain ⟨n, hn⟩ := hp post h
      exact ⟨n + 1, pk_le 64 i (fun z => absurd z (by omega)) (fun _ => br_f h0 (hJ post (wX_spread_36 post o m n) (by rw [nI_1]; exact hn)))⟩
theorem rt_spread {t k : Nat} (hl : rt_L a1 a2) (hW : rt_W a3 a4 a5) (hh : rt_isH a4 a6) (ht : t < 3) (hk : k < 20) (hrow : rt_b (a3 t) k = true) :
    ∃ (r : Int32) (g : Nat → Int32), rt_Go a3 t k g ∧ (r = 0 ∨ r = 1) ∧ ∀ (a8 : Nat → Int32) (post : Int32 → St1 → Prop), rt_Z 3 a8 → post r (o, m, a1, a2, a3, a4, a5, a6, a7, g) → wpX_spread post (o, m, a1, a2, a3, a4, a5, a6, a7, a8) (nI t) (nI k) := by
  have hz0 : rt_Z 3 (upd rt_z t ((1 : Int32) <<< (nI k &&& 31))) := rt_Zu (fun _ _ => rfl) ht
  have hg0 : rt_Go a3 t k (upd rt_z t ((1 : Int32) <<< (nI k &&& 31))) := by
    refine ⟨hz0, fun t' i hi => ?_, ?_⟩
    · by_cases e : t' = t
      · subst e
        rw [pk_us] at hi
        rcases Nat.lt_or_ge i 32 with z | z
        · rw [rt_bit k (by omega) z] at hi
          rw [of_decide_eq_true hi]; exact hrow
        · rw [rt_big z] at hi; exact absurd hi (by decide)
      · rw [pk_un e] at hi
        have hi : rt_b 0 i = true := hi
        rw [rt_0] at hi; exact absurd hi (by decide)
    · rw [pk_us, rt_bit k (by omega) (by omega), decide_eq_true rfl]
  obtain ⟨r, g, hg, hr, hp⟩ := rt_spr36 (o := o) (m := m) (a7 := a7) hl hW hh 64 (by omega) 1 _ hg0
  refine ⟨r, g, hg, hr, fun a8 post hz8 h => ?_⟩
  unfold wpX_spread
  refine pk_loop (fun n i s => wX_spread_2 post (nI t) (nI k) o m n (nI i) a1 a2 a3 a4 a5 a6 a7 s) (fun i s => rt_Z 3 s ∧ ∀ j, j < i → s j = upd rt_z t ((1 : Int32) <<< (nI k &&& 31)) j) 3 0 a8 (by omega) ⟨hz8, fun j hj => absurd hj (by omega)⟩ ?_ ?_
  · intro n s hs
    have e : s = upd rt_z t ((1 : Int32) <<< (nI k &&& 31)) := rt_eqZ hs.1 hz0 hs.2
    subst e
    exact pk_le 3 3 (fun _ => hp post h) (fun z => absurd z (by omega))
  · intro n i s hi hs hw
    have step : ∀ x : Int32, x = upd rt_z t ((1 : Int32) <<< (nI k &&& 31)) i → wX_spread_2 post (nI t) (nI k) o m n (nI (i + 1)) a1 a2 a3 a4 a5 a6 a7 (upd s i x) := by
      intro x hx
      refine hw _ ⟨rt_Zu hs.1 hi, fun j hj => ?_⟩
      by_cases e : j = i
      · rw [e, pk_us, hx]
      · rw [pk_un e]; exact hs.2 j (by omega)
    refine pk_le 3 i (fun z => absurd z (by omega)) (fun _ => ?_)
    rw [nI_clamp (show i < 2 ^ 31 by omega)]
    refine pk_eq i t (fun z => ⟨pk_in i 3 hi, nm_e (nm_r (nI_1 i) (step _ ?_))⟩) (fun z => ⟨pk_in i 3 hi, nm_e (nm_r (nI_1 i) (step _ ?_))⟩)
    · rw [z, pk_us]
    · rw [pk_un z]; rfl
/-- how many rows, how many go -/
def rt_n3 (g : Nat → Int32) : Nat := rt_c (rt_b (g 0)) 20 + rt_c (rt_b (g 1)) 20 + rt_c (rt_b (g 2)) 20
theorem rt_n3_le (g : Nat → Int32) : rt_n3 g ≤ 60 := by
  have h0 := rt_c_le (rt_b (g 0)) 20
  have h1 := rt_c_le (rt_b (g 1)) 20
  have h2 := rt_c_le (rt_b (g 2)) 20
  unfold rt_n3; omega
theorem rt_n3_pos {t k : Nat} {g : Nat → Int32} (ht : t < 3) (hk : k < 20) (h : rt_b (g t) k = true) : 1 ≤ rt_n3 g := by
  have hp : 1 ≤ rt_c (rt_b (g t)) 20 := by
    have := rt_s_ge (f := fun i => if rt_b (g t) i = true then 1 else 0) (n := 20) k hk
    have this' : (if rt_b (g t) k = true then 1 else 0) ≤ rt_c (rt_b (g t)) 20 := this
    rw [if_pos h] at this'
    exact this'
  unfold rt_n3
  rcases (show t = 0 ∨ t = 1 ∨ t = 2 by omega) with z | z | z
  · subst z; omega
  · subst z; omega
  · subst z; omega
theorem rt_n3_dis {b3 g : Nat → Int32} (h : ∀ t k, t < 3 → k < 20 → rt_b (b3 t) k = (rt_b (a3 t) k && !rt_b (g t) k)) (hs : ∀ t i, rt_b (g t) i = true → rt_b (a3 t) i = true) : rt_n3 a3 = rt_n3 b3 + rt_n3 g := by
  have e : ∀ t, t < 3 → rt_c (rt_b (a3 t)) 20 = rt_c (rt_b (b3 t)) 20 + rt_c (rt_b (g t)) 20 := fun t ht => rt_c_dis (fun i hi => ⟨h t i ht hi, hs t i⟩)
  unfold rt_n3
  rw [e 0 (by omega), e 1 (by omega), e 2 (by omega)]
  omega
theorem rt_Go_hi {t k : Nat} {g : Nat → Int32} (hW : rt_W a3 a4 a5) (hg : rt_Go a3 t k g) : ∀ t' i, 20 ≤ i → rt_b (g t') i = false := by
  intro t' i hi
  cases e : rt_b (g t') i
  · rfl
  · have := hg.2.1 t' i e
    rw [hW.2.2.2.1 t' i hi] at this
    exact absurd this (by decide)
theorem rt_wouldGo0 {post : Int32 → St1 → Prop} {t k : Nat} (ht : t < 3) (hk : k < 20) (hrow : rt_b (a3 t) k = false) (H : post (-2) (o, m, a1, a2, a3, a4, a5, a6, a7, a8)) : wpX_wouldGo post (o, m, a1, a2, a3, a4, a5, a6, a7, a8) (nI t) (nI k) := by
  unfold wpX_wouldGo
  exact rt_isTable ht (br_f (by decide) (rt_hasRow ht hk (fun g => by rw [hrow] at g; exact absurd g (by decide)) (fun _ => br_t rfl H)))
theorem rt_wouldGo1 {post : Int32 → St1 → Prop} {t k : Nat} {r : Int32} {g : Nat → Int32} (hW : rt_W a3 a4 a5) (ht : t < 3) (hk : k < 20) (hrow : rt_b (a3 t) k = true) (hz8 : rt_Z 3 a8) (hg : rt_Go a3 t k g)
    (hsp : ∀ (a8 : Nat → Int32) (post : Int32 → St1 → Prop), rt_Z 3 a8 → post r (o, m, a1, a2, a3, a4, a5, a6, a7, g) → wpX_spread post (o, m, a1, a2, a3, a4, a5, a6, a7, a8) (nI t) (nI k))
    (H0 : r = 0 → post (-5) (o, m, a1, a2, a3, a4, a5, a6, a7, g)) (H1 : ¬ r = 0 → post (nI (rt_n3 g)) (o, m, a1, a2, a3, a4, a5, a6, a7, g)) : wpX_wouldGo post (o, m, a1, a2, a3, a4, a5, a6, a7, a8) (nI t) (nI k) := by
  unfold wpX_wouldGo
  refine rt_isTable ht (br_f (by decide) (rt_hasRow ht hk (fun _ => br_f (by decide) (hsp a8 _ hz8 (br_c H0 (fun z => ?_)))) (fun z => by rw [hrow] at z; exact absurd z (by decide))))
  refine rt_ones (rt_Go_hi hW hg 0) (rt_ones (rt_Go_hi hW hg 1) (rt_ones (rt_Go_hi hW hg 2) ?_))
  rw [nI_add, nI_add]
  exact H1 z
theorem rt_rows {post : Int32 → Prop} {t : Nat} (hW : rt_W a3 a4 a5) (ht : t < 3) (H : post (nI (rt_c (rt_b (a3 t)) 20))) : wpX_rows post (o, m, a1, a2, a3, a4, a5, a6, a7, a8) (nI t) := by
  unfold wpX_rows
  refine rt_isTable ht (br_f (by decide) ⟨pk_in t 3 ht, ?_⟩)
  rw [nI_clamp (show t < 2 ^ 31 by omega)]
  exact rt_ones (hW.2.2.2.1 t) H
theorem rt_rows3 {P : Int32 → Prop} (hW : rt_W a3 a4 a5) (H : P (nI (rt_n3 a3))) :
    wpX_rows (fun r_28 => wpX_rows (fun r_29 => wpX_rows (fun r_30 => ∀ x : Int32, x = (r_28 + r_29) + r_30 → P x) (o, m, a1, a2, a3, a4, a5, a6, a7, a8) 2) (o, m, a1, a2, a3, a4, a5, a6, a7, a8) 1) (o, m, a1, a2, a3, a4, a5, a6, a7, a8) 0 := by
  refine rt_rows (t := 0) hW (by omega) (rt_rows (t := 1) hW (by omega) (rt_rows (t := 2) hW (by omega) (nm_r ?_ H)))
  rw [nI_add, nI_add]; rfl
end
end
section
/-! remove, and the law's check of it -/
section
variable {o m : Int32} {a1 a2 a3 a4 a5 a6 a7 a8 : Nat → Int32}
theorem rt_clearRefs {post : Int32 → St1 → Prop} {c : Nat} {set ex : Int32} (hc : c < 6) (hW : rt_W a3 a4 a5) (hh : rt_isH a4 a6)
    (H : ∀ q b4 b6, rt_W a3 b4 a5 → rt_isH b4 b6 → post q (o, m, a1, a2, a3, b4, a5, b6, a7, a8)) :
    wpX_clearRefs post (o, m, a1, a2, a3, a4, a5, a6, a7, a8) (nI c) set ex := by
  unfold wpX_clearRefs
  obtain ⟨v, hv, hp⟩ := rt_holdersOf (o := o) (m := m) (a1 := a1) (a2 := a2) (a7 := a7) hW hh hc set
  refine hp a8 _ (nm_e ?_)
  refine pk_loop (fun n i s => wX_clearRefs_15 post (nI c) (v &&& (ex ^^^ (-1))) n (nI i) o m a1 a2 a3 s.1 a5 s.2 a7 a8) (fun _ (s : (Nat → Int32) × (Nat → Int32)) => rt_W a3 s.1 a5 ∧ rt_isH s.1 s.2) 20 0 (a4, a6) (by omega) ⟨hW, hh⟩ ?_ ?_
  · intro n s h
    refine pk_le 20 20 (fun _ => rt_ones (fun i hi => ?_) (H _ s.1 s.2 h.1 h.2)) (fun z => absurd z (by omega))
    rw [rt_and]
    cases e : rt_b v i
    · rw [Bool.false_and]
    · have := hv i e
      rw [hW.2.2.2.1 _ i hi] at this
      exact absurd this (by decide)
  · intro n i s hi h hw
    refine pk_le 20 i (fun z => absurd z (by omega)) (fun _ => br_c (fun e => ?_) (fun e => nm_r (nI_1 i) (hw s h)))
    exact rt_setRef hc hi rt_v1 (h.1.2.2.1.2 _ (by omega)) h.2 (fun q b6 hb6 => nm_r (nI_1 i) (hw (upd s.1 (20 * c + i) (-1), b6) ⟨rt_W_ref h.1 hc hi rt_v1 (Or.inl rfl), hb6⟩))
/-- i of the 60 places have been looked at -/
def rt_gone (a3 g b3 : Nat → Int32) (i : Nat) : Prop := ∀ t k, t < 3 → k < 20 → rt_b (b3 t) k = (rt_b (a3 t) k && !(decide (20 * t + k < i) && rt_b (g t) k))
theorem rt_gone_s0 {g b3 : Nat → Int32} {i : Nat} (h : rt_gone a3 g b3 i) (hg : rt_b (g (i / 20)) (i % 20) = false) : rt_gone a3 g b3 (i + 1) := by
  intro t k ht hk
  rw [h t k ht hk]
  by_cases e : 20 * t + k = i
  · have et : i / 20 = t := by omega
    have ek : i % 20 = k := by omega
    rw [et, ek] at hg
    rw [hg, Bool.and_false, Bool.and_false]
  · rw [show decide (20 * t + k < i + 1) = decide (20 * t + k < i) from decide_eq_decide.mpr (by omega)]
theorem rt_gone_s1 {g b3 : Nat → Int32} {i : Nat} (h : rt_gone a3 g b3 i) (hg : rt_b (g (i / 20)) (i % 20) = true) : rt_gone a3 g (upd b3 (i / 20) (b3 (i / 20) &&& (((1 : Int32) <<< (nI (i % 20) &&& 31)) ^^^ (-1)))) (i + 1) := by
  intro t k ht hk
  rw [rt_andb b3 (i / 20) (i % 20) t k (by omega), h t k ht hk]
  by_cases e : 20 * t + k = i
  · have et : i / 20 = t := by omega
    have ek : i % 20 = k := by omega
    rw [et, ek] at hg ⊢
    rw [hg, decide_eq_true rfl, decide_eq_true rfl, decide_eq_true (show 20 * t + k < i + 1 by omega)]
    simp
  · rw [show decide (20 * t + k < i + 1) = decide (20 * t + k < i) from decide_eq_decide.mpr (by omega)]
    by_cases et : t = i / 20
    · rw [decide_eq_false (p := k = i % 20) (by omega), Bool.and_false, Bool.not_false, Bool.and_true]
    · rw [decide_eq_false et, Bool.false_and, Bool.not_false, Bool.and_true]
theorem rt_sum60 (g : Nat → Int32) : rt_s (fun j => if rt_b (g (j / 20)) (j % 20) = true then 1 else 0) 60 = rt_n3 g := by
  have h := rt_s_mul (fun j => if rt_b (g (j / 20)) (j % 20) = true then 1 else 0) 3 20
  rw [show (60 : Nat) = 3 * 20 from rfl, h]
  have e : ∀ t, t < 3 → rt_s (fun j => if rt_b (g ((t * 20 + j) / 20)) ((t * 20 + j) % 20) = true then 1 else 0) 20 = rt_c (rt_b (g t)) 20 := by
    intro t ht
    apply rt_s_congr
    intro j hj
    show (if rt_b (g ((t * 20 + j) / 20)) ((t * 20 + j) % 20) = true then 1 else 0) = if rt_b (g t) j = true then 1 else 0
    rw [show (t * 20 + j) / 20 = t by omega, show (t * 20 + j) % 20 = j by omega]
  have e2 := rt_s_congr (n := 3) e
  refine Eq.trans e2 ?_
  show 0 + rt_c (rt_b (g 0)) 20 + rt_c (rt_b (g 1)) 20 + rt_c (rt_b (g 2)) 20 = _
  unfold rt_n3
  omega
theorem rt_rem101 {post : Int32 → St1 → Prop} {g b3 b4 b5 : Nat → Int32} (hl : rt_L a1 a2) (hW : rt_W a3 a4 a5) (hh : rt_isH a4 a6) (hP : rt_P a7 4 b3 b4 b5) (hWb : rt_W b3 b4 b5)
    (H1 : ∀ c3 c4 c5 c6, rt_W c3 c4 c5 → rt_isH c4 c6 → rt_G o a1 a2 c3 c4 → rt_gone a3 g c3 60 → post (nI (rt_n3 g)) (o, m, a1, a2, c3, c4, c5, c6, a7, g))
    (H0 : ∀ c6, rt_isH b4 c6 → post (-9) (o, m, a1, a2, b3, b4, b5, c6, a7, g)) :
    ∃ n, wX_remove_101 post n 0 0 o m a1 a2 a3 a4 a5 a6 a7 g := by
  refine pk_loop (fun n i s => wX_remove_101 post n (nI (rt_s (fun j => if rt_b (g (j / 20)) (j % 20) = true then 1 else 0) i)) (nI i) o m a1 a2 s.1 s.2.1 s.2.2.1 s.2.2.2 a7 g)
    (fun i (s : (Nat → Int32) × (Nat → Int32) × (Nat → Int32) × (Nat → Int32)) => rt_W s.1 s.2.1 s.2.2.1 ∧ rt_isH s.2.1 s.2.2.2 ∧ rt_gone a3 g s.1 i) 60 0 (a3, a4, a5, a6) (by omega) ⟨hW, hh, fun t k ht hk => ?_⟩ ?_ ?_
  · show rt_b (a3 t) k = _
    rw [decide_eq_false (by omega), Bool.false_and, Bool.not_false, Bool.and_true]
  · intro n s h
    refine pk_le 60 60 (fun _ => ?_) (fun z => absurd z (by omega))
    rw [rt_sum60]
    exact rt_settle hl hP hWb h.1.1 h.1.2.1 h.1.2.2.1 h.2.1 (fun hg => H1 _ _ _ _ h.1 h.2.1 hg h.2.2) H0
  · intro n i s hi h hw
    have e1 : nI i / 20 = nI (i / 20) := pk_div (d := 20) (by omega) (by decide) (by decide)
    have e2 : nI i - nI i / 20 * 20 = nI (i % 20) := pk_rem (d := 20) (by omega) (by decide) (by decide)
    have hw' : ∀ s' : (Nat → Int32) × (Nat → Int32) × (Nat → Int32) × (Nat → Int32), rt_W s'.1 s'.2.1 s'.2.2.1 ∧ rt_isH s'.2.1 s'.2.2.2 ∧ rt_gone a3 g s'.1 (i + 1) → wX_remove_101 post n (nI (rt_s (fun j => if rt_b (g (j / 20)) (j % 20) = true then 1 else 0) i + (if rt_b (g (i / 20)) (i % 20) = true then 1 else 0))) (nI (i + 1)) o m a1 a2 s'.1 s'.2.1 s'.2.2.1 s'.2.2.2 a7 g := hw
    refine pk_le 60 i (fun z => absurd z (by omega)) (fun _ => ⟨by decide, pk_in (i / 20) 3 (by omega) e1, by decide, ?_⟩)
    rw [e2, e1, nI_clamp (show i / 20 < 2 ^ 31 by omega)]
    refine br_c (fun e => ⟨by decide, by decide, ?_⟩) (fun e => ?_)
    · have eb := (rt_t1 _ (i % 20) (by omega)).mp e
      rw [if_pos eb] at hw'
      exact rt_dropRow (by omega) (by omega) h.1 h.2.1 (fun c4 c5 c6 g1 g2 => nm_r (nI_1 _) (nm_r (nI_1 i) (hw' (_, c4, c5, c6) ⟨g1, g2, rt_gone_s1 h.2.2 eb⟩)))
    · have eb : rt_b (g (i / 20)) (i % 20) = false := by
        cases z : rt_b (g (i / 20)) (i % 20)
        · rfl
        · exact absurd ((rt_t1 _ (i % 20) (by omega)).mpr z) e
      rw [eb, if_neg (by decide)] at hw'
      exact nm_r (nI_1 i) (hw' s ⟨h.1, h.2.1, rt_gone_s0 h.2.2 eb⟩)
theorem rt_rem43 {post : Int32 → St1 → Prop} {g b3 b4 b5 : Nat → Int32} (hl : rt_L a1 a2) (hW : rt_W a3 a4 a5) (hh : rt_isH a4 a6) (hP : rt_P a7 4 b3 b4 b5) (hWb : rt_W b3 b4 b5)
    (H1 : ∀ c3 c4 c5 c6, rt_W c3 c4 c5 → rt_isH c4 c6 → rt_G o a1 a2 c3 c4 → rt_gone a3 g c3 60 → post (nI (rt_n3 g)) (o, m, a1, a2, c3, c4, c5, c6, a7, g))
    (H0 : ∀ c6, rt_isH b4 c6 → post (-9) (o, m, a1, a2, b3, b4, b5, c6, a7, g)) :
    ∃ n, wX_remove_43 post n 0 o m a1 a2 a3 a4 a5 a6 a7 g := by
  refine pk_loop (fun n i s => wX_remove_43 post n (nI i) o m a1 a2 a3 s.1 a5 s.2 a7 g) (fun _ (s : (Nat → Int32) × (Nat → Int32)) => rt_W a3 s.1 a5 ∧ rt_isH s.1 s.2) 6 0 (a4, a6) (by omega) ⟨hW, hh⟩ ?_ ?_
  · intro n s h
    exact pk_le 6 6 (fun _ => rt_rem101 hl h.1 h.2 hP hWb H1 H0) (fun z => absurd z (by omega))
  · intro n i s hi h hw
    have e1 : nI i / 2 = nI (i / 2) := pk_div (d := 2) (by omega) (by decide) (by decide)
    refine pk_le 6 i (fun z => absurd z (by omega)) (fun _ => ⟨pk_in i 6 hi, ?_⟩)
    rw [e1, nI_clamp (show i < 2 ^ 31 by omega)]
    refine br_c (fun _ => ⟨pk_in i 6 hi, rt_ln_in hl hi, by decide, pk_in (i / 2) 3 (by omega), ?_⟩) (fun _ => nm_r (nI_1 i) (hw s h))
    exact rt_clearRefs hi h.1 h.2 (fun q c4 c6 g1 g2 => nm_r (nI_1 i) (hw (c4, c6) ⟨g1, g2⟩))
theorem rt_remove0 {post : Int32 → St1 → Prop} {t k : Nat} (ht : t < 3) (hk : k < 20) (hrow : rt_b (a3 t) k = false) (H : post (-2) (o, m, a1, a2, a3, a4, a5, a6, a7, a8)) : wpX_remove post (o, m, a1, a2, a3, a4, a5, a6, a7, a8) (nI t) (nI k) := by
  unfold wpX_remove
  exact rt_isTable ht (br_f (by decide) (rt_hasRow ht hk (fun g => by rw [hrow] at g; exact absurd g (by decide)) (fun _ => br_t rfl H)))
theorem rt_remove1 {post : Int32 → St1 → Prop} {t k : Nat} {r : Int32} {g : Nat → Int32} (hl : rt_L a1 a2) (hW : rt_W a3 a4 a5) (hh : rt_isH a4 a6) (ht : t < 3) (hk : k < 20) (hrow : rt_b (a3 t) k = true) (hz8 : rt_Z 3 a8)
    (hsp : ∀ (a8 : Nat → Int32) (post : Int32 → St1 → Prop), rt_Z 3 a8 → post r (o, m, a1, a2, a3, a4, a5, a6, a7, g) → wpX_spread post (o, m, a1, a2, a3, a4, a5, a6, a7, a8) (nI t) (nI k))
    (H5 : r = 0 → post (-5) (o, m, a1, a2, a3, a4, a5, a6, a7, g))
    (H1 : ¬ r = 0 → ∀ c3 c4 c5 c6 b7, rt_W c3 c4 c5 → rt_isH c4 c6 → rt_G o a1 a2 c3 c4 → rt_gone a3 g c3 60 → (∀ j, j < 732 → b7 j = a7 j) → post (nI (rt_n3 g)) (o, m, a1, a2, c3, c4, c5, c6, b7, g))
    (H0 : ¬ r = 0 → ∀ c6 b7, rt_isH a4 c6 → (∀ j, j < 732 → b7 j = a7 j) → post (-9) (o, m, a1, a2, a3, a4, a5, c6, b7, g)) :
    wpX_remove post (o, m, a1, a2, a3, a4, a5, a6, a7, a8) (nI t) (nI k) := by
  unfold wpX_remove
  refine rt_isTable ht (br_f (by decide) (rt_hasRow ht hk (fun _ => br_f (by decide) (hsp a8 _ hz8 (br_c H5 (fun z => ?_)))) (fun z => by rw [hrow] at z; exact absurd z (by decide))))
  exact rt_keep (p := 4) (by omega) (fun b7 hP h7 => rt_rem43 hl hW hh hP hW (fun c3 c4 c5 c6 g1 g2 g3 g4 => H1 z c3 c4 c5 c6 b7 g1 g2 g3 g4 (fun j hj => h7 j (by omega))) (fun c6 hc6 => H0 z c6 b7 hc6 (fun j hj => h7 j (by omega))))
theorem rt_removed {post : Int32 → St1 → Prop} {t k : Nat} (ht : t < 3) (hk : k < 20) (hl : rt_L a1 a2) (hh : rt_isH a4 a6) (hW : rt_W a3 a4 a5) (hG : rt_G o a1 a2 a3 a4) (hz8 : rt_Z 3 a8)
    (H : ∀ b3 b4 b5 b6 b7 b8, rt_W b3 b4 b5 → rt_isH b4 b6 → rt_G o a1 a2 b3 b4 → (∀ j, j < 732 → b7 j = a7 j) → rt_Z 3 b8 → post 1 (o, m, a1, a2, b3, b4, b5, b6, b7, b8)) :
    wpL_removed post (o, m, a1, a2, a3, a4, a5, a6, a7, a8) (nI t) (nI k) := by
  unfold wpL_removed
  have hn3 := rt_n3_le a3
  have s0 : nI (rt_n3 a3) = nI (rt_n3 a3) - 0 := (pk_sub (a := rt_n3 a3) (b := 0) (by omega)).symm
  cases hrow : rt_b (a3 t) k
  · refine rt_wouldGo0 ht hk hrow (rt_rows3 hW (rt_remove0 ht hk hrow (rt_rows3 hW ?_)))
    exact br_f (by decide) (br_t rfl (br_t (by decide) (br_t s0 (br_t (by decide) (H _ _ _ _ _ _ hW hh hG (fun _ _ => rfl) hz8)))))
  · obtain ⟨r, g, hg, hr, hsp⟩ := rt_spread (o := o) (m := m) (a7 := a7) hl hW hh ht hk hrow
    have hpos := rt_n3_pos ht hk hg.2.2
    have hgle := rt_n3_le g
    rcases hr with e0 | e1
    · refine rt_wouldGo1 hW ht hk hrow hz8 hg hsp (fun _ => ?_) (fun z => absurd e0 z)
      refine rt_rows3 hW (rt_remove1 hl hW hh ht hk hrow hg.1 hsp (fun _ => ?_) (fun z => absurd e0 z) (fun z => absurd e0 z))
      refine rt_rows3 hW ?_
      exact br_f (by decide) (br_t rfl (br_t (by decide) (br_t s0 (br_t (by decide) (H _ _ _ _ _ _ hW hh hG (fun _ _ => rfl) hg.1)))))
    · have ne : ¬ r = 0 := by rw [e1]; decide
      refine rt_wouldGo1 hW ht hk hrow hz8 hg hsp (fun z => absurd z ne) (fun _ => ?_)
      have n9 : ¬ nI (rt_n3 g) = -9 := by
        intro z
        have h1 := nI_toInt (n := rt_n3 g) (by omega)
        rw [z] at h1
        have h2 : (-9 : Int32).toInt = -9 := by decide
        omega
      refine rt_rows3 hW (rt_remove1 hl hW hh ht hk hrow hg.1 hsp (fun z => absurd z ne) (fun _ c3 c4 c5 c6 b7 g1 g2 g3 g4 g7 => ?_) (fun _ c6 b7 g2 g7 => ?_))
      · refine rt_rows3 g1 ?_
        have hdis : rt_n3 a3 = rt_n3 c3 + rt_n3 g := rt_n3_dis (fun t' k' ht' hk' => by
          rw [g4 t' k' ht' hk', decide_eq_true (show 20 * t' + k' < 60 by omega), Bool.true_and]) hg.2.1
        have hsub : nI (rt_n3 c3) = nI (rt_n3 a3) - nI (rt_n3 g) := by
          rw [pk_sub (by omega)]; congr 1; omega
        have hno : rt_b (c3 t) k = false := by
          rw [g4 t k ht hk, hg.2.2, decide_eq_true (show 20 * t + k < 60 by omega)]
          simp
        refine br_f n9 (br_t rfl (br_f (nI_nle (by omega) (by omega)) (br_t hsub (br_f (nI_pos (by omega)) (rt_wouldGo0 ht hk hno (br_t rfl ?_))))))
        exact H _ _ _ _ _ _ g1 g2 g3 g7 hg.1
      · refine rt_rows3 hW ?_
        exact br_t rfl (br_f (nI_nle (by omega) (by omega)) (br_t rfl (H _ _ _ _ _ _ hW g2 hG g7 hg.1)))
end
end
section
/-! transactions -/
section
variable {o m : Int32} {a1 a2 a3 a4 a5 a6 a7 a8 : Nat → Int32}
/-- picture p holds a state on which look answers v -/
def rt_Sv (q : Int32) (p : Nat) (v : Int64) (a1 a2 a7 : Nat → Int32) : Prop := ∃ b3 b4 b5, rt_P a7 p b3 b4 b5 ∧ rt_W b3 b4 b5 ∧ rt_S q a1 a2 b3 b4 ∧ ∀ b6, rt_isH b4 b6 → rt_Lk v a1 a2 b3 b4 b5 b6
theorem rt_Sv_keep {q : Int32} {p : Nat} {v : Int64} {b7 : Nat → Int32} (h : rt_Sv q p v a1 a2 a7) (e : ∀ j, 183 * p ≤ j → j < 183 * p + 183 → b7 j = a7 j) : rt_Sv q p v a1 a2 b7 := by
  obtain ⟨b3, b4, b5, h1, h2, h3, h4⟩ := h
  exact ⟨b3, b4, b5, rt_P_keep h1 e, h2, h3, h4⟩
theorem rt_Sv_new {q : Int32} {p : Nat} {v : Int64} (hP : rt_P a7 p a3 a4 a5) (hW : rt_W a3 a4 a5) (hS : rt_S q a1 a2 a3 a4) (hh : rt_isH a4 a6) (hv : rt_Lk v a1 a2 a3 a4 a5 a6) : rt_Sv q p v a1 a2 a7 :=
  ⟨a3, a4, a5, hP, hW, hS, fun b6 hb6 => by rw [rt_isH_uniq hb6 hh]; exact hv⟩
theorem rt_begin {post : Int32 → St1 → Prop} (H : ∀ b7, rt_P b7 0 a3 a4 a5 → post 1 (1, 0, a1, a2, a3, a4, a5, a6, b7, a8)) : wpX_begin post (0, m, a1, a2, a3, a4, a5, a6, a7, a8) := by
  unfold wpX_begin
  exact br_t rfl (rt_keep (p := 0) (by omega) (fun b7 hP _ => H b7 hP))
theorem rt_mark {post : Int32 → St1 → Prop} (H : ∀ b7, rt_P b7 1 a3 a4 a5 → (∀ j, j < 183 → b7 j = a7 j) → post 1 (1, 1, a1, a2, a3, a4, a5, a6, b7, a8)) : wpX_mark post (1, 0, a1, a2, a3, a4, a5, a6, a7, a8) := by
  unfold wpX_mark
  exact br_f (by decide) (br_t (by decide) (nm_r (e' := nI 1) (by decide) (rt_keep (p := 1) (by omega) (fun b7 hP h7 => H b7 hP (fun j hj => h7 j (by omega))))))
theorem rt_back {post : Int32 → St1 → Prop} {p : Nat} {b3 b4 b5 : Nat → Int32} (hp : p < 2) (hP : rt_P a7 p b3 b4 b5) (hWb : rt_W b3 b4 b5) (hW : rt_W a3 a4 a5) (hh : rt_isH a4 a6)
    (H : ∀ b6, rt_isH b4 b6 → post 0 (1, 0, a1, a2, b3, b4, b5, b6, a7, a8)) : wpX_back post (1, nI p, a1, a2, a3, a4, a5, a6, a7, a8) := by
  unfold wpX_back
  refine br_f (by decide) (rt_restore (by omega) hP hWb hW.1 hW.2.1 hW.2.2.1 hh (fun b6 hb6 => ?_))
  refine pk_le p 0 (fun z => ?_) (fun z => ?_)
  · have e : p = 0 := by omega
    subst e
    exact H b6 hb6
  · have e : p = 1 := by omega
    subst e
    exact nm_r (e' := 0) (by decide) (H b6 hb6)
theorem rt_rollback {post : Int32 → St1 → Prop} {b3 b4 b5 : Nat → Int32} (hP : rt_P a7 0 b3 b4 b5) (hWb : rt_W b3 b4 b5) (hW : rt_W a3 a4 a5) (hh : rt_isH a4 a6)
    (H : ∀ b6, rt_isH b4 b6 → post 1 (0, m, a1, a2, b3, b4, b5, b6, a7, a8)) : wpX_rollback post (1, m, a1, a2, a3, a4, a5, a6, a7, a8) := by
  unfold wpX_rollback
  exact br_f (by decide) (rt_restore (p := 0) (by omega) hP hWb hW.1 hW.2.1 hW.2.2.1 hh H)
theorem rt_commit {post : Int32 → St1 → Prop} (hl : rt_L a1 a2) (hh : rt_isH a4 a6) (H1 : rt_S 1 a1 a2 a3 a4 → post 1 (0, m, a1, a2, a3, a4, a5, a6, a7, a8)) (H0 : post (-9) (1, m, a1, a2, a3, a4, a5, a6, a7, a8)) :
    wpX_commit post (1, m, a1, a2, a3, a4, a5, a6, a7, a8) := by
  unfold wpX_commit
  exact br_f (by decide) (rt_isSound hl hh (fun hs => br_f (by decide) (H1 hs)) (br_t rfl H0))
/-- the law's own variables and the object's transaction -/
def rt_T (x3 x4 : Int32) (x5 x7 : Int64) (o m : Int32) (a1 a2 a7 : Nat → Int32) : Prop :=
  (x3 = 0 ∧ o = 0) ∨ (x3 = 1 ∧ o = 1 ∧ rt_Sv 1 0 x5 a1 a2 a7 ∧ ((x4 = 0 ∧ m = 0) ∨ (x4 = 1 ∧ m = 1 ∧ rt_Sv 0 1 x7 a1 a2 a7)))
theorem rt_T_keep {x3 x4 : Int32} {x5 x7 : Int64} {b7 : Nat → Int32} (h : rt_T x3 x4 x5 x7 o m a1 a2 a7) (e : ∀ j, j < 732 → b7 j = a7 j) : rt_T x3 x4 x5 x7 o m a1 a2 b7 := by
  rcases h with h | ⟨h1, h2, h3, h4⟩
  · exact Or.inl h
  · refine Or.inr ⟨h1, h2, rt_Sv_keep h3 (fun j _ hj => e j (by omega)), ?_⟩
    rcases h4 with h | ⟨h5, h6, h7⟩
    · exact Or.inl h
    · exact Or.inr ⟨h5, h6, rt_Sv_keep h7 (fun j _ hj => e j (by omega))⟩
theorem rt_DG0 (h : rt_S 1 a1 a2 a3 a4) : rt_DG a1 a2 a3 a4 = 0 := by
  apply rt_s_zero
  intro c hc
  show (if a2 c < 0 then 0 else rt_D a1 a3 a4 c) = 0
  by_cases g : a2 c < 0
  · rw [if_pos g]
  · rw [if_neg g]; exact h c hc g (fun _ => by decide)
theorem rt_353 {L : Nat} {xs : Nat → Int32} {J : Int32 → Int32 → Int64 → Int64 → Int32 → Int32 → Int32 → (Nat → Int32) → (Nat → Int32) → (Nat → Int32) → (Nat → Int32) → (Nat → Int32) → (Nat → Int32) → (Nat → Int32) → (Nat → Int32) → Prop}
    {ls x3 x4 : Int32} {x5 x7 : Int64} {i kc ks : Nat} (hK : rt_K ls a1 a2) (hl : rt_L a1 a2) (hh : rt_isH a4 a6) (hW : rt_W a3 a4 a5) (hG : rt_G o a1 a2 a3 a4) (h3 : x3 = 0 → o = 0)
    (hJ : J x3 x4 x5 x7 (nI (i + 2)) o m a1 a2 a3 a4 a5 a6 a7 a8) : wL_law_353 (fun r => r = 1) L xs J ls x3 x4 x5 x7 (nI i) kc ks o m a1 a2 a3 a4 a5 a6 a7 a8 := by
  have h364 : wL_law_364 (fun r => r = 1) L xs J ls x3 x4 x5 x7 (nI i) kc ks o m a1 a2 a3 a4 a5 a6 a7 a8 := by
    unfold wL_law_364
    exact rt_counted hK hl hh hW hG.1 (br_f (by decide) (nm_r (nI_add i 2) hJ))
  unfold wL_law_353
  refine br_c (fun e => rt_dangling hl hh (br_t ?_ h364)) (fun e => h364)
  rw [rt_DG0 (hG.2 (h3 e))]; rfl
end
end
section
/-! the law's loop -/
theorem rt_law71 {L : Nat} {xs : Nat → Int32} (hL : L ≤ 260) {ls : Int32} {kc ks : Nat} {a1 a2 : Nat → Int32} (hK : rt_K ls a1 a2) (hl : rt_L a1 a2) (n : Nat) :
    ∀ (i : Nat) (x3 x4 : Int32) (x5 x7 : Int64) (o m : Int32) (a3 a4 a5 a6 a7 a8 : Nat → Int32), i ≤ 121 → 122 - i < n → rt_W a3 a4 a5 → rt_isH a4 a6 → rt_G o a1 a2 a3 a4 → rt_Z 3 a8 → rt_T x3 x4 x5 x7 o m a1 a2 a7 →
      wL_law_71 (fun r => r = 1) L xs ls kc ks n x3 x4 x5 x7 (nI i) o m a1 a2 a3 a4 a5 a6 a7 a8 := by
  induction n with
  | zero => intro i x3 x4 x5 x7 o m a3 a4 a5 a6 a7 a8 _ h; omega
  | succ n ih =>
    intro i x3 x4 x5 x7 o m a3 a4 a5 a6 a7 a8 hi hn hW hh hG hz8 hT
    have fin : i < 120 → ∀ (y3 y4 : Int32) (y5 y7 : Int64) (o' m' : Int32) (b3 b4 b5 b6 b7 b8 : Nat → Int32), rt_W b3 b4 b5 → rt_isH b4 b6 → rt_G o' a1 a2 b3 b4 → rt_Z 3 b8 → rt_T y3 y4 y5 y7 o' m' a1 a2 b7 →
        wL_law_353 (fun r => r = 1) L xs (wL_law_71 (fun r => r = 1) L xs ls kc ks n) ls y3 y4 y5 y7 (nI i) kc ks o' m' a1 a2 b3 b4 b5 b6 b7 b8 := by
      intro hi2 y3 y4 y5 y7 o' m' b3 b4 b5 b6 b7 b8 g1 g2 g3 g4 g5
      refine rt_353 hK hl g2 g1 g3 (fun e => ?_) (ih (i + 2) y3 y4 y5 y7 o' m' b3 b4 b5 b6 b7 b8 (by omega) (by omega) g1 g2 g3 g4 g5)
      rcases g5 with h | h
      · exact h.2
      · rw [h.1] at e; exact absurd e (by decide)
    refine pk_le L (i + 1) (fun _ => rfl) (fun hi1 => ?_) rfl (nI_1 i) (by omega) (by omega)
    refine pk_le 120 i (fun _ => rfl) (fun hi2 => ⟨pk_in i L (by omega), nm_e (nm_e ?_)⟩)
    have fin := fin hi2
    refine br_c (fun _ => br_c (fun _ => br_c (fun e3 => ?_) (fun e3 => ?_)) (fun _ => ⟨by decide, by decide, ?_⟩)) (fun _ => ⟨pk_in (i + 1) L hi1 (nI_1 i), ?_⟩)
    · -- begin
      obtain ⟨v, hv⟩ := rt_look (a3 := a3) (a5 := a5) hl hh
      have ho : o = 0 := by
        rcases hT with h | h
        · exact h.2
        · rw [h.1] at e3; exact absurd e3 (by decide)
      refine hv o m a7 a8 _ ?_
      subst ho
      refine rt_begin (fun b7 hP => br_t rfl ?_)
      unfold wL_law_188
      exact fin 1 0 v x7 1 0 a3 a4 a5 a6 b7 a8 hW hh ⟨hG.1, fun z => absurd z (by decide)⟩ hz8 (Or.inr ⟨rfl, rfl, rt_Sv_new hP hW (hG.2 rfl) hh hv, Or.inl ⟨rfl, rfl⟩⟩)
    · -- a transaction runs
      rcases hT with h | ⟨h1, h2, h3, h4⟩
      · exact absurd h.1 e3
      subst h1 h2
      refine br_c (fun _ => br_c (fun _ => br_c (fun _ => ?_) (fun _ => ?_)) (fun _ => ?_)) (fun _ => br_c (fun e4 => ?_) (fun e4 => ?_))
      · -- rollback
        obtain ⟨b3, b4, b5, p1, p2, p3, p4⟩ := h3
        refine rt_rollback p1 p2 hW hh (fun b6 hb6 => br_t rfl ?_)
        unfold wL_law_336
        refine br_t rfl (p4 b6 hb6 _ _ _ _ _ (br_t rfl ?_))
        exact fin 0 x4 x5 x7 0 m b3 b4 b5 b6 a7 a8 p2 hb6 ⟨rt_S1 p3, fun _ => p3⟩ hz8 (Or.inl ⟨rfl, rfl⟩)
      · -- commit
        refine rt_commit hl hh (fun hs => br_f (by decide) ?_) (br_t rfl ?_)
        · unfold wL_law_319
          exact fin 0 x4 x5 x7 0 m a3 a4 a5 a6 a7 a8 hW hh ⟨hG.1, fun _ => hs⟩ hz8 (Or.inl ⟨rfl, rfl⟩)
        · unfold wL_law_319
          exact fin 1 x4 x5 x7 1 m a3 a4 a5 a6 a7 a8 hW hh hG hz8 (Or.inr ⟨rfl, rfl, h3, h4⟩)
      · -- back
        rcases h4 with ⟨q1, q2⟩ | ⟨q1, q2, q3⟩
        · subst q1 q2
          obtain ⟨b3, b4, b5, p1, p2, p3, p4⟩ := h3
          refine rt_back (p := 0) (by omega) p1 p2 hW hh (fun b6 hb6 => br_t rfl (p4 b6 hb6 _ _ _ _ _ (br_f (by decide) ?_)))
          unfold wL_law_286
          exact br_t rfl (fin 1 0 x5 x7 1 0 b3 b4 b5 b6 a7 a8 p2 hb6 ⟨rt_S1 p3, fun z => absurd z (by decide)⟩ hz8 (Or.inr ⟨rfl, rfl, ⟨b3, b4, b5, p1, p2, p3, p4⟩, Or.inl ⟨rfl, rfl⟩⟩))
        · subst q1 q2
          obtain ⟨b3, b4, b5, p1, p2, p3, p4⟩ := q3
          refine rt_back (p := 1) (by omega) p1 p2 hW hh (fun b6 hb6 => br_t rfl (p4 b6 hb6 _ _ _ _ _ (br_t rfl ?_)))
          unfold wL_law_286
          exact br_t rfl (fin 1 0 x5 x7 1 0 b3 b4 b5 b6 a7 a8 p2 hb6 ⟨p3, fun z => absurd z (by decide)⟩ hz8 (Or.inr ⟨rfl, rfl, h3, Or.inl ⟨rfl, rfl⟩⟩))
      · -- mark
        rcases h4 with ⟨q1, q2⟩ | ⟨q1, q2, q3⟩
        · subst q1 q2
          obtain ⟨v, hv⟩ := rt_look (a3 := a3) (a5 := a5) hl hh
          refine rt_mark (fun b7 hP h7 => br_t rfl ?_)
          unfold wL_law_217
          refine br_f (by decide) (hv _ _ _ _ _ ?_)
          unfold wL_law_233
          refine br_f (by decide) ?_
          unfold wL_law_246
          exact fin 1 1 x5 v 1 1 a3 a4 a5 a6 b7 a8 hW hh hG hz8 (Or.inr ⟨rfl, rfl, rt_Sv_keep h3 (fun j _ hj => h7 j (by omega)), Or.inr ⟨rfl, rfl, rt_Sv_new hP hW hG.1 hh hv⟩⟩)
        · rw [q1] at e4; exact absurd e4 (by decide)
      · -- no mark
        unfold wL_law_216 wL_law_217
        refine br_t rfl ?_
        unfold wL_law_233
        refine br_t rfl ?_
        unfold wL_law_246
        exact fin 1 x4 x5 x7 1 m a3 a4 a5 a6 a7 a8 hW hh hG hz8 (Or.inr ⟨rfl, rfl, h3, h4⟩)
    · -- removed
      obtain ⟨t, ht, et⟩ := rt_fld (xs (nI i).toNatClampNeg) 4 3 (by decide) (by decide) (D := 3) rfl
      obtain ⟨k, hk, ek⟩ := rt_fld (xs (nI i).toNatClampNeg) 8 6 (by decide) (by decide) (D := 6) rfl
      rw [et, ek]
      exact rt_removed ht (by omega) hl hh hW hG hz8 (fun b3 b4 b5 b6 b7 b8 g1 g2 g3 g4 g5 => br_f (by decide) (fin x3 x4 x5 x7 o m b3 b4 b5 b6 b7 b8 g1 g2 g3 g5 (rt_T_keep hT g4)))
    · -- statement
      exact rt_statement hl hh hW hG (fun q b3 b4 b5 b6 b7 g1 g2 g3 g4 => fin x3 x4 x5 x7 o m b3 b4 b5 b6 b7 a8 g1 g2 g3 hz8 (rt_T_keep hT g4))
theorem i_vc (xs : Nat → Int32) (L : Nat) (hL : L ≤ 260) : wpL_law (fun r => r = 1) L xs := by
  unfold wpL_law
  refine ⟨8, 1233, by omega, by omega, rt_init (fun a2 a4 h2 hz h4 => ?_)⟩
  have main : ∀ ls : Int32, ∃ n, wL_law_19 (fun r => r = 1) L xs ls (1 + 8) (10 + 1233) n 0 0 0 rt_z a2 rt_z a4 rt_z rt_z rt_z rt_z := fun ls =>
    rt_law19 h2 (fun b1 b2 hK hl => ⟨122, rt_law71 hL hK hl 122 1 0 0 0 0 0 0 rt_z a4 rt_z rt_z rt_z rt_z (by omega) (by omega) (rt_W_0 hz h4) (rt_isH_0 h4) ⟨rt_S_0 h4, fun _ => rt_S_0 h4⟩ (fun _ _ => rfl) (Or.inl ⟨rfl, rfl⟩)⟩)
  exact pk_le L 0 (fun _ => nm_e (main _)) (fun h => ⟨pk_in 0 L h, nm_e (main _)⟩)
end
