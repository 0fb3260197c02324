section
/-! the bits of a long; how many of the first 49 are set -/
def gb_b (x : Int64) (i : Nat) : Bool := x.toBitVec.getLsbD i
theorem gb_ext {x y : Int64} (h : ∀ i, i < 64 → gb_b x i = gb_b y i) : x = y := Int64.toBitVec_inj.mp (BitVec.eq_of_getLsbD_eq (fun i hi => h i hi))
theorem gb_or (x y : Int64) (i : Nat) : gb_b (x ||| y) i = (gb_b x i || gb_b y i) := by unfold gb_b; rw [Int64.toBitVec_or, BitVec.getLsbD_or]
theorem gb_and (x y : Int64) (i : Nat) : gb_b (x &&& y) i = (gb_b x i && gb_b y i) := by unfold gb_b; rw [Int64.toBitVec_and, BitVec.getLsbD_and]
theorem gb_xor (x y : Int64) (i : Nat) : gb_b (x ^^^ y) i = (gb_b x i ^^ gb_b y i) := by unfold gb_b; rw [Int64.toBitVec_xor, BitVec.getLsbD_xor]
theorem gb_m1 : ∀ i, i < 64 → gb_b (-1) i = true := by decide +kernel
theorem gb_0 (i : Nat) : gb_b 0 i = false := BitVec.getLsbD_zero
theorem gb_big {x : Int64} {i : Nat} (h : 64 ≤ i) : gb_b x i = false := BitVec.getLsbD_of_ge _ _ h
theorem gb_lt {x : Int64} {i : Nat} (h : gb_b x i = true) : i < 64 := by
  rcases Nat.lt_or_ge i 64 with z | z
  · exact z
  · rw [gb_big z] at h
    exact absurd h (by decide)
theorem gb_not (x : Int64) {i : Nat} (hi : i < 64) : gb_b (x ^^^ (-1)) i = !gb_b x i := by rw [gb_xor, gb_m1 i hi, Bool.xor_true]
theorem gb_or_t {x y : Int64} {i : Nat} : gb_b (x ||| y) i = true ↔ gb_b x i = true ∨ gb_b y i = true := by rw [gb_or, Bool.or_eq_true]
theorem gb_and_t {x y : Int64} {i : Nat} : gb_b (x &&& y) i = true ↔ gb_b x i = true ∧ gb_b y i = true := by rw [gb_and, Bool.and_eq_true]
theorem gb_not_t {x : Int64} {i : Nat} (hi : i < 64) : gb_b (x ^^^ (-1)) i = true ↔ ¬ gb_b x i = true := by
  rw [gb_not x hi]
  cases gb_b x i <;> simp
theorem gb_zero {x : Int64} : x = 0 ↔ ∀ i, ¬ gb_b x i = true := by
  constructor
  · intro h i
    rw [h, gb_0]
    decide
  · intro h
    refine gb_ext (fun i _ => ?_)
    rw [gb_0]
    exact Bool.eq_false_iff.mpr (h i)
theorem gb_nz {x : Int64} (h : ¬ x = 0) : ∃ i, gb_b x i = true := by
  refine Classical.byContradiction (fun z => h (gb_zero.mpr (fun i hi => z ⟨i, hi⟩)))
/-- the set of the one point q -/
def gb_bit (q : Nat) : Int64 := (1 : Int64) <<< ((nI q).toInt64 &&& 63)
theorem gb_bit_p : ∀ q, q < 64 → (gb_bit q).toBitVec = BitVec.twoPow 64 q := by decide +kernel
theorem gb_bit_t {q i : Nat} (hq : q < 64) : gb_b (gb_bit q) i = true ↔ i = q := by
  unfold gb_b
  rw [gb_bit_p q hq, BitVec.getLsbD_twoPow, Bool.and_eq_true, decide_eq_true_iff, decide_eq_true_iff]
  omega
theorem gb_hit {x : Int64} {q : Nat} (hq : q < 64) : (x &&& gb_bit q) = 0 ↔ ¬ gb_b x q = true := by
  rw [gb_zero]
  constructor
  · intro h z
    exact h q (gb_and_t.mpr ⟨z, (gb_bit_t hq).mpr rfl⟩)
  · intro h i z
    have t := gb_and_t.mp z
    rw [(gb_bit_t hq).mp t.2] at t
    exact h t.1
theorem gb_cu : ∀ q, q < 64 → ((nI q).toInt64.toUInt64 &&& Int64.toUInt64 63).toNat = q := by decide +kernel
theorem gb_test (x : Int64) {q : Nat} (hq : q < 64) : (((x.toUInt64 >>> ((nI q).toInt64.toUInt64 &&& Int64.toUInt64 63)).toInt64) &&& 1) = 1 ↔ gb_b x q = true := by
  have hs := gb_cu q hq
  generalize ((nI q).toInt64.toUInt64 &&& Int64.toUInt64 63) = s at hs
  have e : (x.toUInt64 >>> s).toInt64.toBitVec = x.toBitVec >>> q := by
    apply BitVec.eq_of_toNat_eq
    show (x.toUInt64 >>> s).toNat = _
    rw [UInt64.toNat_shiftRight, hs, Nat.mod_eq_of_lt hq, BitVec.toNat_ushiftRight]
    rfl
  rw [← Int64.toBitVec_inj, Int64.toBitVec_and, e]
  show x.toBitVec >>> q &&& 1#64 = 1#64 ↔ x.toBitVec.getLsbD q = true
  constructor
  · intro h
    have t := congrArg (fun x => x.getLsbD 0) h
    simpa using t
  · intro h
    apply BitVec.eq_of_getLsbD_eq
    intro i hi
    cases i with
    | zero => simp [h]
    | succ i => simp
/-- how many of the first n bits are set -/
def gb_pc (x : Int64) : Nat → Nat
  | 0 => 0
  | n + 1 => gb_pc x n + (if gb_b x n = true then 1 else 0)
theorem gb_pc_s (x : Int64) (n : Nat) : gb_pc x (n + 1) = gb_pc x n + (if gb_b x n = true then 1 else 0) := rfl
def gb_sz (x : Int64) : Nat := gb_pc x 49
theorem gb_pc_le (x : Int64) (n : Nat) : gb_pc x n ≤ n := by
  induction n with
  | zero => exact Nat.le_refl 0
  | succ n ih =>
    rw [gb_pc_s]
    split <;> omega
theorem gb_sz_le (x : Int64) : gb_sz x ≤ 49 := gb_pc_le x 49
theorem gb_pc_two {x y : Int64} (n : Nat) (h : ∀ i, i < n → ¬ (gb_b x i = true ∧ gb_b y i = true)) : gb_pc x n + gb_pc y n ≤ n := by
  induction n with
  | zero => exact Nat.le_refl 0
  | succ n ih =>
    have t := ih (fun i hi => h i (by omega))
    have g := h n (by omega)
    rw [gb_pc_s, gb_pc_s]
    by_cases a : gb_b x n = true
    · by_cases b : gb_b y n = true
      · exact absurd ⟨a, b⟩ g
      · rw [if_pos a, if_neg b]; omega
    · by_cases b : gb_b y n = true
      · rw [if_neg a, if_pos b]; omega
      · rw [if_neg a, if_neg b]; omega
theorem gb_pc_add {x y z : Int64} (n : Nat) (h : ∀ i, i < n → gb_b z i = true → gb_b x i = true ∨ gb_b y i = true) : gb_pc z n ≤ gb_pc x n + gb_pc y n := by
  induction n with
  | zero => exact Nat.le_refl 0
  | succ n ih =>
    have t := ih (fun i hi => h i (by omega))
    have g := h n (by omega)
    rw [gb_pc_s, gb_pc_s, gb_pc_s]
    by_cases c : gb_b z n = true
    · rcases g c with a | a
      · rw [if_pos c, if_pos a]; split <;> omega
      · rw [if_pos c, if_pos a]; split <;> omega
    · rw [if_neg c]; omega
theorem gb_pc_part {x y z : Int64} (n : Nat) (h1 : ∀ i, i < n → gb_b y i = true → gb_b x i = true) (h2 : ∀ i, i < n → gb_b z i = true → gb_b x i = true) (h3 : ∀ i, i < n → ¬ (gb_b y i = true ∧ gb_b z i = true)) : gb_pc y n + gb_pc z n ≤ gb_pc x n := by
  induction n with
  | zero => exact Nat.le_refl 0
  | succ n ih =>
    have t := ih (fun i hi => h1 i (by omega)) (fun i hi => h2 i (by omega)) (fun i hi => h3 i (by omega))
    have g1 := h1 n (by omega)
    have g2 := h2 n (by omega)
    have g3 := h3 n (by omega)
    rw [gb_pc_s, gb_pc_s, gb_pc_s]
    by_cases a : gb_b y n = true
    · by_cases b : gb_b z n = true
      · exact absurd ⟨a, b⟩ g3
      · rw [if_pos a, if_neg b, if_pos (g1 a)]; omega
    · by_cases b : gb_b z n = true
      · rw [if_neg a, if_pos b, if_pos (g2 b)]; omega
      · rw [if_neg a, if_neg b]; omega
theorem gb_pc_none {x : Int64} (n : Nat) (h : ∀ i, i < n → ¬ gb_b x i = true) : gb_pc x n = 0 := by
  induction n with
  | zero => rfl
  | succ n ih => rw [gb_pc_s, ih (fun i hi => h i (by omega)), if_neg (h n (by omega))]
theorem gb_pc_bit {q : Nat} (hq : q < 64) (n : Nat) : gb_pc (gb_bit q) n ≤ 1 := by
  induction n with
  | zero => exact Nat.zero_le 1
  | succ n ih =>
    rw [gb_pc_s]
    by_cases a : gb_b (gb_bit q) n = true
    · have e := (gb_bit_t hq).mp a
      rw [gb_pc_none n (fun i hi z => absurd ((gb_bit_t hq).mp z) (by omega)), if_pos a]
      omega
    · rw [if_neg a]; omega
theorem gb_pc_pos {x : Int64} {i : Nat} (n : Nat) (hi : i < n) (h : gb_b x i = true) : 1 ≤ gb_pc x n := by
  induction n with
  | zero => exact absurd hi (by omega)
  | succ n ih =>
    rw [gb_pc_s]
    by_cases e : i = n
    · rw [← e, if_pos h]; omega
    · have t := ih (by omega)
      omega
end
section
/-! the board as functions of numbers: neighbours, growth, the captured, the answer of a trial -/
def gb_al : Int64 := 562949953421311
def gb_nf : Int64 := 558517276622718
def gb_nl : Int64 := 279258638311359
theorem gb_al_t : ∀ i, i < 64 → gb_b gb_al i = true → i < 49 := by decide +kernel
def gb_ar (s : Int64) : Int64 := ((((s.toUInt64 >>> ((7 : Int32).toInt64.toUInt64 &&& Int64.toUInt64 63)).toInt64 ||| (s <<< ((7 : Int32).toInt64 &&& 63))) ||| ((s &&& gb_nf).toUInt64 >>> ((1 : Int32).toInt64.toUInt64 &&& Int64.toUInt64 63)).toInt64) ||| ((s &&& gb_nl) <<< ((1 : Int32).toInt64 &&& 63))) &&& gb_al
theorem gb_ar_al {s : Int64} {i : Nat} (h : gb_b (gb_ar s) i = true) : gb_b gb_al i = true := by
  unfold gb_ar at h
  exact (gb_and_t.mp h).2
/-- k rounds of growth within v -/
def gb_gr (v : Int64) : Nat → Int64 → Int64
  | 0 => fun x => x
  | k + 1 => fun x => if (x ||| (gb_ar x &&& v)) = x then (x ||| (gb_ar x &&& v)) else gb_gr v k (x ||| (gb_ar x &&& v))
theorem gb_gr_s (v : Int64) (k : Nat) (x : Int64) : gb_gr v (k + 1) x = if (x ||| (gb_ar x &&& v)) = x then (x ||| (gb_ar x &&& v)) else gb_gr v k (x ||| (gb_ar x &&& v)) := rfl
def gb_grown (s v : Int64) : Int64 := gb_gr v 50 (s &&& v)
theorem gb_gr_in {v : Int64} {i : Nat} : ∀ (k : Nat) (x : Int64), (gb_b x i = true → gb_b v i = true) → gb_b (gb_gr v k x) i = true → gb_b v i = true := by
  intro k
  induction k with
  | zero => exact fun x hx h => hx h
  | succ k ih =>
    intro x hx h
    have hs : gb_b (x ||| (gb_ar x &&& v)) i = true → gb_b v i = true := by
      intro z
      rcases gb_or_t.mp z with z | z
      · exact hx z
      · exact (gb_and_t.mp z).2
    rw [gb_gr_s] at h
    by_cases e : (x ||| (gb_ar x &&& v)) = x
    · rw [if_pos e] at h
      exact hs h
    · rw [if_neg e] at h
      exact ih _ hs h
theorem gb_grown_in {s v : Int64} {i : Nat} (h : gb_b (gb_grown s v) i = true) : gb_b v i = true := gb_gr_in 50 (s &&& v) (fun z => (gb_and_t.mp z).2) h
def gb_dead (s o : Int64) : Int64 := s &&& (gb_grown (s &&& gb_ar o) s ^^^ (-1))
def gb_st (b w : Int64) (p : Nat) : Int64 := if p = 0 then b else w
def gb_mn (b w : Int64) (p q : Nat) : Int64 := gb_st b w p ||| gb_bit q
def gb_op (b w : Int64) (p q : Nat) : Int64 := gb_al &&& ((gb_mn b w p q ||| gb_st b w (1 - p)) ^^^ (-1))
def gb_ct (b w : Int64) (p q : Nat) : Int64 := gb_dead (gb_st b w (1 - p)) (gb_op b w p q)
def gb_t2 (b w : Int64) (p q : Nat) : Int64 := gb_st b w (1 - p) &&& (gb_ct b w p q ^^^ (-1))
def gb_gp (b w : Int64) (p q : Nat) : Int64 := gb_grown (gb_bit q) (gb_mn b w p q)
def gb_fr (b w : Int64) (p q : Nat) : Int64 := gb_ar (gb_gp b w p q) &&& (gb_op b w p q ||| gb_ct b w p q)
/-- the board after the move -/
def gb_tB (b w : Int64) (p q : Nat) : Int64 := gb_st (gb_mn b w p q) (gb_t2 b w p q) p
def gb_tW (b w : Int64) (p q : Nat) : Int64 := gb_st (gb_t2 b w p q) (gb_mn b w p q) p
/-- the answer of a trial; k moves done, the board before the last of them b1, w1 -/
def gb_ans (b w : Int64) (k : Nat) (b1 w1 : Int64) (p q : Nat) : Int32 :=
  if ((b ||| w) &&& gb_bit q) = 0 then (if gb_fr b w p q = 0 then -5 else if 0 < k ∧ gb_tB b w p q = b1 ∧ gb_tW b w p q = w1 then -6 else nI (gb_sz (gb_ct b w p q))) else -2
theorem gb_ans_k (b w : Int64) (k : Nat) (b1 w1 b2 w2 : Int64) (p q : Nat) (h : 0 < k → b1 = b2 ∧ w1 = w2) : gb_ans b w k b1 w1 p q = gb_ans b w k b2 w2 p q := by
  rcases Nat.eq_zero_or_pos k with z | z
  · unfold gb_ans
    rw [if_neg (show ¬ (0 < k ∧ gb_tB b w p q = b1 ∧ gb_tW b w p q = w1) from fun t => absurd t.1 (by omega)), if_neg (show ¬ (0 < k ∧ gb_tB b w p q = b2 ∧ gb_tW b w p q = w2) from fun t => absurd t.1 (by omega))]
  · rw [(h z).1, (h z).2]
theorem gb_neg2 : ¬ (0 : Int32) ≤ -2 := by decide
theorem gb_neg5 : ¬ (0 : Int32) ≤ -5 := by decide
theorem gb_neg6 : ¬ (0 : Int32) ≤ -6 := by decide
theorem gb_ans_c (b w : Int64) (k : Nat) (b1 w1 : Int64) (p q : Nat) :
    gb_ans b w k b1 w1 p q = -2 ∨ gb_ans b w k b1 w1 p q = -5 ∨ gb_ans b w k b1 w1 p q = -6 ∨ (gb_ans b w k b1 w1 p q = nI (gb_sz (gb_ct b w p q)) ∧ ((b ||| w) &&& gb_bit q) = 0 ∧ ¬ gb_fr b w p q = 0) := by
  unfold gb_ans
  by_cases h1 : ((b ||| w) &&& gb_bit q) = 0
  · rw [if_pos h1]
    by_cases h2 : gb_fr b w p q = 0
    · rw [if_pos h2]
      exact Or.inr (Or.inl rfl)
    · rw [if_neg h2]
      by_cases h3 : 0 < k ∧ gb_tB b w p q = b1 ∧ gb_tW b w p q = w1
      · rw [if_pos h3]
        exact Or.inr (Or.inr (Or.inl rfl))
      · rw [if_neg h3]
        exact Or.inr (Or.inr (Or.inr ⟨rfl, h1, h2⟩))
  · rw [if_neg h1]
    exact Or.inl rfl
theorem gb_nI_ne {m : Nat} (hm : m ≤ 49) {x : Int32} (hx : x < 0) : ¬ nI m = x := by
  intro z
  rw [← z] at hx
  exact nI_pos (by omega) hx
theorem gb_ans_n1 (b w : Int64) (k : Nat) (b1 w1 : Int64) (p q : Nat) : ¬ gb_ans b w k b1 w1 p q = -1 := by
  rcases gb_ans_c b w k b1 w1 p q with e | e | e | ⟨e, _⟩
  · rw [e]; decide
  · rw [e]; decide
  · rw [e]; decide
  · rw [e]; exact gb_nI_ne (gb_sz_le _) (by decide)
theorem gb_ans_n3 (b w : Int64) (k : Nat) (b1 w1 : Int64) (p q : Nat) : ¬ gb_ans b w k b1 w1 p q = -3 := by
  rcases gb_ans_c b w k b1 w1 p q with e | e | e | ⟨e, _⟩
  · rw [e]; decide
  · rw [e]; decide
  · rw [e]; decide
  · rw [e]; exact gb_nI_ne (gb_sz_le _) (by decide)
theorem gb_ans_p {b w : Int64} {k : Nat} {b1 w1 : Int64} {p q : Nat} (h : ¬ gb_ans b w k b1 w1 p q < 0) : gb_ans b w k b1 w1 p q = nI (gb_sz (gb_ct b w p q)) ∧ ((b ||| w) &&& gb_bit q) = 0 ∧ ¬ gb_fr b w p q = 0 := by
  rcases gb_ans_c b w k b1 w1 p q with e | e | e | e
  · rw [e] at h; exact absurd (by decide) h
  · rw [e] at h; exact absurd (by decide) h
  · rw [e] at h; exact absurd (by decide) h
  · exact e
/-! the laws of a board: no point of both; a move keeps that, and stones and captures together -/
def gb_dj (b w : Int64) : Prop := ∀ i, ¬ (gb_b b i = true ∧ gb_b w i = true)
theorem gb_dj_s {b w : Int64} (h : gb_dj b w) : gb_dj w b := fun i z => h i ⟨z.2, z.1⟩
theorem gb_dj_st {b w : Int64} {p : Nat} (hp : p < 2) (h : gb_dj b w) : gb_dj (gb_st b w p) (gb_st b w (1 - p)) := by
  unfold gb_st
  by_cases e : p = 0
  · rw [if_pos e, if_neg (by omega)]; exact h
  · rw [if_neg e, if_pos (by omega)]; exact gb_dj_s h
theorem gb_free {b w : Int64} {q : Nat} (hq : q < 64) (h : ((b ||| w) &&& gb_bit q) = 0) : ¬ gb_b b q = true ∧ ¬ gb_b w q = true := by
  have t := (gb_hit hq).mp h
  exact ⟨fun z => t (gb_or_t.mpr (Or.inl z)), fun z => t (gb_or_t.mpr (Or.inr z))⟩
theorem gb_free_st {b w : Int64} {p q : Nat} (hq : q < 64) (h : ((b ||| w) &&& gb_bit q) = 0) : ¬ gb_b (gb_st b w p) q = true := by
  have t := gb_free hq h
  unfold gb_st
  by_cases e : p = 0
  · rw [if_pos e]; exact t.1
  · rw [if_neg e]; exact t.2
theorem gb_t2_in {b w : Int64} {p q i : Nat} (h : gb_b (gb_t2 b w p q) i = true) : gb_b (gb_st b w (1 - p)) i = true := by
  unfold gb_t2 at h
  exact (gb_and_t.mp h).1
theorem gb_ct_in {b w : Int64} {p q i : Nat} (h : gb_b (gb_ct b w p q) i = true) : gb_b (gb_st b w (1 - p)) i = true := by
  unfold gb_ct gb_dead at h
  exact (gb_and_t.mp h).1
theorem gb_mn_dj {b w : Int64} {p q : Nat} (hp : p < 2) (hq : q < 64) (hd : gb_dj b w) (h : ((b ||| w) &&& gb_bit q) = 0) : gb_dj (gb_mn b w p q) (gb_st b w (1 - p)) := by
  intro i ⟨z1, z2⟩
  unfold gb_mn at z1
  rcases gb_or_t.mp z1 with z | z
  · exact gb_dj_st hp hd i ⟨z, z2⟩
  · rw [(gb_bit_t hq).mp z] at z2
    exact gb_free_st hq h z2
theorem gb_mt_dj {b w : Int64} {p q : Nat} (hp : p < 2) (hq : q < 64) (hd : gb_dj b w) (h : ((b ||| w) &&& gb_bit q) = 0) : gb_dj (gb_mn b w p q) (gb_t2 b w p q) := fun i z => gb_mn_dj hp hq hd h i ⟨z.1, gb_t2_in z.2⟩
theorem gb_move_dj {b w : Int64} {p q : Nat} (hp : p < 2) (hq : q < 64) (hd : gb_dj b w) (h : ((b ||| w) &&& gb_bit q) = 0) : gb_dj (gb_tB b w p q) (gb_tW b w p q) := by
  unfold gb_tB gb_tW gb_st
  by_cases e : p = 0
  · rw [if_pos e, if_pos e]; exact gb_mt_dj hp hq hd h
  · rw [if_neg e, if_neg e]; exact gb_dj_s (gb_mt_dj hp hq hd h)
theorem gb_st_sum (f : Int64 → Nat) (b w : Int64) (p : Nat) : f (gb_st b w p) + f (gb_st w b p) = f b + f w := by
  unfold gb_st
  by_cases e : p = 0
  · rw [if_pos e, if_pos e]
  · rw [if_neg e, if_neg e]; omega
theorem gb_st_sum1 (f : Int64 → Nat) (b w : Int64) {p : Nat} (hp : p < 2) : f (gb_st b w p) + f (gb_st b w (1 - p)) = f b + f w := by
  unfold gb_st
  by_cases e : p = 0
  · rw [if_pos e, if_neg (by omega)]
  · rw [if_neg e, if_pos (by omega)]; omega
/-- stones and the captured of a move: at most one more than the stones before it -/
theorem gb_move_sz {b w : Int64} {p q : Nat} (hp : p < 2) (hq : q < 64) : gb_sz (gb_tB b w p q) + gb_sz (gb_tW b w p q) + gb_sz (gb_ct b w p q) ≤ gb_sz b + gb_sz w + 1 := by
  have e1 : gb_sz (gb_tB b w p q) + gb_sz (gb_tW b w p q) = gb_sz (gb_mn b w p q) + gb_sz (gb_t2 b w p q) := gb_st_sum gb_sz _ _ p
  have e2 := gb_st_sum1 gb_sz b w hp
  have e3 : gb_sz (gb_mn b w p q) ≤ gb_sz (gb_st b w p) + gb_sz (gb_bit q) := gb_pc_add 49 (fun i _ z => gb_or_t.mp z)
  have e4 : gb_sz (gb_bit q) ≤ 1 := gb_pc_bit hq 49
  have e5 : gb_sz (gb_t2 b w p q) + gb_sz (gb_ct b w p q) ≤ gb_sz (gb_st b w (1 - p)) := by
    refine gb_pc_part 49 (fun i _ z => gb_t2_in z) (fun i _ z => gb_ct_in z) (fun i hi z => ?_)
    have t := z.1
    unfold gb_t2 at t
    exact (gb_not_t (by omega)).mp (gb_and_t.mp t).2 z.2
  omega
/-- the stone stands where it was put -/
def gb_at (b w : Int64) (q : Nat) : Int32 := if gb_b b q = true then 0 else if gb_b w q = true then 1 else 2
theorem gb_mn_q (b w : Int64) (p : Nat) {q : Nat} (hq : q < 64) : gb_b (gb_mn b w p q) q = true := gb_or_t.mpr (Or.inr ((gb_bit_t hq).mpr rfl))
theorem gb_move_at {b w : Int64} {p q : Nat} (hp : p < 2) (hq : q < 64) (h : ((b ||| w) &&& gb_bit q) = 0) : gb_at (gb_tB b w p q) (gb_tW b w p q) q = nI p := by
  have t : ¬ gb_b (gb_t2 b w p q) q = true := fun z => gb_free_st hq h (gb_t2_in z)
  unfold gb_at gb_tB gb_tW gb_st
  by_cases e : p = 0
  · rw [if_pos e, if_pos (gb_mn_q b w p hq), e]; rfl
  · rw [if_neg e, if_neg e, if_neg t, if_pos (gb_mn_q b w p hq), show p = 1 by omega]; rfl
def gb_ga (b w : Int64) (q : Nat) : Int64 := if (b &&& gb_bit q) = 0 then gb_grown (gb_bit q) w else gb_grown (gb_bit q) b
def gb_em (b w : Int64) : Int64 := gb_al &&& ((b ||| w) ^^^ (-1))
def gb_lib (b w : Int64) (q : Nat) : Int64 := gb_ar (gb_ga b w q) &&& gb_em b w
theorem gb_move_ga {b w : Int64} {p q : Nat} (hq : q < 64) (h : ((b ||| w) &&& gb_bit q) = 0) : gb_ga (gb_tB b w p q) (gb_tW b w p q) q = gb_gp b w p q := by
  have t : ¬ gb_b (gb_t2 b w p q) q = true := fun z => gb_free_st hq h (gb_t2_in z)
  unfold gb_ga gb_tB gb_tW gb_st gb_gp
  by_cases e : p = 0
  · rw [if_pos e, if_pos e, if_neg (fun z => (gb_hit hq).mp z (gb_mn_q b w p hq))]
  · rw [if_neg e, if_neg e, if_pos ((gb_hit hq).mpr t)]
/-- a move that is no suicide leaves a liberty -/
theorem gb_move_lib {b w : Int64} {p q : Nat} (hp : p < 2) (hq : q < 64) (hd : gb_dj b w) (h : ((b ||| w) &&& gb_bit q) = 0) (hf : ¬ gb_fr b w p q = 0) : 1 ≤ gb_sz (gb_lib (gb_tB b w p q) (gb_tW b w p q) q) := by
  obtain ⟨i, hi⟩ := gb_nz hf
  have h64 := gb_lt hi
  unfold gb_fr at hi
  have hi' := gb_and_t.mp hi
  have ha := gb_ar_al hi'.1
  refine gb_pc_pos 49 (gb_al_t i h64 ha) ?_
  unfold gb_lib
  rw [gb_move_ga hq h]
  refine gb_and_t.mpr ⟨hi'.1, gb_and_t.mpr ⟨ha, (gb_not_t h64).mpr (fun z => ?_)⟩⟩
  have k : gb_b (gb_mn b w p q) i = true ∨ gb_b (gb_t2 b w p q) i = true := by
    unfold gb_tB gb_tW gb_st at z
    by_cases e : p = 0
    · rw [if_pos e, if_pos e] at z
      exact gb_or_t.mp z
    · rw [if_neg e, if_neg e] at z
      exact (gb_or_t.mp z).symm
  rcases gb_or_t.mp hi'.2 with o | o
  · unfold gb_op at o
    have o2 := (gb_not_t h64).mp (gb_and_t.mp o).2
    rcases k with k | k
    · exact o2 (gb_or_t.mpr (Or.inl k))
    · exact o2 (gb_or_t.mpr (Or.inr (gb_t2_in k)))
  · rcases k with k | k
    · exact gb_mn_dj hp hq hd h i ⟨k, gb_ct_in o⟩
    · unfold gb_t2 at k
      exact (gb_not_t h64).mp (gb_and_t.mp k).2 o
/-- the score: the two sides' points are apart -/
def gb_nr (m o : Int64) : Int64 := gb_grown (gb_ar m &&& o) o
def gb_sc (m t o : Int64) : Int64 := m ||| (gb_nr m o &&& (gb_nr t o ^^^ (-1)))
theorem gb_score {b w : Int64} (hd : gb_dj b w) : gb_sz (gb_sc b w (gb_em b w)) + gb_sz (gb_sc w b (gb_em b w)) ≤ 49 := by
  refine gb_pc_two 49 (fun i hi z => ?_)
  have h64 : i < 64 := by omega
  have em : ∀ m, gb_b (gb_nr m (gb_em b w)) i = true → ¬ gb_b b i = true ∧ ¬ gb_b w i = true := by
    intro m h
    have t := gb_grown_in h
    unfold gb_em at t
    have t2 := (gb_not_t h64).mp (gb_and_t.mp t).2
    exact ⟨fun q => t2 (gb_or_t.mpr (Or.inl q)), fun q => t2 (gb_or_t.mpr (Or.inr q))⟩
  have z1 := z.1
  have z2 := z.2
  unfold gb_sc at z1 z2
  rcases gb_or_t.mp z1 with a | a
  · rcases gb_or_t.mp z2 with c | c
    · exact hd i ⟨a, c⟩
    · exact (em _ (gb_and_t.mp c).1).1 a
  · rcases gb_or_t.mp z2 with c | c
    · exact (em _ (gb_and_t.mp a).1).2 c
    · exact (gb_not_t h64).mp (gb_and_t.mp a).2 (gb_and_t.mp c).1
end
section
/-! the walks: each method once -/
section
variable {b w tb tw : Int64} {c x y : Int32} {a1 a2 : Nat → Int64} {a3 : Nat → Int32}
theorem gw_badPlayer {post : Int32 → Prop} {p : Nat} (hp : p < 2) (h : post 0) : wpX_badPlayer post (gb_al, gb_nf, gb_nl, b, w, c, x, y, tb, tw, a1, a2, a3) (nI p) :=
  br_f (nI_pos (by omega)) (br_t (nI_le (b := 1) (by omega) (by decide)) h)
theorem gw_badPoint {post : Int32 → Prop} {q : Nat} (hq : q < 49) (h : post 0) : wpX_badPoint post (gb_al, gb_nf, gb_nl, b, w, c, x, y, tb, tw, a1, a2, a3) (nI q) :=
  br_f (nI_pos (by omega)) (br_t (nI_lt (b := 49) hq (by decide)) h)
theorem gw_stones {post : Int64 → Prop} {p : Nat} (hp : p < 2) (h : post (gb_st b w p)) : wpX_stones post (gb_al, gb_nf, gb_nl, b, w, c, x, y, tb, tw, a1, a2, a3) (nI p) := by
  unfold gb_st at h
  exact pk_eq p 0 (fun z => by rw [if_pos z] at h; exact h) (fun z => by rw [if_neg z] at h; exact h)
theorem gw_stones1 {post : Int64 → Prop} {p : Nat} (hp : p < 2) (h : post (gb_st b w (1 - p))) : wpX_stones post (gb_al, gb_nf, gb_nl, b, w, c, x, y, tb, tw, a1, a2, a3) (1 - nI p) := by
  have e : (1 : Int32) - nI p = nI (1 - p) := pk_sub (a := 1) (by omega)
  rw [e]
  exact gw_stones (by omega) h
theorem gw_empty {post : Int64 → Prop} (h : post (gb_em b w)) : wpX_empty post (gb_al, gb_nf, gb_nl, b, w, c, x, y, tb, tw, a1, a2, a3) := h
theorem gw_around {post : Int64 → Prop} {s : Int64} (h : post (gb_ar s)) : wpX_around post (gb_al, gb_nf, gb_nl, b, w, c, x, y, tb, tw, a1, a2, a3) s := by
  unfold wpX_around
  dsimp only
  intro _ e1 _ e2 _ e3 _ e4
  subst e1 e2 e3 e4
  exact h
theorem gw_gr {post : Int64 → Prop} {v : Int64} : ∀ (k r : Nat) (s : Int64), r + k = 50 → post (gb_gr v k s) → wX_grown_11 post v gb_al gb_nf gb_nl b w c x y tb tw a1 a2 a3 (k + 2) s 1 (nI r) := by
  intro k
  induction k with
  | zero => exact fun r s e h => pk_le 50 r (fun _ => h) (fun z => absurd z (by omega))
  | succ k ih =>
    intro r s e h
    refine pk_le 50 r (fun z => absurd z (by omega)) (fun _ => br_f (by decide) (gw_around (nm_e ?_)))
    rw [gb_gr_s] at h
    by_cases g : (s ||| (gb_ar s &&& v)) = s
    · rw [if_pos g] at h
      exact br_t g (nm_r (nI_1 r) (pk_le 50 (r + 1) (fun _ => h) (fun _ => br_t rfl h)))
    · rw [if_neg g] at h
      exact br_f g (nm_r (nI_1 r) (ih (r + 1) _ (by omega) h))
theorem gw_grown {post : Int64 → Prop} {s v : Int64} (h : post (gb_grown s v)) : wpX_grown post (gb_al, gb_nf, gb_nl, b, w, c, x, y, tb, tw, a1, a2, a3) s v :=
  nm_e ⟨52, gw_gr 50 0 (s &&& v) rfl h⟩
theorem gw_sizeOf {post : Int32 → Prop} {s : Int64} (h : post (nI (gb_sz s))) : wpX_sizeOf post (gb_al, gb_nf, gb_nl, b, w, c, x, y, tb, tw, a1, a2, a3) s := by
  refine pk_loop (σ := Unit) (fun n i _ => wX_sizeOf_5 post s gb_al gb_nf gb_nl b w c x y tb tw a1 a2 a3 n (nI (gb_pc s i)) (nI i)) (fun _ _ => True) 49 0 () (by omega) trivial ?_ ?_
  · exact fun n _ _ => pk_le 49 49 (fun _ => h) (fun z => absurd z (by omega))
  · intro n i _ hi _ hw
    have t : wX_sizeOf_5 post s gb_al gb_nf gb_nl b w c x y tb tw a1 a2 a3 n (nI (gb_pc s (i + 1))) (nI (i + 1)) := hw () trivial
    rw [gb_pc_s] at t
    refine pk_le 49 i (fun z => absurd z (by omega)) (fun _ => ek_if (gb_test s (by omega)) (fun g => ?_) (fun g => ?_))
    · rw [if_pos g] at t
      exact nm_r (nI_1 _) (nm_r (nI_1 i) t)
    · rw [if_neg g] at t
      exact nm_r (nI_1 i) t
theorem gw_dead {post : Int64 → Prop} {s o : Int64} (h : post (gb_dead s o)) : wpX_dead post (gb_al, gb_nf, gb_nl, b, w, c, x, y, tb, tw, a1, a2, a3) s o := by
  unfold wpX_dead
  dsimp only
  exact gw_around (nm_e (gw_grown h))
theorem gw_stE {post : Int64 → Prop} {v : Int32} (e : v = 0) (h : post b) : wpX_stones post (gb_al, gb_nf, gb_nl, b, w, c, x, y, tb, tw, a1, a2, a3) v := br_t e h
theorem gw_stN {post : Int64 → Prop} {v : Int32} (e : ¬ v = 0) (h : post w) : wpX_stones post (gb_al, gb_nf, gb_nl, b, w, c, x, y, tb, tw, a1, a2, a3) v := br_f e h
theorem gw_score0 {post : Int32 → Prop} (h : post (nI (gb_sz (gb_sc b w (gb_em b w))))) : wpX_score post (gb_al, gb_nf, gb_nl, b, w, c, x, y, tb, tw, a1, a2, a3) 0 := by
  unfold wpX_score
  dsimp only
  unfold gb_sc gb_nr at h
  refine gw_badPlayer (p := 0) (by decide) (br_t rfl ?_)
  refine gw_stE rfl ?_
  refine gw_stN (by decide) ?_
  refine gw_empty ?_
  refine gw_around (nm_e ?_)
  refine gw_around (nm_e ?_)
  refine gw_grown ?_
  refine gw_grown ?_
  exact gw_sizeOf h
theorem gw_score1 {post : Int32 → Prop} (h : post (nI (gb_sz (gb_sc w b (gb_em b w))))) : wpX_score post (gb_al, gb_nf, gb_nl, b, w, c, x, y, tb, tw, a1, a2, a3) 1 := by
  unfold wpX_score
  dsimp only
  unfold gb_sc gb_nr at h
  refine gw_badPlayer (p := 1) (by decide) (br_t rfl ?_)
  refine gw_stN (by decide) ?_
  refine gw_stE (by decide) ?_
  refine gw_empty ?_
  refine gw_around (nm_e ?_)
  refine gw_around (nm_e ?_)
  refine gw_grown ?_
  refine gw_grown ?_
  exact gw_sizeOf h
theorem gw_at {post : Int32 → Prop} {q : Nat} (hq : q < 49) (h : post (gb_at b w q)) : wpX_at post (gb_al, gb_nf, gb_nl, b, w, c, x, y, tb, tw, a1, a2, a3) (nI q) := by
  unfold gb_at at h
  unfold wpX_at
  dsimp only
  refine gw_badPoint hq (br_t rfl (ek_if (gb_test b (q := q) (by omega)) (fun g => ?_) (fun g => ek_if (gb_test w (q := q) (by omega)) (fun g2 => ?_) (fun g2 => ?_))))
  · rw [if_pos g] at h; exact h
  · rw [if_neg g, if_pos g2] at h; exact h
  · rw [if_neg g, if_neg g2] at h; exact h
theorem gw_captured0 {post : Int32 → Prop} (h : post x) : wpX_captured post (gb_al, gb_nf, gb_nl, b, w, c, x, y, tb, tw, a1, a2, a3) 0 := by
  unfold wpX_captured
  dsimp only
  exact gw_badPlayer (p := 0) (by decide) (br_t rfl (br_t rfl h))
theorem gw_captured1 {post : Int32 → Prop} (h : post y) : wpX_captured post (gb_al, gb_nf, gb_nl, b, w, c, x, y, tb, tw, a1, a2, a3) 1 := by
  unfold wpX_captured
  dsimp only
  exact gw_badPlayer (p := 1) (by decide) (br_t rfl (br_f (by decide) h))
theorem gw_groupAt {post : Int64 → Prop} {q : Nat} (h : post (gb_ga b w q)) : wpX_groupAt post (gb_al, gb_nf, gb_nl, b, w, c, x, y, tb, tw, a1, a2, a3) (nI q) := by
  unfold gb_ga at h
  refine nm_r (e' := gb_bit q) rfl (br_c (fun g => ?_) (fun g => ?_))
  · exact gw_grown (by rw [if_pos g] at h; exact h)
  · exact gw_grown (by rw [if_neg g] at h; exact h)
theorem gw_liberties {post : Int32 → Prop} {p q : Nat} (hp : p < 2) (hq : q < 49) (hat : gb_at b w q = nI p) (h : post (nI (gb_sz (gb_lib b w q)))) : wpX_liberties post (gb_al, gb_nf, gb_nl, b, w, c, x, y, tb, tw, a1, a2, a3) (nI q) := by
  unfold wpX_liberties
  dsimp only
  refine gw_at hq ?_
  rw [hat]
  refine br_f ?_ (br_f ?_ (gw_groupAt (gw_empty (gw_around (nm_e (gw_sizeOf h))))))
  · exact gb_nI_ne (by omega) (by decide)
  · exact fun z => absurd ((nI_eq (a := p) (b := 2) (by omega) (by decide)).mp z) (by omega)
end
section
variable {b w tb tw : Int64} {k : Nat} {x y : Int32} {a1 a2 : Nat → Int64} {a3 : Nat → Int32}
theorem gw_156 {post : Int32 → St1 → Prop} {ct z : Int64} (hk : k ≤ 40) (h : post (if 0 < k ∧ tb = a1 (k - 1) ∧ z = a2 (k - 1) then -6 else nI (gb_sz ct)) (gb_al, gb_nf, gb_nl, b, w, nI k, x, y, tb, z, a1, a2, a3)) : wX_attempt_156 post ct z gb_al gb_nf gb_nl b w (nI k) x y tb tw a1 a2 a3 := by
  unfold wX_attempt_156
  refine pk_le k 0 (fun g => ?_) (fun g => ?_)
  · rw [if_neg (fun t => absurd t.1 (by omega))] at h
    exact gw_sizeOf (post := fun r => post r _) h
  · have e : nI k - 1 = nI (k - 1) := pk_sub (b := 1) (by omega)
    rw [e, nI_clamp (by omega)]
    refine ⟨vp_in_nI (by omega) (by decide), br_c (fun g1 => ⟨vp_in_nI (by omega) (by decide), br_c (fun g2 => ?_) (fun g2 => ?_)⟩) (fun g1 => ?_)⟩
    · rw [if_pos ⟨g, g1, g2⟩] at h
      exact h
    · rw [if_neg (fun t => g2 t.2.2)] at h
      exact gw_sizeOf (post := fun r => post r _) h
    · rw [if_neg (fun t => g1 t.2.1)] at h
      exact gw_sizeOf (post := fun r => post r _) h
theorem gw_attempt {post : Int32 → St1 → Prop} {p q : Nat} (hk : k ≤ 40) (hp : p < 2) (hq : q < 49)
    (h : ∀ tb' tw', (¬ gb_ans b w k (a1 (k - 1)) (a2 (k - 1)) p q < 0 → tb' = gb_tB b w p q ∧ tw' = gb_tW b w p q) → post (gb_ans b w k (a1 (k - 1)) (a2 (k - 1)) p q) (gb_al, gb_nf, gb_nl, b, w, nI k, x, y, tb', tw', a1, a2, a3)) :
    wpX_attempt post (gb_al, gb_nf, gb_nl, b, w, nI k, x, y, tb, tw, a1, a2, a3) (nI p) (nI q) := by
  have e : gb_ans b w k (a1 (k - 1)) (a2 (k - 1)) p q = gb_ans b w k (a1 (k - 1)) (a2 (k - 1)) p q := rfl
  conv at e => rhs; unfold gb_ans
  unfold wpX_attempt
  dsimp only
  refine gw_badPlayer hp (br_t rfl (gw_badPoint hq (br_t rfl (nm_r (e' := gb_bit q) rfl (br_c (fun g1 => ?_) (fun g1 => ?_))))))
  · rw [if_pos (show ((b ||| w) &&& gb_bit q) = 0 from g1)] at e
    refine gw_stones hp (nm_e (gw_stones1 hp (nm_e (gw_dead (nm_e (nm_e (gw_grown (gw_around (br_c (fun g2 => ?_) (fun g2 => ?_))))))))))
    · rw [if_pos (show gb_fr b w p q = 0 from g2)] at e
      have t := h tb tw
      rw [e] at t
      exact t (fun z => absurd (by decide) z)
    · rw [if_neg (show ¬ gb_fr b w p q = 0 from g2)] at e
      have t := h (gb_tB b w p q) (gb_tW b w p q) (fun _ => ⟨rfl, rfl⟩)
      rw [e] at t
      clear e
      unfold gb_tB gb_tW gb_st at t
      refine pk_eq p 0 (fun z => ?_) (fun z => ?_)
      · refine br_t (by rw [z]; rfl) (gw_156 hk ?_)
        rw [if_pos z, if_pos z] at t
        exact t
      · refine br_f (nI_ne0 (by omega) (by omega)) (gw_156 hk ?_)
        rw [if_neg z, if_neg z] at t
        exact t
  · rw [if_neg (show ¬ ((b ||| w) &&& gb_bit q) = 0 from g1)] at e
    have t := h tb tw
    rw [e] at t
    exact t (fun z => absurd (by decide) z)
theorem gw_store {post : St1 → Prop} (hk : k < 40) (h : post (gb_al, gb_nf, gb_nl, b, w, nI (k + 1), x, y, tb, tw, vp_updL a1 k b, vp_updL a2 k w, upd a3 k (x * 1000 + y))) : wpX_store post (gb_al, gb_nf, gb_nl, b, w, nI k, x, y, tb, tw, a1, a2, a3) := by
  unfold wpX_store
  dsimp only
  rw [nI_clamp (by omega)]
  exact ⟨vp_in_nI hk (by decide), nm_e ⟨vp_in_nI hk (by decide), nm_e ⟨vp_in_nI hk (by decide), nm_e (nm_r (nI_1 k) h)⟩⟩⟩
/-- what play answers where it stores nothing -/
def gb_pl (a : Int32) (k : Nat) : Int32 := if a = -2 then -2 else if k = 40 then -3 else a
theorem gw_play {post : Int32 → St1 → Prop} {p q : Nat} {a : Int32} (hk : k ≤ 40) (hp : p < 2) (hq : q < 49) (ha : gb_ans b w k (a1 (k - 1)) (a2 (k - 1)) p q = a)
    (h0 : (a < 0 ∨ k = 40) → ∀ tb' tw', post (gb_pl a k) (gb_al, gb_nf, gb_nl, b, w, nI k, x, y, tb', tw', a1, a2, a3))
    (h1 : ¬ a < 0 → k < 40 → post a (gb_al, gb_nf, gb_nl, gb_tB b w p q, gb_tW b w p q, nI (k + 1), if p = 0 then x + a else x, if p = 0 then y else y + a, gb_tB b w p q, gb_tW b w p q, vp_updL a1 k b, vp_updL a2 k w, upd a3 k (x * 1000 + y))) :
    wpX_play post (gb_al, gb_nf, gb_nl, b, w, nI k, x, y, tb, tw, a1, a2, a3) (nI p) (nI q) := by
  unfold wpX_play
  dsimp only
  refine gw_attempt hk hp hq ?_
  intro tb' tw' ht
  have hn := gb_ans_n1 b w k (a1 (k - 1)) (a2 (k - 1)) p q
  rw [ha] at ht hn ⊢
  unfold gb_pl at h0
  refine br_f hn (br_c (fun g1 => ?_) (fun g1 => ?_))
  · have t := h0 (Or.inl (by rw [g1]; decide)) tb' tw'
    rw [if_pos g1] at t
    rw [g1]
    exact t
  · rw [if_neg g1] at h0
    refine pk_eq k 40 (fun g2 => ?_) (fun g2 => ?_)
    · have t := h0 (Or.inr g2) tb' tw'
      rw [if_pos g2] at t
      exact t
    · rw [if_neg g2] at h0
      refine br_c (fun g3 => ?_) (fun g3 => ?_)
      · have g4 : ¬ a < 0 := Int32.not_lt.mpr g3
        obtain ⟨e1, e2⟩ := ht g4
        have t := h1 g4 (by omega)
        subst e1 e2
        refine gw_store (by omega) ?_
        refine pk_eq p 0 (fun z => nm_e ?_) (fun z => nm_e ?_)
        · rw [if_pos z, if_pos z] at t
          exact t
        · rw [if_neg z, if_neg z] at t
          exact t
      · exact h0 (Or.inl (Int32.not_le.mp g3)) tb' tw'
theorem gw_moves_l {post : Int32 → St1 → Prop} {p : Nat} (hk : k ≤ 40) (hp : p < 2) (f : Nat → Int32) (hf : ∀ q, q < 49 → gb_ans b w k (a1 (k - 1)) (a2 (k - 1)) p q = f q) (m : Nat → Int32) (hm : ∀ i, i < 49 → m (i + 1) = if f i < 0 then m i else m i + 1) (m0 : m 0 = 0)
    (h : ∀ tb' tw', post (m 49) (gb_al, gb_nf, gb_nl, b, w, nI k, x, y, tb', tw', a1, a2, a3)) : wpX_moves post (gb_al, gb_nf, gb_nl, b, w, nI k, x, y, tb, tw, a1, a2, a3) (nI p) := by
  unfold wpX_moves
  dsimp only
  refine gw_badPlayer hp (br_t rfl ?_)
  suffices hh : ∃ n, wX_moves_14 post (nI p) n (m 0) (nI 0) gb_al gb_nf gb_nl b w (nI k) x y tb tw a1 a2 a3 by
    rw [m0] at hh
    exact hh
  refine pk_loop (σ := Int64 × Int64) (fun n i s => wX_moves_14 post (nI p) n (m i) (nI i) gb_al gb_nf gb_nl b w (nI k) x y s.1 s.2 a1 a2 a3) (fun _ _ => True) 49 0 (tb, tw) (by omega) trivial ?_ ?_
  · exact fun n s _ => pk_le 49 49 (fun _ => h s.1 s.2) (fun z => absurd z (by omega))
  · intro n i s hi _ hw
    refine pk_le 49 i (fun z => absurd z (by omega)) (fun _ => gw_attempt hk hp hi ?_)
    intro tb' tw' _
    rw [hf i hi]
    have t : wX_moves_14 post (nI p) n (m (i + 1)) (nI (i + 1)) gb_al gb_nf gb_nl b w (nI k) x y tb' tw' a1 a2 a3 := hw (tb', tw') trivial
    rw [hm i hi] at t
    refine br_c (fun g => nm_r (nI_1 i) ?_) (fun g => nm_e (nm_r (nI_1 i) ?_))
    · rw [if_pos g] at t
      exact t
    · rw [if_neg g] at t
      exact t
theorem gw_undo {post : Int32 → St1 → Prop} (hk : k < 40) {b' w' : Int64} {x' y' : Nat} (e1 : a1 k = b') (e2 : a2 k = w') (e3 : a3 k = nI (x' * 1000 + y')) (hx : x' < 1000) (hy : y' < 1000)
    (h : post (nI k) (gb_al, gb_nf, gb_nl, b', w', nI k, nI x', nI y', tb, tw, a1, a2, a3)) : wpX_undo post (gb_al, gb_nf, gb_nl, b, w, nI (k + 1), x, y, tb, tw, a1, a2, a3) := by
  have e : nI (k + 1) - 1 = nI k := nI_pred k
  unfold wpX_undo
  dsimp only
  refine br_f (nI_ne0 (by omega) (by omega)) (nm_r e ?_)
  rw [nI_clamp (show k < 2 ^ 31 by omega), e1, e2, e3]
  have v : vp_in (nI k) 40 := vp_in_nI hk (by decide)
  have d : nI (x' * 1000 + y') / 1000 = nI x' := by
    have t := pk_div (a := x' * 1000 + y') (d := 1000) (by omega) (by decide) (by decide)
    rw [show (x' * 1000 + y') / 1000 = x' by omega] at t
    exact t
  have r : nI (x' * 1000 + y') - nI (x' * 1000 + y') / 1000 * 1000 = nI y' := by
    have t := pk_rem (a := x' * 1000 + y') (d := 1000) (by omega) (by decide) (by decide)
    rw [show (x' * 1000 + y') % 1000 = y' by omega] at t
    exact t
  exact ⟨v, nm_e ⟨v, nm_e ⟨v, by decide, nm_r d ⟨v, by decide, nm_r r h⟩⟩⟩⟩
end
end
section
/-! pictures: a board and what was captured (gm_E), how many moves are done, the boards before each of them -/
abbrev gm_E : Type := Int64 × Int64 × Nat × Nat
def gm_one (e : gm_E) (j : Nat) : Prop := gb_dj e.1 e.2.1 ∧ gb_sz e.1 + gb_sz e.2.1 + e.2.2.1 + e.2.2.2 ≤ 49 + j
theorem gm_one_0 {b w : Int64} (h : gb_dj b w) : gm_one (b, w, 0, 0) 0 := by
  refine ⟨h, ?_⟩
  show gb_sz b + gb_sz w + 0 + 0 ≤ 49 + 0
  have t : gb_sz b + gb_sz w ≤ 49 := gb_pc_two 49 (fun i _ => h i)
  omega
def gm_ok (e : gm_E) (c : Nat) (H : Nat → gm_E) : Prop := c ≤ 40 ∧ gm_one e c ∧ ∀ j, j < c → gm_one (H j) j
def gm_M (e : gm_E) (c : Nat) (H : Nat → gm_E) (u : St1) : Prop :=
  ∃ (tb tw : Int64) (a1 a2 : Nat → Int64) (a3 : Nat → Int32), u = (gb_al, gb_nf, gb_nl, e.1, e.2.1, nI c, nI e.2.2.1, nI e.2.2.2, tb, tw, a1, a2, a3) ∧ ∀ j, j < c → a1 j = (H j).1 ∧ a2 j = (H j).2.1 ∧ a3 j = nI ((H j).2.2.1 * 1000 + (H j).2.2.2)
def gm_ans (e : gm_E) (c : Nat) (H : Nat → gm_E) (p q : Nat) : Int32 := gb_ans e.1 e.2.1 c (H (c - 1)).1 (H (c - 1)).2.1 p q
theorem gm_ans_eq {e : gm_E} {c : Nat} {H : Nat → gm_E} {a1 a2 : Nat → Int64} {a3 : Nat → Int32} {p q : Nat} (hH : ∀ j, j < c → a1 j = (H j).1 ∧ a2 j = (H j).2.1 ∧ a3 j = nI ((H j).2.2.1 * 1000 + (H j).2.2.2)) :
    gb_ans e.1 e.2.1 c (a1 (c - 1)) (a2 (c - 1)) p q = gm_ans e c H p q :=
  gb_ans_k _ _ _ _ _ _ _ _ _ (fun z => ⟨(hH (c - 1) (by omega)).1, (hH (c - 1) (by omega)).2.1⟩)
def gm_push (H : Nat → gm_E) (c : Nat) (e : gm_E) : Nat → gm_E := fun j => if j = c then e else H j
theorem gm_push_s {H : Nat → gm_E} {c : Nat} {e : gm_E} : gm_push H c e c = e := if_pos rfl
theorem gm_push_n {H : Nat → gm_E} {c : Nat} {e : gm_E} {j : Nat} (h : j ≠ c) : gm_push H c e j = H j := if_neg h
theorem gm_M_cut {e : gm_E} {c : Nat} {H : Nat → gm_E} {e' : gm_E} {u : St1} (h : gm_M e c (gm_push H c e') u) : gm_M e c H u := by
  obtain ⟨tb, tw, a1, a2, a3, hu, hH⟩ := h
  refine ⟨tb, tw, a1, a2, a3, hu, fun j hj => ?_⟩
  have t := hH j hj
  rw [gm_push_n (by omega)] at t
  exact t
def gm_new (e : gm_E) (p q : Nat) : gm_E := (gb_tB e.1 e.2.1 p q, gb_tW e.1 e.2.1 p q, e.2.2.1 + (if p = 0 then gb_sz (gb_ct e.1 e.2.1 p q) else 0), e.2.2.2 + (if p = 0 then 0 else gb_sz (gb_ct e.1 e.2.1 p q)))
theorem gm_st_row {e : gm_E} {c : Nat} {H : Nat → gm_E} {a1 a2 : Nat → Int64} {a3 : Nat → Int32} (hH : ∀ j, j < c → a1 j = (H j).1 ∧ a2 j = (H j).2.1 ∧ a3 j = nI ((H j).2.2.1 * 1000 + (H j).2.2.2)) :
    ∀ j, j < c + 1 → vp_updL a1 c e.1 j = (gm_push H c e j).1 ∧ vp_updL a2 c e.2.1 j = (gm_push H c e j).2.1 ∧ upd a3 c (nI e.2.2.1 * 1000 + nI e.2.2.2) j = nI ((gm_push H c e j).2.2.1 * 1000 + (gm_push H c e j).2.2.2) := by
  intro j hj
  by_cases z : j = c
  · rw [z, pk_uLs, pk_uLs, pk_us, gm_push_s, show (1000 : Int32) = nI 1000 from rfl, pk_mul, nI_add]
    exact ⟨rfl, rfl, rfl⟩
  · rw [pk_uLn z, pk_uLn z, pk_un z, gm_push_n z]
    exact hH j (by omega)
theorem gm_play {post : Int32 → St1 → Prop} {e : gm_E} {c : Nat} {H : Nat → gm_E} {u : St1} {p q : Nat} (ok : gm_ok e c H) (hu : gm_M e c H u) (hp : p < 2) (hq : q < 49)
    (h0 : (gm_ans e c H p q < 0 ∨ c = 40) → ∀ u', gm_M e c H u' → post (gb_pl (gm_ans e c H p q) c) u')
    (h1 : ¬ gm_ans e c H p q < 0 → c < 40 → ∀ u', gm_M (gm_new e p q) (c + 1) (gm_push H c e) u' → post (gm_ans e c H p q) u') :
    wpX_play post u (nI p) (nI q) := by
  obtain ⟨tb, tw, a1, a2, a3, rfl, hH⟩ := hu
  refine gw_play ok.1 hp hq (gm_ans_eq hH) (fun z tb' tw' => h0 z _ ⟨tb', tw', a1, a2, a3, rfl, hH⟩) (fun z1 z2 => h1 z1 z2 _ ⟨gb_tB e.1 e.2.1 p q, gb_tW e.1 e.2.1 p q, vp_updL a1 c e.1, vp_updL a2 c e.2.1, upd a3 c (nI e.2.2.1 * 1000 + nI e.2.2.2), ?_, gm_st_row hH⟩)
  have ea : gm_ans e c H p q = nI (gb_sz (gb_ct e.1 e.2.1 p q)) := (gb_ans_p z1).1
  have ex : (if p = 0 then nI e.2.2.1 + gm_ans e c H p q else nI e.2.2.1) = nI (gm_new e p q).2.2.1 := by
    show _ = nI (e.2.2.1 + (if p = 0 then gb_sz (gb_ct e.1 e.2.1 p q) else 0))
    by_cases z : p = 0
    · rw [if_pos z, if_pos z, ea, nI_add]
    · rw [if_neg z, if_neg z, Nat.add_zero]
  have ey : (if p = 0 then nI e.2.2.2 else nI e.2.2.2 + gm_ans e c H p q) = nI (gm_new e p q).2.2.2 := by
    show _ = nI (e.2.2.2 + (if p = 0 then 0 else gb_sz (gb_ct e.1 e.2.1 p q)))
    by_cases z : p = 0
    · rw [if_pos z, if_pos z, Nat.add_zero]
    · rw [if_neg z, if_neg z, ea, nI_add]
  rw [ex, ey]
  rfl
theorem gm_new_ok {e : gm_E} {c : Nat} {H : Nat → gm_E} {p q : Nat} (ok : gm_ok e c H) (hp : p < 2) (hq : q < 49) (hc : c < 40) (h : ¬ gm_ans e c H p q < 0) : gm_ok (gm_new e p q) (c + 1) (gm_push H c e) := by
  obtain ⟨hk, h1, hH⟩ := ok
  obtain ⟨_, hf, _⟩ := gb_ans_p h
  refine ⟨by omega, ⟨gb_move_dj hp (by omega) h1.1 hf, ?_⟩, fun j hj => ?_⟩
  · have t := gb_move_sz (b := e.1) (w := e.2.1) (p := p) (q := q) hp (by omega)
    have t1 := h1.2
    show gb_sz (gb_tB e.1 e.2.1 p q) + gb_sz (gb_tW e.1 e.2.1 p q) + (e.2.2.1 + (if p = 0 then gb_sz (gb_ct e.1 e.2.1 p q) else 0)) + (e.2.2.2 + (if p = 0 then 0 else gb_sz (gb_ct e.1 e.2.1 p q))) ≤ 49 + (c + 1)
    by_cases z : p = 0
    · rw [if_pos z, if_pos z]; omega
    · rw [if_neg z, if_neg z]; omega
  · by_cases z : j = c
    · rw [z, gm_push_s]; exact h1
    · rw [gm_push_n z]; exact hH j (by omega)
theorem gm_pass {post : Int32 → St1 → Prop} {e : gm_E} {c : Nat} {H : Nat → gm_E} {u : St1} (ok : gm_ok e c H) (hu : gm_M e c H u)
    (h0 : c = 40 → ∀ u', gm_M e c H u' → post (-3) u') (h1 : c < 40 → ∀ u', gm_M e (c + 1) (gm_push H c e) u' → post (nI (c + 1)) u') : wpX_pass post u := by
  obtain ⟨tb, tw, a1, a2, a3, rfl, hH⟩ := hu
  have hk := ok.1
  refine pk_eq c 40 (fun z => h0 z _ ⟨tb, tw, a1, a2, a3, rfl, hH⟩) (fun z => gw_store (by omega) ?_)
  exact h1 (by omega) _ ⟨tb, tw, _, _, _, rfl, gm_st_row hH⟩
theorem gm_pass_ok {e : gm_E} {c : Nat} {H : Nat → gm_E} (ok : gm_ok e c H) (hc : c < 40) : gm_ok e (c + 1) (gm_push H c e) := by
  obtain ⟨hk, h1, hH⟩ := ok
  refine ⟨by omega, ⟨h1.1, ?_⟩, fun j hj => ?_⟩
  · have t1 := h1.2
    omega
  · by_cases z : j = c
    · rw [z, gm_push_s]; exact h1
    · rw [gm_push_n z]; exact hH j (by omega)
theorem gm_undo {post : Int32 → St1 → Prop} {e : gm_E} {c : Nat} {H : Nat → gm_E} {u : St1} (ok : gm_ok e (c + 1) H) (hu : gm_M e (c + 1) H u)
    (h : ∀ u', gm_M (H c) c H u' → post (nI c) u') : wpX_undo post u := by
  obtain ⟨tb, tw, a1, a2, a3, rfl, hH⟩ := hu
  have t := hH c (by omega)
  have h1 := (ok.2.2 c (by omega)).2
  have hk := ok.1
  exact gw_undo (by omega) t.1 t.2.1 t.2.2 (by omega) (by omega) (h _ ⟨tb, tw, a1, a2, a3, rfl, fun j hj => hH j (by omega)⟩)
theorem gm_undo0 {post : Int32 → St1 → Prop} {e : gm_E} {H : Nat → gm_E} {u : St1} (hu : gm_M e 0 H u)
    (h : ∀ u', gm_M e 0 H u' → post (-2) u') : wpX_undo post u := by
  obtain ⟨tb, tw, a1, a2, a3, rfl, hH⟩ := hu
  exact br_t rfl (h _ ⟨tb, tw, a1, a2, a3, rfl, hH⟩)
/-- set: a stone put on an empty point, or taken away -/
def gb_sB (b : Int64) (p q : Nat) : Int64 := if p = 0 then b ||| gb_bit q else if p = 1 then b else b &&& (gb_bit q ^^^ (-1))
def gb_sW (w : Int64) (p q : Nat) : Int64 := if p = 0 then w else if p = 1 then w ||| gb_bit q else w &&& (gb_bit q ^^^ (-1))
theorem gw_set58 {post : Int32 → St1 → Prop} {b w tb tw : Int64} {c x y : Int32} {a1 a2 : Nat → Int64} {a3 : Nat → Int32} {p q : Nat} (hp : p < 3) {z0 z1 : Int32}
    (h0 : z1 = z0 → post (-2) (gb_al, gb_nf, gb_nl, b, w, c, x, y, tb, tw, a1, a2, a3)) (h1 : ¬ z1 = z0 → post 0 (gb_al, gb_nf, gb_nl, gb_sB b p q, gb_sW w p q, 0, 0, 0, tb, tw, a1, a2, a3)) :
    wX_set_58 post (nI p) (gb_bit q) z0 z1 gb_al gb_nf gb_nl b w c x y tb tw a1 a2 a3 := by
  refine br_c h0 (fun g => ?_)
  have t := h1 g
  unfold gb_sB gb_sW at t
  refine pk_eq p 0 (fun z => nm_e ?_) (fun z => pk_eq p 1 (fun z2 => nm_e ?_) (fun z2 => nm_e (nm_e ?_)))
  · rw [if_pos z, if_pos z] at t
    exact t
  · rw [if_neg z, if_neg z, if_pos z2, if_pos z2] at t
    exact t
  · rw [if_neg z, if_neg z, if_neg z2, if_neg z2] at t
    exact t
theorem gw_set {post : Int32 → St1 → Prop} {b w tb tw : Int64} {c x y : Int32} {a1 a2 : Nat → Int64} {a3 : Nat → Int32} {p q : Nat} (hp : p < 3) (hq : q < 49)
    (h0 : (((b ||| w) &&& gb_bit q) = 0 ↔ p = 2) → post (-2) (gb_al, gb_nf, gb_nl, b, w, c, x, y, tb, tw, a1, a2, a3)) (h1 : ¬ (((b ||| w) &&& gb_bit q) = 0 ↔ p = 2) → post 0 (gb_al, gb_nf, gb_nl, gb_sB b p q, gb_sW w p q, 0, 0, 0, tb, tw, a1, a2, a3)) :
    wpX_set post (gb_al, gb_nf, gb_nl, b, w, c, x, y, tb, tw, a1, a2, a3) (nI p) (nI q) := by
  refine br_f (nI_pos (by omega)) (br_f (nI_nlt (a := 2) (by omega) (by decide)) (gw_badPoint hq (br_t rfl (nm_r (e' := gb_bit q) rfl (br_c (fun g => ?_) (fun g => ?_))))))
  · refine pk_eq p 2 (fun z => gw_set58 hp (fun _ => h0 ⟨fun _ => z, fun _ => g⟩) (fun k => absurd rfl k)) (fun z => gw_set58 hp (fun k => absurd k (by decide)) (fun _ => h1 (fun k => z (k.mp g))))
  · refine pk_eq p 2 (fun z => gw_set58 hp (fun k => absurd k (by decide)) (fun _ => h1 (fun k => g (k.mpr z)))) (fun z => gw_set58 hp (fun _ => h0 ⟨fun k => absurd k g, fun k => absurd k z⟩) (fun k => absurd rfl k))
theorem gb_set_dj {b w : Int64} {p q : Nat} (hp : p < 3) (hq : q < 64) (hd : gb_dj b w) (h : ¬ (((b ||| w) &&& gb_bit q) = 0 ↔ p = 2)) : gb_dj (gb_sB b p q) (gb_sW w p q) := by
  intro i z
  have z1 := z.1
  have z2 := z.2
  unfold gb_sB at z1
  unfold gb_sW at z2
  by_cases e0 : p = 0
  · rw [if_pos e0] at z1 z2
    have f : ((b ||| w) &&& gb_bit q) = 0 := Classical.byContradiction (fun k => h ⟨fun t => absurd t k, fun t => absurd t (by omega)⟩)
    rcases gb_or_t.mp z1 with a | a
    · exact hd i ⟨a, z2⟩
    · rw [(gb_bit_t hq).mp a] at z2
      exact (gb_free hq f).2 z2
  · by_cases e1 : p = 1
    · rw [if_neg e0, if_pos e1] at z1 z2
      have f : ((b ||| w) &&& gb_bit q) = 0 := Classical.byContradiction (fun k => h ⟨fun t => absurd t k, fun t => absurd t (by omega)⟩)
      rcases gb_or_t.mp z2 with a | a
      · exact hd i ⟨z1, a⟩
      · rw [(gb_bit_t hq).mp a] at z1
        exact (gb_free hq f).1 z1
    · rw [if_neg e0, if_neg e1] at z1 z2
      exact hd i ⟨(gb_and_t.mp z1).1, (gb_and_t.mp z2).1⟩
/-! a call takes a picture to a picture, whatever state matches it -/
def gm_T (W : (Int32 → St1 → Prop) → St1 → Prop) (e : gm_E) (c : Nat) (H : Nat → gm_E) : Prop :=
  ∃ (e' : gm_E) (c' : Nat) (H' : Nat → gm_E), gm_ok e' c' H' ∧ ∀ (u : St1) (post : Int32 → St1 → Prop), gm_M e c H u → (∀ r u', gm_M e' c' H' u' → post r u') → W post u
theorem gm_T_play {e : gm_E} {c : Nat} {H : Nat → gm_E} {p q : Nat} (ok : gm_ok e c H) (hp : p < 2) (hq : q < 49) : gm_T (fun post u => wpX_play post u (nI p) (nI q)) e c H := by
  by_cases g : gm_ans e c H p q < 0 ∨ c = 40
  · exact ⟨e, c, H, ok, fun u post hu h => gm_play ok hu hp hq (fun _ u' hu' => h _ u' hu') (fun z1 z2 => absurd g (fun z => z.elim z1 (fun k => absurd k (by omega))))⟩
  · have g1 : ¬ gm_ans e c H p q < 0 := fun z => g (Or.inl z)
    have g2 : c < 40 := by
      have hk := ok.1
      have t : ¬ c = 40 := fun z => g (Or.inr z)
      omega
    exact ⟨gm_new e p q, c + 1, gm_push H c e, gm_new_ok ok hp hq g2 g1, fun u post hu h => gm_play ok hu hp hq (fun z => absurd z g) (fun _ _ u' hu' => h _ u' hu')⟩
theorem gm_T_pass {e : gm_E} {c : Nat} {H : Nat → gm_E} (ok : gm_ok e c H) : gm_T (fun post u => wpX_pass post u) e c H := by
  by_cases g : c = 40
  · exact ⟨e, c, H, ok, fun u post hu h => gm_pass ok hu (fun _ u' hu' => h _ u' hu') (fun z => absurd g (by omega))⟩
  · have g2 : c < 40 := by
      have hk := ok.1
      omega
    exact ⟨e, c + 1, gm_push H c e, gm_pass_ok ok g2, fun u post hu h => gm_pass ok hu (fun z => absurd z g) (fun _ u' hu' => h _ u' hu')⟩
theorem gm_T_undo {e : gm_E} {c : Nat} {H : Nat → gm_E} (ok : gm_ok e c H) : gm_T (fun post u => wpX_undo post u) e c H := by
  cases c with
  | zero => exact ⟨e, 0, H, ok, fun u post hu h => gm_undo0 hu (fun u' hu' => h _ u' hu')⟩
  | succ c =>
    have hk := ok.1
    exact ⟨H c, c, H, ⟨by omega, ok.2.2 c (by omega), fun j hj => ok.2.2 j (by omega)⟩, fun u post hu h => gm_undo ok hu (fun u' hu' => h _ u' hu')⟩
theorem gm_T_set {e : gm_E} {c : Nat} {H : Nat → gm_E} {p q : Nat} (ok : gm_ok e c H) (hp : p < 3) (hq : q < 49) : gm_T (fun post u => wpX_set post u (nI p) (nI q)) e c H := by
  by_cases g : (((e.1 ||| e.2.1) &&& gb_bit q) = 0 ↔ p = 2)
  · refine ⟨e, c, H, ok, fun u post hu h => ?_⟩
    obtain ⟨tb, tw, a1, a2, a3, rfl, hH⟩ := hu
    exact gw_set hp hq (fun _ => h _ _ ⟨tb, tw, a1, a2, a3, rfl, hH⟩) (fun z => absurd g z)
  · have hd := gb_set_dj hp (show q < 64 by omega) ok.2.1.1 g
    refine ⟨(gb_sB e.1 p q, gb_sW e.2.1 p q, 0, 0), 0, H, ⟨by omega, gm_one_0 hd, fun j hj => absurd hj (by omega)⟩, fun u post hu h => ?_⟩
    · obtain ⟨tb, tw, a1, a2, a3, rfl, hH⟩ := hu
      exact gw_set hp hq (fun z => absurd z g) (fun _ => h _ _ ⟨tb, tw, a1, a2, a3, rfl, fun j hj => absurd hj (by omega)⟩)
/-! a turn of the law -/
theorem gm_turn {e : gm_E} {c : Nat} {H : Nat → gm_E} (ok : gm_ok e c H) (op x : Int32) : gm_T (fun post u => wpL_turn post u op x) e c H := by
  obtain ⟨o, ho, eo⟩ := pk_andE op (m := 15) 4 (by decide)
  obtain ⟨j, hj, ej⟩ := pk_andE x (m := 63) 6 (by decide)
  obtain ⟨a, ha, ea⟩ := pk_andE x (m := 7) 3 (by decide)
  obtain ⟨d, hd, ed⟩ := pk_andE (x >>> ((3 : Int32) &&& 31)) (m := 7) 3 (by decide)
  obtain ⟨p, hp, ep⟩ := pk_andE (x >>> ((6 : Int32) &&& 31)) (m := 1) 1 (by decide)
  obtain ⟨s, hs, es⟩ := pk_andE (x >>> ((6 : Int32) &&& 31)) (m := 3) 2 (by decide)
  have eq : (x &&& 63) - (x &&& 63) / 49 * 49 = nI (j % 49) := by
    rw [ej]
    exact pk_rem (d := 49) (by omega) (by decide) (by decide)
  have en : (7 * ((x &&& 7) - (x &&& 7) / 4 * 4)) + (((x >>> ((3 : Int32) &&& 31)) &&& 7) - ((x >>> ((3 : Int32) &&& 31)) &&& 7) / 4 * 4) = nI (7 * (a % 4) + d % 4) := by
    have e1 : (x &&& 7) - (x &&& 7) / 4 * 4 = nI (a % 4) := by
      rw [ea]
      exact pk_rem (d := 4) (by omega) (by decide) (by decide)
    have e2 : ((x >>> ((3 : Int32) &&& 31)) &&& 7) - ((x >>> ((3 : Int32) &&& 31)) &&& 7) / 4 * 4 = nI (d % 4) := by
      rw [ed]
      exact pk_rem (d := 4) (by omega) (by decide) (by decide)
    rw [e1, e2, show (7 : Int32) = nI 7 from rfl, pk_mul, nI_add]
  have e3 : ((x >>> ((6 : Int32) &&& 31)) &&& 3) - ((x >>> ((6 : Int32) &&& 31)) &&& 3) / 3 * 3 = nI (s % 3) := by
    rw [es]
    exact pk_rem (d := 3) (by omega) (by decide) (by decide)
  have e1p : (1 : Int32) - nI p = nI (1 - p) := pk_sub (a := 1) (by omega)
  have hq : j % 49 < 49 := Nat.mod_lt _ (by decide)
  have hn : 7 * (a % 4) + d % 4 < 49 := by omega
  have h3 : s % 3 < 3 := Nat.mod_lt _ (by decide)
  generalize 7 * (a % 4) + d % 4 = near at en hn
  generalize j % 49 = q at eq hq
  generalize s % 3 = s3 at e3 h3
  have turn1 : ∀ (post : Int32 → St1 → Prop) (b w tb tw : Int64) (c x' y : Int32) (a1 a2 : Nat → Int64) (a3 : Nat → Int32),
      (10 ≤ o → o = 10 → wpX_pass post (gb_al, gb_nf, gb_nl, b, w, c, x', y, tb, tw, a1, a2, a3)) → (10 ≤ o → o = 11 → wpX_undo post (gb_al, gb_nf, gb_nl, b, w, c, x', y, tb, tw, a1, a2, a3)) → (15 ≤ o → wpX_play post (gb_al, gb_nf, gb_nl, b, w, c, x', y, tb, tw, a1, a2, a3) (nI (1 - p)) (nI near)) → (12 ≤ o → o < 15 → (x &&& 256) = 0 → wpX_set post (gb_al, gb_nf, gb_nl, b, w, c, x', y, tb, tw, a1, a2, a3) (nI s3) (nI near)) → (12 ≤ o → o < 15 → ¬ (x &&& 256) = 0 → wpX_set post (gb_al, gb_nf, gb_nl, b, w, c, x', y, tb, tw, a1, a2, a3) (nI s3) (nI q)) → (o < 10 → (x &&& 256) = 0 → wpX_play post (gb_al, gb_nf, gb_nl, b, w, c, x', y, tb, tw, a1, a2, a3) (nI p) (nI near)) → (o < 10 → ¬ (x &&& 256) = 0 → wpX_play post (gb_al, gb_nf, gb_nl, b, w, c, x', y, tb, tw, a1, a2, a3) (nI p) (nI q)) → wpL_turn post (gb_al, gb_nf, gb_nl, b, w, c, x', y, tb, tw, a1, a2, a3) op x := by
    intro post b w tb tw c x' y a1 a2 a3 k1 k2 k3 k4 k5 k6 k7
    refine nm_r eo ⟨by decide, nm_r eq ⟨by decide, by decide, nm_r en (nm_r ep (pk_le 10 o (fun g => pk_eq o 10 (fun g1 => k1 g g1) (fun g1 => pk_eq o 11 (fun g2 => k2 g g2) (fun g2 => pk_le 15 o (fun g3 => ?_) (fun g3 => ⟨by decide, ?_⟩)))) (fun g => br_c (fun g1 => k6 g g1) (fun g1 => k7 g g1))))⟩⟩
    · rw [e1p]
      exact k3 g3
    · rw [e3]
      exact br_c (fun g4 => k4 (by omega) g3 g4) (fun g4 => k5 (by omega) g3 g4)
  rcases Nat.lt_or_ge o 10 with g | g
  · by_cases g1 : (x &&& 256) = 0
    · obtain ⟨e', c', H', ok', hW⟩ := gm_T_play ok hp hn
      refine ⟨e', c', H', ok', fun u post hu h => ?_⟩
      have t := hW u post hu h
      obtain ⟨tb, tw, a1, a2, a3, rfl, hH⟩ := hu
      exact turn1 _ _ _ _ _ _ _ _ _ _ _ (fun z => absurd z (by omega)) (fun z => absurd z (by omega)) (fun z => absurd z (by omega)) (fun z => absurd z (by omega)) (fun z => absurd z (by omega)) (fun _ _ => t) (fun _ z => absurd g1 z)
    · obtain ⟨e', c', H', ok', hW⟩ := gm_T_play ok hp hq
      refine ⟨e', c', H', ok', fun u post hu h => ?_⟩
      have t := hW u post hu h
      obtain ⟨tb, tw, a1, a2, a3, rfl, hH⟩ := hu
      exact turn1 _ _ _ _ _ _ _ _ _ _ _ (fun z => absurd z (by omega)) (fun z => absurd z (by omega)) (fun z => absurd z (by omega)) (fun z => absurd z (by omega)) (fun z => absurd z (by omega)) (fun _ z => absurd z g1) (fun _ _ => t)
  · by_cases g1 : o = 10
    · obtain ⟨e', c', H', ok', hW⟩ := gm_T_pass ok
      refine ⟨e', c', H', ok', fun u post hu h => ?_⟩
      have t := hW u post hu h
      obtain ⟨tb, tw, a1, a2, a3, rfl, hH⟩ := hu
      exact turn1 _ _ _ _ _ _ _ _ _ _ _ (fun _ _ => t) (fun _ z => absurd z (by omega)) (fun z => absurd z (by omega)) (fun z => absurd z (by omega)) (fun z => absurd z (by omega)) (fun z => absurd z (by omega)) (fun z => absurd z (by omega))
    · by_cases g2 : o = 11
      · obtain ⟨e', c', H', ok', hW⟩ := gm_T_undo ok
        refine ⟨e', c', H', ok', fun u post hu h => ?_⟩
        have t := hW u post hu h
        obtain ⟨tb, tw, a1, a2, a3, rfl, hH⟩ := hu
        exact turn1 _ _ _ _ _ _ _ _ _ _ _ (fun _ z => absurd z (by omega)) (fun _ _ => t) (fun z => absurd z (by omega)) (fun z => absurd z (by omega)) (fun z => absurd z (by omega)) (fun z => absurd z (by omega)) (fun z => absurd z (by omega))
      · rcases Nat.lt_or_ge o 15 with g3 | g3
        · by_cases g4 : (x &&& 256) = 0
          · obtain ⟨e', c', H', ok', hW⟩ := gm_T_set ok h3 hn
            refine ⟨e', c', H', ok', fun u post hu h => ?_⟩
            have t := hW u post hu h
            obtain ⟨tb, tw, a1, a2, a3, rfl, hH⟩ := hu
            exact turn1 _ _ _ _ _ _ _ _ _ _ _ (fun _ z => absurd z g1) (fun _ z => absurd z g2) (fun z => absurd z (by omega)) (fun _ _ _ => t) (fun _ _ z => absurd g4 z) (fun z => absurd z (by omega)) (fun z => absurd z (by omega))
          · obtain ⟨e', c', H', ok', hW⟩ := gm_T_set ok h3 hq
            refine ⟨e', c', H', ok', fun u post hu h => ?_⟩
            have t := hW u post hu h
            obtain ⟨tb, tw, a1, a2, a3, rfl, hH⟩ := hu
            exact turn1 _ _ _ _ _ _ _ _ _ _ _ (fun _ z => absurd z g1) (fun _ z => absurd z g2) (fun z => absurd z (by omega)) (fun _ _ z => absurd z g4) (fun _ _ _ => t) (fun z => absurd z (by omega)) (fun z => absurd z (by omega))
        · obtain ⟨e', c', H', ok', hW⟩ := gm_T_play (p := 1 - p) ok (by omega) hn
          refine ⟨e', c', H', ok', fun u post hu h => ?_⟩
          have t := hW u post hu h
          obtain ⟨tb, tw, a1, a2, a3, rfl, hH⟩ := hu
          exact turn1 _ _ _ _ _ _ _ _ _ _ _ (fun _ z => absurd z g1) (fun _ z => absurd z g2) (fun _ => t) (fun _ z => absurd z (by omega)) (fun _ z => absurd z (by omega)) (fun z => absurd z (by omega)) (fun z => absurd z (by omega))
end
section
/-! the constructor -/
def gb_i1 : Nat → Int64
  | 0 => 0
  | n + 1 => gb_i1 n ||| gb_bit n
def gb_i3 : Nat → Int64
  | 0 => 0
  | n + 1 => if n % 7 = 0 then gb_i3 n ||| gb_bit n else gb_i3 n
def gb_i5 : Nat → Int64
  | 0 => 0
  | n + 1 => if n % 7 = 6 then gb_i5 n ||| gb_bit n else gb_i5 n
theorem gb_i1_s (n : Nat) : gb_i1 (n + 1) = gb_i1 n ||| gb_bit n := rfl
theorem gb_i3_s (n : Nat) : gb_i3 (n + 1) = if n % 7 = 0 then gb_i3 n ||| gb_bit n else gb_i3 n := rfl
theorem gb_i5_s (n : Nat) : gb_i5 (n + 1) = if n % 7 = 6 then gb_i5 n ||| gb_bit n else gb_i5 n := rfl
theorem gb_i1_49 : gb_i1 49 = gb_al := by decide +kernel
theorem gb_i3_49 : gb_al &&& (gb_i3 49 ^^^ (-1)) = gb_nf := by decide +kernel
theorem gb_i5_49 : gb_al &&& (gb_i5 49 ^^^ (-1)) = gb_nl := by decide +kernel
def gm_u0 : St1 := (gb_al, gb_nf, gb_nl, 0, 0, 0, 0, 0, 0, 0, (fun _ => 0), (fun _ => 0), (fun _ => 0))
theorem gw_init67 {post : St1 → Prop} {mc ms kc ks : Nat} {J : Int64 → Int64 → Int64 → Int32 → Prop} {v1 v3 f1 f2 f3 b w tb tw : Int64} {c x y : Int32} {a1 a2 : Nat → Int64} {a3 : Nat → Int32} {i : Nat} (hi : i < 49) (h : J v1 v3 (gb_i5 (i + 1)) (nI (i + 1))) :
    wX_init_67 post mc ms J v1 v3 (gb_i5 i) (nI i) kc ks f1 f2 f3 b w c x y tb tw a1 a2 a3 := by
  rw [gb_i5_s] at h
  have er : nI i - nI i / 7 * 7 = nI (i % 7) := pk_rem (d := 7) (by omega) (by decide) (by decide)
  refine ⟨by decide, pk_eq (i % 7) 6 (fun z => nm_e (nm_r (nI_1 i) ?_)) (fun z => nm_r (nI_1 i) ?_) er⟩
  · rw [if_pos z] at h
    exact h
  · rw [if_neg z] at h
    exact h
theorem gw_init {post : St1 → Prop} {mc ms : Nat} (hm : 3 ≤ mc) (hs : 120 ≤ ms) (h : post gm_u0) : wpX_init post mc ms (0, 0, 0, 0, 0, 0, 0, 0, 0, 0) := by
  refine ⟨by omega, by omega, by omega, by omega, by omega, by omega, ?_⟩
  refine pk_loop (σ := Unit) (fun n i _ => wX_init_38 post mc ms 3 120 0 0 0 0 0 0 0 0 0 0 (fun _ => 0) (fun _ => 0) (fun _ => 0) n (gb_i1 i) (gb_i3 i) (gb_i5 i) (nI i)) (fun _ _ => True) 49 0 () (by omega) trivial ?_ ?_
  · intro n _ _
    refine pk_le 49 49 (fun _ => ?_) (fun z => absurd z (by omega))
    rw [gb_i1_49]
    exact nm_r gb_i3_49 (nm_r gb_i5_49 h)
  · intro n i _ hi _ hw
    have t : wX_init_38 post mc ms 3 120 0 0 0 0 0 0 0 0 0 0 (fun _ => 0) (fun _ => 0) (fun _ => 0) n (gb_i1 (i + 1)) (gb_i3 (i + 1)) (gb_i5 (i + 1)) (nI (i + 1)) := hw () trivial
    rw [gb_i1_s, gb_i3_s] at t
    have er : nI i - nI i / 7 * 7 = nI (i % 7) := pk_rem (d := 7) (by omega) (by decide) (by decide)
    refine pk_le 49 i (fun z => absurd z (by omega)) (fun _ => nm_e ⟨by decide, pk_eq (i % 7) 0 (fun z => nm_e (gw_init67 hi ?_)) (fun z => gw_init67 hi ?_) er⟩)
    · rw [if_pos z] at t
      exact t
    · rw [if_neg z] at t
      exact t
theorem gm_ok0 : gm_ok (0, 0, 0, 0) 0 (fun _ => (0, 0, 0, 0)) := by
  have hd : gb_dj 0 0 := by
    intro i z
    have t := z.1
    rw [gb_0] at t
    exact absurd t (by decide)
  exact ⟨by omega, gm_one_0 hd, fun j hj => absurd hj (by omega)⟩
theorem gm_M0 : gm_M (0, 0, 0, 0) 0 (fun _ => (0, 0, 0, 0)) gm_u0 := ⟨0, 0, _, _, _, rfl, fun j hj => absurd hj (by omega)⟩
/-! the law's own methods and the last calls -/
theorem gw_equal {post : Int32 → Prop} {b w tb tw tb' tw' : Int64} {c x y : Int32} {a1 a2 a1' a2' : Nat → Int64} {a3 a3' : Nat → Int32} (h : post 1) :
    wpL_equal post (gb_al, gb_nf, gb_nl, b, w, c, x, y, tb, tw, a1, a2, a3, gb_al, gb_nf, gb_nl, b, w, c, x, y, tb', tw', a1', a2', a3') := by
  refine pk_loop (σ := Unit) (fun n i _ => wL_equal_2 post gb_al gb_nf gb_nl b w c x y tb tw a1 a2 a3 gb_al gb_nf gb_nl b w c x y tb' tw' a1' a2' a3' n (nI i)) (fun _ _ => True) 49 0 () (by omega) trivial ?_ ?_
  · intro n _ _
    refine pk_le 49 49 (fun _ => ?_) (fun z => absurd z (by omega))
    exact gw_captured0 (gw_captured0 (br_t rfl (gw_captured1 (gw_captured1 (br_t rfl (br_t rfl h))))))
  · intro n i _ hi _ hw
    exact pk_le 49 i (fun z => absurd z (by omega)) (fun _ => gw_at hi (gw_at hi (br_t rfl (nm_r (nI_1 i) (hw () trivial)))))
theorem gm_trial {post : Int32 → St1 → Prop} {e : gm_E} {c : Nat} {H : Nat → gm_E} {u : St1} {p q : Nat} (ok : gm_ok e c H) (hu : gm_M e c H u) (hp : p < 2) (hq : q < 49)
    (h : ∀ u', gm_M e c H u' → post (gm_ans e c H p q) u') : wpX_trial post u (nI p) (nI q) := by
  obtain ⟨tb, tw, a1, a2, a3, rfl, hH⟩ := hu
  refine gw_attempt ok.1 hp hq (fun tb' tw' _ => ?_)
  rw [gm_ans_eq hH]
  exact h _ ⟨tb', tw', a1, a2, a3, rfl, hH⟩
def gm_mv (f : Nat → Int32) : Nat → Int32
  | 0 => 0
  | i + 1 => if f i < 0 then gm_mv f i else gm_mv f i + 1
theorem gm_moves {post : Int32 → St1 → Prop} {e : gm_E} {c : Nat} {H : Nat → gm_E} {u : St1} {p : Nat} (ok : gm_ok e c H) (hu : gm_M e c H u) (hp : p < 2)
    (h : ∀ u', gm_M e c H u' → post (gm_mv (gm_ans e c H p) 49) u') : wpX_moves post u (nI p) := by
  obtain ⟨tb, tw, a1, a2, a3, rfl, hH⟩ := hu
  exact gw_moves_l ok.1 hp (gm_ans e c H p) (fun q _ => gm_ans_eq hH) (gm_mv (gm_ans e c H p)) (fun i _ => rfl) rfl (fun tb' tw' => h _ ⟨tb', tw', a1, a2, a3, rfl, hH⟩)
section
variable {post : Int32 → Prop} {L : Nat} {xs : Nat → Int32} {J84 : Int32 → Int64 → Int64 → Int64 → Int64 → Int64 → Int32 → Int32 → Int32 → Int64 → Int64 → (Nat → Int64) → (Nat → Int64) → (Nat → Int32) → Int64 → Int64 → Int64 → Int64 → Int64 → Int32 → Int32 → Int32 → Int64 → Int64 → (Nat → Int64) → (Nat → Int64) → (Nat → Int32) → Prop} {J96 : Int32 → Int32 → Int64 → Int64 → Int64 → Int64 → Int64 → Int32 → Int32 → Int32 → Int64 → Int64 → (Nat → Int64) → (Nat → Int64) → (Nat → Int32) → Int64 → Int64 → Int64 → Int64 → Int64 → Int32 → Int32 → Int32 → Int64 → Int64 → (Nat → Int64) → (Nat → Int64) → (Nat → Int32) → Prop} {e : gm_E} {c : Nat} {H : Nat → gm_E} {p q kc ks : Nat} {mv a : Int32} {g h : St1}
theorem gl_230 (hq : q < 49) (hg : gm_M e c H g) (hh : gm_M e c H h) (hJ : J96 mv (nI (q + 1)) g.1 g.2.1 g.2.2.1 g.2.2.2.1 g.2.2.2.2.1 g.2.2.2.2.2.1 g.2.2.2.2.2.2.1 g.2.2.2.2.2.2.2.1 g.2.2.2.2.2.2.2.2.1 g.2.2.2.2.2.2.2.2.2.1 g.2.2.2.2.2.2.2.2.2.2.1 g.2.2.2.2.2.2.2.2.2.2.2.1 g.2.2.2.2.2.2.2.2.2.2.2.2 h.1 h.2.1 h.2.2.1 h.2.2.2.1 h.2.2.2.2.1 h.2.2.2.2.2.1 h.2.2.2.2.2.2.1 h.2.2.2.2.2.2.2.1 h.2.2.2.2.2.2.2.2.1 h.2.2.2.2.2.2.2.2.2.1 h.2.2.2.2.2.2.2.2.2.2.1 h.2.2.2.2.2.2.2.2.2.2.2.1 h.2.2.2.2.2.2.2.2.2.2.2.2) :
    wL_law_230 post L xs J84 J96 (nI c) (nI p) mv (nI q) (nI c) kc ks g.1 g.2.1 g.2.2.1 g.2.2.2.1 g.2.2.2.2.1 g.2.2.2.2.2.1 g.2.2.2.2.2.2.1 g.2.2.2.2.2.2.2.1 g.2.2.2.2.2.2.2.2.1 g.2.2.2.2.2.2.2.2.2.1 g.2.2.2.2.2.2.2.2.2.2.1 g.2.2.2.2.2.2.2.2.2.2.2.1 g.2.2.2.2.2.2.2.2.2.2.2.2 h.1 h.2.1 h.2.2.1 h.2.2.2.1 h.2.2.2.2.1 h.2.2.2.2.2.1 h.2.2.2.2.2.2.1 h.2.2.2.2.2.2.2.1 h.2.2.2.2.2.2.2.2.1 h.2.2.2.2.2.2.2.2.2.1 h.2.2.2.2.2.2.2.2.2.2.1 h.2.2.2.2.2.2.2.2.2.2.2.1 h.2.2.2.2.2.2.2.2.2.2.2.2 := by
  obtain ⟨tb, tw, a1, a2, a3, rfl, hH⟩ := hg
  obtain ⟨tb', tw', a1', a2', a3', rfl, hH'⟩ := hh
  exact br_t rfl (gw_at hq (gw_at hq (br_t rfl (nm_r (nI_1 q) hJ))))
/-- the road where nothing was stored -/
theorem gl_179a (hq : q < 49) (ha : a < 0) (hg : gm_M e c H g) (hh : gm_M e c H h) (hJ : J96 mv (nI (q + 1)) g.1 g.2.1 g.2.2.1 g.2.2.2.1 g.2.2.2.2.1 g.2.2.2.2.2.1 g.2.2.2.2.2.2.1 g.2.2.2.2.2.2.2.1 g.2.2.2.2.2.2.2.2.1 g.2.2.2.2.2.2.2.2.2.1 g.2.2.2.2.2.2.2.2.2.2.1 g.2.2.2.2.2.2.2.2.2.2.2.1 g.2.2.2.2.2.2.2.2.2.2.2.2 h.1 h.2.1 h.2.2.1 h.2.2.2.1 h.2.2.2.2.1 h.2.2.2.2.2.1 h.2.2.2.2.2.2.1 h.2.2.2.2.2.2.2.1 h.2.2.2.2.2.2.2.2.1 h.2.2.2.2.2.2.2.2.2.1 h.2.2.2.2.2.2.2.2.2.2.1 h.2.2.2.2.2.2.2.2.2.2.2.1 h.2.2.2.2.2.2.2.2.2.2.2.2) :
    wL_law_179 post L xs J84 J96 (nI c) (nI p) mv (nI q) a kc ks g.1 g.2.1 g.2.2.1 g.2.2.2.1 g.2.2.2.2.1 g.2.2.2.2.2.1 g.2.2.2.2.2.2.1 g.2.2.2.2.2.2.2.1 g.2.2.2.2.2.2.2.2.1 g.2.2.2.2.2.2.2.2.2.1 g.2.2.2.2.2.2.2.2.2.2.1 g.2.2.2.2.2.2.2.2.2.2.2.1 g.2.2.2.2.2.2.2.2.2.2.2.2 h.1 h.2.1 h.2.2.1 h.2.2.2.1 h.2.2.2.2.1 h.2.2.2.2.2.1 h.2.2.2.2.2.2.1 h.2.2.2.2.2.2.2.1 h.2.2.2.2.2.2.2.2.1 h.2.2.2.2.2.2.2.2.2.1 h.2.2.2.2.2.2.2.2.2.2.1 h.2.2.2.2.2.2.2.2.2.2.2.1 h.2.2.2.2.2.2.2.2.2.2.2.2 :=
  br_t ha (br_t ha (gl_230 hq hg hh hJ))
theorem gl_137a (ok : gm_ok e c H) (hq : q < 49) (hn : a < 0 ∨ c = 40) (hn3 : ¬ a = -3) (hg : gm_M e c H g) (hh : gm_M e c H h) (hJ : J96 mv (nI (q + 1)) g.1 g.2.1 g.2.2.1 g.2.2.2.1 g.2.2.2.2.1 g.2.2.2.2.2.1 g.2.2.2.2.2.2.1 g.2.2.2.2.2.2.2.1 g.2.2.2.2.2.2.2.2.1 g.2.2.2.2.2.2.2.2.2.1 g.2.2.2.2.2.2.2.2.2.2.1 g.2.2.2.2.2.2.2.2.2.2.2.1 g.2.2.2.2.2.2.2.2.2.2.2.2 h.1 h.2.1 h.2.2.1 h.2.2.2.1 h.2.2.2.2.1 h.2.2.2.2.2.1 h.2.2.2.2.2.2.1 h.2.2.2.2.2.2.2.1 h.2.2.2.2.2.2.2.2.1 h.2.2.2.2.2.2.2.2.2.1 h.2.2.2.2.2.2.2.2.2.2.1 h.2.2.2.2.2.2.2.2.2.2.2.1 h.2.2.2.2.2.2.2.2.2.2.2.2) :
    wL_law_137 post L xs J84 J96 (nI c) (nI p) (nI q) a (gb_pl a c) mv kc ks g.1 g.2.1 g.2.2.1 g.2.2.2.1 g.2.2.2.2.1 g.2.2.2.2.2.1 g.2.2.2.2.2.2.1 g.2.2.2.2.2.2.2.1 g.2.2.2.2.2.2.2.2.1 g.2.2.2.2.2.2.2.2.2.1 g.2.2.2.2.2.2.2.2.2.2.1 g.2.2.2.2.2.2.2.2.2.2.2.1 g.2.2.2.2.2.2.2.2.2.2.2.2 h.1 h.2.1 h.2.2.1 h.2.2.2.1 h.2.2.2.2.1 h.2.2.2.2.2.1 h.2.2.2.2.2.2.1 h.2.2.2.2.2.2.2.1 h.2.2.2.2.2.2.2.2.1 h.2.2.2.2.2.2.2.2.2.1 h.2.2.2.2.2.2.2.2.2.2.1 h.2.2.2.2.2.2.2.2.2.2.2.1 h.2.2.2.2.2.2.2.2.2.2.2.2 := by
  have hk := ok.1
  unfold gb_pl
  refine pk_eq c 40 (fun z => ?_) (fun z => ?_)
  · rw [if_pos z]
    by_cases g2 : a = -2
    · rw [if_pos g2]
      refine br_f (by decide) (br_t g2.symm (pk_le 40 c (fun _ => gl_179a hq (by decide) hg hh hJ) (fun k => absurd k (by omega))))
    · rw [if_neg g2]
      exact br_t rfl (br_t rfl (pk_le 40 c (fun _ => gl_179a hq (by decide) hg hh hJ) (fun k => absurd k (by omega))))
  · have ha : a < 0 := hn.elim id (fun k => absurd k z)
    have e1 : (if a = -2 then -2 else if c = 40 then -3 else a) = a := by
      by_cases g2 : a = -2
      · rw [if_pos g2, g2]
      · rw [if_neg g2, if_neg z]
    rw [e1]
    exact br_t rfl (pk_le 40 c (fun k => absurd k (by omega)) (fun _ => br_f hn3 (gl_179a hq ha hg hh hJ)))
/-- the road of a move done, looked at and undone -/
theorem gl_137b (ok : gm_ok e c H) (hp : p < 2) (hq : q < 49) (ea : gm_ans e c H p q = a) (ha : ¬ a < 0) (hc : c < 40) (hg : gm_M e c H g) (hh : gm_M (gm_new e p q) (c + 1) (gm_push H c e) h)
    (hJ : ∀ h', gm_M e c H h' → J96 mv (nI (q + 1)) g.1 g.2.1 g.2.2.1 g.2.2.2.1 g.2.2.2.2.1 g.2.2.2.2.2.1 g.2.2.2.2.2.2.1 g.2.2.2.2.2.2.2.1 g.2.2.2.2.2.2.2.2.1 g.2.2.2.2.2.2.2.2.2.1 g.2.2.2.2.2.2.2.2.2.2.1 g.2.2.2.2.2.2.2.2.2.2.2.1 g.2.2.2.2.2.2.2.2.2.2.2.2 h'.1 h'.2.1 h'.2.2.1 h'.2.2.2.1 h'.2.2.2.2.1 h'.2.2.2.2.2.1 h'.2.2.2.2.2.2.1 h'.2.2.2.2.2.2.2.1 h'.2.2.2.2.2.2.2.2.1 h'.2.2.2.2.2.2.2.2.2.1 h'.2.2.2.2.2.2.2.2.2.2.1 h'.2.2.2.2.2.2.2.2.2.2.2.1 h'.2.2.2.2.2.2.2.2.2.2.2.2) :
    wL_law_137 post L xs J84 J96 (nI c) (nI p) (nI q) a a mv kc ks g.1 g.2.1 g.2.2.1 g.2.2.2.1 g.2.2.2.2.1 g.2.2.2.2.2.1 g.2.2.2.2.2.2.1 g.2.2.2.2.2.2.2.1 g.2.2.2.2.2.2.2.2.1 g.2.2.2.2.2.2.2.2.2.1 g.2.2.2.2.2.2.2.2.2.2.1 g.2.2.2.2.2.2.2.2.2.2.2.1 g.2.2.2.2.2.2.2.2.2.2.2.2 h.1 h.2.1 h.2.2.1 h.2.2.2.1 h.2.2.2.2.1 h.2.2.2.2.2.1 h.2.2.2.2.2.2.1 h.2.2.2.2.2.2.2.1 h.2.2.2.2.2.2.2.2.1 h.2.2.2.2.2.2.2.2.2.1 h.2.2.2.2.2.2.2.2.2.2.1 h.2.2.2.2.2.2.2.2.2.2.2.1 h.2.2.2.2.2.2.2.2.2.2.2.2 := by
  have hn3 : ¬ a = -3 := by
    rw [← ea]
    exact gb_ans_n3 _ _ _ _ _ _ _
  have ha' := ha
  rw [← ea] at ha'
  obtain ⟨_, hf, hl⟩ := gb_ans_p ha'
  have ok' := gm_new_ok ok hp hq hc ha'
  have hat : gb_at (gm_new e p q).1 (gm_new e p q).2.1 q = nI p := gb_move_at hp (by omega) hf
  have hlib : 1 ≤ gb_sz (gb_lib (gm_new e p q).1 (gm_new e p q).2.1 q) := gb_move_lib hp (by omega) ok.2.1.1 hf hl
  have hsz := gb_sz_le (gb_lib (gm_new e p q).1 (gm_new e p q).2.1 q)
  refine pk_eq c 40 (fun z => absurd z (by omega)) (fun _ => br_t rfl (pk_le 40 c (fun k => absurd k (by omega)) (fun _ => br_f hn3 ?_)))
  have fin : wL_law_217 post L xs J84 J96 (nI c) (nI p) mv (nI q) a kc ks g.1 g.2.1 g.2.2.1 g.2.2.2.1 g.2.2.2.2.1 g.2.2.2.2.2.1 g.2.2.2.2.2.2.1 g.2.2.2.2.2.2.2.1 g.2.2.2.2.2.2.2.2.1 g.2.2.2.2.2.2.2.2.2.1 g.2.2.2.2.2.2.2.2.2.2.1 g.2.2.2.2.2.2.2.2.2.2.2.1 g.2.2.2.2.2.2.2.2.2.2.2.2 h.1 h.2.1 h.2.2.1 h.2.2.2.1 h.2.2.2.2.1 h.2.2.2.2.2.1 h.2.2.2.2.2.2.1 h.2.2.2.2.2.2.2.1 h.2.2.2.2.2.2.2.2.1 h.2.2.2.2.2.2.2.2.2.1 h.2.2.2.2.2.2.2.2.2.2.1 h.2.2.2.2.2.2.2.2.2.2.2.1 h.2.2.2.2.2.2.2.2.2.2.2.2 := by
    refine br_f ha (gm_undo ok' hh (fun h' hh' => ?_))
    rw [gm_push_s] at hh'
    have t := gl_230 (post := post) (L := L) (xs := xs) (J84 := J84) (J96 := J96) (mv := mv) (p := p) (kc := kc) (ks := ks) hq hg (gm_M_cut hh') (hJ h' (gm_M_cut hh'))
    exact t
  clear hJ
  obtain ⟨tb, tw, a1, a2, a3, rfl, hH⟩ := hh
  refine br_f ha (gw_at hq (br_t hat (gw_liberties hp hq hat (br_f ?_ (br_t (nI_1 c).symm fin)))))
  exact nI_nlt (b := 1) hlib (Nat.lt_of_le_of_lt hsz (by decide))
theorem gl_96s (ok : gm_ok e c H) (hp : p < 2) (hq : q < 49) (hg : gm_M e c H g) (hh : gm_M e c H h)
    (hJ : ∀ g' h', gm_M e c H g' → gm_M e c H h' → J96 mv (nI (q + 1)) g'.1 g'.2.1 g'.2.2.1 g'.2.2.2.1 g'.2.2.2.2.1 g'.2.2.2.2.2.1 g'.2.2.2.2.2.2.1 g'.2.2.2.2.2.2.2.1 g'.2.2.2.2.2.2.2.2.1 g'.2.2.2.2.2.2.2.2.2.1 g'.2.2.2.2.2.2.2.2.2.2.1 g'.2.2.2.2.2.2.2.2.2.2.2.1 g'.2.2.2.2.2.2.2.2.2.2.2.2 h'.1 h'.2.1 h'.2.2.1 h'.2.2.2.1 h'.2.2.2.2.1 h'.2.2.2.2.2.1 h'.2.2.2.2.2.2.1 h'.2.2.2.2.2.2.2.1 h'.2.2.2.2.2.2.2.2.1 h'.2.2.2.2.2.2.2.2.2.1 h'.2.2.2.2.2.2.2.2.2.2.1 h'.2.2.2.2.2.2.2.2.2.2.2.1 h'.2.2.2.2.2.2.2.2.2.2.2.2) (post' : Int32 → St1 → Prop)
    (hP : ∀ r h', wL_law_137 post L xs J84 J96 (nI c) (nI p) (nI q) (gm_ans e c H p q) r mv kc ks g.1 g.2.1 g.2.2.1 g.2.2.2.1 g.2.2.2.2.1 g.2.2.2.2.2.1 g.2.2.2.2.2.2.1 g.2.2.2.2.2.2.2.1 g.2.2.2.2.2.2.2.2.1 g.2.2.2.2.2.2.2.2.2.1 g.2.2.2.2.2.2.2.2.2.2.1 g.2.2.2.2.2.2.2.2.2.2.2.1 g.2.2.2.2.2.2.2.2.2.2.2.2 h'.1 h'.2.1 h'.2.2.1 h'.2.2.2.1 h'.2.2.2.2.1 h'.2.2.2.2.2.1 h'.2.2.2.2.2.2.1 h'.2.2.2.2.2.2.2.1 h'.2.2.2.2.2.2.2.2.1 h'.2.2.2.2.2.2.2.2.2.1 h'.2.2.2.2.2.2.2.2.2.2.1 h'.2.2.2.2.2.2.2.2.2.2.2.1 h'.2.2.2.2.2.2.2.2.2.2.2.2 → post' r h') : wpX_play post' h (nI p) (nI q) := by
  refine gm_play ok hh hp hq (fun z h' hh' => hP _ h' ?_) (fun z1 z2 h' hh' => hP _ h' ?_)
  · exact gl_137a ok hq z (gb_ans_n3 _ _ _ _ _ _ _) hg hh' (hJ g h' hg hh')
  · exact gl_137b ok hp hq rfl z1 z2 hg hh' (fun h2 hh2 => hJ g h2 hg hh2)
theorem gl_96 (ok : gm_ok e c H) (hp : p < 2) (hg : gm_M e c H g) (hh : gm_M e c H h) (hJ : ∀ g' h', gm_M e c H g' → gm_M e c H h' → J84 (nI (p + 1)) g'.1 g'.2.1 g'.2.2.1 g'.2.2.2.1 g'.2.2.2.2.1 g'.2.2.2.2.2.1 g'.2.2.2.2.2.2.1 g'.2.2.2.2.2.2.2.1 g'.2.2.2.2.2.2.2.2.1 g'.2.2.2.2.2.2.2.2.2.1 g'.2.2.2.2.2.2.2.2.2.2.1 g'.2.2.2.2.2.2.2.2.2.2.2.1 g'.2.2.2.2.2.2.2.2.2.2.2.2 h'.1 h'.2.1 h'.2.2.1 h'.2.2.2.1 h'.2.2.2.2.1 h'.2.2.2.2.2.1 h'.2.2.2.2.2.2.1 h'.2.2.2.2.2.2.2.1 h'.2.2.2.2.2.2.2.2.1 h'.2.2.2.2.2.2.2.2.2.1 h'.2.2.2.2.2.2.2.2.2.2.1 h'.2.2.2.2.2.2.2.2.2.2.2.1 h'.2.2.2.2.2.2.2.2.2.2.2.2) :
    ∃ n, wL_law_96 post L xs J84 (nI c) (nI p) kc ks n 0 0 g.1 g.2.1 g.2.2.1 g.2.2.2.1 g.2.2.2.2.1 g.2.2.2.2.2.1 g.2.2.2.2.2.2.1 g.2.2.2.2.2.2.2.1 g.2.2.2.2.2.2.2.2.1 g.2.2.2.2.2.2.2.2.2.1 g.2.2.2.2.2.2.2.2.2.2.1 g.2.2.2.2.2.2.2.2.2.2.2.1 g.2.2.2.2.2.2.2.2.2.2.2.2 h.1 h.2.1 h.2.2.1 h.2.2.2.1 h.2.2.2.2.1 h.2.2.2.2.2.1 h.2.2.2.2.2.2.1 h.2.2.2.2.2.2.2.1 h.2.2.2.2.2.2.2.2.1 h.2.2.2.2.2.2.2.2.2.1 h.2.2.2.2.2.2.2.2.2.2.1 h.2.2.2.2.2.2.2.2.2.2.2.1 h.2.2.2.2.2.2.2.2.2.2.2.2 := by
  refine pk_loop (σ := St1 × St1) (fun n i s => wL_law_96 post L xs J84 (nI c) (nI p) kc ks n (gm_mv (gm_ans e c H p) i) (nI i) s.1.1 s.1.2.1 s.1.2.2.1 s.1.2.2.2.1 s.1.2.2.2.2.1 s.1.2.2.2.2.2.1 s.1.2.2.2.2.2.2.1 s.1.2.2.2.2.2.2.2.1 s.1.2.2.2.2.2.2.2.2.1 s.1.2.2.2.2.2.2.2.2.2.1 s.1.2.2.2.2.2.2.2.2.2.2.1 s.1.2.2.2.2.2.2.2.2.2.2.2.1 s.1.2.2.2.2.2.2.2.2.2.2.2.2 s.2.1 s.2.2.1 s.2.2.2.1 s.2.2.2.2.1 s.2.2.2.2.2.1 s.2.2.2.2.2.2.1 s.2.2.2.2.2.2.2.1 s.2.2.2.2.2.2.2.2.1 s.2.2.2.2.2.2.2.2.2.1 s.2.2.2.2.2.2.2.2.2.2.1 s.2.2.2.2.2.2.2.2.2.2.2.1 s.2.2.2.2.2.2.2.2.2.2.2.2.1 s.2.2.2.2.2.2.2.2.2.2.2.2.2) (fun _ s => gm_M e c H s.1 ∧ gm_M e c H s.2) 49 0 (g, h) (by omega) ⟨hg, hh⟩ ?_ ?_
  · intro n s ⟨h1, h2⟩
    obtain ⟨g, h⟩ := s
    refine pk_le 49 49 (fun _ => gm_moves ok h1 hp (fun g' hg' => ?_)) (fun z => absurd z (by omega))
    have t := hJ g' h hg' h2
    obtain ⟨tb, tw, a1, a2, a3, rfl, hH⟩ := hg'
    obtain ⟨tb', tw', a1', a2', a3', rfl, hH'⟩ := h2
    exact br_t rfl (gw_equal (br_f (by decide) (nm_r (nI_1 p) t)))
  · intro n i s hi ⟨h1, h2⟩ hw
    obtain ⟨g, h⟩ := s
    have hJ' : ∀ g' h', gm_M e c H g' → gm_M e c H h' → wL_law_96 post L xs J84 (nI c) (nI p) kc ks n (gm_mv (gm_ans e c H p) (i + 1)) (nI (i + 1)) g'.1 g'.2.1 g'.2.2.1 g'.2.2.2.1 g'.2.2.2.2.1 g'.2.2.2.2.2.1 g'.2.2.2.2.2.2.1 g'.2.2.2.2.2.2.2.1 g'.2.2.2.2.2.2.2.2.1 g'.2.2.2.2.2.2.2.2.2.1 g'.2.2.2.2.2.2.2.2.2.2.1 g'.2.2.2.2.2.2.2.2.2.2.2.1 g'.2.2.2.2.2.2.2.2.2.2.2.2 h'.1 h'.2.1 h'.2.2.1 h'.2.2.2.1 h'.2.2.2.2.1 h'.2.2.2.2.2.1 h'.2.2.2.2.2.2.1 h'.2.2.2.2.2.2.2.1 h'.2.2.2.2.2.2.2.2.1 h'.2.2.2.2.2.2.2.2.2.1 h'.2.2.2.2.2.2.2.2.2.2.1 h'.2.2.2.2.2.2.2.2.2.2.2.1 h'.2.2.2.2.2.2.2.2.2.2.2.2 := fun g' h' k1 k2 => hw (g', h') ⟨k1, k2⟩
    refine pk_le 49 i (fun z => absurd z (by omega)) (fun _ => gm_trial ok h1 hp hi (fun g' hg' => ?_))
    have t := gl_96s (post := post) (L := L) (xs := xs) (J84 := J84) (kc := kc) (ks := ks) ok hp hi hg' h2 hJ'
    obtain ⟨tb, tw, a1, a2, a3, rfl, hH⟩ := hg'
    refine t _ (fun r h' k => ?_)
    obtain ⟨v1, v2, v3, v4, v5, v6, v7, v8, v9, v10, v11, v12, v13⟩ := h'
    rw [show gm_mv (gm_ans e c H p) (i + 1) = if gm_ans e c H p i < 0 then gm_mv (gm_ans e c H p) i else gm_mv (gm_ans e c H p) i + 1 from rfl] at k
    refine br_c (fun z => ?_) (fun z => ?_)
    · rw [if_pos z] at k
      exact k
    · rw [if_neg z] at k
      exact k
theorem gl_84 (ok : gm_ok e c H) (hP : post 1) (hg : gm_M e c H g) (hh : gm_M e c H h) : ∃ n, wL_law_84 post L xs (nI c) kc ks n 0 g.1 g.2.1 g.2.2.1 g.2.2.2.1 g.2.2.2.2.1 g.2.2.2.2.2.1 g.2.2.2.2.2.2.1 g.2.2.2.2.2.2.2.1 g.2.2.2.2.2.2.2.2.1 g.2.2.2.2.2.2.2.2.2.1 g.2.2.2.2.2.2.2.2.2.2.1 g.2.2.2.2.2.2.2.2.2.2.2.1 g.2.2.2.2.2.2.2.2.2.2.2.2 h.1 h.2.1 h.2.2.1 h.2.2.2.1 h.2.2.2.2.1 h.2.2.2.2.2.1 h.2.2.2.2.2.2.1 h.2.2.2.2.2.2.2.1 h.2.2.2.2.2.2.2.2.1 h.2.2.2.2.2.2.2.2.2.1 h.2.2.2.2.2.2.2.2.2.2.1 h.2.2.2.2.2.2.2.2.2.2.2.1 h.2.2.2.2.2.2.2.2.2.2.2.2 := by
  refine pk_loop (σ := St1 × St1) (fun n i s => wL_law_84 post L xs (nI c) kc ks n (nI i) s.1.1 s.1.2.1 s.1.2.2.1 s.1.2.2.2.1 s.1.2.2.2.2.1 s.1.2.2.2.2.2.1 s.1.2.2.2.2.2.2.1 s.1.2.2.2.2.2.2.2.1 s.1.2.2.2.2.2.2.2.2.1 s.1.2.2.2.2.2.2.2.2.2.1 s.1.2.2.2.2.2.2.2.2.2.2.1 s.1.2.2.2.2.2.2.2.2.2.2.2.1 s.1.2.2.2.2.2.2.2.2.2.2.2.2 s.2.1 s.2.2.1 s.2.2.2.1 s.2.2.2.2.1 s.2.2.2.2.2.1 s.2.2.2.2.2.2.1 s.2.2.2.2.2.2.2.1 s.2.2.2.2.2.2.2.2.1 s.2.2.2.2.2.2.2.2.2.1 s.2.2.2.2.2.2.2.2.2.2.1 s.2.2.2.2.2.2.2.2.2.2.2.1 s.2.2.2.2.2.2.2.2.2.2.2.2.1 s.2.2.2.2.2.2.2.2.2.2.2.2.2) (fun _ s => gm_M e c H s.1 ∧ gm_M e c H s.2) 2 0 (g, h) (by omega) ⟨hg, hh⟩ ?_ ?_
  · exact fun n s _ => pk_le 2 2 (fun _ => hP) (fun z => absurd z (by omega))
  · intro n i s hi ⟨h1, h2⟩ hw
    exact pk_le 2 i (fun z => absurd z (by omega)) (fun _ => gl_96 ok hi h1 h2 (fun g' h' k1 k2 => hw (g', h') ⟨k1, k2⟩))
end
theorem gl_18 {post : Int32 → Prop} {L : Nat} {xs : Nat → Int32} {kc ks : Nat} (hL : L ≤ 260) (hP : post 1) : ∀ (n i : Nat) (e : gm_E) (c : Nat) (H : Nat → gm_E) (g h : St1), gm_ok e c H → gm_M e c H g → gm_M e c H h → i ≤ 261 → L + 1 - i < n → wL_law_18 post L xs kc ks n (nI i) g.1 g.2.1 g.2.2.1 g.2.2.2.1 g.2.2.2.2.1 g.2.2.2.2.2.1 g.2.2.2.2.2.2.1 g.2.2.2.2.2.2.2.1 g.2.2.2.2.2.2.2.2.1 g.2.2.2.2.2.2.2.2.2.1 g.2.2.2.2.2.2.2.2.2.2.1 g.2.2.2.2.2.2.2.2.2.2.2.1 g.2.2.2.2.2.2.2.2.2.2.2.2 h.1 h.2.1 h.2.2.1 h.2.2.2.1 h.2.2.2.2.1 h.2.2.2.2.2.1 h.2.2.2.2.2.2.1 h.2.2.2.2.2.2.2.1 h.2.2.2.2.2.2.2.2.1 h.2.2.2.2.2.2.2.2.2.1 h.2.2.2.2.2.2.2.2.2.2.1 h.2.2.2.2.2.2.2.2.2.2.2.1 h.2.2.2.2.2.2.2.2.2.2.2.2 := by
  intro n
  induction n with
  | zero => exact fun i e c H g h _ _ _ _ z => absurd z (by omega)
  | succ n ih =>
    intro i e c H g h ok hg hh hi hn
    have e1 : nI i + 1 = nI (i + 1) := nI_1 i
    refine pk_le L (i + 1) (fun z => ?_) (fun z => ?_) rfl e1 (by omega) (by omega)
    · have t := gl_84 (post := post) (L := L) (xs := xs) (kc := kc) (ks := ks) ok hP hg hh
      have hs := gb_score ok.2.1.1
      obtain ⟨tb, tw, a1, a2, a3, rfl, hH⟩ := hg
      refine gw_score0 (gw_score1 (br_t ?_ t))
      rw [nI_add]
      exact nI_le (b := 49) hs (by decide)
    · have v1 : vp_in (nI i) L := vp_in_nI (by omega) (by omega)
      have v2 : vp_in (nI i + 1) L := by
        rw [e1]
        exact vp_in_nI (by omega) (by omega)
      obtain ⟨e', c', H', ok', hW⟩ := gm_turn ok (xs (nI i).toNatClampNeg) (xs (nI i + 1).toNatClampNeg)
      refine ⟨v1, v2, hW g _ hg (fun r g' hg' => ?_)⟩
      have hg2 := hg'
      obtain ⟨tb, tw, a1, a2, a3, rfl, hH⟩ := hg'
      refine ⟨v1, v2, hW h _ hh (fun r h' hh' => ?_)⟩
      have hh2 := hh'
      obtain ⟨tb', tw', a1', a2', a3', rfl, hH'⟩ := hh'
      exact nm_r (show nI i + 2 = nI (i + 2) from nI_add i 2) (ih (i + 2) e' c' H' _ _ ok' hg2 hh2 (by omega) (by omega))
theorem i_vc (xs : Nat → Int32) (L : Nat) (hL : L ≤ 260) : wpL_law (fun r => r = 1) L xs := by
  refine ⟨3, 120, by decide, by decide, gw_init (by decide) (by decide) ⟨by decide, by decide, 3, 120, by decide, by decide, gw_init (by decide) (by decide) ⟨L + 2, ?_⟩⟩⟩
  exact gl_18 (post := fun r => r = 1) (L := L) (xs := xs) (kc := 1 + 3 + 1 + 3) (ks := 13 + 120 + 13 + 120) hL rfl (L + 2) 0 (0, 0, 0, 0) 0 (fun _ => (0, 0, 0, 0)) gm_u0 gm_u0 gm_ok0 gm_M0 gm_M0 (by omega) (by omega)
end
