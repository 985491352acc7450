section
/-! bits of an int, and digits written into words (the first rows began as rows of the kit's BITS laws) -/
def dg_bt (x : Int32) (i : Nat) : Bool := x.toBitVec.getLsbD i
theorem dg_ext {x y : Int32} (h : ∀ i, i < 32 → dg_bt x i = dg_bt y i) : x = y := Int32.toBitVec_inj.mp (BitVec.eq_of_getLsbD_eq (fun i hi => h i hi))
theorem dg_or (x y : Int32) (i : Nat) : dg_bt (x ||| y) i = (dg_bt x i || dg_bt y i) := by unfold dg_bt; rw [Int32.toBitVec_or, BitVec.getLsbD_or]
theorem dg_and (x y : Int32) (i : Nat) : dg_bt (x &&& y) i = (dg_bt x i && dg_bt y i) := by unfold dg_bt; rw [Int32.toBitVec_and, BitVec.getLsbD_and]
theorem dg_xor (x y : Int32) (i : Nat) : dg_bt (x ^^^ y) i = (dg_bt x i ^^ dg_bt y i) := by unfold dg_bt; rw [Int32.toBitVec_xor, BitVec.getLsbD_xor]
theorem dg_big {x : Int32} {i : Nat} (h : 32 ≤ i) : dg_bt x i = false := BitVec.getLsbD_of_ge _ _ h
theorem dg_m1 : ∀ i, i < 32 → dg_bt (-1) i = true := by decide +kernel
theorem dg_0 (i : Nat) : dg_bt 0 i = false := BitVec.getLsbD_zero
theorem dg_1 : ∀ i, i < 32 → dg_bt 1 i = decide (i = 0) := by decide +kernel
theorem dg_sl : ∀ n, n < 32 → ((nI n &&& 31).toBitVec.smod 32).toNat = n := by decide +kernel
theorem dg_shl (n : Nat) (hn : n < 32) (x : Int32) {i : Nat} (hi : i < 32) : dg_bt (x <<< (nI n &&& 31)) i = (decide (n ≤ i) && dg_bt x (i - n)) := by
  unfold dg_bt
  rw [Int32.toBitVec_shiftLeft]
  show (x.toBitVec <<< ((nI n &&& 31).toBitVec.smod 32).toNat).getLsbD i = _
  rw [dg_sl n hn, BitVec.getLsbD_shiftLeft]
  rcases Nat.lt_or_ge i n with h | h
  · simp [h, Nat.not_le.mpr h]
  · simp [hi, h, Nat.not_lt.mpr h]
theorem dg_sshr (n : Nat) (hn : n < 32) (x : Int32) {i : Nat} (hi : i < 32) : dg_bt (x >>> (nI n &&& 31)) i = if n + i < 32 then dg_bt x (n + i) else dg_bt x 31 := by
  unfold dg_bt
  rw [Int32.toBitVec_shiftRight]
  show (x.toBitVec.sshiftRight ((nI n &&& 31).toBitVec.smod 32).toNat).getLsbD i = _
  rw [dg_sl n hn, BitVec.getLsbD_sshiftRight, BitVec.msb_eq_getLsbD_last]
  simp [hi]
/-- one bit -/
def dg_one (k : Nat) : Int32 := (1 : Int32) <<< (nI k &&& 31)
theorem dg_one_bt {k i : Nat} (hk : k < 32) (hi : i < 32) : dg_bt (dg_one k) i = decide (i = k) := by
  unfold dg_one
  rw [dg_shl k hk 1 hi]
  by_cases h : k ≤ i
  · rw [dg_1 (i - k) (by omega), decide_eq_true h, Bool.true_and]
    exact decide_eq_decide.mpr (by omega)
  · rw [decide_eq_false h, Bool.false_and, decide_eq_false (by omega)]
/-- a bit read -/
theorem dg_rd {k : Nat} (hk : k < 32) (w : Int32) : (w >>> (nI k &&& 31)) &&& 1 = (if dg_bt w k then 1 else 0) := by
  apply dg_ext
  intro i hi
  rw [dg_and, dg_1 i hi, dg_sshr k hk w hi]
  by_cases h : i = 0
  · subst h
    rw [if_pos (by omega), Nat.add_zero]
    cases dg_bt w k <;> decide
  · rw [decide_eq_false h, Bool.and_false]
    cases dg_bt w k
    · exact (dg_0 i).symm
    · show false = dg_bt 1 i
      rw [dg_1 i hi, decide_eq_false h]
theorem dg_rd1 {k : Nat} (hk : k < 32) (w : Int32) : ((w >>> (nI k &&& 31)) &&& 1 = 1) ↔ dg_bt w k = true := by
  rw [dg_rd hk]
  cases dg_bt w k <;> decide
/-- a word with a bit written -/
def dg_w (w : Int32) (k : Nat) (b : Bool) : Int32 := if b then w ||| dg_one k else w &&& (dg_one k ^^^ (-1))
theorem dg_w_bt {k i : Nat} (hk : k < 32) (hi : i < 32) (w : Int32) (b : Bool) : dg_bt (dg_w w k b) i = if i = k then b else dg_bt w i := by
  unfold dg_w
  cases b
  · rw [if_neg (by decide), dg_and, dg_xor, dg_one_bt hk hi, dg_m1 i hi]
    by_cases h : i = k
    · rw [decide_eq_true h, if_pos h]; simp
    · rw [decide_eq_false h, if_neg h]; simp
  · rw [if_pos rfl, dg_or, dg_one_bt hk hi]
    by_cases h : i = k
    · rw [decide_eq_true h, if_pos h]; simp
    · rw [decide_eq_false h, if_neg h]; simp
/-- the bit q of the words -/
def dg_wb (ws : Nat → Int32) (q : Nat) : Bool := dg_bt (ws (q / 32)) (q % 32)
theorem dg_words {ws ws' : Nat → Int32} {j : Nat} (h : ∀ t, t < 32 → dg_wb ws (32 * j + t) = dg_wb ws' (32 * j + t)) : ws j = ws' j := by
  apply dg_ext
  intro i hi
  have := h i hi
  unfold dg_wb at this
  rw [show (32 * j + i) / 32 = j by omega, show (32 * j + i) % 32 = i by omega] at this
  exact this
/-- digits of x written from the bit p on -/
def dg_put (ws : Nat → Int32) (p : Nat) (x : Int32) : Nat → (Nat → Int32)
  | 0 => ws
  | i + 1 => upd (dg_put ws p x i) ((p + i) / 32) (dg_w (dg_put ws p x i ((p + i) / 32)) ((p + i) % 32) (dg_bt x i))
theorem dg_put_bit (ws : Nat → Int32) (p : Nat) (x : Int32) (n q : Nat) : dg_wb (dg_put ws p x n) q = if p ≤ q ∧ q < p + n then dg_bt x (q - p) else dg_wb ws q := by
  induction n with
  | zero => rw [if_neg (by omega)]; rfl
  | succ n ih =>
    unfold dg_wb
    rw [dg_put]
    by_cases h : q / 32 = (p + n) / 32
    · rw [h, pk_us, dg_w_bt (by omega) (by omega)]
      by_cases h2 : q % 32 = (p + n) % 32
      · have : q = p + n := by omega
        rw [if_pos h2, if_pos (by omega), this, Nat.add_sub_cancel_left]
      · rw [if_neg h2]
        have e : dg_bt (dg_put ws p x n ((p + n) / 32)) (q % 32) = dg_wb (dg_put ws p x n) q := by unfold dg_wb; rw [h]
        rw [e, ih]
        have hne : q ≠ p + n := fun z => h2 (by rw [z])
        by_cases h3 : p ≤ q ∧ q < p + n
        · rw [if_pos h3, if_pos (by omega)]
        · rw [if_neg h3, if_neg (by omega)]
          unfold dg_wb
          rw [h]
    · rw [pk_un h]
      have e : dg_bt (dg_put ws p x n (q / 32)) (q % 32) = dg_wb (dg_put ws p x n) q := rfl
      rw [e, ih]
      have hne : q ≠ p + n := fun z => h (by rw [z])
      by_cases h3 : p ≤ q ∧ q < p + n
      · rw [if_pos h3, if_pos (by omega)]
      · rw [if_neg h3, if_neg (by omega)]
        rfl
theorem dg_put_word (ws : Nat → Int32) (p : Nat) (x : Int32) (n j : Nat) (h : j < p / 32 ∨ p + n ≤ 32 * j) : dg_put ws p x n j = ws j := by
  induction n with
  | zero => rfl
  | succ n ih =>
    rw [dg_put, pk_un (by omega)]
    exact ih (by omega)
/-- digits read from the bit p on -/
def dg_get (ws : Nat → Int32) (p : Nat) : Nat → Int32
  | 0 => 0
  | i + 1 => dg_get ws p i ||| (((ws ((p + i) / 32) >>> (nI ((p + i) % 32) &&& 31)) &&& 1) <<< (nI i &&& 31))
theorem dg_get_bit (ws : Nat → Int32) (p n : Nat) (hn : n ≤ 32) (j : Nat) : dg_bt (dg_get ws p n) j = (decide (j < n) && dg_wb ws (p + j)) := by
  induction n with
  | zero => rw [decide_eq_false (by omega)]; exact dg_0 j
  | succ n ih =>
    rw [dg_get, dg_or, ih (by omega), dg_rd (by omega)]
    rcases Nat.lt_or_ge j 32 with hj | hj
    · rw [dg_shl n (by omega) _ hj]
      by_cases h : j = n
      · subst h
        rw [decide_eq_false (Nat.lt_irrefl _), decide_eq_true (Nat.le_refl _), decide_eq_true (Nat.lt_succ_self _), Nat.sub_self]
        show (false && dg_wb ws (p + j) || (true && dg_bt (if dg_wb ws (p + j) then 1 else 0) 0)) = (true && dg_wb ws (p + j))
        cases dg_wb ws (p + j) <;> decide
      · by_cases h2 : j < n
        · rw [decide_eq_true h2, decide_eq_false (show ¬ n ≤ j by omega), decide_eq_true (show j < n + 1 by omega)]
          simp
        · rw [decide_eq_false h2, decide_eq_true (show n ≤ j by omega), decide_eq_false (show ¬ j < n + 1 by omega)]
          have : dg_bt (if dg_bt (ws ((p + n) / 32)) ((p + n) % 32) = true then 1 else 0) (j - n) = false := by
            cases dg_bt (ws ((p + n) / 32)) ((p + n) % 32)
            · exact dg_0 _
            · show dg_bt 1 (j - n) = false
              rw [dg_1 _ (by omega), decide_eq_false (by omega)]
          rw [this]
          simp
    · rw [dg_big hj, decide_eq_false (show ¬ j < n by omega), decide_eq_false (show ¬ j < n + 1 by omega)]
      simp
theorem dg_get_congr {ws ws' : Nat → Int32} {p n : Nat} (h : ∀ i, i < n → ws ((p + i) / 32) = ws' ((p + i) / 32)) : dg_get ws p n = dg_get ws' p n := by
  induction n with
  | zero => rfl
  | succ n ih => rw [dg_get, dg_get, ih (fun i hi => h i (by omega)), h n (by omega)]
theorem dg_get_same {ws : Nat → Int32} {p n : Nat} {x : Int32} (hn : n ≤ 32) (hx : ∀ m, n ≤ m → dg_bt x m = false) : dg_get (dg_put ws p x n) p n = x := by
  apply dg_ext
  intro i hi
  rw [dg_get_bit _ _ _ hn, dg_put_bit]
  by_cases h : i < n
  · rw [decide_eq_true h, if_pos (by omega), Nat.add_sub_cancel_left, Bool.true_and]
  · rw [decide_eq_false h, Bool.false_and, hx i (by omega)]
theorem dg_get_other {ws : Nat → Int32} {p n p1 w : Nat} {x : Int32} (hw : w ≤ 32) (h : p1 + w ≤ p) : dg_get (dg_put ws p x n) p1 w = dg_get ws p1 w := by
  apply dg_ext
  intro i hi
  rw [dg_get_bit _ _ _ hw, dg_get_bit _ _ _ hw, dg_put_bit]
  by_cases h2 : i < w
  · rw [if_neg (by omega)]
  · rw [decide_eq_false h2, Bool.false_and, Bool.false_and]
theorem dg_small {v w m : Nat} (hv : v < 2 ^ w) (hm : w ≤ m) : dg_bt (nI v) m = false := by
  show (BitVec.ofNat 32 v).getLsbD m = false
  rw [BitVec.getLsbD_ofNat, Nat.testBit_lt_two_pow (Nat.lt_of_lt_of_le hv (Nat.pow_le_pow_right (by omega) hm)), Bool.and_false]
/-- fields of width w, one behind the other: k of them written -/
def dg_fld (ws : Nat → Int32) (P w : Nat) (x : Nat → Int32) : Nat → (Nat → Int32)
  | 0 => ws
  | k + 1 => dg_put (dg_fld ws P w x k) (P + k * w) (x k) w
theorem dg_fld_get {ws : Nat → Int32} {P w : Nat} {x : Nat → Int32} (hw : w ≤ 32) (k : Nat) (hx : ∀ j, j < k → ∀ m, w ≤ m → dg_bt (x j) m = false) : ∀ j, j < k → dg_get (dg_fld ws P w x k) (P + j * w) w = x j := by
  induction k with
  | zero => intro j hj; omega
  | succ k ih =>
    intro j hj
    rw [dg_fld]
    by_cases h : j = k
    · subst h
      exact dg_get_same hw (hx j hj)
    · have hm : (j + 1) * w ≤ k * w := Nat.mul_le_mul_right w (by omega)
      rw [Nat.add_mul, Nat.one_mul] at hm
      rw [dg_get_other hw (by omega)]
      exact ih (fun j hj => hx j (by omega)) j (by omega)
theorem dg_fld_word {ws : Nat → Int32} {f P w : Nat} {x : Nat → Int32} (k j : Nat) (hP : P = 32 * f) (h : j < f ∨ P + k * w ≤ 32 * j) : dg_fld ws P w x k j = ws j := by
  induction k with
  | zero => rfl
  | succ k ih =>
    rw [Nat.add_mul, Nat.one_mul] at h
    rw [dg_fld, dg_put_word _ _ _ _ _ (by omega)]
    exact ih (by omega)
end
section
/-! the plain picture: widths, the different values in order, runs, steps, sizes, the pick -/
def pu_wd (x : Nat) : Nat := if x = 0 then 0 else Nat.log2 x + 1
theorem pu_wd_lt (x : Nat) : x < 2 ^ pu_wd x := by
  unfold pu_wd
  by_cases h : x = 0
  · rw [if_pos h, h]; decide
  · rw [if_neg h]; exact Nat.lt_log2_self
theorem pu_wd_le {x w : Nat} (h : x < 2 ^ w) : pu_wd x ≤ w := by
  unfold pu_wd
  by_cases h0 : x = 0
  · rw [if_pos h0]; omega
  · rw [if_neg h0]; exact (Nat.log2_lt h0).mpr h
theorem pu_wd_ge {x w : Nat} (h : w < pu_wd x) : 2 ^ w ≤ x := by
  rcases Nat.lt_or_ge x (2 ^ w) with h1 | h1
  · have := pu_wd_le h1; omega
  · exact h1
/-- S holds, in rising order, the d different values of B below m -/
def pu_dist (B : Nat → Int32) (m d : Nat) (S : Nat → Int32) : Prop :=
  d ≤ m ∧ (∀ k, k < d → ∀ j, j < k → S j < S k) ∧ (∀ i, i < m → ∃ k, k < d ∧ S k = B i) ∧ (∀ k, k < d → ∃ i, i < m ∧ B i = S k)
theorem pu_irr (x : Int32) : ¬ x < x := by rw [Int32.lt_iff_toInt_lt]; omega
theorem pu_uniq1 {B : Nat → Int32} {m d d' : Nat} {S S' : Nat → Int32} (h : pu_dist B m d S) (h' : pu_dist B m d' S') : ∀ n k, k < n → k < d → k < d' ∧ S k = S' k := by
  obtain ⟨_, h1, h2, h3⟩ := h
  obtain ⟨_, g1, g2, g3⟩ := h'
  intro n
  induction n with
  | zero => intro k hk; omega
  | succ n ih =>
    intro k hk hd
    obtain ⟨i, hi, e⟩ := h3 k hd
    obtain ⟨t, ht, e2⟩ := g2 i hi
    have e3 : S' t = S k := by rw [e2, e]
    have htk : k ≤ t := by
      rcases Nat.lt_or_ge t k with z | z
      · have q := (ih t (by omega) (by omega)).2
        have := h1 k hd t z
        rw [q, e3] at this
        exact absurd this (pu_irr _)
      · exact z
    have hd' : k < d' := by omega
    refine ⟨hd', ?_⟩
    obtain ⟨i', hi', f⟩ := g3 k hd'
    obtain ⟨t', ht', f2⟩ := h2 i' hi'
    have f3 : S t' = S' k := by rw [f2, f]
    have htk' : k ≤ t' := by
      rcases Nat.lt_or_ge t' k with z | z
      · have q := (ih t' (by omega) (by omega)).2
        have := g1 k hd' t' z
        rw [← q, f3] at this
        exact absurd this (pu_irr _)
      · exact z
    have l1 : (S' k).toInt ≤ (S k).toInt := by
      rcases Nat.lt_or_ge k t with z | z
      · have := g1 t ht k z
        rw [e3, Int32.lt_iff_toInt_lt] at this
        omega
      · rw [show t = k by omega] at e3
        rw [e3]; exact Int.le_refl _
    have l2 : (S k).toInt ≤ (S' k).toInt := by
      rcases Nat.lt_or_ge k t' with z | z
      · have := h1 t' ht' k z
        rw [f3, Int32.lt_iff_toInt_lt] at this
        omega
      · rw [show t' = k by omega] at f3
        rw [f3]; exact Int.le_refl _
    exact Int32.toInt_inj.mp (by omega)
theorem pu_uniq {B : Nat → Int32} {m d d' : Nat} {S S' : Nat → Int32} (h : pu_dist B m d S) (h' : pu_dist B m d' S') : d = d' ∧ ∀ k, k < d → S k = S' k := by
  have a := pu_uniq1 h h'
  have b := pu_uniq1 h' h
  have l1 : d ≤ d' := by
    rcases Nat.lt_or_ge d' d with z | z
    · have := (a (d' + 1) d' (by omega) z).1; omega
    · exact z
  have l2 : d' ≤ d := by
    rcases Nat.lt_or_ge d d' with z | z
    · have := (b (d + 1) d (by omega) z).1; omega
    · exact z
  exact ⟨by omega, fun k hk => (a (k + 1) k (by omega) hk).2⟩
theorem pu_pos {B : Nat → Int32} {m d : Nat} {S : Nat → Int32} (hm : 0 < m) (h : pu_dist B m d S) : 1 ≤ d := by
  obtain ⟨k, hk, _⟩ := h.2.2.1 0 hm
  omega
/-- the first is the least, the last the greatest -/
theorem pu_least {B : Nat → Int32} {m d : Nat} {S : Nat → Int32} (h : pu_dist B m d S) {i : Nat} (hi : i < m) : (S 0).toInt ≤ (B i).toInt ∧ (B i).toInt ≤ (S (d - 1)).toInt := by
  obtain ⟨k, hk, e⟩ := h.2.2.1 i hi
  rw [← e]
  constructor
  · rcases Nat.lt_or_ge 0 k with z | z
    · have := h.2.1 k hk 0 z
      rw [Int32.lt_iff_toInt_lt] at this
      omega
    · rw [show k = 0 by omega]; exact Int.le_refl _
  · rcases Nat.lt_or_ge k (d - 1) with z | z
    · have := h.2.1 (d - 1) (by omega) k z
      rw [Int32.lt_iff_toInt_lt] at this
      omega
    · rw [show d - 1 = k by omega]; exact Int.le_refl _
/-- one more value -/
theorem pu_ins {B S S' : Nat → Int32} {m d K : Nat} (h : pu_dist B m d S) (hK : K ≤ d) (hlo : ∀ j, j < K → S j < B m) (hhi : K < d → B m < S K)
    (h1 : ∀ j, j < K → S' j = S j) (h2 : S' K = B m) (h3 : ∀ j, K < j → j ≤ d → S' j = S (j - 1)) : pu_dist B (m + 1) (d + 1) S' := by
  obtain ⟨p0, p1, p2, p3⟩ := h
  refine ⟨by omega, ?_, ?_, ?_⟩
  · intro k hk j hj
    rcases Nat.lt_trichotomy k K with z | z | z
    · rw [h1 k z, h1 j (by omega)]
      exact p1 k (by omega) j hj
    · rw [z, h2, h1 j (by omega)]
      exact hlo j (by omega)
    · rw [h3 k z (by omega)]
      rcases Nat.lt_trichotomy j K with y | y | y
      · rw [h1 j y]
        exact p1 (k - 1) (by omega) j (by omega)
      · rw [y, h2]
        have q := hhi (by omega)
        rcases Nat.lt_or_ge K (k - 1) with x | x
        · have := p1 (k - 1) (by omega) K x
          rw [Int32.lt_iff_toInt_lt] at *
          omega
        · rw [show k - 1 = K by omega]
          exact q
      · rw [h3 j y (by omega)]
        exact p1 (k - 1) (by omega) (j - 1) (by omega)
  · intro i hi
    rcases Nat.lt_or_ge i m with z | z
    · obtain ⟨k, hk, e⟩ := p2 i z
      rcases Nat.lt_or_ge k K with y | y
      · exact ⟨k, by omega, by rw [h1 k y, e]⟩
      · exact ⟨k + 1, by omega, by rw [h3 (k + 1) (by omega) (by omega), Nat.add_sub_cancel, e]⟩
    · exact ⟨K, by omega, by rw [h2, show i = m by omega]⟩
  · intro k hk
    rcases Nat.lt_trichotomy k K with z | z | z
    · obtain ⟨i, hi, e⟩ := p3 k (by omega)
      exact ⟨i, by omega, by rw [h1 k z, e]⟩
    · exact ⟨m, by omega, by rw [z, h2]⟩
    · obtain ⟨i, hi, e⟩ := p3 (k - 1) (by omega)
      exact ⟨i, by omega, by rw [h3 k z (by omega), e]⟩
theorem pu_old {B S : Nat → Int32} {m d K : Nat} (h : pu_dist B m d S) (hK : K < d) (e : S K = B m) : pu_dist B (m + 1) d S := by
  obtain ⟨p0, p1, p2, p3⟩ := h
  refine ⟨by omega, p1, ?_, ?_⟩
  · intro i hi
    rcases Nat.lt_or_ge i m with z | z
    · exact p2 i z
    · exact ⟨K, hK, by rw [e, show i = m by omega]⟩
  · intro k hk
    obtain ⟨i, hi, e⟩ := p3 k hk
    exact ⟨i, by omega, e⟩
theorem pu_dist_congr {B B' S : Nat → Int32} {m d : Nat} (e : ∀ i, i < m → B i = B' i) (h : pu_dist B m d S) : pu_dist B' m d S := by
  obtain ⟨p0, p1, p2, p3⟩ := h
  refine ⟨p0, p1, ?_, ?_⟩
  · intro i hi
    rw [← e i hi]
    exact p2 i hi
  · intro k hk
    obtain ⟨i, hi, q⟩ := p3 k hk
    exact ⟨i, hi, by rw [← e i hi, q]⟩
/-- runs among the first n + 1 values -/
def pu_rc (B : Nat → Int32) : Nat → Nat
  | 0 => 1
  | n + 1 => if B (n + 1) = B n then pu_rc B n else pu_rc B n + 1
theorem pu_rc_le (B : Nat → Int32) (n : Nat) : 1 ≤ pu_rc B n ∧ pu_rc B n ≤ n + 1 := by
  induction n with
  | zero => exact ⟨Nat.le_refl _, Nat.le_refl _⟩
  | succ n ih =>
    rw [pu_rc]
    by_cases h : B (n + 1) = B n
    · rw [if_pos h]; omega
    · rw [if_neg h]; omega
theorem pu_rc_congr {B B' : Nat → Int32} (n : Nat) (e : ∀ i, i ≤ n → B i = B' i) : pu_rc B n = pu_rc B' n := by
  induction n with
  | zero => rfl
  | succ n ih => rw [pu_rc, pu_rc, ih (fun i hi => e i (by omega)), e (n + 1) (by omega), e n (by omega)]
def pu_mn (f : Nat → Int) : Nat → Int
  | 0 => f 0
  | n + 1 => if pu_mn f n ≤ f (n + 1) then pu_mn f n else f (n + 1)
def pu_mx (f : Nat → Int) : Nat → Int
  | 0 => f 0
  | n + 1 => if f (n + 1) ≤ pu_mx f n then pu_mx f n else f (n + 1)
theorem pu_mn_le (f : Nat → Int) (n i : Nat) (h : i ≤ n) : pu_mn f n ≤ f i ∧ f i ≤ pu_mx f n := by
  induction n with
  | zero => rw [show i = 0 by omega]; exact ⟨Int.le_refl _, Int.le_refl _⟩
  | succ n ih =>
    rw [pu_mn, pu_mx]
    rcases Nat.lt_or_ge i (n + 1) with z | z
    · have := ih (by omega)
      constructor
      · by_cases h1 : pu_mn f n ≤ f (n + 1)
        · rw [if_pos h1]; exact this.1
        · rw [if_neg h1]; omega
      · by_cases h1 : f (n + 1) ≤ pu_mx f n
        · rw [if_pos h1]; exact this.2
        · rw [if_neg h1]; omega
    · rw [show i = n + 1 by omega]
      constructor
      · by_cases h1 : pu_mn f n ≤ f (n + 1)
        · rw [if_pos h1]; exact h1
        · rw [if_neg h1]; omega
      · by_cases h1 : f (n + 1) ≤ pu_mx f n
        · rw [if_pos h1]; exact h1
        · rw [if_neg h1]; omega
theorem pu_mn_in (f : Nat → Int) (a b : Int) (n : Nat) (h : ∀ i, i ≤ n → a ≤ f i ∧ f i ≤ b) : (a ≤ pu_mn f n ∧ pu_mn f n ≤ b) ∧ a ≤ pu_mx f n ∧ pu_mx f n ≤ b := by
  induction n with
  | zero => exact ⟨h 0 (by omega), h 0 (by omega)⟩
  | succ n ih =>
    have q := ih (fun i hi => h i (by omega))
    have r := h (n + 1) (by omega)
    rw [pu_mn, pu_mx]
    constructor
    · by_cases h1 : pu_mn f n ≤ f (n + 1)
      · rw [if_pos h1]; exact q.1
      · rw [if_neg h1]; exact r
    · by_cases h1 : f (n + 1) ≤ pu_mx f n
      · rw [if_pos h1]; exact q.2
      · rw [if_neg h1]; exact r
theorem pu_mn_congr {f g : Nat → Int} (n : Nat) (e : ∀ i, i ≤ n → f i = g i) : pu_mn f n = pu_mn g n ∧ pu_mx f n = pu_mx g n := by
  induction n with
  | zero => exact ⟨e 0 (by omega), e 0 (by omega)⟩
  | succ n ih =>
    have q := ih (fun i hi => e i (by omega))
    rw [pu_mn, pu_mn, pu_mx, pu_mx, q.1, q.2, e (n + 1) (by omega)]
    exact ⟨rfl, rfl⟩
def pu_st (B : Nat → Int32) (i : Nat) : Int := (B (i + 1)).toInt - (B i).toInt
theorem pu_st_in (B : Nat → Int32) (i : Nat) : -4294967296 ≤ pu_st B i ∧ pu_st B i ≤ 4294967296 := by
  unfold pu_st
  have := Int32.toInt_lt (B (i + 1))
  have := Int32.le_toInt (B (i + 1))
  have := Int32.toInt_lt (B i)
  have := Int32.le_toInt (B i)
  omega
def pu_lo (B : Nat → Int32) : Int := pu_mn (pu_st B) 14
def pu_hi (B : Nat → Int32) : Int := pu_mx (pu_st B) 14
theorem pu_lo_in (B : Nat → Int32) (n : Nat) : (-4294967296 ≤ pu_mn (pu_st B) n ∧ pu_mn (pu_st B) n ≤ 4294967296) ∧ -4294967296 ≤ pu_mx (pu_st B) n ∧ pu_mx (pu_st B) n ≤ 4294967296 :=
  pu_mn_in _ _ _ n (fun i _ => pu_st_in B i)
theorem pu_lohi (B : Nat → Int32) (n : Nat) : pu_mn (pu_st B) n ≤ pu_mx (pu_st B) n := by
  have := pu_mn_le (pu_st B) n 0 (by omega)
  omega
def pu_sw0 (B : Nat → Int32) : Nat := pu_wd (pu_hi B - pu_lo B).toNat
def pu_sw (B : Nat → Int32) : Nat := if -2147483648 ≤ pu_lo B ∧ pu_hi B ≤ 2147483647 ∧ pu_sw0 B ≤ 31 then pu_sw0 B else 10000
def pu_fw (d : Nat) (S : Nat → Int32) : Nat := pu_wd ((S (d - 1)).toInt - (S 0).toInt).toNat
def pu_sz (B : Nat → Int32) (d : Nat) (S : Nat → Int32) (f : Nat) : Nat :=
  if f = 0 then 512 else if f = 1 then (if d = 1 then 32 else 10000) else if f = 2 then 37 * pu_rc B 15
  else if f = 3 then (if d ≤ 8 then 32 * d + 16 * pu_wd (d - 1) else 10000)
  else if f = 4 then (if pu_fw d S ≤ 31 then 38 + 16 * pu_fw d S else 10000)
  else (if pu_sw B = 10000 then 10000 else 70 + 15 * pu_sw B)
/-- the pick among the forms 1 .. n: the form and its size -/
def pu_pick (z : Nat → Nat) : Nat → Nat × Nat
  | 0 => (0, 512)
  | n + 1 => if (pu_pick z n).2 ≤ z (n + 1) then pu_pick z n else (n + 1, z (n + 1))
theorem pu_pick_ok (z : Nat → Nat) (n : Nat) : (pu_pick z n).2 ≤ 512 ∧ (pu_pick z n).1 ≤ n ∧ ((pu_pick z n).1 = 0 → (pu_pick z n).2 = 512) ∧ (1 ≤ (pu_pick z n).1 → z (pu_pick z n).1 = (pu_pick z n).2 ∧ (pu_pick z n).2 < 512) := by
  induction n with
  | zero => exact ⟨Nat.le_refl _, Nat.le_refl _, fun _ => rfl, fun h => absurd h (Nat.not_succ_le_zero 0)⟩
  | succ n ih =>
    rw [pu_pick]
    by_cases h : (pu_pick z n).2 ≤ z (n + 1)
    · rw [if_pos h]
      exact ⟨ih.1, by omega, ih.2.2⟩
    · rw [if_neg h]
      exact ⟨by show z (n + 1) ≤ 512; omega, Nat.le_refl _, fun q => absurd q (by show ¬ (n + 1 = 0); omega), fun _ => ⟨rfl, by show z (n + 1) < 512; omega⟩⟩
theorem pu_pick_ge (z : Nat → Nat) (n a : Nat) (ha : a ≤ 512) (h : ∀ i, 1 ≤ i → i ≤ n → a ≤ z i) : a ≤ (pu_pick z n).2 := by
  induction n with
  | zero => exact ha
  | succ n ih =>
    rw [pu_pick]
    by_cases q : (pu_pick z n).2 ≤ z (n + 1)
    · rw [if_pos q]; exact ih (fun i h1 h2 => h i h1 (by omega))
    · rw [if_neg q]; exact h (n + 1) (by omega) (by omega)
theorem pu_pick_congr {z y : Nat → Nat} (n : Nat) (h : ∀ i, 1 ≤ i → i ≤ n → z i = y i) : pu_pick z n = pu_pick y n := by
  induction n with
  | zero => rfl
  | succ n ih => rw [pu_pick, pu_pick, ih (fun i h1 h2 => h i h1 (by omega)), h (n + 1) (by omega) (by omega)]
theorem pu_sz_ge {B : Nat → Int32} {d : Nat} {S : Nat → Int32} (hd : 1 ≤ d) (f : Nat) : 32 ≤ pu_sz B d S f := by
  unfold pu_sz
  have := pu_rc_le B 15
  repeat' split
  all_goals omega
theorem pu_lo_congr {B B' : Nat → Int32} (e : ∀ i, i < 16 → B i = B' i) : pu_lo B = pu_lo B' ∧ pu_hi B = pu_hi B' := by
  unfold pu_lo pu_hi
  exact pu_mn_congr 14 (fun i hi => by unfold pu_st; rw [e i (by omega), e (i + 1) (by omega)])
theorem pu_sz_congr {B B' : Nat → Int32} {d : Nat} {S : Nat → Int32} (e : ∀ i, i < 16 → B i = B' i) (f : Nat) : pu_sz B d S f = pu_sz B' d S f := by
  have h1 := pu_rc_congr 15 (fun i hi => e i (by omega))
  have h2 : pu_sw B = pu_sw B' := by unfold pu_sw pu_sw0; rw [(pu_lo_congr e).1, (pu_lo_congr e).2]
  unfold pu_sz
  rw [h1, h2]
theorem pu_sz_uniq {B : Nat → Int32} {d d' : Nat} {S S' : Nat → Int32} (h : pu_dist B 16 d S) (h' : pu_dist B 16 d' S') (f : Nat) : pu_sz B d S f = pu_sz B d' S' f := by
  obtain ⟨e, q⟩ := pu_uniq h h'
  have := pu_pos (by omega) h
  subst e
  unfold pu_sz pu_fw
  rw [q 0 (by omega), q (d - 1) (by omega)]
/-- longs by integers -/
theorem pu_l {z : Int} (h : -2 ^ 40 ≤ z) (h' : z ≤ 2 ^ 40) : (Int64.ofInt z).toInt = z := Int64.toInt_ofInt_of_le (by omega) (by omega)
theorem pu_lle {y z : Int} (h : -2 ^ 40 ≤ y) (h' : y ≤ 2 ^ 40) (g : -2 ^ 40 ≤ z) (g' : z ≤ 2 ^ 40) : Int64.ofInt y ≤ Int64.ofInt z ↔ y ≤ z := by
  rw [Int64.le_iff_toInt_le, pu_l h h', pu_l g g']
theorem pu_llt {y z : Int} (h : -2 ^ 40 ≤ y) (h' : y ≤ 2 ^ 40) (g : -2 ^ 40 ≤ z) (g' : z ≤ 2 ^ 40) : Int64.ofInt y < Int64.ofInt z ↔ y < z := by
  rw [Int64.lt_iff_toInt_lt, pu_l h h', pu_l g g']
theorem pu_lsub (x y : Int32) : x.toInt64 - y.toInt64 = Int64.ofInt (x.toInt - y.toInt) := by
  rw [Int64.ofInt_sub, Int64.ofInt_int32ToInt, Int64.ofInt_int32ToInt]
theorem pu_lN {z : Int} (h : 0 ≤ z) : Int64.ofInt z = lN z.toNat := by
  have : z = (z.toNat : Int) := by omega
  rw [this, Int64.ofInt_eq_ofNat]
  rfl
theorem pu_shr0 {a d : Nat} {D : Int64} (hD : (D.toBitVec.smod 64).toNat = d) (h : a < 2 ^ 62) : lN a >>> D = lN (a / 2 ^ d) := by
  have hd : a / 2 ^ d ≤ a := Nat.div_le_self _ _
  apply Int64.toInt_inj.mp
  have e : (lN a >>> D).toInt = (lN a).toInt >>> d := by
    rw [← hD]
    exact BitVec.toInt_sshiftRight ..
  rw [e, Int.shiftRight_eq_div_pow, pk_lT (by omega), pk_lT (by omega)]
  rfl
theorem pu_shr {a d : Nat} (hd : d < 40) (h : a < 2 ^ 40) : lN a >>> ((nI d).toInt64 &&& 63) = lN (a / 2 ^ d) :=
  pu_shr0 ((by decide +kernel : ∀ d, d < 40 → (((nI d).toInt64 &&& 63).toBitVec.smod 64).toNat = d) d hd) (by omega)
end
section
/-! the small methods -/
theorem mt_widthOf {post : Int32 → Prop} {rc pc ds cn ga : Int32} {ls : Int64} {a1 a2 a3 a4 a5 a6 a7 a8 a9 a10 a11 a12 a13 a14 a15 a16 a17 a18 a19 a20 a21 a22 : Nat → Int32} {x : Nat} (hx : x < 2 ^ 40) (h : post (nI (pu_wd x))) : wpX_widthOf post (rc, pc, ds, cn, ga, ls, a1, a2, a3, a4, a5, a6, a7, a8, a9, a10, a11, a12, a13, a14, a15, a16, a17, a18, a19, a20, a21, a22) (lN x) := by
  have hw : pu_wd x ≤ 40 := pu_wd_le hx
  refine pk_loop (σ := Unit) (fun n i _ => wX_widthOf_5 post (lN x) rc pc ds cn ga ls a1 a2 a3 a4 a5 a6 a7 a8 a9 a10 a11 a12 a13 a14 a15 a16 a17 a18 a19 a20 a21 a22 n (nI i) (nI i)) (fun _ _ => True) (pu_wd x) 0 () (Nat.zero_le _) trivial ?_ ?_
  · intro n _ _
    refine pk_le 40 (pu_wd x) (fun _ => h) (fun z => br_t ?_ h)
    rw [pu_shr (by omega) hx, Nat.div_eq_of_lt (pu_wd_lt x)]
    rfl
  · intro n i _ hi _ hr
    refine pk_le 40 i (fun z => absurd z (by omega)) (fun z => br_f ?_ (nm_r (nI_1 i) (nm_r (nI_1 i) (hr () trivial))))
    rw [pu_shr (by omega) hx]
    have h1 := pu_wd_ge hi
    have h2 : 0 < x / 2 ^ i := Nat.div_pos h1 (Nat.two_pow_pos i)
    have h3 : x / 2 ^ i ≤ x := Nat.div_le_self _ _
    intro q
    have q' : lN (x / 2 ^ i) = lN 0 := q
    rw [pk_lEQ (by omega) (by omega)] at q'
    omega
theorem mt_at {f p i : Nat} (h : f + (p + i) / 32 < 2 ^ 31) (h2 : p + i < 2 ^ 31) : nI f + ((nI p + nI i) >>> ((5 : Int32) &&& 31)) = nI ((32 * f + p + i) / 32) := by
  rw [nI_add, pk_shrN h2 _ 5 (by decide), nI_add]
  congr 1
  show f + (p + i) / 32 = _
  omega
theorem mt_bit {p i : Nat} (f : Nat) (h2 : p + i < 2 ^ 31) : ((nI p + nI i) &&& 31) = nI ((32 * f + p + i) % 32) := by
  rw [nI_add, pk_andN (by omega) 5 (by decide)]
  congr 1
  show (p + i) % 32 = _
  omega
theorem mt_put {post : St2 → Prop} {rc pc ds cn ga : Int32} {ls : Int64} {a1 a2 a3 a4 a5 a6 a7 a8 a9 a10 a11 a12 a13 a14 a15 a16 a17 a18 a19 a20 a21 a22 : Nat → Int32} {f p w : Nat} {x : Int32} (hf : 32 * f + p + w ≤ 13824) (hw : w ≤ 32) (h : post (rc, pc, ds, cn, ga, ls, a1, a2, a3, a4, a5, a6, a7, a8, a9, dg_put a10 (32 * f + p) x w, a11, a12, a13, a14, a15, a16, a17, a18, a19, a20, a21, a22)) : wpX_putDigits post (rc, pc, ds, cn, ga, ls, a1, a2, a3, a4, a5, a6, a7, a8, a9, a10, a11, a12, a13, a14, a15, a16, a17, a18, a19, a20, a21, a22) (nI f) (nI p) (nI w) x := by
  refine pk_loop (fun n i s => wX_putDigits_3 post (nI f) (nI p) (nI w) x rc pc ds cn ga ls n (nI i) a1 a2 a3 a4 a5 a6 a7 a8 a9 s a11 a12 a13 a14 a15 a16 a17 a18 a19 a20 a21 a22) (fun i s => s = dg_put a10 (32 * f + p) x i) w 0 a10 (Nat.zero_le _) rfl ?_ ?_
  · intro n s hs
    subst hs
    exact pk_le w w (fun _ => h) (fun z => absurd z (by omega))
  · intro n i s hi hs hr
    have e1 := mt_at (f := f) (p := p) (i := i) (by omega) (by omega)
    have e2 : (1 : Int32) <<< (((nI p + nI i) &&& 31) &&& 31) = dg_one ((32 * f + p + i) % 32) := by
      rw [mt_bit f (by omega)]; rfl
    refine pk_le w i (fun z => absurd z (by omega)) (fun z => nm_r e1 (nm_r e2 ?_))
    have hK : (32 * f + p + i) / 32 < 432 := by omega
    rw [nI_clamp (by omega)]
    by_cases hb : dg_bt x i = true
    · refine br_t ((dg_rd1 (by omega) x).mpr hb) ⟨pk_in _ 432 hK, pk_in _ 432 hK, nm_e (nm_r (nI_1 i) (hr _ ?_))⟩
      rw [dg_put, ← hs, hb]
      rfl
    · refine br_f (fun z => hb ((dg_rd1 (by omega) x).mp z)) ⟨pk_in _ 432 hK, pk_in _ 432 hK, nm_e (nm_r (nI_1 i) (hr _ ?_))⟩
      rw [dg_put, ← hs, eq_false_of_ne_true hb]
      rfl
theorem mt_get {post : Int32 → Prop} {rc pc ds cn ga : Int32} {ls : Int64} {a1 a2 a3 a4 a5 a6 a7 a8 a9 a10 a11 a12 a13 a14 a15 a16 a17 a18 a19 a20 a21 a22 : Nat → Int32} {f p w : Nat} (hf : 32 * f + p + w ≤ 13824) (hw : w ≤ 32) (h : post (dg_get a10 (32 * f + p) w)) : wpX_getDigits post (rc, pc, ds, cn, ga, ls, a1, a2, a3, a4, a5, a6, a7, a8, a9, a10, a11, a12, a13, a14, a15, a16, a17, a18, a19, a20, a21, a22) (nI f) (nI p) (nI w) := by
  refine pk_loop (fun n i s => wX_getDigits_6 post (nI f) (nI p) (nI w) rc pc ds cn ga ls a1 a2 a3 a4 a5 a6 a7 a8 a9 a10 a11 a12 a13 a14 a15 a16 a17 a18 a19 a20 a21 a22 n s (nI i)) (fun i s => s = dg_get a10 (32 * f + p) i) w 0 0 (Nat.zero_le _) rfl ?_ ?_
  · intro n s hs
    subst hs
    exact pk_le w w (fun _ => h) (fun z => absurd z (by omega))
  · intro n i s hi hs hr
    have e1 := mt_at (f := f) (p := p) (i := i) (by omega) (by omega)
    have hK : (32 * f + p + i) / 32 < 432 := by omega
    refine pk_le w i (fun z => absurd z (by omega)) (fun z => nm_r e1 ⟨pk_in _ 432 hK, nm_e (nm_r (nI_1 i) (hr _ ?_))⟩)
    rw [nI_clamp (by omega), mt_bit f (by omega), dg_get, hs]
/-- the place of x among d words in order from f on -/
theorem mt_place {post : Int32 → Prop} {rc pc ds cn ga : Int32} {ls : Int64} {a1 a2 a3 a4 a5 a6 a7 a8 a9 a10 a11 a12 a13 a14 a15 a16 a17 a18 a19 a20 a21 a22 : Nat → Int32} {f d k : Nat} {x : Int32} (hf : f + d ≤ 432) (hk : k ≤ d) (hlo : ∀ j, j < k → ¬ x ≤ a10 (f + j)) (hhi : k < d → x ≤ a10 (f + k)) (h : post (nI k)) : wpX_placeInList post (rc, pc, ds, cn, ga, ls, a1, a2, a3, a4, a5, a6, a7, a8, a9, a10, a11, a12, a13, a14, a15, a16, a17, a18, a19, a20, a21, a22) (nI f) (nI d) x := by
  refine pk_loop (σ := Unit) (fun n i _ => wX_placeInList_6 post (nI f) (nI d) x rc pc ds cn ga ls a1 a2 a3 a4 a5 a6 a7 a8 a9 a10 a11 a12 a13 a14 a15 a16 a17 a18 a19 a20 a21 a22 n (nI i) (nI i)) (fun _ _ => True) k 0 () (Nat.zero_le _) trivial ?_ ?_
  · intro n _ _
    refine pk_le d k (fun _ => h) (fun z => ⟨pk_in (f + k) 432 (by omega) (nI_add f k), br_t ?_ h⟩)
    rw [nI_add, nI_clamp (by omega)]
    exact hhi z
  · intro n i _ hi _ hr
    refine pk_le d i (fun z => absurd z (by omega)) (fun z => ⟨pk_in (f + i) 432 (by omega) (nI_add f i), br_f ?_ (nm_r (nI_1 i) (nm_r (nI_1 i) (hr () trivial)))⟩)
    rw [nI_add, nI_clamp (by omega)]
    exact hlo i hi
theorem mt_runCount {post : Int32 → Prop} {rc pc ds cn ga : Int32} {ls : Int64} {a1 a2 a3 a4 a5 a6 a7 a8 a9 a10 a11 a12 a13 a14 a15 a16 a17 a18 a19 a20 a21 a22 : Nat → Int32} (h : post (nI (pu_rc a15 15))) : wpX_runCount post (rc, pc, ds, cn, ga, ls, a1, a2, a3, a4, a5, a6, a7, a8, a9, a10, a11, a12, a13, a14, a15, a16, a17, a18, a19, a20, a21, a22) := by
  refine pk_loop (σ := Unit) (fun n i _ => wX_runCount_4 post rc pc ds cn ga ls a1 a2 a3 a4 a5 a6 a7 a8 a9 a10 a11 a12 a13 a14 a15 a16 a17 a18 a19 a20 a21 a22 n (nI (pu_rc a15 (i - 1))) (nI i)) (fun i _ => 1 ≤ i) 16 1 () (by omega) (by omega) ?_ ?_
  · intro n _ _
    exact pk_le 16 16 (fun _ => h) (fun z => absurd z (by omega))
  · intro n i _ hi h1 hr
    obtain ⟨m, rfl⟩ : ∃ m, i = m + 1 := ⟨i - 1, by omega⟩
    have hr' : wX_runCount_4 post rc pc ds cn ga ls a1 a2 a3 a4 a5 a6 a7 a8 a9 a10 a11 a12 a13 a14 a15 a16 a17 a18 a19 a20 a21 a22 n (nI (pu_rc a15 (m + 1))) (nI (m + 1 + 1)) := hr () (by omega)
    show wX_runCount_4 post rc pc ds cn ga ls a1 a2 a3 a4 a5 a6 a7 a8 a9 a10 a11 a12 a13 a14 a15 a16 a17 a18 a19 a20 a21 a22 (n + 1) (nI (pu_rc a15 m)) (nI (m + 1))
    refine pk_le 16 (m + 1) (fun z => absurd z (by omega)) (fun z => ⟨pk_in _ 16 hi, pk_in m 16 (by omega) (nI_pred m), ?_⟩)
    rw [nI_pred, nI_clamp (by omega), nI_clamp (by omega)]
    rw [pu_rc] at hr'
    by_cases e : a15 (m + 1) = a15 m
    · rw [if_pos e] at hr'
      exact br_t e (nm_r (nI_1 _) hr')
    · rw [if_neg e] at hr'
      exact br_f e (nm_r (nI_1 _) (nm_r (nI_1 _) hr'))
theorem mt_stepAt {post : Int64 → Prop} {rc pc ds cn ga : Int32} {ls : Int64} {a1 a2 a3 a4 a5 a6 a7 a8 a9 a10 a11 a12 a13 a14 a15 a16 a17 a18 a19 a20 a21 a22 : Nat → Int32} {i : Nat} (hi : i < 15) (h : post (Int64.ofInt (pu_st a15 i))) : wpX_stepAt post (rc, pc, ds, cn, ga, ls, a1, a2, a3, a4, a5, a6, a7, a8, a9, a10, a11, a12, a13, a14, a15, a16, a17, a18, a19, a20, a21, a22) (nI i) := by
  refine ⟨pk_in (i + 1) 16 (by omega) (nI_1 i), pk_in i 16 (by omega), ?_⟩
  rw [nI_1, nI_clamp (by omega), nI_clamp (by omega), pu_lsub]
  exact h
theorem mt_stepWidth {post : Int32 → St2 → Prop} {rc pc ds cn ga : Int32} {ls : Int64} {a1 a2 a3 a4 a5 a6 a7 a8 a9 a10 a11 a12 a13 a14 a15 a16 a17 a18 a19 a20 a21 a22 : Nat → Int32} (h : post (nI (pu_sw a15)) (rc, pc, ds, cn, ga, Int64.ofInt (pu_lo a15), a1, a2, a3, a4, a5, a6, a7, a8, a9, a10, a11, a12, a13, a14, a15, a16, a17, a18, a19, a20, a21, a22)) : wpX_stepWidth post (rc, pc, ds, cn, ga, ls, a1, a2, a3, a4, a5, a6, a7, a8, a9, a10, a11, a12, a13, a14, a15, a16, a17, a18, a19, a20, a21, a22) := by
  have key : ∃ n, wX_stepWidth_13 post rc pc ds cn ga a1 a2 a3 a4 a5 a6 a7 a8 a9 a10 a11 a12 a13 a14 a15 a16 a17 a18 a19 a20 a21 a22 n (Int64.ofInt (pu_st a15 0)) 1 (Int64.ofInt (pu_st a15 0)) := by
    refine pk_loop (σ := Unit) (fun n i _ => wX_stepWidth_13 post rc pc ds cn ga a1 a2 a3 a4 a5 a6 a7 a8 a9 a10 a11 a12 a13 a14 a15 a16 a17 a18 a19 a20 a21 a22 n (Int64.ofInt (pu_mx (pu_st a15) (i - 1))) (nI i) (Int64.ofInt (pu_mn (pu_st a15) (i - 1)))) (fun i _ => 1 ≤ i) 15 1 () (by omega) (by omega) ?_ ?_
    · intro n _ _
      refine pk_le 16 16 (fun _ => ?_) (fun z => absurd z (by omega))
      show (Int64.ofInt (pu_lo a15) < Int64.ofInt (-2147483648) → _) ∧ (¬ Int64.ofInt (pu_lo a15) < Int64.ofInt (-2147483648) → (Int64.ofInt 2147483647 < Int64.ofInt (pu_hi a15) → _) ∧ (¬ Int64.ofInt 2147483647 < Int64.ofInt (pu_hi a15) → _))
      have b := pu_lo_in a15 14
      have b' := pu_lohi a15 14
      have hb : 0 ≤ pu_hi a15 - pu_lo a15 := by unfold pu_hi pu_lo; omega
      have hb2 : pu_hi a15 - pu_lo a15 ≤ 8589934592 := by unfold pu_hi pu_lo; omega
      have l1 : Int64.ofInt (pu_lo a15) < Int64.ofInt (-2147483648) ↔ pu_lo a15 < -2147483648 := pu_llt (by unfold pu_lo; omega) (by unfold pu_lo; omega) (by omega) (by omega)
      have l2 : Int64.ofInt 2147483647 < Int64.ofInt (pu_hi a15) ↔ 2147483647 < pu_hi a15 := pu_llt (by omega) (by omega) (by unfold pu_hi; omega) (by unfold pu_hi; omega)
      have w95 : ∀ z0 : Int32, (∀ r : Nat, r = pu_sw0 a15 → ((z0 = 0 → (post 10000 (rc, pc, ds, cn, ga, Int64.ofInt (pu_lo a15), a1, a2, a3, a4, a5, a6, a7, a8, a9, a10, a11, a12, a13, a14, a15, a16, a17, a18, a19, a20, a21, a22))) ∧ (¬ z0 = 0 → ((31 < nI r → post 10000 (rc, pc, ds, cn, ga, Int64.ofInt (pu_lo a15), a1, a2, a3, a4, a5, a6, a7, a8, a9, a10, a11, a12, a13, a14, a15, a16, a17, a18, a19, a20, a21, a22)) ∧ (¬ 31 < nI r → post (nI r) (rc, pc, ds, cn, ga, Int64.ofInt (pu_lo a15), a1, a2, a3, a4, a5, a6, a7, a8, a9, a10, a11, a12, a13, a14, a15, a16, a17, a18, a19, a20, a21, a22)))))) → wX_stepWidth_95 post (Int64.ofInt (pu_hi a15)) z0 rc pc ds cn ga (Int64.ofInt (pu_lo a15)) a1 a2 a3 a4 a5 a6 a7 a8 a9 a10 a11 a12 a13 a14 a15 a16 a17 a18 a19 a20 a21 a22 := by
        intro z0 hz
        unfold wX_stepWidth_95
        rw [← Int64.ofInt_sub, pu_lN hb]
        exact mt_widthOf (by omega) (hz _ rfl)
      have hsw : pu_sw0 a15 ≤ 40 := pu_wd_le (by omega)
      by_cases c1 : pu_lo a15 < -2147483648
      · refine br_t (l1.mpr c1) (w95 0 (fun r hr => br_t rfl ?_))
        rw [pu_sw, if_neg (by omega)] at h
        exact h
      · refine br_f (fun q => c1 (l1.mp q)) ?_
        by_cases c2 : 2147483647 < pu_hi a15
        · refine br_t (l2.mpr c2) (w95 0 (fun r hr => br_t rfl ?_))
          rw [pu_sw, if_neg (by omega)] at h
          exact h
        · refine br_f (fun q => c2 (l2.mp q)) (w95 1 (fun r hr => br_f (by decide) ?_))
          subst hr
          refine pk_lt 31 (pu_sw0 a15) (fun q => ?_) (fun q => ?_)
          · rw [pu_sw, if_neg (by omega)] at h
            exact h
          · rw [pu_sw, if_pos (by omega)] at h
            exact h
    · intro n i _ hi h1 hr
      obtain ⟨m, rfl⟩ : ∃ m, i = m + 1 := ⟨i - 1, by omega⟩
      have hr' : wX_stepWidth_13 post rc pc ds cn ga a1 a2 a3 a4 a5 a6 a7 a8 a9 a10 a11 a12 a13 a14 a15 a16 a17 a18 a19 a20 a21 a22 n (Int64.ofInt (pu_mx (pu_st a15) (m + 1))) (nI (m + 1 + 1)) (Int64.ofInt (pu_mn (pu_st a15) (m + 1))) := hr () (by omega)
      show wX_stepWidth_13 post rc pc ds cn ga a1 a2 a3 a4 a5 a6 a7 a8 a9 a10 a11 a12 a13 a14 a15 a16 a17 a18 a19 a20 a21 a22 (n + 1) (Int64.ofInt (pu_mx (pu_st a15) m)) (nI (m + 1)) (Int64.ofInt (pu_mn (pu_st a15) m))
      have b := pu_lo_in a15 m
      have s := pu_st_in a15 (m + 1)
      have l1 : Int64.ofInt (pu_mn (pu_st a15) m) ≤ Int64.ofInt (pu_st a15 (m + 1)) ↔ pu_mn (pu_st a15) m ≤ pu_st a15 (m + 1) := pu_lle (by omega) (by omega) (by omega) (by omega)
      have l2 : Int64.ofInt (pu_st a15 (m + 1)) ≤ Int64.ofInt (pu_mx (pu_st a15) m) ↔ pu_st a15 (m + 1) ≤ pu_mx (pu_st a15) m := pu_lle (by omega) (by omega) (by omega) (by omega)
      rw [pu_mn, pu_mx] at hr'
      refine pk_le 16 (m + 1 + 1) (fun z => absurd z (by omega)) (fun z => mt_stepAt (by omega) ?_) (hy := nI_1 _)
      by_cases c1 : pu_mn (pu_st a15) m ≤ pu_st a15 (m + 1)
      · rw [if_pos c1] at hr'
        refine br_t (l1.mpr c1) ?_
        by_cases c2 : pu_st a15 (m + 1) ≤ pu_mx (pu_st a15) m
        · rw [if_pos c2] at hr'
          exact br_t (l2.mpr c2) (nm_r (nI_1 _) hr')
        · rw [if_neg c2] at hr'
          exact br_f (fun q => c2 (l2.mp q)) (nm_r (nI_1 _) hr')
      · rw [if_neg c1] at hr'
        refine br_f (fun q => c1 (l1.mp q)) ?_
        by_cases c2 : pu_st a15 (m + 1) ≤ pu_mx (pu_st a15) m
        · rw [if_pos c2] at hr'
          exact br_t (l2.mpr c2) (nm_r (nI_1 _) hr')
        · rw [if_neg c2] at hr'
          exact br_f (fun q => c2 (l2.mp q)) (nm_r (nI_1 _) hr')
  unfold wpX_stepWidth
  exact mt_stepAt (i := 0) (by omega) key
theorem mt_stepWidth_2 {post : Int32 → St2 → Prop} {rc pc ds cn ga : Int32} {ls : Int64} {a1 a2 a3 a4 a5 a6 a7 a8 a9 a10 a11 a12 a13 a14 a15 a16 a17 a18 a19 a20 a21 a22 : Nat → Int32} (h : post (nI (pu_sw a15)) (rc, pc, ds, cn, ga, Int64.ofInt (pu_lo a15), a1, a2, a3, a4, a5, a6, a7, a8, a9, a10, a11, a12, a13, a14, a15, a16, a17, a18, a19, a20, a21, a22)) : wpX_stepWidth_2 post (rc, pc, ds, cn, ga, ls, a1, a2, a3, a4, a5, a6, a7, a8, a9, a10, a11, a12, a13, a14, a15, a16, a17, a18, a19, a20, a21, a22) := by
  have key : ∃ n, wX_stepWidth_2_13 post rc pc ds cn ga a1 a2 a3 a4 a5 a6 a7 a8 a9 a10 a11 a12 a13 a14 a15 a16 a17 a18 a19 a20 a21 a22 n (Int64.ofInt (pu_st a15 0)) 1 (Int64.ofInt (pu_st a15 0)) := by
    refine pk_loop (σ := Unit) (fun n i _ => wX_stepWidth_2_13 post rc pc ds cn ga a1 a2 a3 a4 a5 a6 a7 a8 a9 a10 a11 a12 a13 a14 a15 a16 a17 a18 a19 a20 a21 a22 n (Int64.ofInt (pu_mx (pu_st a15) (i - 1))) (nI i) (Int64.ofInt (pu_mn (pu_st a15) (i - 1)))) (fun i _ => 1 ≤ i) 15 1 () (by omega) (by omega) ?_ ?_
    · intro n _ _
      refine pk_le 16 16 (fun _ => ?_) (fun z => absurd z (by omega))
      show (Int64.ofInt (pu_lo a15) < Int64.ofInt (-2147483648) → _) ∧ (¬ Int64.ofInt (pu_lo a15) < Int64.ofInt (-2147483648) → (Int64.ofInt 2147483647 < Int64.ofInt (pu_hi a15) → _) ∧ (¬ Int64.ofInt 2147483647 < Int64.ofInt (pu_hi a15) → _))
      have b := pu_lo_in a15 14
      have b' := pu_lohi a15 14
      have hb : 0 ≤ pu_hi a15 - pu_lo a15 := by unfold pu_hi pu_lo; omega
      have hb2 : pu_hi a15 - pu_lo a15 ≤ 8589934592 := by unfold pu_hi pu_lo; omega
      have l1 : Int64.ofInt (pu_lo a15) < Int64.ofInt (-2147483648) ↔ pu_lo a15 < -2147483648 := pu_llt (by unfold pu_lo; omega) (by unfold pu_lo; omega) (by omega) (by omega)
      have l2 : Int64.ofInt 2147483647 < Int64.ofInt (pu_hi a15) ↔ 2147483647 < pu_hi a15 := pu_llt (by omega) (by omega) (by unfold pu_hi; omega) (by unfold pu_hi; omega)
      have w95 : ∀ z0 : Int32, (∀ r : Nat, r = pu_sw0 a15 → ((z0 = 0 → (post 10000 (rc, pc, ds, cn, ga, Int64.ofInt (pu_lo a15), a1, a2, a3, a4, a5, a6, a7, a8, a9, a10, a11, a12, a13, a14, a15, a16, a17, a18, a19, a20, a21, a22))) ∧ (¬ z0 = 0 → ((31 < nI r → post 10000 (rc, pc, ds, cn, ga, Int64.ofInt (pu_lo a15), a1, a2, a3, a4, a5, a6, a7, a8, a9, a10, a11, a12, a13, a14, a15, a16, a17, a18, a19, a20, a21, a22)) ∧ (¬ 31 < nI r → post (nI r) (rc, pc, ds, cn, ga, Int64.ofInt (pu_lo a15), a1, a2, a3, a4, a5, a6, a7, a8, a9, a10, a11, a12, a13, a14, a15, a16, a17, a18, a19, a20, a21, a22)))))) → wX_stepWidth_2_95 post (Int64.ofInt (pu_hi a15)) z0 rc pc ds cn ga (Int64.ofInt (pu_lo a15)) a1 a2 a3 a4 a5 a6 a7 a8 a9 a10 a11 a12 a13 a14 a15 a16 a17 a18 a19 a20 a21 a22 := by
        intro z0 hz
        unfold wX_stepWidth_2_95
        rw [← Int64.ofInt_sub, pu_lN hb]
        exact mt_widthOf (by omega) (hz _ rfl)
      have hsw : pu_sw0 a15 ≤ 40 := pu_wd_le (by omega)
      by_cases c1 : pu_lo a15 < -2147483648
      · refine br_t (l1.mpr c1) (w95 0 (fun r hr => br_t rfl ?_))
        rw [pu_sw, if_neg (by omega)] at h
        exact h
      · refine br_f (fun q => c1 (l1.mp q)) ?_
        by_cases c2 : 2147483647 < pu_hi a15
        · refine br_t (l2.mpr c2) (w95 0 (fun r hr => br_t rfl ?_))
          rw [pu_sw, if_neg (by omega)] at h
          exact h
        · refine br_f (fun q => c2 (l2.mp q)) (w95 1 (fun r hr => br_f (by decide) ?_))
          subst hr
          refine pk_lt 31 (pu_sw0 a15) (fun q => ?_) (fun q => ?_)
          · rw [pu_sw, if_neg (by omega)] at h
            exact h
          · rw [pu_sw, if_pos (by omega)] at h
            exact h
    · intro n i _ hi h1 hr
      obtain ⟨m, rfl⟩ : ∃ m, i = m + 1 := ⟨i - 1, by omega⟩
      have hr' : wX_stepWidth_2_13 post rc pc ds cn ga a1 a2 a3 a4 a5 a6 a7 a8 a9 a10 a11 a12 a13 a14 a15 a16 a17 a18 a19 a20 a21 a22 n (Int64.ofInt (pu_mx (pu_st a15) (m + 1))) (nI (m + 1 + 1)) (Int64.ofInt (pu_mn (pu_st a15) (m + 1))) := hr () (by omega)
      show wX_stepWidth_2_13 post rc pc ds cn ga a1 a2 a3 a4 a5 a6 a7 a8 a9 a10 a11 a12 a13 a14 a15 a16 a17 a18 a19 a20 a21 a22 (n + 1) (Int64.ofInt (pu_mx (pu_st a15) m)) (nI (m + 1)) (Int64.ofInt (pu_mn (pu_st a15) m))
      have b := pu_lo_in a15 m
      have s := pu_st_in a15 (m + 1)
      have l1 : Int64.ofInt (pu_mn (pu_st a15) m) ≤ Int64.ofInt (pu_st a15 (m + 1)) ↔ pu_mn (pu_st a15) m ≤ pu_st a15 (m + 1) := pu_lle (by omega) (by omega) (by omega) (by omega)
      have l2 : Int64.ofInt (pu_st a15 (m + 1)) ≤ Int64.ofInt (pu_mx (pu_st a15) m) ↔ pu_st a15 (m + 1) ≤ pu_mx (pu_st a15) m := pu_lle (by omega) (by omega) (by omega) (by omega)
      rw [pu_mn, pu_mx] at hr'
      refine pk_le 16 (m + 1 + 1) (fun z => absurd z (by omega)) (fun z => mt_stepAt (by omega) ?_) (hy := nI_1 _)
      by_cases c1 : pu_mn (pu_st a15) m ≤ pu_st a15 (m + 1)
      · rw [if_pos c1] at hr'
        refine br_t (l1.mpr c1) ?_
        by_cases c2 : pu_st a15 (m + 1) ≤ pu_mx (pu_st a15) m
        · rw [if_pos c2] at hr'
          exact br_t (l2.mpr c2) (nm_r (nI_1 _) hr')
        · rw [if_neg c2] at hr'
          exact br_f (fun q => c2 (l2.mp q)) (nm_r (nI_1 _) hr')
      · rw [if_neg c1] at hr'
        refine br_f (fun q => c1 (l1.mp q)) ?_
        by_cases c2 : pu_st a15 (m + 1) ≤ pu_mx (pu_st a15) m
        · rw [if_pos c2] at hr'
          exact br_t (l2.mpr c2) (nm_r (nI_1 _) hr')
        · rw [if_neg c2] at hr'
          exact br_f (fun q => c2 (l2.mp q)) (nm_r (nI_1 _) hr')
  unfold wpX_stepWidth_2
  exact mt_stepAt (i := 0) (by omega) key
theorem mt_frameWidth {post : Int32 → Prop} {rc pc cn ga : Int32} {ls : Int64} {a1 a2 a3 a4 a5 a6 a7 a8 a9 a10 a11 a12 a13 a14 a15 a16 a17 a18 a19 a20 a21 a22 : Nat → Int32} {d : Nat} (hd : 1 ≤ d) (hd2 : d ≤ 16) (hle : (a16 0).toInt ≤ (a16 (d - 1)).toInt) (h : post (nI (pu_fw d a16))) : wpX_frameWidth post (rc, pc, nI d, cn, ga, ls, a1, a2, a3, a4, a5, a6, a7, a8, a9, a10, a11, a12, a13, a14, a15, a16, a17, a18, a19, a20, a21, a22) := by
  obtain ⟨m, rfl⟩ : ∃ m, d = m + 1 := ⟨d - 1, by omega⟩
  refine ⟨pk_in m 16 (by omega) (nI_pred m), ?_⟩
  rw [nI_pred, nI_clamp (by omega), pu_lsub, pu_lN (by rw [Nat.add_sub_cancel] at hle; omega)]
  have := Int32.toInt_lt (a16 m)
  have := Int32.le_toInt (a16 0)
  exact mt_widthOf (by omega) h
end
section
/-! packing -/
theorem mt_findDistinct {post : St2 → Prop} {rc pc ds cn ga : Int32} {ls : Int64} {a1 a2 a3 a4 a5 a6 a7 a8 a9 a10 a11 a12 a13 a14 a15 a16 a17 a18 a19 a20 a21 a22 : Nat → Int32} (h : ∀ d S, pu_dist a15 16 d S → post (rc, pc, nI d, cn, ga, ls, a1, a2, a3, a4, a5, a6, a7, a8, a9, a10, a11, a12, a13, a14, a15, S, a17, a18, a19, a20, a21, a22)) : wpX_findDistinct post (rc, pc, ds, cn, ga, ls, a1, a2, a3, a4, a5, a6, a7, a8, a9, a10, a11, a12, a13, a14, a15, a16, a17, a18, a19, a20, a21, a22) := by
  refine pk_loop (σ := Nat × (Nat → Int32)) (fun n i s => wX_findDistinct_7 post rc pc cn ga ls n (nI i) (nI s.1) a1 a2 a3 a4 a5 a6 a7 a8 a9 a10 a11 a12 a13 a14 a15 s.2 a17 a18 a19 a20 a21 a22) (fun i s => pu_dist a15 i s.1 s.2) 16 0 (0, a16) (Nat.zero_le _) ⟨Nat.le_refl _, fun k hk => absurd hk (Nat.not_lt_zero _), fun k hk => absurd hk (Nat.not_lt_zero _), fun k hk => absurd hk (Nat.not_lt_zero _)⟩ ?_ ?_
  · intro n s hs
    exact pk_le 16 16 (fun _ => h s.1 s.2 hs) (fun z => absurd z (by omega))
  · intro n i s hi hs hr
    obtain ⟨d, S⟩ := s
    have hs' : pu_dist a15 i d S := hs
    have hd : d ≤ i := hs'.1
    obtain ⟨K, hK, hmin⟩ := pk_least (fun k => k = d ∨ a15 i ≤ S k) ⟨d, Or.inl rfl⟩
    have hKd : K ≤ d := by
      rcases Nat.lt_or_ge d K with z | z
      · exact absurd (Or.inl rfl) (hmin d z)
      · exact z
    have hlo : ∀ j, j < K → S j < a15 i := by
      intro j hj
      have q := hmin j hj
      have q2 : ¬ a15 i ≤ S j := fun z => q (Or.inr z)
      rw [Int32.le_iff_toInt_le] at q2
      rw [Int32.lt_iff_toInt_lt]
      omega
    have h77 : (K < d → a15 i < S K) → ∃ fu, wX_findDistinct_77 post (wX_findDistinct_7 post rc pc cn ga ls n) (nI i) (nI K) rc pc (nI d) cn ga ls fu (nI d) a1 a2 a3 a4 a5 a6 a7 a8 a9 a10 a11 a12 a13 a14 a15 S a17 a18 a19 a20 a21 a22 := by
      intro hhi
      have e : K + (d - K) = d := by omega
      have L := pk_loopD (fun n' m s => wX_findDistinct_77 post (wX_findDistinct_7 post rc pc cn ga ls n) (nI i) (nI K) rc pc (nI d) cn ga ls n' (nI (K + m)) a1 a2 a3 a4 a5 a6 a7 a8 a9 a10 a11 a12 a13 a14 a15 s a17 a18 a19 a20 a21 a22) (fun m s => K + m ≤ d ∧ ∀ t, s t = if K + m < t ∧ t ≤ d then S (t - 1) else S t) ?_ ?_ (d - K) S ⟨by omega, fun t => by rw [if_neg (by omega)]⟩
      · rw [e] at L
        exact ⟨_, L⟩
      · intro n' s q
        obtain ⟨_, q⟩ := q
        refine pk_le (K + 0) K (fun _ => ⟨pk_in i 16 hi, pk_in K 16 (by omega), nm_r (by rw [nI_clamp (show K < 2 ^ 31 by omega), nI_clamp (show i < 2 ^ 31 by omega)]) (nm_r (nI_1 d) (nm_r (nI_1 i) (hr (d + 1, upd s K (a15 i)) ?_)))⟩) (fun z => absurd z (by omega))
        refine pu_ins hs' hKd hlo hhi ?_ ?_ ?_
        · intro j hj
          show upd s K (a15 i) j = S j
          rw [pk_un (by omega), q j, if_neg (by omega)]
        · exact pk_us
        · intro j hj hj2
          show upd s K (a15 i) j = S (j - 1)
          rw [pk_un (by omega), q j, if_pos (by omega)]
      · intro n' m s q hrec
        obtain ⟨hm, q⟩ := q
        refine pk_le (K + (m + 1)) K (fun z => absurd z (by omega)) (fun _ => ⟨pk_in (K + m) 16 (by omega) (nI_pred (K + m)), pk_in (K + m + 1) 16 (by omega), nm_r (e' := upd s (K + m + 1) (s (K + m))) ?_ (nm_r (pk_m1 (K + m)) (hrec _ ⟨by omega, ?_⟩))⟩)
        · rw [nI_clamp (show K + (m + 1) < 2 ^ 31 by omega), show nI (K + (m + 1)) - 1 = nI (K + m) from nI_pred (K + m), nI_clamp (show K + m < 2 ^ 31 by omega)]
          rfl
        · intro t
          by_cases ht : t = K + m + 1
          · rw [ht, pk_us, if_pos (by omega), q (K + m), if_neg (by omega), Nat.add_sub_cancel]
          · rw [pk_un ht, q t]
            by_cases c : K + (m + 1) < t ∧ t ≤ d
            · rw [if_pos c, if_pos (by omega)]
            · rw [if_neg c, if_neg (by omega)]
    have h49 : wX_findDistinct_49 post (wX_findDistinct_7 post rc pc cn ga ls n) (nI i) (nI K) rc pc (nI d) cn ga ls a1 a2 a3 a4 a5 a6 a7 a8 a9 a10 a11 a12 a13 a14 a15 S a17 a18 a19 a20 a21 a22 := by
      refine pk_eq K d (fun z => h77 (fun y => absurd y (by omega))) (fun z => ⟨pk_in K 16 (by omega), pk_in i 16 hi, ?_⟩)
      rw [nI_clamp (show K < 2 ^ 31 by omega), nI_clamp (show i < 2 ^ 31 by omega)]
      by_cases c : S K = a15 i
      · exact br_t c (nm_r (nI_1 i) (hr (d, S) (pu_old hs' (by omega) c)))
      · refine br_f c (h77 (fun _ => ?_))
        have q : a15 i ≤ S K := hK.resolve_left z
        rw [Int32.le_iff_toInt_le] at q
        rw [Int32.lt_iff_toInt_lt]
        have : (S K).toInt ≠ (a15 i).toInt := fun y => c (Int32.toInt_inj.mp y)
        omega
    refine pk_le 16 i (fun z => absurd z (by omega)) (fun _ => ?_)
    refine pk_loop (σ := Unit) (fun n' k _ => wX_findDistinct_17 post (wX_findDistinct_7 post rc pc cn ga ls n) (nI i) rc pc (nI d) cn ga ls a1 a2 a3 a4 a5 a6 a7 a8 a9 a10 a11 a12 a13 a14 a15 S a17 a18 a19 a20 a21 a22 n' (nI k) (nI k)) (fun _ _ => True) K 0 () (Nat.zero_le _) trivial ?_ ?_
    · intro n' _ _
      refine pk_le d K (fun _ => h49) (fun z => ⟨pk_in K 16 (by omega), pk_in i 16 hi, br_t ?_ h49⟩)
      rw [nI_clamp (show K < 2 ^ 31 by omega), nI_clamp (show i < 2 ^ 31 by omega)]
      exact hK.resolve_left (by omega)
    · intro n' k _ hk _ hrec
      refine pk_le d k (fun z => absurd z (by omega)) (fun z => ⟨pk_in k 16 (by omega), pk_in i 16 hi, br_f ?_ (nm_r (nI_1 k) (nm_r (nI_1 k) (hrec () trivial)))⟩)
      rw [nI_clamp (show k < 2 ^ 31 by omega), nI_clamp (show i < 2 ^ 31 by omega)]
      exact fun y => hmin k hk (Or.inr y)
/-- runs: N of them over the first m values, from st k on -/
def rn_ok (t N m : Nat) (st : Nat → Nat) (B W L : Nat → Int32) : Prop :=
  N ≤ m ∧ (1 ≤ m → 1 ≤ N) ∧ st 0 = 0 ∧ st N = m ∧ ∀ k, k < N → st k < st (k + 1) ∧ st (k + 1) ≤ m ∧ L (16 * t + k) = nI (st (k + 1) - st k) ∧ ∀ i, st k ≤ i → i < st (k + 1) → B i = W (24 * t + k)
theorem rn_same {t N m : Nat} {st : Nat → Nat} {B W L : Nat → Int32} (h : rn_ok t N m st B W L) (hm : 1 ≤ m) (hm2 : m < 2 ^ 30) (e : B m = B (m - 1)) : rn_ok t N (m + 1) (fun k => if k = N then m + 1 else st k) B W (upd L (16 * t + N - 1) (L (16 * t + N - 1) + 1)) := by
  obtain ⟨h1, h2, h3, h4, h5⟩ := h
  have hN := h2 hm
  refine ⟨by omega, fun _ => hN, ?_, ?_, ?_⟩
  · show (if 0 = N then m + 1 else st 0) = 0
    rw [if_neg (by omega), h3]
  · show (if N = N then m + 1 else st N) = m + 1
    rw [if_pos rfl]
  · intro k hk
    obtain ⟨p1, p2, p3, p4⟩ := h5 k hk
    show (if k = N then m + 1 else st k) < (if k + 1 = N then m + 1 else st (k + 1)) ∧ (if k + 1 = N then m + 1 else st (k + 1)) ≤ m + 1 ∧ _ = nI ((if k + 1 = N then m + 1 else st (k + 1)) - (if k = N then m + 1 else st k)) ∧ ∀ i, (if k = N then m + 1 else st k) ≤ i → i < (if k + 1 = N then m + 1 else st (k + 1)) → _
    rw [if_neg (show ¬ k = N by omega)]
    by_cases c : k + 1 = N
    · rw [if_pos c]
      rw [c] at p1 p2 p3 p4
      refine ⟨by omega, by omega, ?_, ?_⟩
      · rw [show 16 * t + k = 16 * t + N - 1 by omega, pk_us]
        rw [show 16 * t + k = 16 * t + N - 1 by omega] at p3
        rw [p3, nI_1, h4]
        congr 1
        omega
      · intro i hi hi2
        by_cases ci : i = m
        · rw [ci, e]
          exact p4 (m - 1) (by omega) (by omega)
        · exact p4 i hi (by omega)
    · rw [if_neg c]
      refine ⟨p1, by omega, ?_, p4⟩
      rw [pk_un (by omega), p3]
theorem rn_new {t N m : Nat} {st : Nat → Nat} {B W L : Nat → Int32} (h : rn_ok t N m st B W L) : rn_ok t (N + 1) (m + 1) (fun k => if k = N + 1 then m + 1 else st k) B (upd W (24 * t + N) (B m)) (upd (upd L (16 * t + N) 0) (16 * t + N) (upd L (16 * t + N) 0 (16 * t + N) + 1)) := by
  obtain ⟨h1, h2, h3, h4, h5⟩ := h
  refine ⟨by omega, fun _ => by omega, ?_, ?_, ?_⟩
  · show (if 0 = N + 1 then m + 1 else st 0) = 0
    rw [if_neg (by omega), h3]
  · show (if N + 1 = N + 1 then m + 1 else st (N + 1)) = m + 1
    rw [if_pos rfl]
  · intro k hk
    show (if k = N + 1 then m + 1 else st k) < (if k + 1 = N + 1 then m + 1 else st (k + 1)) ∧ (if k + 1 = N + 1 then m + 1 else st (k + 1)) ≤ m + 1 ∧ _ = nI ((if k + 1 = N + 1 then m + 1 else st (k + 1)) - (if k = N + 1 then m + 1 else st k)) ∧ ∀ i, (if k = N + 1 then m + 1 else st k) ≤ i → i < (if k + 1 = N + 1 then m + 1 else st (k + 1)) → _
    rw [if_neg (show ¬ k = N + 1 by omega)]
    by_cases c : k = N
    · rw [c, if_pos rfl, h4]
      refine ⟨by omega, by omega, ?_, ?_⟩
      · rw [pk_us, pk_us, show m + 1 - m = 1 by omega]
        rfl
      · intro i hi hi2
        rw [pk_us, show i = m by omega]
    · obtain ⟨p1, p2, p3, p4⟩ := h5 k (by omega)
      rw [if_neg (by omega)]
      refine ⟨p1, by omega, ?_, ?_⟩
      · rw [pk_un (by omega), pk_un (by omega), p3]
      · intro i hi hi2
        rw [pk_un (by omega)]
        exact p4 i hi hi2
theorem mt_packRuns {post : St2 → Prop} {rc pc ds cn ga : Int32} {ls : Int64} {a1 a2 a3 a4 a5 a6 a7 a8 a9 a10 a11 a12 a13 a14 a15 a16 a17 a18 a19 a20 a21 a22 : Nat → Int32} {t : Nat} (ht : t < 18)
    (h : ∀ N st W L, rn_ok t N 16 st a15 W L → (∀ j, (j < 24 * t ∨ 24 * t + 24 ≤ j) → W j = a10 j) → (∀ j, (j < 16 * t ∨ 16 * t + 16 ≤ j) → L j = a11 j) → post (rc, pc, ds, cn, ga, ls, a1, a2, a3, a4, a5, upd a6 t (nI N), a7, a8, a9, W, L, a12, a13, a14, a15, a16, a17, a18, a19, a20, a21, a22)) : wpX_packRuns post (rc, pc, ds, cn, ga, ls, a1, a2, a3, a4, a5, a6, a7, a8, a9, a10, a11, a12, a13, a14, a15, a16, a17, a18, a19, a20, a21, a22) (nI t) := by
  refine pk_loop (σ := Nat × (Nat → Int32) × (Nat → Int32)) (fun n i s => wX_packRuns_4 post (nI t) rc pc ds cn ga ls n (nI s.1) (nI i) a1 a2 a3 a4 a5 a6 a7 a8 a9 s.2.1 s.2.2 a12 a13 a14 a15 a16 a17 a18 a19 a20 a21 a22)
    (fun i s => (∃ st, rn_ok t s.1 i st a15 s.2.1 s.2.2) ∧ (∀ j, (j < 24 * t ∨ 24 * t + 24 ≤ j) → s.2.1 j = a10 j) ∧ (∀ j, (j < 16 * t ∨ 16 * t + 16 ≤ j) → s.2.2 j = a11 j)) 16 0 (0, a10, a11) (Nat.zero_le _)
    ⟨⟨fun _ => 0, Nat.le_refl _, fun z => absurd z (by omega), rfl, rfl, fun k hk => absurd hk (Nat.not_lt_zero _)⟩, fun _ _ => rfl, fun _ _ => rfl⟩ ?_ ?_
  · intro n s hs
    obtain ⟨⟨st, q1⟩, q2, q3⟩ := hs
    exact pk_le 16 16 (fun _ => ⟨pk_in t 18 ht, nm_r (by rw [nI_clamp (show t < 2 ^ 31 by omega)]) (h s.1 st s.2.1 s.2.2 q1 q2 q3)⟩) (fun z => absurd z (by omega))
  · intro n i s hi hs hr
    obtain ⟨N, W, L⟩ := s
    obtain ⟨⟨st, q1⟩, q2, q3⟩ := hs
    have q1' : rn_ok t N i st a15 W L := q1
    have hN : N ≤ i := q1'.1
    have eA : 16 * nI t + nI N = nI (16 * t + N) := by rw [show (16 : Int32) = nI 16 from rfl, pk_mul, nI_add]
    have eW : 24 * nI t + nI N = nI (24 * t + N) := by rw [show (24 : Int32) = nI 24 from rfl, pk_mul, nI_add]
    have new : wX_packRuns_31 post (wX_packRuns_4 post (nI t) rc pc ds cn ga ls n) (nI t) (nI N) (nI i) rc pc ds cn ga ls a1 a2 a3 a4 a5 a6 a7 a8 a9 W L a12 a13 a14 a15 a16 a17 a18 a19 a20 a21 a22 := by
      have eB : 16 * nI t + nI (N + 1) - 1 = nI (16 * t + N) := by rw [show (16 : Int32) = nI 16 from rfl, pk_mul, nI_add]; exact nI_pred _
      refine ⟨pk_in i 16 hi, pk_in _ 432 (show 24 * t + N < 432 by omega) eW, nm_r (e' := upd W (24 * t + N) (a15 i)) (by rw [eW, nI_clamp (by omega), nI_clamp (by omega)]) ⟨pk_in _ 288 (show 16 * t + N < 288 by omega) eA, nm_r (e' := upd L (16 * t + N) 0) (by rw [eA, nI_clamp (by omega)]) (nm_r (nI_1 N) ?_)⟩⟩
      refine ⟨pk_in _ 288 (show 16 * t + N < 288 by omega) eB, pk_in _ 288 (show 16 * t + N < 288 by omega) eB, nm_r (e' := upd (upd L (16 * t + N) 0) (16 * t + N) (upd L (16 * t + N) 0 (16 * t + N) + 1)) (by rw [eB, nI_clamp (by omega)]) (nm_r (nI_1 i) (hr (N + 1, _, _) ⟨⟨_, rn_new q1'⟩, ?_, ?_⟩))⟩
      · intro j hj
        show upd W (24 * t + N) (a15 i) j = a10 j
        rw [pk_un (by omega)]
        exact q2 j hj
      · intro j hj
        show upd (upd L (16 * t + N) 0) (16 * t + N) _ j = a11 j
        rw [pk_un (by omega), pk_un (by omega)]
        exact q3 j hj
    refine pk_le 16 i (fun z => absurd z (by omega)) (fun _ => ?_)
    refine pk_eq i 0 (fun _ => new) (fun z => ?_)
    obtain ⟨m, rfl⟩ : ∃ m, i = m + 1 := ⟨i - 1, by omega⟩
    refine ⟨pk_in _ 16 hi, pk_in m 16 (by omega) (nI_pred m), ?_⟩
    rw [nI_pred, nI_clamp (by omega), nI_clamp (by omega)]
    by_cases c : a15 (m + 1) = a15 m
    · have hN1 : 1 ≤ N := q1'.2.1 (by omega)
      have eB : 16 * nI t + nI N - 1 = nI (16 * t + N - 1) := by
        rw [eA, show 16 * t + N = 16 * t + N - 1 + 1 by omega]; exact nI_pred _
      refine br_t c ⟨pk_in _ 288 (show 16 * t + N - 1 < 288 by omega) eB, pk_in _ 288 (show 16 * t + N - 1 < 288 by omega) eB, nm_r (e' := upd L (16 * t + N - 1) (L (16 * t + N - 1) + 1)) (by rw [eB, nI_clamp (by omega)]) (nm_r (nI_1 (m + 1)) (hr (N, _, _) ⟨⟨_, rn_same q1' (by omega) (by omega) c⟩, q2, ?_⟩))⟩
      intro j hj
      show upd L (16 * t + N - 1) _ j = a11 j
      rw [pk_un (by omega)]
      exact q3 j hj
    · exact br_f c new
end
section
/-! packing by lists, frames, steps -/
theorem mt_24 (t : Nat) : 24 * nI t = nI (24 * t) := by rw [show (24 : Int32) = nI 24 from rfl, pk_mul]
theorem mt_24a (t k : Nat) : 24 * nI t + nI k = nI (24 * t + k) := by rw [mt_24, nI_add]
theorem mt_16a (t k : Nat) : 16 * nI t + nI k = nI (16 * t + k) := by rw [show (16 : Int32) = nI 16 from rfl, pk_mul, nI_add]
theorem mt_3a (t k : Nat) : 3 * nI t + nI k = nI (3 * t + k) := by rw [show (3 : Int32) = nI 3 from rfl, pk_mul, nI_add]
theorem mt_lm {i w k : Nat} (hi : i < k) : i * w + w ≤ k * w := by
  have := Nat.mul_le_mul_right w (show i + 1 ≤ k by omega)
  rw [Nat.add_mul, Nat.one_mul] at this
  exact this
theorem mt_bd {w k : Nat} (hk : k ≤ 16) (hw : w ≤ 31) : k * w ≤ 496 := by
  have := Nat.mul_le_mul hk hw
  omega
theorem mt_packList {post : St2 → Prop} {rc pc cn ga : Int32} {ls : Int64} {a1 a2 a3 a4 a5 a6 a7 a8 a9 a10 a11 a12 a13 a14 a15 a16 a17 a18 a19 a20 a21 a22 : Nat → Int32} {t d : Nat} (ht : t < 18) (hd : pu_dist a15 16 d a16) (hd8 : d ≤ 8)
    (h : ∀ (ix : Nat → Nat) (W : Nat → Int32), (∀ i, i < 16 → ix i < d ∧ a16 (ix i) = a15 i ∧ dg_get W (32 * (24 * t + 8) + i * pu_wd (d - 1)) (pu_wd (d - 1)) = nI (ix i)) → (∀ k, k < d → W (24 * t + k) = a16 k) → (∀ j, (j < 24 * t ∨ 24 * t + 24 ≤ j) → W j = a10 j) → post (rc, pc, nI d, cn, ga, ls, a1, a2, a3, upd a4 t (nI (pu_wd (d - 1))), a5, upd a6 t (nI d), a7, a8, a9, W, a11, a12, a13, a14, a15, a16, a17, a18, a19, a20, a21, a22)) : wpX_packList post (rc, pc, nI d, cn, ga, ls, a1, a2, a3, a4, a5, a6, a7, a8, a9, a10, a11, a12, a13, a14, a15, a16, a17, a18, a19, a20, a21, a22) (nI t) := by
  have hd1 := pu_pos (by omega) hd
  have hw : pu_wd (d - 1) ≤ 3 := pu_wd_le (by omega)
  have hwx : ∀ k, k < d → k < 2 ^ pu_wd (d - 1) := fun k hk => by
    have := pu_wd_lt (d - 1)
    omega
  obtain ⟨ix, hix⟩ : ∃ ix : Nat → Nat, ∀ i, i < 16 → ix i < d ∧ a16 (ix i) = a15 i :=
    ⟨fun i => if q : ∃ k, k < d ∧ a16 k = a15 i then Classical.choose q else 0, fun i hi => by
      have q := hd.2.2.1 i hi
      show (if q : ∃ k, k < d ∧ a16 k = a15 i then Classical.choose q else 0) < d ∧ a16 (if q : ∃ k, k < d ∧ a16 k = a15 i then Classical.choose q else 0) = a15 i
      rw [dif_pos q]
      exact Classical.choose_spec q⟩
  generalize hwe : pu_wd (d - 1) = w at *
  refine ⟨pk_in t 18 ht, nm_r (e' := upd a6 t (nI d)) (by rw [nI_clamp (by omega)]) ?_⟩
  have e1 : (nI d - 1).toInt64 = lN (d - 1) := by
    obtain ⟨m, rfl⟩ : ∃ m, d = m + 1 := ⟨d - 1, by omega⟩
    rw [nI_pred, nI_l (by omega)]
    rfl
  rw [e1]
  refine mt_widthOf (by omega) ⟨pk_in t 18 ht, nm_r (e' := upd a4 t (nI w)) (by rw [nI_clamp (by omega), hwe]) ?_⟩
  refine pk_loop (fun n k s => wX_packList_29 post (nI t) rc pc (nI d) cn ga ls n (nI k) a1 a2 a3 (upd a4 t (nI w)) a5 (upd a6 t (nI d)) a7 a8 a9 s a11 a12 a13 a14 a15 a16 a17 a18 a19 a20 a21 a22) (fun k s => (∀ j, j < k → s (24 * t + j) = a16 j) ∧ (∀ j, (j < 24 * t ∨ 24 * t + 24 ≤ j) → s j = a10 j)) d 0 a10 (Nat.zero_le _) ⟨fun j hj => absurd hj (Nat.not_lt_zero _), fun _ _ => rfl⟩ ?_ ?_
  · intro n W1 hW1
    obtain ⟨q1, q2⟩ := hW1
    refine pk_le d d (fun _ => ?_) (fun z => absurd z (by omega))
    refine pk_loop (fun n i s => wX_packList_62 post (nI t) n (nI i) rc pc (nI d) cn ga ls a1 a2 a3 (upd a4 t (nI w)) a5 (upd a6 t (nI d)) a7 a8 a9 s a11 a12 a13 a14 a15 a16 a17 a18 a19 a20 a21 a22) (fun i s => s = dg_fld W1 (32 * (24 * t + 8)) w (fun i => nI (ix i)) i) 16 0 W1 (Nat.zero_le _) rfl ?_ ?_
    · intro n s hs
      subst hs
      refine pk_le 16 16 (fun _ => h ix _ ?_ ?_ ?_) (fun z => absurd z (by omega))
      · intro i hi
        refine ⟨(hix i hi).1, (hix i hi).2, ?_⟩
        exact dg_fld_get (by omega) 16 (fun j hj m hm => dg_small (hwx _ (hix j hj).1) hm) i hi
      · intro k hk
        rw [dg_fld_word (f := 24 * t + 8) 16 _ rfl (by omega)]
        exact q1 k hk
      · intro j hj
        rw [dg_fld_word (f := 24 * t + 8) 16 _ rfl (by omega)]
        exact q2 j hj
    · intro n i s hi hs hr
      have hbd := mt_lm (w := w) hi
      refine pk_le 16 i (fun z => absurd z (by omega)) (fun _ => ⟨pk_in i 16 hi, ?_⟩)
      rw [mt_24, nI_clamp (show i < 2 ^ 31 by omega), nI_clamp (show t < 2 ^ 31 by omega), pk_us]
      have hws : ∀ k, k < d → s (24 * t + k) = a16 k := fun k hk => by
        rw [hs, dg_fld_word (f := 24 * t + 8) i _ rfl (by omega)]
        exact q1 k hk
      refine mt_place (k := ix i) (by omega) (by have := (hix i hi).1; omega) ?_ ?_ ⟨pk_in t 18 ht, pk_in t 18 ht, ?_⟩
      · intro j hj
        rw [hws j (by have := (hix i hi).1; omega), ← (hix i hi).2, Int32.le_iff_toInt_le]
        have := hd.2.1 (ix i) (hix i hi).1 j hj
        rw [Int32.lt_iff_toInt_lt] at this
        omega
      · intro hk
        rw [hws _ hk, (hix i hi).2, Int32.le_iff_toInt_le]
        exact Int.le_refl _
      · rw [show nI (24 * t) + 8 = nI (24 * t + 8) from nI_add _ 8, pk_mul]
        refine mt_put (by omega) (by omega) (nm_r (nI_1 i) (hr _ ?_))
        rw [dg_fld, ← hs]
  · intro n k s hk hs hr
    obtain ⟨q1, q2⟩ := hs
    refine pk_le d k (fun z => absurd z (by omega)) (fun _ => ⟨pk_in k 16 (by omega), pk_in (24 * t + k) 432 (by omega) (mt_24a t k), nm_r (e' := upd s (24 * t + k) (a16 k)) (by rw [mt_24a, nI_clamp (by omega), nI_clamp (by omega)]) (nm_r (nI_1 k) (hr _ ⟨?_, ?_⟩))⟩)
    · intro j hj
      by_cases c : j = k
      · rw [c, pk_us]
      · rw [pk_un (by omega)]
        exact q1 j (by omega)
    · intro j hj
      rw [pk_un (by omega)]
      exact q2 j hj
/-- a small difference -/
theorem mt_diff {x y : Int32} (h : y.toInt ≤ x.toInt) : x - y = nI (x.toInt - y.toInt).toNat := by
  have e : x - y = Int32.ofInt (x.toInt - y.toInt) := by rw [Int32.ofInt_sub, Int32.ofInt_toInt, Int32.ofInt_toInt]
  have e2 : x.toInt - y.toInt = ((x.toInt - y.toInt).toNat : Int) := by omega
  rw [e, e2, Int32.ofInt_eq_ofNat]
  rfl
theorem mt_packFrame {post : St2 → Prop} {rc pc cn ga : Int32} {ls : Int64} {a1 a2 a3 a4 a5 a6 a7 a8 a9 a10 a11 a12 a13 a14 a15 a16 a17 a18 a19 a20 a21 a22 : Nat → Int32} {t d : Nat} (ht : t < 18) (hd : pu_dist a15 16 d a16) (hw : pu_fw d a16 ≤ 31)
    (h : ∀ W : Nat → Int32, (∀ i, i < 16 → dg_get W (32 * (24 * t) + i * pu_fw d a16) (pu_fw d a16) = a15 i - a16 0) → (∀ j, (j < 24 * t ∨ 24 * t + 24 ≤ j) → W j = a10 j) → post (rc, pc, nI d, cn, ga, ls, a1, a2, upd a3 t (a16 0), upd a4 t (nI (pu_fw d a16)), a5, a6, a7, a8, a9, W, a11, a12, a13, a14, a15, a16, a17, a18, a19, a20, a21, a22)) : wpX_packFrame post (rc, pc, nI d, cn, ga, ls, a1, a2, a3, a4, a5, a6, a7, a8, a9, a10, a11, a12, a13, a14, a15, a16, a17, a18, a19, a20, a21, a22) (nI t) := by
  have hd1 := pu_pos (by omega) hd
  have hle : (a16 0).toInt ≤ (a16 (d - 1)).toInt := by
    have := pu_least hd (show 0 < 16 by omega)
    omega
  refine ⟨pk_in t 18 ht, nm_r (e' := upd a3 t (a16 0)) (by rw [nI_clamp (by omega)]) (mt_frameWidth hd1 hd.1 hle ⟨pk_in t 18 ht, nm_r (e' := upd a4 t (nI (pu_fw d a16))) (by rw [nI_clamp (by omega)]) ?_⟩)⟩
  have hx : ∀ i, i < 16 → ∀ m, pu_fw d a16 ≤ m → dg_bt (a15 i - a16 0) m = false := by
    intro i hi m hm
    have q := pu_least hd hi
    rw [mt_diff q.1]
    refine dg_small (w := pu_fw d a16) ?_ hm
    have := pu_wd_lt ((a16 (d - 1)).toInt - (a16 0).toInt).toNat
    unfold pu_fw
    omega
  generalize pu_fw d a16 = w at *
  refine pk_loop (fun n i s => wX_packFrame_24 post (nI t) n (nI i) rc pc (nI d) cn ga ls a1 a2 (upd a3 t (a16 0)) (upd a4 t (nI w)) a5 a6 a7 a8 a9 s a11 a12 a13 a14 a15 a16 a17 a18 a19 a20 a21 a22) (fun i s => s = dg_fld a10 (32 * (24 * t)) w (fun i => a15 i - a16 0) i) 16 0 a10 (Nat.zero_le _) rfl ?_ ?_
  · intro n s hs
    subst hs
    refine pk_le 16 16 (fun _ => h _ ?_ ?_) (fun z => absurd z (by omega))
    · intro i hi
      exact dg_fld_get (by omega) 16 hx i hi
    · intro j hj
      exact dg_fld_word (f := 24 * t) 16 _ rfl (by have := mt_bd (w := w) (k := 16) (by omega) hw; omega)
  · intro n i s hi hs hr
    have hbd := mt_lm (w := w) hi
    have hbd2 := mt_bd (w := w) (k := 16) (by omega) hw
    refine pk_le 16 i (fun z => absurd z (by omega)) (fun _ => ⟨pk_in t 18 ht, pk_in t 18 ht, pk_in i 16 hi, ?_⟩)
    rw [mt_24, nI_clamp (show i < 2 ^ 31 by omega), nI_clamp (show t < 2 ^ 31 by omega), pk_us, pk_mul]
    refine mt_put (by omega) (by omega) (nm_r (nI_1 i) (hr _ ?_))
    rw [dg_fld, ← hs]
theorem mt_packSteps {post : St2 → Prop} {rc pc ds cn ga : Int32} {ls : Int64} {a1 a2 a3 a4 a5 a6 a7 a8 a9 a10 a11 a12 a13 a14 a15 a16 a17 a18 a19 a20 a21 a22 : Nat → Int32} {t : Nat} (ht : t < 18) (hw : pu_sw a15 ≤ 31)
    (h : ∀ W : Nat → Int32, (∀ i, i < 15 → dg_get W (32 * (24 * t) + i * pu_sw a15) (pu_sw a15) = nI (pu_st a15 i - pu_lo a15).toNat) → (∀ j, (j < 24 * t ∨ 24 * t + 24 ≤ j) → W j = a10 j) → post (rc, pc, ds, cn, ga, Int64.ofInt (pu_lo a15), a1, a2, upd a3 t (a15 0), upd a4 t (nI (pu_sw a15)), upd a5 t (Int32.ofInt (pu_lo a15)), a6, a7, a8, a9, W, a11, a12, a13, a14, a15, a16, a17, a18, a19, a20, a21, a22)) : wpX_packSteps post (rc, pc, ds, cn, ga, ls, a1, a2, a3, a4, a5, a6, a7, a8, a9, a10, a11, a12, a13, a14, a15, a16, a17, a18, a19, a20, a21, a22) (nI t) := by
  have hx : ∀ i, i < 15 → ∀ m, pu_sw a15 ≤ m → dg_bt (nI (pu_st a15 i - pu_lo a15).toNat) m = false := by
    intro i hi m hm
    refine dg_small (w := pu_sw a15) ?_ hm
    have c : -2147483648 ≤ pu_lo a15 ∧ pu_hi a15 ≤ 2147483647 ∧ pu_sw0 a15 ≤ 31 := by
      by_cases c : -2147483648 ≤ pu_lo a15 ∧ pu_hi a15 ≤ 2147483647 ∧ pu_sw0 a15 ≤ 31
      · exact c
      · rw [pu_sw, if_neg c] at hw; omega
    rw [pu_sw, if_pos c]
    have := pu_wd_lt (pu_hi a15 - pu_lo a15).toNat
    have := pu_mn_le (pu_st a15) 14 i (by omega)
    unfold pu_sw0
    unfold pu_lo pu_hi at *
    omega
  refine ⟨pk_in t 18 ht, nm_r (e' := upd a3 t (a15 0)) (by rw [nI_clamp (by omega)]) (mt_stepWidth ⟨pk_in t 18 ht, nm_r (e' := upd a4 t (nI (pu_sw a15))) (by rw [nI_clamp (by omega)]) ⟨pk_in t 18 ht, nm_r (e' := upd a5 t (Int32.ofInt (pu_lo a15))) (by rw [nI_clamp (by omega), Int64.toInt32_ofInt]) ?_⟩⟩)⟩
  generalize hwe : pu_sw a15 = w at *
  refine pk_loop (fun n i s => wX_packSteps_35 post (nI t) n (nI i) rc pc ds cn ga (Int64.ofInt (pu_lo a15)) a1 a2 (upd a3 t (a15 0)) (upd a4 t (nI w)) (upd a5 t (Int32.ofInt (pu_lo a15))) a6 a7 a8 a9 s a11 a12 a13 a14 a15 a16 a17 a18 a19 a20 a21 a22) (fun i s => s = dg_fld a10 (32 * (24 * t)) w (fun i => nI (pu_st a15 i - pu_lo a15).toNat) i) 15 0 a10 (Nat.zero_le _) rfl ?_ ?_
  · intro n s hs
    subst hs
    refine pk_le 16 16 (fun _ => h _ ?_ ?_) (fun z => absurd z (by omega))
    · intro i hi
      exact dg_fld_get (by omega) 15 hx i hi
    · intro j hj
      exact dg_fld_word (f := 24 * t) 15 _ rfl (by have := mt_bd (w := w) (k := 15) (by omega) hw; omega)
  · intro n i s hi hs hr
    have hbd := mt_lm (w := w) hi
    have hbd2 := mt_bd (w := w) (k := 15) (by omega) hw
    refine pk_le 16 (i + 1) (fun z => absurd z (by omega)) (fun _ => mt_stepAt hi ⟨pk_in t 18 ht, pk_in t 18 ht, ?_⟩) (hy := nI_1 i)
    have e : (Int64.ofInt (pu_st a15 i) - Int64.ofInt (pu_lo a15)).toInt32 = nI (pu_st a15 i - pu_lo a15).toNat := by
      have q := pu_mn_le (pu_st a15) 14 i (by omega)
      have q0 : 0 ≤ pu_st a15 i - pu_lo a15 := by unfold pu_lo; omega
      rw [← Int64.ofInt_sub, pu_lN q0, lN_i]
    rw [e, mt_24, nI_clamp (show t < 2 ^ 31 by omega), pk_us, pk_mul]
    refine mt_put (by omega) (by omega) (nm_r (nI_1 i) (hr _ ?_))
    rw [dg_fld, ← hs]
theorem mt_sizeOf {post : Int32 → St2 → Prop} {rc pc cn ga : Int32} {ls : Int64} {a1 a2 a3 a4 a5 a6 a7 a8 a9 a10 a11 a12 a13 a14 a15 a16 a17 a18 a19 a20 a21 a22 : Nat → Int32} {d f : Nat} (hd : pu_dist a15 16 d a16) (hf : 1 ≤ f) (hf5 : f ≤ 5)
    (h : ∀ l, post (nI (pu_sz a15 d a16 f)) (rc, pc, nI d, cn, ga, l, a1, a2, a3, a4, a5, a6, a7, a8, a9, a10, a11, a12, a13, a14, a15, a16, a17, a18, a19, a20, a21, a22)) : wpX_sizeOf post (rc, pc, nI d, cn, ga, ls, a1, a2, a3, a4, a5, a6, a7, a8, a9, a10, a11, a12, a13, a14, a15, a16, a17, a18, a19, a20, a21, a22) (nI f) := by
  have hd1 := pu_pos (by omega) hd
  have hd2 := hd.1
  unfold pu_sz at h
  rw [if_neg (by omega)] at h
  refine pk_eq f 0 (fun z => absurd z (by omega)) (fun _ => pk_eq f 1 (fun z => ?_) (fun z1 => ?_))
  · rw [if_pos z] at h
    refine pk_eq d 1 (fun y => ?_) (fun y => ?_)
    · rw [if_pos y] at h; exact h _
    · rw [if_neg y] at h; exact h _
  · rw [if_neg z1] at h
    refine pk_eq f 2 (fun z => ?_) (fun z2 => ?_)
    · rw [if_pos z] at h
      refine mt_runCount ?_
      rw [show (37 : Int32) = nI 37 from rfl, pk_mul]
      exact h _
    · rw [if_neg z2] at h
      refine pk_eq f 3 (fun z => ?_) (fun z3 => ?_)
      · rw [if_pos z] at h
        refine pk_le d 8 (fun y => ?_) (fun y => ?_)
        · rw [if_pos y] at h
          have e1 : (nI d - 1).toInt64 = lN (d - 1) := by
            obtain ⟨m, rfl⟩ : ∃ m, d = m + 1 := ⟨d - 1, by omega⟩
            rw [nI_pred, nI_l (by omega)]
            rfl
          rw [e1]
          refine mt_widthOf (by omega) ?_
          rw [show (32 : Int32) = nI 32 from rfl, pk_mul, show (16 : Int32) = nI 16 from rfl, pk_mul, nI_add]
          exact h _
        · rw [if_neg (by omega)] at h
          exact h _
      · rw [if_neg z3] at h
        refine pk_eq f 4 (fun z => ?_) (fun z4 => ?_)
        · rw [if_pos z] at h
          have hle : (a16 0).toInt ≤ (a16 (d - 1)).toInt := by
            have := pu_least hd (show 0 < 16 by omega)
            omega
          have hfw : pu_fw d a16 ≤ 40 := by
            refine pu_wd_le ?_
            have := Int32.toInt_lt (a16 (d - 1))
            have := Int32.le_toInt (a16 0)
            omega
          refine mt_frameWidth hd1 hd2 hle (pk_le (pu_fw d a16) 31 (fun y => ?_) (fun y => ?_))
          · rw [if_pos y] at h
            rw [show (38 : Int32) = nI 38 from rfl, show (16 : Int32) = nI 16 from rfl, pk_mul, nI_add]
            exact h _
          · rw [if_neg (by omega)] at h
            exact h _
        · rw [if_neg z4] at h
          have hsw : pu_sw a15 ≤ 10000 := by
            unfold pu_sw
            by_cases c : -2147483648 ≤ pu_lo a15 ∧ pu_hi a15 ≤ 2147483647 ∧ pu_sw0 a15 ≤ 31
            · rw [if_pos c]; omega
            · rw [if_neg c]; omega
          refine mt_stepWidth_2 (pk_eq (pu_sw a15) 10000 (fun y => ?_) (fun y => ?_))
          · rw [if_pos y] at h
            exact h _
          · rw [if_neg y] at h
            rw [show (70 : Int32) = nI 70 from rfl, show (15 : Int32) = nI 15 from rfl, pk_mul, nI_add]
            exact h _
end
section
/-! what a packed column is, and that packing makes it -/
abbrev pa_T : Type := (Nat → Int32) × (Nat → Int32) × (Nat → Int32) × (Nat → Int32) × (Nat → Int32) × (Nat → Int32) × (Nat → Int32) × (Nat → Int32) × (Nat → Int32) × (Nat → Int32)
/-- the column t of a block holds B -/
def en_ok (p : pa_T) (t : Nat) (B : Nat → Int32) : Prop :=
  (p.1 t = nI 0 ∧ ∀ i, i < 16 → p.2.2.2.2.2.2.2.2.1 (24 * t + i) = B i) ∨
  (p.1 t = nI 1 ∧ ∀ i, i < 16 → p.2.1 t = B i) ∨
  (p.1 t = nI 2 ∧ ∃ N st, p.2.2.2.2.1 t = nI N ∧ rn_ok t N 16 st B p.2.2.2.2.2.2.2.2.1 p.2.2.2.2.2.2.2.2.2) ∨
  (p.1 t = nI 3 ∧ ∃ d w, 1 ≤ d ∧ d ≤ 8 ∧ w ≤ 3 ∧ p.2.2.2.2.1 t = nI d ∧ p.2.2.1 t = nI w ∧ p.2.2.2.2.2.2.2.2.1 (24 * t) = p.2.2.2.2.2.1 t ∧ ∀ i, i < 16 → ∃ k, k < 8 ∧ dg_get p.2.2.2.2.2.2.2.2.1 (32 * (24 * t + 8) + i * w) w = nI k ∧ p.2.2.2.2.2.2.2.2.1 (24 * t + k) = B i) ∨
  (p.1 t = nI 4 ∧ ∃ w, w ≤ 31 ∧ p.2.2.1 t = nI w ∧ ∀ i, i < 16 → p.2.1 t + dg_get p.2.2.2.2.2.2.2.2.1 (32 * (24 * t) + i * w) w = B i) ∨
  (p.1 t = nI 5 ∧ ∃ w, w ≤ 31 ∧ p.2.2.1 t = nI w ∧ p.2.1 t = B 0 ∧ ∀ i, i < 15 → B i + p.2.2.2.1 t + dg_get p.2.2.2.2.2.2.2.2.1 (32 * (24 * t) + i * w) w = B (i + 1))
/-- .. and its form, its size, its bounds are the picked ones -/
def bk_ok (p : pa_T) (t : Nat) (B : Nat → Int32) : Prop :=
  en_ok p t B ∧ ∃ d S, pu_dist B 16 d S ∧ p.2.2.2.2.2.1 t = S 0 ∧ p.2.2.2.2.2.2.1 t = S (d - 1) ∧ p.1 t = nI (pu_pick (pu_sz B d S) 5).1 ∧ p.2.2.2.2.2.2.2.1 t = nI (pu_pick (pu_sz B d S) 5).2
/-- what packing the column t leaves -/
def fr_ok (t : Nat) (p p' : pa_T) : Prop :=
  (∀ j, j ≠ t → p'.1 j = p.1 j ∧ p'.2.1 j = p.2.1 j ∧ p'.2.2.1 j = p.2.2.1 j ∧ p'.2.2.2.1 j = p.2.2.2.1 j ∧ p'.2.2.2.2.1 j = p.2.2.2.2.1 j ∧ p'.2.2.2.2.2.1 j = p.2.2.2.2.2.1 j ∧ p'.2.2.2.2.2.2.1 j = p.2.2.2.2.2.2.1 j ∧ p'.2.2.2.2.2.2.2.1 j = p.2.2.2.2.2.2.2.1 j) ∧
  (∀ j, (j < 24 * t ∨ 24 * t + 24 ≤ j) → p'.2.2.2.2.2.2.2.2.1 j = p.2.2.2.2.2.2.2.2.1 j) ∧ (∀ j, (j < 16 * t ∨ 16 * t + 16 ≤ j) → p'.2.2.2.2.2.2.2.2.2 j = p.2.2.2.2.2.2.2.2.2 j)
theorem bk_fr {p p' : pa_T} {t t' : Nat} {B : Nat → Int32} (h : bk_ok p t B) (f : fr_ok t' p p') (hn : t ≠ t') : bk_ok p' t B := by
  obtain ⟨f1, f2, f3⟩ := f
  obtain ⟨g2, g3, g4, g5, g6, g7, g8, g9⟩ := f1 t hn
  have w10 : ∀ j, j < 24 → p'.2.2.2.2.2.2.2.2.1 (24 * t + j) = p.2.2.2.2.2.2.2.2.1 (24 * t + j) := fun j hj => f2 _ (by omega)
  have w0 : p'.2.2.2.2.2.2.2.2.1 (24 * t) = p.2.2.2.2.2.2.2.2.1 (24 * t) := f2 _ (by omega)
  have w11 : ∀ j, j < 16 → p'.2.2.2.2.2.2.2.2.2 (16 * t + j) = p.2.2.2.2.2.2.2.2.2 (16 * t + j) := fun j hj => f3 _ (by omega)
  have gt : ∀ e i w, (e = 0 ∧ w ≤ 31 ∨ e = 8 ∧ w ≤ 3) → i < 16 → dg_get p'.2.2.2.2.2.2.2.2.1 (32 * (24 * t + e) + i * w) w = dg_get p.2.2.2.2.2.2.2.2.1 (32 * (24 * t + e) + i * w) w := by
    intro e i w he hi
    apply dg_get_congr
    intro j hj
    have h1 := mt_lm (w := w) hi
    have h2 : 16 * w = w * 16 := Nat.mul_comm _ _
    apply f2
    omega
  have gt0 : ∀ i w, w ≤ 31 → i < 16 → dg_get p'.2.2.2.2.2.2.2.2.1 (32 * (24 * t) + i * w) w = dg_get p.2.2.2.2.2.2.2.2.1 (32 * (24 * t) + i * w) w := fun i w h1 h2 => gt 0 i w (Or.inl ⟨rfl, h1⟩) h2
  obtain ⟨he, hd⟩ := h
  refine ⟨?_, ?_⟩
  · unfold en_ok at *
    rw [g2, g3, g4, g5, g6, g7, w0]
    rcases he with ⟨c, he⟩ | ⟨c, he⟩ | ⟨c, N, st, e6, r1, r2, r3, r4, r5⟩ | ⟨c, d, w, e1, e2, e3, e4, e5, e6, e7⟩ | ⟨c, w, e1, e2, e3⟩ | ⟨c, w, e1, e2, e3, e4⟩
    · exact Or.inl ⟨c, fun i hi => by rw [w10 i (by omega)]; exact he i hi⟩
    · exact Or.inr (Or.inl ⟨c, he⟩)
    · refine Or.inr (Or.inr (Or.inl ⟨c, N, st, e6, r1, r2, r3, r4, fun k hk => ?_⟩))
      rw [w11 k (by omega), w10 k (by omega)]
      exact r5 k hk
    · refine Or.inr (Or.inr (Or.inr (Or.inl ⟨c, d, w, e1, e2, e3, e4, e5, e6, fun i hi => ?_⟩)))
      obtain ⟨k, hk, q1, q2⟩ := e7 i hi
      exact ⟨k, hk, by rw [gt 8 i w (Or.inr ⟨rfl, e3⟩) hi]; exact q1, by rw [w10 k (by omega)]; exact q2⟩
    · refine Or.inr (Or.inr (Or.inr (Or.inr (Or.inl ⟨c, w, e1, e2, fun i hi => ?_⟩))))
      rw [gt0 i w e1 hi]
      exact e3 i hi
    · refine Or.inr (Or.inr (Or.inr (Or.inr (Or.inr ⟨c, w, e1, e2, e3, fun i hi => ?_⟩))))
      rw [gt0 i w e1 (by omega)]
      exact e4 i hi
  · obtain ⟨d, S, q⟩ := hd
    rw [g2, g7, g8, g9]
    exact ⟨d, S, q⟩
theorem bk_congr {p : pa_T} {t : Nat} {B B' : Nat → Int32} (e : ∀ i, i < 16 → B i = B' i) (h : bk_ok p t B) : bk_ok p t B' := by
  obtain ⟨he, d, S, q1, q2, q3, q4, q5⟩ := h
  refine ⟨?_, d, S, pu_dist_congr e q1, q2, q3, ?_, ?_⟩
  · unfold en_ok at *
    rcases he with ⟨c, he⟩ | ⟨c, he⟩ | ⟨c, N, st, e6, r1, r2, r3, r4, r5⟩ | ⟨c, d, w, e1, e2, e3, e4, e5, e6, e7⟩ | ⟨c, w, e1, e2, e3⟩ | ⟨c, w, e1, e2, e3, e4⟩
    · exact Or.inl ⟨c, fun i hi => by rw [← e i hi]; exact he i hi⟩
    · exact Or.inr (Or.inl ⟨c, fun i hi => by rw [← e i hi]; exact he i hi⟩)
    · refine Or.inr (Or.inr (Or.inl ⟨c, N, st, e6, r1, r2, r3, r4, fun k hk => ?_⟩))
      obtain ⟨s1, s2, s3, s4⟩ := r5 k hk
      exact ⟨s1, s2, s3, fun i hi hi2 => by rw [← e i (by omega)]; exact s4 i hi hi2⟩
    · refine Or.inr (Or.inr (Or.inr (Or.inl ⟨c, d, w, e1, e2, e3, e4, e5, e6, fun i hi => ?_⟩)))
      rw [← e i hi]
      exact e7 i hi
    · refine Or.inr (Or.inr (Or.inr (Or.inr (Or.inl ⟨c, w, e1, e2, fun i hi => ?_⟩))))
      rw [← e i hi]
      exact e3 i hi
    · refine Or.inr (Or.inr (Or.inr (Or.inr (Or.inr ⟨c, w, e1, e2, by rw [← e 0 (by omega)]; exact e3, fun i hi => ?_⟩))))
      rw [← e i (by omega), ← e (i + 1) (by omega)]
      exact e4 i hi
  · rw [q4, pu_pick_congr 5 (fun i _ _ => pu_sz_congr e i)]
  · rw [q5, pu_pick_congr 5 (fun i _ _ => pu_sz_congr e i)]
theorem mt_pack {post : St2 → Prop} {rc pc ds cn ga : Int32} {ls : Int64} {a1 a2 a3 a4 a5 a6 a7 a8 a9 a10 a11 a12 a13 a14 a15 a16 a17 a18 a19 a20 a21 a22 : Nat → Int32} {t : Nat} (ht : t < 18)
    (h : ∀ (D : Int32) (l : Int64) (S : Nat → Int32) (p : pa_T), fr_ok t (a2, a3, a4, a5, a6, a7, a8, a9, a10, a11) p → bk_ok p t a15 → post (rc, pc, D, cn, ga, l, a1, p.1, p.2.1, p.2.2.1, p.2.2.2.1, p.2.2.2.2.1, p.2.2.2.2.2.1, p.2.2.2.2.2.2.1, p.2.2.2.2.2.2.2.1, p.2.2.2.2.2.2.2.2.1, p.2.2.2.2.2.2.2.2.2, a12, a13, a14, a15, S, a17, a18, a19, a20, a21, a22)) : wpX_pack post (rc, pc, ds, cn, ga, ls, a1, a2, a3, a4, a5, a6, a7, a8, a9, a10, a11, a12, a13, a14, a15, a16, a17, a18, a19, a20, a21, a22) (nI t) := by
  unfold wpX_pack
  refine mt_findDistinct (fun d S hd => ?_)
  have hd1 := pu_pos (by omega) hd
  have hd2 := hd.1
  have pok := pu_pick_ok (pu_sz a15 d S)
  have hex : ∀ n l, wX_pack_13 post (nI t) (n + 1) (nI (pu_pick (pu_sz a15 d S) 5).1) (nI (pu_pick (pu_sz a15 d S) 5).2) (nI 6) rc pc (nI d) cn ga l a1 a2 a3 a4 a5 a6 a7 a8 a9 a10 a11 a12 a13 a14 a15 S a17 a18 a19 a20 a21 a22 := by
    intro n l
    have tail : ∀ b3 b4 b5 b6 b10 b11 : Nat → Int32, (∀ j, j ≠ t → b3 j = a3 j ∧ b4 j = a4 j ∧ b5 j = a5 j ∧ b6 j = a6 j) → (∀ j, (j < 24 * t ∨ 24 * t + 24 ≤ j) → b10 j = a10 j) → (∀ j, (j < 16 * t ∨ 16 * t + 16 ≤ j) → b11 j = a11 j) →
        en_ok (upd a2 t (nI (pu_pick (pu_sz a15 d S) 5).1), b3, b4, b5, b6, upd a7 t (S 0), upd a8 t (S (d - 1)), upd a9 t (nI (pu_pick (pu_sz a15 d S) 5).2), b10, b11) t a15 →
        ∀ l', post (rc, pc, nI d, cn, ga, l', a1, upd a2 t (nI (pu_pick (pu_sz a15 d S) 5).1), b3, b4, b5, b6, upd a7 t (S 0), upd a8 t (S (d - 1)), upd a9 t (nI (pu_pick (pu_sz a15 d S) 5).2), b10, b11, a12, a13, a14, a15, S, a17, a18, a19, a20, a21, a22) := by
      intro b3 b4 b5 b6 b10 b11 q1 q2 q3 q4 l'
      refine h (nI d) l' S (upd a2 t (nI (pu_pick (pu_sz a15 d S) 5).1), b3, b4, b5, b6, upd a7 t (S 0), upd a8 t (S (d - 1)), upd a9 t (nI (pu_pick (pu_sz a15 d S) 5).2), b10, b11) ⟨?_, q2, q3⟩ ⟨q4, d, S, hd, pk_us, pk_us, pk_us, pk_us⟩
      intro j hj
      obtain ⟨r1, r2, r3, r4⟩ := q1 j hj
      exact ⟨pk_un hj, r1, r2, r3, r4, pk_un hj, pk_un hj, pk_un hj⟩
    obtain ⟨p1, p2, p3, p4⟩ := pok 5
    generalize hF : (pu_pick (pu_sz a15 d S) 5).1 = F at *
    generalize hZ : (pu_pick (pu_sz a15 d S) 5).2 = Z at *
    have ct : (nI t).toNatClampNeg = t := nI_clamp (by omega)
    refine pk_lt 5 6 (fun _ => ⟨pk_in t 18 ht, nm_r (by rw [ct]) ⟨pk_in t 18 ht, nm_r (by rw [ct]) ⟨pk_in t 18 ht, nm_r (by rw [ct]) ⟨pk_in (d - 1) 16 (by omega) ?_, pk_in t 18 ht, nm_r (e' := upd a8 t (S (d - 1))) ?_ ?_⟩⟩⟩⟩) (fun z => absurd z (by omega))
    · obtain ⟨m, rfl⟩ : ∃ m, d = m + 1 := ⟨d - 1, by omega⟩
      exact nI_pred m
    · have e : nI d - 1 = nI (d - 1) := by
        obtain ⟨m, rfl⟩ : ∃ m, d = m + 1 := ⟨d - 1, by omega⟩
        exact nI_pred m
      rw [ct, e, nI_clamp (by omega)]
    · refine pk_eq F 1 (fun z => ?_) (fun z1 => pk_eq F 2 (fun z => ?_) (fun z2 => pk_eq F 3 (fun z => ?_) (fun z3 => pk_eq F 4 (fun z => ?_) (fun z4 => pk_eq F 5 (fun z => ?_) (fun z5 => ?_)))))
      · obtain ⟨p5, p6⟩ := p4 (by omega)
        refine ⟨pk_in t 18 ht, nm_r (e' := upd a3 t (a15 0)) (by rw [ct]) (tail _ _ _ _ _ _ (fun j hj => ⟨pk_un hj, rfl, rfl, rfl⟩) (fun _ _ => rfl) (fun _ _ => rfl) (Or.inr (Or.inl ⟨by rw [← z]; exact pk_us, fun i hi => ?_⟩)) l)⟩
        show upd a3 t (a15 0) t = a15 i
        rw [pk_us]
        rw [z] at p5
        unfold pu_sz at p5
        rw [if_neg (by decide), if_pos rfl] at p5
        have d1 : d = 1 := by
          by_cases c : d = 1
          · exact c
          · rw [if_neg c] at p5; omega
        have l0 := pu_least hd (show 0 < 16 by omega)
        have li := pu_least hd hi
        rw [d1, show (1 : Nat) - 1 = 0 from rfl] at l0 li
        exact Int32.toInt_inj.mp (by omega)
      · refine mt_packRuns ht (fun N st W L q1 q2 q3 => tail _ _ _ _ _ _ (fun j hj => ⟨rfl, rfl, rfl, pk_un hj⟩) q2 q3 (Or.inr (Or.inr (Or.inl ⟨by rw [← z]; exact pk_us, N, st, pk_us, q1⟩))) l)
      · obtain ⟨p5, p6⟩ := p4 (by omega)
        rw [z] at p5
        unfold pu_sz at p5
        rw [if_neg (by decide), if_neg (by decide), if_neg (by decide), if_pos rfl] at p5
        have d8 : d ≤ 8 := by
          by_cases c : d ≤ 8
          · exact c
          · rw [if_neg c] at p5; omega
        have hw3 : pu_wd (d - 1) ≤ 3 := pu_wd_le (by omega)
        refine mt_packList ht hd d8 (fun ix W q1 q2 q3 => tail _ _ _ _ _ _ (fun j hj => ⟨rfl, pk_un hj, rfl, pk_un hj⟩) q3 (fun _ _ => rfl) (Or.inr (Or.inr (Or.inr (Or.inl ⟨by rw [← z]; exact pk_us, d, pu_wd (d - 1), hd1, d8, hw3, pk_us, pk_us, ?_, fun i hi => ⟨ix i, ?_, (q1 i hi).2.2, ?_⟩⟩)))) l)
        · show W (24 * t) = upd a7 t (S 0) t
          rw [pk_us]
          exact q2 0 (by omega)
        · have := (q1 i hi).1
          omega
        · show W (24 * t + ix i) = a15 i
          rw [q2 _ (q1 i hi).1, (q1 i hi).2.1]
      · obtain ⟨p5, p6⟩ := p4 (by omega)
        rw [z] at p5
        unfold pu_sz at p5
        rw [if_neg (by decide), if_neg (by decide), if_neg (by decide), if_neg (by decide), if_pos rfl] at p5
        have d8 : pu_fw d S ≤ 31 := by
          by_cases c : pu_fw d S ≤ 31
          · exact c
          · rw [if_neg c] at p5; omega
        refine mt_packFrame ht hd d8 (fun W q1 q2 => tail _ _ _ _ _ _ (fun j hj => ⟨pk_un hj, pk_un hj, rfl, rfl⟩) q2 (fun _ _ => rfl) (Or.inr (Or.inr (Or.inr (Or.inr (Or.inl ⟨by rw [← z]; exact pk_us, pu_fw d S, d8, pk_us, fun i hi => ?_⟩))))) l)
        show upd a3 t (S 0) t + dg_get W (32 * (24 * t) + i * pu_fw d S) (pu_fw d S) = a15 i
        rw [pk_us, q1 i hi, Int32.add_comm, Int32.sub_add_cancel]
      · obtain ⟨p5, p6⟩ := p4 (by omega)
        rw [z] at p5
        unfold pu_sz at p5
        rw [if_neg (by decide), if_neg (by decide), if_neg (by decide), if_neg (by decide), if_neg (by decide)] at p5
        have d8 : pu_sw a15 ≤ 31 := by
          by_cases c : pu_sw a15 = 10000
          · rw [if_pos c] at p5; omega
          · rw [pu_sw] at c ⊢
            by_cases c2 : -2147483648 ≤ pu_lo a15 ∧ pu_hi a15 ≤ 2147483647 ∧ pu_sw0 a15 ≤ 31
            · rw [if_pos c2]; exact c2.2.2
            · rw [if_neg c2] at c; exact absurd rfl c
        refine mt_packSteps ht d8 (fun W q1 q2 => tail _ _ _ _ _ _ (fun j hj => ⟨pk_un hj, pk_un hj, pk_un hj, rfl⟩) q2 (fun _ _ => rfl) (Or.inr (Or.inr (Or.inr (Or.inr (Or.inr ⟨by rw [← z]; exact pk_us, pu_sw a15, d8, pk_us, pk_us, fun i hi => ?_⟩))))) _)
        show a15 i + upd a5 t (Int32.ofInt (pu_lo a15)) t + dg_get W (32 * (24 * t) + i * pu_sw a15) (pu_sw a15) = a15 (i + 1)
        rw [pk_us, q1 i hi]
        have b := pu_mn_le (pu_st a15) 14 i (by omega)
        have e2 : nI (pu_st a15 i - pu_lo a15).toNat = Int32.ofInt (pu_st a15 i - pu_lo a15) := by
          have e3 : pu_st a15 i - pu_lo a15 = ((pu_st a15 i - pu_lo a15).toNat : Int) := by unfold pu_lo; omega
          rw [e3, Int32.ofInt_eq_ofNat]
          rfl
        rw [e2, Int32.add_assoc, ← Int32.ofInt_add, show pu_lo a15 + (pu_st a15 i - pu_lo a15) = pu_st a15 i by omega]
        unfold pu_st
        rw [Int32.ofInt_sub, Int32.ofInt_toInt, Int32.ofInt_toInt, Int32.add_comm, Int32.sub_add_cancel]
      · have hF0 : F = 0 := by omega
        refine pk_loop (fun n i s => wX_pack_177 post (nI t) rc pc (nI d) cn ga l n (nI i) a1 (upd a2 t (nI F)) a3 a4 a5 a6 (upd a7 t (S 0)) (upd a8 t (S (d - 1))) (upd a9 t (nI Z)) s a11 a12 a13 a14 a15 S a17 a18 a19 a20 a21 a22) (fun i s => (∀ j, j < i → s (24 * t + j) = a15 j) ∧ ∀ j, (j < 24 * t ∨ 24 * t + 24 ≤ j) → s j = a10 j) 16 0 a10 (Nat.zero_le _) ⟨fun j hj => absurd hj (Nat.not_lt_zero _), fun _ _ => rfl⟩ ?_ ?_
        · intro n s hs
          exact pk_le 16 16 (fun _ => tail _ _ _ _ _ _ (fun j hj => ⟨rfl, rfl, rfl, rfl⟩) hs.2 (fun _ _ => rfl) (Or.inl ⟨by rw [← hF0]; exact pk_us, hs.1⟩) l) (fun z => absurd z (by omega))
        · intro n i s hi hs hr
          obtain ⟨q1, q2⟩ := hs
          refine pk_le 16 i (fun z => absurd z (by omega)) (fun _ => ⟨pk_in i 16 hi, pk_in (24 * t + i) 432 (by omega) (mt_24a t i), nm_r (e' := upd s (24 * t + i) (a15 i)) (by rw [mt_24a, nI_clamp (by omega), nI_clamp (by omega)]) (nm_r (nI_1 i) (hr _ ⟨?_, ?_⟩))⟩)
          · intro j hj
            by_cases c : j = i
            · rw [c, pk_us]
            · rw [pk_un (by omega)]
              exact q1 j (by omega)
          · intro j hj
            rw [pk_un (by omega)]
            exact q2 j hj
  refine pk_loop (σ := Int64) (fun n i l => wX_pack_13 post (nI t) n (nI (pu_pick (pu_sz a15 d S) (i - 1)).1) (nI (pu_pick (pu_sz a15 d S) (i - 1)).2) (nI i) rc pc (nI d) cn ga l a1 a2 a3 a4 a5 a6 a7 a8 a9 a10 a11 a12 a13 a14 a15 S a17 a18 a19 a20 a21 a22) (fun i _ => 1 ≤ i) 6 1 ls (by omega) (by omega) ?_ ?_
  · intro n l _
    exact hex n l
  · intro n i l hi h1 hr
    obtain ⟨m, rfl⟩ : ∃ m, i = m + 1 := ⟨i - 1, by omega⟩
    have hr' : ∀ l, wX_pack_13 post (nI t) n (nI (pu_pick (pu_sz a15 d S) (m + 1)).1) (nI (pu_pick (pu_sz a15 d S) (m + 1)).2) (nI (m + 1 + 1)) rc pc (nI d) cn ga l a1 a2 a3 a4 a5 a6 a7 a8 a9 a10 a11 a12 a13 a14 a15 S a17 a18 a19 a20 a21 a22 := fun l => hr l (by omega)
    show wX_pack_13 post (nI t) (n + 1) (nI (pu_pick (pu_sz a15 d S) m).1) (nI (pu_pick (pu_sz a15 d S) m).2) (nI (m + 1)) rc pc (nI d) cn ga l a1 a2 a3 a4 a5 a6 a7 a8 a9 a10 a11 a12 a13 a14 a15 S a17 a18 a19 a20 a21 a22
    have pm := (pok m).1
    have hz : pu_sz a15 d S (m + 1) < 2 ^ 31 := by
      have b1 := pu_rc_le a15 15
      have b2 : pu_wd (d - 1) ≤ 16 := pu_wd_le (by omega)
      have b3 : pu_sw a15 ≤ 10000 := by
        unfold pu_sw
        by_cases c : -2147483648 ≤ pu_lo a15 ∧ pu_hi a15 ≤ 2147483647 ∧ pu_sw0 a15 ≤ 31
        · rw [if_pos c]; omega
        · rw [if_neg c]; omega
      unfold pu_sz
      repeat' split
      all_goals omega
    rw [pu_pick] at hr'
    refine pk_lt 5 (m + 1) (fun z => absurd z (by omega)) (fun _ => mt_sizeOf hd (by omega) (by omega) (fun l2 => pk_le (pu_pick (pu_sz a15 d S) m).2 (pu_sz a15 d S (m + 1)) (fun c => ?_) (fun c => ?_)))
    · refine pk_le (pu_pick (pu_sz a15 d S) m).2 (pu_sz a15 d S (m + 1)) (fun _ => nm_r (nI_1 _) ?_) (fun z => absurd z (by omega))
      have q := hr' l2
      rw [if_pos c] at q
      exact q
    · refine pk_le (pu_pick (pu_sz a15 d S) m).2 (pu_sz a15 d S (m + 1)) (fun z => absurd z (by omega)) (fun _ => nm_r (nI_1 _) ?_)
      have q := hr' l2
      rw [if_neg (by omega)] at q
      exact q
end
section
/-! unpacking gives what was packed -/
theorem mt_unpackedAt {post : Int32 → Prop} {rc pc ds cn ga : Int32} {ls : Int64} {a1 a2 a3 a4 a5 a6 a7 a8 a9 a10 a11 a12 a13 a14 a15 a16 a17 a18 a19 a20 a21 a22 : Nat → Int32} {t i : Nat} {B : Nat → Int32} (ht : t < 18) (hi : i < 16) (he : en_ok (a2, a3, a4, a5, a6, a7, a8, a9, a10, a11) t B) (h2 : a2 t ≠ nI 2) (h5 : a2 t ≠ nI 5) (h : post (B i)) : wpX_unpackedAt post (rc, pc, ds, cn, ga, ls, a1, a2, a3, a4, a5, a6, a7, a8, a9, a10, a11, a12, a13, a14, a15, a16, a17, a18, a19, a20, a21, a22) (nI t) (nI i) := by
  have ct : (nI t).toNatClampNeg = t := nI_clamp (by omega)
  unfold en_ok at he
  dsimp only at he
  refine ⟨pk_in t 18 ht, nm_r (e' := a2 t) (by rw [ct]) ?_⟩
  rw [ct]
  have fin : ∀ {c k : Nat}, a2 t = nI c → c < 6 → k < 6 → c ≠ k → ¬ a2 t = nI k := by
    intro c k e hc hk hn q
    rw [e, nI_eq (by omega) (by omega)] at q
    exact hn q
  rcases he with ⟨c, he⟩ | ⟨c, he⟩ | ⟨c, _⟩ | ⟨c, d, w, e1, e2, e3, e4, e5, e6, e7⟩ | ⟨c, w, e1, e2, e3⟩ | ⟨c, _⟩
  · refine br_f (fin (k := 1) c (by omega) (by omega) (by omega)) (br_f (fin (k := 3) c (by omega) (by omega) (by omega)) (br_f (fin (k := 4) c (by omega) (by omega) (by omega)) ⟨pk_in (24 * t + i) 432 (by omega) (mt_24a t i), ?_⟩))
    rw [mt_24a, nI_clamp (by omega), he i hi]
    exact h
  · refine br_t c ⟨pk_in t 18 ht, ?_⟩
    rw [he i hi]
    exact h
  · exact absurd c h2
  · refine br_f (fin (k := 1) c (by omega) (by omega) (by omega)) (br_t c ⟨pk_in t 18 ht, pk_in t 18 ht, ?_⟩)
    obtain ⟨k, hk, q1, q2⟩ := e7 i hi
    have h1 := mt_lm (w := w) hi
    rw [e5, mt_24, show nI (24 * t) + 8 = nI (24 * t + 8) from nI_add _ 8, pk_mul]
    refine mt_get (by omega) (by omega) ?_
    rw [q1, nI_add]
    refine ⟨pk_in (24 * t + k) 432 (by omega), ?_⟩
    rw [nI_clamp (by omega), q2]
    exact h
  · refine br_f (fin (k := 1) c (by omega) (by omega) (by omega)) (br_f (fin (k := 3) c (by omega) (by omega) (by omega)) (br_t c ⟨pk_in t 18 ht, pk_in t 18 ht, pk_in t 18 ht, ?_⟩))
    have h1 := mt_lm (w := w) hi
    have h3 := mt_bd (w := w) (k := 16) (by omega) e1
    rw [e2, mt_24, pk_mul]
    refine mt_get (by omega) (by omega) ?_
    rw [e3 i hi]
    exact h
  · exact absurd c h5
theorem mt_unpackRuns {post : St2 → Prop} {rc pc ds cn ga : Int32} {ls : Int64} {a1 a2 a3 a4 a5 a6 a7 a8 a9 a10 a11 a12 a13 a14 a15 a16 a17 a18 a19 a20 a21 a22 : Nat → Int32} {t N : Nat} {st : Nat → Nat} {B : Nat → Int32} (ht : t < 18) (h6 : a6 t = nI N) (hr : rn_ok t N 16 st B a10 a11)
    (h : ∀ b15, (∀ i, i < 16 → b15 i = B i) → post (rc, pc, ds, cn, ga, ls, a1, a2, a3, a4, a5, a6, a7, a8, a9, a10, a11, a12, a13, a14, b15, a16, a17, a18, a19, a20, a21, a22)) : wpX_unpackRuns post (rc, pc, ds, cn, ga, ls, a1, a2, a3, a4, a5, a6, a7, a8, a9, a10, a11, a12, a13, a14, a15, a16, a17, a18, a19, a20, a21, a22) (nI t) := by
  have ct : (nI t).toNatClampNeg = t := nI_clamp (by omega)
  obtain ⟨r1, r2, r3, r4, r5⟩ := hr
  have L : ∃ n, wX_unpackRuns_4 post (nI t) rc pc ds cn ga ls n (nI (st 0)) (nI 0) a1 a2 a3 a4 a5 a6 a7 a8 a9 a10 a11 a12 a13 a14 a15 a16 a17 a18 a19 a20 a21 a22 := by
    refine pk_loop (fun n k s => wX_unpackRuns_4 post (nI t) rc pc ds cn ga ls n (nI (st k)) (nI k) a1 a2 a3 a4 a5 a6 a7 a8 a9 a10 a11 a12 a13 a14 s a16 a17 a18 a19 a20 a21 a22) (fun k s => ∀ j, j < st k → s j = B j) N 0 a15 (Nat.zero_le _) (fun j hj => absurd hj (by omega)) ?_ ?_
    · intro n s hs
      refine ⟨pk_in t 18 ht, ?_⟩
      rw [ct, h6]
      exact pk_le N N (fun _ => h s (fun i hi => hs i (by omega))) (fun z => absurd z (by omega))
    · intro n k s hk hs hrec
      refine ⟨pk_in t 18 ht, ?_⟩
      rw [ct, h6]
      obtain ⟨s1, s2, s3, s4⟩ := r5 k hk
      refine pk_le N k (fun z => absurd z (by omega)) (fun _ => ?_)
      have M : ∃ n', wX_unpackRuns_17 post (wX_unpackRuns_4 post (nI t) rc pc ds cn ga ls n) (nI t) (nI k) rc pc ds cn ga ls n' (nI (st k + 0)) (nI 0) a1 a2 a3 a4 a5 a6 a7 a8 a9 a10 a11 a12 a13 a14 s a16 a17 a18 a19 a20 a21 a22 := by
        refine pk_loop (fun n' j s => wX_unpackRuns_17 post (wX_unpackRuns_4 post (nI t) rc pc ds cn ga ls n) (nI t) (nI k) rc pc ds cn ga ls n' (nI (st k + j)) (nI j) a1 a2 a3 a4 a5 a6 a7 a8 a9 a10 a11 a12 a13 a14 s a16 a17 a18 a19 a20 a21 a22) (fun j s => ∀ m, m < st k + j → s m = B m) (st (k + 1) - st k) 0 s (Nat.zero_le _) hs ?_ ?_
        · intro n' s' hs'
          refine ⟨pk_in (16 * t + k) 288 (by omega) (mt_16a t k), ?_⟩
          rw [mt_16a, nI_clamp (by omega), s3]
          refine pk_le (st (k + 1) - st k) (st (k + 1) - st k) (fun _ => nm_r (nI_1 k) ?_) (fun z => absurd z (by omega))
          rw [show st k + (st (k + 1) - st k) = st (k + 1) by omega]
          exact hrec s' (fun j hj => hs' j (by omega))
        · intro n' j s' hj hs' hrec'
          refine ⟨pk_in (16 * t + k) 288 (by omega) (mt_16a t k), ?_⟩
          rw [mt_16a, nI_clamp (by omega), s3]
          refine pk_le (st (k + 1) - st k) j (fun z => absurd z (by omega)) (fun _ => ⟨pk_in (24 * t + k) 432 (by omega) (mt_24a t k), pk_in (st k + j) 16 (by omega), nm_r (e' := upd s' (st k + j) (a10 (24 * t + k))) ?_ (nm_r (nI_1 (st k + j)) (nm_r (nI_1 j) (hrec' _ ?_)))⟩)
          · rw [nI_clamp (by omega), mt_24a, nI_clamp (by omega)]
          · intro m hm
            by_cases c : m = st k + j
            · rw [c, pk_us]
              exact (s4 _ (by omega) (by omega)).symm
            · rw [pk_un c]
              exact hs' m (by omega)
      exact M
  rw [r3] at L
  exact L
theorem mt_unpackSteps {post : St2 → Prop} {rc pc ds cn ga : Int32} {ls : Int64} {a1 a2 a3 a4 a5 a6 a7 a8 a9 a10 a11 a12 a13 a14 a15 a16 a17 a18 a19 a20 a21 a22 : Nat → Int32} {t w : Nat} {B : Nat → Int32} (ht : t < 18) (hw : w ≤ 31) (h4 : a4 t = nI w) (h3 : a3 t = B 0) (hs : ∀ i, i < 15 → B i + a5 t + dg_get a10 (32 * (24 * t) + i * w) w = B (i + 1))
    (h : ∀ b15, (∀ i, i < 16 → b15 i = B i) → post (rc, pc, ds, cn, ga, ls, a1, a2, a3, a4, a5, a6, a7, a8, a9, a10, a11, a12, a13, a14, b15, a16, a17, a18, a19, a20, a21, a22)) : wpX_unpackSteps post (rc, pc, ds, cn, ga, ls, a1, a2, a3, a4, a5, a6, a7, a8, a9, a10, a11, a12, a13, a14, a15, a16, a17, a18, a19, a20, a21, a22) (nI t) := by
  have ct : (nI t).toNatClampNeg = t := nI_clamp (by omega)
  refine ⟨pk_in t 18 ht, nm_r (e' := upd a15 0 (B 0)) (by rw [ct, h3]) ?_⟩
  refine pk_loop (fun n i s => wX_unpackSteps_14 post (nI t) rc pc ds cn ga ls n (nI i) a1 a2 a3 a4 a5 a6 a7 a8 a9 a10 a11 a12 a13 a14 s a16 a17 a18 a19 a20 a21 a22) (fun i s => ∀ j, j < i + 1 → s j = B j) 15 0 (upd a15 0 (B 0)) (Nat.zero_le _) (fun j hj => by rw [show j = 0 by omega, pk_us]) ?_ ?_
  · intro n s q
    exact pk_le 16 16 (fun _ => h s q) (fun z => absurd z (by omega))
  · intro n i s hi q hrec
    have h1 := mt_lm (w := w) hi
    have h2 := mt_bd (w := w) (k := 15) (by omega) hw
    refine pk_le 16 (i + 1) (fun z => absurd z (by omega)) (fun _ => ⟨pk_in t 18 ht, pk_in t 18 ht, ?_⟩) (hy := nI_1 i)
    rw [ct, h4, mt_24, pk_mul]
    refine mt_get (by omega) (by omega) ⟨pk_in i 16 (by omega), pk_in t 18 ht, pk_in (i + 1) 16 (by omega) (nI_1 i), nm_r (e' := upd s (i + 1) (B (i + 1))) ?_ (nm_r (nI_1 i) (hrec _ ?_))⟩
    · rw [nI_1, nI_clamp (by omega), nI_clamp (by omega), q i (by omega), ← hs i hi]
    · intro j hj
      by_cases c : j = i + 1
      · rw [c, pk_us]
      · rw [pk_un c]
        exact q j (by omega)
theorem mt_unpack {post : St2 → Prop} {rc pc ds cn ga : Int32} {ls : Int64} {a1 a2 a3 a4 a5 a6 a7 a8 a9 a10 a11 a12 a13 a14 a15 a16 a17 a18 a19 a20 a21 a22 : Nat → Int32} {t : Nat} {B : Nat → Int32} (ht : t < 18) (he : en_ok (a2, a3, a4, a5, a6, a7, a8, a9, a10, a11) t B)
    (h : ∀ b15, (∀ i, i < 16 → b15 i = B i) → post (rc, pc, ds, cn, ga, ls, a1, a2, a3, a4, a5, a6, a7, a8, a9, a10, a11, a12, a13, a14, b15, a16, a17, a18, a19, a20, a21, a22)) : wpX_unpack post (rc, pc, ds, cn, ga, ls, a1, a2, a3, a4, a5, a6, a7, a8, a9, a10, a11, a12, a13, a14, a15, a16, a17, a18, a19, a20, a21, a22) (nI t) := by
  have ct : (nI t).toNatClampNeg = t := nI_clamp (by omega)
  have he' := he
  unfold en_ok at he'
  dsimp only at he'
  refine ⟨pk_in t 18 ht, nm_r (e' := a2 t) (by rw [ct]) ?_⟩
  have fin : ∀ {c k : Nat}, a2 t = nI c → c < 6 → k < 6 → c ≠ k → ¬ a2 t = nI k := by
    intro c k e hc hk hn q
    rw [e, nI_eq (by omega) (by omega)] at q
    exact hn q
  have gen : a2 t ≠ nI 2 → a2 t ≠ nI 5 → ∃ fu, wX_unpack_35 post (nI t) rc pc ds cn ga ls fu 0 a1 a2 a3 a4 a5 a6 a7 a8 a9 a10 a11 a12 a13 a14 a15 a16 a17 a18 a19 a20 a21 a22 := by
    intro h2 h5
    refine pk_loop (fun n i s => wX_unpack_35 post (nI t) rc pc ds cn ga ls n (nI i) a1 a2 a3 a4 a5 a6 a7 a8 a9 a10 a11 a12 a13 a14 s a16 a17 a18 a19 a20 a21 a22) (fun i s => ∀ j, j < i → s j = B j) 16 0 a15 (Nat.zero_le _) (fun j hj => absurd hj (Nat.not_lt_zero _)) ?_ ?_
    · intro n s q
      exact pk_le 16 16 (fun _ => h s q) (fun z => absurd z (by omega))
    · intro n i s hi q hrec
      refine pk_le 16 i (fun z => absurd z (by omega)) (fun _ => mt_unpackedAt ht hi he h2 h5 ⟨pk_in i 16 hi, nm_r (e' := upd s i (B i)) (by rw [nI_clamp (by omega)]) (nm_r (nI_1 i) (hrec _ ?_))⟩)
      intro j hj
      by_cases c : j = i
      · rw [c, pk_us]
      · rw [pk_un c]
        exact q j (by omega)
  have gen' : ∀ {c : Nat}, a2 t = nI c → c < 6 → c ≠ 2 → c ≠ 5 → _ := fun {c} e h1 h2 h3 => br_f (A := wpX_unpackRuns (fun u => post u) (rc, pc, ds, cn, ga, ls, a1, a2, a3, a4, a5, a6, a7, a8, a9, a10, a11, a12, a13, a14, a15, a16, a17, a18, a19, a20, a21, a22) (nI t)) (fin (k := 2) e h1 (by omega) h2) (br_f (A := wpX_unpackSteps (fun u => post u) (rc, pc, ds, cn, ga, ls, a1, a2, a3, a4, a5, a6, a7, a8, a9, a10, a11, a12, a13, a14, a15, a16, a17, a18, a19, a20, a21, a22) (nI t)) (fin (k := 5) e h1 (by omega) h3) (gen (fin (k := 2) e h1 (by omega) h2) (fin (k := 5) e h1 (by omega) h3)))
  rcases he' with ⟨c, _⟩ | ⟨c, _⟩ | ⟨c, N, st, h6, hr⟩ | ⟨c, _⟩ | ⟨c, _⟩ | ⟨c, w, hw, h4, h3, hs⟩
  · exact gen' c (by omega) (by omega) (by omega)
  · exact gen' c (by omega) (by omega) (by omega)
  · exact br_t c (mt_unpackRuns ht h6 hr h)
  · exact gen' c (by omega) (by omega) (by omega)
  · exact gen' c (by omega) (by omega) (by omega)
  · exact br_f (fin (k := 2) c (by omega) (by omega) (by omega)) (br_t c (mt_unpackSteps ht hw h4 h3 hs h))
theorem mt_unpackRuns_2 {post : St2 → Prop} {rc pc ds cn ga : Int32} {ls : Int64} {a1 a2 a3 a4 a5 a6 a7 a8 a9 a10 a11 a12 a13 a14 a15 a16 a17 a18 a19 a20 a21 a22 : Nat → Int32} {t N : Nat} {st : Nat → Nat} {B : Nat → Int32} (ht : t < 18) (h6 : a6 t = nI N) (hr : rn_ok t N 16 st B a10 a11)
    (h : ∀ b15, (∀ i, i < 16 → b15 i = B i) → post (rc, pc, ds, cn, ga, ls, a1, a2, a3, a4, a5, a6, a7, a8, a9, a10, a11, a12, a13, a14, b15, a16, a17, a18, a19, a20, a21, a22)) : wpX_unpackRuns_2 post (rc, pc, ds, cn, ga, ls, a1, a2, a3, a4, a5, a6, a7, a8, a9, a10, a11, a12, a13, a14, a15, a16, a17, a18, a19, a20, a21, a22) (nI t) := by
  have ct : (nI t).toNatClampNeg = t := nI_clamp (by omega)
  obtain ⟨r1, r2, r3, r4, r5⟩ := hr
  have L : ∃ n, wX_unpackRuns_2_4 post (nI t) rc pc ds cn ga ls n (nI (st 0)) (nI 0) a1 a2 a3 a4 a5 a6 a7 a8 a9 a10 a11 a12 a13 a14 a15 a16 a17 a18 a19 a20 a21 a22 := by
    refine pk_loop (fun n k s => wX_unpackRuns_2_4 post (nI t) rc pc ds cn ga ls n (nI (st k)) (nI k) a1 a2 a3 a4 a5 a6 a7 a8 a9 a10 a11 a12 a13 a14 s a16 a17 a18 a19 a20 a21 a22) (fun k s => ∀ j, j < st k → s j = B j) N 0 a15 (Nat.zero_le _) (fun j hj => absurd hj (by omega)) ?_ ?_
    · intro n s hs
      refine ⟨pk_in t 18 ht, ?_⟩
      rw [ct, h6]
      exact pk_le N N (fun _ => h s (fun i hi => hs i (by omega))) (fun z => absurd z (by omega))
    · intro n k s hk hs hrec
      refine ⟨pk_in t 18 ht, ?_⟩
      rw [ct, h6]
      obtain ⟨s1, s2, s3, s4⟩ := r5 k hk
      refine pk_le N k (fun z => absurd z (by omega)) (fun _ => ?_)
      have M : ∃ n', wX_unpackRuns_2_17 post (wX_unpackRuns_2_4 post (nI t) rc pc ds cn ga ls n) (nI t) (nI k) rc pc ds cn ga ls n' (nI (st k + 0)) (nI 0) a1 a2 a3 a4 a5 a6 a7 a8 a9 a10 a11 a12 a13 a14 s a16 a17 a18 a19 a20 a21 a22 := by
        refine pk_loop (fun n' j s => wX_unpackRuns_2_17 post (wX_unpackRuns_2_4 post (nI t) rc pc ds cn ga ls n) (nI t) (nI k) rc pc ds cn ga ls n' (nI (st k + j)) (nI j) a1 a2 a3 a4 a5 a6 a7 a8 a9 a10 a11 a12 a13 a14 s a16 a17 a18 a19 a20 a21 a22) (fun j s => ∀ m, m < st k + j → s m = B m) (st (k + 1) - st k) 0 s (Nat.zero_le _) hs ?_ ?_
        · intro n' s' hs'
          refine ⟨pk_in (16 * t + k) 288 (by omega) (mt_16a t k), ?_⟩
          rw [mt_16a, nI_clamp (by omega), s3]
          refine pk_le (st (k + 1) - st k) (st (k + 1) - st k) (fun _ => nm_r (nI_1 k) ?_) (fun z => absurd z (by omega))
          rw [show st k + (st (k + 1) - st k) = st (k + 1) by omega]
          exact hrec s' (fun j hj => hs' j (by omega))
        · intro n' j s' hj hs' hrec'
          refine ⟨pk_in (16 * t + k) 288 (by omega) (mt_16a t k), ?_⟩
          rw [mt_16a, nI_clamp (by omega), s3]
          refine pk_le (st (k + 1) - st k) j (fun z => absurd z (by omega)) (fun _ => ⟨pk_in (24 * t + k) 432 (by omega) (mt_24a t k), pk_in (st k + j) 16 (by omega), nm_r (e' := upd s' (st k + j) (a10 (24 * t + k))) ?_ (nm_r (nI_1 (st k + j)) (nm_r (nI_1 j) (hrec' _ ?_)))⟩)
          · rw [nI_clamp (by omega), mt_24a, nI_clamp (by omega)]
          · intro m hm
            by_cases c : m = st k + j
            · rw [c, pk_us]
              exact (s4 _ (by omega) (by omega)).symm
            · rw [pk_un c]
              exact hs' m (by omega)
      exact M
  rw [r3] at L
  exact L
theorem mt_unpackSteps_2 {post : St2 → Prop} {rc pc ds cn ga : Int32} {ls : Int64} {a1 a2 a3 a4 a5 a6 a7 a8 a9 a10 a11 a12 a13 a14 a15 a16 a17 a18 a19 a20 a21 a22 : Nat → Int32} {t w : Nat} {B : Nat → Int32} (ht : t < 18) (hw : w ≤ 31) (h4 : a4 t = nI w) (h3 : a3 t = B 0) (hs : ∀ i, i < 15 → B i + a5 t + dg_get a10 (32 * (24 * t) + i * w) w = B (i + 1))
    (h : ∀ b15, (∀ i, i < 16 → b15 i = B i) → post (rc, pc, ds, cn, ga, ls, a1, a2, a3, a4, a5, a6, a7, a8, a9, a10, a11, a12, a13, a14, b15, a16, a17, a18, a19, a20, a21, a22)) : wpX_unpackSteps_2 post (rc, pc, ds, cn, ga, ls, a1, a2, a3, a4, a5, a6, a7, a8, a9, a10, a11, a12, a13, a14, a15, a16, a17, a18, a19, a20, a21, a22) (nI t) := by
  have ct : (nI t).toNatClampNeg = t := nI_clamp (by omega)
  refine ⟨pk_in t 18 ht, nm_r (e' := upd a15 0 (B 0)) (by rw [ct, h3]) ?_⟩
  refine pk_loop (fun n i s => wX_unpackSteps_2_14 post (nI t) rc pc ds cn ga ls n (nI i) a1 a2 a3 a4 a5 a6 a7 a8 a9 a10 a11 a12 a13 a14 s a16 a17 a18 a19 a20 a21 a22) (fun i s => ∀ j, j < i + 1 → s j = B j) 15 0 (upd a15 0 (B 0)) (Nat.zero_le _) (fun j hj => by rw [show j = 0 by omega, pk_us]) ?_ ?_
  · intro n s q
    exact pk_le 16 16 (fun _ => h s q) (fun z => absurd z (by omega))
  · intro n i s hi q hrec
    have h1 := mt_lm (w := w) hi
    have h2 := mt_bd (w := w) (k := 15) (by omega) hw
    refine pk_le 16 (i + 1) (fun z => absurd z (by omega)) (fun _ => ⟨pk_in t 18 ht, pk_in t 18 ht, ?_⟩) (hy := nI_1 i)
    rw [ct, h4, mt_24, pk_mul]
    refine mt_get (by omega) (by omega) ⟨pk_in i 16 (by omega), pk_in t 18 ht, pk_in (i + 1) 16 (by omega) (nI_1 i), nm_r (e' := upd s (i + 1) (B (i + 1))) ?_ (nm_r (nI_1 i) (hrec _ ?_))⟩
    · rw [nI_1, nI_clamp (by omega), nI_clamp (by omega), q i (by omega), ← hs i hi]
    · intro j hj
      by_cases c : j = i + 1
      · rw [c, pk_us]
      · rw [pk_un c]
        exact q j (by omega)
theorem mt_unpack_2 {post : St2 → Prop} {rc pc ds cn ga : Int32} {ls : Int64} {a1 a2 a3 a4 a5 a6 a7 a8 a9 a10 a11 a12 a13 a14 a15 a16 a17 a18 a19 a20 a21 a22 : Nat → Int32} {t : Nat} {B : Nat → Int32} (ht : t < 18) (he : en_ok (a2, a3, a4, a5, a6, a7, a8, a9, a10, a11) t B)
    (h : ∀ b15, (∀ i, i < 16 → b15 i = B i) → post (rc, pc, ds, cn, ga, ls, a1, a2, a3, a4, a5, a6, a7, a8, a9, a10, a11, a12, a13, a14, b15, a16, a17, a18, a19, a20, a21, a22)) : wpX_unpack_2 post (rc, pc, ds, cn, ga, ls, a1, a2, a3, a4, a5, a6, a7, a8, a9, a10, a11, a12, a13, a14, a15, a16, a17, a18, a19, a20, a21, a22) (nI t) := by
  have ct : (nI t).toNatClampNeg = t := nI_clamp (by omega)
  have he' := he
  unfold en_ok at he'
  dsimp only at he'
  refine ⟨pk_in t 18 ht, nm_r (e' := a2 t) (by rw [ct]) ?_⟩
  have fin : ∀ {c k : Nat}, a2 t = nI c → c < 6 → k < 6 → c ≠ k → ¬ a2 t = nI k := by
    intro c k e hc hk hn q
    rw [e, nI_eq (by omega) (by omega)] at q
    exact hn q
  have gen : a2 t ≠ nI 2 → a2 t ≠ nI 5 → ∃ fu, wX_unpack_2_35 post (nI t) rc pc ds cn ga ls fu 0 a1 a2 a3 a4 a5 a6 a7 a8 a9 a10 a11 a12 a13 a14 a15 a16 a17 a18 a19 a20 a21 a22 := by
    intro h2 h5
    refine pk_loop (fun n i s => wX_unpack_2_35 post (nI t) rc pc ds cn ga ls n (nI i) a1 a2 a3 a4 a5 a6 a7 a8 a9 a10 a11 a12 a13 a14 s a16 a17 a18 a19 a20 a21 a22) (fun i s => ∀ j, j < i → s j = B j) 16 0 a15 (Nat.zero_le _) (fun j hj => absurd hj (Nat.not_lt_zero _)) ?_ ?_
    · intro n s q
      exact pk_le 16 16 (fun _ => h s q) (fun z => absurd z (by omega))
    · intro n i s hi q hrec
      refine pk_le 16 i (fun z => absurd z (by omega)) (fun _ => mt_unpackedAt ht hi he h2 h5 ⟨pk_in i 16 hi, nm_r (e' := upd s i (B i)) (by rw [nI_clamp (by omega)]) (nm_r (nI_1 i) (hrec _ ?_))⟩)
      intro j hj
      by_cases c : j = i
      · rw [c, pk_us]
      · rw [pk_un c]
        exact q j (by omega)
  have gen' : ∀ {c : Nat}, a2 t = nI c → c < 6 → c ≠ 2 → c ≠ 5 → _ := fun {c} e h1 h2 h3 => br_f (A := wpX_unpackRuns_2 (fun u => post u) (rc, pc, ds, cn, ga, ls, a1, a2, a3, a4, a5, a6, a7, a8, a9, a10, a11, a12, a13, a14, a15, a16, a17, a18, a19, a20, a21, a22) (nI t)) (fin (k := 2) e h1 (by omega) h2) (br_f (A := wpX_unpackSteps_2 (fun u => post u) (rc, pc, ds, cn, ga, ls, a1, a2, a3, a4, a5, a6, a7, a8, a9, a10, a11, a12, a13, a14, a15, a16, a17, a18, a19, a20, a21, a22) (nI t)) (fin (k := 5) e h1 (by omega) h3) (gen (fin (k := 2) e h1 (by omega) h2) (fin (k := 5) e h1 (by omega) h3)))
  rcases he' with ⟨c, _⟩ | ⟨c, _⟩ | ⟨c, N, st, h6, hr⟩ | ⟨c, _⟩ | ⟨c, _⟩ | ⟨c, w, hw, h4, h3, hs⟩
  · exact gen' c (by omega) (by omega) (by omega)
  · exact gen' c (by omega) (by omega) (by omega)
  · exact br_t c (mt_unpackRuns_2 ht h6 hr h)
  · exact gen' c (by omega) (by omega) (by omega)
  · exact gen' c (by omega) (by omega) (by omega)
  · exact br_f (fin (k := 2) c (by omega) (by omega) (by omega)) (br_t c (mt_unpackSteps_2 ht hw h4 h3 hs h))
end
section
/-! rows: the loose ones, and blocks of them -/
def ro_ok (p : pa_T) (nb : Nat) (W : Nat → Nat → Int32) : Prop := ∀ b, b < nb → ∀ c, c < 3 → bk_ok p (3 * b + c) (fun i => W (16 * b + i) c)
theorem mt_blockCount {post : Int32 → Prop} {pc ds cn ga : Int32} {ls : Int64} {a1 a2 a3 a4 a5 a6 a7 a8 a9 a10 a11 a12 a13 a14 a15 a16 a17 a18 a19 a20 a21 a22 : Nat → Int32} {n : Nat} (hn : n < 2 ^ 31) (h : post (nI (n / 16))) : wpX_blockCount post (nI n, pc, ds, cn, ga, ls, a1, a2, a3, a4, a5, a6, a7, a8, a9, a10, a11, a12, a13, a14, a15, a16, a17, a18, a19, a20, a21, a22) := by
  refine ⟨by decide, ?_⟩
  rw [show (16 : Int32) = nI 16 from rfl, pk_div hn (by omega) (by omega)]
  exact h
theorem mt_m16 {n : Nat} (hn : n < 2 ^ 31) : nI n - nI n / 16 * 16 = nI (n % 16) := by
  rw [show (16 : Int32) = nI 16 from rfl]
  exact pk_rem hn (by omega) (by omega)
theorem mt_d16 {n : Nat} (hn : n < 2 ^ 31) : nI n / 16 = nI (n / 16) := by
  rw [show (16 : Int32) = nI 16 from rfl]
  exact pk_div hn (by omega) (by omega)
theorem mt_m3 {n : Nat} (hn : n < 2 ^ 31) : nI n - nI n / 3 * 3 = nI (n % 3) := by
  rw [show (3 : Int32) = nI 3 from rfl]
  exact pk_rem hn (by omega) (by omega)
theorem mt_d3 {n : Nat} (hn : n < 2 ^ 31) : nI n / 3 = nI (n / 3) := by
  rw [show (3 : Int32) = nI 3 from rfl]
  exact pk_div hn (by omega) (by omega)
/-- one column of the loose rows -/
theorem mt_pl {post : St2 → Prop} {rc pc ds cn ga : Int32} {ls : Int64} {a1 a2 a3 a4 a5 a6 a7 a8 a9 a10 a11 a12 a13 a14 a15 a16 a17 a18 a19 a20 a21 a22 : Nat → Int32} {n nb c : Nat} (hnb : nb < 6) (hc : c < 3)
    (h : ∀ (D : Int32) (l : Int64) (b15 S : Nat → Int32) (p : pa_T), fr_ok (3 * nb + c) (a2, a3, a4, a5, a6, a7, a8, a9, a10, a11) p → bk_ok p (3 * nb + c) (fun i => a12 (3 * i + c)) → wX_packLoose_9 post (nI nb) n (nI (c + 1)) rc pc D cn ga l a1 p.1 p.2.1 p.2.2.1 p.2.2.2.1 p.2.2.2.2.1 p.2.2.2.2.2.1 p.2.2.2.2.2.2.1 p.2.2.2.2.2.2.2.1 p.2.2.2.2.2.2.2.2.1 p.2.2.2.2.2.2.2.2.2 a12 a13 a14 b15 S a17 a18 a19 a20 a21 a22) : wX_packLoose_9 post (nI nb) (n + 1) (nI c) rc pc ds cn ga ls a1 a2 a3 a4 a5 a6 a7 a8 a9 a10 a11 a12 a13 a14 a15 a16 a17 a18 a19 a20 a21 a22 := by
  refine pk_le 3 c (fun z => absurd z (by omega)) (fun _ => ?_)
  refine pk_loop (fun n' i s => wX_packLoose_16 post (wX_packLoose_9 post (nI nb) n) (nI nb) (nI c) rc pc ds cn ga ls n' (nI i) a1 a2 a3 a4 a5 a6 a7 a8 a9 a10 a11 a12 a13 a14 s a16 a17 a18 a19 a20 a21 a22) (fun i s => ∀ j, j < i → s j = a12 (3 * j + c)) 16 0 a15 (Nat.zero_le _) (fun j hj => absurd hj (Nat.not_lt_zero _)) ?_ ?_
  · intro n' s hs
    refine pk_le 16 16 (fun _ => ?_) (fun z => absurd z (by omega))
    rw [mt_3a]
    exact mt_pack (by omega) (fun D l S p f b => nm_r (nI_1 c) (h D l s S p f (bk_congr hs b)))
  · intro n' i s hi hs hr
    refine pk_le 16 i (fun z => absurd z (by omega)) (fun _ => ⟨pk_in (3 * i + c) 48 (by omega) (mt_3a i c), pk_in i 16 hi, nm_r (e' := upd s i (a12 (3 * i + c))) (by rw [mt_3a, nI_clamp (by omega), nI_clamp (by omega)]) (nm_r (nI_1 i) (hr _ ?_))⟩)
    intro j hj
    by_cases e : j = i
    · rw [e, pk_us]
    · rw [pk_un e]
      exact hs j (by omega)
theorem mt_packLoose {post : St2 → Prop} {pc ds cn ga : Int32} {ls : Int64} {a1 a2 a3 a4 a5 a6 a7 a8 a9 a10 a11 a12 a13 a14 a15 a16 a17 a18 a19 a20 a21 a22 : Nat → Int32} {nb : Nat} {W : Nat → Nat → Int32} (hnb : nb < 6) (hro : ro_ok (a2, a3, a4, a5, a6, a7, a8, a9, a10, a11) nb W) (hl : ∀ i c, i < 16 → c < 3 → a12 (3 * i + c) = W (16 * nb + i) c)
    (h : ∀ (D : Int32) (l : Int64) (b15 S : Nat → Int32) (p : pa_T), ro_ok p (nb + 1) W → post (nI (16 * (nb + 1)), pc, D, cn, ga, l, a1, p.1, p.2.1, p.2.2.1, p.2.2.2.1, p.2.2.2.2.1, p.2.2.2.2.2.1, p.2.2.2.2.2.2.1, p.2.2.2.2.2.2.2.1, p.2.2.2.2.2.2.2.2.1, p.2.2.2.2.2.2.2.2.2, a12, a13, a14, b15, S, a17, a18, a19, a20, a21, a22)) : wpX_packLoose post (nI (16 * (nb + 1)), pc, ds, cn, ga, ls, a1, a2, a3, a4, a5, a6, a7, a8, a9, a10, a11, a12, a13, a14, a15, a16, a17, a18, a19, a20, a21, a22) := by
  unfold wpX_packLoose
  refine mt_blockCount (by omega) (nm_r (e' := nI nb) ?_ ⟨4, ?_⟩)
  · rw [show 16 * (nb + 1) / 16 = nb + 1 by omega]
    exact nI_pred nb
  refine mt_pl (c := 0) hnb (by omega) (fun D1 l1 s1 S1 p1 f1 b1 => ?_)
  refine mt_pl (c := 1) hnb (by omega) (fun D2 l2 s2 S2 p2 f2 b2 => ?_)
  refine mt_pl (c := 2) hnb (by omega) (fun D3 l3 s3 S3 p3 f3 b3 => ?_)
  refine pk_le 3 3 (fun _ => h D3 l3 s3 S3 p3 ?_) (fun z => absurd z (by omega))
  have f2' : fr_ok (3 * nb + 1) p1 p2 := f2
  have f3' : fr_ok (3 * nb + 2) p2 p3 := f3
  intro b hb c hc
  by_cases e : b = nb
  · subst e
    have hc3 : c = 0 ∨ c = 1 ∨ c = 2 := by omega
    rcases hc3 with e | e | e
    · subst e
      exact bk_fr (bk_fr (bk_congr (fun i hi => hl i 0 hi (by omega)) b1) f2' (by omega)) f3' (by omega)
    · subst e
      exact bk_fr (bk_congr (fun i hi => hl i 1 hi (by omega)) b2) f3' (by omega)
    · subst e
      exact bk_congr (fun i hi => hl i 2 hi (by omega)) b3
  · exact bk_fr (bk_fr (bk_fr (hro b (by omega) c hc) f1 (by omega)) f2' (by omega)) f3' (by omega)
theorem mt_addRow {post : Int32 → St2 → Prop} {pc ds cn ga : Int32} {ls : Int64} {a1 a2 a3 a4 a5 a6 a7 a8 a9 a10 a11 a12 a13 a14 a15 a16 a17 a18 a19 a20 a21 a22 : Nat → Int32} {n : Nat} {W : Nat → Nat → Int32} {x y z : Int32} (hn : n < 96) (hro : ro_ok (a2, a3, a4, a5, a6, a7, a8, a9, a10, a11) (n / 16) W) (hl : ∀ i c, i < n % 16 → c < 3 → a12 (3 * i + c) = W (16 * (n / 16) + i) c)
    (hx : x = W n 0) (hy : y = W n 1) (hz : z = W n 2)
    (h : ∀ (D : Int32) (l : Int64) (b12 b15 S : Nat → Int32) (p : pa_T), ro_ok p ((n + 1) / 16) W → (∀ i c, i < (n + 1) % 16 → c < 3 → b12 (3 * i + c) = W (16 * ((n + 1) / 16) + i) c) → post (nI n) (nI (n + 1), pc, D, cn, ga, l, upd a1 n 0, p.1, p.2.1, p.2.2.1, p.2.2.2.1, p.2.2.2.2.1, p.2.2.2.2.2.1, p.2.2.2.2.2.2.1, p.2.2.2.2.2.2.2.1, p.2.2.2.2.2.2.2.2.1, p.2.2.2.2.2.2.2.2.2, b12, a13, a14, b15, S, a17, a18, a19, a20, a21, a22)) : wpX_addRow post (nI n, pc, ds, cn, ga, ls, a1, a2, a3, a4, a5, a6, a7, a8, a9, a10, a11, a12, a13, a14, a15, a16, a17, a18, a19, a20, a21, a22) x y z := by
  have hm : n % 16 < 16 := Nat.mod_lt _ (by omega)
  have e0 : 3 * nI (n % 16) = nI (3 * (n % 16)) := by rw [show (3 : Int32) = nI 3 from rfl, pk_mul]
  have e1 : 3 * nI (n % 16) + 1 = nI (3 * (n % 16) + 1) := by rw [e0, nI_1]
  have e2 : 3 * nI (n % 16) + 2 = nI (3 * (n % 16) + 2) := by rw [e0]; exact nI_add _ 2
  refine ⟨by decide, nm_r (e' := nI (n % 16)) (mt_m16 (by omega)) ⟨pk_in (3 * (n % 16)) 48 (by omega) e0, nm_r (e' := upd a12 (3 * (n % 16)) x) (by rw [e0, nI_clamp (by omega)]) ⟨pk_in (3 * (n % 16) + 1) 48 (by omega) e1, nm_r (e' := upd (upd a12 (3 * (n % 16)) x) (3 * (n % 16) + 1) y) (by rw [e1, nI_clamp (by omega)]) ⟨pk_in (3 * (n % 16) + 2) 48 (by omega) e2, nm_r (e' := upd (upd (upd a12 (3 * (n % 16)) x) (3 * (n % 16) + 1) y) (3 * (n % 16) + 2) z) (by rw [e2, nI_clamp (by omega)]) ⟨pk_in n 96 hn, nm_r (e' := upd a1 n 0) (by rw [nI_clamp (by omega)]) (nm_r (nI_1 n) ?_)⟩⟩⟩⟩⟩
  have hl' : ∀ i c, i < n % 16 + 1 → c < 3 → upd (upd (upd a12 (3 * (n % 16)) x) (3 * (n % 16) + 1) y) (3 * (n % 16) + 2) z (3 * i + c) = W (16 * (n / 16) + i) c := by
    intro i c hi hc
    by_cases e : i = n % 16
    · have hc3 : c = 0 ∨ c = 1 ∨ c = 2 := by omega
      have en : 16 * (n / 16) + n % 16 = n := by omega
      rw [e, en]
      rcases hc3 with q | q | q
      · rw [q, pk_un (by omega), pk_un (by omega), Nat.add_zero, pk_us, hx]
      · rw [q, pk_un (by omega), pk_us, hy]
      · rw [q, pk_us, hz]
    · rw [pk_un (by omega), pk_un (by omega), pk_un (by omega)]
      exact hl i c (by omega) hc
  refine pk_eq (n % 16) 15 (fun q => ?_) (fun q => ?_)
  · obtain ⟨nb, hnb⟩ : ∃ nb, n + 1 = 16 * (nb + 1) := ⟨n / 16, by omega⟩
    have e5 : n / 16 = nb := by omega
    have e6 : (n + 1) / 16 = nb + 1 := by omega
    have e7 : (n + 1) % 16 = 0 := by omega
    rw [e5] at hro hl'
    rw [e6, e7] at h
    rw [q] at hl'
    rw [hnb] at h ⊢
    refine mt_packLoose (W := W) (by omega) hro (fun i c hi hc => ?_) (fun D l b15 S p hp => ?_)
    · rw [q]
      exact hl' i c hi hc
    · have t := h D l (upd (upd (upd a12 (3 * (n % 16)) x) (3 * (n % 16) + 1) y) (3 * (n % 16) + 2) z) b15 S p hp (fun i c hi _ => absurd hi (by omega))
      have e8 : nI (16 * (nb + 1)) - 1 = nI n := by rw [← hnb]; exact nI_pred n
      show post (nI (16 * (nb + 1)) - 1) _
      rw [e8]
      exact t
  · have e6 : (n + 1) / 16 = n / 16 := by omega
    have e7 : (n + 1) % 16 = n % 16 + 1 := by omega
    rw [e6, e7] at h
    rw [nI_pred]
    exact h ds ls (upd (upd (upd a12 (3 * (n % 16)) x) (3 * (n % 16) + 1) y) (3 * (n % 16) + 2) z) a15 a16 (a2, a3, a4, a5, a6, a7, a8, a9, a10, a11) hro hl'
end
section
/-! patches, values, changes -/
def pt_ok (k : Nat) (b13 b14 : Nat → Int32) (P : Nat → Option Int32) : Prop :=
  k ≤ 20 ∧ ∃ pl : Nat → Nat, (∀ j, j < k → b13 j = nI (pl j) ∧ pl j < 288 ∧ P (pl j) = some (b14 j)) ∧ (∀ i, i < k → ∀ j, j < k → pl i = pl j → i = j) ∧ (∀ p, P p ≠ none → ∃ j, j < k ∧ pl j = p)
def pt_up (P : Nat → Option Int32) (p : Nat) (x : Int32) : Nat → Option Int32 := fun q => if q = p then some x else P q
theorem pt_set {k p j : Nat} {b13 b14 : Nat → Int32} {P : Nat → Option Int32} {x : Int32} (h : pt_ok k b13 b14 P) (hj : j < k) (e : b13 j = nI p) (hp : p < 288) : pt_ok k b13 (upd b14 j x) (pt_up P p x) := by
  obtain ⟨hk, pl, h1, h2, h3⟩ := h
  have ej : pl j = p := by
    have q := (h1 j hj).1
    rw [e, nI_eq (by omega) (by have := (h1 j hj).2.1; omega)] at q
    exact q.symm
  refine ⟨hk, pl, ?_, h2, ?_⟩
  · intro i hi
    obtain ⟨q1, q2, q3⟩ := h1 i hi
    refine ⟨q1, q2, ?_⟩
    unfold pt_up
    by_cases c : i = j
    · rw [c, pk_us, if_pos ej]
    · rw [pk_un c, if_neg (fun z => c (h2 i hi j hj (by rw [z, ej])))]
      exact q3
  · intro q hq
    by_cases c : q = p
    · exact ⟨j, hj, by rw [ej, c]⟩
    · refine h3 q ?_
      unfold pt_up at hq
      rw [if_neg c] at hq
      exact hq
theorem pt_add {k p : Nat} {b13 b14 : Nat → Int32} {P : Nat → Option Int32} {x : Int32} (h : pt_ok k b13 b14 P) (hk20 : k < 20) (hp : p < 288) (hn : P p = none) : pt_ok (k + 1) (upd b13 k (nI p)) (upd b14 k x) (pt_up P p x) := by
  obtain ⟨hk, pl, h1, h2, h3⟩ := h
  have ne : ∀ j, j < k → pl j ≠ p := by
    intro j hj e
    have := (h1 j hj).2.2
    rw [e, hn] at this
    exact absurd this (by simp)
  refine ⟨by omega, fun j => if j = k then p else pl j, ?_, ?_, ?_⟩
  · intro i hi
    show upd b13 k (nI p) i = nI (if i = k then p else pl i) ∧ (if i = k then p else pl i) < 288 ∧ pt_up P p x (if i = k then p else pl i) = some (upd b14 k x i)
    by_cases c : i = k
    · rw [c, if_pos rfl, pk_us, pk_us]
      unfold pt_up
      rw [if_pos rfl]
      exact ⟨rfl, hp, rfl⟩
    · rw [if_neg c, pk_un c, pk_un c]
      unfold pt_up
      rw [if_neg (ne i (by omega))]
      exact h1 i (by omega)
  · intro i hi j hj
    show (if i = k then p else pl i) = (if j = k then p else pl j) → i = j
    by_cases c : i = k
    · by_cases c2 : j = k
      · intro _; omega
      · rw [if_pos c, if_neg c2]
        intro z
        exact absurd z.symm (ne j (by omega))
    · by_cases c2 : j = k
      · rw [if_neg c, if_pos c2]
        intro z
        exact absurd z (ne i (by omega))
      · rw [if_neg c, if_neg c2]
        exact h2 i (by omega) j (by omega)
  · intro q hq
    by_cases c : q = p
    · exact ⟨k, by omega, by show (if k = k then p else pl k) = q; rw [if_pos rfl, c]⟩
    · unfold pt_up at hq
      rw [if_neg c] at hq
      obtain ⟨j, hj, e⟩ := h3 q hq
      refine ⟨j, by omega, ?_⟩
      show (if j = k then p else pl j) = q
      rw [if_neg (by omega), e]
theorem mt_patchAt {post : Int32 → Prop} {rc ds cn ga : Int32} {ls : Int64} {a1 a2 a3 a4 a5 a6 a7 a8 a9 a10 a11 a12 a13 a14 a15 a16 a17 a18 a19 a20 a21 a22 : Nat → Int32} {k p : Nat} {P : Nat → Option Int32} (hp : p < 2 ^ 31) (hP : pt_ok k a13 a14 P) (hs : ∀ j, j < k → a13 j = nI p → P p = some (a14 j) → post (nI j)) (hno : P p = none → post (-1)) : wpX_patchAt post (rc, nI k, ds, cn, ga, ls, a1, a2, a3, a4, a5, a6, a7, a8, a9, a10, a11, a12, a13, a14, a15, a16, a17, a18, a19, a20, a21, a22) (nI p) := by
  obtain ⟨hk, pl, h1, h2, h3⟩ := hP
  obtain ⟨K, hK, hmin⟩ := pk_least (fun j => j = k ∨ pl j = p) ⟨k, Or.inl rfl⟩
  have hKk : K ≤ k := by
    rcases Nat.lt_or_ge k K with z | z
    · exact absurd (Or.inl rfl) (hmin k z)
    · exact z
  refine pk_loop (σ := Unit) (fun n j _ => wX_patchAt_2 post (nI p) rc (nI k) ds cn ga ls a1 a2 a3 a4 a5 a6 a7 a8 a9 a10 a11 a12 a13 a14 a15 a16 a17 a18 a19 a20 a21 a22 n (nI j)) (fun _ _ => True) K 0 () (Nat.zero_le _) trivial ?_ ?_
  · intro n _ _
    refine pk_le k K (fun z => hno ?_) (fun z => ⟨pk_in K 20 (by omega), br_t ?_ (hs K z ?_ ?_)⟩)
    · by_cases c : P p = none
      · exact c
      · obtain ⟨j, hj, e⟩ := h3 p c
        exact absurd (Or.inr e) (hmin j (by omega))
    · rw [nI_clamp (by omega), (h1 K z).1, hK.resolve_left (by omega)]
    · rw [(h1 K z).1, hK.resolve_left (by omega)]
    · rw [← hK.resolve_left (by omega)]
      exact (h1 K z).2.2
  · intro n j _ hj _ hr
    refine pk_le k j (fun z => absurd z (by omega)) (fun z => ⟨pk_in j 20 (by omega), br_f ?_ (nm_r (nI_1 j) (hr () trivial))⟩)
    rw [nI_clamp (by omega), (h1 j z).1, nI_eq (by have := (h1 j z).2.1; omega) hp]
    exact fun q => hmin j hj (Or.inr q)
theorem mt_m1 {j : Nat} (hj : j < 2 ^ 31) : ¬ nI j = -1 := by
  intro h
  have q := congrArg Int32.toInt h
  rw [nI_toInt hj, show (-1 : Int32).toInt = -1 by decide] at q
  omega
def vv_of (W : Nat → Nat → Int32) (P : Nat → Option Int32) (n r c : Nat) : Int32 := if r / 16 = n / 16 then W r c else (P (3 * r + c)).getD (W r c)
theorem mt_valueAt {post : Int32 → St2 → Prop} {ds cn ga : Int32} {ls : Int64} {a1 a2 a3 a4 a5 a6 a7 a8 a9 a10 a11 a12 a13 a14 a15 a16 a17 a18 a19 a20 a21 a22 : Nat → Int32} {n k r c : Nat} {W : Nat → Nat → Int32} {P : Nat → Option Int32} (hn : n ≤ 96) (hr : r < n) (hc : c < 3) (hro : ro_ok (a2, a3, a4, a5, a6, a7, a8, a9, a10, a11) (n / 16) W) (hl : ∀ i c, i < n % 16 → c < 3 → a12 (3 * i + c) = W (16 * (n / 16) + i) c) (hP : pt_ok k a13 a14 P)
    (h : ∀ b15, post (vv_of W P n r c) (nI n, nI k, ds, cn, ga, ls, a1, a2, a3, a4, a5, a6, a7, a8, a9, a10, a11, a12, a13, a14, b15, a16, a17, a18, a19, a20, a21, a22)) : wpX_valueAt post (nI n, nI k, ds, cn, ga, ls, a1, a2, a3, a4, a5, a6, a7, a8, a9, a10, a11, a12, a13, a14, a15, a16, a17, a18, a19, a20, a21, a22) (nI r) (nI c) := by
  have hm : r % 16 < 16 := Nat.mod_lt _ (by omega)
  unfold vv_of at h
  refine ⟨by decide, nm_r (mt_d16 (by omega)) (mt_blockCount (by omega) (pk_eq (r / 16) (n / 16) (fun e => ⟨by decide, ?_⟩) (fun e => ?_)))⟩
  · rw [if_pos e] at h
    rw [mt_m16 (by omega), mt_3a]
    refine ⟨pk_in (3 * (r % 16) + c) 48 (by omega), ?_⟩
    rw [nI_clamp (by omega), hl (r % 16) c (by omega) hc, show 16 * (n / 16) + r % 16 = r by omega]
    exact h a15
  · rw [if_neg e] at h
    rw [mt_3a, mt_3a]
    refine mt_patchAt (by omega) hP (fun j hj e1 e2 => br_f (mt_m1 (by have := hP.1; omega)) ⟨pk_in j 20 (by have := hP.1; omega), ?_⟩) (fun e1 => br_t rfl ?_)
    · rw [nI_clamp (by have := hP.1; omega)]
      rw [e2] at h
      exact h a15
    · rw [e1] at h
      refine mt_unpack (by omega) (hro (r / 16) (by omega) c hc).1 (fun b15 q => ⟨by decide, ?_⟩)
      rw [mt_m16 (by omega)]
      refine ⟨pk_in (r % 16) 16 hm, ?_⟩
      rw [nI_clamp (by omega), q _ hm, show 16 * (r / 16) + r % 16 = r by omega]
      exact h b15
theorem mt_valueAt_2 {post : Int32 → St2 → Prop} {ds cn ga : Int32} {ls : Int64} {a1 a2 a3 a4 a5 a6 a7 a8 a9 a10 a11 a12 a13 a14 a15 a16 a17 a18 a19 a20 a21 a22 : Nat → Int32} {n k r c : Nat} {W : Nat → Nat → Int32} {P : Nat → Option Int32} (hn : n ≤ 96) (hr : r < n) (hc : c < 3) (hro : ro_ok (a2, a3, a4, a5, a6, a7, a8, a9, a10, a11) (n / 16) W) (hl : ∀ i c, i < n % 16 → c < 3 → a12 (3 * i + c) = W (16 * (n / 16) + i) c) (hP : pt_ok k a13 a14 P)
    (h : ∀ b15, post (vv_of W P n r c) (nI n, nI k, ds, cn, ga, ls, a1, a2, a3, a4, a5, a6, a7, a8, a9, a10, a11, a12, a13, a14, b15, a16, a17, a18, a19, a20, a21, a22)) : wpX_valueAt_2 post (nI n, nI k, ds, cn, ga, ls, a1, a2, a3, a4, a5, a6, a7, a8, a9, a10, a11, a12, a13, a14, a15, a16, a17, a18, a19, a20, a21, a22) (nI r) (nI c) := by
  have hm : r % 16 < 16 := Nat.mod_lt _ (by omega)
  unfold vv_of at h
  refine ⟨by decide, nm_r (mt_d16 (by omega)) (mt_blockCount (by omega) (pk_eq (r / 16) (n / 16) (fun e => ⟨by decide, ?_⟩) (fun e => ?_)))⟩
  · rw [if_pos e] at h
    rw [mt_m16 (by omega), mt_3a]
    refine ⟨pk_in (3 * (r % 16) + c) 48 (by omega), ?_⟩
    rw [nI_clamp (by omega), hl (r % 16) c (by omega) hc, show 16 * (n / 16) + r % 16 = r by omega]
    exact h a15
  · rw [if_neg e] at h
    rw [mt_3a, mt_3a]
    refine mt_patchAt (by omega) hP (fun j hj e1 e2 => br_f (mt_m1 (by have := hP.1; omega)) ⟨pk_in j 20 (by have := hP.1; omega), ?_⟩) (fun e1 => br_t rfl ?_)
    · rw [nI_clamp (by have := hP.1; omega)]
      rw [e2] at h
      exact h a15
    · rw [e1] at h
      refine mt_unpack_2 (by omega) (hro (r / 16) (by omega) c hc).1 (fun b15 q => ⟨by decide, ?_⟩)
      rw [mt_m16 (by omega)]
      refine ⟨pk_in (r % 16) 16 hm, ?_⟩
      rw [nI_clamp (by omega), q _ hm, show 16 * (r / 16) + r % 16 = r by omega]
      exact h b15
theorem mt_badColumn {post : Int32 → Prop} {rc pc ds cn ga : Int32} {ls : Int64} {a1 a2 a3 a4 a5 a6 a7 a8 a9 a10 a11 a12 a13 a14 a15 a16 a17 a18 a19 a20 a21 a22 : Nat → Int32} {c : Nat} (hc : c < 3) (h : post 0) : wpX_badColumn post (rc, pc, ds, cn, ga, ls, a1, a2, a3, a4, a5, a6, a7, a8, a9, a10, a11, a12, a13, a14, a15, a16, a17, a18, a19, a20, a21, a22) (nI c) :=
  br_f (nI_pos (by omega)) (pk_lt c 3 (fun _ => h) (fun z => absurd z (by omega)))
theorem mt_badColumn3 {post : Int32 → Prop} {rc pc ds cn ga : Int32} {ls : Int64} {a1 a2 a3 a4 a5 a6 a7 a8 a9 a10 a11 a12 a13 a14 a15 a16 a17 a18 a19 a20 a21 a22 : Nat → Int32} (h : post 1) : wpX_badColumn post (rc, pc, ds, cn, ga, ls, a1, a2, a3, a4, a5, a6, a7, a8, a9, a10, a11, a12, a13, a14, a15, a16, a17, a18, a19, a20, a21, a22) 3 :=
  br_f (by decide) (br_f (by decide) h)
theorem mt_badColumnM {post : Int32 → Prop} {rc pc ds cn ga : Int32} {ls : Int64} {a1 a2 a3 a4 a5 a6 a7 a8 a9 a10 a11 a12 a13 a14 a15 a16 a17 a18 a19 a20 a21 a22 : Nat → Int32} (h : post 1) : wpX_badColumn post (rc, pc, ds, cn, ga, ls, a1, a2, a3, a4, a5, a6, a7, a8, a9, a10, a11, a12, a13, a14, a15, a16, a17, a18, a19, a20, a21, a22) (-1) :=
  br_t (by decide) h
theorem mt_noRow {post : Int32 → Prop} {pc ds cn ga : Int32} {ls : Int64} {a1 a2 a3 a4 a5 a6 a7 a8 a9 a10 a11 a12 a13 a14 a15 a16 a17 a18 a19 a20 a21 a22 : Nat → Int32} {n r : Nat} (hn : n ≤ 96) (hr : r < 2 ^ 31) (h0 : r < n → a1 r = 0 → post 0) (h1 : (n ≤ r ∨ a1 r ≠ 0) → post 1) : wpX_noRow post (nI n, pc, ds, cn, ga, ls, a1, a2, a3, a4, a5, a6, a7, a8, a9, a10, a11, a12, a13, a14, a15, a16, a17, a18, a19, a20, a21, a22) (nI r) := by
  refine br_f (nI_pos hr) (pk_le n r (fun z => h1 (Or.inl z)) (fun z => ⟨pk_in r 96 (by omega), ?_⟩))
  rw [nI_clamp hr]
  by_cases c : a1 r = 0
  · exact br_t c (h0 z c)
  · exact br_f c (h1 (Or.inr c))
theorem mt_change {post : Int32 → St2 → Prop} {ds cn ga : Int32} {ls : Int64} {a1 a2 a3 a4 a5 a6 a7 a8 a9 a10 a11 a12 a13 a14 a15 a16 a17 a18 a19 a20 a21 a22 : Nat → Int32} {n k r c : Nat} {W : Nat → Nat → Int32} {P : Nat → Option Int32} {x : Int32} (hn : n ≤ 96) (hr : r < n) (hb : r / 16 < n / 16) (hc : c < 3) (h1 : a1 r = 0) (hro : ro_ok (a2, a3, a4, a5, a6, a7, a8, a9, a10, a11) (n / 16) W) (hl : ∀ i c, i < n % 16 → c < 3 → a12 (3 * i + c) = W (16 * (n / 16) + i) c) (hP : pt_ok k a13 a14 P)
    (hA : ∀ v, P (3 * r + c) = some v → ∀ b14 b15, pt_ok k a13 b14 (pt_up P (3 * r + c) x) → post v (nI n, nI k, ds, cn, ga, ls, a1, a2, a3, a4, a5, a6, a7, a8, a9, a10, a11, a12, a13, b14, b15, a16, a17, a18, a19, a20, a21, a22))
    (hB : P (3 * r + c) = none → W r c = x → ∀ b15, post (W r c) (nI n, nI k, ds, cn, ga, ls, a1, a2, a3, a4, a5, a6, a7, a8, a9, a10, a11, a12, a13, a14, b15, a16, a17, a18, a19, a20, a21, a22))
    (hC : P (3 * r + c) = none → W r c ≠ x → k = 20 → ∀ b15, post (-1000000002) (nI n, nI k, ds, cn, ga, ls, a1, a2, a3, a4, a5, a6, a7, a8, a9, a10, a11, a12, a13, a14, b15, a16, a17, a18, a19, a20, a21, a22))
    (hD : P (3 * r + c) = none → W r c ≠ x → k < 20 → ∀ b13 b14 b15, pt_ok (k + 1) b13 b14 (pt_up P (3 * r + c) x) → post (W r c) (nI n, nI (k + 1), ds, cn, ga, ls, a1, a2, a3, a4, a5, a6, a7, a8, a9, a10, a11, a12, b13, b14, b15, a16, a17, a18, a19, a20, a21, a22)) : wpX_change post (nI n, nI k, ds, cn, ga, ls, a1, a2, a3, a4, a5, a6, a7, a8, a9, a10, a11, a12, a13, a14, a15, a16, a17, a18, a19, a20, a21, a22) (nI r) (nI c) x := by
  have hk : k ≤ 20 := hP.1
  unfold wpX_change
  refine mt_badColumn hc (br_t rfl (mt_noRow hn (by omega) (fun _ _ => br_t rfl ?_) (fun q => absurd q (fun z => z.elim (by omega) (fun z => z h1)))))
  refine mt_valueAt hn hr hc hro hl hP (fun b15 => ⟨by decide, mt_blockCount (by omega) ?_⟩)
  have hv : vv_of W P n r c = (P (3 * r + c)).getD (W r c) := by unfold vv_of; rw [if_neg (by omega)]
  rw [mt_d16 (by omega), hv]
  refine pk_eq (r / 16) (n / 16) (fun z => absurd z (by omega)) (fun _ => ?_)
  rw [mt_3a]
  refine mt_patchAt (by omega) hP (fun j hj e1 e2 => ?_) (fun e1 => ?_)
  · have nm := mt_m1 (show j < 2 ^ 31 by omega)
    rw [e2]
    refine br_f nm (br_f nm (br_f nm ⟨pk_in j 20 (by omega), nm_r (e' := upd a14 j x) (by rw [nI_clamp (by omega)]) (hA _ e2 _ b15 (pt_set hP hj e1 (by omega)))⟩))
  · rw [e1]
    refine br_t rfl ?_
    show (W r c = x → _) ∧ (¬ W r c = x → _)
    by_cases e2 : W r c = x
    · exact br_t e2 (hB e1 e2 b15)
    · refine br_f e2 (br_t rfl (pk_eq k 20 (fun e3 => hC e1 e2 e3 b15) (fun e3 => br_t rfl ⟨pk_in k 20 (by omega), nm_r (e' := upd a13 k (nI (3 * r + c))) (by rw [nI_clamp (by omega), mt_3a]) (nm_r (nI_1 k) ⟨pk_in k 20 (by omega), nm_r (e' := upd a14 k x) (by rw [nI_clamp (by omega)]) (hD e1 e2 (by omega) _ _ b15 (pt_add hP (by omega) (by omega) e1))⟩)⟩)))
end
section
/-! conditions: which rows are chosen -/
/-- the live rows of a block: rows below n, from dd on -/
def li_f (n dd b : Nat) : Nat → Int32
  | 0 => 0
  | i + 1 => if 16 * b + i < n ∧ dd ≤ 16 * b + i then li_f n dd b i ||| ((1 : Int32) <<< (nI i &&& 31)) else li_f n dd b i
theorem mt_liveSet {post : Int32 → Prop} {pc ds cn ga : Int32} {ls : Int64} {a1 a2 a3 a4 a5 a6 a7 a8 a9 a10 a11 a12 a13 a14 a15 a16 a17 a18 a19 a20 a21 a22 : Nat → Int32} {n dd b : Nat} (hn : n ≤ 96) (hb : b < 6) (hdl : ∀ r, r < n → (a1 r = 0 ↔ dd ≤ r)) (h : post (li_f n dd b 16)) : wpX_liveSet post (nI n, pc, ds, cn, ga, ls, a1, a2, a3, a4, a5, a6, a7, a8, a9, a10, a11, a12, a13, a14, a15, a16, a17, a18, a19, a20, a21, a22) (nI b) := by
  refine pk_loop (σ := Unit) (fun m i _ => wX_liveSet_4 post (nI b) (nI n) pc ds cn ga ls a1 a2 a3 a4 a5 a6 a7 a8 a9 a10 a11 a12 a13 a14 a15 a16 a17 a18 a19 a20 a21 a22 m (li_f n dd b i) (nI i)) (fun _ _ => True) 16 0 () (Nat.zero_le _) trivial ?_ ?_
  · intro m _ _
    exact pk_le 16 16 (fun _ => h) (fun z => absurd z (by omega))
  · intro m i _ hi _ hr
    have hr' := hr () trivial
    rw [li_f] at hr'
    refine pk_le 16 i (fun z => absurd z (by omega)) (fun _ => nm_r (mt_16a b i) (pk_le n (16 * b + i) (fun z => nm_r (nI_1 i) ?_) (fun z => ⟨pk_in (16 * b + i) 96 (by omega), ?_⟩)))
    · rw [if_neg (by omega)] at hr'
      exact hr'
    · rw [nI_clamp (by omega)]
      by_cases c : dd ≤ 16 * b + i
      · rw [if_pos ⟨z, c⟩] at hr'
        exact br_t ((hdl _ z).mpr c) (nm_e (nm_r (nI_1 i) hr'))
      · rw [if_neg (fun q => c q.2)] at hr'
        exact br_f (fun q => c ((hdl _ z).mp q)) (nm_r (nI_1 i) hr')
theorem mt_choose0 {post : St2 → Prop} {pc ds ga : Int32} {ls : Int64} {a1 a2 a3 a4 a5 a6 a7 a8 a9 a10 a11 a12 a13 a14 a15 a16 a17 a18 a19 a20 a21 a22 : Nat → Int32} {n dd : Nat} (hn : n ≤ 95) (hdl : ∀ r, r < n → (a1 r = 0 ↔ dd ≤ r))
    (h : ∀ b20, (∀ b, b ≤ n / 16 → b20 b = li_f n dd b 16) → post (nI n, pc, ds, nI 0, ga, ls, a1, a2, a3, a4, a5, a6, a7, a8, a9, a10, a11, a12, a13, a14, a15, a16, a17, a18, a19, b20, a21, a22)) : wpX_choose post (nI n, pc, ds, nI 0, ga, ls, a1, a2, a3, a4, a5, a6, a7, a8, a9, a10, a11, a12, a13, a14, a15, a16, a17, a18, a19, a20, a21, a22) := by
  unfold wpX_choose
  refine mt_blockCount (by omega) ?_
  refine pk_loop (fun m b s => wX_choose_7 post (nI (n / 16)) m (nI b) (nI n) pc ds (nI 0) ga ls a1 a2 a3 a4 a5 a6 a7 a8 a9 a10 a11 a12 a13 a14 a15 a16 a17 a18 a19 s a21 a22) (fun b s => ∀ j, j < b → s j = li_f n dd j 16) (n / 16 + 1) 0 a20 (Nat.zero_le _) (fun j hj => absurd hj (Nat.not_lt_zero _)) ?_ ?_
  · intro m s hs
    exact pk_lt (n / 16) (n / 16 + 1) (fun _ => h s (fun b hb => hs b (by omega))) (fun z => absurd z (by omega))
  · intro m b s hb hs hr
    refine pk_lt (n / 16) b (fun z => absurd z (by omega)) (fun _ => pk_le 6 b (fun z => absurd z (by omega)) (fun _ => mt_liveSet (by omega) (by omega) hdl ⟨1, ?_⟩))
    refine pk_le 0 0 (fun _ => ⟨pk_in b 7 (by omega), nm_r (e' := upd s b (li_f n dd b 16)) (by rw [nI_clamp (by omega)]) (nm_r (nI_1 b) (hr _ ?_))⟩) (fun z => absurd z (by omega))
    intro j hj
    by_cases e : j = b
    · rw [e, pk_us]
    · rw [pk_un e]
      exact hs j (by omega)
theorem mt_choose1 {post : St2 → Prop} {pc ds ga : Int32} {ls : Int64} {a1 a2 a3 a4 a5 a6 a7 a8 a9 a10 a11 a12 a13 a14 a15 a16 a17 a18 a19 a20 a21 a22 : Nat → Int32} {n dd c : Nat} {lo hi : Int32} {F : Nat → Int32} (hn : n ≤ 95) (hc : c < 3) (hdl : ∀ r, r < n → (a1 r = 0 ↔ dd ≤ r))
    (h17 : a17 0 = nI c) (h18 : a18 0 = lo) (h19 : a19 0 = hi)
    (h0 : ∀ b, b ≤ n / 16 → li_f n dd b 16 = 0 → F b = 0) (hl : li_f n dd (n / 16) 16 = 0)
    (hF : ∀ b, b < n / 16 → ∃ s g, F b = li_f n dd b 16 &&& g ∧ (∀ (post' : Int32 → St2 → Prop) b20, post' s (nI n, pc, ds, nI 1, ga, ls, a1, a2, a3, a4, a5, a6, a7, a8, a9, a10, a11, a12, a13, a14, a15, a16, a17, a18, a19, b20, a21, a22) → wpX_packedWithin post' (nI n, pc, ds, nI 1, ga, ls, a1, a2, a3, a4, a5, a6, a7, a8, a9, a10, a11, a12, a13, a14, a15, a16, a17, a18, a19, b20, a21, a22) (nI (3 * b + c)) lo hi) ∧ (∀ (post' : Int32 → Prop) b20, post' g → wpX_patchedWithin post' (nI n, pc, ds, nI 1, ga, ls, a1, a2, a3, a4, a5, a6, a7, a8, a9, a10, a11, a12, a13, a14, a15, a16, a17, a18, a19, b20, a21, a22) (nI b) (nI c) s lo hi))
    (h : ∀ b20, (∀ b, b ≤ n / 16 → b20 b = F b) → post (nI n, pc, ds, nI 1, ga, ls, a1, a2, a3, a4, a5, a6, a7, a8, a9, a10, a11, a12, a13, a14, a15, a16, a17, a18, a19, b20, a21, a22)) : wpX_choose post (nI n, pc, ds, nI 1, ga, ls, a1, a2, a3, a4, a5, a6, a7, a8, a9, a10, a11, a12, a13, a14, a15, a16, a17, a18, a19, a20, a21, a22) := by
  unfold wpX_choose
  refine mt_blockCount (by omega) ?_
  refine pk_loop (fun m b s => wX_choose_7 post (nI (n / 16)) m (nI b) (nI n) pc ds (nI 1) ga ls a1 a2 a3 a4 a5 a6 a7 a8 a9 a10 a11 a12 a13 a14 a15 a16 a17 a18 a19 s a21 a22) (fun b s => ∀ j, j < b → s j = F j) (n / 16 + 1) 0 a20 (Nat.zero_le _) (fun j hj => absurd hj (Nat.not_lt_zero _)) ?_ ?_
  · intro m s hs
    exact pk_lt (n / 16) (n / 16 + 1) (fun _ => h s (fun b hb => hs b (by omega))) (fun z => absurd z (by omega))
  · intro m b s hb hs hr
    have nxt : ∀ x, x = F b → wX_choose_7 post (nI (n / 16)) m (nI (b + 1)) (nI n) pc ds (nI 1) ga ls a1 a2 a3 a4 a5 a6 a7 a8 a9 a10 a11 a12 a13 a14 a15 a16 a17 a18 a19 (upd s b x) a21 a22 := by
      intro x hx
      refine hr _ ?_
      intro j hj
      by_cases e : j = b
      · rw [e, pk_us, hx]
      · rw [pk_un e]
        exact hs j (by omega)
    refine pk_lt (n / 16) b (fun z => absurd z (by omega)) (fun _ => pk_le 6 b (fun z => absurd z (by omega)) (fun _ => mt_liveSet (by omega) (by omega) hdl ?_))
    by_cases z : li_f n dd b 16 = 0
    · refine ⟨1, pk_le 1 0 (fun z => absurd z (by omega)) (fun _ => br_t z ⟨pk_in b 7 (by omega), nm_r (e' := upd s b (li_f n dd b 16)) (by rw [nI_clamp (by omega)]) (nm_r (nI_1 b) (nxt _ ?_))⟩)⟩
      rw [z, h0 b (by omega) z]
    · have hb' : b < n / 16 := by
        rcases Nat.lt_or_ge b (n / 16) with y | y
        · exact y
        · rw [show b = n / 16 by omega] at z
          exact absurd hl z
      obtain ⟨sp, g, e1, e2, e3⟩ := hF b hb'
      refine ⟨2, pk_le 1 0 (fun z => absurd z (by omega)) (fun _ => br_f z ⟨pk_in 0 4 (by omega), nm_r (e' := nI c) h17 ⟨pk_in 0 4 (by omega), nm_r (e' := lo) h18 ⟨pk_in 0 4 (by omega), nm_r (e' := hi) h19 (pk_eq b (n / 16) (fun y => absurd y (by omega)) (fun _ => ?_))⟩⟩⟩)⟩
      rw [mt_3a]
      refine e2 _ _ (e3 _ _ (nm_r (e' := F b) e1.symm (nm_r (e' := nI 1) rfl (pk_le 1 1 (fun _ => ⟨pk_in b 7 (by omega), nm_r (e' := upd s b (F b)) (by rw [nI_clamp (by omega)]) (nm_r (nI_1 b) (nxt _ rfl))⟩) (fun z => absurd z (by omega))))))
/-- bounds that cross -/
theorem mt_pwX {post : Int32 → St2 → Prop} {rc pc ds cn ga : Int32} {ls : Int64} {a1 a2 a3 a4 a5 a6 a7 a8 a9 a10 a11 a12 a13 a14 a15 a16 a17 a18 a19 a20 a21 a22 : Nat → Int32} {t lo hi : Int32} (hc : hi < lo) (h : post 0 (rc, pc, ds, cn, ga, ls, a1, a2, a3, a4, a5, a6, a7, a8, a9, a10, a11, a12, a13, a14, a15, a16, a17, a18, a19, a20, a21, a22)) : wpX_packedWithin post (rc, pc, ds, cn, ga, ls, a1, a2, a3, a4, a5, a6, a7, a8, a9, a10, a11, a12, a13, a14, a15, a16, a17, a18, a19, a20, a21, a22) t lo hi := br_t hc h
/-- bounds below a column's least -/
theorem mt_pwO {post : Int32 → St2 → Prop} {rc pc ds cn ga : Int32} {ls : Int64} {a1 a2 a3 a4 a5 a6 a7 a8 a9 a10 a11 a12 a13 a14 a15 a16 a17 a18 a19 a20 a21 a22 : Nat → Int32} {t : Nat} {lo hi : Int32} (ht : t < 18) (hc : ¬ hi < lo) (h7 : ¬ a7 t ≤ hi) (h : post 0 (rc, pc, ds, cn, ga, ls, a1, a2, a3, a4, a5, a6, a7, a8, a9, a10, a11, a12, a13, a14, a15, a16, a17, a18, a19, a20, a21, a22)) : wpX_packedWithin post (rc, pc, ds, cn, ga, ls, a1, a2, a3, a4, a5, a6, a7, a8, a9, a10, a11, a12, a13, a14, a15, a16, a17, a18, a19, a20, a21, a22) (nI t) lo hi := by
  refine br_f hc ⟨pk_in t 18 ht, br_c (fun _ => h) (fun _ => ⟨pk_in t 18 ht, br_f ?_ h⟩)⟩
  rw [nI_clamp (by omega)]
  exact h7
/-- the places of a column that are at most v -/
def ls_f (B : Nat → Int32) (v : Int32) : Nat → Int32
  | 0 => 0
  | i + 1 => if v < B i then ls_f B v i else ls_f B v i ||| ((1 : Int32) <<< (nI i &&& 31))
theorem mt_pwL {post : Int32 → St2 → Prop} {rc pc ds cn ga : Int32} {ls : Int64} {a1 a2 a3 a4 a5 a6 a7 a8 a9 a10 a11 a12 a13 a14 a15 a16 a17 a18 a19 a20 a21 a22 : Nat → Int32} {t : Nat} {v : Int32} {B : Nat → Int32} (ht : t < 18) (he : en_ok (a2, a3, a4, a5, a6, a7, a8, a9, a10, a11) t B) (hf : a2 t = nI 3) (h7 : a7 t = v) (h8 : v < a8 t) (h : post (ls_f B v 16) (rc, pc, ds, cn, ga, ls, a1, a2, a3, a4, a5, a6, a7, a8, a9, a10, a11, a12, a13, a14, a15, a16, a17, a18, a19, a20, a21, a22)) : wpX_packedWithin post (rc, pc, ds, cn, ga, ls, a1, a2, a3, a4, a5, a6, a7, a8, a9, a10, a11, a12, a13, a14, a15, a16, a17, a18, a19, a20, a21, a22) (nI t) v v := by
  have ct : (nI t).toNatClampNeg = t := nI_clamp (by omega)
  have h8' : ¬ a8 t < v := by
    rw [Int32.lt_iff_toInt_lt] at *
    omega
  have h7' : a7 t ≤ v := by rw [h7, Int32.le_iff_toInt_le]; exact Int.le_refl _
  have h7n : ¬ a7 t < v := by rw [h7]; exact pu_irr v
  refine br_f (pu_irr v) ⟨pk_in t 18 ht, ?_⟩
  rw [ct]
  refine br_f h8' ⟨pk_in t 18 ht, br_t h7' ⟨pk_in t 18 ht, br_f h7n ⟨pk_in t 18 ht, br_t h8 ⟨pk_in t 18 ht, nm_r (e' := nI 3) (by rw [ct]; exact hf) (br_f (by decide) (br_t rfl ?_))⟩⟩⟩⟩
  unfold en_ok at he
  dsimp only at he
  rw [hf] at he
  rcases he with ⟨c, he⟩ | ⟨c, he⟩ | ⟨c, _⟩ | ⟨c, d, w, e1, e2, e3, e4, e5, e6, e7⟩ | ⟨c, _⟩ | ⟨c, _⟩
  · exact absurd c (by decide)
  · exact absurd c (by decide)
  · exact absurd c (by decide)
  · refine ⟨pk_in t 18 ht, ?_⟩
    rw [ct, e4, mt_24]
    refine mt_place (k := 0) (by omega) (by omega) (fun j hj => absurd hj (Nat.not_lt_zero _)) (fun _ => ?_) ?_
    · rw [Nat.add_zero, e6]
      rw [h7, Int32.le_iff_toInt_le]
      exact Int.le_refl _
    · refine pk_loop (σ := Unit) (fun m i _ => wX_listWithin_23 (fun r => post r (rc, pc, ds, cn, ga, ls, a1, a2, a3, a4, a5, a6, a7, a8, a9, a10, a11, a12, a13, a14, a15, a16, a17, a18, a19, a20, a21, a22)) (nI t) v (nI 0) rc pc ds cn ga ls a1 a2 a3 a4 a5 a6 a7 a8 a9 a10 a11 a12 a13 a14 a15 a16 a17 a18 a19 a20 a21 a22 m (ls_f B v i) (nI i)) (fun _ _ => True) 16 0 () (Nat.zero_le _) trivial ?_ ?_
      · intro m _ _
        exact pk_le 16 16 (fun _ => h) (fun z => absurd z (by omega))
      · intro m i _ hi _ hr
        have hr' := hr () trivial
        rw [ls_f] at hr'
        have h1 := mt_lm (w := w) hi
        obtain ⟨k, hk, q1, q2⟩ := e7 i hi
        refine pk_le 16 i (fun z => absurd z (by omega)) (fun _ => ⟨pk_in t 18 ht, pk_in t 18 ht, ?_⟩)
        rw [ct, e5, mt_24, show nI (24 * t) + 8 = nI (24 * t + 8) from nI_add _ 8, pk_mul]
        refine mt_get (by omega) (by omega) ?_
        rw [q1]
        refine pk_lt k 0 (fun z => absurd z (by omega)) (fun _ => ?_)
        rw [nI_add]
        refine ⟨pk_in (24 * t + k) 432 (by omega), ?_⟩
        rw [nI_clamp (by omega), q2]
        by_cases c2 : v < B i
        · rw [if_pos c2] at hr'
          exact br_t c2 (nm_r (nI_1 i) hr')
        · rw [if_neg c2] at hr'
          exact br_f c2 (nm_e (nm_r (nI_1 i) hr'))
  · exact absurd c (by decide)
  · exact absurd c (by decide)
theorem mt_isWithinX {post : Int32 → Prop} {rc pc ds cn ga : Int32} {ls : Int64} {a1 a2 a3 a4 a5 a6 a7 a8 a9 a10 a11 a12 a13 a14 a15 a16 a17 a18 a19 a20 a21 a22 : Nat → Int32} {x lo hi : Int32} (hc : hi < lo) (h : post 0) : wpX_isWithin post (rc, pc, ds, cn, ga, ls, a1, a2, a3, a4, a5, a6, a7, a8, a9, a10, a11, a12, a13, a14, a15, a16, a17, a18, a19, a20, a21, a22) x lo hi := by
  refine br_c (fun _ => h) (fun z => br_t ?_ h)
  rw [Int32.lt_iff_toInt_lt] at *
  omega
theorem mt_paX {post : Int32 → Prop} {rc ds cn ga : Int32} {ls : Int64} {a1 a2 a3 a4 a5 a6 a7 a8 a9 a10 a11 a12 a13 a14 a15 a16 a17 a18 a19 a20 a21 a22 : Nat → Int32} {k : Nat} {b c lo hi : Int32} (hk : k ≤ 20) (hc : hi < lo) (h : post 0) : wpX_patchedWithin post (rc, nI k, ds, cn, ga, ls, a1, a2, a3, a4, a5, a6, a7, a8, a9, a10, a11, a12, a13, a14, a15, a16, a17, a18, a19, a20, a21, a22) b c 0 lo hi := by
  refine pk_loop (σ := Unit) (fun m j _ => wX_patchedWithin_6 post b c lo hi rc (nI k) ds cn ga ls a1 a2 a3 a4 a5 a6 a7 a8 a9 a10 a11 a12 a13 a14 a15 a16 a17 a18 a19 a20 a21 a22 m 0 (nI j)) (fun _ _ => True) k 0 () (Nat.zero_le _) trivial ?_ ?_
  · intro m _ _
    exact pk_le k k (fun _ => h) (fun z => absurd z (by omega))
  · intro m j _ hj _ hr
    have nx := hr () trivial
    refine pk_le k j (fun z => absurd z (by omega)) (fun _ => ⟨pk_in j 20 (by omega), by decide, nm_e ⟨pk_in j 20 (by omega), by decide, br_c (fun _ => ⟨by decide, br_c (fun _ => ⟨by decide, nm_e ⟨pk_in j 20 (by omega), mt_isWithinX hc (br_t rfl (nm_r (e' := 0) Int32.zero_and (nm_r (nI_1 j) nx)))⟩⟩) (fun _ => nm_r (nI_1 j) nx)⟩) (fun _ => nm_r (nI_1 j) nx)⟩⟩)
theorem mt_paN {post : Int32 → Prop} {rc ds cn ga : Int32} {ls : Int64} {a1 a2 a3 a4 a5 a6 a7 a8 a9 a10 a11 a12 a13 a14 a15 a16 a17 a18 a19 a20 a21 a22 : Nat → Int32} {k c : Nat} {P : Nat → Option Int32} {b s lo hi : Int32} (hP : pt_ok k a13 a14 P) (hc : c < 3) (hno : ∀ p, P p ≠ none → p % 3 ≠ c) (h : post s) : wpX_patchedWithin post (rc, nI k, ds, cn, ga, ls, a1, a2, a3, a4, a5, a6, a7, a8, a9, a10, a11, a12, a13, a14, a15, a16, a17, a18, a19, a20, a21, a22) b (nI c) s lo hi := by
  obtain ⟨hk, pl, h1, _, _⟩ := hP
  refine pk_loop (σ := Unit) (fun m j _ => wX_patchedWithin_6 post b (nI c) lo hi rc (nI k) ds cn ga ls a1 a2 a3 a4 a5 a6 a7 a8 a9 a10 a11 a12 a13 a14 a15 a16 a17 a18 a19 a20 a21 a22 m s (nI j)) (fun _ _ => True) k 0 () (Nat.zero_le _) trivial ?_ ?_
  · intro m _ _
    exact pk_le k k (fun _ => h) (fun z => absurd z (by omega))
  · intro m j _ hj _ hr
    have nx := hr () trivial
    obtain ⟨q1, q2, q3⟩ := h1 j hj
    refine pk_le k j (fun z => absurd z (by omega)) (fun _ => ⟨pk_in j 20 (by omega), by decide, nm_e ⟨pk_in j 20 (by omega), by decide, br_f ?_ (nm_r (nI_1 j) nx)⟩⟩)
    rw [nI_clamp (by omega), q1, mt_m3 (by omega), nI_eq (by omega) (by omega)]
    exact hno _ (by rw [q3]; simp)
/-- how many bits -/
def bo_f (x : Int32) : Nat → Int32
  | 0 => 0
  | i + 1 => bo_f x i + ((x >>> (nI i &&& 31)) &&& 1)
theorem mt_bitsOf {post : Int32 → Prop} {rc pc ds cn ga : Int32} {ls : Int64} {a1 a2 a3 a4 a5 a6 a7 a8 a9 a10 a11 a12 a13 a14 a15 a16 a17 a18 a19 a20 a21 a22 : Nat → Int32} {x : Int32} (h : post (bo_f x 16)) : wpX_bitsOf post (rc, pc, ds, cn, ga, ls, a1, a2, a3, a4, a5, a6, a7, a8, a9, a10, a11, a12, a13, a14, a15, a16, a17, a18, a19, a20, a21, a22) x := by
  refine pk_loop (σ := Unit) (fun m i _ => wX_bitsOf_4 post x rc pc ds cn ga ls a1 a2 a3 a4 a5 a6 a7 a8 a9 a10 a11 a12 a13 a14 a15 a16 a17 a18 a19 a20 a21 a22 m (bo_f x i) (nI i)) (fun _ _ => True) 16 0 () (Nat.zero_le _) trivial ?_ ?_
  · intro m _ _
    exact pk_le 16 16 (fun _ => h) (fun z => absurd z (by omega))
  · intro m i _ hi _ hr
    exact pk_le 16 i (fun z => absurd z (by omega)) (fun _ => nm_e (nm_r (nI_1 i) (hr () trivial)))
def ct_f (F : Nat → Int32) : Nat → Int32
  | 0 => 0
  | b + 1 => ct_f F b + bo_f (F b) 16
theorem mt_count8 {post : Int32 → St2 → Prop} {pc ds cn ga : Int32} {ls : Int64} {a1 a2 a3 a4 a5 a6 a7 a8 a9 a10 a11 a12 a13 a14 a15 a16 a17 a18 a19 a20 a21 a22 : Nat → Int32} {n : Nat} {F : Nat → Int32} (hn : n ≤ 95) (hF : ∀ b, b ≤ n / 16 → a20 b = F b) (h : post (ct_f F (n / 16 + 1)) (nI n, pc, ds, cn, ga, ls, a1, a2, a3, a4, a5, a6, a7, a8, a9, a10, a11, a12, a13, a14, a15, a16, a17, a18, a19, a20, a21, a22)) : ∃ fu, wX_count_8 post (nI n) pc ds cn ga ls a1 a2 a3 a4 a5 a6 a7 a8 a9 a10 a11 a12 a13 a14 a15 a16 a17 a18 a19 a20 a21 a22 fu 0 0 := by
  refine pk_loop (σ := Unit) (fun m b _ => wX_count_8 post (nI n) pc ds cn ga ls a1 a2 a3 a4 a5 a6 a7 a8 a9 a10 a11 a12 a13 a14 a15 a16 a17 a18 a19 a20 a21 a22 m (ct_f F b) (nI b)) (fun _ _ => True) (n / 16 + 1) 0 () (Nat.zero_le _) trivial ?_ ?_
  · intro m _ _
    show wX_count_8 post (nI n) pc ds cn ga ls a1 a2 a3 a4 a5 a6 a7 a8 a9 a10 a11 a12 a13 a14 a15 a16 a17 a18 a19 a20 a21 a22 (m + 1) (ct_f F (n / 16 + 1)) (nI (n / 16 + 1))
    unfold wX_count_8
    exact mt_blockCount (by omega) (pk_lt (n / 16) (n / 16 + 1) (fun _ => h) (fun z => absurd z (by omega)))
  · intro m b _ hb _ hr
    show wX_count_8 post (nI n) pc ds cn ga ls a1 a2 a3 a4 a5 a6 a7 a8 a9 a10 a11 a12 a13 a14 a15 a16 a17 a18 a19 a20 a21 a22 (m + 1) (ct_f F b) (nI b)
    unfold wX_count_8
    refine mt_blockCount (by omega) (pk_lt (n / 16) b (fun z => absurd z (by omega)) (fun _ => ⟨pk_in b 7 (by omega), ?_⟩))
    rw [nI_clamp (by omega), hF b (by omega)]
    exact mt_bitsOf (nm_e (nm_r (nI_1 b) (hr () trivial)))
/-- seen, found -/
def po_f (x k : Int32) : Nat → Int32 × Int32
  | 0 => (0, 0)
  | i + 1 => if (x >>> (nI i &&& 31)) &&& 1 = 1 then ((po_f x k i).1 + 1, if (po_f x k i).1 = k then nI i else (po_f x k i).2) else po_f x k i
theorem mt_placeOf {post : Int32 → Prop} {rc pc ds cn ga : Int32} {ls : Int64} {a1 a2 a3 a4 a5 a6 a7 a8 a9 a10 a11 a12 a13 a14 a15 a16 a17 a18 a19 a20 a21 a22 : Nat → Int32} {x k : Int32} (h : post (po_f x k 16).2) : wpX_placeOf post (rc, pc, ds, cn, ga, ls, a1, a2, a3, a4, a5, a6, a7, a8, a9, a10, a11, a12, a13, a14, a15, a16, a17, a18, a19, a20, a21, a22) x k := by
  refine pk_loop (σ := Unit) (fun m i _ => wX_placeOf_8 post x k rc pc ds cn ga ls a1 a2 a3 a4 a5 a6 a7 a8 a9 a10 a11 a12 a13 a14 a15 a16 a17 a18 a19 a20 a21 a22 m (po_f x k i).1 (po_f x k i).2 (nI i)) (fun _ _ => True) 16 0 () (Nat.zero_le _) trivial ?_ ?_
  · intro m _ _
    exact pk_le 16 16 (fun _ => h) (fun z => absurd z (by omega))
  · intro m i _ hi _ hr
    have hr' := hr () trivial
    rw [po_f] at hr'
    refine pk_le 16 i (fun z => absurd z (by omega)) (fun _ => ?_)
    by_cases c : (x >>> (nI i &&& 31)) &&& 1 = 1
    · rw [if_pos c] at hr'
      refine br_t c (br_f (by decide) ?_)
      by_cases c2 : (po_f x k i).1 = k
      · rw [if_pos c2] at hr'
        exact br_t c2 (br_f (by decide) (nm_e (nm_r (nI_1 i) hr')))
      · rw [if_neg c2] at hr'
        exact br_f c2 (br_f (by decide) (nm_e (nm_r (nI_1 i) hr')))
    · rw [if_neg c] at hr'
      exact br_f c (br_t rfl (br_t rfl (nm_r (nI_1 i) hr')))
theorem mt_chosen8 {post : Int32 → St2 → Prop} {pc ds cn ga : Int32} {ls : Int64} {a1 a2 a3 a4 a5 a6 a7 a8 a9 a10 a11 a12 a13 a14 a15 a16 a17 a18 a19 a20 a21 a22 : Nat → Int32} {n m : Nat} {k : Int32} {F : Nat → Int32} (hn : n ≤ 95) (hF : ∀ b, b ≤ n / 16 → a20 b = F b) (hm : m ≤ n / 16) (hk : ¬ k < 0) (h0 : ∀ b, b < m → bo_f (F b) 16 = 0) (h1 : ¬ bo_f (F m) 16 ≤ k)
    (h : post (nI (16 * m) + (po_f (F m) k 16).2) (nI n, pc, ds, cn, ga, ls, a1, a2, a3, a4, a5, a6, a7, a8, a9, a10, a11, a12, a13, a14, a15, a16, a17, a18, a19, a20, a21, a22)) : ∃ fu, wX_chosen_8 post (nI n) pc ds cn ga ls a1 a2 a3 a4 a5 a6 a7 a8 a9 a10 a11 a12 a13 a14 a15 a16 a17 a18 a19 a20 a21 a22 fu k 0 := by
  have k0 : (0 : Int32) ≤ k := by
    rw [Int32.le_iff_toInt_le]
    rw [Int32.lt_iff_toInt_lt] at hk
    omega
  refine pk_loop (σ := Unit) (fun f b _ => wX_chosen_8 post (nI n) pc ds cn ga ls a1 a2 a3 a4 a5 a6 a7 a8 a9 a10 a11 a12 a13 a14 a15 a16 a17 a18 a19 a20 a21 a22 f k (nI b)) (fun _ _ => True) m 0 () (Nat.zero_le _) trivial ?_ ?_
  · intro f _ _
    show wX_chosen_8 post (nI n) pc ds cn ga ls a1 a2 a3 a4 a5 a6 a7 a8 a9 a10 a11 a12 a13 a14 a15 a16 a17 a18 a19 a20 a21 a22 (f + 1) k (nI m)
    unfold wX_chosen_8
    refine mt_blockCount (by omega) (pk_lt (n / 16) m (fun z => absurd z (by omega)) (fun _ => br_f hk ⟨pk_in m 7 (by omega), ?_⟩))
    rw [nI_clamp (by omega), hF m hm]
    refine mt_bitsOf (br_f h1 ⟨pk_in m 7 (by omega), mt_placeOf ?_⟩)
    rw [show 16 * nI m = nI (16 * m) by rw [show (16 : Int32) = nI 16 from rfl, pk_mul]]
    exact h
  · intro f b _ hb _ hr
    show wX_chosen_8 post (nI n) pc ds cn ga ls a1 a2 a3 a4 a5 a6 a7 a8 a9 a10 a11 a12 a13 a14 a15 a16 a17 a18 a19 a20 a21 a22 (f + 1) k (nI b)
    unfold wX_chosen_8
    refine mt_blockCount (by omega) (pk_lt (n / 16) b (fun z => absurd z (by omega)) (fun _ => br_f hk ⟨pk_in b 7 (by omega), ?_⟩))
    rw [nI_clamp (by omega), hF b (by omega)]
    refine mt_bitsOf ?_
    rw [h0 b hb]
    exact br_t k0 (nm_r (e' := k) (Int32.sub_zero k) (nm_r (nI_1 b) (hr () trivial)))
theorem mt_chosen8N {post : Int32 → St2 → Prop} {pc ds cn ga : Int32} {ls : Int64} {a1 a2 a3 a4 a5 a6 a7 a8 a9 a10 a11 a12 a13 a14 a15 a16 a17 a18 a19 a20 a21 a22 : Nat → Int32} {n : Nat} {k : Int32} {F : Nat → Int32} (hn : n ≤ 95) (hF : ∀ b, b ≤ n / 16 → a20 b = F b) (hk : ¬ k < 0) (h0 : ∀ b, b ≤ n / 16 → bo_f (F b) 16 = 0)
    (h : post (-1000000003) (nI n, pc, ds, cn, ga, ls, a1, a2, a3, a4, a5, a6, a7, a8, a9, a10, a11, a12, a13, a14, a15, a16, a17, a18, a19, a20, a21, a22)) : ∃ fu, wX_chosen_8 post (nI n) pc ds cn ga ls a1 a2 a3 a4 a5 a6 a7 a8 a9 a10 a11 a12 a13 a14 a15 a16 a17 a18 a19 a20 a21 a22 fu k 0 := by
  have k0 : (0 : Int32) ≤ k := by
    rw [Int32.le_iff_toInt_le]
    rw [Int32.lt_iff_toInt_lt] at hk
    omega
  refine pk_loop (σ := Unit) (fun f b _ => wX_chosen_8 post (nI n) pc ds cn ga ls a1 a2 a3 a4 a5 a6 a7 a8 a9 a10 a11 a12 a13 a14 a15 a16 a17 a18 a19 a20 a21 a22 f k (nI b)) (fun _ _ => True) (n / 16 + 1) 0 () (Nat.zero_le _) trivial ?_ ?_
  · intro f _ _
    show wX_chosen_8 post (nI n) pc ds cn ga ls a1 a2 a3 a4 a5 a6 a7 a8 a9 a10 a11 a12 a13 a14 a15 a16 a17 a18 a19 a20 a21 a22 (f + 1) k (nI (n / 16 + 1))
    unfold wX_chosen_8
    exact mt_blockCount (by omega) (pk_lt (n / 16) (n / 16 + 1) (fun _ => h) (fun z => absurd z (by omega)))
  · intro f b _ hb _ hr
    show wX_chosen_8 post (nI n) pc ds cn ga ls a1 a2 a3 a4 a5 a6 a7 a8 a9 a10 a11 a12 a13 a14 a15 a16 a17 a18 a19 a20 a21 a22 (f + 1) k (nI b)
    unfold wX_chosen_8
    refine mt_blockCount (by omega) (pk_lt (n / 16) b (fun z => absurd z (by omega)) (fun _ => br_f hk ⟨pk_in b 7 (by omega), ?_⟩))
    rw [nI_clamp (by omega), hF b (by omega)]
    refine mt_bitsOf ?_
    rw [h0 b (by omega)]
    exact br_t k0 (nm_r (e' := k) (Int32.sub_zero k) (nm_r (nI_1 b) (hr () trivial)))
end
section
/-! blocks passed over; values gathered -/
def pa_f (G : Nat → Int32) : Nat → Nat
  | 0 => 0
  | b + 1 => if G b = 0 then pa_f G b + 1 else pa_f G b
theorem pa_f_le (G : Nat → Int32) (n : Nat) : pa_f G n ≤ n := by
  induction n with
  | zero => exact Nat.le_refl _
  | succ n ih =>
    rw [pa_f]
    by_cases c : G n = 0
    · rw [if_pos c]; omega
    · rw [if_neg c]; omega
theorem mt_passed0 {post : Int32 → St2 → Prop} {pc ds ga : Int32} {ls : Int64} {a1 a2 a3 a4 a5 a6 a7 a8 a9 a10 a11 a12 a13 a14 a15 a16 a17 a18 a19 a20 a21 a22 : Nat → Int32} {n : Nat} (hn : n ≤ 96) (h : post 0 (nI n, pc, ds, nI 0, ga, ls, a1, a2, a3, a4, a5, a6, a7, a8, a9, a10, a11, a12, a13, a14, a15, a16, a17, a18, a19, a20, a21, a22)) : wpX_passed post (nI n, pc, ds, nI 0, ga, ls, a1, a2, a3, a4, a5, a6, a7, a8, a9, a10, a11, a12, a13, a14, a15, a16, a17, a18, a19, a20, a21, a22) := by
  refine pk_loop (σ := Unit) (fun m b _ => wX_passed_4 post m 0 (nI b) (nI n) pc ds (nI 0) ga ls a1 a2 a3 a4 a5 a6 a7 a8 a9 a10 a11 a12 a13 a14 a15 a16 a17 a18 a19 a20 a21 a22) (fun _ _ => True) (n / 16) 0 () (Nat.zero_le _) trivial ?_ ?_
  · intro m _ _
    show wX_passed_4 post (m + 1) 0 (nI (n / 16)) (nI n) pc ds (nI 0) ga ls a1 a2 a3 a4 a5 a6 a7 a8 a9 a10 a11 a12 a13 a14 a15 a16 a17 a18 a19 a20 a21 a22
    unfold wX_passed_4
    exact mt_blockCount (by omega) (pk_le (n / 16) (n / 16) (fun _ => h) (fun z => absurd z (by omega)))
  · intro m b _ hb _ hr
    show wX_passed_4 post (m + 1) 0 (nI b) (nI n) pc ds (nI 0) ga ls a1 a2 a3 a4 a5 a6 a7 a8 a9 a10 a11 a12 a13 a14 a15 a16 a17 a18 a19 a20 a21 a22
    unfold wX_passed_4
    exact mt_blockCount (by omega) (pk_le (n / 16) b (fun z => absurd z (by omega)) (fun _ => ⟨1, pk_le 0 0 (fun _ => br_t rfl (nm_r (nI_1 b) (hr () trivial))) (fun z => absurd z (by omega))⟩))
theorem mt_passed1 {post : Int32 → St2 → Prop} {pc ds ga : Int32} {ls : Int64} {a1 a2 a3 a4 a5 a6 a7 a8 a9 a10 a11 a12 a13 a14 a15 a16 a17 a18 a19 a20 a21 a22 : Nat → Int32} {n c : Nat} {lo hi : Int32} {G : Nat → Int32} (hn : n ≤ 96) (hc : c < 3) (h17 : a17 0 = nI c) (h18 : a18 0 = lo) (h19 : a19 0 = hi)
    (hG : ∀ b, b < n / 16 → ∀ (post' : Int32 → St2 → Prop), post' (G b) (nI n, pc, ds, nI 1, ga, ls, a1, a2, a3, a4, a5, a6, a7, a8, a9, a10, a11, a12, a13, a14, a15, a16, a17, a18, a19, a20, a21, a22) → wpX_packedWithin post' (nI n, pc, ds, nI 1, ga, ls, a1, a2, a3, a4, a5, a6, a7, a8, a9, a10, a11, a12, a13, a14, a15, a16, a17, a18, a19, a20, a21, a22) (nI (3 * b + c)) lo hi)
    (h : post (nI (pa_f G (n / 16))) (nI n, pc, ds, nI 1, ga, ls, a1, a2, a3, a4, a5, a6, a7, a8, a9, a10, a11, a12, a13, a14, a15, a16, a17, a18, a19, a20, a21, a22)) : wpX_passed post (nI n, pc, ds, nI 1, ga, ls, a1, a2, a3, a4, a5, a6, a7, a8, a9, a10, a11, a12, a13, a14, a15, a16, a17, a18, a19, a20, a21, a22) := by
  refine pk_loop (σ := Unit) (fun m b _ => wX_passed_4 post m (nI (pa_f G b)) (nI b) (nI n) pc ds (nI 1) ga ls a1 a2 a3 a4 a5 a6 a7 a8 a9 a10 a11 a12 a13 a14 a15 a16 a17 a18 a19 a20 a21 a22) (fun _ _ => True) (n / 16) 0 () (Nat.zero_le _) trivial ?_ ?_
  · intro m _ _
    show wX_passed_4 post (m + 1) (nI (pa_f G (n / 16))) (nI (n / 16)) (nI n) pc ds (nI 1) ga ls a1 a2 a3 a4 a5 a6 a7 a8 a9 a10 a11 a12 a13 a14 a15 a16 a17 a18 a19 a20 a21 a22
    unfold wX_passed_4
    exact mt_blockCount (by omega) (pk_le (n / 16) (n / 16) (fun _ => h) (fun z => absurd z (by omega)))
  · intro m b _ hb _ hr
    have hr' := hr () trivial
    rw [pa_f] at hr'
    have fl := pa_f_le G b
    show wX_passed_4 post (m + 1) (nI (pa_f G b)) (nI b) (nI n) pc ds (nI 1) ga ls a1 a2 a3 a4 a5 a6 a7 a8 a9 a10 a11 a12 a13 a14 a15 a16 a17 a18 a19 a20 a21 a22
    unfold wX_passed_4
    refine mt_blockCount (by omega) (pk_le (n / 16) b (fun z => absurd z (by omega)) (fun _ => ⟨2, pk_le 1 0 (fun z => absurd z (by omega)) (fun _ => br_t rfl ⟨pk_in 0 4 (by omega), nm_r (e' := nI (3 * b + c)) (by rw [← mt_3a, ← h17]; rfl) ⟨pk_in 0 4 (by omega), pk_in 0 4 (by omega), ?_⟩⟩)⟩))
    rw [show a18 (Int32.toNatClampNeg 0) = lo from h18, show a19 (Int32.toNatClampNeg 0) = hi from h19]
    refine hG b hb _ ?_
    by_cases z : G b = 0
    · rw [if_pos z] at hr'
      exact br_t z (br_f (by decide) (nm_r (e' := nI 1) rfl (pk_le 1 1 (fun _ => br_f (by decide) (nm_r (nI_1 _) (nm_r (nI_1 b) hr'))) (fun z => absurd z (by omega)))))
    · rw [if_neg z] at hr'
      exact br_f z (br_t rfl (nm_r (e' := nI 1) rfl (pk_le 1 1 (fun _ => br_t rfl (nm_r (nI_1 b) hr')) (fun z => absurd z (by omega)))))
theorem mt_load {post : St2 → Prop} {ds cn ga : Int32} {ls : Int64} {a1 a2 a3 a4 a5 a6 a7 a8 a9 a10 a11 a12 a13 a14 a15 a16 a17 a18 a19 a20 a21 a22 : Nat → Int32} {n k b c : Nat} {W : Nat → Nat → Int32} {P : Nat → Option Int32} (hn : n ≤ 96) (hb : b < n / 16) (hc : c < 3) (hro : ro_ok (a2, a3, a4, a5, a6, a7, a8, a9, a10, a11) (n / 16) W) (hP : pt_ok k a13 a14 P) (hno : ∀ p, P p ≠ none → p % 3 ≠ c)
    (h : ∀ b15, (∀ i, i < 16 → b15 i = W (16 * b + i) c) → post (nI n, nI k, ds, cn, ga, ls, a1, a2, a3, a4, a5, a6, a7, a8, a9, a10, a11, a12, a13, a14, b15, a16, a17, a18, a19, a20, a21, a22)) : wpX_load post (nI n, nI k, ds, cn, ga, ls, a1, a2, a3, a4, a5, a6, a7, a8, a9, a10, a11, a12, a13, a14, a15, a16, a17, a18, a19, a20, a21, a22) (nI b) (nI c) := by
  unfold wpX_load
  refine mt_blockCount (by omega) (pk_eq b (n / 16) (fun z => absurd z (by omega)) (fun _ => ?_))
  rw [mt_3a]
  refine mt_unpack (by omega) (hro b hb c hc).1 (fun b15 q => ?_)
  obtain ⟨hk, pl, h1, _, _⟩ := hP
  refine pk_loop (σ := Unit) (fun m j _ => wX_load_55 post (nI b) (nI c) (nI n) (nI k) ds cn ga ls m (nI j) a1 a2 a3 a4 a5 a6 a7 a8 a9 a10 a11 a12 a13 a14 b15 a16 a17 a18 a19 a20 a21 a22) (fun _ _ => True) k 0 () (Nat.zero_le _) trivial ?_ ?_
  · intro m _ _
    exact pk_le k k (fun _ => h b15 q) (fun z => absurd z (by omega))
  · intro m j _ hj _ hr
    have nx := hr () trivial
    obtain ⟨q1, q2, q3⟩ := h1 j hj
    refine pk_le k j (fun z => absurd z (by omega)) (fun _ => ⟨pk_in j 20 (by omega), by decide, nm_e ⟨pk_in j 20 (by omega), by decide, br_f ?_ (nm_r (nI_1 j) nx)⟩⟩)
    rw [nI_clamp (by omega), q1, mt_m3 (by omega), nI_eq (by omega) (by omega)]
    exact hno _ (by rw [q3]; simp)
/-- how many bits, as a natural -/
def bn_f (x : Int32) : Nat → Nat
  | 0 => 0
  | i + 1 => if (x >>> (nI i &&& 31)) &&& 1 = 1 then bn_f x i + 1 else bn_f x i
theorem bn_f_le (x : Int32) (n : Nat) : bn_f x n ≤ n := by
  induction n with
  | zero => exact Nat.le_refl _
  | succ n ih =>
    rw [bn_f]
    by_cases c : (x >>> (nI n &&& 31)) &&& 1 = 1
    · rw [if_pos c]; omega
    · rw [if_neg c]; omega
theorem mt_gatherBlock {post : St2 → Prop} {rc pc ds cn : Int32} {ls : Int64} {a1 a2 a3 a4 a5 a6 a7 a8 a9 a10 a11 a12 a13 a14 a15 a16 a17 a18 a19 a20 a21 a22 : Nat → Int32} {g : Nat} {x v : Int32} (hg : g ≤ 80) (hv : ∀ j, j < g → a21 j = v) (hb : ∀ i, i < 16 → (x >>> (nI i &&& 31)) &&& 1 = 1 → a15 i = v)
    (h : ∀ b21, (∀ j, j < g + bn_f x 16 → b21 j = v) → post (rc, pc, ds, cn, nI (g + bn_f x 16), ls, a1, a2, a3, a4, a5, a6, a7, a8, a9, a10, a11, a12, a13, a14, a15, a16, a17, a18, a19, a20, b21, a22)) : wpX_gatherBlock post (rc, pc, ds, cn, nI g, ls, a1, a2, a3, a4, a5, a6, a7, a8, a9, a10, a11, a12, a13, a14, a15, a16, a17, a18, a19, a20, a21, a22) x := by
  refine pk_loop (fun m i s => wX_gatherBlock_2 post x rc pc ds cn ls m (nI i) (nI (g + bn_f x i)) a1 a2 a3 a4 a5 a6 a7 a8 a9 a10 a11 a12 a13 a14 a15 a16 a17 a18 a19 a20 s a22) (fun i s => ∀ j, j < g + bn_f x i → s j = v) 16 0 a21 (Nat.zero_le _) hv ?_ ?_
  · intro m s hs
    exact pk_le 16 16 (fun _ => h s hs) (fun z => absurd z (by omega))
  · intro m i s hi hs hr
    have hl := bn_f_le x i
    rw [bn_f] at hr
    refine pk_le 16 i (fun z => absurd z (by omega)) (fun _ => ?_)
    by_cases c : (x >>> (nI i &&& 31)) &&& 1 = 1
    · rw [if_pos c] at hr
      refine br_t c ⟨pk_in i 16 hi, pk_in (g + bn_f x i) 96 (by omega), nm_r (e' := upd s (g + bn_f x i) v) (by rw [nI_clamp (by omega), nI_clamp (by omega), hb i hi c]) (nm_r (nI_1 _) (nm_r (nI_1 i) (hr _ ?_)))⟩
      intro j hj
      by_cases e : j = g + bn_f x i
      · rw [e, pk_us]
      · rw [pk_un e]
        exact hs j (by omega)
    · rw [if_neg c] at hr
      exact br_f c (nm_r (nI_1 i) (hr _ hs))
def gs_f (F : Nat → Int32) : Nat → Nat
  | 0 => 0
  | b + 1 => if F b = 0 then gs_f F b else gs_f F b + bn_f (F b) 16
theorem gs_f_le (F : Nat → Int32) (n : Nat) : gs_f F n ≤ 16 * n := by
  induction n with
  | zero => exact Nat.le_refl _
  | succ n ih =>
    rw [gs_f]
    have := bn_f_le (F n) 16
    by_cases c : F n = 0
    · rw [if_pos c]; omega
    · rw [if_neg c]; omega
/-- all gathered values are v -/
theorem mt_gather16 {post : St2 → Prop} {ds cn : Int32} {ls : Int64} {a1 a2 a3 a4 a5 a6 a7 a8 a9 a10 a11 a12 a13 a14 a15 a16 a17 a18 a19 a20 a21 a22 : Nat → Int32} {n k c : Nat} {W : Nat → Nat → Int32} {P : Nat → Option Int32} {F : Nat → Int32} {v : Int32} (hn : n ≤ 80) (hc : c < 3) (hro : ro_ok (a2, a3, a4, a5, a6, a7, a8, a9, a10, a11) (n / 16) W) (hP : pt_ok k a13 a14 P) (hF : ∀ b, b ≤ n / 16 → a20 b = F b)
    (hz : F (n / 16) = 0) (hno : (∀ b, b < n / 16 → F b = 0) ∨ ∀ p, P p ≠ none → p % 3 ≠ c) (hv : ∀ b, b < n / 16 → ∀ i, i < 16 → (F b >>> (nI i &&& 31)) &&& 1 = 1 → W (16 * b + i) c = v)
    (h : ∀ b15 b21, (∀ j, j < gs_f F (n / 16 + 1) → b21 j = v) → post (nI n, nI k, ds, cn, nI (gs_f F (n / 16 + 1)), ls, a1, a2, a3, a4, a5, a6, a7, a8, a9, a10, a11, a12, a13, a14, b15, a16, a17, a18, a19, a20, b21, a22)) : ∃ fu, wX_gather_16 post (nI c) (nI (n / 16)) fu 0 (nI n) (nI k) ds cn (nI 0) ls a1 a2 a3 a4 a5 a6 a7 a8 a9 a10 a11 a12 a13 a14 a15 a16 a17 a18 a19 a20 a21 a22 := by
  refine pk_loop (σ := (Nat → Int32) × (Nat → Int32)) (fun m b s => wX_gather_16 post (nI c) (nI (n / 16)) m (nI b) (nI n) (nI k) ds cn (nI (gs_f F b)) ls a1 a2 a3 a4 a5 a6 a7 a8 a9 a10 a11 a12 a13 a14 s.1 a16 a17 a18 a19 a20 s.2 a22) (fun b s => ∀ j, j < gs_f F b → s.2 j = v) (n / 16 + 1) 0 (a15, a21) (Nat.zero_le _) (fun j hj => absurd hj (Nat.not_lt_zero _)) ?_ ?_
  · intro m s hs
    exact pk_lt (n / 16) (n / 16 + 1) (fun _ => h s.1 s.2 hs) (fun z => absurd z (by omega))
  · intro m b s hb hs hr
    obtain ⟨s15, s21⟩ := s
    have hle := gs_f_le F b
    rw [gs_f] at hr
    refine pk_lt (n / 16) b (fun z => absurd z (by omega)) (fun _ => ⟨pk_in b 7 (by omega), ?_⟩)
    rw [nI_clamp (by omega), hF b (by omega)]
    by_cases z : F b = 0
    · rw [if_pos z] at hr
      exact br_t z (nm_r (nI_1 b) (hr (s15, s21) hs))
    · have hb' : b < n / 16 := by
        rcases Nat.lt_or_ge b (n / 16) with y | y
        · exact y
        · rw [show b = n / 16 by omega] at z
          exact absurd hz z
      have hno' : ∀ p, P p ≠ none → p % 3 ≠ c := hno.resolve_left (fun q => z (q b hb'))
      rw [if_neg z] at hr
      refine br_f z (mt_load (by omega) hb' hc hro hP hno' (fun b15 q => ⟨pk_in b 7 (by omega), ?_⟩))
      rw [hF b (by omega)]
      refine mt_gatherBlock (g := gs_f F b) (v := v) (by omega) hs (fun i hi hbit => ?_) (fun b21 q2 => nm_r (nI_1 b) (hr (b15, b21) q2))
      rw [q i hi]
      exact hv b hb' i hi hbit
/-- a heap of equal values stays as it is -/
theorem mt_sink {post : St2 → Prop} {rc pc ds cn ga : Int32} {ls : Int64} {a1 a2 a3 a4 a5 a6 a7 a8 a9 a10 a11 a12 a13 a14 a15 a16 a17 a18 a19 a20 a21 a22 : Nat → Int32} {g fr0 sz : Nat} {v : Int32} (hg : g ≤ 96) (hs : sz ≤ g) (hf : fr0 < 96) (hv : ∀ j, j < g → a21 j = v) (h : post (rc, pc, ds, cn, ga, ls, a1, a2, a3, a4, a5, a6, a7, a8, a9, a10, a11, a12, a13, a14, a15, a16, a17, a18, a19, a20, a21, a22)) : wpX_sink post (rc, pc, ds, cn, ga, ls, a1, a2, a3, a4, a5, a6, a7, a8, a9, a10, a11, a12, a13, a14, a15, a16, a17, a18, a19, a20, a21, a22) (nI fr0) (nI sz) := by
  refine pk_loop (σ := Nat) (fun m i aa => wX_sink_5 post (nI sz) rc pc ds cn ga ls m (nI aa) (nI i) a1 a2 a3 a4 a5 a6 a7 a8 a9 a10 a11 a12 a13 a14 a15 a16 a17 a18 a19 a20 a21 a22) (fun _ aa => aa < 96) 8 0 fr0 (Nat.zero_le _) hf ?_ ?_
  · intro m s _
    exact pk_le 8 8 (fun _ => h) (fun z => absurd z (by omega))
  · intro m i aa hi hat hr
    have e1 : 2 * nI aa + 1 = nI (2 * aa + 1) := by rw [show (2 : Int32) = nI 2 from rfl, pk_mul, nI_1]
    have le : ∀ x : Int32, x ≤ x := fun x => by rw [Int32.le_iff_toInt_le]; exact Int.le_refl _
    refine pk_le 8 i (fun z => absurd z (by omega)) (fun _ => pk_le sz (2 * aa + 1) (fun _ => h) (fun z => nm_r e1 ?_) (hy := e1))
    have ev : a21 (2 * aa + 1) = v := hv _ (by omega)
    have ev2 : a21 aa = v := hv _ (by omega)
    have s62 : wX_sink_62 post (wX_sink_5 post (nI sz) rc pc ds cn ga ls m) (nI sz) (nI aa) (nI i) (nI (2 * aa + 1)) rc pc ds cn ga ls a1 a2 a3 a4 a5 a6 a7 a8 a9 a10 a11 a12 a13 a14 a15 a16 a17 a18 a19 a20 a21 a22 := by
      refine ⟨pk_in (2 * aa + 1) 96 (by omega), pk_in aa 96 (by omega), br_t ?_ (nm_r (nI_1 i) (hr (2 * aa + 1) (by omega)))⟩
      rw [nI_clamp (by omega), nI_clamp (by omega), ev, ev2]
      exact le v
    refine pk_le sz (2 * aa + 1 + 1) (fun _ => s62) (fun z2 => ⟨pk_in (2 * aa + 1 + 1) 96 (by omega) (nI_1 _), pk_in (2 * aa + 1) 96 (by omega), br_t ?_ s62⟩) (hy := nI_1 _)
    rw [nI_1, nI_clamp (by omega), nI_clamp (by omega), ev, hv _ (by omega)]
    exact le v
theorem mt_order {post : St2 → Prop} {rc pc ds cn : Int32} {ls : Int64} {a1 a2 a3 a4 a5 a6 a7 a8 a9 a10 a11 a12 a13 a14 a15 a16 a17 a18 a19 a20 a21 a22 : Nat → Int32} {g : Nat} {v : Int32} (hg : g ≤ 96) (hv : ∀ j, j < g → a21 j = v) (h : ∀ b21, (∀ j, j < g → b21 j = v) → post (rc, pc, ds, cn, nI g, ls, a1, a2, a3, a4, a5, a6, a7, a8, a9, a10, a11, a12, a13, a14, a15, a16, a17, a18, a19, a20, b21, a22)) : wpX_order post (rc, pc, ds, cn, nI g, ls, a1, a2, a3, a4, a5, a6, a7, a8, a9, a10, a11, a12, a13, a14, a15, a16, a17, a18, a19, a20, a21, a22) := by
  have e2 : nI g / 2 - 1 = nI (g / 2) - 1 := by rw [show (2 : Int32) = nI 2 from rfl, pk_div (by omega) (by omega) (by omega)]
  have h35 : ∃ fu, wX_order_35 post fu (nI g - 1) rc pc ds cn (nI g) ls a1 a2 a3 a4 a5 a6 a7 a8 a9 a10 a11 a12 a13 a14 a15 a16 a17 a18 a19 a20 a21 a22 := by
    by_cases g0 : g = 0
    · subst g0
      exact ⟨1, br_t (by decide) (h a21 hv)⟩
    · obtain ⟨m, rfl⟩ : ∃ m, g = m + 1 := ⟨g - 1, by omega⟩
      rw [nI_pred]
      refine ⟨_, pk_loopD (fun f j s => wX_order_35 post f (nI j) rc pc ds cn (nI (m + 1)) ls a1 a2 a3 a4 a5 a6 a7 a8 a9 a10 a11 a12 a13 a14 a15 a16 a17 a18 a19 a20 s a22) (fun j s => j ≤ m ∧ ∀ i, i < m + 1 → s i = v) ?_ ?_ m a21 ⟨Nat.le_refl _, hv⟩⟩
      · intro f s hs
        exact pk_le 0 0 (fun _ => h s hs.2) (fun z => absurd z (by omega))
      · intro f j s hs hr
        obtain ⟨hj, hs⟩ := hs
        refine pk_le (j + 1) 0 (fun z => absurd z (by omega)) (fun _ => nm_r (e' := v) (hs 0 (by omega)) ⟨pk_in (j + 1) 96 (by omega), nm_r (e' := upd s 0 v) (by rw [nI_clamp (by omega), hs (j + 1) (by omega)]) ⟨pk_in (j + 1) 96 (by omega), nm_r (e' := upd (upd s 0 v) (j + 1) v) (by rw [nI_clamp (by omega)]) ?_⟩⟩)
        have hs' : ∀ i, i < m + 1 → upd (upd s 0 v) (j + 1) v i = v := by
          intro i hi
          by_cases c : i = j + 1
          · rw [c, pk_us]
          · rw [pk_un c]
            by_cases c2 : i = 0
            · rw [c2, pk_us]
            · rw [pk_un c2]
              exact hs i hi
        exact mt_sink (g := m + 1) (fr0 := 0) (by omega) (by omega) (by omega) hs' (nm_r (pk_m1 j) (hr _ ⟨by omega, hs'⟩))
  refine ⟨by decide, nm_r e2 ⟨_, pk_loopD (σ := Unit) (fun f j _ => wX_order_9 post f (nI j - 1) rc pc ds cn (nI g) ls a1 a2 a3 a4 a5 a6 a7 a8 a9 a10 a11 a12 a13 a14 a15 a16 a17 a18 a19 a20 a21 a22) (fun j _ => j ≤ g) ?_ ?_ (g / 2) () (by omega)⟩⟩
  · intro f _ _
    exact br_t (by decide) (nm_e h35)
  · intro f j _ hj hr
    show wX_order_9 post (f + 1) (nI (j + 1) - 1) rc pc ds cn (nI g) ls a1 a2 a3 a4 a5 a6 a7 a8 a9 a10 a11 a12 a13 a14 a15 a16 a17 a18 a19 a20 a21 a22
    rw [nI_pred]
    refine br_f (nI_pos (by omega)) (mt_sink (g := g) (by omega) (Nat.le_refl _) (by omega) hv (nm_r (e' := nI j - 1) ?_ (hr () (by omega))))
    exact (Int32.sub_eq_add_neg _ _).symm
def sv_f (v : Int32) : Nat → Int32
  | 0 => 0
  | k + 1 => sv_f v k + v
theorem mt_sum20 {post : Int32 → St2 → Prop} {rc pc ds cn : Int32} {ls : Int64} {a1 a2 a3 a4 a5 a6 a7 a8 a9 a10 a11 a12 a13 a14 a15 a16 a17 a18 a19 a20 a21 a22 : Nat → Int32} {g : Nat} {v : Int32} (hg : g ≤ 96) (hv : ∀ j, j < g → a21 j = v) (h : post (sv_f v g) (rc, pc, ds, cn, nI g, ls, a1, a2, a3, a4, a5, a6, a7, a8, a9, a10, a11, a12, a13, a14, a15, a16, a17, a18, a19, a20, a21, a22)) : ∃ fu, wX_sum_20 post rc pc ds cn (nI g) ls a1 a2 a3 a4 a5 a6 a7 a8 a9 a10 a11 a12 a13 a14 a15 a16 a17 a18 a19 a20 a21 a22 fu 0 0 := by
  refine pk_loop (σ := Unit) (fun m j _ => wX_sum_20 post rc pc ds cn (nI g) ls a1 a2 a3 a4 a5 a6 a7 a8 a9 a10 a11 a12 a13 a14 a15 a16 a17 a18 a19 a20 a21 a22 m (sv_f v j) (nI j)) (fun _ _ => True) g 0 () (Nat.zero_le _) trivial ?_ ?_
  · intro m _ _
    exact pk_le g g (fun _ => h) (fun z => absurd z (by omega))
  · intro m j _ hj _ hr
    exact pk_le g j (fun z => absurd z (by omega)) (fun _ => ⟨pk_in j 96 (by omega), nm_r (e' := sv_f v (j + 1)) (by rw [nI_clamp (by omega), hv j hj]; rfl) (nm_r (nI_1 j) (hr () trivial))⟩)
theorem mt_different24 {post : Int32 → St2 → Prop} {rc pc ds cn : Int32} {ls : Int64} {a1 a2 a3 a4 a5 a6 a7 a8 a9 a10 a11 a12 a13 a14 a15 a16 a17 a18 a19 a20 a21 a22 : Nat → Int32} {g : Nat} {v : Int32} (hg : g ≤ 96) (hg1 : 1 ≤ g) (hv : ∀ j, j < g → a21 j = v) (h : post 1 (rc, pc, ds, cn, nI g, ls, a1, a2, a3, a4, a5, a6, a7, a8, a9, a10, a11, a12, a13, a14, a15, a16, a17, a18, a19, a20, a21, a22)) : ∃ fu, wX_different_24 post rc pc ds cn (nI g) ls a1 a2 a3 a4 a5 a6 a7 a8 a9 a10 a11 a12 a13 a14 a15 a16 a17 a18 a19 a20 a21 a22 fu 0 0 := by
  refine pk_loop (σ := Unit) (fun m j _ => wX_different_24 post rc pc ds cn (nI g) ls a1 a2 a3 a4 a5 a6 a7 a8 a9 a10 a11 a12 a13 a14 a15 a16 a17 a18 a19 a20 a21 a22 m (if j = 0 then 0 else 1) (nI j)) (fun _ _ => True) g 0 () (Nat.zero_le _) trivial ?_ ?_
  · intro m _ _
    show wX_different_24 post rc pc ds cn (nI g) ls a1 a2 a3 a4 a5 a6 a7 a8 a9 a10 a11 a12 a13 a14 a15 a16 a17 a18 a19 a20 a21 a22 (m + 1) (if g = 0 then 0 else 1) (nI g)
    rw [if_neg (by omega)]
    exact pk_le g g (fun _ => h) (fun z => absurd z (by omega))
  · intro m j _ hj _ hr
    have hr' : wX_different_24 post rc pc ds cn (nI g) ls a1 a2 a3 a4 a5 a6 a7 a8 a9 a10 a11 a12 a13 a14 a15 a16 a17 a18 a19 a20 a21 a22 m (if j + 1 = 0 then 0 else 1) (nI (j + 1)) := hr () trivial
    rw [if_neg (by omega)] at hr'
    show wX_different_24 post rc pc ds cn (nI g) ls a1 a2 a3 a4 a5 a6 a7 a8 a9 a10 a11 a12 a13 a14 a15 a16 a17 a18 a19 a20 a21 a22 (m + 1) (if j = 0 then 0 else 1) (nI j)
    refine pk_le g j (fun z => absurd z (by omega)) (fun _ => pk_eq j 0 (fun z => ?_) (fun z => ?_))
    · rw [if_pos z]
      exact nm_r (e' := 1) (by decide) (nm_r (nI_1 j) hr')
    · rw [if_neg z]
      obtain ⟨i, rfl⟩ : ∃ i, j = i + 1 := ⟨j - 1, by omega⟩
      refine ⟨pk_in (i + 1) 96 (by omega), pk_in i 96 (by omega) (nI_pred i), br_t ?_ (nm_r (nI_1 _) hr')⟩
      rw [nI_pred, nI_clamp (by omega), nI_clamp (by omega), hv _ hj, hv _ (by omega)]
theorem mt_commonest31 {post : Int32 → St2 → Prop} {rc pc ds cn : Int32} {ls : Int64} {a1 a2 a3 a4 a5 a6 a7 a8 a9 a10 a11 a12 a13 a14 a15 a16 a17 a18 a19 a20 a21 a22 : Nat → Int32} {g : Nat} {v : Int32} (hg : g ≤ 96) (hg1 : 1 ≤ g) (hv : ∀ j, j < g → a21 j = v) (h : post v (rc, pc, ds, cn, nI g, ls, a1, a2, a3, a4, a5, a6, a7, a8, a9, a10, a11, a12, a13, a14, a15, a16, a17, a18, a19, a20, a21, a22)) : ∃ fu, wX_commonest_31 post rc pc ds cn (nI g) ls a1 a2 a3 a4 a5 a6 a7 a8 a9 a10 a11 a12 a13 a14 a15 a16 a17 a18 a19 a20 a21 a22 fu (-1000000003) 0 0 0 := by
  refine pk_loop (σ := Unit) (fun m j _ => wX_commonest_31 post rc pc ds cn (nI g) ls a1 a2 a3 a4 a5 a6 a7 a8 a9 a10 a11 a12 a13 a14 a15 a16 a17 a18 a19 a20 a21 a22 m (if j = 0 then -1000000003 else v) (nI j) (nI j) (nI j)) (fun _ _ => True) g 0 () (Nat.zero_le _) trivial ?_ ?_
  · intro m _ _
    show wX_commonest_31 post rc pc ds cn (nI g) ls a1 a2 a3 a4 a5 a6 a7 a8 a9 a10 a11 a12 a13 a14 a15 a16 a17 a18 a19 a20 a21 a22 (m + 1) (if g = 0 then -1000000003 else v) (nI g) (nI g) (nI g)
    rw [if_neg (by omega)]
    exact pk_le g g (fun _ => h) (fun z => absurd z (by omega))
  · intro m j _ hj _ hr
    have hr' : wX_commonest_31 post rc pc ds cn (nI g) ls a1 a2 a3 a4 a5 a6 a7 a8 a9 a10 a11 a12 a13 a14 a15 a16 a17 a18 a19 a20 a21 a22 m (if j + 1 = 0 then -1000000003 else v) (nI (j + 1)) (nI (j + 1)) (nI (j + 1)) := hr () trivial
    rw [if_neg (by omega)] at hr'
    show wX_commonest_31 post rc pc ds cn (nI g) ls a1 a2 a3 a4 a5 a6 a7 a8 a9 a10 a11 a12 a13 a14 a15 a16 a17 a18 a19 a20 a21 a22 (m + 1) (if j = 0 then -1000000003 else v) (nI j) (nI j) (nI j)
    have s72 : ∀ x2 : Int32, wX_commonest_72 post (wX_commonest_31 post rc pc ds cn (nI g) ls a1 a2 a3 a4 a5 a6 a7 a8 a9 a10 a11 a12 a13 a14 a15 a16 a17 a18 a19 a20 a21 a22 m) x2 (nI j) (nI j) (nI (j + 1)) rc pc ds cn (nI g) ls a1 a2 a3 a4 a5 a6 a7 a8 a9 a10 a11 a12 a13 a14 a15 a16 a17 a18 a19 a20 a21 a22 := by
      intro x2
      refine pk_le (j + 1) j (fun z => absurd z (by omega)) (fun _ => ⟨pk_in j 96 (by omega), ?_⟩)
      rw [nI_clamp (by omega), hv j hj]
      exact pk_le (j + 1) j (fun z => absurd z (by omega)) (fun _ => nm_r (nI_1 j) hr')
    refine pk_le g j (fun z => absurd z (by omega)) (fun _ => pk_le j 0 (fun z => ?_) (fun z => ?_))
    · have := s72 (if j = 0 then -1000000003 else v)
      rw [show j = 0 by omega] at this ⊢
      exact this
    · obtain ⟨i, rfl⟩ : ∃ i, j = i + 1 := ⟨j - 1, by omega⟩
      refine ⟨pk_in (i + 1) 96 (by omega), pk_in i 96 (by omega) (nI_pred i), br_t ?_ ?_⟩
      · rw [nI_pred, nI_clamp (by omega), nI_clamp (by omega), hv _ hj, hv _ (by omega)]
      · rw [nI_1]
        exact s72 _
/-- rows that live -/
theorem mt_liveRows {post : Int32 → Prop} {pc ds cn ga : Int32} {ls : Int64} {a1 a2 a3 a4 a5 a6 a7 a8 a9 a10 a11 a12 a13 a14 a15 a16 a17 a18 a19 a20 a21 a22 : Nat → Int32} {n dd : Nat} (hn : n ≤ 96) (hd : dd ≤ n) (hdl : ∀ r, r < n → (a1 r = 0 ↔ dd ≤ r)) (h : post (nI (n - dd))) : wpX_liveRows post (nI n, pc, ds, cn, ga, ls, a1, a2, a3, a4, a5, a6, a7, a8, a9, a10, a11, a12, a13, a14, a15, a16, a17, a18, a19, a20, a21, a22) := by
  have L : ∃ fu, wX_liveRows_4 post (nI n) pc ds cn ga ls a1 a2 a3 a4 a5 a6 a7 a8 a9 a10 a11 a12 a13 a14 a15 a16 a17 a18 a19 a20 a21 a22 fu (nI (0 - dd)) (nI 0) := by
    refine pk_loop (σ := Unit) (fun m r _ => wX_liveRows_4 post (nI n) pc ds cn ga ls a1 a2 a3 a4 a5 a6 a7 a8 a9 a10 a11 a12 a13 a14 a15 a16 a17 a18 a19 a20 a21 a22 m (nI (r - dd)) (nI r)) (fun _ _ => True) n 0 () (Nat.zero_le _) trivial ?_ ?_
    · intro m _ _
      exact pk_le n n (fun _ => h) (fun z => absurd z (by omega))
    · intro m r _ hr _ hrec
      have hr' : wX_liveRows_4 post (nI n) pc ds cn ga ls a1 a2 a3 a4 a5 a6 a7 a8 a9 a10 a11 a12 a13 a14 a15 a16 a17 a18 a19 a20 a21 a22 m (nI (r + 1 - dd)) (nI (r + 1)) := hrec () trivial
      refine pk_le n r (fun z => absurd z (by omega)) (fun _ => ⟨pk_in r 96 (by omega), ?_⟩)
      rw [nI_clamp (by omega)]
      by_cases c : dd ≤ r
      · rw [show r + 1 - dd = r - dd + 1 by omega] at hr'
        exact br_t ((hdl r hr).mpr c) (nm_r (nI_1 _) (nm_r (nI_1 r) hr'))
      · rw [show r + 1 - dd = r - dd by omega] at hr'
        exact br_f (fun q => c ((hdl r hr).mp q)) (nm_r (nI_1 r) hr')
  rw [Nat.zero_sub] at L
  exact L
end
section
/-! the whole state, and what each call of the law does to it -/
abbrev kk_of (u : St2) : pa_T := (u.2.2.2.2.2.2.2.1, u.2.2.2.2.2.2.2.2.1, u.2.2.2.2.2.2.2.2.2.1, u.2.2.2.2.2.2.2.2.2.2.1, u.2.2.2.2.2.2.2.2.2.2.2.1, u.2.2.2.2.2.2.2.2.2.2.2.2.1, u.2.2.2.2.2.2.2.2.2.2.2.2.2.1, u.2.2.2.2.2.2.2.2.2.2.2.2.2.2.1, u.2.2.2.2.2.2.2.2.2.2.2.2.2.2.2.1, u.2.2.2.2.2.2.2.2.2.2.2.2.2.2.2.2.1)
/-- n rows of raw values W, k patches P, the rows below dd deleted, q conditions -/
def iv_ok (u : St2) (n : Nat) (W : Nat → Nat → Int32) (k : Nat) (P : Nat → Option Int32) (dd q : Nat) : Prop :=
  n ≤ 96 ∧ dd ≤ n ∧ q ≤ 4 ∧ u.1 = nI n ∧ u.2.1 = nI k ∧ u.2.2.2.1 = nI q ∧ ro_ok (kk_of u) (n / 16) W ∧ (∀ i c, i < n % 16 → c < 3 → u.2.2.2.2.2.2.2.2.2.2.2.2.2.2.2.2.2.1 (3 * i + c) = W (16 * (n / 16) + i) c) ∧ pt_ok k u.2.2.2.2.2.2.2.2.2.2.2.2.2.2.2.2.2.2.1 u.2.2.2.2.2.2.2.2.2.2.2.2.2.2.2.2.2.2.2.1 P ∧ (∀ r, r < n → (u.2.2.2.2.2.2.1 r = 0 ↔ dd ≤ r))
def cd_ok (u : St2) (c : Nat) (lo hi : Int32) : Prop := u.2.2.2.2.2.2.2.2.2.2.2.2.2.2.2.2.2.2.2.2.2.2.1 0 = nI c ∧ u.2.2.2.2.2.2.2.2.2.2.2.2.2.2.2.2.2.2.2.2.2.2.2.1 0 = lo ∧ u.2.2.2.2.2.2.2.2.2.2.2.2.2.2.2.2.2.2.2.2.2.2.2.2.1 0 = hi
/-- the same but for what is scratch -/
def sm_ok (u u' : St2) : Prop := u'.1 = u.1 ∧ u'.2.1 = u.2.1 ∧ u'.2.2.2.1 = u.2.2.2.1 ∧ kk_of u' = kk_of u ∧ u'.2.2.2.2.2.2.1 = u.2.2.2.2.2.2.1 ∧ u'.2.2.2.2.2.2.2.2.2.2.2.2.2.2.2.2.2.1 = u.2.2.2.2.2.2.2.2.2.2.2.2.2.2.2.2.2.1 ∧ u'.2.2.2.2.2.2.2.2.2.2.2.2.2.2.2.2.2.2.1 = u.2.2.2.2.2.2.2.2.2.2.2.2.2.2.2.2.2.2.1 ∧ u'.2.2.2.2.2.2.2.2.2.2.2.2.2.2.2.2.2.2.2.1 = u.2.2.2.2.2.2.2.2.2.2.2.2.2.2.2.2.2.2.2.1 ∧ u'.2.2.2.2.2.2.2.2.2.2.2.2.2.2.2.2.2.2.2.2.2.2.1 = u.2.2.2.2.2.2.2.2.2.2.2.2.2.2.2.2.2.2.2.2.2.2.1 ∧ u'.2.2.2.2.2.2.2.2.2.2.2.2.2.2.2.2.2.2.2.2.2.2.2.1 = u.2.2.2.2.2.2.2.2.2.2.2.2.2.2.2.2.2.2.2.2.2.2.2.1 ∧ u'.2.2.2.2.2.2.2.2.2.2.2.2.2.2.2.2.2.2.2.2.2.2.2.2.1 = u.2.2.2.2.2.2.2.2.2.2.2.2.2.2.2.2.2.2.2.2.2.2.2.2.1
theorem sm_iv {u u' : St2} {n : Nat} {W : Nat → Nat → Int32} {k : Nat} {P : Nat → Option Int32} {dd q : Nat} (s : sm_ok u u') (h : iv_ok u n W k P dd q) : iv_ok u' n W k P dd q := by
  obtain ⟨s1, s2, s3, s4, s5, s6, s7, s8, _⟩ := s
  unfold iv_ok at *
  rw [s1, s2, s3, s4, s5, s6, s7, s8]
  exact h
theorem sm_cd {u u' : St2} {c : Nat} {lo hi : Int32} (s : sm_ok u u') (h : cd_ok u c lo hi) : cd_ok u' c lo hi := by
  obtain ⟨_, _, _, _, _, _, _, _, s1, s2, s3⟩ := s
  unfold cd_ok at *
  rw [s1, s2, s3]
  exact h
theorem sm_mk {rc pc ds cn ga : Int32} {ls : Int64} {a1 a2 a3 a4 a5 a6 a7 a8 a9 a10 a11 a12 a13 a14 a15 a16 a17 a18 a19 a20 a21 a22 : Nat → Int32} {ds' ga' : Int32} {ls' : Int64} {b15 b16 b20 b21 b22 : Nat → Int32} : sm_ok (rc, pc, ds, cn, ga, ls, a1, a2, a3, a4, a5, a6, a7, a8, a9, a10, a11, a12, a13, a14, a15, a16, a17, a18, a19, a20, a21, a22) (rc, pc, ds', cn, ga', ls', a1, a2, a3, a4, a5, a6, a7, a8, a9, a10, a11, a12, a13, a14, b15, b16, a17, a18, a19, b20, b21, b22) :=
  ⟨rfl, rfl, rfl, rfl, rfl, rfl, rfl, rfl, rfl, rfl, rfl⟩
theorem la_append {post : Int32 → St2 → Prop} {u : St2} {n : Nat} {W : Nat → Nat → Int32} {k : Nat} {P : Nat → Option Int32} {q : Nat} {x y z : Int32} (h : iv_ok u n W k P 0 q) (hn : n < 96) (hx : x = W n 0) (hy : y = W n 1) (hz : z = W n 2)
    (hp : ∀ u', iv_ok u' (n + 1) W k P 0 q → post (nI n) u') : wpX_append post u x y z := by
  obtain ⟨rc, pc, ds, cn, ga, ls, a1, a2, a3, a4, a5, a6, a7, a8, a9, a10, a11, a12, a13, a14, a15, a16, a17, a18, a19, a20, a21, a22⟩ := u
  obtain ⟨h1, h0, h2, h3, h4, h5, h6, h7, h8, h9⟩ := h
  have h3' : rc = nI n := h3
  have h4' : pc = nI k := h4
  have h5' : cn = nI q := h5
  subst h3' h4' h5'
  refine pk_eq n 96 (fun e => absurd e (by omega)) (fun _ => mt_addRow hn h6 h7 hx hy hz (fun D l b12 b15 S p q1 q2 => hp _ ⟨by omega, by omega, h2, rfl, rfl, rfl, q1, q2, h8, ?_⟩))
  intro r hr
  show upd a1 n 0 r = 0 ↔ 0 ≤ r
  by_cases c : r = n
  · rw [c, pk_us]
    exact ⟨fun _ => by omega, fun _ => rfl⟩
  · rw [pk_un c]
    exact h9 r (by omega)
theorem la_full {post : Int32 → St2 → Prop} {u : St2} {W : Nat → Nat → Int32} {k : Nat} {P : Nat → Option Int32} {dd q : Nat} {x y z : Int32} (h : iv_ok u 96 W k P dd q) (hp : post (-1000000002) u) : wpX_append post u x y z := by
  obtain ⟨rc, pc, ds, cn, ga, ls, a1, a2, a3, a4, a5, a6, a7, a8, a9, a10, a11, a12, a13, a14, a15, a16, a17, a18, a19, a20, a21, a22⟩ := u
  have h3' : rc = nI 96 := h.2.2.2.1
  subst h3'
  exact br_t rfl hp
theorem la_blocks {post : Int32 → Prop} {u : St2} {n : Nat} {W : Nat → Nat → Int32} {k : Nat} {P : Nat → Option Int32} {dd q : Nat} (h : iv_ok u n W k P dd q) (hp : post (nI (n / 16))) : wpX_blocks post u := by
  obtain ⟨rc, pc, ds, cn, ga, ls, a1, a2, a3, a4, a5, a6, a7, a8, a9, a10, a11, a12, a13, a14, a15, a16, a17, a18, a19, a20, a21, a22⟩ := u
  have h3' : rc = nI n := h.2.2.2.1
  have h1 := h.1
  subst h3'
  unfold wpX_blocks
  exact mt_blockCount (by omega) hp
theorem la_rows {post : Int32 → Prop} {u : St2} {n : Nat} {W : Nat → Nat → Int32} {k : Nat} {P : Nat → Option Int32} {dd q : Nat} (h : iv_ok u n W k P dd q) (hp : post (nI n)) : wpX_rows post u := by
  obtain ⟨rc, pc, ds, cn, ga, ls, a1, a2, a3, a4, a5, a6, a7, a8, a9, a10, a11, a12, a13, a14, a15, a16, a17, a18, a19, a20, a21, a22⟩ := u
  have h3' : rc = nI n := h.2.2.2.1
  subst h3'
  exact hp
theorem la_patches {post : Int32 → Prop} {u : St2} {n : Nat} {W : Nat → Nat → Int32} {k : Nat} {P : Nat → Option Int32} {dd q : Nat} (h : iv_ok u n W k P dd q) (hp : post (nI k)) : wpX_patches post u := by
  obtain ⟨rc, pc, ds, cn, ga, ls, a1, a2, a3, a4, a5, a6, a7, a8, a9, a10, a11, a12, a13, a14, a15, a16, a17, a18, a19, a20, a21, a22⟩ := u
  have h3' : pc = nI k := h.2.2.2.2.1
  subst h3'
  exact hp
theorem la_form {post : Int32 → Prop} {u : St2} {n : Nat} {W : Nat → Nat → Int32} {k : Nat} {P : Nat → Option Int32} {dd q : Nat} {x : Int32} (b c : Nat) (h : iv_ok u n W k P dd q) (hb : b < n / 16) (hc : c < 3) (hf : u.2.2.2.2.2.2.2.1 (3 * b + c) = x) (hp : post x) : wpX_form post u (nI b) (nI c) := by
  obtain ⟨rc, pc, ds, cn, ga, ls, a1, a2, a3, a4, a5, a6, a7, a8, a9, a10, a11, a12, a13, a14, a15, a16, a17, a18, a19, a20, a21, a22⟩ := u
  have h3' : rc = nI n := h.2.2.2.1
  have h1 := h.1
  subst h3'
  unfold wpX_form
  refine mt_badColumn hc (br_t rfl (br_f (nI_pos (by omega)) (mt_blockCount (by omega) (pk_lt b (n / 16) (fun _ => ?_) (fun z => absurd z (by omega))))))
  rw [mt_3a]
  refine ⟨pk_in (3 * b + c) 18 (by omega), ?_⟩
  have hf' : a2 (3 * b + c) = x := hf
  rw [nI_clamp (by omega), hf']
  exact hp
theorem la_formN {post : Int32 → Prop} {u : St2} {n : Nat} {W : Nat → Nat → Int32} {k : Nat} {P : Nat → Option Int32} {dd q : Nat} (b c : Nat) (h : iv_ok u n W k P dd q) (hb : n / 16 ≤ b) (hb2 : b < 100) (hc : c < 3) (hp : post (-1000000003)) : wpX_form post u (nI b) (nI c) := by
  obtain ⟨rc, pc, ds, cn, ga, ls, a1, a2, a3, a4, a5, a6, a7, a8, a9, a10, a11, a12, a13, a14, a15, a16, a17, a18, a19, a20, a21, a22⟩ := u
  have h3' : rc = nI n := h.2.2.2.1
  have h1 := h.1
  subst h3'
  unfold wpX_form
  exact mt_badColumn hc (br_t rfl (br_f (nI_pos (by omega)) (mt_blockCount (by omega) (pk_lt b (n / 16) (fun z => absurd z (by omega)) (fun _ => hp)))))
theorem la_formM {post : Int32 → Prop} {u : St2} {b : Int32} (hp : post (-1000000001)) : wpX_form post u b (-1) := by
  obtain ⟨rc, pc, ds, cn, ga, ls, a1, a2, a3, a4, a5, a6, a7, a8, a9, a10, a11, a12, a13, a14, a15, a16, a17, a18, a19, a20, a21, a22⟩ := u
  unfold wpX_form
  exact mt_badColumnM (br_f (by decide) hp)
/-- form and size are the picked ones -/
theorem iv_pick {u : St2} {n : Nat} {W : Nat → Nat → Int32} {k : Nat} {P : Nat → Option Int32} {dd q : Nat} {b c d : Nat} {S : Nat → Int32} (h : iv_ok u n W k P dd q) (hb : b < n / 16) (hc : c < 3) (hd : pu_dist (fun i => W (16 * b + i) c) 16 d S) :
    u.2.2.2.2.2.2.2.1 (3 * b + c) = nI (pu_pick (pu_sz (fun i => W (16 * b + i) c) d S) 5).1 ∧ u.2.2.2.2.2.2.2.2.2.2.2.2.2.2.1 (3 * b + c) = nI (pu_pick (pu_sz (fun i => W (16 * b + i) c) d S) 5).2 := by
  obtain ⟨_, d', S', q1, _, _, q4, q5⟩ := h.2.2.2.2.2.2.1 b hb c hc
  rw [pu_pick_congr 5 (fun i _ _ => pu_sz_uniq hd q1 i)]
  exact ⟨q4, q5⟩
theorem iv_size {u : St2} {n : Nat} {W : Nat → Nat → Int32} {k : Nat} {P : Nat → Option Int32} {dd q : Nat} (h : iv_ok u n W k P dd q) {b c : Nat} (hb : b < n / 16) (hc : c < 3) : ∃ z : Nat, u.2.2.2.2.2.2.2.2.2.2.2.2.2.2.1 (3 * b + c) = nI z ∧ 32 ≤ z ∧ z ≤ 512 := by
  obtain ⟨_, d', S', q1, _, _, q4, q5⟩ := h.2.2.2.2.2.2.1 b hb c hc
  exact ⟨_, q5, pu_pick_ge _ 5 32 (by omega) (fun i _ _ => pu_sz_ge (pu_pos (by omega) q1) i), (pu_pick_ok _ 5).1⟩
def ts_f (T : Nat → Nat) : Nat → Nat
  | 0 => 0
  | b + 1 => ts_f T b + T b
theorem ts_f_le (T : Nat → Nat) (n : Nat) (h : ∀ b, b < n → T b ≤ 512) : ts_f T n ≤ 512 * n := by
  induction n with
  | zero => exact Nat.le_refl _
  | succ n ih =>
    have := ih (fun b hb => h b (by omega))
    have := h n (by omega)
    rw [ts_f]
    omega
theorem la_digits {post : Int32 → Prop} {u : St2} {n : Nat} {W : Nat → Nat → Int32} {k : Nat} {P : Nat → Option Int32} {dd q : Nat} (c : Nat) (T : Nat → Nat) (h : iv_ok u n W k P dd q) (hc : c < 3) (hT : ∀ b, b < n / 16 → u.2.2.2.2.2.2.2.2.2.2.2.2.2.2.1 (3 * b + c) = nI (T b)) (hp : post (nI (32 * (n % 16) + ts_f T (n / 16)))) : wpX_digits post u (nI c) := by
  obtain ⟨rc, pc, ds, cn, ga, ls, a1, a2, a3, a4, a5, a6, a7, a8, a9, a10, a11, a12, a13, a14, a15, a16, a17, a18, a19, a20, a21, a22⟩ := u
  have h3' : rc = nI n := h.2.2.2.1
  have h1 := h.1
  subst h3'
  unfold wpX_digits
  refine mt_badColumn hc (br_t rfl ⟨by decide, nm_r (e' := nI (32 * (n % 16))) (by rw [mt_m16 (by omega), show (32 : Int32) = nI 32 from rfl, pk_mul]) ?_⟩)
  refine pk_loop (σ := Unit) (fun m b _ => wX_digits_24 post (nI c) (nI n) pc ds cn ga ls a1 a2 a3 a4 a5 a6 a7 a8 a9 a10 a11 a12 a13 a14 a15 a16 a17 a18 a19 a20 a21 a22 m (nI (32 * (n % 16) + ts_f T b)) (nI b)) (fun _ _ => True) (n / 16) 0 () (Nat.zero_le _) trivial ?_ ?_
  · intro m _ _
    show wX_digits_24 post (nI c) (nI n) pc ds cn ga ls a1 a2 a3 a4 a5 a6 a7 a8 a9 a10 a11 a12 a13 a14 a15 a16 a17 a18 a19 a20 a21 a22 (m + 1) (nI (32 * (n % 16) + ts_f T (n / 16))) (nI (n / 16))
    unfold wX_digits_24
    exact mt_blockCount (by omega) (pk_le (n / 16) (n / 16) (fun _ => hp) (fun z => absurd z (by omega)))
  · intro m b _ hb _ hr
    show wX_digits_24 post (nI c) (nI n) pc ds cn ga ls a1 a2 a3 a4 a5 a6 a7 a8 a9 a10 a11 a12 a13 a14 a15 a16 a17 a18 a19 a20 a21 a22 (m + 1) (nI (32 * (n % 16) + ts_f T b)) (nI b)
    unfold wX_digits_24
    refine mt_blockCount (by omega) (pk_le (n / 16) b (fun z => absurd z (by omega)) (fun _ => ?_))
    rw [mt_3a]
    have hT' : a9 (3 * b + c) = nI (T b) := hT b hb
    exact ⟨pk_in (3 * b + c) 18 (by omega), nm_r (e' := nI (32 * (n % 16) + ts_f T (b + 1))) (by rw [nI_clamp (by omega), hT', nI_add, ts_f, Nat.add_assoc]) (nm_r (nI_1 b) (hr () trivial))⟩
theorem la_digits3 {post : Int32 → Prop} {u : St2} (hp : post (-1000000001)) : wpX_digits post u 3 := by
  obtain ⟨rc, pc, ds, cn, ga, ls, a1, a2, a3, a4, a5, a6, a7, a8, a9, a10, a11, a12, a13, a14, a15, a16, a17, a18, a19, a20, a21, a22⟩ := u
  unfold wpX_digits
  exact mt_badColumn3 (br_f (by decide) hp)
theorem la_value {post : Int32 → St2 → Prop} {u : St2} {n : Nat} {W : Nat → Nat → Int32} {k : Nat} {P : Nat → Option Int32} {dd q : Nat} (r c : Nat) (h : iv_ok u n W k P dd q) (hr : r < n) (hd : dd ≤ r) (hc : c < 3)
    (hp : ∀ u', iv_ok u' n W k P dd q → post (vv_of W P n r c) u') : wpX_value post u (nI r) (nI c) := by
  obtain ⟨rc, pc, ds, cn, ga, ls, a1, a2, a3, a4, a5, a6, a7, a8, a9, a10, a11, a12, a13, a14, a15, a16, a17, a18, a19, a20, a21, a22⟩ := u
  obtain ⟨h1, h0, h2, h3, h4, h5, h6, h7, h8, h9⟩ := h
  have h3' : rc = nI n := h3
  have h4' : pc = nI k := h4
  have h5' : cn = nI q := h5
  subst h3' h4' h5'
  have h9' := (h9 r hr).mpr hd
  unfold wpX_value
  exact mt_badColumn hc (br_t rfl (mt_noRow h1 (by omega) (fun _ _ => br_t rfl (mt_valueAt h1 hr hc h6 h7 h8 (fun b15 => hp _ ⟨h1, h0, h2, rfl, rfl, rfl, h6, h7, h8, h9⟩))) (fun z => absurd z (fun z => z.elim (by omega) (fun z => z h9')))))
theorem la_valueN {post : Int32 → St2 → Prop} {u : St2} {n : Nat} {W : Nat → Nat → Int32} {k : Nat} {P : Nat → Option Int32} {dd q : Nat} (r c : Nat) (h : iv_ok u n W k P dd q) (hr : r < dd ∨ n ≤ r) (hr2 : r < 1000) (hc : c < 3) (hp : post (-1000000003) u) : wpX_value post u (nI r) (nI c) := by
  obtain ⟨rc, pc, ds, cn, ga, ls, a1, a2, a3, a4, a5, a6, a7, a8, a9, a10, a11, a12, a13, a14, a15, a16, a17, a18, a19, a20, a21, a22⟩ := u
  obtain ⟨h1, h0, h2, h3, h4, h5, h6, h7, h8, h9⟩ := h
  have h3' : rc = nI n := h3
  subst h3'
  unfold wpX_value
  exact mt_badColumn hc (br_t rfl (mt_noRow h1 (by omega) (fun z z2 => absurd ((h9 r z).mp z2) (by omega)) (fun _ => br_f (by decide) hp)))
theorem la_value3 {post : Int32 → St2 → Prop} {u : St2} {r : Int32} (hp : post (-1000000001) u) : wpX_value post u r 3 := by
  obtain ⟨rc, pc, ds, cn, ga, ls, a1, a2, a3, a4, a5, a6, a7, a8, a9, a10, a11, a12, a13, a14, a15, a16, a17, a18, a19, a20, a21, a22⟩ := u
  unfold wpX_value
  exact mt_badColumn3 (br_f (by decide) hp)
theorem la_changeN {post : Int32 → St2 → Prop} {u : St2} {n : Nat} {W : Nat → Nat → Int32} {k : Nat} {P : Nat → Option Int32} {dd q : Nat} {x : Int32} (r c : Nat) (h : iv_ok u n W k P dd q) (hr : r < dd ∨ n ≤ r) (hr2 : r < 1000) (hc : c < 3) (hp : post (-1000000003) u) : wpX_change post u (nI r) (nI c) x := by
  obtain ⟨rc, pc, ds, cn, ga, ls, a1, a2, a3, a4, a5, a6, a7, a8, a9, a10, a11, a12, a13, a14, a15, a16, a17, a18, a19, a20, a21, a22⟩ := u
  obtain ⟨h1, h0, h2, h3, h4, h5, h6, h7, h8, h9⟩ := h
  have h3' : rc = nI n := h3
  subst h3'
  unfold wpX_change
  exact mt_badColumn hc (br_t rfl (mt_noRow h1 (by omega) (fun z z2 => absurd ((h9 r z).mp z2) (by omega)) (fun _ => br_f (by decide) hp)))
theorem la_change3 {post : Int32 → St2 → Prop} {u : St2} {r x : Int32} (hp : post (-1000000001) u) : wpX_change post u r 3 x := by
  obtain ⟨rc, pc, ds, cn, ga, ls, a1, a2, a3, a4, a5, a6, a7, a8, a9, a10, a11, a12, a13, a14, a15, a16, a17, a18, a19, a20, a21, a22⟩ := u
  unfold wpX_change
  exact mt_badColumn3 (br_f (by decide) hp)
/-- a change of a packed row -/
theorem la_change {post : Int32 → St2 → Prop} {u : St2} {n : Nat} {W : Nat → Nat → Int32} {k : Nat} {P : Nat → Option Int32} {q : Nat} {x : Int32} (r c : Nat) (h : iv_ok u n W k P 0 q) (hr : r < n) (hb : r / 16 < n / 16) (hc : c < 3)
    (hA : ∀ v, P (3 * r + c) = some v → ∀ u', iv_ok u' n W k (pt_up P (3 * r + c) x) 0 q → post v u')
    (hB : P (3 * r + c) = none → W r c = x → ∀ u', iv_ok u' n W k P 0 q → post (W r c) u')
    (hC : P (3 * r + c) = none → W r c ≠ x → k = 20 → ∀ u', iv_ok u' n W k P 0 q → post (-1000000002) u')
    (hD : P (3 * r + c) = none → W r c ≠ x → k < 20 → ∀ u', iv_ok u' n W (k + 1) (pt_up P (3 * r + c) x) 0 q → post (W r c) u') : wpX_change post u (nI r) (nI c) x := by
  obtain ⟨rc, pc, ds, cn, ga, ls, a1, a2, a3, a4, a5, a6, a7, a8, a9, a10, a11, a12, a13, a14, a15, a16, a17, a18, a19, a20, a21, a22⟩ := u
  obtain ⟨h1, h0, h2, h3, h4, h5, h6, h7, h8, h9⟩ := h
  have h3' : rc = nI n := h3
  have h4' : pc = nI k := h4
  have h5' : cn = nI q := h5
  subst h3' h4' h5'
  exact mt_change h1 hr hb hc ((h9 r hr).mpr (by omega)) h6 h7 h8
    (fun v e b14 b15 g => hA v e _ ⟨h1, h0, h2, rfl, rfl, rfl, h6, h7, g, h9⟩)
    (fun e e2 b15 => hB e e2 _ ⟨h1, h0, h2, rfl, rfl, rfl, h6, h7, h8, h9⟩)
    (fun e e2 e3 b15 => hC e e2 e3 _ ⟨h1, h0, h2, rfl, rfl, rfl, h6, h7, h8, h9⟩)
    (fun e e2 e3 b13 b14 b15 g => hD e e2 e3 _ ⟨h1, h0, h2, rfl, rfl, rfl, h6, h7, g, h9⟩)
theorem la_delete {post : Int32 → St2 → Prop} {u : St2} {n : Nat} {W : Nat → Nat → Int32} {k : Nat} {P : Nat → Option Int32} {dd q : Nat} (h : iv_ok u n W k P dd q) (hd : dd < n) (hp : ∀ u', iv_ok u' n W k P (dd + 1) q → post (nI (n - (dd + 1))) u') : wpX_delete post u (nI dd) := by
  obtain ⟨rc, pc, ds, cn, ga, ls, a1, a2, a3, a4, a5, a6, a7, a8, a9, a10, a11, a12, a13, a14, a15, a16, a17, a18, a19, a20, a21, a22⟩ := u
  obtain ⟨h1, h0, h2, h3, h4, h5, h6, h7, h8, h9⟩ := h
  have h3' : rc = nI n := h3
  have h4' : pc = nI k := h4
  have h5' : cn = nI q := h5
  subst h3' h4' h5'
  have h9' := (h9 dd hd).mpr (Nat.le_refl _)
  have g : ∀ r, r < n → (upd a1 dd 1 r = 0 ↔ dd + 1 ≤ r) := by
    intro r hr
    by_cases c : r = dd
    · rw [c, pk_us]
      exact ⟨fun z => absurd z (by decide), fun z => absurd z (by omega)⟩
    · rw [pk_un c]
      have q := h9 r hr
      exact ⟨fun z => by have := q.mp z; omega, fun z => q.mpr (by omega)⟩
  unfold wpX_delete
  exact mt_noRow h1 (by omega) (fun _ _ => br_t rfl ⟨pk_in dd 96 (by omega), nm_r (e' := upd a1 dd 1) (by rw [nI_clamp (by omega)]) (mt_liveRows h1 (by omega) g (hp _ ⟨h1, by omega, h2, rfl, rfl, rfl, h6, h7, h8, g⟩))⟩) (fun z => absurd z (fun z => z.elim (by omega) (fun z => z h9')))
theorem la_deleteN {post : Int32 → St2 → Prop} {u : St2} {n : Nat} {W : Nat → Nat → Int32} {k : Nat} {P : Nat → Option Int32} {dd q : Nat} (r : Nat) (h : iv_ok u n W k P dd q) (hr : r < dd ∨ n ≤ r) (hr2 : r < 1000) (hp : post (-1000000003) u) : wpX_delete post u (nI r) := by
  obtain ⟨rc, pc, ds, cn, ga, ls, a1, a2, a3, a4, a5, a6, a7, a8, a9, a10, a11, a12, a13, a14, a15, a16, a17, a18, a19, a20, a21, a22⟩ := u
  obtain ⟨h1, h0, h2, h3, h4, h5, h6, h7, h8, h9⟩ := h
  have h3' : rc = nI n := h3
  subst h3'
  unfold wpX_delete
  exact mt_noRow h1 (by omega) (fun z z2 => absurd ((h9 r z).mp z2) (by omega)) (fun _ => br_f (by decide) hp)
theorem mt_compact71 {post : Int32 → St2 → Prop} {N q : Nat} {W : Nat → Nat → Int32} {b22 : Nat → Int32} (hN : N ≤ 96) (hk : ∀ j c, j < N → c < 3 → b22 (3 * j + c) = W j c) (hp : ∀ u', iv_ok u' N W 0 (fun _ => none) 0 q → post (nI N) u') (u : St2) (h : iv_ok u 0 W 0 (fun _ => none) 0 q) (h22 : u.2.2.2.2.2.2.2.2.2.2.2.2.2.2.2.2.2.2.2.2.2.2.2.2.2.2.2 = b22) :
    ∃ fu, wX_compact_71 post (nI N) fu 0 u.1 u.2.1 u.2.2.1 u.2.2.2.1 u.2.2.2.2.1 u.2.2.2.2.2.1 u.2.2.2.2.2.2.1 u.2.2.2.2.2.2.2.1 u.2.2.2.2.2.2.2.2.1 u.2.2.2.2.2.2.2.2.2.1 u.2.2.2.2.2.2.2.2.2.2.1 u.2.2.2.2.2.2.2.2.2.2.2.1 u.2.2.2.2.2.2.2.2.2.2.2.2.1 u.2.2.2.2.2.2.2.2.2.2.2.2.2.1 u.2.2.2.2.2.2.2.2.2.2.2.2.2.2.1 u.2.2.2.2.2.2.2.2.2.2.2.2.2.2.2.1 u.2.2.2.2.2.2.2.2.2.2.2.2.2.2.2.2.1 u.2.2.2.2.2.2.2.2.2.2.2.2.2.2.2.2.2.1 u.2.2.2.2.2.2.2.2.2.2.2.2.2.2.2.2.2.2.1 u.2.2.2.2.2.2.2.2.2.2.2.2.2.2.2.2.2.2.2.1 u.2.2.2.2.2.2.2.2.2.2.2.2.2.2.2.2.2.2.2.2.1 u.2.2.2.2.2.2.2.2.2.2.2.2.2.2.2.2.2.2.2.2.2.1 u.2.2.2.2.2.2.2.2.2.2.2.2.2.2.2.2.2.2.2.2.2.2.1 u.2.2.2.2.2.2.2.2.2.2.2.2.2.2.2.2.2.2.2.2.2.2.2.1 u.2.2.2.2.2.2.2.2.2.2.2.2.2.2.2.2.2.2.2.2.2.2.2.2.1 u.2.2.2.2.2.2.2.2.2.2.2.2.2.2.2.2.2.2.2.2.2.2.2.2.2.1 u.2.2.2.2.2.2.2.2.2.2.2.2.2.2.2.2.2.2.2.2.2.2.2.2.2.2.1 u.2.2.2.2.2.2.2.2.2.2.2.2.2.2.2.2.2.2.2.2.2.2.2.2.2.2.2 := by
  refine pk_loop (σ := St2) (fun m j u => wX_compact_71 post (nI N) m (nI j) u.1 u.2.1 u.2.2.1 u.2.2.2.1 u.2.2.2.2.1 u.2.2.2.2.2.1 u.2.2.2.2.2.2.1 u.2.2.2.2.2.2.2.1 u.2.2.2.2.2.2.2.2.1 u.2.2.2.2.2.2.2.2.2.1 u.2.2.2.2.2.2.2.2.2.2.1 u.2.2.2.2.2.2.2.2.2.2.2.1 u.2.2.2.2.2.2.2.2.2.2.2.2.1 u.2.2.2.2.2.2.2.2.2.2.2.2.2.1 u.2.2.2.2.2.2.2.2.2.2.2.2.2.2.1 u.2.2.2.2.2.2.2.2.2.2.2.2.2.2.2.1 u.2.2.2.2.2.2.2.2.2.2.2.2.2.2.2.2.1 u.2.2.2.2.2.2.2.2.2.2.2.2.2.2.2.2.2.1 u.2.2.2.2.2.2.2.2.2.2.2.2.2.2.2.2.2.2.1 u.2.2.2.2.2.2.2.2.2.2.2.2.2.2.2.2.2.2.2.1 u.2.2.2.2.2.2.2.2.2.2.2.2.2.2.2.2.2.2.2.2.1 u.2.2.2.2.2.2.2.2.2.2.2.2.2.2.2.2.2.2.2.2.2.1 u.2.2.2.2.2.2.2.2.2.2.2.2.2.2.2.2.2.2.2.2.2.2.1 u.2.2.2.2.2.2.2.2.2.2.2.2.2.2.2.2.2.2.2.2.2.2.2.1 u.2.2.2.2.2.2.2.2.2.2.2.2.2.2.2.2.2.2.2.2.2.2.2.2.1 u.2.2.2.2.2.2.2.2.2.2.2.2.2.2.2.2.2.2.2.2.2.2.2.2.2.1 u.2.2.2.2.2.2.2.2.2.2.2.2.2.2.2.2.2.2.2.2.2.2.2.2.2.2.1 u.2.2.2.2.2.2.2.2.2.2.2.2.2.2.2.2.2.2.2.2.2.2.2.2.2.2.2) (fun j u => iv_ok u j W 0 (fun _ => none) 0 q ∧ u.2.2.2.2.2.2.2.2.2.2.2.2.2.2.2.2.2.2.2.2.2.2.2.2.2.2.2 = b22) N 0 u (Nat.zero_le _) ⟨h, h22⟩ ?_ ?_
  · intro m u hu
    exact pk_le N N (fun _ => hp u hu.1) (fun z => absurd z (by omega))
  · intro m j u hj hu hr
    obtain ⟨hu, hu2⟩ := hu
    obtain ⟨rc, pc, ds, cn, ga, ls, a1, a2, a3, a4, a5, a6, a7, a8, a9, a10, a11, a12, a13, a14, a15, a16, a17, a18, a19, a20, a21, a22⟩ := u
    obtain ⟨h1, h0, h2, h3, h4, h5, h6, h7, h8, h9⟩ := hu
    have h3' : rc = nI j := h3
    have h22' : a22 = b22 := hu2
    subst h3' h22'
    have e0 : 3 * nI j = nI (3 * j) := by rw [show (3 : Int32) = nI 3 from rfl, pk_mul]
    have e1 : 3 * nI j + 1 = nI (3 * j + 1) := by rw [e0, nI_1]
    have e2 : 3 * nI j + 2 = nI (3 * j + 2) := by rw [e0]; exact nI_add _ 2
    refine pk_le N j (fun z => absurd z (by omega)) (fun _ => ⟨pk_in (3 * j) 288 (by omega) e0, pk_in (3 * j + 1) 288 (by omega) e1, pk_in (3 * j + 2) 288 (by omega) e2, ?_⟩)
    refine mt_addRow (W := W) (by omega) h6 h7 ?_ ?_ ?_ (fun D l b12 b15 S p q1 q2 => nm_r (nI_1 j) (hr (nI (j + 1), pc, D, cn, ga, l, upd a1 j 0, p.1, p.2.1, p.2.2.1, p.2.2.2.1, p.2.2.2.2.1, p.2.2.2.2.2.1, p.2.2.2.2.2.2.1, p.2.2.2.2.2.2.2.1, p.2.2.2.2.2.2.2.2.1, p.2.2.2.2.2.2.2.2.2, b12, a13, a14, b15, S, a17, a18, a19, a20, a21, a22) ⟨⟨by omega, by omega, h2, rfl, h4, h5, q1, q2, h8, ?_⟩, rfl⟩))
    · rw [e0, nI_clamp (by omega)]
      exact hk j 0 hj (by omega)
    · rw [e1, nI_clamp (by omega)]
      exact hk j 1 hj (by omega)
    · rw [e2, nI_clamp (by omega)]
      exact hk j 2 hj (by omega)
    · intro r hr
      show upd a1 j 0 r = 0 ↔ 0 ≤ r
      by_cases c : r = j
      · rw [c, pk_us]
        exact ⟨fun _ => by omega, fun _ => rfl⟩
      · rw [pk_un c]
        exact h9 r (by omega)
theorem la_compact {post : Int32 → St2 → Prop} {u : St2} {n : Nat} {W : Nat → Nat → Int32} {k : Nat} {P : Nat → Option Int32} {dd q : Nat} (h : iv_ok u n W k P dd q) (hp : ∀ u', iv_ok u' (n - dd) (fun r c => vv_of W P n (r + dd) c) 0 (fun _ => none) 0 q → post (nI (n - dd)) u') : wpX_compact post u := by
  obtain ⟨rc, pc, ds, cn, ga, ls, a1, a2, a3, a4, a5, a6, a7, a8, a9, a10, a11, a12, a13, a14, a15, a16, a17, a18, a19, a20, a21, a22⟩ := u
  obtain ⟨h1, h0, h2, h3, h4, h5, h6, h7, h8, h9⟩ := h
  have h3' : rc = nI n := h3
  have h4' : pc = nI k := h4
  have h5' : cn = nI q := h5
  subst h3' h4' h5'
  have h9' : ∀ r, r < n → (a1 r = 0 ↔ dd ≤ r) := h9
  have L : ∃ fu, wX_compact_4 post fu (nI (0 - dd)) (nI 0) (nI n) (nI k) ds (nI q) ga ls a1 a2 a3 a4 a5 a6 a7 a8 a9 a10 a11 a12 a13 a14 a15 a16 a17 a18 a19 a20 a21 a22 := by
    refine pk_loop (σ := (Nat → Int32) × (Nat → Int32)) (fun m r s => wX_compact_4 post m (nI (r - dd)) (nI r) (nI n) (nI k) ds (nI q) ga ls a1 a2 a3 a4 a5 a6 a7 a8 a9 a10 a11 a12 a13 a14 s.1 a16 a17 a18 a19 a20 a21 s.2) (fun r s => ∀ j c, j + dd < r → c < 3 → s.2 (3 * j + c) = vv_of W P n (j + dd) c) n 0 (a15, a22) (Nat.zero_le _) (fun j c hj => absurd hj (Nat.not_lt_zero _)) ?_ ?_
    · intro m s hs
      refine pk_le n n (fun _ => ?_) (fun z => absurd z (by omega))
      exact mt_compact71 (N := n - dd) (q := q) (W := fun r c => vv_of W P n (r + dd) c) (b22 := s.2) (by omega) (fun j c hj hc => hs j c (by omega) hc) hp (nI 0, nI 0, ds, nI q, ga, ls, a1, a2, a3, a4, a5, a6, a7, a8, a9, a10, a11, a12, a13, a14, s.1, a16, a17, a18, a19, a20, a21, s.2)
        ⟨by omega, by omega, h2, rfl, rfl, rfl, fun b hb => absurd hb (by omega), fun i c hi => absurd hi (by omega), ⟨by omega, fun _ => 0, fun j hj => absurd hj (Nat.not_lt_zero _), fun i hi => absurd hi (Nat.not_lt_zero _), fun p hp => absurd rfl hp⟩, fun r hr => absurd hr (Nat.not_lt_zero _)⟩ rfl
    · intro m r s hr hs hrec
      obtain ⟨s15, s22⟩ := s
      refine pk_le n r (fun z => absurd z (by omega)) (fun _ => ⟨pk_in r 96 (by omega), ?_⟩)
      rw [nI_clamp (by omega)]
      by_cases c : dd ≤ r
      · refine br_t ((h9' r hr).mpr c) ?_
        refine pk_loop (σ := (Nat → Int32) × (Nat → Int32)) (fun m' c s => wX_compact_23 post (wX_compact_4 post m) (nI (r - dd)) (nI r) m' (nI c) (nI n) (nI k) ds (nI q) ga ls a1 a2 a3 a4 a5 a6 a7 a8 a9 a10 a11 a12 a13 a14 s.1 a16 a17 a18 a19 a20 a21 s.2) (fun c s => (∀ j c', j + dd < r → c' < 3 → s.2 (3 * j + c') = vv_of W P n (j + dd) c') ∧ ∀ c', c' < c → s.2 (3 * (r - dd) + c') = vv_of W P n r c') 3 0 (s15, s22) (Nat.zero_le _) ⟨hs, fun c' hc' => absurd hc' (Nat.not_lt_zero _)⟩ ?_ ?_
        · intro m' t ht
          obtain ⟨t1, t2⟩ := ht
          refine pk_le 3 3 (fun _ => nm_r (e' := nI (r + 1 - dd)) (by rw [nI_1]; congr 1; omega) (nm_r (nI_1 r) (hrec t ?_))) (fun z => absurd z (by omega))
          intro j c' hj hc'
          by_cases e : j + dd = r
          · rw [show j = r - dd by omega, show r - dd + dd = r by omega]
            exact t2 c' hc'
          · exact t1 j c' (by omega) hc'
        · intro m' c' t hc' ht hrec'
          obtain ⟨t15, t22⟩ := t
          obtain ⟨t1, t2⟩ := ht
          refine pk_le 3 c' (fun z => absurd z (by omega)) (fun _ => mt_valueAt_2 h1 hr hc' h6 h7 h8 (fun b15 => ⟨pk_in (3 * (r - dd) + c') 288 (by omega) (mt_3a _ _), nm_r (e' := upd t22 (3 * (r - dd) + c') (vv_of W P n r c')) (by rw [mt_3a, nI_clamp (by omega)]) (nm_r (nI_1 c') (hrec' (b15, upd t22 (3 * (r - dd) + c') (vv_of W P n r c')) ⟨?_, ?_⟩))⟩))
          · intro j c2 hj hc2
            show upd t22 _ _ _ = _
            rw [pk_un (by omega)]
            exact t1 j c2 hj hc2
          · intro c2 hc2
            show upd t22 _ _ _ = _
            by_cases e : c2 = c'
            · rw [e, pk_us]
            · rw [pk_un (by omega)]
              exact t2 c2 (by omega)
      · refine br_f (fun z => c ((h9' r hr).mp z)) (nm_r (nI_1 r) ?_)
        have := hrec (s15, s22) (fun j c' hj hc' => absurd hj (by omega))
        rw [show r + 1 - dd = r - dd by omega] at this
        exact this
  rw [Nat.zero_sub] at L
  exact L
end
section
/-! the law's questions -/
theorem la_condition {post : Int32 → St2 → Prop} {u : St2} {n : Nat} {W : Nat → Nat → Int32} {k : Nat} {P : Nat → Option Int32} {dd q : Nat} {lo hi : Int32} (c : Nat) (h : iv_ok u n W k P dd q) (hc : c < 3) (hq : q < 4) (hp : ∀ u', iv_ok u' n W k P dd (q + 1) → (q = 0 → cd_ok u' c lo hi) → post (nI (q + 1)) u') : wpX_condition post u (nI c) lo hi := by
  obtain ⟨rc, pc, ds, cn, ga, ls, a1, a2, a3, a4, a5, a6, a7, a8, a9, a10, a11, a12, a13, a14, a15, a16, a17, a18, a19, a20, a21, a22⟩ := u
  obtain ⟨h1, h0, h2, h3, h4, h5, h6, h7, h8, h9⟩ := h
  have h5' : cn = nI q := h5
  subst h5'
  have h6' : ro_ok (a2, a3, a4, a5, a6, a7, a8, a9, a10, a11) (n / 16) W := h6
  have h7' : ∀ i c, i < n % 16 → c < 3 → a12 (3 * i + c) = W (16 * (n / 16) + i) c := h7
  have h8' : pt_ok k a13 a14 P := h8
  have h9' : ∀ r, r < n → (a1 r = 0 ↔ dd ≤ r) := h9
  have h3' : rc = nI n := h3
  have h4' : pc = nI k := h4
  have cq : (nI q).toNatClampNeg = q := nI_clamp (by omega)
  unfold wpX_condition
  refine mt_badColumn hc (br_t rfl (pk_eq q 4 (fun z => absurd z (by omega)) (fun _ => ⟨pk_in q 4 hq, nm_r (e' := upd a17 q (nI c)) (by rw [cq]) ⟨pk_in q 4 hq, nm_r (e' := upd a18 q lo) (by rw [cq]) ⟨pk_in q 4 hq, nm_r (e' := upd a19 q hi) (by rw [cq]) (nm_r (nI_1 q) (hp _ ⟨h1, h0, by omega, h3', h4', rfl, h6', h7', h8', h9'⟩ (fun e => ?_)))⟩⟩⟩)))
  show upd a17 q (nI c) 0 = nI c ∧ upd a18 q lo 0 = lo ∧ upd a19 q hi 0 = hi
  rw [e]
  exact ⟨pk_us, pk_us, pk_us⟩
theorem la_conditionF {post : Int32 → St2 → Prop} {u : St2} {n : Nat} {W : Nat → Nat → Int32} {k : Nat} {P : Nat → Option Int32} {dd : Nat} {lo hi : Int32} (c : Nat) (h : iv_ok u n W k P dd 4) (hc : c < 3) (hp : post (-1000000002) u) : wpX_condition post u (nI c) lo hi := by
  obtain ⟨rc, pc, ds, cn, ga, ls, a1, a2, a3, a4, a5, a6, a7, a8, a9, a10, a11, a12, a13, a14, a15, a16, a17, a18, a19, a20, a21, a22⟩ := u
  have h5' : cn = nI 4 := h.2.2.2.2.2.1
  subst h5'
  unfold wpX_condition
  exact mt_badColumn hc (br_t rfl (br_t rfl hp))
theorem la_condition3 {post : Int32 → St2 → Prop} {u : St2} {lo hi : Int32} (hp : post (-1000000001) u) : wpX_condition post u 3 lo hi := by
  obtain ⟨rc, pc, ds, cn, ga, ls, a1, a2, a3, a4, a5, a6, a7, a8, a9, a10, a11, a12, a13, a14, a15, a16, a17, a18, a19, a20, a21, a22⟩ := u
  unfold wpX_condition
  exact mt_badColumn3 (br_f (by decide) hp)
theorem la_free {post : Int32 → St2 → Prop} {u : St2} {n : Nat} {W : Nat → Nat → Int32} {k : Nat} {P : Nat → Option Int32} {dd q : Nat} (h : iv_ok u n W k P dd q) (hp : ∀ u', iv_ok u' n W k P dd 0 → post (nI q) u') : wpX_free post u := by
  obtain ⟨rc, pc, ds, cn, ga, ls, a1, a2, a3, a4, a5, a6, a7, a8, a9, a10, a11, a12, a13, a14, a15, a16, a17, a18, a19, a20, a21, a22⟩ := u
  obtain ⟨h1, h0, h2, h3, h4, h5, h6, h7, h8, h9⟩ := h
  have h5' : cn = nI q := h5
  subst h5'
  have h6' : ro_ok (a2, a3, a4, a5, a6, a7, a8, a9, a10, a11) (n / 16) W := h6
  have h7' : ∀ i c, i < n % 16 → c < 3 → a12 (3 * i + c) = W (16 * (n / 16) + i) c := h7
  have h8' : pt_ok k a13 a14 P := h8
  have h9' : ∀ r, r < n → (a1 r = 0 ↔ dd ≤ r) := h9
  have h3' : rc = nI n := h3
  have h4' : pc = nI k := h4
  exact hp _ ⟨h1, h0, by omega, h3', h4', rfl, h6', h7', h8', h9'⟩
theorem la_count0 {post : Int32 → St2 → Prop} {u : St2} {n : Nat} {W : Nat → Nat → Int32} {k : Nat} {P : Nat → Option Int32} {dd : Nat} {x : Int32} (h : iv_ok u n W k P dd 0) (hn : n ≤ 95) (hx : ct_f (fun b => li_f n dd b 16) (n / 16 + 1) = x) (hp : ∀ u', sm_ok u u' → post x u') : wpX_count post u := by
  obtain ⟨rc, pc, ds, cn, ga, ls, a1, a2, a3, a4, a5, a6, a7, a8, a9, a10, a11, a12, a13, a14, a15, a16, a17, a18, a19, a20, a21, a22⟩ := u
  obtain ⟨h1, h0, h2, h3, h4, h5, h6, h7, h8, h9⟩ := h
  have h3' : rc = nI n := h3
  have h5' : cn = nI 0 := h5
  subst h3' h5'
  unfold wpX_count
  refine mt_choose0 hn h9 (fun b20 q => mt_count8 (F := fun b => li_f n dd b 16) hn q ?_)
  rw [hx]
  exact hp _ sm_mk
theorem la_chosen0 {post : Int32 → St2 → Prop} {u : St2} {n : Nat} {W : Nat → Nat → Int32} {k : Nat} {P : Nat → Option Int32} {dd : Nat} {x y : Int32} (m : Nat) (h : iv_ok u n W k P dd 0) (hn : n ≤ 95) (hm : m ≤ n / 16) (hk : ¬ y < 0) (hz : ∀ b, b < m → bo_f (li_f n dd b 16) 16 = 0) (hb : ¬ bo_f (li_f n dd m 16) 16 ≤ y) (hx : nI (16 * m) + (po_f (li_f n dd m 16) y 16).2 = x) (hp : ∀ u', sm_ok u u' → post x u') : wpX_chosen post u y := by
  obtain ⟨rc, pc, ds, cn, ga, ls, a1, a2, a3, a4, a5, a6, a7, a8, a9, a10, a11, a12, a13, a14, a15, a16, a17, a18, a19, a20, a21, a22⟩ := u
  obtain ⟨h1, h0, h2, h3, h4, h5, h6, h7, h8, h9⟩ := h
  have h3' : rc = nI n := h3
  have h5' : cn = nI 0 := h5
  subst h3' h5'
  unfold wpX_chosen
  refine mt_choose0 hn h9 (fun b20 q => mt_chosen8 (F := fun b => li_f n dd b 16) hn q hm hk hz hb ?_)
  show post (nI (16 * m) + (po_f (li_f n dd m 16) y 16).2) _
  rw [hx]
  exact hp _ sm_mk
theorem la_passed0 {post : Int32 → St2 → Prop} {u : St2} {n : Nat} {W : Nat → Nat → Int32} {k : Nat} {P : Nat → Option Int32} {dd : Nat} (h : iv_ok u n W k P dd 0) (hp : post 0 u) : wpX_passed post u := by
  obtain ⟨rc, pc, ds, cn, ga, ls, a1, a2, a3, a4, a5, a6, a7, a8, a9, a10, a11, a12, a13, a14, a15, a16, a17, a18, a19, a20, a21, a22⟩ := u
  obtain ⟨h1, h0, h2, h3, h4, h5, h6, h7, h8, h9⟩ := h
  have h3' : rc = nI n := h3
  have h5' : cn = nI 0 := h5
  subst h3' h5'
  exact mt_passed0 h1 hp
/-! bounds that cross: nothing is chosen -/
theorem mt_chooseB {post : St2 → Prop} {ds ga : Int32} {ls : Int64} {a1 a2 a3 a4 a5 a6 a7 a8 a9 a10 a11 a12 a13 a14 a15 a16 a17 a18 a19 a20 a21 a22 : Nat → Int32} {n k dd c : Nat} {lo hi : Int32} {P : Nat → Option Int32} (hn : n ≤ 95) (hc : c < 3) (hx : hi < lo) (hl : li_f n dd (n / 16) 16 = 0) (hP : pt_ok k a13 a14 P) (hdl : ∀ r, r < n → (a1 r = 0 ↔ dd ≤ r)) (h17 : a17 0 = nI c) (h18 : a18 0 = lo) (h19 : a19 0 = hi)
    (h : ∀ b20, (∀ b, b ≤ n / 16 → b20 b = (fun _ => 0 : Nat → Int32) b) → post (nI n, nI k, ds, nI 1, ga, ls, a1, a2, a3, a4, a5, a6, a7, a8, a9, a10, a11, a12, a13, a14, a15, a16, a17, a18, a19, b20, a21, a22)) : wpX_choose post (nI n, nI k, ds, nI 1, ga, ls, a1, a2, a3, a4, a5, a6, a7, a8, a9, a10, a11, a12, a13, a14, a15, a16, a17, a18, a19, a20, a21, a22) :=
  mt_choose1 (F := fun _ => 0) hn hc hdl h17 h18 h19 (fun _ _ _ => rfl) hl (fun b hb => ⟨0, 0, Int32.and_zero.symm, fun post' b20 q => mt_pwX hx q, fun post' b20 q => mt_paX hP.1 hx q⟩) h
theorem bo_0 : bo_f 0 16 = 0 := by decide +kernel
theorem la_countB {post : Int32 → St2 → Prop} {u : St2} {n : Nat} {W : Nat → Nat → Int32} {k : Nat} {P : Nat → Option Int32} {dd c : Nat} {lo hi x : Int32} (h : iv_ok u n W k P dd 1) (cd : cd_ok u c lo hi) (hn : n ≤ 95) (hc : c < 3) (hX : hi < lo) (hl : li_f n dd (n / 16) 16 = 0) (hx : ct_f (fun _ => 0) (n / 16 + 1) = x) (hp : ∀ u', sm_ok u u' → post x u') : wpX_count post u := by
  obtain ⟨rc, pc, ds, cn, ga, ls, a1, a2, a3, a4, a5, a6, a7, a8, a9, a10, a11, a12, a13, a14, a15, a16, a17, a18, a19, a20, a21, a22⟩ := u
  obtain ⟨h1, h0, h2, h3, h4, h5, h6, h7, h8, h9⟩ := h
  obtain ⟨c1, c2, c3⟩ := cd
  have h3' : rc = nI n := h3
  have h4' : pc = nI k := h4
  have h5' : cn = nI 1 := h5
  subst h3' h4' h5'
  unfold wpX_count
  refine mt_chooseB hn hc hX hl h8 h9 c1 c2 c3 (fun b20 q => mt_count8 (F := fun _ => 0) hn q ?_)
  rw [hx]
  exact hp _ sm_mk
theorem la_chosenB {post : Int32 → St2 → Prop} {u : St2} {n : Nat} {W : Nat → Nat → Int32} {k : Nat} {P : Nat → Option Int32} {dd c : Nat} {lo hi y : Int32} (h : iv_ok u n W k P dd 1) (cd : cd_ok u c lo hi) (hn : n ≤ 95) (hc : c < 3) (hX : hi < lo) (hl : li_f n dd (n / 16) 16 = 0) (hy : ¬ y < 0) (hp : ∀ u', sm_ok u u' → post (-1000000003) u') : wpX_chosen post u y := by
  obtain ⟨rc, pc, ds, cn, ga, ls, a1, a2, a3, a4, a5, a6, a7, a8, a9, a10, a11, a12, a13, a14, a15, a16, a17, a18, a19, a20, a21, a22⟩ := u
  obtain ⟨h1, h0, h2, h3, h4, h5, h6, h7, h8, h9⟩ := h
  obtain ⟨c1, c2, c3⟩ := cd
  have h3' : rc = nI n := h3
  have h4' : pc = nI k := h4
  have h5' : cn = nI 1 := h5
  subst h3' h4' h5'
  unfold wpX_chosen
  exact mt_chooseB hn hc hX hl h8 h9 c1 c2 c3 (fun b20 q => mt_chosen8N (F := fun _ => 0) hn q hy (fun _ _ => bo_0) (hp _ sm_mk))
theorem la_passedB {post : Int32 → St2 → Prop} {u : St2} {n : Nat} {W : Nat → Nat → Int32} {k : Nat} {P : Nat → Option Int32} {dd c : Nat} {lo hi x : Int32} (h : iv_ok u n W k P dd 1) (cd : cd_ok u c lo hi) (hc : c < 3) (hX : hi < lo) (hx : nI (pa_f (fun _ => 0) (n / 16)) = x) (hp : post x u) : wpX_passed post u := by
  obtain ⟨rc, pc, ds, cn, ga, ls, a1, a2, a3, a4, a5, a6, a7, a8, a9, a10, a11, a12, a13, a14, a15, a16, a17, a18, a19, a20, a21, a22⟩ := u
  obtain ⟨h1, h0, h2, h3, h4, h5, h6, h7, h8, h9⟩ := h
  obtain ⟨c1, c2, c3⟩ := cd
  have h3' : rc = nI n := h3
  have h5' : cn = nI 1 := h5
  subst h3' h5'
  refine mt_passed1 (G := fun _ => 0) h1 hc c1 c2 c3 (fun b hb post' q => mt_pwX hX q) ?_
  rw [hx]
  exact hp
theorem gs_0 : ∀ n, gs_f (fun _ => 0) n = 0 := by
  intro n
  induction n with
  | zero => rfl
  | succ n ih => rw [gs_f, if_pos rfl, ih]
theorem la_leastB {post : Int32 → St2 → Prop} {u : St2} {n : Nat} {W : Nat → Nat → Int32} {k : Nat} {P : Nat → Option Int32} {dd c : Nat} {lo hi : Int32} (h : iv_ok u n W k P dd 1) (cd : cd_ok u c lo hi) (hn : n ≤ 80) (hc : c < 3) (hX : hi < lo) (hl : li_f n dd (n / 16) 16 = 0) (hp : ∀ u', sm_ok u u' → post (-1000000003) u') : wpX_least post u (nI c) := by
  obtain ⟨rc, pc, ds, cn, ga, ls, a1, a2, a3, a4, a5, a6, a7, a8, a9, a10, a11, a12, a13, a14, a15, a16, a17, a18, a19, a20, a21, a22⟩ := u
  obtain ⟨h1, h0, h2, h3, h4, h5, h6, h7, h8, h9⟩ := h
  obtain ⟨c1, c2, c3⟩ := cd
  have h3' : rc = nI n := h3
  have h4' : pc = nI k := h4
  have h5' : cn = nI 1 := h5
  subst h3' h4' h5'
  unfold wpX_least
  refine mt_badColumn hc (br_t rfl ?_)
  unfold wpX_gather
  refine mt_chooseB (by omega) hc hX hl h8 h9 c1 c2 c3 (fun b20 q => mt_blockCount (by omega) ?_)
  refine mt_gather16 (F := fun _ => 0) (v := 0) hn hc h6 h8 q rfl (Or.inl (fun _ _ => rfl)) (fun b _ i hi z => absurd z ?_) (fun b15 b21 r => ?_)
  · show ¬ ((0 : Int32) >>> (nI i &&& 31)) &&& 1 = 1
    rw [dg_rd1 (by omega), dg_0]
    decide
  · rw [gs_0] at r ⊢
    exact mt_order (g := 0) (by omega) r (fun b21' _ => br_t rfl (hp _ sm_mk))
/-! one value of the third block's last column, and nothing else -/
theorem bk_low {p : pa_T} {t : Nat} {B : Nat → Int32} {v : Int32} (h : bk_ok p t B) (hv : ∀ i, i < 16 → v < B i) : ¬ p.2.2.2.2.2.1 t ≤ v := by
  obtain ⟨_, d, S, q1, q2, _⟩ := h
  obtain ⟨i, hi, e⟩ := q1.2.2.2 0 (pu_pos (by omega) q1)
  rw [q2, ← e, Int32.le_iff_toInt_le]
  have := hv i hi
  rw [Int32.lt_iff_toInt_lt] at this
  omega
theorem bk_min {p : pa_T} {t : Nat} {B : Nat → Int32} {v : Int32} (h : bk_ok p t B) (h1 : ∃ i, i < 16 ∧ B i = v) (h2 : ∀ i, i < 16 → ¬ B i < v) : p.2.2.2.2.2.1 t = v := by
  obtain ⟨_, d, S, q1, q2, _⟩ := h
  obtain ⟨i, hi, e⟩ := q1.2.2.2 0 (pu_pos (by omega) q1)
  obtain ⟨j, hj, e2⟩ := h1
  have l := (pu_least q1 hj).1
  have m := h2 i hi
  rw [Int32.lt_iff_toInt_lt, e] at m
  rw [e2] at l
  rw [q2]
  exact Int32.toInt_inj.mp (by omega)
theorem bk_max {p : pa_T} {t : Nat} {B : Nat → Int32} {v : Int32} (h : bk_ok p t B) (h1 : ∃ i, i < 16 ∧ v < B i) : v < p.2.2.2.2.2.2.1 t := by
  obtain ⟨_, d, S, q1, _, q3, _⟩ := h
  obtain ⟨j, hj, e2⟩ := h1
  have l := (pu_least q1 hj).2
  rw [q3]
  rw [Int32.lt_iff_toInt_lt] at *
  omega
def gc_f (b : Nat) : Int32 := if b = 2 then 4369 else 0
def wc_ok (W : Nat → Nat → Int32) (v : Int32) : Prop :=
  (∀ b, b < 2 → ∀ i, i < 16 → v < W (16 * b + i) 2) ∧ (∃ i, i < 16 ∧ W (32 + i) 2 = v) ∧ (∀ i, i < 16 → ¬ W (32 + i) 2 < v) ∧ (∃ i, i < 16 ∧ v < W (32 + i) 2) ∧ ls_f (fun i => W (32 + i) 2) v 16 = 4369 ∧ (∀ i, i < 16 → ((4369 : Int32) >>> (nI i &&& 31)) &&& 1 = 1 → W (32 + i) 2 = v)
theorem mt_pwC {post : Int32 → St2 → Prop} {rc pc ds cn ga : Int32} {ls : Int64} {a1 a2 a3 a4 a5 a6 a7 a8 a9 a10 a11 a12 a13 a14 a15 a16 a17 a18 a19 a20 a21 a22 : Nat → Int32} {W : Nat → Nat → Int32} {b : Nat} {v : Int32} (hb : b < 3) (hro : ro_ok (a2, a3, a4, a5, a6, a7, a8, a9, a10, a11) 3 W) (hf : a2 8 = nI 3) (w : wc_ok W v) (h : post (gc_f b) (rc, pc, ds, cn, ga, ls, a1, a2, a3, a4, a5, a6, a7, a8, a9, a10, a11, a12, a13, a14, a15, a16, a17, a18, a19, a20, a21, a22)) : wpX_packedWithin post (rc, pc, ds, cn, ga, ls, a1, a2, a3, a4, a5, a6, a7, a8, a9, a10, a11, a12, a13, a14, a15, a16, a17, a18, a19, a20, a21, a22) (nI (3 * b + 2)) v v := by
  obtain ⟨w1, w2, w3, w4, w5, _⟩ := w
  by_cases c : b = 2
  · subst c
    have k := hro 2 (by omega) 2 (by omega)
    refine mt_pwL (t := 8) (by omega) k.1 hf (bk_min k w2 w3) (bk_max k w4) ?_
    show post (ls_f (fun i => W (32 + i) 2) v 16) _
    rw [w5]
    exact h
  · have e : gc_f b = 0 := if_neg c
    rw [e] at h
    exact mt_pwO (by omega) (pu_irr v) (bk_low (hro b (by omega) 2 (by omega)) (w1 b (by omega))) h
theorem li_48 : ∀ b, b ≤ 3 → li_f 48 0 b 16 = (if b = 3 then 0 else 65535) := by decide +kernel
theorem gc_and : ∀ b, b < 3 → gc_f b = li_f 48 0 b 16 &&& gc_f b := by decide +kernel
theorem gc_0 : ∀ b, b ≤ 3 → li_f 48 0 b 16 = 0 → gc_f b = 0 := by decide +kernel
theorem mt_chooseC {post : St2 → Prop} {ds ga : Int32} {ls : Int64} {a1 a2 a3 a4 a5 a6 a7 a8 a9 a10 a11 a12 a13 a14 a15 a16 a17 a18 a19 a20 a21 a22 : Nat → Int32} {k : Nat} {v : Int32} {W : Nat → Nat → Int32} {P : Nat → Option Int32} (hro : ro_ok (a2, a3, a4, a5, a6, a7, a8, a9, a10, a11) 3 W) (hf : a2 8 = nI 3) (w : wc_ok W v) (hP : pt_ok k a13 a14 P) (hno : ∀ p, P p ≠ none → p % 3 ≠ 2) (hdl : ∀ r, r < 48 → (a1 r = 0 ↔ 0 ≤ r)) (h17 : a17 0 = nI 2) (h18 : a18 0 = v) (h19 : a19 0 = v)
    (h : ∀ b20, (∀ b, b ≤ 48 / 16 → b20 b = gc_f b) → post (nI 48, nI k, ds, nI 1, ga, ls, a1, a2, a3, a4, a5, a6, a7, a8, a9, a10, a11, a12, a13, a14, a15, a16, a17, a18, a19, b20, a21, a22)) : wpX_choose post (nI 48, nI k, ds, nI 1, ga, ls, a1, a2, a3, a4, a5, a6, a7, a8, a9, a10, a11, a12, a13, a14, a15, a16, a17, a18, a19, a20, a21, a22) :=
  mt_choose1 (F := gc_f) (n := 48) (by omega) (by omega) hdl h17 h18 h19 gc_0 (li_48 3 (by omega)) (fun b hb => ⟨gc_f b, gc_f b, gc_and b hb, fun post' b20 q => mt_pwC hb hro hf w q, fun post' b20 q => mt_paN hP (by omega) hno q⟩) h
theorem la_countC {post : Int32 → St2 → Prop} {u : St2} {W : Nat → Nat → Int32} {k : Nat} {P : Nat → Option Int32} {v : Int32} (h : iv_ok u 48 W k P 0 1) (cd : cd_ok u 2 v v) (w : wc_ok W v) (hf : u.2.2.2.2.2.2.2.1 8 = nI 3) (hno : ∀ p, P p ≠ none → p % 3 ≠ 2) (hp : ∀ u', sm_ok u u' → post 4 u') : wpX_count post u := by
  obtain ⟨rc, pc, ds, cn, ga, ls, a1, a2, a3, a4, a5, a6, a7, a8, a9, a10, a11, a12, a13, a14, a15, a16, a17, a18, a19, a20, a21, a22⟩ := u
  obtain ⟨h1, h0, h2, h3, h4, h5, h6, h7, h8, h9⟩ := h
  obtain ⟨c1, c2, c3⟩ := cd
  have h3' : rc = nI 48 := h3
  have h4' : pc = nI k := h4
  have h5' : cn = nI 1 := h5
  subst h3' h4' h5'
  unfold wpX_count
  refine mt_chooseC h6 hf w h8 hno h9 c1 c2 c3 (fun b20 q => mt_count8 (F := gc_f) (by omega) q ?_)
  rw [show ct_f gc_f (48 / 16 + 1) = 4 by decide +kernel]
  exact hp _ sm_mk
theorem la_chosenC {post : Int32 → St2 → Prop} {u : St2} {W : Nat → Nat → Int32} {k : Nat} {P : Nat → Option Int32} {v x y : Int32} (h : iv_ok u 48 W k P 0 1) (cd : cd_ok u 2 v v) (w : wc_ok W v) (hf : u.2.2.2.2.2.2.2.1 8 = nI 3) (hno : ∀ p, P p ≠ none → p % 3 ≠ 2) (hy : ¬ y < 0) (hy4 : ¬ 4 ≤ y) (hx : nI 32 + (po_f 4369 y 16).2 = x) (hp : ∀ u', sm_ok u u' → post x u') : wpX_chosen post u y := by
  obtain ⟨rc, pc, ds, cn, ga, ls, a1, a2, a3, a4, a5, a6, a7, a8, a9, a10, a11, a12, a13, a14, a15, a16, a17, a18, a19, a20, a21, a22⟩ := u
  obtain ⟨h1, h0, h2, h3, h4, h5, h6, h7, h8, h9⟩ := h
  obtain ⟨c1, c2, c3⟩ := cd
  have h3' : rc = nI 48 := h3
  have h4' : pc = nI k := h4
  have h5' : cn = nI 1 := h5
  subst h3' h4' h5'
  unfold wpX_chosen
  refine mt_chooseC h6 hf w h8 hno h9 c1 c2 c3 (fun b20 q => mt_chosen8 (F := gc_f) (m := 2) (by omega) q (by omega) hy (by decide +kernel) ?_ ?_)
  · rw [show bo_f (gc_f 2) 16 = 4 by decide +kernel]
    exact hy4
  · show post (nI 32 + (po_f 4369 y 16).2) _
    rw [hx]
    exact hp _ sm_mk
theorem la_passedC {post : Int32 → St2 → Prop} {u : St2} {W : Nat → Nat → Int32} {k : Nat} {P : Nat → Option Int32} {v : Int32} (h : iv_ok u 48 W k P 0 1) (cd : cd_ok u 2 v v) (w : wc_ok W v) (hf : u.2.2.2.2.2.2.2.1 8 = nI 3) (hp : post 2 u) : wpX_passed post u := by
  obtain ⟨rc, pc, ds, cn, ga, ls, a1, a2, a3, a4, a5, a6, a7, a8, a9, a10, a11, a12, a13, a14, a15, a16, a17, a18, a19, a20, a21, a22⟩ := u
  obtain ⟨h1, h0, h2, h3, h4, h5, h6, h7, h8, h9⟩ := h
  obtain ⟨c1, c2, c3⟩ := cd
  have h3' : rc = nI 48 := h3
  have h5' : cn = nI 1 := h5
  subst h3' h5'
  refine mt_passed1 (G := gc_f) (n := 48) (by omega) (by omega) c1 c2 c3 (fun b hb post' q => mt_pwC hb h6 hf w q) ?_
  rw [show nI (pa_f gc_f (48 / 16)) = 2 by decide +kernel]
  exact hp
theorem mt_gatherC {post : St2 → Prop} {ds ga : Int32} {ls : Int64} {a1 a2 a3 a4 a5 a6 a7 a8 a9 a10 a11 a12 a13 a14 a15 a16 a17 a18 a19 a20 a21 a22 : Nat → Int32} {k : Nat} {v : Int32} {W : Nat → Nat → Int32} {P : Nat → Option Int32} (hro : ro_ok (a2, a3, a4, a5, a6, a7, a8, a9, a10, a11) 3 W) (hf : a2 8 = nI 3) (w : wc_ok W v) (hP : pt_ok k a13 a14 P) (hno : ∀ p, P p ≠ none → p % 3 ≠ 2) (hdl : ∀ r, r < 48 → (a1 r = 0 ↔ 0 ≤ r)) (h17 : a17 0 = nI 2) (h18 : a18 0 = v) (h19 : a19 0 = v)
    (h : ∀ b15 b20 b21, (∀ j, j < 4 → b21 j = v) → post (nI 48, nI k, ds, nI 1, nI 4, ls, a1, a2, a3, a4, a5, a6, a7, a8, a9, a10, a11, a12, a13, a14, b15, a16, a17, a18, a19, b20, b21, a22)) : wpX_gather post (nI 48, nI k, ds, nI 1, ga, ls, a1, a2, a3, a4, a5, a6, a7, a8, a9, a10, a11, a12, a13, a14, a15, a16, a17, a18, a19, a20, a21, a22) 2 := by
  unfold wpX_gather
  refine mt_chooseC hro hf w hP hno hdl h17 h18 h19 (fun b20 q => mt_blockCount (n := 48) (by omega) ?_)
  refine mt_gather16 (F := gc_f) (n := 48) (c := 2) (v := v) (by omega) (by omega) hro hP q rfl (Or.inr hno) (fun b hb i hi z => ?_) (fun b15 b21 r => ?_)
  · by_cases e : b = 2
    · subst e
      exact w.2.2.2.2.2 i hi z
    · rw [show gc_f b = 0 from if_neg e, dg_rd1 (by omega), dg_0] at z
      exact absurd z (by decide)
  · rw [show gs_f gc_f (48 / 16 + 1) = 4 by decide +kernel] at r ⊢
    exact h b15 b20 b21 r
theorem la_sumC {post : Int32 → St2 → Prop} {u : St2} {W : Nat → Nat → Int32} {k : Nat} {P : Nat → Option Int32} {v x : Int32} (h : iv_ok u 48 W k P 0 1) (cd : cd_ok u 2 v v) (w : wc_ok W v) (hf : u.2.2.2.2.2.2.2.1 8 = nI 3) (hno : ∀ p, P p ≠ none → p % 3 ≠ 2) (hx : sv_f v 4 = x) (hp : ∀ u', sm_ok u u' → post x u') : wpX_sum post u 2 := by
  obtain ⟨rc, pc, ds, cn, ga, ls, a1, a2, a3, a4, a5, a6, a7, a8, a9, a10, a11, a12, a13, a14, a15, a16, a17, a18, a19, a20, a21, a22⟩ := u
  obtain ⟨h1, h0, h2, h3, h4, h5, h6, h7, h8, h9⟩ := h
  obtain ⟨c1, c2, c3⟩ := cd
  have h3' : rc = nI 48 := h3
  have h4' : pc = nI k := h4
  have h5' : cn = nI 1 := h5
  subst h3' h4' h5'
  unfold wpX_sum
  refine mt_badColumn (c := 2) (by omega) (br_t rfl (mt_gatherC h6 hf w h8 hno h9 c1 c2 c3 (fun b15 b20 b21 r => mt_sum20 (g := 4) (by omega) r ?_)))
  rw [hx]
  exact hp _ sm_mk
theorem la_differentC {post : Int32 → St2 → Prop} {u : St2} {W : Nat → Nat → Int32} {k : Nat} {P : Nat → Option Int32} {v : Int32} (h : iv_ok u 48 W k P 0 1) (cd : cd_ok u 2 v v) (w : wc_ok W v) (hf : u.2.2.2.2.2.2.2.1 8 = nI 3) (hno : ∀ p, P p ≠ none → p % 3 ≠ 2) (hp : ∀ u', sm_ok u u' → post 1 u') : wpX_different post u 2 := by
  obtain ⟨rc, pc, ds, cn, ga, ls, a1, a2, a3, a4, a5, a6, a7, a8, a9, a10, a11, a12, a13, a14, a15, a16, a17, a18, a19, a20, a21, a22⟩ := u
  obtain ⟨h1, h0, h2, h3, h4, h5, h6, h7, h8, h9⟩ := h
  obtain ⟨c1, c2, c3⟩ := cd
  have h3' : rc = nI 48 := h3
  have h4' : pc = nI k := h4
  have h5' : cn = nI 1 := h5
  subst h3' h4' h5'
  unfold wpX_different
  exact mt_badColumn (c := 2) (by omega) (br_t rfl (mt_gatherC h6 hf w h8 hno h9 c1 c2 c3 (fun b15 b20 b21 r => mt_order (g := 4) (by omega) r (fun b21' r' => mt_different24 (g := 4) (by omega) (by omega) r' (hp _ sm_mk)))))
theorem la_commonestC {post : Int32 → St2 → Prop} {u : St2} {W : Nat → Nat → Int32} {k : Nat} {P : Nat → Option Int32} {v : Int32} (h : iv_ok u 48 W k P 0 1) (cd : cd_ok u 2 v v) (w : wc_ok W v) (hf : u.2.2.2.2.2.2.2.1 8 = nI 3) (hno : ∀ p, P p ≠ none → p % 3 ≠ 2) (hp : ∀ u', sm_ok u u' → post v u') : wpX_commonest post u 2 := by
  obtain ⟨rc, pc, ds, cn, ga, ls, a1, a2, a3, a4, a5, a6, a7, a8, a9, a10, a11, a12, a13, a14, a15, a16, a17, a18, a19, a20, a21, a22⟩ := u
  obtain ⟨h1, h0, h2, h3, h4, h5, h6, h7, h8, h9⟩ := h
  obtain ⟨c1, c2, c3⟩ := cd
  have h3' : rc = nI 48 := h3
  have h4' : pc = nI k := h4
  have h5' : cn = nI 1 := h5
  subst h3' h4' h5'
  unfold wpX_commonest
  exact mt_badColumn (c := 2) (by omega) (br_t rfl (mt_gatherC h6 hf w h8 hno h9 c1 c2 c3 (fun b15 b20 b21 r => mt_order (g := 4) (by omega) r (fun b21' r' => mt_commonest31 (g := 4) (by omega) (by omega) r' (hp _ sm_mk)))))
theorem la_sum3 {post : Int32 → St2 → Prop} {u : St2} (hp : post (-1000000001) u) : wpX_sum post u 3 := by
  obtain ⟨rc, pc, ds, cn, ga, ls, a1, a2, a3, a4, a5, a6, a7, a8, a9, a10, a11, a12, a13, a14, a15, a16, a17, a18, a19, a20, a21, a22⟩ := u
  unfold wpX_sum
  exact mt_badColumn3 (br_f (by decide) hp)
theorem la_least3 {post : Int32 → St2 → Prop} {u : St2} (hp : post (-1000000001) u) : wpX_least post u 3 := by
  obtain ⟨rc, pc, ds, cn, ga, ls, a1, a2, a3, a4, a5, a6, a7, a8, a9, a10, a11, a12, a13, a14, a15, a16, a17, a18, a19, a20, a21, a22⟩ := u
  unfold wpX_least
  exact mt_badColumn3 (br_f (by decide) hp)
theorem la_rankedM {post : Int32 → St2 → Prop} {u : St2} {y : Int32} (hp : post (-1000000001) u) : wpX_ranked post u (-1) y := by
  obtain ⟨rc, pc, ds, cn, ga, ls, a1, a2, a3, a4, a5, a6, a7, a8, a9, a10, a11, a12, a13, a14, a15, a16, a17, a18, a19, a20, a21, a22⟩ := u
  unfold wpX_ranked
  exact mt_badColumnM (br_f (by decide) hp)
theorem la_different3 {post : Int32 → St2 → Prop} {u : St2} (hp : post (-1000000001) u) : wpX_different post u 3 := by
  obtain ⟨rc, pc, ds, cn, ga, ls, a1, a2, a3, a4, a5, a6, a7, a8, a9, a10, a11, a12, a13, a14, a15, a16, a17, a18, a19, a20, a21, a22⟩ := u
  unfold wpX_different
  exact mt_badColumn3 (br_f (by decide) hp)
theorem la_commonest3 {post : Int32 → St2 → Prop} {u : St2} (hp : post (-1000000001) u) : wpX_commonest post u 3 := by
  obtain ⟨rc, pc, ds, cn, ga, ls, a1, a2, a3, a4, a5, a6, a7, a8, a9, a10, a11, a12, a13, a14, a15, a16, a17, a18, a19, a20, a21, a22⟩ := u
  unfold wpX_commonest
  exact mt_badColumn3 (br_f (by decide) hp)
end
section
/-! the law's values, and what is picked for them -/
theorem pu_pick_is {z : Nat → Nat} {f : Nat} (hf : 1 ≤ f) (h1 : ∀ i, 1 ≤ i → i < f → z f < z i) (h2 : z f < 512) (n : Nat) (hn : f ≤ n) (h3 : ∀ i, f < i → i ≤ n → z f ≤ z i) : pu_pick z n = (f, z f) := by
  induction n with
  | zero => omega
  | succ n ih =>
    rw [pu_pick]
    rcases Nat.lt_or_ge n f with c | c
    · have e : f = n + 1 := by omega
      have g := pu_pick_ge z n (z f + 1) (by omega) (fun i a b => h1 i a (by omega))
      rw [if_neg (by rw [← e]; omega), e]
    · have e := ih c (fun i a b => h3 i a (by omega))
      rw [e]
      exact if_pos (h3 (n + 1) (by omega) (by omega))
theorem pu_pick1 {B S : Nat → Int32} : pu_pick (pu_sz B 1 S) 5 = (1, 32) :=
  pu_pick_is (z := pu_sz B 1 S) (f := 1) (by omega) (fun i a b => absurd b (by omega)) (by show 32 < 512; omega) 5 (by omega) (fun i _ _ => pu_sz_ge (by omega) i)
/-- a shifted table -/
theorem tr_i {a : Int32} {m : Nat} (h1 : -1000 ≤ a.toInt) (h2 : a.toInt ≤ 1000) (hm : m ≤ 3000) : (a + nI m).toInt = a.toInt + m := by
  have e : a + nI m = Int32.ofInt (a.toInt + m) := by
    rw [Int32.ofInt_add, Int32.ofInt_toInt, Int32.ofInt_eq_ofNat]
    rfl
  rw [e, Int32.toInt_ofInt_of_le (by omega) (by omega)]
theorem tr_n {m : Nat} (hm : m ≤ 3000) : (nI m).toInt = m := nI_toInt (by omega)
theorem tr_eq {a : Int32} {m k : Nat} (h1 : -1000 ≤ a.toInt) (h2 : a.toInt ≤ 1000) (hm : m ≤ 3000) (hk : k ≤ 3000) : (a + nI m = a + nI k) ↔ nI m = nI k := by
  rw [← Int32.toInt_inj, tr_i h1 h2 hm, tr_i h1 h2 hk, ← Int32.toInt_inj, tr_n hm, tr_n hk]
  omega
theorem tr_lt {a : Int32} {m k : Nat} (h1 : -1000 ≤ a.toInt) (h2 : a.toInt ≤ 1000) (hm : m ≤ 3000) (hk : k ≤ 3000) : (a + nI m < a + nI k) ↔ nI m < nI k := by
  rw [Int32.lt_iff_toInt_lt, tr_i h1 h2 hm, tr_i h1 h2 hk, Int32.lt_iff_toInt_lt, tr_n hm, tr_n hk]
  omega
theorem tr_dist {a : Int32} {t S : Nat → Nat} {d : Nat} (h1 : -1000 ≤ a.toInt) (h2 : a.toInt ≤ 1000) (ht : ∀ i, i < 16 → t i ≤ 3000) (hS : ∀ k, k < d → S k ≤ 3000) (h : pu_dist (fun i => nI (t i)) 16 d (fun k => nI (S k))) : pu_dist (fun i => a + nI (t i)) 16 d (fun k => a + nI (S k)) := by
  obtain ⟨p0, p1, p2, p3⟩ := h
  refine ⟨p0, ?_, ?_, ?_⟩
  · intro k hk j hj
    exact (tr_lt h1 h2 (hS j (by omega)) (hS k hk)).mpr (p1 k hk j hj)
  · intro i hi
    obtain ⟨k, hk, e⟩ := p2 i hi
    exact ⟨k, hk, (tr_eq h1 h2 (hS k hk) (ht i hi)).mpr e⟩
  · intro k hk
    obtain ⟨i, hi, e⟩ := p3 k hk
    exact ⟨i, hi, (tr_eq h1 h2 (ht i hi) (hS k hk)).mpr e⟩
theorem tr_rc {a : Int32} {t : Nat → Nat} (h1 : -1000 ≤ a.toInt) (h2 : a.toInt ≤ 1000) (ht : ∀ i, i < 16 → t i ≤ 3000) : ∀ n, n ≤ 15 → pu_rc (fun i => a + nI (t i)) n = pu_rc (fun i => nI (t i)) n := by
  intro n
  induction n with
  | zero => intro _; rfl
  | succ n ih =>
    intro hn
    rw [pu_rc, pu_rc, ih (by omega)]
    have e := tr_eq h1 h2 (ht (n + 1) (by omega)) (ht n (by omega))
    by_cases c : nI (t (n + 1)) = nI (t n)
    · rw [if_pos c, if_pos (e.mpr c)]
    · rw [if_neg c, if_neg (fun z => c (e.mp z))]
theorem tr_sz {a : Int32} {t S : Nat → Nat} {d : Nat} (h1 : -1000 ≤ a.toInt) (h2 : a.toInt ≤ 1000) (ht : ∀ i, i < 16 → t i ≤ 3000) (hS : ∀ k, k < d → S k ≤ 3000) (hd : 1 ≤ d) (f : Nat) : pu_sz (fun i => a + nI (t i)) d (fun k => a + nI (S k)) f = pu_sz (fun i => nI (t i)) d (fun k => nI (S k)) f := by
  have e1 := tr_rc h1 h2 ht 15 (by omega)
  have e2 : pu_lo (fun i => a + nI (t i)) = pu_lo (fun i => nI (t i)) ∧ pu_hi (fun i => a + nI (t i)) = pu_hi (fun i => nI (t i)) := by
    refine pu_mn_congr 14 (fun i hi => ?_)
    show (a + nI (t (i + 1))).toInt - (a + nI (t i)).toInt = (nI (t (i + 1))).toInt - (nI (t i)).toInt
    rw [tr_i h1 h2 (ht _ (by omega)), tr_i h1 h2 (ht _ (by omega)), tr_n (ht _ (by omega)), tr_n (ht _ (by omega))]
    omega
  have e3 : pu_sw (fun i => a + nI (t i)) = pu_sw (fun i => nI (t i)) := by unfold pu_sw pu_sw0; rw [e2.1, e2.2]
  have e4 : pu_fw d (fun k => a + nI (S k)) = pu_fw d (fun k => nI (S k)) := by
    unfold pu_fw
    dsimp only
    rw [tr_i h1 h2 (hS _ (by omega)), tr_i h1 h2 (hS _ (by omega)), tr_n (hS _ (by omega)), tr_n (hS _ (by omega))]
    congr 2
    omega
  unfold pu_sz
  rw [e1, e3, e4]
def wl_x (i : Nat) : Int32 := if (nI i * 11) &&& 3 = 0 then -2000000000 else ((nI i * 11) &&& 3) * 600000000
def wl_y (i : Nat) : Int32 := if nI i &&& 1 = 0 then 2147483647 - ((nI i * nI i) * 999) else ((nI i * nI i) * nI i) - 2147483647
def wl_z (i : Nat) : Int32 := ((nI i * nI i) * nI i) * 70001 + ((nI i * 7) &&& 15) * 1000003
def wl_f (a s : Int32) (r c : Nat) : Int32 :=
  if r < 16 then (if c = 0 then a else if c = 1 then a + s * nI r else if r < 5 then a else a + 1000)
  else if r < 32 then (if c = 0 then ((nI (r - 16) * 5) &&& 3) * 999 else if c = 1 then ((nI (r - 16) * 5) &&& 15) + a else wl_z (r - 16))
  else if c = 1 then wl_y (r - 32) else wl_x (r - 32)
/-- form and size of a column whose values are known -/
theorem fo_of {u : St2} {n : Nat} {W : Nat → Nat → Int32} {k : Nat} {P : Nat → Option Int32} {dd q : Nat} {b c d f z : Nat} {B S : Nat → Int32} (h : iv_ok u n W k P dd q) (hb : b < n / 16) (hc : c < 3) (e : ∀ i, i < 16 → B i = W (16 * b + i) c) (hd : pu_dist B 16 d S) (hpk : pu_pick (pu_sz B d S) 5 = (f, z)) :
    u.2.2.2.2.2.2.2.1 (3 * b + c) = nI f ∧ u.2.2.2.2.2.2.2.2.2.2.2.2.2.2.1 (3 * b + c) = nI z := by
  have q := iv_pick h hb hc (pu_dist_congr e hd)
  rw [← pu_pick_congr 5 (fun i _ _ => pu_sz_congr e i), hpk] at q
  exact q
theorem di_const {v : Int32} : pu_dist (fun _ => v) 16 1 (fun _ => v) :=
  ⟨by omega, fun k hk j hj => absurd hj (by omega), fun i _ => ⟨0, by omega, rfl⟩, fun k _ => ⟨0, by omega, rfl⟩⟩
def tb_s (s i : Nat) : Nat := s * i
theorem tb_s_d : ∀ s, s < 8 → 1 ≤ s → pu_dist (fun i => nI (tb_s s i)) 16 16 (fun i => nI (tb_s s i)) := by
  unfold pu_dist
  decide +kernel
theorem tb_s_p : ∀ s, s < 8 → 1 ≤ s → pu_pick (pu_sz (fun i => nI (tb_s s i)) 16 (fun i => nI (tb_s s i))) 5 = (5, 70) := by decide +kernel
theorem tb_s_l : ∀ s, s < 8 → ∀ i, i < 16 → tb_s s i ≤ 3000 := by decide +kernel
def tb_r (i : Nat) : Nat := if i < 5 then 0 else 1000
def tb_r2 (k : Nat) : Nat := 1000 * k
theorem tb_r_d : pu_dist (fun i => nI (tb_r i)) 16 2 (fun i => nI (tb_r2 i)) := by
  unfold pu_dist
  decide +kernel
theorem tb_r_p : pu_pick (pu_sz (fun i => nI (tb_r i)) 2 (fun i => nI (tb_r2 i))) 5 = (2, 74) := by decide +kernel
def tb_f (i : Nat) : Nat := 5 * i % 16
def tb_f2 (k : Nat) : Nat := k
theorem tb_f_d : pu_dist (fun i => nI (tb_f i)) 16 16 (fun i => nI (tb_f2 i)) := by
  unfold pu_dist
  decide +kernel
theorem tb_f_p : pu_pick (pu_sz (fun i => nI (tb_f i)) 16 (fun i => nI (tb_f2 i))) 5 = (4, 102) := by decide +kernel
def tb_l (i : Nat) : Int32 := ((nI i * 5) &&& 3) * 999
def tb_l2 (k : Nat) : Int32 := nI (999 * k)
theorem tb_l_d : pu_dist tb_l 16 4 tb_l2 := by
  unfold pu_dist
  decide +kernel
theorem tb_l_p : pu_pick (pu_sz tb_l 4 tb_l2) 5 = (3, 160) := by decide +kernel
def tb_x2 (k : Nat) : Int32 := if k = 0 then -2000000000 else nI (600000000 * k)
theorem tb_x_d : pu_dist wl_x 16 4 tb_x2 := by
  unfold pu_dist
  decide +kernel
theorem tb_x_p : pu_pick (pu_sz wl_x 4 tb_x2) 5 = (3, 160) := by decide +kernel
def tb_y2 (k : Nat) : Int32 := if k < 8 then wl_y (2 * k + 1) else wl_y (2 * (15 - k))
theorem tb_y_d : pu_dist wl_y 16 16 tb_y2 := by
  unfold pu_dist
  decide +kernel
theorem tb_y_p : pu_pick (pu_sz wl_y 16 tb_y2) 5 = (0, 512) := by decide +kernel
theorem wl_b : ∀ i, i < 16 → ((nI i * 5) &&& 15) = nI (tb_f i) := by decide +kernel
theorem wl_wz : ∀ i, i < 16 → (-2000000000 : Int32) < wl_z i := by decide +kernel
theorem wl_wx : (∃ i, i < 16 ∧ wl_x i = -2000000000) ∧ (∀ i, i < 16 → ¬ wl_x i < -2000000000) ∧ (∃ i, i < 16 ∧ (-2000000000 : Int32) < wl_x i) ∧ ls_f wl_x (-2000000000) 16 = 4369 ∧ (∀ i, i < 16 → ((4369 : Int32) >>> (nI i &&& 31)) &&& 1 = 1 → wl_x i = -2000000000) := by decide +kernel
end
section
/-! the law: forms -/
theorem fm_00 {u : St2} {n : Nat} {a : Int32} {s : Nat} {k : Nat} {P : Nat → Option Int32} {dd q : Nat} (h : iv_ok u n (wl_f a (nI s)) k P dd q) (hn : 16 ≤ n) : u.2.2.2.2.2.2.2.1 (3 * 0 + 0) = nI 1 ∧ u.2.2.2.2.2.2.2.2.2.2.2.2.2.2.1 (3 * 0 + 0) = nI 32 :=
  fo_of (b := 0) (c := 0) (B := fun _ => a) h (by omega) (by omega) (fun i hi => by
    show a = wl_f a (nI s) (16 * 0 + i) 0
    unfold wl_f
    rw [if_pos (by omega), if_pos rfl]) di_const pu_pick1
theorem fm_01 {u : St2} {n : Nat} {a : Int32} {s : Nat} {k : Nat} {P : Nat → Option Int32} {dd q : Nat} (h : iv_ok u n (wl_f a (nI s)) k P dd q) (hn : 16 ≤ n) (h1 : -1000 ≤ a.toInt) (h2 : a.toInt ≤ 1000) (hs : s < 8) : u.2.2.2.2.2.2.2.1 (3 * 0 + 1) = nI (if s = 0 then 1 else 5) ∧ u.2.2.2.2.2.2.2.2.2.2.2.2.2.2.1 (3 * 0 + 1) = nI (if s = 0 then 32 else 70) := by
  by_cases c : s = 0
  · subst c
    refine fo_of (b := 0) (c := 1) (B := fun _ => a) h (by omega) (by omega) (fun i hi => ?_) di_const pu_pick1
    show a = wl_f a (nI 0) (16 * 0 + i) 1
    unfold wl_f
    rw [if_pos (by omega), if_neg (by decide), if_pos rfl, nI_0, Int32.zero_mul, Int32.add_zero]
  · rw [if_neg c, if_neg c]
    have hl := tb_s_l s hs
    refine fo_of (b := 0) (c := 1) (B := fun i => a + nI (tb_s s i)) h (by omega) (by omega) (fun i hi => ?_) (tr_dist h1 h2 hl hl (tb_s_d s hs (by omega))) ?_
    · show a + nI (s * i) = wl_f a (nI s) (16 * 0 + i) 1
      unfold wl_f
      rw [if_pos (by omega), if_neg (by decide), if_pos rfl, pk_mul, show 16 * 0 + i = i by omega]
    · rw [pu_pick_congr 5 (fun f _ _ => tr_sz h1 h2 hl hl (by omega) f)]
      exact tb_s_p s hs (by omega)
theorem fm_02 {u : St2} {n : Nat} {a : Int32} {s : Nat} {k : Nat} {P : Nat → Option Int32} {dd q : Nat} (h : iv_ok u n (wl_f a (nI s)) k P dd q) (hn : 16 ≤ n) (h1 : -1000 ≤ a.toInt) (h2 : a.toInt ≤ 1000) : u.2.2.2.2.2.2.2.1 (3 * 0 + 2) = nI 2 ∧ u.2.2.2.2.2.2.2.2.2.2.2.2.2.2.1 (3 * 0 + 2) = nI 74 := by
  have hl : ∀ i, i < 16 → tb_r i ≤ 3000 := by decide +kernel
  have hl2 : ∀ i, i < 2 → tb_r2 i ≤ 3000 := by decide +kernel
  refine fo_of (b := 0) (c := 2) (B := fun i => a + nI (tb_r i)) h (by omega) (by omega) (fun i hi => ?_) (tr_dist h1 h2 hl hl2 tb_r_d) ?_
  · show a + nI (tb_r i) = wl_f a (nI s) (16 * 0 + i) 2
    unfold wl_f
    rw [if_pos (by omega), if_neg (by decide), if_neg (by decide), show 16 * 0 + i = i by omega]
    unfold tb_r
    by_cases c : i < 5
    · rw [if_pos c, if_pos c, nI_0, Int32.add_zero]
    · rw [if_neg c, if_neg c]
      rfl
  · rw [pu_pick_congr 5 (fun f _ _ => tr_sz h1 h2 hl hl2 (by omega) f)]
    exact tb_r_p
theorem fm_10 {u : St2} {n : Nat} {a : Int32} {s : Nat} {k : Nat} {P : Nat → Option Int32} {dd q : Nat} (h : iv_ok u n (wl_f a (nI s)) k P dd q) (hn : 32 ≤ n) : u.2.2.2.2.2.2.2.1 (3 * 1 + 0) = nI 3 ∧ u.2.2.2.2.2.2.2.2.2.2.2.2.2.2.1 (3 * 1 + 0) = nI 160 := by
  refine fo_of (b := 1) (c := 0) (B := tb_l) h (by omega) (by omega) (fun i hi => ?_) tb_l_d tb_l_p
  unfold wl_f tb_l
  rw [if_neg (by omega), if_pos (by omega), if_pos rfl, show 16 * 1 + i - 16 = i by omega]
theorem fm_11 {u : St2} {n : Nat} {a : Int32} {s : Nat} {k : Nat} {P : Nat → Option Int32} {dd q : Nat} (h : iv_ok u n (wl_f a (nI s)) k P dd q) (hn : 32 ≤ n) (h1 : -1000 ≤ a.toInt) (h2 : a.toInt ≤ 1000) : u.2.2.2.2.2.2.2.1 (3 * 1 + 1) = nI 4 ∧ u.2.2.2.2.2.2.2.2.2.2.2.2.2.2.1 (3 * 1 + 1) = nI 102 := by
  have hl : ∀ i, i < 16 → tb_f i ≤ 3000 := by decide +kernel
  have hl2 : ∀ i, i < 16 → tb_f2 i ≤ 3000 := by decide +kernel
  refine fo_of (b := 1) (c := 1) (B := fun i => a + nI (tb_f i)) h (by omega) (by omega) (fun i hi => ?_) (tr_dist h1 h2 hl hl2 tb_f_d) ?_
  · show a + nI (tb_f i) = wl_f a (nI s) (16 * 1 + i) 1
    unfold wl_f
    rw [if_neg (by omega), if_pos (by omega), if_neg (by decide), if_pos rfl, show 16 * 1 + i - 16 = i by omega, wl_b i hi, Int32.add_comm]
  · rw [pu_pick_congr 5 (fun f _ _ => tr_sz h1 h2 hl hl2 (by omega) f)]
    exact tb_f_p
theorem fm_2x {u : St2} {n : Nat} {a : Int32} {s : Nat} {k : Nat} {P : Nat → Option Int32} {dd q c : Nat} (h : iv_ok u n (wl_f a (nI s)) k P dd q) (hn : 48 ≤ n) (hc : c < 3) (hc1 : c ≠ 1) : u.2.2.2.2.2.2.2.1 (3 * 2 + c) = nI 3 ∧ u.2.2.2.2.2.2.2.2.2.2.2.2.2.2.1 (3 * 2 + c) = nI 160 := by
  refine fo_of (b := 2) (c := c) (B := wl_x) h (by omega) hc (fun i hi => ?_) tb_x_d tb_x_p
  unfold wl_f
  rw [if_neg (by omega), if_neg (by omega), if_neg hc1, show 16 * 2 + i - 32 = i by omega]
theorem fm_21 {u : St2} {n : Nat} {a : Int32} {s : Nat} {k : Nat} {P : Nat → Option Int32} {dd q : Nat} (h : iv_ok u n (wl_f a (nI s)) k P dd q) (hn : 48 ≤ n) : u.2.2.2.2.2.2.2.1 (3 * 2 + 1) = nI 0 ∧ u.2.2.2.2.2.2.2.2.2.2.2.2.2.2.1 (3 * 2 + 1) = nI 512 := by
  refine fo_of (b := 2) (c := 1) (B := wl_y) h (by omega) (by omega) (fun i hi => ?_) tb_y_d tb_y_p
  unfold wl_f
  rw [if_neg (by omega), if_neg (by omega), if_pos rfl, show 16 * 2 + i - 32 = i by omega]
theorem lf_340 {post : Int32 → St2 → Prop} {u : St2} {a : Int32} {s : Nat} (h : iv_ok u 32 (wl_f a (nI s)) 0 (fun _ => none) 0 0) (hp : ∀ u', iv_ok u' 48 (wl_f a (nI s)) 0 (fun _ => none) 0 0 → post 1 u') : ∃ fu, wL_forms_340 post fu 1 0 u.1 u.2.1 u.2.2.1 u.2.2.2.1 u.2.2.2.2.1 u.2.2.2.2.2.1 u.2.2.2.2.2.2.1 u.2.2.2.2.2.2.2.1 u.2.2.2.2.2.2.2.2.1 u.2.2.2.2.2.2.2.2.2.1 u.2.2.2.2.2.2.2.2.2.2.1 u.2.2.2.2.2.2.2.2.2.2.2.1 u.2.2.2.2.2.2.2.2.2.2.2.2.1 u.2.2.2.2.2.2.2.2.2.2.2.2.2.1 u.2.2.2.2.2.2.2.2.2.2.2.2.2.2.1 u.2.2.2.2.2.2.2.2.2.2.2.2.2.2.2.1 u.2.2.2.2.2.2.2.2.2.2.2.2.2.2.2.2.1 u.2.2.2.2.2.2.2.2.2.2.2.2.2.2.2.2.2.1 u.2.2.2.2.2.2.2.2.2.2.2.2.2.2.2.2.2.2.1 u.2.2.2.2.2.2.2.2.2.2.2.2.2.2.2.2.2.2.2.1 u.2.2.2.2.2.2.2.2.2.2.2.2.2.2.2.2.2.2.2.2.1 u.2.2.2.2.2.2.2.2.2.2.2.2.2.2.2.2.2.2.2.2.2.1 u.2.2.2.2.2.2.2.2.2.2.2.2.2.2.2.2.2.2.2.2.2.2.1 u.2.2.2.2.2.2.2.2.2.2.2.2.2.2.2.2.2.2.2.2.2.2.2.1 u.2.2.2.2.2.2.2.2.2.2.2.2.2.2.2.2.2.2.2.2.2.2.2.2.1 u.2.2.2.2.2.2.2.2.2.2.2.2.2.2.2.2.2.2.2.2.2.2.2.2.2.1 u.2.2.2.2.2.2.2.2.2.2.2.2.2.2.2.2.2.2.2.2.2.2.2.2.2.2.1 u.2.2.2.2.2.2.2.2.2.2.2.2.2.2.2.2.2.2.2.2.2.2.2.2.2.2.2 := by
  refine pk_loop (σ := St2) (fun m i u => wL_forms_340 post m 1 (nI i) u.1 u.2.1 u.2.2.1 u.2.2.2.1 u.2.2.2.2.1 u.2.2.2.2.2.1 u.2.2.2.2.2.2.1 u.2.2.2.2.2.2.2.1 u.2.2.2.2.2.2.2.2.1 u.2.2.2.2.2.2.2.2.2.1 u.2.2.2.2.2.2.2.2.2.2.1 u.2.2.2.2.2.2.2.2.2.2.2.1 u.2.2.2.2.2.2.2.2.2.2.2.2.1 u.2.2.2.2.2.2.2.2.2.2.2.2.2.1 u.2.2.2.2.2.2.2.2.2.2.2.2.2.2.1 u.2.2.2.2.2.2.2.2.2.2.2.2.2.2.2.1 u.2.2.2.2.2.2.2.2.2.2.2.2.2.2.2.2.1 u.2.2.2.2.2.2.2.2.2.2.2.2.2.2.2.2.2.1 u.2.2.2.2.2.2.2.2.2.2.2.2.2.2.2.2.2.2.1 u.2.2.2.2.2.2.2.2.2.2.2.2.2.2.2.2.2.2.2.1 u.2.2.2.2.2.2.2.2.2.2.2.2.2.2.2.2.2.2.2.2.1 u.2.2.2.2.2.2.2.2.2.2.2.2.2.2.2.2.2.2.2.2.2.1 u.2.2.2.2.2.2.2.2.2.2.2.2.2.2.2.2.2.2.2.2.2.2.1 u.2.2.2.2.2.2.2.2.2.2.2.2.2.2.2.2.2.2.2.2.2.2.2.1 u.2.2.2.2.2.2.2.2.2.2.2.2.2.2.2.2.2.2.2.2.2.2.2.2.1 u.2.2.2.2.2.2.2.2.2.2.2.2.2.2.2.2.2.2.2.2.2.2.2.2.2.1 u.2.2.2.2.2.2.2.2.2.2.2.2.2.2.2.2.2.2.2.2.2.2.2.2.2.2.1 u.2.2.2.2.2.2.2.2.2.2.2.2.2.2.2.2.2.2.2.2.2.2.2.2.2.2.2) (fun i u => iv_ok u (32 + i) (wl_f a (nI s)) 0 (fun _ => none) 0 0) 16 0 u (Nat.zero_le _) h ?_ ?_
  · intro m u hu
    refine pk_le 16 16 (fun _ => br_f (by decide) ?_) (fun z => absurd z (by omega))
    refine la_form 2 0 hu (by omega) (by omega) (fm_2x hu (by omega) (by omega) (by omega)).1 (br_t rfl ?_)
    refine la_form 2 1 hu (by omega) (by omega) (fm_21 hu (by omega)).1 (br_t rfl ?_)
    refine la_form 2 2 hu (by omega) (by omega) (fm_2x hu (by omega) (by omega) (by omega)).1 (br_t rfl ?_)
    exact la_blocks hu (br_t rfl (hp u hu))
  · intro m i u hi hu hr
    have key : ∀ x y : Int32, x = wl_x i → y = wl_y i → wL_forms_407 post (wL_forms_340 post m) 1 (nI i) x y u.1 u.2.1 u.2.2.1 u.2.2.2.1 u.2.2.2.2.1 u.2.2.2.2.2.1 u.2.2.2.2.2.2.1 u.2.2.2.2.2.2.2.1 u.2.2.2.2.2.2.2.2.1 u.2.2.2.2.2.2.2.2.2.1 u.2.2.2.2.2.2.2.2.2.2.1 u.2.2.2.2.2.2.2.2.2.2.2.1 u.2.2.2.2.2.2.2.2.2.2.2.2.1 u.2.2.2.2.2.2.2.2.2.2.2.2.2.1 u.2.2.2.2.2.2.2.2.2.2.2.2.2.2.1 u.2.2.2.2.2.2.2.2.2.2.2.2.2.2.2.1 u.2.2.2.2.2.2.2.2.2.2.2.2.2.2.2.2.1 u.2.2.2.2.2.2.2.2.2.2.2.2.2.2.2.2.2.1 u.2.2.2.2.2.2.2.2.2.2.2.2.2.2.2.2.2.2.1 u.2.2.2.2.2.2.2.2.2.2.2.2.2.2.2.2.2.2.2.1 u.2.2.2.2.2.2.2.2.2.2.2.2.2.2.2.2.2.2.2.2.1 u.2.2.2.2.2.2.2.2.2.2.2.2.2.2.2.2.2.2.2.2.2.1 u.2.2.2.2.2.2.2.2.2.2.2.2.2.2.2.2.2.2.2.2.2.2.1 u.2.2.2.2.2.2.2.2.2.2.2.2.2.2.2.2.2.2.2.2.2.2.2.1 u.2.2.2.2.2.2.2.2.2.2.2.2.2.2.2.2.2.2.2.2.2.2.2.2.1 u.2.2.2.2.2.2.2.2.2.2.2.2.2.2.2.2.2.2.2.2.2.2.2.2.2.1 u.2.2.2.2.2.2.2.2.2.2.2.2.2.2.2.2.2.2.2.2.2.2.2.2.2.2.1 u.2.2.2.2.2.2.2.2.2.2.2.2.2.2.2.2.2.2.2.2.2.2.2.2.2.2.2 := by
      intro x y hx hy
      refine br_f (by decide) (la_append hu (by omega) ?_ ?_ ?_ (fun u' hu' => br_t (nI_add 32 i).symm (nm_r (nI_1 i) (hr u' hu'))))
      · unfold wl_f
        rw [if_neg (by omega), if_neg (by omega), if_neg (by decide), show 32 + i - 32 = i by omega, hx]
      · unfold wl_f
        rw [if_neg (by omega), if_neg (by omega), if_pos rfl, show 32 + i - 32 = i by omega, hy]
      · unfold wl_f
        rw [if_neg (by omega), if_neg (by omega), if_neg (by decide), show 32 + i - 32 = i by omega, hx]
    have key2 : ∀ x : Int32, x = wl_x i → wL_forms_372 post (wL_forms_340 post m) 1 (nI i) x u.1 u.2.1 u.2.2.1 u.2.2.2.1 u.2.2.2.2.1 u.2.2.2.2.2.1 u.2.2.2.2.2.2.1 u.2.2.2.2.2.2.2.1 u.2.2.2.2.2.2.2.2.1 u.2.2.2.2.2.2.2.2.2.1 u.2.2.2.2.2.2.2.2.2.2.1 u.2.2.2.2.2.2.2.2.2.2.2.1 u.2.2.2.2.2.2.2.2.2.2.2.2.1 u.2.2.2.2.2.2.2.2.2.2.2.2.2.1 u.2.2.2.2.2.2.2.2.2.2.2.2.2.2.1 u.2.2.2.2.2.2.2.2.2.2.2.2.2.2.2.1 u.2.2.2.2.2.2.2.2.2.2.2.2.2.2.2.2.1 u.2.2.2.2.2.2.2.2.2.2.2.2.2.2.2.2.2.1 u.2.2.2.2.2.2.2.2.2.2.2.2.2.2.2.2.2.2.1 u.2.2.2.2.2.2.2.2.2.2.2.2.2.2.2.2.2.2.2.1 u.2.2.2.2.2.2.2.2.2.2.2.2.2.2.2.2.2.2.2.2.1 u.2.2.2.2.2.2.2.2.2.2.2.2.2.2.2.2.2.2.2.2.2.1 u.2.2.2.2.2.2.2.2.2.2.2.2.2.2.2.2.2.2.2.2.2.2.1 u.2.2.2.2.2.2.2.2.2.2.2.2.2.2.2.2.2.2.2.2.2.2.2.1 u.2.2.2.2.2.2.2.2.2.2.2.2.2.2.2.2.2.2.2.2.2.2.2.2.1 u.2.2.2.2.2.2.2.2.2.2.2.2.2.2.2.2.2.2.2.2.2.2.2.2.2.1 u.2.2.2.2.2.2.2.2.2.2.2.2.2.2.2.2.2.2.2.2.2.2.2.2.2.2.1 u.2.2.2.2.2.2.2.2.2.2.2.2.2.2.2.2.2.2.2.2.2.2.2.2.2.2.2 := by
      intro x hx
      by_cases c : nI i &&& 1 = 0
      · exact br_t c (key x _ hx (by unfold wl_y; rw [if_pos c]))
      · exact br_f c (key x _ hx (by unfold wl_y; rw [if_neg c]))
    refine pk_le 16 i (fun z => absurd z (by omega)) (fun _ => ?_)
    by_cases c : (nI i * 11) &&& 3 = 0
    · exact br_t c (key2 _ (by unfold wl_x; rw [if_pos c]))
    · exact br_f c (key2 _ (by unfold wl_x; rw [if_neg c]))
theorem lf_192 {post : Int32 → St2 → Prop} {u : St2} {a fl : Int32} {s : Nat} (h1 : -1000 ≤ a.toInt) (h2 : a.toInt ≤ 1000) (hs : s < 8) (hfl : fl = if s = 0 then 1 else 0) (h : iv_ok u 16 (wl_f a (nI s)) 0 (fun _ => none) 0 0) (hp : ∀ u', iv_ok u' 48 (wl_f a (nI s)) 0 (fun _ => none) 0 0 → post 1 u') : ∃ fu, wL_forms_192 post a fl fu 1 0 u.1 u.2.1 u.2.2.1 u.2.2.2.1 u.2.2.2.2.1 u.2.2.2.2.2.1 u.2.2.2.2.2.2.1 u.2.2.2.2.2.2.2.1 u.2.2.2.2.2.2.2.2.1 u.2.2.2.2.2.2.2.2.2.1 u.2.2.2.2.2.2.2.2.2.2.1 u.2.2.2.2.2.2.2.2.2.2.2.1 u.2.2.2.2.2.2.2.2.2.2.2.2.1 u.2.2.2.2.2.2.2.2.2.2.2.2.2.1 u.2.2.2.2.2.2.2.2.2.2.2.2.2.2.1 u.2.2.2.2.2.2.2.2.2.2.2.2.2.2.2.1 u.2.2.2.2.2.2.2.2.2.2.2.2.2.2.2.2.1 u.2.2.2.2.2.2.2.2.2.2.2.2.2.2.2.2.2.1 u.2.2.2.2.2.2.2.2.2.2.2.2.2.2.2.2.2.2.1 u.2.2.2.2.2.2.2.2.2.2.2.2.2.2.2.2.2.2.2.1 u.2.2.2.2.2.2.2.2.2.2.2.2.2.2.2.2.2.2.2.2.1 u.2.2.2.2.2.2.2.2.2.2.2.2.2.2.2.2.2.2.2.2.2.1 u.2.2.2.2.2.2.2.2.2.2.2.2.2.2.2.2.2.2.2.2.2.2.1 u.2.2.2.2.2.2.2.2.2.2.2.2.2.2.2.2.2.2.2.2.2.2.2.1 u.2.2.2.2.2.2.2.2.2.2.2.2.2.2.2.2.2.2.2.2.2.2.2.2.1 u.2.2.2.2.2.2.2.2.2.2.2.2.2.2.2.2.2.2.2.2.2.2.2.2.2.1 u.2.2.2.2.2.2.2.2.2.2.2.2.2.2.2.2.2.2.2.2.2.2.2.2.2.2.1 u.2.2.2.2.2.2.2.2.2.2.2.2.2.2.2.2.2.2.2.2.2.2.2.2.2.2.2 := by
  refine pk_loop (σ := St2) (fun m i u => wL_forms_192 post a fl m 1 (nI i) u.1 u.2.1 u.2.2.1 u.2.2.2.1 u.2.2.2.2.1 u.2.2.2.2.2.1 u.2.2.2.2.2.2.1 u.2.2.2.2.2.2.2.1 u.2.2.2.2.2.2.2.2.1 u.2.2.2.2.2.2.2.2.2.1 u.2.2.2.2.2.2.2.2.2.2.1 u.2.2.2.2.2.2.2.2.2.2.2.1 u.2.2.2.2.2.2.2.2.2.2.2.2.1 u.2.2.2.2.2.2.2.2.2.2.2.2.2.1 u.2.2.2.2.2.2.2.2.2.2.2.2.2.2.1 u.2.2.2.2.2.2.2.2.2.2.2.2.2.2.2.1 u.2.2.2.2.2.2.2.2.2.2.2.2.2.2.2.2.1 u.2.2.2.2.2.2.2.2.2.2.2.2.2.2.2.2.2.1 u.2.2.2.2.2.2.2.2.2.2.2.2.2.2.2.2.2.2.1 u.2.2.2.2.2.2.2.2.2.2.2.2.2.2.2.2.2.2.2.1 u.2.2.2.2.2.2.2.2.2.2.2.2.2.2.2.2.2.2.2.2.1 u.2.2.2.2.2.2.2.2.2.2.2.2.2.2.2.2.2.2.2.2.2.1 u.2.2.2.2.2.2.2.2.2.2.2.2.2.2.2.2.2.2.2.2.2.2.1 u.2.2.2.2.2.2.2.2.2.2.2.2.2.2.2.2.2.2.2.2.2.2.2.1 u.2.2.2.2.2.2.2.2.2.2.2.2.2.2.2.2.2.2.2.2.2.2.2.2.1 u.2.2.2.2.2.2.2.2.2.2.2.2.2.2.2.2.2.2.2.2.2.2.2.2.2.1 u.2.2.2.2.2.2.2.2.2.2.2.2.2.2.2.2.2.2.2.2.2.2.2.2.2.2.1 u.2.2.2.2.2.2.2.2.2.2.2.2.2.2.2.2.2.2.2.2.2.2.2.2.2.2.2) (fun i u => iv_ok u (16 + i) (wl_f a (nI s)) 0 (fun _ => none) 0 0) 16 0 u (Nat.zero_le _) h ?_ ?_
  · intro m u hu
    refine pk_le 16 16 (fun _ => br_f (by decide) ?_) (fun z => absurd z (by omega))
    refine la_form 1 0 hu (by omega) (by omega) (fm_10 hu (by omega)).1 (br_t rfl ?_)
    refine la_form 1 1 hu (by omega) (by omega) (fm_11 hu (by omega) h1 h2).1 (br_t rfl ?_)
    refine la_digits 1 (fun b => if b = 0 then (if s = 0 then 32 else 70) else 102) hu (by omega) ?_ ?_
    · intro b hb
      have hb' : b = 0 ∨ b = 1 := by omega
      rcases hb' with e | e
      · subst e
        exact (fm_01 hu (by omega) h1 h2 hs).2
      · subst e
        exact (fm_11 hu (by omega) h1 h2).2
    · have fin : wpX_blocks (fun r => (r = 2 → (∃ fu, wL_forms_340 post fu 1 0 u.1 u.2.1 u.2.2.1 u.2.2.2.1 u.2.2.2.2.1 u.2.2.2.2.2.1 u.2.2.2.2.2.2.1 u.2.2.2.2.2.2.2.1 u.2.2.2.2.2.2.2.2.1 u.2.2.2.2.2.2.2.2.2.1 u.2.2.2.2.2.2.2.2.2.2.1 u.2.2.2.2.2.2.2.2.2.2.2.1 u.2.2.2.2.2.2.2.2.2.2.2.2.1 u.2.2.2.2.2.2.2.2.2.2.2.2.2.1 u.2.2.2.2.2.2.2.2.2.2.2.2.2.2.1 u.2.2.2.2.2.2.2.2.2.2.2.2.2.2.2.1 u.2.2.2.2.2.2.2.2.2.2.2.2.2.2.2.2.1 u.2.2.2.2.2.2.2.2.2.2.2.2.2.2.2.2.2.1 u.2.2.2.2.2.2.2.2.2.2.2.2.2.2.2.2.2.2.1 u.2.2.2.2.2.2.2.2.2.2.2.2.2.2.2.2.2.2.2.1 u.2.2.2.2.2.2.2.2.2.2.2.2.2.2.2.2.2.2.2.2.1 u.2.2.2.2.2.2.2.2.2.2.2.2.2.2.2.2.2.2.2.2.2.1 u.2.2.2.2.2.2.2.2.2.2.2.2.2.2.2.2.2.2.2.2.2.2.1 u.2.2.2.2.2.2.2.2.2.2.2.2.2.2.2.2.2.2.2.2.2.2.2.1 u.2.2.2.2.2.2.2.2.2.2.2.2.2.2.2.2.2.2.2.2.2.2.2.2.1 u.2.2.2.2.2.2.2.2.2.2.2.2.2.2.2.2.2.2.2.2.2.2.2.2.2.1 u.2.2.2.2.2.2.2.2.2.2.2.2.2.2.2.2.2.2.2.2.2.2.2.2.2.2.1 u.2.2.2.2.2.2.2.2.2.2.2.2.2.2.2.2.2.2.2.2.2.2.2.2.2.2.2)) ∧ (¬ r = 2 → (∃ fu, wL_forms_340 post fu 0 0 u.1 u.2.1 u.2.2.1 u.2.2.2.1 u.2.2.2.2.1 u.2.2.2.2.2.1 u.2.2.2.2.2.2.1 u.2.2.2.2.2.2.2.1 u.2.2.2.2.2.2.2.2.1 u.2.2.2.2.2.2.2.2.2.1 u.2.2.2.2.2.2.2.2.2.2.1 u.2.2.2.2.2.2.2.2.2.2.2.1 u.2.2.2.2.2.2.2.2.2.2.2.2.1 u.2.2.2.2.2.2.2.2.2.2.2.2.2.1 u.2.2.2.2.2.2.2.2.2.2.2.2.2.2.1 u.2.2.2.2.2.2.2.2.2.2.2.2.2.2.2.1 u.2.2.2.2.2.2.2.2.2.2.2.2.2.2.2.2.1 u.2.2.2.2.2.2.2.2.2.2.2.2.2.2.2.2.2.1 u.2.2.2.2.2.2.2.2.2.2.2.2.2.2.2.2.2.2.1 u.2.2.2.2.2.2.2.2.2.2.2.2.2.2.2.2.2.2.2.1 u.2.2.2.2.2.2.2.2.2.2.2.2.2.2.2.2.2.2.2.2.1 u.2.2.2.2.2.2.2.2.2.2.2.2.2.2.2.2.2.2.2.2.2.1 u.2.2.2.2.2.2.2.2.2.2.2.2.2.2.2.2.2.2.2.2.2.2.1 u.2.2.2.2.2.2.2.2.2.2.2.2.2.2.2.2.2.2.2.2.2.2.2.1 u.2.2.2.2.2.2.2.2.2.2.2.2.2.2.2.2.2.2.2.2.2.2.2.2.1 u.2.2.2.2.2.2.2.2.2.2.2.2.2.2.2.2.2.2.2.2.2.2.2.2.2.1 u.2.2.2.2.2.2.2.2.2.2.2.2.2.2.2.2.2.2.2.2.2.2.2.2.2.2.1 u.2.2.2.2.2.2.2.2.2.2.2.2.2.2.2.2.2.2.2.2.2.2.2.2.2.2.2))) u := la_blocks hu (br_t rfl (lf_340 hu hp))
      by_cases c : s = 0
      · subst c
        subst hfl
        exact br_f (by decide) (br_t rfl fin)
      · rw [if_neg c] at hfl
        subst hfl
        refine br_t rfl (br_t ?_ fin)
        rw [if_neg c]
        rfl
  · intro m i u hi hu hr
    refine pk_le 16 i (fun z => absurd z (by omega)) (fun _ => nm_e (br_f (by decide) (la_append hu (by omega) ?_ ?_ ?_ (fun u' hu' => br_t (nI_add 16 i).symm (nm_r (nI_1 i) (hr u' hu'))))))
    · unfold wl_f
      rw [if_neg (by omega), if_pos (by omega), if_pos rfl, show 16 + i - 16 = i by omega]
    · unfold wl_f
      rw [if_neg (by omega), if_pos (by omega), if_neg (by decide), if_pos rfl, show 16 + i - 16 = i by omega]
    · unfold wl_f wl_z
      rw [if_neg (by omega), if_pos (by omega), if_neg (by decide), if_neg (by decide), show 16 + i - 16 = i by omega]
theorem lf_87 {post : Int32 → St2 → Prop} {u : St2} {a fl : Int32} {s : Nat} (h1 : -1000 ≤ a.toInt) (h2 : a.toInt ≤ 1000) (hs : s < 8) (hfl : fl = if s = 0 then 1 else 0) (h : iv_ok u 16 (wl_f a (nI s)) 0 (fun _ => none) 0 0) (hp : ∀ u', iv_ok u' 48 (wl_f a (nI s)) 0 (fun _ => none) 0 0 → post 1 u') : wL_forms_87 post a 1 fl u.1 u.2.1 u.2.2.1 u.2.2.2.1 u.2.2.2.2.1 u.2.2.2.2.2.1 u.2.2.2.2.2.2.1 u.2.2.2.2.2.2.2.1 u.2.2.2.2.2.2.2.2.1 u.2.2.2.2.2.2.2.2.2.1 u.2.2.2.2.2.2.2.2.2.2.1 u.2.2.2.2.2.2.2.2.2.2.2.1 u.2.2.2.2.2.2.2.2.2.2.2.2.1 u.2.2.2.2.2.2.2.2.2.2.2.2.2.1 u.2.2.2.2.2.2.2.2.2.2.2.2.2.2.1 u.2.2.2.2.2.2.2.2.2.2.2.2.2.2.2.1 u.2.2.2.2.2.2.2.2.2.2.2.2.2.2.2.2.1 u.2.2.2.2.2.2.2.2.2.2.2.2.2.2.2.2.2.1 u.2.2.2.2.2.2.2.2.2.2.2.2.2.2.2.2.2.2.1 u.2.2.2.2.2.2.2.2.2.2.2.2.2.2.2.2.2.2.2.1 u.2.2.2.2.2.2.2.2.2.2.2.2.2.2.2.2.2.2.2.2.1 u.2.2.2.2.2.2.2.2.2.2.2.2.2.2.2.2.2.2.2.2.2.1 u.2.2.2.2.2.2.2.2.2.2.2.2.2.2.2.2.2.2.2.2.2.2.1 u.2.2.2.2.2.2.2.2.2.2.2.2.2.2.2.2.2.2.2.2.2.2.2.1 u.2.2.2.2.2.2.2.2.2.2.2.2.2.2.2.2.2.2.2.2.2.2.2.2.1 u.2.2.2.2.2.2.2.2.2.2.2.2.2.2.2.2.2.2.2.2.2.2.2.2.2.1 u.2.2.2.2.2.2.2.2.2.2.2.2.2.2.2.2.2.2.2.2.2.2.2.2.2.2.1 u.2.2.2.2.2.2.2.2.2.2.2.2.2.2.2.2.2.2.2.2.2.2.2.2.2.2.2 := by
  have f0 := fm_00 h (by omega)
  have f1 := fm_01 h (by omega) h1 h2 hs
  have f2 := fm_02 h (by omega) h1 h2
  have dgt : ∀ (c z : Nat) (p : Int32 → Prop), c < 3 → u.2.2.2.2.2.2.2.2.2.2.2.2.2.2.1 (3 * 0 + c) = nI z → p (nI z) → wpX_digits p u (nI c) := by
    intro c z p hc hz hp
    refine la_digits c (fun _ => z) h hc (fun b hb => ?_) ?_
    · rw [show b = 0 by omega]
      exact hz
    · show p (nI (32 * (16 % 16) + ts_f (fun _ => z) (16 / 16)))
      have e : 32 * (16 % 16) + ts_f (fun _ => z) (16 / 16) = z := by
        show 32 * 0 + (0 + z) = z
        omega
      rw [e]
      exact hp
  have t149 : ∀ z : Int32, wL_forms_149 post a fl z z u.1 u.2.1 u.2.2.1 u.2.2.2.1 u.2.2.2.2.1 u.2.2.2.2.2.1 u.2.2.2.2.2.2.1 u.2.2.2.2.2.2.2.1 u.2.2.2.2.2.2.2.2.1 u.2.2.2.2.2.2.2.2.2.1 u.2.2.2.2.2.2.2.2.2.2.1 u.2.2.2.2.2.2.2.2.2.2.2.1 u.2.2.2.2.2.2.2.2.2.2.2.2.1 u.2.2.2.2.2.2.2.2.2.2.2.2.2.1 u.2.2.2.2.2.2.2.2.2.2.2.2.2.2.1 u.2.2.2.2.2.2.2.2.2.2.2.2.2.2.2.1 u.2.2.2.2.2.2.2.2.2.2.2.2.2.2.2.2.1 u.2.2.2.2.2.2.2.2.2.2.2.2.2.2.2.2.2.1 u.2.2.2.2.2.2.2.2.2.2.2.2.2.2.2.2.2.2.1 u.2.2.2.2.2.2.2.2.2.2.2.2.2.2.2.2.2.2.2.1 u.2.2.2.2.2.2.2.2.2.2.2.2.2.2.2.2.2.2.2.2.1 u.2.2.2.2.2.2.2.2.2.2.2.2.2.2.2.2.2.2.2.2.2.1 u.2.2.2.2.2.2.2.2.2.2.2.2.2.2.2.2.2.2.2.2.2.2.1 u.2.2.2.2.2.2.2.2.2.2.2.2.2.2.2.2.2.2.2.2.2.2.2.1 u.2.2.2.2.2.2.2.2.2.2.2.2.2.2.2.2.2.2.2.2.2.2.2.2.1 u.2.2.2.2.2.2.2.2.2.2.2.2.2.2.2.2.2.2.2.2.2.2.2.2.2.1 u.2.2.2.2.2.2.2.2.2.2.2.2.2.2.2.2.2.2.2.2.2.2.2.2.2.2.1 u.2.2.2.2.2.2.2.2.2.2.2.2.2.2.2.2.2.2.2.2.2.2.2.2.2.2.2 := by
    intro z
    refine br_t rfl (la_form 0 2 h (by omega) (by omega) f2.1 (br_t rfl (dgt 2 74 _ (by omega) f2.2 (br_t rfl (la_formN 1 0 h (by omega) (by omega) (by omega) (br_t rfl ?_))))))
    exact lf_192 h1 h2 hs hfl h hp
  refine br_f (by decide) (la_form 0 0 h (by omega) (by omega) f0.1 (br_t rfl (dgt 0 32 _ (by omega) f0.2 (br_t rfl (la_form 0 1 h (by omega) (by omega) f1.1 ?_)))))
  by_cases c : s = 0
  · subst c
    subst hfl
    exact br_f (by decide) (br_t rfl (dgt 1 32 _ (by omega) f1.2 (br_f (by decide) (t149 _))))
  · rw [if_neg c] at hfl
    rw [if_neg c, if_neg c] at f1
    rw [if_neg c]
    subst hfl
    exact br_t rfl (br_t rfl (dgt 1 70 _ (by omega) f1.2 (br_t rfl (t149 _))))
theorem lf_forms {post : Int32 → St2 → Prop} {u : St2} {a : Int32} {s : Nat} (h1 : -1000 ≤ a.toInt) (h2 : a.toInt ≤ 1000) (hs : s < 8) (h : iv_ok u 0 (wl_f a (nI s)) 0 (fun _ => none) 0 0) (hp : ∀ u', iv_ok u' 48 (wl_f a (nI s)) 0 (fun _ => none) 0 0 → post 1 u') : wpL_forms post u a (nI s) := by
  have L : ∃ fu, wL_forms_5 post a (nI s) fu 1 (nI 0) u.1 u.2.1 u.2.2.1 u.2.2.2.1 u.2.2.2.2.1 u.2.2.2.2.2.1 u.2.2.2.2.2.2.1 u.2.2.2.2.2.2.2.1 u.2.2.2.2.2.2.2.2.1 u.2.2.2.2.2.2.2.2.2.1 u.2.2.2.2.2.2.2.2.2.2.1 u.2.2.2.2.2.2.2.2.2.2.2.1 u.2.2.2.2.2.2.2.2.2.2.2.2.1 u.2.2.2.2.2.2.2.2.2.2.2.2.2.1 u.2.2.2.2.2.2.2.2.2.2.2.2.2.2.1 u.2.2.2.2.2.2.2.2.2.2.2.2.2.2.2.1 u.2.2.2.2.2.2.2.2.2.2.2.2.2.2.2.2.1 u.2.2.2.2.2.2.2.2.2.2.2.2.2.2.2.2.2.1 u.2.2.2.2.2.2.2.2.2.2.2.2.2.2.2.2.2.2.1 u.2.2.2.2.2.2.2.2.2.2.2.2.2.2.2.2.2.2.2.1 u.2.2.2.2.2.2.2.2.2.2.2.2.2.2.2.2.2.2.2.2.1 u.2.2.2.2.2.2.2.2.2.2.2.2.2.2.2.2.2.2.2.2.2.1 u.2.2.2.2.2.2.2.2.2.2.2.2.2.2.2.2.2.2.2.2.2.2.1 u.2.2.2.2.2.2.2.2.2.2.2.2.2.2.2.2.2.2.2.2.2.2.2.1 u.2.2.2.2.2.2.2.2.2.2.2.2.2.2.2.2.2.2.2.2.2.2.2.2.1 u.2.2.2.2.2.2.2.2.2.2.2.2.2.2.2.2.2.2.2.2.2.2.2.2.2.1 u.2.2.2.2.2.2.2.2.2.2.2.2.2.2.2.2.2.2.2.2.2.2.2.2.2.2.1 u.2.2.2.2.2.2.2.2.2.2.2.2.2.2.2.2.2.2.2.2.2.2.2.2.2.2.2 := by
    refine pk_loop (σ := St2) (fun m i u => wL_forms_5 post a (nI s) m 1 (nI i) u.1 u.2.1 u.2.2.1 u.2.2.2.1 u.2.2.2.2.1 u.2.2.2.2.2.1 u.2.2.2.2.2.2.1 u.2.2.2.2.2.2.2.1 u.2.2.2.2.2.2.2.2.1 u.2.2.2.2.2.2.2.2.2.1 u.2.2.2.2.2.2.2.2.2.2.1 u.2.2.2.2.2.2.2.2.2.2.2.1 u.2.2.2.2.2.2.2.2.2.2.2.2.1 u.2.2.2.2.2.2.2.2.2.2.2.2.2.1 u.2.2.2.2.2.2.2.2.2.2.2.2.2.2.1 u.2.2.2.2.2.2.2.2.2.2.2.2.2.2.2.1 u.2.2.2.2.2.2.2.2.2.2.2.2.2.2.2.2.1 u.2.2.2.2.2.2.2.2.2.2.2.2.2.2.2.2.2.1 u.2.2.2.2.2.2.2.2.2.2.2.2.2.2.2.2.2.2.1 u.2.2.2.2.2.2.2.2.2.2.2.2.2.2.2.2.2.2.2.1 u.2.2.2.2.2.2.2.2.2.2.2.2.2.2.2.2.2.2.2.2.1 u.2.2.2.2.2.2.2.2.2.2.2.2.2.2.2.2.2.2.2.2.2.1 u.2.2.2.2.2.2.2.2.2.2.2.2.2.2.2.2.2.2.2.2.2.2.1 u.2.2.2.2.2.2.2.2.2.2.2.2.2.2.2.2.2.2.2.2.2.2.2.1 u.2.2.2.2.2.2.2.2.2.2.2.2.2.2.2.2.2.2.2.2.2.2.2.2.1 u.2.2.2.2.2.2.2.2.2.2.2.2.2.2.2.2.2.2.2.2.2.2.2.2.2.1 u.2.2.2.2.2.2.2.2.2.2.2.2.2.2.2.2.2.2.2.2.2.2.2.2.2.2.1 u.2.2.2.2.2.2.2.2.2.2.2.2.2.2.2.2.2.2.2.2.2.2.2.2.2.2.2) (fun i u => iv_ok u i (wl_f a (nI s)) 0 (fun _ => none) 0 0) 16 0 u (Nat.zero_le _) h ?_ ?_
    · intro m u hu
      refine pk_le 16 16 (fun _ => pk_eq s 0 (fun c => ?_) (fun c => ?_)) (fun z => absurd z (by omega))
      · exact lf_87 h1 h2 hs (by rw [if_pos c]) hu hp
      · exact lf_87 h1 h2 hs (by rw [if_neg c]) hu hp
    · intro m i u hi hu hr
      have key : ∀ z : Int32, z = wl_f a (nI s) i 2 → wL_forms_39 post (wL_forms_5 post a (nI s) m) a (nI s) (nI i) z (a + nI s * nI i) a u.1 u.2.1 u.2.2.1 u.2.2.2.1 u.2.2.2.2.1 u.2.2.2.2.2.1 u.2.2.2.2.2.2.1 u.2.2.2.2.2.2.2.1 u.2.2.2.2.2.2.2.2.1 u.2.2.2.2.2.2.2.2.2.1 u.2.2.2.2.2.2.2.2.2.2.1 u.2.2.2.2.2.2.2.2.2.2.2.1 u.2.2.2.2.2.2.2.2.2.2.2.2.1 u.2.2.2.2.2.2.2.2.2.2.2.2.2.1 u.2.2.2.2.2.2.2.2.2.2.2.2.2.2.1 u.2.2.2.2.2.2.2.2.2.2.2.2.2.2.2.1 u.2.2.2.2.2.2.2.2.2.2.2.2.2.2.2.2.1 u.2.2.2.2.2.2.2.2.2.2.2.2.2.2.2.2.2.1 u.2.2.2.2.2.2.2.2.2.2.2.2.2.2.2.2.2.2.1 u.2.2.2.2.2.2.2.2.2.2.2.2.2.2.2.2.2.2.2.1 u.2.2.2.2.2.2.2.2.2.2.2.2.2.2.2.2.2.2.2.2.1 u.2.2.2.2.2.2.2.2.2.2.2.2.2.2.2.2.2.2.2.2.2.1 u.2.2.2.2.2.2.2.2.2.2.2.2.2.2.2.2.2.2.2.2.2.2.1 u.2.2.2.2.2.2.2.2.2.2.2.2.2.2.2.2.2.2.2.2.2.2.2.1 u.2.2.2.2.2.2.2.2.2.2.2.2.2.2.2.2.2.2.2.2.2.2.2.2.1 u.2.2.2.2.2.2.2.2.2.2.2.2.2.2.2.2.2.2.2.2.2.2.2.2.2.1 u.2.2.2.2.2.2.2.2.2.2.2.2.2.2.2.2.2.2.2.2.2.2.2.2.2.2.1 u.2.2.2.2.2.2.2.2.2.2.2.2.2.2.2.2.2.2.2.2.2.2.2.2.2.2.2 := by
        intro z hz
        refine la_append hu (by omega) ?_ ?_ hz (fun u' hu' => br_t rfl (la_blocks hu' (pk_le 15 i (fun c => ?_) (fun c => ?_))))
        · unfold wl_f
          rw [if_pos hi, if_pos rfl]
        · unfold wl_f
          rw [if_pos hi, if_neg (by decide), if_pos rfl]
        · refine br_t ?_ (nm_r (nI_1 i) (hr u' hu'))
          rw [show (i + 1) / 16 = 1 by omega]
          rfl
        · refine br_t ?_ (nm_r (nI_1 i) (hr u' hu'))
          rw [show (i + 1) / 16 = 0 by omega]
          rfl
      refine pk_le 16 i (fun z => absurd z (by omega)) (fun _ => br_f (by decide) (pk_le 5 i (fun c => ?_) (fun c => ?_)))
      · refine key _ ?_
        unfold wl_f
        rw [if_pos hi, if_neg (by decide), if_neg (by decide), if_neg (by omega)]
      · refine key _ ?_
        unfold wl_f
        rw [if_pos hi, if_neg (by decide), if_neg (by decide), if_pos c]
  exact L
end
section
/-! the law: patches -/
theorem la_changeA {post : Int32 → St2 → Prop} {u : St2} {n : Nat} {W : Nat → Nat → Int32} {k : Nat} {P : Nat → Option Int32} {q : Nat} {x v : Int32} (r c : Nat) (h : iv_ok u n W k P 0 q) (hr : r < n) (hb : r / 16 < n / 16) (hc : c < 3) (hv : P (3 * r + c) = some v)
    (hp : ∀ u', iv_ok u' n W k (pt_up P (3 * r + c) x) 0 q → post v u') : wpX_change post u (nI r) (nI c) x := by
  refine la_change r c h hr hb hc (fun v' e => ?_) (fun e => ?_) (fun e => ?_) (fun e => ?_)
  · rw [hv] at e
    injection e with e
    subst e
    exact hp
  · rw [hv] at e; exact absurd e (by simp)
  · rw [hv] at e; exact absurd e (by simp)
  · rw [hv] at e; exact absurd e (by simp)
theorem la_changeB {post : Int32 → St2 → Prop} {u : St2} {n : Nat} {W : Nat → Nat → Int32} {k : Nat} {P : Nat → Option Int32} {q : Nat} {x v : Int32} (r c : Nat) (h : iv_ok u n W k P 0 q) (hr : r < n) (hb : r / 16 < n / 16) (hc : c < 3) (hv : P (3 * r + c) = none) (hw : W r c = v) (hx : v = x)
    (hp : ∀ u', iv_ok u' n W k P 0 q → post v u') : wpX_change post u (nI r) (nI c) x := by
  subst hw
  refine la_change r c h hr hb hc (fun v' e => ?_) (fun e e2 => hp) (fun e e2 => absurd hx e2) (fun e e2 => absurd hx e2)
  rw [hv] at e; exact absurd e (by simp)
theorem la_changeC {post : Int32 → St2 → Prop} {u : St2} {n : Nat} {W : Nat → Nat → Int32} {P : Nat → Option Int32} {q : Nat} {x v : Int32} (r c : Nat) (h : iv_ok u n W 20 P 0 q) (hr : r < n) (hb : r / 16 < n / 16) (hc : c < 3) (hv : P (3 * r + c) = none) (hw : W r c = v) (hx : v ≠ x)
    (hp : ∀ u', iv_ok u' n W 20 P 0 q → post (-1000000002) u') : wpX_change post u (nI r) (nI c) x := by
  subst hw
  refine la_change r c h hr hb hc (fun v' e => ?_) (fun e e2 => absurd e2 hx) (fun e e2 e3 => hp) (fun e e2 e3 => absurd e3 (by omega))
  rw [hv] at e; exact absurd e (by simp)
theorem la_changeD {post : Int32 → St2 → Prop} {u : St2} {n : Nat} {W : Nat → Nat → Int32} {k : Nat} {P : Nat → Option Int32} {q : Nat} {x v : Int32} (r c : Nat) (h : iv_ok u n W k P 0 q) (hr : r < n) (hb : r / 16 < n / 16) (hc : c < 3) (hk : k < 20) (hv : P (3 * r + c) = none) (hw : W r c = v) (hx : v ≠ x)
    (hp : ∀ u', iv_ok u' n W (k + 1) (pt_up P (3 * r + c) x) 0 q → post v u') : wpX_change post u (nI r) (nI c) x := by
  subst hw
  refine la_change r c h hr hb hc (fun v' e => ?_) (fun e e2 => absurd e2 hx) (fun e e2 e3 => absurd e3 (by omega)) (fun e e2 e3 => hp)
  rw [hv] at e; exact absurd e (by simp)
theorem pt_up_s {P : Nat → Option Int32} {p : Nat} {x : Int32} : pt_up P p x p = some x := if_pos rfl
theorem pt_up_n {P : Nat → Option Int32} {p q : Nat} {x : Int32} (h : q ≠ p) : pt_up P p x q = P q := if_neg h
theorem ne_1 (x : Int32) : x ≠ x + 1 := by
  intro h
  have e : x - x = x + 1 - x := by rw [← h]
  rw [Int32.sub_self, Int32.add_comm, Int32.add_sub_cancel] at e
  exact absurd e (by decide)
theorem ne_s {a : Int32} {m : Nat} (h1 : -1000 ≤ a.toInt) (h2 : a.toInt ≤ 1000) (hm : 1 ≤ m) (hm2 : m ≤ 3000) : a ≠ a + nI m := by
  intro h
  have e := congrArg Int32.toInt h
  rw [tr_i h1 h2 hm2] at e
  omega
theorem vv_n {W : Nat → Nat → Int32} {P : Nat → Option Int32} {n r c : Nat} (hb : r / 16 < n / 16) (hP : P (3 * r + c) = none) : vv_of W P n r c = W r c := by
  unfold vv_of
  rw [if_neg (by omega), hP]
  rfl
theorem vv_s {W : Nat → Nat → Int32} {P : Nat → Option Int32} {n r c : Nat} {v : Int32} (hb : r / 16 < n / 16) (hP : P (3 * r + c) = some v) : vv_of W P n r c = v := by
  unfold vv_of
  rw [if_neg (by omega), hP]
  rfl
theorem lh_164 {post : Int32 → St2 → Prop} {u : St2} {a : Int32} {s : Nat} {P : Nat → Option Int32} (h1 : -1000 ≤ a.toInt) (h2 : a.toInt ≤ 1000) (h : iv_ok u 48 (wl_f a (nI s)) 16 P 0 0) (hP : ∀ p, P p ≠ none → p % 3 = 0)
    (hp : ∀ u' P', iv_ok u' 48 (wl_f a (nI s)) 20 P' 0 0 → (∀ p, P' p ≠ none → p % 3 ≠ 2) → post 1 u') : ∃ fu, wL_patches_164 post fu 1 0 u.1 u.2.1 u.2.2.1 u.2.2.2.1 u.2.2.2.2.1 u.2.2.2.2.2.1 u.2.2.2.2.2.2.1 u.2.2.2.2.2.2.2.1 u.2.2.2.2.2.2.2.2.1 u.2.2.2.2.2.2.2.2.2.1 u.2.2.2.2.2.2.2.2.2.2.1 u.2.2.2.2.2.2.2.2.2.2.2.1 u.2.2.2.2.2.2.2.2.2.2.2.2.1 u.2.2.2.2.2.2.2.2.2.2.2.2.2.1 u.2.2.2.2.2.2.2.2.2.2.2.2.2.2.1 u.2.2.2.2.2.2.2.2.2.2.2.2.2.2.2.1 u.2.2.2.2.2.2.2.2.2.2.2.2.2.2.2.2.1 u.2.2.2.2.2.2.2.2.2.2.2.2.2.2.2.2.2.1 u.2.2.2.2.2.2.2.2.2.2.2.2.2.2.2.2.2.2.1 u.2.2.2.2.2.2.2.2.2.2.2.2.2.2.2.2.2.2.2.1 u.2.2.2.2.2.2.2.2.2.2.2.2.2.2.2.2.2.2.2.2.1 u.2.2.2.2.2.2.2.2.2.2.2.2.2.2.2.2.2.2.2.2.2.1 u.2.2.2.2.2.2.2.2.2.2.2.2.2.2.2.2.2.2.2.2.2.2.1 u.2.2.2.2.2.2.2.2.2.2.2.2.2.2.2.2.2.2.2.2.2.2.2.1 u.2.2.2.2.2.2.2.2.2.2.2.2.2.2.2.2.2.2.2.2.2.2.2.2.1 u.2.2.2.2.2.2.2.2.2.2.2.2.2.2.2.2.2.2.2.2.2.2.2.2.2.1 u.2.2.2.2.2.2.2.2.2.2.2.2.2.2.2.2.2.2.2.2.2.2.2.2.2.2.1 u.2.2.2.2.2.2.2.2.2.2.2.2.2.2.2.2.2.2.2.2.2.2.2.2.2.2.2 := by
  refine pk_loop (σ := St2) (fun m i u => wL_patches_164 post m 1 (nI i) u.1 u.2.1 u.2.2.1 u.2.2.2.1 u.2.2.2.2.1 u.2.2.2.2.2.1 u.2.2.2.2.2.2.1 u.2.2.2.2.2.2.2.1 u.2.2.2.2.2.2.2.2.1 u.2.2.2.2.2.2.2.2.2.1 u.2.2.2.2.2.2.2.2.2.2.1 u.2.2.2.2.2.2.2.2.2.2.2.1 u.2.2.2.2.2.2.2.2.2.2.2.2.1 u.2.2.2.2.2.2.2.2.2.2.2.2.2.1 u.2.2.2.2.2.2.2.2.2.2.2.2.2.2.1 u.2.2.2.2.2.2.2.2.2.2.2.2.2.2.2.1 u.2.2.2.2.2.2.2.2.2.2.2.2.2.2.2.2.1 u.2.2.2.2.2.2.2.2.2.2.2.2.2.2.2.2.2.1 u.2.2.2.2.2.2.2.2.2.2.2.2.2.2.2.2.2.2.1 u.2.2.2.2.2.2.2.2.2.2.2.2.2.2.2.2.2.2.2.1 u.2.2.2.2.2.2.2.2.2.2.2.2.2.2.2.2.2.2.2.2.1 u.2.2.2.2.2.2.2.2.2.2.2.2.2.2.2.2.2.2.2.2.2.1 u.2.2.2.2.2.2.2.2.2.2.2.2.2.2.2.2.2.2.2.2.2.2.1 u.2.2.2.2.2.2.2.2.2.2.2.2.2.2.2.2.2.2.2.2.2.2.2.1 u.2.2.2.2.2.2.2.2.2.2.2.2.2.2.2.2.2.2.2.2.2.2.2.2.1 u.2.2.2.2.2.2.2.2.2.2.2.2.2.2.2.2.2.2.2.2.2.2.2.2.2.1 u.2.2.2.2.2.2.2.2.2.2.2.2.2.2.2.2.2.2.2.2.2.2.2.2.2.2.1 u.2.2.2.2.2.2.2.2.2.2.2.2.2.2.2.2.2.2.2.2.2.2.2.2.2.2.2) (fun i u => ∃ P, iv_ok u 48 (wl_f a (nI s)) (16 + i) P 0 0 ∧ (∀ p, P p ≠ none → p % 3 = 0 ∨ (p % 3 = 1 ∧ p / 3 < 16 + i)) ∧ (1 ≤ i → ∃ v, P 49 = some v)) 4 0 u (Nat.zero_le _) ⟨P, h, fun p hp => Or.inl (hP p hp), fun z => absurd z (by omega)⟩ ?_ ?_
  · intro m u hu
    obtain ⟨P, hu, hP, h49⟩ := hu
    obtain ⟨v, h49⟩ := h49 (by omega)
    have h61 : P 61 = none := by
      by_cases c : P 61 = none
      · exact c
      · have := hP 61 c
        omega
    refine pk_le 4 4 (fun _ => ?_) (fun z => absurd z (by omega))
    refine la_value 20 1 hu (by omega) (by omega) (by omega) (fun u1 g1 => ?_)
    refine la_value 16 1 g1 (by omega) (by omega) (by omega) (fun u2 g2 => ?_)
    rw [vv_n (by omega) h61, vv_s (by omega) h49]
    refine br_f (by decide) ?_
    refine la_changeC 20 1 g2 (by omega) (by omega) (by omega) h61 rfl (ne_1 _) (fun u3 g3 => br_t rfl ?_)
    refine la_changeB 20 1 g3 (by omega) (by omega) (by omega) h61 rfl rfl (fun u4 g4 => br_t rfl ?_)
    refine la_changeA 16 1 g4 (by omega) (by omega) (by omega) h49 (fun u5 g5 => br_t rfl ?_)
    refine la_patches g5 (br_t rfl ?_)
    refine la_value 16 1 g5 (by omega) (by omega) (by omega) (fun u6 g6 => ?_)
    rw [vv_s (by omega) pt_up_s]
    refine br_t rfl ?_
    refine la_form 0 0 g6 (by omega) (by omega) (fm_00 g6 (by omega)).1 (br_t rfl ?_)
    refine la_form 1 1 g6 (by omega) (by omega) (fm_11 g6 (by omega) h1 h2).1 (br_t rfl ?_)
    refine hp u6 _ g6 (fun p hp => ?_)
    by_cases c : p = 3 * 16 + 1
    · omega
    · rw [pt_up_n c] at hp
      have := hP p hp
      omega
  · intro m i u hi hu hr
    obtain ⟨P, hu, hP, h49⟩ := hu
    have hn : P (3 * (16 + i) + 1) = none := by
      by_cases c : P (3 * (16 + i) + 1) = none
      · exact c
      · have := hP _ c
        omega
    refine pk_le 4 i (fun z => absurd z (by omega)) (fun _ => ?_)
    rw [show 16 + nI i = nI (16 + i) from nI_add 16 i]
    refine la_value (16 + i) 1 hu (by omega) (by omega) (by omega) (fun u1 g1 => ?_)
    rw [vv_n (by omega) hn]
    refine br_f (by decide) ?_
    refine la_changeD (16 + i) 1 g1 (by omega) (by omega) (by omega) (by omega) hn rfl (ne_1 _) (fun u2 g2 => br_t rfl ?_)
    refine la_patches g2 (br_t ?_ (nm_r (nI_1 i) (hr u2 ⟨_, g2, ?_, ?_⟩)))
    · rw [show 17 + nI i = nI (17 + i) from nI_add 17 i]
      congr 1
      omega
    · intro p hp
      by_cases c : p = 3 * (16 + i) + 1
      · omega
      · rw [pt_up_n c] at hp
        have := hP p hp
        omega
    · intro _
      by_cases c : i = 0
      · subst c
        exact ⟨_, pt_up_s⟩
      · obtain ⟨v, hv⟩ := h49 (by omega)
        exact ⟨v, by rw [pt_up_n (by omega)]; exact hv⟩
theorem lh_96 {post : Int32 → St2 → Prop} {u : St2} {a : Int32} {s r : Nat} {P : Nat → Option Int32} (h1 : -1000 ≤ a.toInt) (h2 : a.toInt ≤ 1000) (hr : r < 16) (h : iv_ok u 48 (wl_f a (nI s)) 1 P 0 0) (hP : ∀ p, P p ≠ none → p = 3 * r)
    (hp : ∀ u' P', iv_ok u' 48 (wl_f a (nI s)) 20 P' 0 0 → (∀ p, P' p ≠ none → p % 3 ≠ 2) → post 1 u') : ∃ fu, wL_patches_96 post a (nI r) fu 1 0 u.1 u.2.1 u.2.2.1 u.2.2.2.1 u.2.2.2.2.1 u.2.2.2.2.2.1 u.2.2.2.2.2.2.1 u.2.2.2.2.2.2.2.1 u.2.2.2.2.2.2.2.2.1 u.2.2.2.2.2.2.2.2.2.1 u.2.2.2.2.2.2.2.2.2.2.1 u.2.2.2.2.2.2.2.2.2.2.2.1 u.2.2.2.2.2.2.2.2.2.2.2.2.1 u.2.2.2.2.2.2.2.2.2.2.2.2.2.1 u.2.2.2.2.2.2.2.2.2.2.2.2.2.2.1 u.2.2.2.2.2.2.2.2.2.2.2.2.2.2.2.1 u.2.2.2.2.2.2.2.2.2.2.2.2.2.2.2.2.1 u.2.2.2.2.2.2.2.2.2.2.2.2.2.2.2.2.2.1 u.2.2.2.2.2.2.2.2.2.2.2.2.2.2.2.2.2.2.1 u.2.2.2.2.2.2.2.2.2.2.2.2.2.2.2.2.2.2.2.1 u.2.2.2.2.2.2.2.2.2.2.2.2.2.2.2.2.2.2.2.2.1 u.2.2.2.2.2.2.2.2.2.2.2.2.2.2.2.2.2.2.2.2.2.1 u.2.2.2.2.2.2.2.2.2.2.2.2.2.2.2.2.2.2.2.2.2.2.1 u.2.2.2.2.2.2.2.2.2.2.2.2.2.2.2.2.2.2.2.2.2.2.2.1 u.2.2.2.2.2.2.2.2.2.2.2.2.2.2.2.2.2.2.2.2.2.2.2.2.1 u.2.2.2.2.2.2.2.2.2.2.2.2.2.2.2.2.2.2.2.2.2.2.2.2.2.1 u.2.2.2.2.2.2.2.2.2.2.2.2.2.2.2.2.2.2.2.2.2.2.2.2.2.2.1 u.2.2.2.2.2.2.2.2.2.2.2.2.2.2.2.2.2.2.2.2.2.2.2.2.2.2.2 := by
  refine pk_loop (σ := St2) (fun m i u => wL_patches_96 post a (nI r) m 1 (nI i) u.1 u.2.1 u.2.2.1 u.2.2.2.1 u.2.2.2.2.1 u.2.2.2.2.2.1 u.2.2.2.2.2.2.1 u.2.2.2.2.2.2.2.1 u.2.2.2.2.2.2.2.2.1 u.2.2.2.2.2.2.2.2.2.1 u.2.2.2.2.2.2.2.2.2.2.1 u.2.2.2.2.2.2.2.2.2.2.2.1 u.2.2.2.2.2.2.2.2.2.2.2.2.1 u.2.2.2.2.2.2.2.2.2.2.2.2.2.1 u.2.2.2.2.2.2.2.2.2.2.2.2.2.2.1 u.2.2.2.2.2.2.2.2.2.2.2.2.2.2.2.1 u.2.2.2.2.2.2.2.2.2.2.2.2.2.2.2.2.1 u.2.2.2.2.2.2.2.2.2.2.2.2.2.2.2.2.2.1 u.2.2.2.2.2.2.2.2.2.2.2.2.2.2.2.2.2.2.1 u.2.2.2.2.2.2.2.2.2.2.2.2.2.2.2.2.2.2.2.1 u.2.2.2.2.2.2.2.2.2.2.2.2.2.2.2.2.2.2.2.2.1 u.2.2.2.2.2.2.2.2.2.2.2.2.2.2.2.2.2.2.2.2.2.1 u.2.2.2.2.2.2.2.2.2.2.2.2.2.2.2.2.2.2.2.2.2.2.1 u.2.2.2.2.2.2.2.2.2.2.2.2.2.2.2.2.2.2.2.2.2.2.2.1 u.2.2.2.2.2.2.2.2.2.2.2.2.2.2.2.2.2.2.2.2.2.2.2.2.1 u.2.2.2.2.2.2.2.2.2.2.2.2.2.2.2.2.2.2.2.2.2.2.2.2.2.1 u.2.2.2.2.2.2.2.2.2.2.2.2.2.2.2.2.2.2.2.2.2.2.2.2.2.2.1 u.2.2.2.2.2.2.2.2.2.2.2.2.2.2.2.2.2.2.2.2.2.2.2.2.2.2.2) (fun i u => ∃ P, iv_ok u 48 (wl_f a (nI s)) (if r < i then i else i + 1) P 0 0 ∧ (∀ p, P p ≠ none → p = 3 * r ∨ (p % 3 = 0 ∧ p / 3 < i))) 16 0 u (Nat.zero_le _) ⟨P, h, fun p hp => Or.inl (hP p hp)⟩ ?_ ?_
  · intro m u hu
    obtain ⟨P, hu, hP⟩ := hu
    rw [if_pos hr] at hu
    refine pk_le 16 16 (fun _ => br_f (by decide) (la_patches hu (br_t rfl ?_))) (fun z => absurd z (by omega))
    refine lh_164 h1 h2 hu (fun p hp => ?_) hp
    have := hP p hp
    omega
  · intro m i u hi hu hrec
    obtain ⟨P, hu, hP⟩ := hu
    refine pk_le 16 i (fun z => absurd z (by omega)) (fun _ => br_f (by decide) (pk_eq i r (fun e => ?_) (fun e => ?_)))
    · refine nm_r (nI_1 i) (hrec u ⟨P, ?_, fun p hp => ?_⟩)
      · rw [if_neg (by omega)] at hu
        rw [if_pos (by omega)]
        exact hu
      · have := hP p hp
        omega
    · have hn : P (3 * i + 0) = none := by
        by_cases c : P (3 * i + 0) = none
        · exact c
        · have := hP _ c
          omega
      have hw : wl_f a (nI s) i 0 = a := by
        unfold wl_f
        rw [if_pos hi, if_pos rfl]
      have ex : a + nI i + 1 = a + nI (i + 1) := by rw [Int32.add_assoc, nI_1]
      refine la_changeD i 0 hu (by omega) (by omega) (by omega) ?_ hn hw ?_ (fun u1 g1 => br_t rfl (nm_r (nI_1 i) (hrec u1 ⟨pt_up P (3 * i + 0) (a + nI i + 1), ?_, ?_⟩)))
      · by_cases c : r < i
        · rw [if_pos c]; omega
        · rw [if_neg c]; omega
      · rw [ex]
        exact ne_s h1 h2 (by omega) (by omega)
      · by_cases c : r < i
        · rw [if_pos c] at g1
          rw [if_pos (by omega)]
          exact g1
        · rw [if_neg c] at g1
          rw [if_neg (by omega)]
          exact g1
      · intro p hp
        by_cases c : p = 3 * i + 0
        · omega
        · rw [pt_up_n c] at hp
          have := hP p hp
          omega
theorem lh_patches {post : Int32 → St2 → Prop} {u : St2} {a : Int32} {s r : Nat} (h1 : -1000 ≤ a.toInt) (h2 : a.toInt ≤ 1000) (hr : r < 16) (h : iv_ok u 48 (wl_f a (nI s)) 0 (fun _ => none) 0 0)
    (hp : ∀ u' P', iv_ok u' 48 (wl_f a (nI s)) 20 P' 0 0 → (∀ p, P' p ≠ none → p % 3 ≠ 2) → post 1 u') : wpL_patches post u a (nI r) := by
  have hw : wl_f a (nI s) r 0 = a := by
    unfold wl_f
    rw [if_pos hr, if_pos rfl]
  unfold wpL_patches
  refine la_patches h (br_t rfl ?_)
  refine la_changeB r 0 h (by omega) (by omega) (by omega) rfl hw rfl (fun u1 g1 => br_t rfl ?_)
  refine la_patches g1 (br_t rfl ?_)
  refine la_changeD r 0 g1 (by omega) (by omega) (by omega) (by omega) rfl hw (ne_s (m := 9) h1 h2 (by omega) (by omega)) (fun u2 g2 => br_t rfl ?_)
  refine la_patches g2 (br_t rfl ?_)
  refine la_changeA r 0 g2 (by omega) (by omega) (by omega) pt_up_s (fun u3 g3 => br_t rfl ?_)
  refine la_patches g3 (br_t rfl ?_)
  refine la_form 0 0 g3 (by omega) (by omega) (fm_00 g3 (by omega)).1 (br_t rfl ?_)
  obtain ⟨z0, e0, l0, m0⟩ := iv_size g3 (b := 0) (c := 0) (by omega) (by omega)
  obtain ⟨z1, e1, l1, m1⟩ := iv_size g3 (b := 1) (c := 0) (by omega) (by omega)
  obtain ⟨z2, e2, l2, m2⟩ := iv_size g3 (b := 2) (c := 0) (by omega) (by omega)
  refine la_digits 0 (fun b => if b = 0 then z0 else if b = 1 then z1 else z2) g3 (by omega) ?_ ?_
  · intro b hb
    have hb' : b = 0 ∨ b = 1 ∨ b = 2 := by omega
    rcases hb' with e | e | e
    · subst e; exact e0
    · subst e; exact e1
    · subst e; exact e2
  · refine pk_le (32 * (48 % 16) + (((0 + z0) + z1) + z2)) 0 (fun z => absurd z (by omega)) (fun _ => ?_)
    refine lh_96 h1 h2 hr g3 (fun p hp => ?_) hp
    by_cases c : p = 3 * r + 0
    · omega
    · rw [pt_up_n c, pt_up_n c] at hp
      exact absurd rfl hp
end
section
/-! the law: the rest -/
theorem iv_congr {u : St2} {n : Nat} {W W' : Nat → Nat → Int32} {k : Nat} {P : Nat → Option Int32} {dd q : Nat} (e : ∀ r c, r < n → c < 3 → W r c = W' r c) (h : iv_ok u n W k P dd q) : iv_ok u n W' k P dd q := by
  obtain ⟨h1, h0, h2, h3, h4, h5, h6, h7, h8, h9⟩ := h
  refine ⟨h1, h0, h2, h3, h4, h5, fun b hb c hc => ?_, fun i c hi hc => ?_, h8, h9⟩
  · exact bk_congr (fun i hi => e _ c (by omega) hc) (h6 b hb c hc)
  · rw [← e _ c (by omega) hc]
    exact h7 i c hi hc
theorem lz_609 {post : Int32 → St0 → Prop} {mc ms kc ks : Nat} {u : St2} {W : Nat → Nat → Int32} {k : Nat} {P : Nat → Option Int32} (h : iv_ok u 96 W k P 0 4) (hp : post 1 ()) : wL_lawOf_609 post mc ms 1 kc ks u.1 u.2.1 u.2.2.1 u.2.2.2.1 u.2.2.2.2.1 u.2.2.2.2.2.1 u.2.2.2.2.2.2.1 u.2.2.2.2.2.2.2.1 u.2.2.2.2.2.2.2.2.1 u.2.2.2.2.2.2.2.2.2.1 u.2.2.2.2.2.2.2.2.2.2.1 u.2.2.2.2.2.2.2.2.2.2.2.1 u.2.2.2.2.2.2.2.2.2.2.2.2.1 u.2.2.2.2.2.2.2.2.2.2.2.2.2.1 u.2.2.2.2.2.2.2.2.2.2.2.2.2.2.1 u.2.2.2.2.2.2.2.2.2.2.2.2.2.2.2.1 u.2.2.2.2.2.2.2.2.2.2.2.2.2.2.2.2.1 u.2.2.2.2.2.2.2.2.2.2.2.2.2.2.2.2.2.1 u.2.2.2.2.2.2.2.2.2.2.2.2.2.2.2.2.2.2.1 u.2.2.2.2.2.2.2.2.2.2.2.2.2.2.2.2.2.2.2.1 u.2.2.2.2.2.2.2.2.2.2.2.2.2.2.2.2.2.2.2.2.1 u.2.2.2.2.2.2.2.2.2.2.2.2.2.2.2.2.2.2.2.2.2.1 u.2.2.2.2.2.2.2.2.2.2.2.2.2.2.2.2.2.2.2.2.2.2.1 u.2.2.2.2.2.2.2.2.2.2.2.2.2.2.2.2.2.2.2.2.2.2.2.1 u.2.2.2.2.2.2.2.2.2.2.2.2.2.2.2.2.2.2.2.2.2.2.2.2.1 u.2.2.2.2.2.2.2.2.2.2.2.2.2.2.2.2.2.2.2.2.2.2.2.2.2.1 u.2.2.2.2.2.2.2.2.2.2.2.2.2.2.2.2.2.2.2.2.2.2.2.2.2.2.1 u.2.2.2.2.2.2.2.2.2.2.2.2.2.2.2.2.2.2.2.2.2.2.2.2.2.2.2 := by
  refine br_f (by decide) (la_conditionF 0 h (by omega) (br_t rfl ?_))
  refine la_condition3 (br_t rfl (la_sum3 (br_t rfl (la_value3 (br_t rfl ?_)))))
  refine la_valueN 96 0 h (Or.inr (Nat.le_refl _)) (by omega) (by omega) (br_t rfl ?_)
  refine la_formM (br_t rfl (la_digits3 (br_t rfl (la_least3 (br_t rfl ?_)))))
  refine la_rankedM (br_t rfl (la_different3 (br_t rfl (la_commonest3 (br_t rfl ?_)))))
  refine la_change3 (br_t rfl ?_)
  exact la_deleteN 96 h (Or.inr (Nat.le_refl _)) (by omega) (br_t rfl hp)
def w4_f (W : Nat → Nat → Int32) (r c : Nat) : Int32 := if r < 40 then W r c else if c = 0 then 1 else if c = 1 then nI ((r - 40) / 7) else nI ((r - 40) % 7)
theorem lz_447 {post : Int32 → St0 → Prop} {mc ms kc ks : Nat} {u : St2} {W : Nat → Nat → Int32} {k : Nat} {P : Nat → Option Int32} (h : iv_ok u 40 W k P 0 0) (hp : post 1 ()) : ∃ fu, wL_lawOf_447 post mc ms kc ks fu 1 0 u.1 u.2.1 u.2.2.1 u.2.2.2.1 u.2.2.2.2.1 u.2.2.2.2.2.1 u.2.2.2.2.2.2.1 u.2.2.2.2.2.2.2.1 u.2.2.2.2.2.2.2.2.1 u.2.2.2.2.2.2.2.2.2.1 u.2.2.2.2.2.2.2.2.2.2.1 u.2.2.2.2.2.2.2.2.2.2.2.1 u.2.2.2.2.2.2.2.2.2.2.2.2.1 u.2.2.2.2.2.2.2.2.2.2.2.2.2.1 u.2.2.2.2.2.2.2.2.2.2.2.2.2.2.1 u.2.2.2.2.2.2.2.2.2.2.2.2.2.2.2.1 u.2.2.2.2.2.2.2.2.2.2.2.2.2.2.2.2.1 u.2.2.2.2.2.2.2.2.2.2.2.2.2.2.2.2.2.1 u.2.2.2.2.2.2.2.2.2.2.2.2.2.2.2.2.2.2.1 u.2.2.2.2.2.2.2.2.2.2.2.2.2.2.2.2.2.2.2.1 u.2.2.2.2.2.2.2.2.2.2.2.2.2.2.2.2.2.2.2.2.1 u.2.2.2.2.2.2.2.2.2.2.2.2.2.2.2.2.2.2.2.2.2.1 u.2.2.2.2.2.2.2.2.2.2.2.2.2.2.2.2.2.2.2.2.2.2.1 u.2.2.2.2.2.2.2.2.2.2.2.2.2.2.2.2.2.2.2.2.2.2.2.1 u.2.2.2.2.2.2.2.2.2.2.2.2.2.2.2.2.2.2.2.2.2.2.2.2.1 u.2.2.2.2.2.2.2.2.2.2.2.2.2.2.2.2.2.2.2.2.2.2.2.2.2.1 u.2.2.2.2.2.2.2.2.2.2.2.2.2.2.2.2.2.2.2.2.2.2.2.2.2.2.1 u.2.2.2.2.2.2.2.2.2.2.2.2.2.2.2.2.2.2.2.2.2.2.2.2.2.2.2 := by
  have h' : iv_ok u 40 (w4_f W) k P 0 0 := iv_congr (fun r c hr _ => by unfold w4_f; rw [if_pos hr]) h
  refine pk_loop (σ := St2) (fun m i u => wL_lawOf_447 post mc ms kc ks m 1 (nI i) u.1 u.2.1 u.2.2.1 u.2.2.2.1 u.2.2.2.2.1 u.2.2.2.2.2.1 u.2.2.2.2.2.2.1 u.2.2.2.2.2.2.2.1 u.2.2.2.2.2.2.2.2.1 u.2.2.2.2.2.2.2.2.2.1 u.2.2.2.2.2.2.2.2.2.2.1 u.2.2.2.2.2.2.2.2.2.2.2.1 u.2.2.2.2.2.2.2.2.2.2.2.2.1 u.2.2.2.2.2.2.2.2.2.2.2.2.2.1 u.2.2.2.2.2.2.2.2.2.2.2.2.2.2.1 u.2.2.2.2.2.2.2.2.2.2.2.2.2.2.2.1 u.2.2.2.2.2.2.2.2.2.2.2.2.2.2.2.2.1 u.2.2.2.2.2.2.2.2.2.2.2.2.2.2.2.2.2.1 u.2.2.2.2.2.2.2.2.2.2.2.2.2.2.2.2.2.2.1 u.2.2.2.2.2.2.2.2.2.2.2.2.2.2.2.2.2.2.2.1 u.2.2.2.2.2.2.2.2.2.2.2.2.2.2.2.2.2.2.2.2.1 u.2.2.2.2.2.2.2.2.2.2.2.2.2.2.2.2.2.2.2.2.2.1 u.2.2.2.2.2.2.2.2.2.2.2.2.2.2.2.2.2.2.2.2.2.2.1 u.2.2.2.2.2.2.2.2.2.2.2.2.2.2.2.2.2.2.2.2.2.2.2.1 u.2.2.2.2.2.2.2.2.2.2.2.2.2.2.2.2.2.2.2.2.2.2.2.2.1 u.2.2.2.2.2.2.2.2.2.2.2.2.2.2.2.2.2.2.2.2.2.2.2.2.2.1 u.2.2.2.2.2.2.2.2.2.2.2.2.2.2.2.2.2.2.2.2.2.2.2.2.2.2.1 u.2.2.2.2.2.2.2.2.2.2.2.2.2.2.2.2.2.2.2.2.2.2.2.2.2.2.2) (fun i u => iv_ok u (40 + 7 * i) (w4_f W) k P 0 0) 8 0 u (Nat.zero_le _) h' ?_ ?_
  · intro m u hu
    refine pk_le 8 8 (fun _ => br_f (by decide) ?_) (fun z => absurd z (by omega))
    have hu' : iv_ok u 96 (w4_f W) k P 0 0 := hu
    refine la_full hu' (br_t rfl (la_blocks hu' (br_t rfl ?_)))
    have f4 : u.2.2.2.2.2.2.2.1 (3 * 4 + 0) = nI 1 := (fo_of (b := 4) (c := 0) (B := fun _ => 1) hu' (by omega) (by omega) (fun i hi => by
      show 1 = w4_f W (16 * 4 + i) 0
      unfold w4_f
      rw [if_neg (by omega), if_pos rfl]) di_const pu_pick1).1
    refine la_form 4 0 hu' (by omega) (by omega) f4 (br_t rfl ?_)
    refine la_formN 6 0 hu' (by omega) (by omega) (by omega) (br_t rfl ?_)
    refine la_condition 1 hu' (by omega) (by omega) (fun u1 g1 _ => br_t rfl ?_)
    refine la_condition 1 g1 (by omega) (by omega) (fun u2 g2 _ => br_t rfl ?_)
    refine la_condition 0 g2 (by omega) (by omega) (fun u3 g3 _ => br_t rfl ?_)
    refine la_condition 2 g3 (by omega) (by omega) (fun u4 g4 _ => br_t rfl ?_)
    exact lz_609 g4 hp
  · intro m i u hi hu hr
    refine pk_le 8 i (fun z => absurd z (by omega)) (fun _ => ?_)
    refine pk_loop (σ := St2) (fun m' j u => wL_lawOf_457 post mc ms (wL_lawOf_447 post mc ms kc ks m) (nI i) kc ks m' 1 (nI j) u.1 u.2.1 u.2.2.1 u.2.2.2.1 u.2.2.2.2.1 u.2.2.2.2.2.1 u.2.2.2.2.2.2.1 u.2.2.2.2.2.2.2.1 u.2.2.2.2.2.2.2.2.1 u.2.2.2.2.2.2.2.2.2.1 u.2.2.2.2.2.2.2.2.2.2.1 u.2.2.2.2.2.2.2.2.2.2.2.1 u.2.2.2.2.2.2.2.2.2.2.2.2.1 u.2.2.2.2.2.2.2.2.2.2.2.2.2.1 u.2.2.2.2.2.2.2.2.2.2.2.2.2.2.1 u.2.2.2.2.2.2.2.2.2.2.2.2.2.2.2.1 u.2.2.2.2.2.2.2.2.2.2.2.2.2.2.2.2.1 u.2.2.2.2.2.2.2.2.2.2.2.2.2.2.2.2.2.1 u.2.2.2.2.2.2.2.2.2.2.2.2.2.2.2.2.2.2.1 u.2.2.2.2.2.2.2.2.2.2.2.2.2.2.2.2.2.2.2.1 u.2.2.2.2.2.2.2.2.2.2.2.2.2.2.2.2.2.2.2.2.1 u.2.2.2.2.2.2.2.2.2.2.2.2.2.2.2.2.2.2.2.2.2.1 u.2.2.2.2.2.2.2.2.2.2.2.2.2.2.2.2.2.2.2.2.2.2.1 u.2.2.2.2.2.2.2.2.2.2.2.2.2.2.2.2.2.2.2.2.2.2.2.1 u.2.2.2.2.2.2.2.2.2.2.2.2.2.2.2.2.2.2.2.2.2.2.2.2.1 u.2.2.2.2.2.2.2.2.2.2.2.2.2.2.2.2.2.2.2.2.2.2.2.2.2.1 u.2.2.2.2.2.2.2.2.2.2.2.2.2.2.2.2.2.2.2.2.2.2.2.2.2.2.1 u.2.2.2.2.2.2.2.2.2.2.2.2.2.2.2.2.2.2.2.2.2.2.2.2.2.2.2) (fun j u => iv_ok u (40 + 7 * i + j) (w4_f W) k P 0 0) 7 0 u (Nat.zero_le _) hu ?_ ?_
    · intro m' u' hu'
      refine pk_le 7 7 (fun _ => nm_r (nI_1 i) (hr u' ?_)) (fun z => absurd z (by omega))
      rw [show 40 + 7 * (i + 1) = 40 + 7 * i + 7 by omega]
      exact hu'
    · intro m' j u' hj hu' hr'
      refine pk_le 7 j (fun z => absurd z (by omega)) (fun _ => br_f (by decide) (la_append hu' (by omega) ?_ ?_ ?_ (fun u2 g2 => br_t ?_ (nm_r (nI_1 j) (hr' u2 g2)))))
      · unfold w4_f
        rw [if_neg (by omega), if_pos rfl]
      · unfold w4_f
        rw [if_neg (by omega), if_neg (by decide), if_pos rfl]
        congr 1
        omega
      · unfold w4_f
        rw [if_neg (by omega), if_neg (by decide), if_neg (by decide)]
        congr 1
        omega
      · rw [show (7 : Int32) = nI 7 from rfl, pk_mul, show (40 : Int32) = nI 40 from rfl, nI_add, nI_add]
theorem lz_254 {post : Int32 → St0 → Prop} {mc ms kc ks : Nat} {u : St2} {a : Int32} {s : Nat} {P : Nat → Option Int32} (h : iv_ok u 48 (wl_f a (nI s)) 20 P 0 0) (hP : ∀ p, P p ≠ none → p % 3 ≠ 2) (hp : post 1 ()) : ∃ fu, wL_lawOf_254 post mc ms a kc ks fu 1 0 u.1 u.2.1 u.2.2.1 u.2.2.2.1 u.2.2.2.2.1 u.2.2.2.2.2.1 u.2.2.2.2.2.2.1 u.2.2.2.2.2.2.2.1 u.2.2.2.2.2.2.2.2.1 u.2.2.2.2.2.2.2.2.2.1 u.2.2.2.2.2.2.2.2.2.2.1 u.2.2.2.2.2.2.2.2.2.2.2.1 u.2.2.2.2.2.2.2.2.2.2.2.2.1 u.2.2.2.2.2.2.2.2.2.2.2.2.2.1 u.2.2.2.2.2.2.2.2.2.2.2.2.2.2.1 u.2.2.2.2.2.2.2.2.2.2.2.2.2.2.2.1 u.2.2.2.2.2.2.2.2.2.2.2.2.2.2.2.2.1 u.2.2.2.2.2.2.2.2.2.2.2.2.2.2.2.2.2.1 u.2.2.2.2.2.2.2.2.2.2.2.2.2.2.2.2.2.2.1 u.2.2.2.2.2.2.2.2.2.2.2.2.2.2.2.2.2.2.2.1 u.2.2.2.2.2.2.2.2.2.2.2.2.2.2.2.2.2.2.2.2.1 u.2.2.2.2.2.2.2.2.2.2.2.2.2.2.2.2.2.2.2.2.2.1 u.2.2.2.2.2.2.2.2.2.2.2.2.2.2.2.2.2.2.2.2.2.2.1 u.2.2.2.2.2.2.2.2.2.2.2.2.2.2.2.2.2.2.2.2.2.2.2.1 u.2.2.2.2.2.2.2.2.2.2.2.2.2.2.2.2.2.2.2.2.2.2.2.2.1 u.2.2.2.2.2.2.2.2.2.2.2.2.2.2.2.2.2.2.2.2.2.2.2.2.2.1 u.2.2.2.2.2.2.2.2.2.2.2.2.2.2.2.2.2.2.2.2.2.2.2.2.2.2.1 u.2.2.2.2.2.2.2.2.2.2.2.2.2.2.2.2.2.2.2.2.2.2.2.2.2.2.2 := by
  refine pk_loop (σ := St2) (fun m i u => wL_lawOf_254 post mc ms a kc ks m 1 (nI i) u.1 u.2.1 u.2.2.1 u.2.2.2.1 u.2.2.2.2.1 u.2.2.2.2.2.1 u.2.2.2.2.2.2.1 u.2.2.2.2.2.2.2.1 u.2.2.2.2.2.2.2.2.1 u.2.2.2.2.2.2.2.2.2.1 u.2.2.2.2.2.2.2.2.2.2.1 u.2.2.2.2.2.2.2.2.2.2.2.1 u.2.2.2.2.2.2.2.2.2.2.2.2.1 u.2.2.2.2.2.2.2.2.2.2.2.2.2.1 u.2.2.2.2.2.2.2.2.2.2.2.2.2.2.1 u.2.2.2.2.2.2.2.2.2.2.2.2.2.2.2.1 u.2.2.2.2.2.2.2.2.2.2.2.2.2.2.2.2.1 u.2.2.2.2.2.2.2.2.2.2.2.2.2.2.2.2.2.1 u.2.2.2.2.2.2.2.2.2.2.2.2.2.2.2.2.2.2.1 u.2.2.2.2.2.2.2.2.2.2.2.2.2.2.2.2.2.2.2.1 u.2.2.2.2.2.2.2.2.2.2.2.2.2.2.2.2.2.2.2.2.1 u.2.2.2.2.2.2.2.2.2.2.2.2.2.2.2.2.2.2.2.2.2.1 u.2.2.2.2.2.2.2.2.2.2.2.2.2.2.2.2.2.2.2.2.2.2.1 u.2.2.2.2.2.2.2.2.2.2.2.2.2.2.2.2.2.2.2.2.2.2.2.1 u.2.2.2.2.2.2.2.2.2.2.2.2.2.2.2.2.2.2.2.2.2.2.2.2.1 u.2.2.2.2.2.2.2.2.2.2.2.2.2.2.2.2.2.2.2.2.2.2.2.2.2.1 u.2.2.2.2.2.2.2.2.2.2.2.2.2.2.2.2.2.2.2.2.2.2.2.2.2.2.1 u.2.2.2.2.2.2.2.2.2.2.2.2.2.2.2.2.2.2.2.2.2.2.2.2.2.2.2) (fun i u => iv_ok u 48 (wl_f a (nI s)) 20 P i 0) 8 0 u (Nat.zero_le _) h ?_ ?_
  · intro m u hu
    refine pk_le 8 8 (fun _ => br_f (by decide) (la_rows hu (br_t rfl ?_))) (fun z => absurd z (by omega))
    refine la_count0 hu (by omega) (x := 40) (by decide +kernel) (fun u1 s1 => br_t rfl ?_)
    have g1 := sm_iv s1 hu
    refine la_chosen0 0 g1 (by omega) (by omega) (by decide) (fun b hb => absurd hb (Nat.not_lt_zero _)) (by decide +kernel) (x := 8) (by decide +kernel) (fun u2 s2 => br_t rfl ?_)
    have g2 := sm_iv s2 g1
    refine la_compact g2 (fun u3 g3 => br_t rfl ?_)
    have g3' : iv_ok u3 40 (fun r c => vv_of (wl_f a (nI s)) P 48 (r + 8) c) 0 (fun _ => none) 0 0 := g3
    refine la_rows g3' (br_t rfl (la_blocks g3' (br_t rfl (la_patches g3' (br_t rfl ?_)))))
    obtain ⟨z0, e0, l0, m0⟩ := iv_size g3' (b := 0) (c := 1) (by omega) (by omega)
    obtain ⟨z1, e1, l1, m1⟩ := iv_size g3' (b := 1) (c := 1) (by omega) (by omega)
    refine la_digits 1 (fun b => if b = 0 then z0 else z1) g3' (by omega) ?_ ?_
    · intro b hb
      have hb' : b = 0 ∨ b = 1 := by omega
      rcases hb' with e | e
      · subst e; exact e0
      · subst e; exact e1
    · refine pk_lt 1280 (32 * (40 % 16) + ((0 + z0) + z1)) (fun z => absurd z (by omega)) (fun _ => ?_)
      refine la_chosen0 0 g3' (by omega) (by omega) (by decide) (fun b hb => absurd hb (Nat.not_lt_zero _)) (by decide +kernel) (x := 0) (by decide +kernel) (fun u4 s4 => br_t rfl ?_)
      have g4 := sm_iv s4 g3'
      refine la_value 0 2 g4 (by omega) (by omega) (by omega) (fun u5 g5 => br_t ?_ ?_)
      · rw [vv_n (by omega) rfl]
        show vv_of (wl_f a (nI s)) P 48 (0 + 8) 2 = a + 1000
        rw [vv_n (by omega) ?_]
        · unfold wl_f
          rw [if_pos (by omega), if_neg (by decide), if_neg (by decide), if_neg (by omega)]
        · by_cases c : P (3 * (0 + 8) + 2) = none
          · exact c
          · have := hP _ c
            omega
      · exact la_compact g5 (fun u6 g6 => br_t rfl (lz_447 g6 hp))
  · intro m i u hi hu hr
    refine pk_le 8 i (fun z => absurd z (by omega)) (fun _ => br_f (by decide) ?_)
    refine la_delete hu (by omega) (fun u1 g1 => br_t ?_ ?_)
    · rw [show (47 : Int32) = nI 47 from rfl, pk_sub (by omega)]
      congr 1
      omega
    · refine la_deleteN i g1 (Or.inl (by omega)) (by omega) (br_t rfl ?_)
      refine la_valueN i 1 g1 (Or.inl (by omega)) (by omega) (by omega) (br_t rfl ?_)
      exact la_changeN i 1 g1 (Or.inl (by omega)) (by omega) (by omega) (br_t rfl (nm_r (nI_1 i) (hr u1 g1)))
theorem wl_m2 : (-2000000000 : Int32).toInt = -2000000000 := by decide +kernel
theorem wc_e {a : Int32} {s i : Nat} (hi : i < 16) : wl_f a (nI s) (32 + i) 2 = wl_x i := by
  unfold wl_f
  rw [if_neg (by omega), if_neg (by omega), if_neg (by decide), show 32 + i - 32 = i by omega]
theorem wc_0 {a : Int32} {s i : Nat} (h1 : -1000 ≤ a.toInt) (h2 : a.toInt ≤ 1000) (hi : i < 16) : (-2000000000 : Int32) < wl_f a (nI s) (16 * 0 + i) 2 := by
  have e : wl_f a (nI s) (16 * 0 + i) 2 = a ∨ wl_f a (nI s) (16 * 0 + i) 2 = a + nI 1000 := by
    unfold wl_f
    rw [if_pos (by omega), if_neg (by decide), if_neg (by decide)]
    by_cases c2 : 16 * 0 + i < 5
    · rw [if_pos c2]; exact Or.inl rfl
    · rw [if_neg c2]; exact Or.inr rfl
  rw [Int32.lt_iff_toInt_lt, wl_m2]
  rcases e with e | e
  · rw [e]; omega
  · rw [e, tr_i h1 h2 (by omega)]; omega
theorem wc_1 {a : Int32} {s i : Nat} (hi : i < 16) : (-2000000000 : Int32) < wl_f a (nI s) (16 * 1 + i) 2 := by
  have e : wl_f a (nI s) (16 * 1 + i) 2 = wl_z i := by
    unfold wl_f
    rw [if_neg (by omega), if_pos (by omega), if_neg (by decide), if_neg (by decide), show 16 * 1 + i - 16 = i by omega]
  rw [e]
  exact wl_wz i hi
theorem wc_ls {a v : Int32} {s : Nat} : ∀ n, n ≤ 16 → ls_f (fun i => wl_f a (nI s) (32 + i) 2) v n = ls_f wl_x v n := by
  intro n
  induction n with
  | zero => intro _; rw [ls_f, ls_f]
  | succ n ih =>
    intro hn
    have e : wl_f a (nI s) (32 + n) 2 = wl_x n := wc_e (by omega)
    rw [ls_f, ls_f, ih (by omega)]
    by_cases c : v < wl_x n
    · have c' : v < wl_f a (nI s) (32 + n) 2 := by rw [e]; exact c
      rw [if_pos c, if_pos c']
    · have c' : ¬ v < wl_f a (nI s) (32 + n) 2 := by rw [e]; exact c
      rw [if_neg c, if_neg c']
theorem wc_wl {a : Int32} {s : Nat} (h1 : -1000 ≤ a.toInt) (h2 : a.toInt ≤ 1000) : wc_ok (wl_f a (nI s)) (-2000000000) := by
  have w := wl_wx
  generalize hv : (-2000000000 : Int32) = v at *
  obtain ⟨⟨i1, hi1, w1⟩, w2, ⟨i3, hi3, w3⟩, w4, w5⟩ := w
  refine ⟨?_, ⟨i1, hi1, (wc_e hi1).trans w1⟩, ?_, ⟨i3, hi3, ?_⟩, (wc_ls 16 (Nat.le_refl _)).trans w4, ?_⟩
  · intro b hb i hi
    rw [← hv]
    by_cases c : b = 0
    · subst c
      exact wc_0 h1 h2 hi
    · have hb1 : b = 1 := by omega
      subst hb1
      exact wc_1 hi
  · intro i hi
    rw [wc_e hi]
    exact w2 i hi
  · rw [wc_e hi3]
    exact w3
  · intro i hi hb
    exact (wc_e hi).trans (w5 i hi hb)
theorem lz_151 {post : Int32 → St0 → Prop} {mc ms kc ks : Nat} {u : St2} {a : Int32} {s : Nat} {P : Nat → Option Int32} (h1 : -1000 ≤ a.toInt) (h2 : a.toInt ≤ 1000) (h : iv_ok u 48 (wl_f a (nI s)) 20 P 0 0) (hP : ∀ p, P p ≠ none → p % 3 ≠ 2) (hp : post 1 ()) : wL_lawOf_151 post mc ms a 1 kc ks u.1 u.2.1 u.2.2.1 u.2.2.2.1 u.2.2.2.2.1 u.2.2.2.2.2.1 u.2.2.2.2.2.2.1 u.2.2.2.2.2.2.2.1 u.2.2.2.2.2.2.2.2.1 u.2.2.2.2.2.2.2.2.2.1 u.2.2.2.2.2.2.2.2.2.2.1 u.2.2.2.2.2.2.2.2.2.2.2.1 u.2.2.2.2.2.2.2.2.2.2.2.2.1 u.2.2.2.2.2.2.2.2.2.2.2.2.2.1 u.2.2.2.2.2.2.2.2.2.2.2.2.2.2.1 u.2.2.2.2.2.2.2.2.2.2.2.2.2.2.2.1 u.2.2.2.2.2.2.2.2.2.2.2.2.2.2.2.2.1 u.2.2.2.2.2.2.2.2.2.2.2.2.2.2.2.2.2.1 u.2.2.2.2.2.2.2.2.2.2.2.2.2.2.2.2.2.2.1 u.2.2.2.2.2.2.2.2.2.2.2.2.2.2.2.2.2.2.2.1 u.2.2.2.2.2.2.2.2.2.2.2.2.2.2.2.2.2.2.2.2.1 u.2.2.2.2.2.2.2.2.2.2.2.2.2.2.2.2.2.2.2.2.2.1 u.2.2.2.2.2.2.2.2.2.2.2.2.2.2.2.2.2.2.2.2.2.2.1 u.2.2.2.2.2.2.2.2.2.2.2.2.2.2.2.2.2.2.2.2.2.2.2.1 u.2.2.2.2.2.2.2.2.2.2.2.2.2.2.2.2.2.2.2.2.2.2.2.2.1 u.2.2.2.2.2.2.2.2.2.2.2.2.2.2.2.2.2.2.2.2.2.2.2.2.2.1 u.2.2.2.2.2.2.2.2.2.2.2.2.2.2.2.2.2.2.2.2.2.2.2.2.2.2.1 u.2.2.2.2.2.2.2.2.2.2.2.2.2.2.2.2.2.2.2.2.2.2.2.2.2.2.2 := by
  have w := wc_wl (s := s) h1 h2
  have f : ∀ u, iv_ok u 48 (wl_f a (nI s)) 20 P 0 1 → u.2.2.2.2.2.2.2.1 8 = nI 3 := fun u g => (fm_2x (c := 2) g (by omega) (by omega) (by omega)).1
  refine br_f (by decide) (la_condition 2 h (by omega) (by omega) (fun u1 g1 c1 => br_t rfl ?_))
  have c1 := c1 rfl
  refine la_countC g1 c1 w (f _ g1) hP (fun u2 s2 => br_t rfl ?_)
  have g2 := sm_iv s2 g1
  have c2 := sm_cd s2 c1
  refine la_chosenC g2 c2 w (f _ g2) hP (by decide) (by decide) (x := 32) (by decide +kernel) (fun u3 s3 => br_t rfl ?_)
  have g3 := sm_iv s3 g2
  have c3 := sm_cd s3 c2
  refine la_chosenC g3 c3 w (f _ g3) hP (by decide) (by decide) (x := 44) (by decide +kernel) (fun u4 s4 => br_t rfl ?_)
  have g4 := sm_iv s4 g3
  have c4 := sm_cd s4 c3
  refine la_passedC g4 c4 w (f _ g4) (br_t rfl ?_)
  refine la_sumC g4 c4 w (f _ g4) hP (x := 589934592) (by decide +kernel) (fun u5 s5 => br_t rfl ?_)
  have g5 := sm_iv s5 g4
  have c5 := sm_cd s5 c4
  refine la_differentC g5 c5 w (f _ g5) hP (fun u6 s6 => br_t rfl ?_)
  have g6 := sm_iv s6 g5
  have c6 := sm_cd s6 c5
  refine la_commonestC g6 c6 w (f _ g6) hP (fun u7 s7 => br_t rfl ?_)
  have g7 := sm_iv s7 g6
  exact la_free g7 (fun u8 g8 => br_t rfl (lz_254 g8 hP hp))
theorem lz_58 {post : Int32 → St0 → Prop} {mc ms kc ks : Nat} {u : St2} {a : Int32} {s : Nat} {P : Nat → Option Int32} (h1 : -1000 ≤ a.toInt) (h2 : a.toInt ≤ 1000) (h : iv_ok u 48 (wl_f a (nI s)) 20 P 0 0) (hP : ∀ p, P p ≠ none → p % 3 ≠ 2) (hp : post 1 ()) : wL_lawOf_58 post mc ms a 1 kc ks u.1 u.2.1 u.2.2.1 u.2.2.2.1 u.2.2.2.2.1 u.2.2.2.2.2.1 u.2.2.2.2.2.2.1 u.2.2.2.2.2.2.2.1 u.2.2.2.2.2.2.2.2.1 u.2.2.2.2.2.2.2.2.2.1 u.2.2.2.2.2.2.2.2.2.2.1 u.2.2.2.2.2.2.2.2.2.2.2.1 u.2.2.2.2.2.2.2.2.2.2.2.2.1 u.2.2.2.2.2.2.2.2.2.2.2.2.2.1 u.2.2.2.2.2.2.2.2.2.2.2.2.2.2.1 u.2.2.2.2.2.2.2.2.2.2.2.2.2.2.2.1 u.2.2.2.2.2.2.2.2.2.2.2.2.2.2.2.2.1 u.2.2.2.2.2.2.2.2.2.2.2.2.2.2.2.2.2.1 u.2.2.2.2.2.2.2.2.2.2.2.2.2.2.2.2.2.2.1 u.2.2.2.2.2.2.2.2.2.2.2.2.2.2.2.2.2.2.2.1 u.2.2.2.2.2.2.2.2.2.2.2.2.2.2.2.2.2.2.2.2.1 u.2.2.2.2.2.2.2.2.2.2.2.2.2.2.2.2.2.2.2.2.2.1 u.2.2.2.2.2.2.2.2.2.2.2.2.2.2.2.2.2.2.2.2.2.2.1 u.2.2.2.2.2.2.2.2.2.2.2.2.2.2.2.2.2.2.2.2.2.2.2.1 u.2.2.2.2.2.2.2.2.2.2.2.2.2.2.2.2.2.2.2.2.2.2.2.2.1 u.2.2.2.2.2.2.2.2.2.2.2.2.2.2.2.2.2.2.2.2.2.2.2.2.2.1 u.2.2.2.2.2.2.2.2.2.2.2.2.2.2.2.2.2.2.2.2.2.2.2.2.2.2.1 u.2.2.2.2.2.2.2.2.2.2.2.2.2.2.2.2.2.2.2.2.2.2.2.2.2.2.2 := by
  have l3 : li_f 48 0 (48 / 16) 16 = 0 := by decide +kernel
  refine br_f (by decide) (la_condition 0 h (by omega) (by omega) (fun u1 g1 c1 => br_t rfl ?_))
  have c1 := c1 rfl
  refine la_countB g1 c1 (by omega) (by omega) (by decide) l3 (x := 0) (by decide +kernel) (fun u2 s2 => br_t rfl ?_)
  have g2 := sm_iv s2 g1
  have c2 := sm_cd s2 c1
  refine la_passedB g2 c2 (by omega) (by decide) (x := 3) (by decide +kernel) (br_t rfl ?_)
  refine la_leastB (c := 0) g2 c2 (by omega) (by omega) (by decide) l3 (fun u3 s3 => br_t rfl ?_)
  have g3 := sm_iv s3 g2
  have c3 := sm_cd s3 c2
  refine la_chosenB g3 c3 (by omega) (by omega) (by decide) l3 (by decide) (fun u4 s4 => br_t rfl ?_)
  have g4 := sm_iv s4 g3
  refine la_free g4 (fun u5 g5 => br_t rfl (la_free g5 (fun u6 g6 => br_t rfl ?_)))
  refine la_count0 g6 (by omega) (x := 48) (by decide +kernel) (fun u7 s7 => br_t rfl ?_)
  have g7 := sm_iv s7 g6
  exact la_passed0 g7 (br_t rfl (lz_151 h1 h2 g7 hP hp))
theorem lz_lawOf {post : Int32 → St0 → Prop} {x y : Int32} (hp : post 1 ()) : wpL_lawOf post 23 1511 () x y := by
  obtain ⟨j, hj, ej⟩ := pk_andE x (m := 1023) 10 (by decide)
  obtain ⟨s, hs, es⟩ := pk_andE (x >>> ((10 : Int32) &&& 31)) (m := 7) 3 (by decide)
  obtain ⟨r, hr, er⟩ := pk_andE y (m := 15) 4 (by decide)
  have ha : (nI j - 500).toInt = (j : Int) - 500 := pk_sub_toInt (b := 500) (by omega) (by omega)
  have h1 : -1000 ≤ (nI j - 500).toInt := by rw [ha]; omega
  have h2 : (nI j - 500).toInt ≤ 1000 := by rw [ha]; omega
  refine ⟨by omega, by omega, 22, 1483, by omega, by omega, ?_⟩
  refine ⟨by omega, by omega, by omega, by omega, by omega, by omega, by omega, by omega, by omega, by omega, by omega, by omega, by omega, by omega, by omega, by omega, by omega, by omega, by omega, by omega, by omega, by omega, by omega, by omega, by omega, by omega, by omega, by omega, by omega, by omega, by omega, by omega, by omega, by omega, by omega, by omega, by omega, by omega, by omega, by omega, by omega, by omega, by omega, by omega, ?_⟩
  refine nm_r (e' := nI j - 500) (by rw [ej]) (nm_r es (nm_r er ?_))
  refine lf_forms h1 h2 hs ⟨by omega, by omega, by omega, rfl, rfl, rfl, fun b hb => absurd hb (by omega), fun i c hi => absurd hi (by omega), ⟨by omega, fun _ => 0, fun j hj => absurd hj (Nat.not_lt_zero _), fun i hi => absurd hi (Nat.not_lt_zero _), fun p hp => absurd rfl hp⟩, fun r hr => absurd hr (Nat.not_lt_zero _)⟩ (fun u1 g1 => br_f (by decide) ?_)
  exact lh_patches h1 h2 hr g1 (fun u2 P g2 hP => br_f (by decide) (lz_58 h1 h2 g2 hP hp))
theorem lz_cell {post : Int32 → Prop} {L i : Nat} {xs : Nat → Int32} (hL : L ≤ 2) (hi : i < 2) (h : ∀ x, post x) : wpL_cellAt post L xs () (nI i) :=
  pk_le L i (fun _ => h _) (fun z => ⟨pk_in i L z, h _⟩)
theorem i_vc (xs : Nat → Int32) (L : Nat) (hL : L ≤ 2) : wpL_law (fun r => r = 1) L xs :=
  lz_cell (i := 0) hL (by omega) (fun x => lz_cell (i := 1) hL (by omega) (fun y => ⟨23, 1511, by omega, by omega, lz_lawOf rfl⟩))
end
