section
/-! ===== bits of naturals and of Int32 (qd_and, qd_xor after kit/laws/BITS.to-paste) ===== -/
theorem qd_sl : ∀ n, n < 32 → ((nI n &&& 31).toBitVec.smod 32).toNat = n := by decide +kernel
theorem qd_and (a b : Nat) : nI a &&& nI b = nI (a &&& b) := by
  apply Int32.toBitVec_inj.1
  show BitVec.ofNat 32 a &&& BitVec.ofNat 32 b = BitVec.ofNat 32 (a &&& b)
  apply BitVec.eq_of_getLsbD_eq
  intro i hi
  simp [hi]
theorem qd_xor (a b : Nat) : nI a ^^^ nI b = nI (a ^^^ b) := by
  apply Int32.toBitVec_inj.1
  show BitVec.ofNat 32 a ^^^ BitVec.ofNat 32 b = BitVec.ofNat 32 (a ^^^ b)
  apply BitVec.eq_of_getLsbD_eq
  intro i hi
  simp [hi]
theorem qd_or (a b : Nat) : nI a ||| nI b = nI (a ||| b) := by
  apply Int32.toBitVec_inj.1
  show BitVec.ofNat 32 a ||| BitVec.ofNat 32 b = BitVec.ofNat 32 (a ||| b)
  apply BitVec.eq_of_getLsbD_eq
  intro i hi
  simp [hi]
theorem qd_n0 {x : Nat} (h : x = 0) : nI x = 0 := by
  subst h
  rfl
theorem qd_xm (a b : Nat) : (a ^^^ b) % 256 = (a % 256) ^^^ (b % 256) := Nat.xor_mod_two_pow (n := 8)
theorem qd_xd (a b : Nat) : (a ^^^ b) / 256 = (a / 256) ^^^ (b / 256) := Nat.xor_div_two_pow (n := 8)
theorem qd_tm (a : Nat) {i : Nat} (h : i < 8) : (a % 256).testBit i = a.testBit i := by
  have e : (a % 2 ^ 8).testBit i = (decide (i < 8) && a.testBit i) := Nat.testBit_mod_two_pow a 8 i
  rw [decide_eq_true h, Bool.true_and] at e
  exact e
theorem qd_t8 {a j : Nat} (ha : a < 256) (hj : 8 ≤ j) : a.testBit j = false :=
  Nat.testBit_lt_two_pow (Nat.lt_of_lt_of_le (show a < 2 ^ 8 from ha) (Nat.pow_le_pow_right (by decide) hj))
theorem qd_t10 {m j : Nat} (hm : m < 1024) (hj : 10 ≤ j) : m.testBit j = false :=
  Nat.testBit_lt_two_pow (Nat.lt_of_lt_of_le (show m < 2 ^ 10 from hm) (Nat.pow_le_pow_right (by decide) hj))
theorem qd_lx {a b : Nat} (ha : a < 65536) (hb : b < 65536) : a ^^^ b < 65536 := Nat.xor_lt_two_pow (n := 16) ha hb
theorem qd_lx8 {a b : Nat} (ha : a < 256) (hb : b < 256) : a ^^^ b < 256 := Nat.xor_lt_two_pow (n := 8) ha hb
theorem qd_bit {n i : Nat} (hn : n < 2 ^ 31) (hi : i < 32) : ((nI n >>> (nI i &&& 31)) &&& 1) = nI (n / 2 ^ i % 2) := by
  rw [pk_shrN hn _ i (qd_sl i hi)]
  have h : n / 2 ^ i ≤ n := Nat.div_le_self _ _
  exact pk_andN (by omega) 1 (by decide)
theorem qd_b1 {n i : Nat} (hn : n < 2 ^ 31) (hi : i < 32) (h : n.testBit i = true) : ((nI n >>> (nI i &&& 31)) &&& 1) = 1 := by
  rw [qd_bit hn hi]
  rw [Nat.testBit_eq_decide_div_mod_eq, decide_eq_true_eq] at h
  rw [h]
  exact (rfl : nI 1 = 1)
theorem qd_b0 {n i : Nat} (hn : n < 2 ^ 31) (hi : i < 32) (h : n.testBit i = false) : ((nI n >>> (nI i &&& 31)) &&& 1) = 0 := by
  rw [qd_bit hn hi]
  rw [Nat.testBit_eq_decide_div_mod_eq, decide_eq_false_iff_not] at h
  generalize n / 2 ^ i = z at h
  exact qd_n0 (by omega)
theorem qd_b1n {n i : Nat} (hn : n < 2 ^ 31) (hi : i < 32) (h : n.testBit i = true) : ¬ ((nI n >>> (nI i &&& 31)) &&& 1) = 0 := by
  rw [qd_b1 hn hi h]
  decide
theorem qd_b0n {n i : Nat} (hn : n < 2 ^ 31) (hi : i < 32) (h : n.testBit i = false) : ¬ ((nI n >>> (nI i &&& 31)) &&& 1) = 1 := by
  rw [qd_b0 hn hi h]
  decide
theorem qd_sh1 : ∀ i, i < 16 → (1 : Int32) <<< (nI i &&& 31) = nI (2 ^ i) := by decide +kernel
theorem qd_s16 : ∀ n, n < 256 → (nI n).toInt16.toInt32 = nI n := by decide +kernel
theorem qd_p2 : ∀ i, i < 8 → 2 ^ i < 256 := by decide
theorem qd_p10 : ∀ i, i < 10 → 2 ^ i < 1024 := by decide
/-- a bit cleared -/
def qd_cl (m k : Nat) : Nat := m &&& (2 ^ k ^^^ 4294967295)
theorem qd_cl_e (m : Nat) {k : Nat} (hk : k < 16) : nI m &&& (((1 : Int32) <<< (nI k &&& 31)) ^^^ (-1)) = nI (qd_cl m k) := by
  rw [qd_sh1 k hk, show (-1 : Int32) = nI 4294967295 by decide, qd_xor, qd_and]
  rfl
theorem qd_cl_lt {m k : Nat} (hm : m < 1024) : qd_cl m k < 1024 := Nat.lt_of_le_of_lt Nat.and_le_left hm
theorem qd_cl_t {m k : Nat} (hm : m < 1024) (j : Nat) : (qd_cl m k).testBit j = (m.testBit j && !decide (j = k)) := by
  unfold qd_cl
  have e32 : (4294967295 : Nat).testBit j = decide (j < 32) := Nat.testBit_two_pow_sub_one 32 j
  rw [Nat.testBit_and, Nat.testBit_xor, Nat.testBit_two_pow, e32]
  rcases Nat.lt_or_ge j 10 with h | h
  · rw [decide_eq_true (show j < 32 by omega)]
    by_cases z : j = k
    · rw [decide_eq_true z, decide_eq_true z.symm]
      rfl
    · rw [decide_eq_false z, decide_eq_false (fun y => z y.symm)]
      rfl
  · rw [qd_t10 hm h]
    rfl
/-- a bit set -/
theorem qd_or_lt {m k : Nat} (hm : m < 1024) (hk : k < 10) : m ||| 2 ^ k < 1024 := Nat.or_lt_two_pow (n := 10) hm (qd_p10 k hk)
theorem qd_or_t (m k j : Nat) : (m ||| 2 ^ k).testBit j = (m.testBit j || decide (k = j)) := by rw [Nat.testBit_or, Nat.testBit_two_pow]
/-- a set and a value in one word -/
theorem qd_dis {s v : Nat} (hs : s < 256) : s ^^^ (256 * v) = s + 256 * v := by
  have h1 := qd_xm s (256 * v)
  have h2 := qd_xd s (256 * v)
  rw [show 256 * v % 256 = 0 by omega, Nat.xor_zero] at h1
  rw [show s / 256 = 0 by omega, show 256 * v / 256 = v by omega, Nat.zero_xor] at h2
  generalize s ^^^ 256 * v = x at h1 h2
  omega
theorem qd_lowbit {p i : Nat} (h : p % 256 = 0) (hi : i < 8) : p.testBit i = false := by
  rw [← qd_tm p hi, h]
  exact Nat.zero_testBit i
theorem qd_mod0 {p : Nat} (h : ∀ i, i < 8 → p.testBit i = false) : p % 256 = 0 := by
  apply Nat.eq_of_testBit_eq
  intro i
  rw [Nat.zero_testBit]
  rcases Nat.lt_or_ge i 8 with z | z
  · rw [qd_tm p z]
    exact h i z
  · exact qd_t8 (Nat.mod_lt _ (by decide)) z
theorem qd_x1 (a b q : Nat) : (a ^^^ q) ^^^ (b ^^^ q) = a ^^^ b := Nat.eq_of_testBit_eq (fun i => by
  simp only [Nat.testBit_xor]
  cases a.testBit i <;> cases b.testBit i <;> cases q.testBit i <;> rfl)
theorem qd_x2 (a b : Nat) : a ^^^ (a ^^^ b) = b := Nat.eq_of_testBit_eq (fun i => by
  simp only [Nat.testBit_xor]
  cases a.testBit i <;> cases b.testBit i <;> rfl)
theorem qd_x3 (a b : Nat) : (a ^^^ b) ^^^ b = a := Nat.eq_of_testBit_eq (fun i => by
  simp only [Nat.testBit_xor]
  cases a.testBit i <;> cases b.testBit i <;> rfl)
theorem qd_x4 (a b q : Nat) : (a ^^^ q) ^^^ b = (a ^^^ b) ^^^ q := Nat.eq_of_testBit_eq (fun i => by
  simp only [Nat.testBit_xor]
  cases a.testBit i <;> cases b.testBit i <;> cases q.testBit i <;> rfl)
theorem qd_x5 (a b c : Nat) : (a ^^^ b) ^^^ (b ^^^ c) = a ^^^ c := Nat.eq_of_testBit_eq (fun i => by
  simp only [Nat.testBit_xor]
  cases a.testBit i <;> cases b.testBit i <;> cases c.testBit i <;> rfl)
theorem qd_xz {a b : Nat} (h : a ^^^ b = 0) : a = b := by
  have t := qd_x3 a b
  rw [h, Nat.zero_xor] at t
  exact t.symm
end
section
/-! ===== rows: reduction, reduced rows, a row included ===== -/
def qd_st (q : Nat → Nat) (i p : Nat) : Nat := if (p.testBit i && (q i).testBit i) = true then p ^^^ q i else p
def qd_red (q : Nat → Nat) : Nat → Nat → Nat
  | 0, p => p
  | i + 1, p => qd_red q i (qd_st q i p)
theorem qd_st_t {q : Nat → Nat} {i p : Nat} (h1 : p.testBit i = true) (h2 : (q i).testBit i = true) : qd_st q i p = p ^^^ q i := if_pos (by rw [h1, h2]; rfl)
theorem qd_st_f {q : Nat → Nat} {i p : Nat} (h : p.testBit i = false) : qd_st q i p = p := if_neg (by rw [h]; simp)
theorem qd_st_i {q : Nat → Nat} {i p : Nat} (h : (q i).testBit i = false) : qd_st q i p = p := if_neg (by rw [h]; simp)
theorem qd_st_x (q : Nat → Nat) (i a b : Nat) : qd_st q i (a ^^^ b) = qd_st q i a ^^^ qd_st q i b := by
  cases hq : (q i).testBit i
  · rw [qd_st_i hq, qd_st_i hq, qd_st_i hq]
  · cases ha : a.testBit i <;> cases hb : b.testBit i
    · rw [qd_st_f ha, qd_st_f hb, qd_st_f (by rw [Nat.testBit_xor, ha, hb]; rfl)]
    · rw [qd_st_f ha, qd_st_t hb hq, qd_st_t (by rw [Nat.testBit_xor, ha, hb]; rfl) hq, Nat.xor_assoc]
    · rw [qd_st_t ha hq, qd_st_f hb, qd_st_t (by rw [Nat.testBit_xor, ha, hb]; rfl) hq, qd_x4]
    · rw [qd_st_t ha hq, qd_st_t hb hq, qd_st_f (by rw [Nat.testBit_xor, ha, hb]; rfl), qd_x1]
theorem qd_red_x (q : Nat → Nat) (n a b : Nat) : qd_red q n (a ^^^ b) = qd_red q n a ^^^ qd_red q n b := by
  induction n generalizing a b with
  | zero => rfl
  | succ n ih =>
    show qd_red q n (qd_st q n (a ^^^ b)) = qd_red q n (qd_st q n a) ^^^ qd_red q n (qd_st q n b)
    rw [qd_st_x, ih]
theorem qd_red_f {q : Nat → Nat} {n p : Nat} (h : ∀ i, i < n → (q i).testBit i = true → p.testBit i = false) : qd_red q n p = p := by
  induction n with
  | zero => rfl
  | succ n ih =>
    show qd_red q n (qd_st q n p) = p
    have e : qd_st q n p = p := by
      cases hq : (q n).testBit n
      · exact qd_st_i hq
      · exact qd_st_f (h n (by omega) hq)
    rw [e]
    exact ih (fun i hi => h i (by omega))
theorem qd_red_0 (q : Nat → Nat) (n : Nat) : qd_red q n 0 = 0 := qd_red_f (fun i _ _ => Nat.zero_testBit i)
theorem qd_red_v {q : Nat → Nat} {p : Nat} (h : p % 256 = 0) : qd_red q 8 p = p := qd_red_f (fun _ hi _ => qd_lowbit h hi)
/-- reduced rows: row i is nothing, or led by piece i, which no other row has -/
def qd_R (q : Nat → Nat) : Prop := (∀ i, i < 8 → q i < 65536) ∧ (∀ i, i < 8 → q i = 0 ∨ (q i).testBit i = true) ∧ (∀ i j, i < j → j < 8 → (q i).testBit j = false) ∧ (∀ i j, i < 8 → j < 8 → i ≠ j → (q i).testBit i = true → (q j).testBit i = false)
theorem qd_red_hi {q : Nat → Nat} (h : ∀ i j, i < j → j < 8 → (q i).testBit j = false) (n i p : Nat) (hi : n ≤ i) (hi8 : i < 8) : (qd_red q n p).testBit i = p.testBit i := by
  induction n generalizing p with
  | zero => rfl
  | succ n ih =>
    show (qd_red q n (qd_st q n p)).testBit i = p.testBit i
    rw [ih _ (by omega)]
    unfold qd_st
    split
    · rw [Nat.testBit_xor, h n i (by omega) hi8, Bool.xor_false]
    · rfl
theorem qd_red_p {q : Nat → Nat} (h : ∀ i j, i < j → j < 8 → (q i).testBit j = false) (n i p : Nat) (hn : n ≤ 8) (hi : i < n) (ha : (q i).testBit i = true) : (qd_red q n p).testBit i = false := by
  induction n generalizing p with
  | zero => omega
  | succ n ih =>
    show (qd_red q n (qd_st q n p)).testBit i = false
    by_cases e : i = n
    · subst e
      rw [qd_red_hi h i i _ (Nat.le_refl _) (by omega)]
      cases hp : p.testBit i
      · rw [qd_st_f hp, hp]
      · rw [qd_st_t hp ha, Nat.testBit_xor, hp, ha]
        rfl
    · exact ih _ (by omega) (by omega)
theorem qd_red_row {q : Nat → Nat} (hR : qd_R q) (n i : Nat) (hn : n ≤ 8) (hi : i < n) : qd_red q n (q i) = 0 := by
  obtain ⟨_, h1, h2, _⟩ := hR
  rcases h1 i (by omega) with z | z
  · rw [z]
    exact qd_red_0 q n
  · induction n with
    | zero => omega
    | succ n ih =>
      show qd_red q n (qd_st q n (q i)) = 0
      by_cases e : i = n
      · subst e
        rw [qd_st_t z z, Nat.xor_self, qd_red_0]
      · rw [qd_st_f (h2 i n (by omega) (by omega))]
        exact ih (by omega) (by omega)
theorem qd_red_P {q : Nat → Nat} (P : Nat → Prop) (h0 : P 0) (hx : ∀ a b, P a → P b → P (a ^^^ b)) (n p : Nat) (hq : ∀ i, i < n → P (q i)) : P (p ^^^ qd_red q n p) := by
  induction n generalizing p with
  | zero =>
    show P (p ^^^ p)
    rw [Nat.xor_self]
    exact h0
  | succ n ih =>
    show P (p ^^^ qd_red q n (qd_st q n p))
    have t := ih (qd_st q n p) (fun i hi => hq i (by omega))
    have s : P (p ^^^ qd_st q n p) := by
      unfold qd_st
      split
      · rw [qd_x2]
        exact hq n (by omega)
      · rw [Nat.xor_self]
        exact h0
    have u := hx _ _ s t
    rw [qd_x5] at u
    exact u
theorem qd_red_K {q : Nat → Nat} (P : Nat → Prop) (h0 : P 0) (hx : ∀ a b, P a → P b → P (a ^^^ b)) (hq : ∀ i, i < 8 → P (q i)) {p : Nat} (h : qd_red q 8 p = 0) : P p := by
  have t := qd_red_P P h0 hx 8 p hq
  rw [h, Nat.xor_zero] at t
  exact t
theorem qd_red_lt {q : Nat → Nat} (hq : ∀ i, i < 8 → q i < 65536) (n p : Nat) (hn : n ≤ 8) (hp : p < 65536) : qd_red q n p < 65536 := by
  induction n generalizing p with
  | zero => exact hp
  | succ n ih =>
    show qd_red q n (qd_st q n p) < 65536
    refine ih _ (by omega) ?_
    unfold qd_st
    split
    · exact qd_lx hp (hq n (by omega))
    · exact hp
/-- a row l, led by piece t, taken into the rows -/
def qd_inc (q : Nat → Nat) (l t : Nat) : Nat → Nat := fun j => if j = t then l else if (q j).testBit t = true then q j ^^^ l else q j
theorem qd_inc_e (q : Nat → Nat) (l t : Nat) : qd_inc q l t t = l := if_pos rfl
theorem qd_inc_t {q : Nat → Nat} {l t j : Nat} (h : j ≠ t) (hb : (q j).testBit t = true) : qd_inc q l t j = q j ^^^ l := by
  unfold qd_inc
  rw [if_neg h, if_pos hb]
theorem qd_inc_f {q : Nat → Nat} {l t j : Nat} (h : j ≠ t) (hb : (q j).testBit t = false) : qd_inc q l t j = q j := by
  unfold qd_inc
  rw [if_neg h, if_neg (by rw [hb]; decide)]
def qd_T (q : Nat → Nat) (l t : Nat) : Prop := l < 65536 ∧ t < 8 ∧ l.testBit t = true ∧ (∀ j, t < j → j < 8 → l.testBit j = false) ∧ (∀ i, i < 8 → (q i).testBit i = true → l.testBit i = false)
theorem qd_inc_R {q : Nat → Nat} {l t : Nat} (hR : qd_R q) (hT : qd_T q l t) : qd_R (qd_inc q l t) := by
  obtain ⟨r0, r1, r2, r3⟩ := hR
  obtain ⟨l0, t8, lt, l1, l2⟩ := hT
  refine ⟨?_, ?_, ?_, ?_⟩
  · intro i hi
    by_cases e : i = t
    · rw [e, qd_inc_e]
      exact l0
    · cases hb : (q i).testBit t
      · rw [qd_inc_f e hb]
        exact r0 i hi
      · rw [qd_inc_t e hb]
        exact qd_lx (r0 i hi) l0
  · intro i hi
    by_cases e : i = t
    · right
      rw [e, qd_inc_e]
      exact lt
    · rcases r1 i hi with z | z
      · left
        rw [qd_inc_f e (by rw [z]; exact Nat.zero_testBit t)]
        exact z
      · right
        cases hb : (q i).testBit t
        · rw [qd_inc_f e hb]
          exact z
        · rw [qd_inc_t e hb, Nat.testBit_xor, z, l2 i hi z]
          rfl
  · intro i j hij hj
    by_cases e : i = t
    · rw [e, qd_inc_e]
      exact l1 j (by omega) hj
    · cases hb : (q i).testBit t
      · rw [qd_inc_f e hb]
        exact r2 i j hij hj
      · have ti : t < i := by
          rcases Nat.lt_or_ge t i with z | z
          · exact z
          · have y := r2 i t (by omega) t8
            rw [y] at hb
            exact absurd hb (by decide)
        rw [qd_inc_t e hb, Nat.testBit_xor, r2 i j hij hj, l1 j (by omega) hj]
        rfl
  · intro i j hi hj hij ha
    by_cases e : i = t
    · subst e
      cases hb : (q j).testBit i
      · rw [qd_inc_f (Ne.symm hij) hb]
        exact hb
      · rw [qd_inc_t (Ne.symm hij) hb, Nat.testBit_xor, hb, lt]
        rfl
    · have za : (q i).testBit i = true := by
        rcases r1 i hi with z | z
        · rw [qd_inc_f e (by rw [z]; exact Nat.zero_testBit t), z, Nat.zero_testBit] at ha
          exact absurd ha (by decide)
        · exact z
      by_cases f : j = t
      · rw [f, qd_inc_e]
        exact l2 i hi za
      · cases hb : (q j).testBit t
        · rw [qd_inc_f f hb]
          exact r3 i j hi hj hij za
        · rw [qd_inc_t f hb, Nat.testBit_xor, r3 i j hi hj hij za, l2 i hi za]
          rfl
theorem qd_inc_K {q : Nat → Nat} {l w t : Nat} (hR : qd_R q) (hT : qd_T q l t) (hle : qd_red q 8 w = l) (p : Nat) : qd_red (qd_inc q l t) 8 p = 0 ↔ qd_red q 8 p = 0 ∨ qd_red q 8 (p ^^^ w) = 0 := by
  have hR' := qd_inc_R hR hT
  have t8 := hT.2.1
  have hl : qd_red q 8 l = l := qd_red_f hT.2.2.2.2
  have hlw : qd_red q 8 (l ^^^ w) = 0 := by rw [qd_red_x, hl, hle, Nat.xor_self]
  have row : ∀ i, i < 8 → qd_red q 8 (q i) = 0 := fun i hi => qd_red_row hR 8 i (Nat.le_refl 8) hi
  have row' : ∀ i, i < 8 → qd_red (qd_inc q l t) 8 (qd_inc q l t i) = 0 := fun i hi => qd_red_row hR' 8 i (Nat.le_refl 8) hi
  have kl : qd_red (qd_inc q l t) 8 l = 0 := by
    have y := row' t t8
    rw [qd_inc_e] at y
    exact y
  constructor
  · intro h
    refine qd_red_K (fun p => qd_red q 8 p = 0 ∨ qd_red q 8 (p ^^^ w) = 0) (Or.inl (qd_red_0 q 8)) ?_ ?_ h
    · intro a b ha hb
      rcases ha with ha | ha <;> rcases hb with hb | hb
      · left
        rw [qd_red_x, ha, hb, Nat.xor_self]
      · right
        rw [Nat.xor_assoc, qd_red_x, ha, hb, Nat.xor_self]
      · right
        rw [qd_x4, qd_red_x, ha, hb, Nat.xor_self]
      · left
        have y := qd_red_x q 8 (a ^^^ w) (b ^^^ w)
        rw [qd_x1, ha, hb, Nat.xor_self] at y
        exact y
    · intro i hi
      show qd_red q 8 (qd_inc q l t i) = 0 ∨ qd_red q 8 (qd_inc q l t i ^^^ w) = 0
      by_cases e : i = t
      · right
        rw [e, qd_inc_e]
        exact hlw
      · cases hb : (q i).testBit t
        · left
          rw [qd_inc_f e hb]
          exact row i hi
        · right
          rw [qd_inc_t e hb, Nat.xor_assoc, qd_red_x, row i hi, hlw, Nat.xor_self]
  · have sub : ∀ x, qd_red q 8 x = 0 → qd_red (qd_inc q l t) 8 x = 0 := by
      intro x hx
      refine qd_red_K (fun p => qd_red (qd_inc q l t) 8 p = 0) (qd_red_0 _ 8) (fun a b ha hb => ?_) (fun i hi => ?_) hx
      · have ha' : qd_red (qd_inc q l t) 8 a = 0 := ha
        have hb' : qd_red (qd_inc q l t) 8 b = 0 := hb
        show qd_red (qd_inc q l t) 8 (a ^^^ b) = 0
        rw [qd_red_x, ha', hb', Nat.xor_self]
      · show qd_red (qd_inc q l t) 8 (q i) = 0
        rcases hR.2.1 i hi with z | z
        · rw [z]
          exact qd_red_0 _ 8
        · have e : i ≠ t := by
            intro e
            have y := hT.2.2.2.2 i hi z
            rw [e, hT.2.2.1] at y
            exact absurd y (by decide)
          have y := row' i hi
          cases hb : (q i).testBit t
          · rw [qd_inc_f e hb] at y
            exact y
          · rw [qd_inc_t e hb, qd_red_x, kl, Nat.xor_zero] at y
            exact y
    intro h
    rcases h with h | h
    · exact sub p h
    · have a := sub _ h
      have b := sub _ hlw
      rw [qd_red_x, kl, Nat.zero_xor] at b
      rw [qd_red_x, b, Nat.xor_zero] at a
      exact a
theorem qd_inc_id {q : Nat → Nat} {w : Nat} (h : qd_red q 8 w = 0) (p : Nat) : qd_red q 8 p = 0 ↔ qd_red q 8 p = 0 ∨ qd_red q 8 (p ^^^ w) = 0 := by
  constructor
  · exact Or.inl
  · intro z
    rcases z with z | z
    · exact z
    · rw [qd_red_x, h, Nat.xor_zero] at z
      exact z
/-- a row that is a piece by itself -/
theorem qd_single {q : Nat → Nat} (hR : qd_R q) {i p : Nat} (hi : i < 8) (hp : p % 256 = 2 ^ i) (h : qd_red q 8 p = 0) : q i = p := by
  have hpb : ∀ j, j < 8 → p.testBit j = decide (i = j) := fun j hj => by rw [← qd_tm p hj, hp, Nat.testBit_two_pow]
  have za : (q i).testBit i = true := by
    cases z : (q i).testBit i
    · exfalso
      have y : qd_red q 8 p = p := qd_red_f (fun j hj hq => by
        rw [hpb j hj]
        refine decide_eq_false (fun e => ?_)
        rw [← e, z] at hq
        exact absurd hq (by decide))
      rw [h] at y
      rw [← y] at hp
      have := Nat.two_pow_pos i
      omega
    · rfl
  have r := qd_red_row hR 8 i (Nat.le_refl 8) hi
  have f : qd_red q 8 (q i ^^^ p) = q i ^^^ p := qd_red_f (fun j hj hq => by
    rw [Nat.testBit_xor, hpb j hj]
    by_cases e : i = j
    · subst e
      rw [za, decide_eq_true rfl]
      rfl
    · rw [hR.2.2.2 j i hj hi (fun z => e z.symm) hq, decide_eq_false e]
      rfl)
  rw [qd_red_x, r, h, Nat.xor_self] at f
  exact qd_xz f.symm
end
section
/-! ===== what some of the kept drops can be put together to ===== -/
def qd_sp (g : Nat → Nat) (m : Nat) : Nat → Nat → Bool
  | 0, p => p == 0
  | n + 1, p => qd_sp g m n p || (m.testBit n && qd_sp g m n (p ^^^ g n))
theorem qd_sp_s {g : Nat → Nat} {m n p : Nat} : qd_sp g m (n + 1) p = true ↔ qd_sp g m n p = true ∨ (m.testBit n = true ∧ qd_sp g m n (p ^^^ g n) = true) := by
  show (qd_sp g m n p || (m.testBit n && qd_sp g m n (p ^^^ g n))) = true ↔ _
  rw [Bool.or_eq_true, Bool.and_eq_true]
theorem qd_sp_z {g : Nat → Nat} {m p : Nat} : qd_sp g m 0 p = true ↔ p = 0 := by
  show (p == 0) = true ↔ _
  exact beq_iff_eq
theorem qd_sp_0 (g : Nat → Nat) (m n : Nat) : qd_sp g m n 0 = true := by
  induction n with
  | zero => rfl
  | succ n ih => exact qd_sp_s.mpr (Or.inl ih)
theorem qd_sp_x {g : Nat → Nat} {m : Nat} (n a b : Nat) (ha : qd_sp g m n a = true) (hb : qd_sp g m n b = true) : qd_sp g m n (a ^^^ b) = true := by
  induction n generalizing a b with
  | zero =>
    have ha' := qd_sp_z.mp ha
    have hb' := qd_sp_z.mp hb
    subst ha'
    subst hb'
    exact qd_sp_0 g m 0
  | succ n ih =>
    rw [qd_sp_s] at ha hb ⊢
    rcases ha with ha | ⟨hm, ha⟩ <;> rcases hb with hb | ⟨hm', hb⟩
    · exact Or.inl (ih _ _ ha hb)
    · refine Or.inr ⟨hm', ?_⟩
      rw [Nat.xor_assoc]
      exact ih _ _ ha hb
    · refine Or.inr ⟨hm, ?_⟩
      rw [qd_x4]
      exact ih _ _ ha hb
    · left
      have y := ih _ _ ha hb
      rw [qd_x1] at y
      exact y
theorem qd_sp_le {g : Nat → Nat} {m p : Nat} (n d : Nat) (hp : qd_sp g m n p = true) : qd_sp g m (n + d) p = true := by
  induction d with
  | zero => exact hp
  | succ d ih => exact qd_sp_s.mpr (Or.inl ih)
theorem qd_sp_10 {g : Nat → Nat} {m p n : Nat} (h : n ≤ 10) (hp : qd_sp g m n p = true) : qd_sp g m 10 p = true := by
  have y := qd_sp_le n (10 - n) hp
  rw [show n + (10 - n) = 10 by omega] at y
  exact y
theorem qd_sp_g {g : Nat → Nat} {m k : Nat} (hk : k < 10) (hm : m.testBit k = true) : qd_sp g m 10 (g k) = true :=
  qd_sp_10 (n := k + 1) (by omega) (qd_sp_s.mpr (Or.inr ⟨hm, by rw [Nat.xor_self]; exact qd_sp_0 g m k⟩))
theorem qd_sp_m {g : Nat → Nat} {m m' : Nat} (h : ∀ k, m'.testBit k = true → m.testBit k = true) (n p : Nat) (hp : qd_sp g m' n p = true) : qd_sp g m n p = true := by
  induction n generalizing p with
  | zero => exact hp
  | succ n ih =>
    rw [qd_sp_s] at hp ⊢
    rcases hp with hp | ⟨hb, hp⟩
    · exact Or.inl (ih _ hp)
    · exact Or.inr ⟨h n hb, ih _ hp⟩
def qd_up (g : Nat → Nat) (k w : Nat) : Nat → Nat := fun j => if j = k then w else g j
theorem qd_up_e (g : Nat → Nat) (k w : Nat) : qd_up g k w k = w := if_pos rfl
theorem qd_up_n (g : Nat → Nat) {k j : Nat} (w : Nat) (h : j ≠ k) : qd_up g k w j = g j := if_neg h
theorem qd_sp_lo {g : Nat → Nat} {m m' k w : Nat} (h : ∀ j, j ≠ k → m'.testBit j = m.testBit j) (n p : Nat) (hn : n ≤ k) : qd_sp (qd_up g k w) m' n p = qd_sp g m n p := by
  induction n generalizing p with
  | zero => rfl
  | succ n ih =>
    show (qd_sp (qd_up g k w) m' n p || (m'.testBit n && qd_sp (qd_up g k w) m' n (p ^^^ qd_up g k w n))) = (qd_sp g m n p || (m.testBit n && qd_sp g m n (p ^^^ g n)))
    rw [ih _ (by omega), ih _ (by omega), h n (by omega), qd_up_n g w (show n ≠ k by omega)]
theorem qd_sp_up {g : Nat → Nat} {m m' k w : Nat} (h : ∀ j, j ≠ k → m'.testBit j = m.testBit j) (h0 : m.testBit k = false) (h1 : m'.testBit k = true) (n p : Nat) (hn : k < n) : qd_sp (qd_up g k w) m' n p = true ↔ qd_sp g m n p = true ∨ qd_sp g m n (p ^^^ w) = true := by
  induction n generalizing p with
  | zero => omega
  | succ n ih =>
    rw [qd_sp_s, qd_sp_s, qd_sp_s]
    by_cases e : k = n
    · subst e
      rw [qd_sp_lo h k _ (Nat.le_refl _), qd_sp_lo h k _ (Nat.le_refl _), qd_up_e, h0, h1]
      simp
    · rw [ih _ (by omega), ih _ (by omega), qd_up_n g w (show n ≠ k by omega), h n (by omega), qd_x4 p w (g n)]
      constructor
      · intro z
        rcases z with (z | z) | ⟨y, z | z⟩
        · exact Or.inl (Or.inl z)
        · exact Or.inr (Or.inl z)
        · exact Or.inl (Or.inr ⟨y, z⟩)
        · exact Or.inr (Or.inr ⟨y, z⟩)
      · intro z
        rcases z with (z | ⟨y, z⟩) | (z | ⟨y, z⟩)
        · exact Or.inl (Or.inl z)
        · exact Or.inr ⟨y, Or.inl z⟩
        · exact Or.inl (Or.inr z)
        · exact Or.inr ⟨y, Or.inr z⟩
/-- no two values for one set -/
def qd_C (g : Nat → Nat) (m : Nat) : Prop := ∀ p, qd_sp g m 10 p = true → p % 256 = 0 → p = 0
theorem qd_C_m {g : Nat → Nat} {m m' : Nat} (h : ∀ k, m'.testBit k = true → m.testBit k = true) (hC : qd_C g m) : qd_C g m' := fun p hp => hC p (qd_sp_m h 10 p hp)
/-- how many rows the drops make -/
def qd_rk (g : Nat → Nat) (m : Nat) : Nat → Nat
  | 0 => 0
  | n + 1 => if (m.testBit n && !(qd_sp g m n (g n))) = true then qd_rk g m n + 1 else qd_rk g m n
theorem qd_rk_f {g : Nat → Nat} {m n : Nat} (h : m.testBit n = false) : qd_rk g m (n + 1) = qd_rk g m n := if_neg (by rw [h]; simp)
theorem qd_rk_i {g : Nat → Nat} {m n : Nat} (h : qd_sp g m n (g n) = true) : qd_rk g m (n + 1) = qd_rk g m n := if_neg (by rw [h]; simp)
theorem qd_rk_t {g : Nat → Nat} {m n : Nat} (h : m.testBit n = true) (h2 : qd_sp g m n (g n) = false) : qd_rk g m (n + 1) = qd_rk g m n + 1 := if_pos (by rw [h, h2]; rfl)
/-- the rows q make just what the drops make -/
def qd_E (q g : Nat → Nat) (m n : Nat) : Prop := ∀ p, qd_red q 8 p = 0 ↔ qd_sp g m n p = true
theorem qd_E_C {q g : Nat → Nat} {m : Nat} (h : qd_E q g m 10) : qd_C g m := fun p hp hz => by
  have y := (h p).mpr hp
  rw [qd_red_v hz] at y
  exact y
theorem qd_red_pv {q : Nat → Nat} (hR : qd_R q) (w : Nat) : ∀ i, i < 8 → (q i).testBit i = true → (qd_red q 8 w).testBit i = false := fun i hi ha => qd_red_p hR.2.2.1 8 i w (Nat.le_refl 8) hi ha
theorem qd_red_i {q : Nat → Nat} (hR : qd_R q) (w : Nat) : qd_red q 8 (qd_red q 8 w) = qd_red q 8 w := qd_red_f (qd_red_pv hR w)
theorem qd_red_w {q : Nat → Nat} (hR : qd_R q) (w : Nat) : qd_red q 8 (qd_red q 8 w ^^^ w) = 0 := by rw [qd_red_x, qd_red_i hR, Nat.xor_self]
/-- one drop more: nothing is left of it but nothing at all -/
theorem qd_step_c {q g : Nat → Nat} {m n : Nat} (hR : qd_R q) (hE : qd_E q g m n) (hn : n < 10) (hb : m.testBit n = true) (hC : qd_C g m) (hz : qd_red q 8 (g n) % 256 = 0) : qd_red q 8 (g n) = 0 :=
  hC _ (qd_sp_10 (n := n + 1) (by omega) (qd_sp_s.mpr (Or.inr ⟨hb, (hE _).mp (qd_red_w hR (g n))⟩))) hz
theorem qd_step_E {q q' g : Nat → Nat} {m n : Nat} (hE : qd_E q g m n) (hb : m.testBit n = true) (h : ∀ p, qd_red q' 8 p = 0 ↔ qd_red q 8 p = 0 ∨ qd_red q 8 (p ^^^ g n) = 0) : qd_E q' g m (n + 1) := by
  intro p
  rw [h p, hE p, hE (p ^^^ g n), qd_sp_s, hb]
  simp
theorem qd_step_0 {q g : Nat → Nat} {m n : Nat} (hE : qd_E q g m n) (hb : m.testBit n = false) : qd_E q g m (n + 1) := by
  intro p
  rw [hE p, qd_sp_s, hb]
  simp
/-- a drop taken -/
theorem qd_take_E {q q' g : Nat → Nat} {m m' k w : Nat} (hE : qd_E q g m 10) (hk : k < 10) (h : ∀ j, j ≠ k → m'.testBit j = m.testBit j) (h0 : m.testBit k = false) (h1 : m'.testBit k = true) (hq : ∀ p, qd_red q' 8 p = 0 ↔ qd_red q 8 p = 0 ∨ qd_red q 8 (p ^^^ w) = 0) : qd_E q' (qd_up g k w) m' 10 := by
  intro p
  rw [hq p, hE p, hE (p ^^^ w)]
  exact (qd_sp_up h h0 h1 10 p hk).symm
/-! ===== the answers ===== -/
/-- what sum answers -/
def qd_S (g : Nat → Nat) (m s : Nat) (r : Int32) : Prop := (∃ v, v < 256 ∧ r = nI v ∧ qd_sp g m 10 (s + 256 * v) = true) ∨ (r = -1 ∧ ∀ v, v < 256 → qd_sp g m 10 (s + 256 * v) = false)
theorem qd_val {g : Nat → Nat} {m s v v' : Nat} (hC : qd_C g m) (hs : s < 256) (h : qd_sp g m 10 (s + 256 * v) = true) (h' : qd_sp g m 10 (s + 256 * v') = true) : v = v' := by
  have y := qd_sp_x 10 _ _ h h'
  have z := qd_xm (s + 256 * v) (s + 256 * v')
  rw [show (s + 256 * v) % 256 = s by omega, show (s + 256 * v') % 256 = s by omega, Nat.xor_self] at z
  have e := qd_xz (hC _ y z)
  omega
theorem qd_S_f {g : Nat → Nat} {m s : Nat} {r r' : Int32} (hC : qd_C g m) (hs : s < 256) (h : qd_S g m s r) (h' : qd_S g m s r') : r = r' := by
  rcases h with ⟨v, hv, rfl, h⟩ | ⟨rfl, h⟩ <;> rcases h' with ⟨v', hv', rfl, h'⟩ | ⟨rfl, h'⟩
  · rw [qd_val hC hs h h']
  · rw [h' v hv] at h
    exact absurd h (by decide)
  · rw [h v' hv'] at h'
    exact absurd h' (by decide)
  · rfl
theorem qd_S_neg {g : Nat → Nat} {m s : Nat} {r : Int32} (h : qd_S g m s r) (hr : r < 0) : ∀ v, v < 256 → qd_sp g m 10 (s + 256 * v) = false := by
  rcases h with ⟨v, hv, rfl, h⟩ | ⟨rfl, h⟩
  · exact absurd hr (nI_pos (by omega))
  · exact h
theorem qd_S_pos {g : Nat → Nat} {m s : Nat} {r : Int32} (h : qd_S g m s r) (hr : ¬ r < 0) : ∃ v, v < 256 ∧ r = nI v ∧ qd_sp g m 10 (s + 256 * v) = true := by
  rcases h with h | ⟨rfl, h⟩
  · exact h
  · exact absurd (by decide) hr
theorem qd_red_sv {q : Nat → Nat} {s v : Nat} (hs : s < 256) : qd_red q 8 (s + 256 * v) = qd_red q 8 s ^^^ (256 * v) := by
  rw [← qd_dis hs, qd_red_x, qd_red_v (show 256 * v % 256 = 0 by omega)]
theorem qd_S_red {q g : Nat → Nat} {m s : Nat} (hE : qd_E q g m 10) (hs : s < 256) (hl : qd_red q 8 s < 65536) : qd_S g m s (if qd_red q 8 s % 256 = 0 then nI (qd_red q 8 s / 256) else -1) := by
  by_cases e : qd_red q 8 s % 256 = 0
  · rw [if_pos e]
    refine Or.inl ⟨qd_red q 8 s / 256, by omega, rfl, (hE _).mp ?_⟩
    rw [qd_red_sv hs, show 256 * (qd_red q 8 s / 256) = qd_red q 8 s by omega, Nat.xor_self]
  · rw [if_neg e]
    refine Or.inr ⟨rfl, fun v hv => ?_⟩
    cases z : qd_sp g m 10 (s + 256 * v)
    · rfl
    · exfalso
      have y := (hE _).mpr z
      rw [qd_red_sv hs] at y
      have x := qd_xz y
      omega
/-- a drop refused, a drop taken -/
theorem qd_refuse {q g : Nat → Nat} {m s v : Nat} (hR : qd_R q) (hE : qd_E q g m 10) (hs : s < 256) (hv : v < 256) (h1 : qd_red q 8 (s + 256 * v) % 256 = 0) (h2 : qd_red q 8 (s + 256 * v) / 256 ≠ 0) : ∃ v', v' < 256 ∧ v' ≠ v ∧ qd_sp g m 10 (s + 256 * v') = true := by
  have hl := qd_red_lt hR.1 8 (s + 256 * v) (Nat.le_refl 8) (by omega)
  generalize e : qd_red q 8 (s + 256 * v) = l at h1 h2 hl
  have hc : l / 256 < 256 := by omega
  refine ⟨v ^^^ (l / 256), qd_lx8 hv hc, fun z => h2 ?_, (hE _).mp ?_⟩
  · have y := qd_x2 v (l / 256)
    rw [z, Nat.xor_self] at y
    exact y.symm
  · have y : (256 * v) ^^^ l = 256 * (v ^^^ (l / 256)) := by
      have a1 := qd_xm (256 * v) l
      have a2 := qd_xd (256 * v) l
      rw [h1, show 256 * v % 256 = 0 by omega, Nat.xor_self] at a1
      rw [show 256 * v / 256 = v by omega] at a2
      generalize 256 * v ^^^ l = x at a1 a2
      omega
    rw [← qd_dis hs, ← y, ← Nat.xor_assoc, qd_dis hs, qd_red_x, e, qd_red_v h1, Nat.xor_self]
theorem qd_accept {q g : Nat → Nat} {m s v : Nat} (hE : qd_E q g m 10) (hs : s < 256) (h : qd_red q 8 (s + 256 * v) % 256 = 0 → qd_red q 8 (s + 256 * v) = 0) (v' : Nat) (hv' : qd_sp g m 10 (s + 256 * v') = true) : v' = v := by
  have y := (hE _).mpr hv'
  rw [qd_red_sv hs] at y h
  have e := qd_xz y
  rw [e] at h
  have z := qd_xz (h (by rw [qd_xm]; rw [show 256 * v' % 256 = 0 by omega, show 256 * v % 256 = 0 by omega]; rfl))
  omega
/-- the pieces that are rows by themselves -/
def qd_sg (q : Nat → Nat) : Nat → Nat
  | 0 => 0
  | n + 1 => qd_sg q n ||| (if q n % 256 = 2 ^ n then 2 ^ n else 0)
theorem qd_sg_lt (q : Nat → Nat) (n : Nat) (hn : n ≤ 8) : qd_sg q n < 256 := by
  induction n with
  | zero => exact (by decide : (0 : Nat) < 256)
  | succ n ih =>
    refine Nat.or_lt_two_pow (n := 8) (ih (by omega)) ?_
    split
    · exact qd_p2 n (by omega)
    · decide
theorem qd_sg_t (q : Nat → Nat) (n j : Nat) : (qd_sg q n).testBit j = true ↔ j < n ∧ q j % 256 = 2 ^ j := by
  induction n with
  | zero =>
    rw [show qd_sg q 0 = 0 from rfl, Nat.zero_testBit]
    constructor
    · intro z
      exact absurd z (by decide)
    · intro z
      omega
  | succ n ih =>
    rw [show qd_sg q (n + 1) = qd_sg q n ||| (if q n % 256 = 2 ^ n then 2 ^ n else 0) from rfl, Nat.testBit_or, Bool.or_eq_true, ih]
    by_cases e : q n % 256 = 2 ^ n
    · rw [if_pos e, Nat.testBit_two_pow, decide_eq_true_eq]
      constructor
      · intro z
        rcases z with z | z
        · exact ⟨by omega, z.2⟩
        · subst z
          exact ⟨by omega, e⟩
      · intro z
        by_cases y : n = j
        · exact Or.inr y
        · exact Or.inl ⟨by omega, z.2⟩
    · rw [if_neg e, Nat.zero_testBit]
      constructor
      · intro z
        rcases z with z | z
        · exact ⟨by omega, z.2⟩
        · exact absurd z (by decide)
      · intro z
        refine Or.inl ⟨?_, z.2⟩
        rcases Nat.lt_or_ge j n with y | y
        · exact y
        · have x : j = n := by omega
          rw [x] at z
          exact absurd z.2 e
def qd_N (g : Nat → Nat) (m kk : Nat) : Prop := kk < 256 ∧ ∀ i, i < 8 → (kk.testBit i = true ↔ ∃ v, v < 256 ∧ qd_sp g m 10 (2 ^ i + 256 * v) = true)
theorem qd_sg_i {q : Nat → Nat} (hR : qd_R q) {i : Nat} (hi : i < 8) : q i % 256 = 2 ^ i ↔ ∃ v, v < 256 ∧ qd_red q 8 (2 ^ i + 256 * v) = 0 := by
  have hp := qd_p2 i hi
  constructor
  · intro z
    have hq := hR.1 i hi
    refine ⟨q i / 256, by omega, ?_⟩
    rw [show 2 ^ i + 256 * (q i / 256) = q i by omega]
    exact qd_red_row hR 8 i (Nat.le_refl 8) hi
  · intro z
    obtain ⟨v, hv, z⟩ := z
    have e : (2 ^ i + 256 * v) % 256 = 2 ^ i := by
      generalize 2 ^ i = x at hp
      omega
    have y := qd_single hR hi e z
    rw [y]
    exact e
theorem qd_sg_N {q g : Nat → Nat} {m : Nat} (hR : qd_R q) (hE : qd_E q g m 10) : qd_N g m (qd_sg q 8) := by
  refine ⟨qd_sg_lt q 8 (Nat.le_refl 8), fun i hi => ?_⟩
  rw [qd_sg_t, qd_sg_i hR hi]
  constructor
  · intro z
    obtain ⟨_, v, hv, z⟩ := z
    exact ⟨v, hv, (hE _).mp z⟩
  · intro z
    obtain ⟨v, hv, z⟩ := z
    exact ⟨hi, v, hv, (hE _).mpr z⟩
theorem qd_N_f {g : Nat → Nat} {m k k' : Nat} (h : qd_N g m k) (h' : qd_N g m k') : k = k' := by
  apply Nat.eq_of_testBit_eq
  intro i
  rcases Nat.lt_or_ge i 8 with z | z
  · have a := h.2 i z
    have b := h'.2 i z
    rw [← b] at a
    cases x : k.testBit i <;> cases y : k'.testBit i
    · rfl
    · rw [x, y] at a
      exact absurd (a.mpr rfl) (by decide)
    · rw [x, y] at a
      exact absurd (a.mp rfl) (by decide)
    · rfl
  · rw [qd_t8 h.1 z, qd_t8 h'.1 z]
/-- how many -/
def qd_on (c : Nat) : Nat → Nat
  | 0 => 0
  | n + 1 => qd_on c n + c / 2 ^ n % 2
theorem qd_on_le (c n : Nat) : qd_on c n ≤ n := by
  induction n with
  | zero => exact Nat.le_refl 0
  | succ n ih =>
    show qd_on c n + c / 2 ^ n % 2 ≤ n + 1
    generalize c / 2 ^ n = z
    omega
theorem qd_on_m {c d : Nat} (n : Nat) (h : ∀ j, j < n → c.testBit j = true → d.testBit j = true) : qd_on c n ≤ qd_on d n := by
  induction n with
  | zero => exact Nat.le_refl 0
  | succ n ih =>
    show qd_on c n + c / 2 ^ n % 2 ≤ qd_on d n + d / 2 ^ n % 2
    have a := ih (fun j hj => h j (by omega))
    have b := h n (by omega)
    rw [Nat.testBit_eq_decide_div_mod_eq, Nat.testBit_eq_decide_div_mod_eq, decide_eq_true_eq, decide_eq_true_eq] at b
    generalize c / 2 ^ n = x at b
    generalize d / 2 ^ n = y at b
    omega
theorem qd_on_10 {c : Nat} (h : c < 256) : qd_on c 10 = qd_on c 8 := by
  show qd_on c 8 + c / 2 ^ 8 % 2 + c / 2 ^ 9 % 2 = qd_on c 8
  omega
end
section
/-! ===== the walk: rows ===== -/
def qd_A (a b : Nat → Int32) (q : Nat → Nat) (n : Nat) : Prop := ∀ j, j < n → a j = nI (q j % 256) ∧ b j = nI (q j / 256)
theorem qd_clear {post : St1 → Prop} {f0 f1 f2 f3 f4 : Int32} {a1 a2 a3 a4 : Nat → Int32}
    (H : ∀ b3 b4 : Nat → Int32, (∀ j, j < 8 → b3 j = 0 ∧ b4 j = 0) → post (f0, f1, 0, f3, f4, a1, a2, b3, b4)) :
    wpX_clearRows post (f0, f1, f2, f3, f4, a1, a2, a3, a4) := by
  unfold wpX_clearRows
  refine pk_loop (fun n i (s : (Nat → Int32) × (Nat → Int32)) => wX_clearRows_2 post f0 f1 f2 f3 f4 n (nI i) a1 a2 s.1 s.2) (fun i s => ∀ j, j < i → s.1 j = 0 ∧ s.2 j = 0) 8 0 (a3, a4) (by omega) (fun j hj => absurd hj (by omega)) ?_ ?_
  · intro n s h
    exact pk_le 8 8 (fun _ => H s.1 s.2 h) (fun z => absurd z (by omega))
  · intro n i s hi h hw
    have ei : (nI i).toNatClampNeg = i := nI_clamp (by omega)
    refine pk_le 8 i (fun z => absurd z (by omega)) (fun _ => ⟨pk_in i 8 hi, nm_r (e' := upd s.1 i 0) (by rw [ei]) ⟨pk_in i 8 hi, nm_r (e' := upd s.2 i 0) (by rw [ei]) (nm_r (nI_1 i) (hw (upd s.1 i 0, upd s.2 i 0) ?_))⟩⟩)
    intro j hj
    show upd s.1 i 0 j = 0 ∧ upd s.2 i 0 j = 0
    by_cases e : j = i
    · subst e
      exact ⟨pk_us, pk_us⟩
    · rw [pk_un e, pk_un e]
      exact h j (by omega)
theorem qd_reduce_l {post : St1 → Prop} {f0 f1 f2 : Int32} {a1 a2 a3 a4 : Nat → Int32} {q : Nat → Nat} (hR : qd_R q) (hA : qd_A a3 a4 q 8) (i p : Nat) (hi : i ≤ 8) (hp : p < 65536)
    (h : post (f0, f1, f2, nI (qd_red q i p % 256), nI (qd_red q i p / 256), a1, a2, a3, a4)) :
    wX_reduce_13 post f0 f1 f2 a1 a2 a3 a4 (i + 1) (nI i + (-1)) (nI (p % 256)) (nI (p / 256)) := by
  induction i generalizing p with
  | zero => exact br_t (by decide) h
  | succ i ih =>
    rw [pk_m1]
    have ec : (nI i).toNatClampNeg = i := nI_clamp (by omega)
    have hA3 := (hA i (by omega)).1
    have hA4 := (hA i (by omega)).2
    have h' : post (f0, f1, f2, nI (qd_red q i (qd_st q i p) % 256), nI (qd_red q i (qd_st q i p) / 256), a1, a2, a3, a4) := h
    refine br_f (nI_pos (by omega)) ?_
    cases hb : p.testBit i
    · rw [qd_st_f hb] at h'
      exact br_t (qd_b0 (by omega) (by omega) (by rw [qd_tm p (by omega)]; exact hb)) (nm_e (ih p (by omega) hp h'))
    · refine br_f (qd_b1n (by omega) (by omega) (by rw [qd_tm p (by omega)]; exact hb)) ⟨pk_in i 8 (by omega), ?_⟩
      rcases hR.2.1 i (by omega) with z | z
      · have z2 : (q i).testBit i = false := by
          rw [z]
          exact Nat.zero_testBit i
        rw [qd_st_i z2] at h'
        exact br_t (by rw [ec, hA3]; exact qd_n0 (by rw [z])) (nm_e (ih p (by omega) hp h'))
      · rw [qd_st_t hb z] at h'
        have hq := hR.1 i (by omega)
        have hn : q i % 256 ≠ 0 := fun y => by
          rw [qd_lowbit y (by omega)] at z
          exact absurd z (by decide)
        refine br_f (by rw [ec, hA3]; exact nI_ne0 (by omega) (by omega)) ⟨pk_in i 8 (by omega), nm_r (e' := nI ((p ^^^ q i) % 256)) (by rw [ec, hA3, qd_xor, ← qd_xm]) ⟨pk_in i 8 (by omega), nm_r (e' := nI ((p ^^^ q i) / 256)) (by rw [ec, hA4, qd_xor, ← qd_xd]) (nm_e ?_)⟩⟩
        exact ih (p ^^^ q i) (by omega) (qd_lx hp hq) h'
theorem qd_reduce {post : St1 → Prop} {f0 f1 f2 f3 f4 : Int32} {a1 a2 a3 a4 : Nat → Int32} {q : Nat → Nat} {p : Nat} {p0 p1 : Int32} (hR : qd_R q) (hA : qd_A a3 a4 q 8) (hp : p < 65536) (e0 : p0 = nI (p % 256)) (e1 : p1 = nI (p / 256))
    (h : post (f0, f1, f2, nI (qd_red q 8 p % 256), nI (qd_red q 8 p / 256), a1, a2, a3, a4)) :
    wpX_reduce post (f0, f1, f2, f3, f4, a1, a2, a3, a4) p0 p1 := by
  subst e0
  subst e1
  unfold wpX_reduce
  exact ⟨9, qd_reduce_l hR hA 8 p (Nat.le_refl 8) hp h⟩
theorem qd_leader {post : Int32 → Prop} {l : Nat} (hl : l < 256) (h0 : l ≠ 0) (H : ∀ t, t < 8 → l.testBit t = true → (∀ j, t < j → j < 8 → l.testBit j = false) → post (nI t)) : wpX_leader post () (nI l) := by
  have key : ∀ i, i < 8 → (∀ j, i < j → j < 8 → l.testBit j = false) → wX_leader_3 post (nI l) (i + 1) (nI i) := by
    intro i
    induction i with
    | zero =>
      intro _ h
      refine br_t (by decide) (H 0 (by omega) ?_ h)
      cases hb : l.testBit 0
      · exfalso
        apply h0
        apply Nat.eq_of_testBit_eq
        intro j
        rw [Nat.zero_testBit]
        rcases Nat.lt_or_ge j 8 with z | z
        · by_cases e : j = 0
          · rw [e]
            exact hb
          · exact h j (by omega) z
        · exact qd_t8 hl z
      · rfl
    | succ i ih =>
      intro hi h
      refine br_f (nI_nle (by omega) (by omega)) ?_
      cases hb : l.testBit (i + 1)
      · refine br_t (qd_b0 (by omega) (by omega) hb) (nm_r (pk_m1 i) (ih (by omega) ?_))
        intro j h1 h2
        by_cases e : j = i + 1
        · rw [e]
          exact hb
        · exact h j (by omega) h2
      · exact br_f (qd_b1n (by omega) (by omega) hb) (H (i + 1) hi hb h)
  unfold wpX_leader
  exact ⟨8, key 7 (by omega) (fun j h1 h2 => absurd h1 (by omega))⟩
def qd_mid (q : Nat → Nat) (l t i : Nat) : Nat → Nat := fun k => if k < i ∧ (q k).testBit t = true then q k ^^^ l else q k
theorem qd_mid_ge {q : Nat → Nat} {l t i k : Nat} (h : i ≤ k) : qd_mid q l t i k = q k := if_neg (fun z => absurd z.1 (by omega))
theorem qd_mid_f {q : Nat → Nat} {l t i k : Nat} (h : (q k).testBit t = false) : qd_mid q l t i k = q k := if_neg (fun z => by
  have y := z.2
  rw [h] at y
  exact absurd y (by decide))
theorem qd_mid_t {q : Nat → Nat} {l t i k : Nat} (h1 : k < i) (h : (q k).testBit t = true) : qd_mid q l t i k = q k ^^^ l := if_pos ⟨h1, h⟩
theorem qd_mid_n {q : Nat → Nat} {l t i k : Nat} (h : k ≠ i) : qd_mid q l t (i + 1) k = qd_mid q l t i k := by
  rcases Nat.lt_or_ge k i with z | z
  · cases hb : (q k).testBit t
    · rw [qd_mid_f hb, qd_mid_f hb]
    · rw [qd_mid_t (by omega) hb, qd_mid_t z hb]
  · rw [qd_mid_ge (by omega), qd_mid_ge (by omega)]
theorem qd_incl_l {post : St1 → Prop} {f0 f1 f2 : Int32} {a1 a2 a3 a4 : Nat → Int32} {q : Nat → Nat} {l t : Nat} (hR : qd_R q) (hT : qd_T q l t) (hA : qd_A a3 a4 q 8)
    (H : ∀ b3 b4 : Nat → Int32, qd_A b3 b4 (qd_inc q l t) 8 → post (f0, f1, f2 + 1, nI (l % 256), nI (l / 256), a1, a2, b3, b4)) :
    ∃ n, wX_include_25 post (nI t) f0 f1 f2 (nI (l % 256)) (nI (l / 256)) n 0 a1 a2 a3 a4 := by
  have l0 := hT.1
  have t8 := hT.2.1
  have et : (nI t).toNatClampNeg = t := nI_clamp (by omega)
  refine pk_loop (fun n i (s : (Nat → Int32) × (Nat → Int32)) => wX_include_25 post (nI t) f0 f1 f2 (nI (l % 256)) (nI (l / 256)) n (nI i) a1 a2 s.1 s.2) (fun i s => qd_A s.1 s.2 (qd_mid q l t i) 8) 8 0 (a3, a4) (by omega) ?_ ?_ ?_
  · intro j hj
    rw [qd_mid_ge (Nat.zero_le j)]
    exact hA j hj
  · intro n s h
    refine pk_le 8 8 (fun _ => ⟨pk_in t 8 t8, nm_r (e' := upd s.1 t (nI (l % 256))) (by rw [et, qd_s16 _ (by omega)]) ⟨pk_in t 8 t8, nm_r (e' := upd s.2 t (nI (l / 256))) (by rw [et, qd_s16 _ (by omega)]) (nm_e (H _ _ ?_))⟩⟩) (fun z => absurd z (by omega))
    intro j hj
    by_cases e : j = t
    · subst e
      rw [pk_us, pk_us, qd_inc_e]
      exact ⟨rfl, rfl⟩
    · rw [pk_un e, pk_un e]
      have y := h j hj
      cases hb : (q j).testBit t
      · rw [qd_inc_f e hb]
        rw [qd_mid_f hb] at y
        exact y
      · rw [qd_inc_t e hb]
        rw [qd_mid_t hj hb] at y
        exact y
  · intro n i s hi h hw
    have ei : (nI i).toNatClampNeg = i := nI_clamp (by omega)
    have hs := h i hi
    rw [qd_mid_ge (Nat.le_refl i)] at hs
    have hq := hR.1 i hi
    refine pk_le 8 i (fun z => absurd z (by omega)) (fun _ => ⟨pk_in i 8 hi, ?_⟩)
    cases hb : (q i).testBit t
    · refine br_t (by rw [ei, hs.1]; exact qd_b0 (by omega) (by omega) (by rw [qd_tm _ t8]; exact hb)) (nm_r (nI_1 i) (hw s ?_))
      intro j hj
      by_cases e : j = i
      · subst e
        rw [qd_mid_f hb]
        exact hs
      · rw [qd_mid_n e]
        exact h j hj
    · have hx := qd_lx hq l0
      refine br_f (by rw [ei, hs.1]; exact qd_b1n (by omega) (by omega) (by rw [qd_tm _ t8]; exact hb)) ⟨pk_in i 8 hi, pk_in i 8 hi, nm_r (e' := upd s.1 i (nI ((q i ^^^ l) % 256))) (by rw [ei, hs.1, qd_xor, ← qd_xm, qd_s16 _ (by omega)]) ⟨pk_in i 8 hi, pk_in i 8 hi, nm_r (e' := upd s.2 i (nI ((q i ^^^ l) / 256))) (by rw [ei, hs.2, qd_xor, ← qd_xd, qd_s16 _ (by omega)]) (nm_r (nI_1 i) (hw (upd s.1 i (nI ((q i ^^^ l) % 256)), upd s.2 i (nI ((q i ^^^ l) / 256))) ?_))⟩⟩
      intro j hj
      show upd s.1 i (nI ((q i ^^^ l) % 256)) j = nI (qd_mid q l t (i + 1) j % 256) ∧ upd s.2 i (nI ((q i ^^^ l) / 256)) j = nI (qd_mid q l t (i + 1) j / 256)
      by_cases e : j = i
      · subst e
        rw [pk_us, pk_us, qd_mid_t (by omega) hb]
        exact ⟨rfl, rfl⟩
      · rw [pk_un e, pk_un e, qd_mid_n e]
        exact h j hj
theorem qd_incl_w {post : St1 → Prop} {f0 f1 f2 f3 f4 : Int32} {a1 a2 a3 a4 : Nat → Int32} {q : Nat → Nat} {w : Nat} {p0 p1 : Int32} (hR : qd_R q) (hA : qd_A a3 a4 q 8) (hw : w < 65536) (e0 : p0 = nI (w % 256)) (e1 : p1 = nI (w / 256))
    (H0 : qd_red q 8 w % 256 = 0 → post (f0, f1, f2, nI (qd_red q 8 w % 256), nI (qd_red q 8 w / 256), a1, a2, a3, a4))
    (H1 : ∀ (t : Nat) (b3 b4 : Nat → Int32), qd_T q (qd_red q 8 w) t → qd_A b3 b4 (qd_inc q (qd_red q 8 w) t) 8 → post (f0, f1, f2 + 1, nI (qd_red q 8 w % 256), nI (qd_red q 8 w / 256), a1, a2, b3, b4)) :
    wpX_include post (f0, f1, f2, f3, f4, a1, a2, a3, a4) p0 p1 := by
  have hl := qd_red_lt hR.1 8 w (Nat.le_refl 8) hw
  have hv := qd_red_pv hR w
  unfold wpX_include
  refine qd_reduce hR hA hw e0 e1 ?_
  by_cases e : qd_red q 8 w % 256 = 0
  · exact br_t (qd_n0 e) (H0 e)
  · refine br_f (nI_ne0 (by omega) (by omega)) (qd_leader (by omega) e (fun t ht h1 h2 => ?_))
    rw [qd_tm _ ht] at h1
    have hT : qd_T q (qd_red q 8 w) t := ⟨hl, ht, h1, fun j z y => by rw [← qd_tm _ y]; exact h2 j z y, hv⟩
    exact qd_incl_l hR hT hA (fun b3 b4 hb => H1 t b3 b4 hT hb)
theorem qd_incl {post : St1 → Prop} {f0 f1 f2 f3 f4 : Int32} {a1 a2 a3 a4 : Nat → Int32} {q : Nat → Nat} {w : Nat} {p0 p1 : Int32} (hR : qd_R q) (hA : qd_A a3 a4 q 8) (hw : w < 65536) (e0 : p0 = nI (w % 256)) (e1 : p1 = nI (w / 256)) (hc : qd_red q 8 w % 256 = 0 → qd_red q 8 w = 0)
    (H : ∀ (f2' f3' f4' : Int32) (b3 b4 : Nat → Int32) (q' : Nat → Nat), qd_R q' → qd_A b3 b4 q' 8 → (∀ p, qd_red q' 8 p = 0 ↔ qd_red q 8 p = 0 ∨ qd_red q 8 (p ^^^ w) = 0) → (qd_red q 8 w = 0 → f2' = f2) → (qd_red q 8 w ≠ 0 → f2' = f2 + 1) → post (f0, f1, f2', f3', f4', a1, a2, b3, b4)) :
    wpX_include post (f0, f1, f2, f3, f4, a1, a2, a3, a4) p0 p1 := by
  refine qd_incl_w hR hA hw e0 e1 (fun z => ?_) (fun t b3 b4 hT hb => ?_)
  · exact H _ _ _ _ _ q hR hA (qd_inc_id (hc z)) (fun _ => rfl) (fun y => absurd (hc z) y)
  · refine H _ _ _ _ _ _ (qd_inc_R hR hT) hb (qd_inc_K hR hT rfl) (fun y => ?_) (fun _ => rfl)
    have z := hT.2.2.1
    rw [y, Nat.zero_testBit] at z
    exact absurd z (by decide)
/-- rows in the arrays that make what the drops of m make -/
def qd_Q (g : Nat → Nat) (m : Nat) (a3 a4 : Nat → Int32) : Prop := ∃ q, qd_R q ∧ qd_A a3 a4 q 8 ∧ qd_E q g m 10
theorem qd_build_l {post : St1 → Prop} {f0 f1 : Int32} {a1 a2 : Nat → Int32} {g : Nat → Nat} {s : Nat} (hg : ∀ k, k < 10 → g k < 65536) (hA : qd_A a1 a2 g 10) (hs : s < 1024) (hC : qd_C g s)
    (H : ∀ (f2 f3 f4 : Int32) (a3 a4 : Nat → Int32), qd_Q g s a3 a4 → f2 = nI (qd_rk g s 10) → post (f0, f1, f2, f3, f4, a1, a2, a3, a4)) (d : Nat) :
    ∀ (i : Nat), i + d = 10 → ∀ (f2 f3 f4 : Int32) (a3 a4 : Nat → Int32) (q : Nat → Nat), qd_R q → qd_A a3 a4 q 8 → qd_E q g s i → f2 = nI (qd_rk g s i) → wX_build_6 post (nI s) (d + 1) (nI i) f0 f1 f2 f3 f4 a1 a2 a3 a4 := by
  induction d with
  | zero =>
    intro i hi f2 f3 f4 a3 a4 q hR hq hE hr
    have e : i = 10 := by omega
    subst e
    exact br_t (by decide) (H f2 f3 f4 a3 a4 ⟨q, hR, hq, hE⟩ hr)
  | succ d ih =>
    intro i hi f2 f3 f4 a3 a4 q hR hq hE hr
    have i10 : i < 10 := by omega
    have ei : (nI i).toNatClampNeg = i := nI_clamp (by omega)
    refine br_f (nI_ge (b := 10) i10 (by decide)) ?_
    cases hb : s.testBit i
    · refine br_t (qd_b0 (by omega) (by omega) hb) (nm_r (nI_1 i) (ih (i + 1) (by omega) f2 f3 f4 a3 a4 q hR hq (qd_step_0 hE hb) ?_))
      rw [hr, qd_rk_f hb]
    · refine br_f (qd_b1n (by omega) (by omega) hb) ⟨pk_in i 10 i10, pk_in i 10 i10, ?_⟩
      refine qd_incl hR hq (hg i i10) (by rw [ei]; exact (hA i i10).1) (by rw [ei]; exact (hA i i10).2) (qd_step_c hR hE i10 hb hC) ?_
      intro f2' f3' f4' b3 b4 q' hR' hq' hK r0 r1
      refine nm_r (nI_1 i) (ih (i + 1) (by omega) f2' f3' f4' b3 b4 q' hR' hq' (qd_step_E hE hb hK) ?_)
      cases z : qd_sp g s i (g i)
      · rw [qd_rk_t hb z, r1 (fun y => by rw [(hE _).mp y] at z; exact absurd z (by decide)), hr, nI_1]
      · rw [qd_rk_i z, r0 ((hE _).mpr z), hr]
theorem qd_build {post : St1 → Prop} {f0 f1 f2 f3 f4 : Int32} {a1 a2 a3 a4 : Nat → Int32} {g : Nat → Nat} {s : Nat} {p0 : Int32} (hg : ∀ k, k < 10 → g k < 65536) (hA : qd_A a1 a2 g 10) (hs : s < 1024) (hC : qd_C g s) (e0 : p0 = nI s)
    (H : ∀ (f2 f3 f4 : Int32) (a3 a4 : Nat → Int32), qd_Q g s a3 a4 → f2 = nI (qd_rk g s 10) → post (f0, f1, f2, f3, f4, a1, a2, a3, a4)) :
    wpX_build post (f0, f1, f2, f3, f4, a1, a2, a3, a4) p0 := by
  subst e0
  unfold wpX_build
  refine qd_clear (fun b3 b4 hb => ?_)
  refine ⟨11, qd_build_l hg hA hs hC H 10 0 (by omega) 0 f3 f4 b3 b4 (fun _ => 0) ⟨fun _ _ => (by decide : (0 : Nat) < 65536), fun _ _ => Or.inl rfl, fun _ j _ _ => Nat.zero_testBit j, fun i _ _ _ _ _ => Nat.zero_testBit i⟩ (fun j hj => ⟨(hb j hj).1.trans (qd_n0 (x := 0 % 256) rfl).symm, (hb j hj).2.trans (qd_n0 (x := 0 / 256) rfl).symm⟩) ?_ rfl⟩
  intro p
  rw [qd_sp_z, qd_red_f (fun i _ z => absurd z (by rw [Nat.zero_testBit]; decide))]
end
section
/-! ===== the walk: the calls ===== -/
/-- what the desk keeps: the drops m, their sets and values g -/
def qd_B (g : Nat → Nat) (m : Nat) (f0 : Int32) (a1 a2 : Nat → Int32) : Prop := m < 1024 ∧ f0 = nI m ∧ (∀ k, k < 10 → g k < 65536) ∧ qd_A a1 a2 g 10 ∧ qd_C g m
/-- the rows, if they are known -/
def qd_W (g : Nat → Nat) (m : Nat) (f1 : Int32) (a3 a4 : Nat → Int32) : Prop := f1 = 0 ∨ qd_Q g m a3 a4
theorem qd_learn {post : St1 → Prop} {g : Nat → Nat} {m : Nat} {f0 f1 f2 f3 f4 : Int32} {a1 a2 a3 a4 : Nat → Int32} (hB : qd_B g m f0 a1 a2) (hW : qd_W g m f1 a3 a4)
    (H : ∀ (f1 f2 f3 f4 : Int32) (a3 a4 : Nat → Int32), ¬ f1 = 0 → qd_Q g m a3 a4 → post (f0, f1, f2, f3, f4, a1, a2, a3, a4)) :
    wpX_learn post (f0, f1, f2, f3, f4, a1, a2, a3, a4) := by
  unfold wpX_learn
  refine br_c (fun z => ?_) (fun z => ?_)
  · refine qd_build hB.2.2.1 hB.2.2.2.1 hB.1 hB.2.2.2.2 hB.2.1 (fun f2' f3' f4' b3 b4 hQ _ => ?_)
    exact H 1 f2' f3' f4' b3 b4 (by decide) hQ
  · rcases hW with w | w
    · exact absurd w z
    · exact H f1 f2 f3 f4 a3 a4 z w
theorem qd_sum {post : Int32 → St1 → Prop} {g : Nat → Nat} {m s : Nat} {f0 f1 f2 f3 f4 p0 : Int32} {a1 a2 a3 a4 : Nat → Int32} (hB : qd_B g m f0 a1 a2) (hW : qd_W g m f1 a3 a4) (hs : s < 256) (e0 : p0 = nI s)
    (H : ∀ (r f1 f2 f3 f4 : Int32) (a3 a4 : Nat → Int32), ¬ f1 = 0 → qd_Q g m a3 a4 → qd_S g m s r → post r (f0, f1, f2, f3, f4, a1, a2, a3, a4)) :
    wpX_sum post (f0, f1, f2, f3, f4, a1, a2, a3, a4) p0 := by
  subst e0
  unfold wpX_sum
  refine br_f (nI_pos (by omega)) (br_t (nI_le (b := 255) (by omega) (by decide)) ?_)
  refine qd_learn hB hW (fun g1 g2 g3 g4 b3 b4 k1 hQ => ?_)
  obtain ⟨q, hR, hA, hE⟩ := hQ
  refine qd_reduce (p := s) hR hA (by omega) (congrArg nI (by omega)) (qd_n0 (by omega)).symm ?_
  have hl := qd_red_lt hR.1 8 s (Nat.le_refl 8) (by omega)
  have hS := qd_S_red hE hs hl
  by_cases e : qd_red q 8 s % 256 = 0
  · rw [if_pos e] at hS
    exact br_t (qd_n0 e) (H _ _ _ _ _ _ _ k1 ⟨q, hR, hA, hE⟩ hS)
  · rw [if_neg e] at hS
    exact br_f (nI_ne0 (by omega) (by omega)) (H _ _ _ _ _ _ _ k1 ⟨q, hR, hA, hE⟩ hS)
theorem qd_has {post : Int32 → Prop} {m k : Nat} {f0 f1 f2 f3 f4 p0 : Int32} {a1 a2 a3 a4 : Nat → Int32} (hm : m < 1024) (e : f0 = nI m) (hk : k < 10) (e0 : p0 = nI k)
    (H0 : m.testBit k = false → post 0) (H1 : m.testBit k = true → post 1) : wpX_has post (f0, f1, f2, f3, f4, a1, a2, a3, a4) p0 := by
  subst e0
  subst e
  unfold wpX_has
  refine br_f (nI_pos (by omega)) (br_f (nI_ge (b := 10) hk (by decide)) ?_)
  cases hb : m.testBit k
  · exact br_t (qd_b0 (by omega) (by omega) hb) (H0 hb)
  · exact br_f (qd_b1n (by omega) (by omega) hb) (H1 hb)
theorem qd_drop {post : Int32 → St1 → Prop} {g : Nat → Nat} {m k : Nat} {f0 f1 f2 f3 f4 p0 : Int32} {a1 a2 a3 a4 : Nat → Int32} (hB : qd_B g m f0 a1 a2) (hW : qd_W g m f1 a3 a4) (hk : k < 10) (e0 : p0 = nI k)
    (H : ∀ (r : Int32) (m' : Nat) (f0 f1 : Int32), qd_B g m' f0 a1 a2 → qd_W g m' f1 a3 a4 → (∀ j, m'.testBit j = true → m.testBit j = true) → post r (f0, f1, f2, f3, f4, a1, a2, a3, a4)) :
    wpX_drop post (f0, f1, f2, f3, f4, a1, a2, a3, a4) p0 := by
  unfold wpX_drop
  have hs : ∀ j, (qd_cl m k).testBit j = true → m.testBit j = true := fun j h => by
    rw [qd_cl_t hB.1 j, Bool.and_eq_true] at h
    exact h.1
  refine qd_has hB.1 hB.2.1 hk e0 (fun _ => br_t rfl (H 0 m f0 f1 hB hW (fun _ h => h))) (fun _ => br_f (by decide) (nm_r (e' := nI (qd_cl m k)) ?_ (H 1 (qd_cl m k) _ _ ⟨qd_cl_lt hB.1, rfl, hB.2.2.1, hB.2.2.2.1, qd_C_m hs hB.2.2.2.2⟩ (Or.inl rfl) hs)))
  rw [e0, hB.2.1]
  exact qd_cl_e m (by omega)
theorem qd_rankOf {post : Int32 → St1 → Prop} {g : Nat → Nat} {m c : Nat} {f0 f1 f2 f3 f4 p0 : Int32} {a1 a2 a3 a4 : Nat → Int32} (hB : qd_B g m f0 a1 a2) (e0 : p0 = nI c)
    (H : ∀ (f2 f3 f4 : Int32) (a3 a4 : Nat → Int32), post (nI (qd_rk g (c &&& m) 10)) (f0, 0, f2, f3, f4, a1, a2, a3, a4)) :
    wpX_rankOf post (f0, f1, f2, f3, f4, a1, a2, a3, a4) p0 := by
  unfold wpX_rankOf
  have hl : c &&& m < 1024 := Nat.lt_of_le_of_lt Nat.and_le_right hB.1
  have hs : ∀ j, (c &&& m).testBit j = true → m.testBit j = true := fun j h => by
    rw [Nat.testBit_and, Bool.and_eq_true] at h
    exact h.2
  refine qd_build hB.2.2.1 hB.2.2.2.1 hl (qd_C_m hs hB.2.2.2.2) (by rw [e0, hB.2.1, qd_and]) (fun g2 g3 g4 b3 b4 _ hr => ?_)
  subst hr
  exact H _ g3 g4 b3 b4
def qd_en (g : Nat → Nat) (m c : Nat) : Int32 := if nI (qd_rk g (c &&& m) 10) = nI (qd_rk g m 10) then 1 else 0
theorem qd_enough {post : Int32 → St1 → Prop} {g : Nat → Nat} {m c : Nat} {f0 f1 f2 f3 f4 p0 : Int32} {a1 a2 a3 a4 : Nat → Int32} (hB : qd_B g m f0 a1 a2) (e0 : p0 = nI c)
    (H : ∀ (f2 f3 f4 : Int32) (a3 a4 : Nat → Int32), post (qd_en g m c) (f0, 0, f2, f3, f4, a1, a2, a3, a4)) :
    wpX_enough post (f0, f1, f2, f3, f4, a1, a2, a3, a4) p0 := by
  unfold wpX_enough
  refine qd_rankOf hB hB.2.1 (fun g2 g3 g4 b3 b4 => ?_)
  refine qd_rankOf hB e0 (fun h2 h3 h4 c3 c4 => ?_)
  have em : m &&& m = m := Nat.and_self m
  have h := H h2 h3 h4 c3 c4
  unfold qd_en at h
  by_cases e : nI (qd_rk g (c &&& m) 10) = nI (qd_rk g m 10)
  · rw [if_pos e] at h
    exact br_t (by rw [em]; exact e) h
  · rw [if_neg e] at h
    exact br_f (by rw [em]; exact e) h
theorem qd_en_01 (g : Nat → Nat) (m c : Nat) (h : ¬ qd_en g m c = 0) : qd_en g m c = 1 := by
  unfold qd_en at h ⊢
  by_cases e : nI (qd_rk g (c &&& m) 10) = nI (qd_rk g m 10)
  · rw [if_pos e]
  · rw [if_neg e] at h
    exact absurd rfl h
theorem qd_en_m (g : Nat → Nat) (m : Nat) : qd_en g m m = 1 := by
  unfold qd_en
  rw [Nat.and_self, if_pos rfl]
/-- what idle answers -/
def qd_id (g : Nat → Nat) (m k : Nat) : Int32 := if m.testBit k = true then qd_en g m (qd_cl m k) else 0
theorem qd_idle {post : Int32 → St1 → Prop} {g : Nat → Nat} {m k : Nat} {f0 f1 f2 f3 f4 p0 : Int32} {a1 a2 a3 a4 : Nat → Int32} (hB : qd_B g m f0 a1 a2) (hW : qd_W g m f1 a3 a4) (hk : k < 10) (e0 : p0 = nI k)
    (H : ∀ (f1 f2 f3 f4 : Int32) (a3 a4 : Nat → Int32), qd_W g m f1 a3 a4 → post (qd_id g m k) (f0, f1, f2, f3, f4, a1, a2, a3, a4)) :
    wpX_idle post (f0, f1, f2, f3, f4, a1, a2, a3, a4) p0 := by
  unfold wpX_idle
  refine qd_has hB.1 hB.2.1 hk e0 (fun hb => br_t rfl ?_) (fun hb => br_f (by decide) (qd_enough hB (by rw [e0, hB.2.1]; exact qd_cl_e m (by omega)) (fun g2 g3 g4 b3 b4 => ?_)))
  · have h := H f1 f2 f3 f4 a3 a4 hW
    unfold qd_id at h
    rw [if_neg (by rw [hb]; decide)] at h
    exact h
  · have h := H 0 g2 g3 g4 b3 b4 (Or.inl rfl)
    unfold qd_id at h
    rw [if_pos hb] at h
    by_cases e : qd_en g m (qd_cl m k) = 0
    · rw [e] at h
      exact br_t e h
    · rw [qd_en_01 _ _ _ e] at h
      exact br_f e h
theorem qd_singles {post : Int32 → Prop} {q : Nat → Nat} {f0 f1 f2 f3 f4 : Int32} {a1 a2 a3 a4 : Nat → Int32} (hR : qd_R q) (hA : qd_A a3 a4 q 8) (H : post (nI (qd_sg q 8))) :
    wpX_singles post (f0, f1, f2, f3, f4, a1, a2, a3, a4) := by
  unfold wpX_singles
  refine pk_loop (fun n i (x1 : Int32) => wX_singles_4 post f0 f1 f2 f3 f4 a1 a2 a3 a4 n x1 (nI i)) (fun i x1 => x1 = nI (qd_sg q i)) 8 0 0 (by omega) rfl ?_ ?_
  · intro n s h
    subst h
    exact pk_le 8 8 (fun _ => H) (fun z => absurd z (by omega))
  · intro n i s hi h hw
    subst h
    have ei : (nI i).toNatClampNeg = i := nI_clamp (by omega)
    have hp := qd_p2 i hi
    refine pk_le 8 i (fun z => absurd z (by omega)) (fun _ => ⟨pk_in i 8 hi, ?_⟩)
    by_cases e : q i % 256 = 2 ^ i
    · refine br_t (by rw [ei, (hA i hi).1, qd_sh1 i (by omega), e]) (nm_r (e' := nI (qd_sg q (i + 1))) ?_ (nm_r (nI_1 i) (hw _ rfl)))
      rw [qd_sh1 i (by omega), qd_or]
      show _ = nI (qd_sg q i ||| (if q i % 256 = 2 ^ i then 2 ^ i else 0))
      rw [if_pos e]
    · refine br_f ?_ (nm_r (e' := nI (qd_sg q (i + 1))) ?_ (nm_r (nI_1 i) (hw _ rfl)))
      · rw [ei, (hA i hi).1, qd_sh1 i (by omega), nI_eq (by omega) (by omega)]
        exact e
      · show nI (qd_sg q i) ||| nI 0 = nI (qd_sg q i ||| (if q i % 256 = 2 ^ i then 2 ^ i else 0))
        rw [qd_or, if_neg e]
theorem qd_known {post : Int32 → St1 → Prop} {g : Nat → Nat} {m : Nat} {f0 f1 f2 f3 f4 : Int32} {a1 a2 a3 a4 : Nat → Int32} (hB : qd_B g m f0 a1 a2) (hW : qd_W g m f1 a3 a4)
    (H : ∀ (kk : Nat) (f1 f2 f3 f4 : Int32) (a3 a4 : Nat → Int32), qd_Q g m a3 a4 → qd_N g m kk → post (nI kk) (f0, f1, f2, f3, f4, a1, a2, a3, a4)) :
    wpX_known post (f0, f1, f2, f3, f4, a1, a2, a3, a4) := by
  unfold wpX_known
  refine qd_learn hB hW (fun g1 g2 g3 g4 b3 b4 k1 hQ => ?_)
  obtain ⟨q, hR, hA, hE⟩ := hQ
  exact qd_singles hR hA (H _ _ _ _ _ _ _ ⟨q, hR, hA, hE⟩ (qd_sg_N hR hE))
theorem qd_knownSums {post : Int32 → St1 → Prop} {g : Nat → Nat} {m : Nat} {f0 f1 f2 f3 f4 : Int32} {a1 a2 a3 a4 : Nat → Int32} (hB : qd_B g m f0 a1 a2) (hW : qd_W g m f1 a3 a4)
    (H : ∀ (f1 f2 f3 f4 : Int32) (a3 a4 : Nat → Int32), ¬ f1 = 0 → qd_Q g m a3 a4 → post (((1 : Int32) <<< (f2 &&& 31)) - 1) (f0, f1, f2, f3, f4, a1, a2, a3, a4)) :
    wpX_knownSums post (f0, f1, f2, f3, f4, a1, a2, a3, a4) := by
  unfold wpX_knownSums
  exact qd_learn hB hW (fun g1 g2 g3 g4 b3 b4 k1 hQ => H g1 g2 g3 g4 b3 b4 k1 hQ)
theorem qd_missing {post : Int32 → St1 → Prop} {f0 f1 f2 f3 f4 : Int32} {a1 a2 a3 a4 : Nat → Int32} (hf : ¬ f1 = 0) (H : post (8 - f2) (f0, f1, f2, f3, f4, a1, a2, a3, a4)) :
    wpX_missing post (f0, f1, f2, f3, f4, a1, a2, a3, a4) := by
  unfold wpX_missing wpX_learn
  exact br_f hf H
theorem qd_piece {post : Int32 → St1 → Prop} {g : Nat → Nat} {m i : Nat} {f0 f1 f2 f3 f4 p0 : Int32} {a1 a2 a3 a4 : Nat → Int32} (hB : qd_B g m f0 a1 a2) (hW : qd_W g m f1 a3 a4) (hi : i < 8) (e0 : p0 = nI i)
    (H : ∀ (r f1 f2 f3 f4 : Int32) (a3 a4 : Nat → Int32), qd_Q g m a3 a4 → qd_S g m (2 ^ i) r → post r (f0, f1, f2, f3, f4, a1, a2, a3, a4)) :
    wpX_piece post (f0, f1, f2, f3, f4, a1, a2, a3, a4) p0 := by
  subst e0
  unfold wpX_piece
  have ei : (nI i).toNatClampNeg = i := nI_clamp (by omega)
  have hp := qd_p2 i hi
  refine br_f (nI_pos (by omega)) (br_t (nI_lt (b := 8) hi (by decide)) ?_)
  refine qd_learn hB hW (fun g1 g2 g3 g4 b3 b4 k1 hQ => ⟨pk_in i 8 hi, ?_⟩)
  obtain ⟨q, hR, hA, hE⟩ := hQ
  have hq := hR.1 i hi
  by_cases e : q i % 256 = 2 ^ i
  · refine br_t (by rw [ei, (hA i hi).1, qd_sh1 i (by omega), e]) ⟨pk_in i 8 hi, H _ _ _ _ _ _ _ ⟨q, hR, hA, hE⟩ (Or.inl ⟨q i / 256, by omega, by rw [ei]; exact (hA i hi).2, (hE _).mp ?_⟩)⟩
    rw [show 2 ^ i + 256 * (q i / 256) = q i by omega]
    exact qd_red_row hR 8 i (Nat.le_refl 8) hi
  · refine br_f ?_ (H _ _ _ _ _ _ _ ⟨q, hR, hA, hE⟩ (Or.inr ⟨rfl, fun v hv => ?_⟩))
    · rw [ei, (hA i hi).1, qd_sh1 i (by omega), nI_eq (by omega) (by omega)]
      exact e
    · cases z : qd_sp g m 10 (2 ^ i + 256 * v)
      · rfl
      · exact absurd ((qd_sg_i hR hi).mpr ⟨v, hv, (hE _).mpr z⟩) e
theorem qd_possible {post : Int32 → St1 → Prop} {g : Nat → Nat} {m i v : Nat} {f0 f1 f2 f3 f4 p0 p1 : Int32} {a1 a2 a3 a4 : Nat → Int32} (hB : qd_B g m f0 a1 a2) (hW : qd_W g m f1 a3 a4) (hi : i < 8) (e0 : p0 = nI i) (hv : v < 256) (e1 : p1 = nI v)
    (H1 : ∀ (r f1 f2 f3 f4 : Int32) (a3 a4 : Nat → Int32), qd_Q g m a3 a4 → qd_S g m (2 ^ i) r → (r < 0 ∨ r = nI v) → post 1 (f0, f1, f2, f3, f4, a1, a2, a3, a4))
    (H0 : ∀ (r f1 f2 f3 f4 : Int32) (a3 a4 : Nat → Int32), qd_Q g m a3 a4 → qd_S g m (2 ^ i) r → ¬ r < 0 → ¬ r = nI v → post 0 (f0, f1, f2, f3, f4, a1, a2, a3, a4)) :
    wpX_possible post (f0, f1, f2, f3, f4, a1, a2, a3, a4) p0 p1 := by
  subst e0
  subst e1
  unfold wpX_possible
  refine br_f (nI_pos (by omega)) (br_f (nI_ge (b := 8) hi (by decide)) (br_f (nI_pos (by omega)) (br_t (nI_le (b := 255) (by omega) (by decide)) ?_)))
  refine qd_piece hB hW hi rfl (fun r g1 g2 g3 g4 b3 b4 hQ hS => ?_)
  exact br_c (fun z => H1 r g1 g2 g3 g4 b3 b4 hQ hS (Or.inl z)) (fun z => br_c (fun y => H1 r g1 g2 g3 g4 b3 b4 hQ hS (Or.inr y)) (fun y => H0 r g1 g2 g3 g4 b3 b4 hQ hS z y))
theorem qd_ones {post : Int32 → Prop} {c : Nat} {p0 : Int32} (hc : c < 2 ^ 31) (e0 : p0 = nI c) (H : post (nI (qd_on c 8))) : wpX_ones post () p0 := by
  subst e0
  unfold wpX_ones
  refine pk_loop (fun n i (x1 : Int32) => wX_ones_4 post (nI c) n x1 (nI i)) (fun i x1 => x1 = nI (qd_on c i)) 8 0 0 (by omega) rfl ?_ ?_
  · intro n s h
    subst h
    exact pk_le 8 8 (fun _ => H) (fun z => absurd z (by omega))
  · intro n i s hi h hw
    subst h
    refine pk_le 8 i (fun z => absurd z (by omega)) (fun _ => nm_r (e' := nI (qd_on c (i + 1))) ?_ (nm_r (nI_1 i) (hw _ rfl)))
    rw [qd_bit hc (by omega), nI_add]
    rfl
theorem qd_onesL {post : Int32 → Prop} {c : Nat} {p0 : Int32} (hc : c < 256) (e0 : p0 = nI c) (H : post (nI (qd_on c 8))) : wpL_ones post () p0 := by
  subst e0
  unfold wpL_ones
  rw [← qd_on_10 hc] at H
  refine pk_loop (fun n i (x1 : Int32) => wL_ones_4 post (nI c) n x1 (nI i)) (fun i x1 => x1 = nI (qd_on c i)) 10 0 0 (by omega) rfl ?_ ?_
  · intro n s h
    subst h
    exact pk_le 10 10 (fun _ => H) (fun z => absurd z (by omega))
  · intro n i s hi h hw
    subst h
    refine pk_le 10 i (fun z => absurd z (by omega)) (fun _ => nm_r (e' := nI (qd_on c (i + 1))) ?_ (nm_r (nI_1 i) (hw _ rfl)))
    rw [qd_bit (by omega) (by omega), nI_add]
    rfl
theorem qd_isSet {post : Int32 → Prop} {s : Nat} {p0 : Int32} (h1 : 1 ≤ s) (hs : s < 256) (e0 : p0 = nI s) (H : post 1) : wpX_isSet post () p0 := by
  subst e0
  unfold wpX_isSet
  exact br_f (nI_nlt (b := 1) h1 (by omega)) (br_f (nI_nlt (a := 255) (by omega) (by decide)) H)
theorem qd_countWith {post : Int32 → St1 → Prop} {g : Nat → Nat} {m s kk : Nat} {f0 f1 f2 f3 f4 p0 : Int32} {a1 a2 a3 a4 : Nat → Int32} (hB : qd_B g m f0 a1 a2) (hs : s < 256) (e0 : p0 = nI s) (hN : qd_N g m kk)
    (H : ∀ (c : Nat) (f2 f3 f4 : Int32) (a3 a4 : Nat → Int32), qd_on kk 8 ≤ c → c ≤ 8 → (∀ v, v < 256 → qd_sp g m 10 (s + 256 * v) = true → c = qd_on kk 8) → post (nI c) (f0, 0, f2, f3, f4, a1, a2, a3, a4)) :
    wpX_countWith post (f0, f1, f2, f3, f4, a1, a2, a3, a4) p0 := by
  unfold wpX_countWith
  refine qd_build hB.2.2.1 hB.2.2.2.1 hB.1 hB.2.2.2.2 hB.2.1 (fun g2 g3 g4 b3 b4 hQ _ => ?_)
  obtain ⟨q, hR, hA, hE⟩ := hQ
  refine qd_incl_w (w := s) hR hA (by omega) (by rw [e0]; exact congrArg nI (by omega)) (qd_n0 (by omega)).symm (fun z => ?_) (fun t c3 c4 hT hb => ?_)
  · have e := qd_N_f (qd_sg_N hR hE) hN
    have hl := qd_sg_lt q 8 (Nat.le_refl 8)
    refine qd_singles hR hA (qd_ones (by omega) rfl (H _ _ _ _ _ _ ?_ (qd_on_le _ _) (fun _ _ _ => ?_)))
    · rw [e]
      exact Nat.le_refl _
    · rw [e]
  · have hR' := qd_inc_R hR hT
    have hl := qd_sg_lt (qd_inc q (qd_red q 8 s) t) 8 (Nat.le_refl 8)
    refine qd_singles hR' hb (qd_ones (by omega) rfl (H _ _ _ _ _ _ (qd_on_m 8 (fun j hj h => ?_)) (qd_on_le _ _) (fun v hv z => ?_)))
    · obtain ⟨v, hv, y⟩ := (hN.2 j hj).mp h
      rw [qd_sg_t, qd_sg_i hR' hj]
      exact ⟨hj, v, hv, (qd_inc_K hR hT rfl _).mpr (Or.inl ((hE _).mpr y))⟩
    · exfalso
      have y := (hE _).mpr z
      rw [qd_red_sv hs] at y
      have x := qd_xz y
      have u := hT.2.2.1
      rw [x, qd_lowbit (show 256 * v % 256 = 0 by omega) hT.2.1] at u
      exact absurd u (by decide)
theorem qd_knownWith {post : Int32 → St1 → Prop} {g : Nat → Nat} {m s kk : Nat} {f0 f1 f2 f3 f4 p0 : Int32} {a1 a2 a3 a4 : Nat → Int32} (hB : qd_B g m f0 a1 a2) (h1 : 1 ≤ s) (hs : s < 256) (e0 : p0 = nI s) (hN : qd_N g m kk)
    (H : ∀ (c : Nat) (f2 f3 f4 : Int32) (a3 a4 : Nat → Int32), qd_on kk 8 ≤ c → c ≤ 8 → (∀ v, v < 256 → qd_sp g m 10 (s + 256 * v) = true → c = qd_on kk 8) → post (nI c) (f0, 0, f2, f3, f4, a1, a2, a3, a4)) :
    wpX_knownWith post (f0, f1, f2, f3, f4, a1, a2, a3, a4) p0 := by
  unfold wpX_knownWith
  refine qd_isSet h1 hs e0 (br_f (by decide) ?_)
  exact qd_countWith hB hs e0 hN (fun c g2 g3 g4 b3 b4 c1 c2 c3 => H c g2 g3 g4 b3 b4 c1 c2 c3)
end
section
/-! ===== the walk: take ===== -/
theorem qd_take_78 {post : Int32 → St1 → Prop} {g q : Nat → Nat} {m s v k : Nat} {f0 f1 f2 f3 f4 : Int32} {a1 a2 a3 a4 : Nat → Int32} (hB : qd_B g m f0 a1 a2) (hR : qd_R q) (hA : qd_A a3 a4 q 8) (hE : qd_E q g m 10) (hs : s < 256) (hv : v < 256) (hk : k < 10) (h0 : m.testBit k = false) (hc : qd_red q 8 (s + 256 * v) % 256 = 0 → qd_red q 8 (s + 256 * v) = 0)
    (Ha : ∀ (m' : Nat) (f0 f1 f2 f3 f4 : Int32) (b1 b2 b3 b4 : Nat → Int32), qd_B (qd_up g k (s + 256 * v)) m' f0 b1 b2 → qd_W (qd_up g k (s + 256 * v)) m' f1 b3 b4 → (∀ j, j ≠ k → m'.testBit j = m.testBit j) → post (nI k) (f0, f1, f2, f3, f4, b1, b2, b3, b4)) :
    wX_take_78 post (nI s) (nI v) (nI k) f0 f1 f2 f3 f4 a1 a2 a3 a4 := by
  have ek : (nI k).toNatClampNeg = k := nI_clamp (by omega)
  have hd : ∀ j, j ≠ k → (m ||| 2 ^ k).testBit j = m.testBit j := fun j z => by
    rw [qd_or_t, decide_eq_false (fun y => z y.symm), Bool.or_false]
  have hd1 : (m ||| 2 ^ k).testBit k = true := by
    rw [qd_or_t, decide_eq_true rfl, Bool.or_true]
  unfold wX_take_78
  refine nm_r (e' := nI (m ||| 2 ^ k)) (by rw [hB.2.1, qd_sh1 k (by omega), qd_or]) ⟨pk_in k 10 hk, nm_r (e' := upd a1 k (nI s)) (by rw [ek, qd_s16 s hs]) ⟨pk_in k 10 hk, nm_r (e' := upd a2 k (nI v)) (by rw [ek, qd_s16 v hv]) ?_⟩⟩
  refine qd_incl (w := s + 256 * v) hR hA (by omega) (congrArg nI (by omega)) (congrArg nI (by omega)) hc ?_
  intro g2 g3 g4 b3 b4 q' hR' hA' hK _ _
  have hE' : qd_E q' (qd_up g k (s + 256 * v)) (m ||| 2 ^ k) 10 := qd_take_E hE hk hd h0 hd1 hK
  refine Ha (m ||| 2 ^ k) _ _ _ _ _ _ _ _ _ ⟨qd_or_lt hB.1 hk, rfl, fun j hj => ?_, fun j hj => ?_, qd_E_C hE'⟩ (Or.inr ⟨q', hR', hA', hE'⟩) hd
  · by_cases e : j = k
    · rw [e, qd_up_e]
      omega
    · rw [qd_up_n g _ e]
      exact hB.2.2.1 j hj
  · by_cases e : j = k
    · rw [e, qd_up_e, pk_us, pk_us]
      exact ⟨congrArg nI (by omega), congrArg nI (by omega)⟩
    · rw [qd_up_n g _ e, pk_un e, pk_un e]
      exact hB.2.2.2.1 j hj
theorem qd_take_42 {post : Int32 → St1 → Prop} {g : Nat → Nat} {m s v k : Nat} {f0 f1 f2 f3 f4 : Int32} {a1 a2 a3 a4 : Nat → Int32} (hB : qd_B g m f0 a1 a2) (hW : qd_W g m f1 a3 a4) (hs : s < 256) (hv : v < 256) (hk : k ≤ 10) (h0 : k < 10 → m.testBit k = false)
    (Hf : post (-2) (f0, f1, f2, f3, f4, a1, a2, a3, a4))
    (Hr : ∀ (f1 f2 f3 f4 : Int32) (a3 a4 : Nat → Int32), qd_Q g m a3 a4 → (∃ v', v' < 256 ∧ v' ≠ v ∧ qd_sp g m 10 (s + 256 * v') = true) → post (-3) (f0, f1, f2, f3, f4, a1, a2, a3, a4))
    (Ha : ∀ (k m' : Nat) (f0 f1 f2 f3 f4 : Int32) (b1 b2 b3 b4 : Nat → Int32), k < 10 → (∀ v', qd_sp g m 10 (s + 256 * v') = true → v' = v) → qd_B (qd_up g k (s + 256 * v)) m' f0 b1 b2 → qd_W (qd_up g k (s + 256 * v)) m' f1 b3 b4 → (∀ j, j ≠ k → m'.testBit j = m.testBit j) → post (nI k) (f0, f1, f2, f3, f4, b1, b2, b3, b4)) :
    wX_take_42 post (nI s) (nI v) (nI k) f0 f1 f2 f3 f4 a1 a2 a3 a4 := by
  unfold wX_take_42
  refine pk_eq k 10 (fun _ => Hf) (fun z => ?_)
  have k10 : k < 10 := by omega
  refine qd_learn hB hW (fun g1 g2 g3 g4 b3 b4 k1 hQ => ?_)
  obtain ⟨q, hR, hA, hE⟩ := hQ
  refine qd_reduce (p := s + 256 * v) hR hA (by omega) (congrArg nI (by omega)) (congrArg nI (by omega)) ?_
  have hl := qd_red_lt hR.1 8 (s + 256 * v) (Nat.le_refl 8) (by omega)
  by_cases e : qd_red q 8 (s + 256 * v) % 256 = 0
  · refine br_t (qd_n0 e) ?_
    by_cases e2 : qd_red q 8 (s + 256 * v) / 256 = 0
    · have hc : qd_red q 8 (s + 256 * v) % 256 = 0 → qd_red q 8 (s + 256 * v) = 0 := fun _ => by omega
      exact br_t (qd_n0 e2) (qd_take_78 hB hR hA hE hs hv k10 (h0 k10) hc (fun m' h0 h1 h2 h3 h4 c1 c2 c3 c4 x1 x2 x3 => Ha k m' h0 h1 h2 h3 h4 c1 c2 c3 c4 k10 (fun v' => qd_accept hE hs hc v') x1 x2 x3))
    · exact br_f (nI_ne0 (by omega) (by omega)) (Hr _ _ _ _ _ _ ⟨q, hR, hA, hE⟩ (qd_refuse hR hE hs hv e e2))
  · have hc : qd_red q 8 (s + 256 * v) % 256 = 0 → qd_red q 8 (s + 256 * v) = 0 := fun y => absurd y e
    exact br_f (nI_ne0 (by omega) (by omega)) (qd_take_78 hB hR hA hE hs hv k10 (h0 k10) hc (fun m' h0 h1 h2 h3 h4 c1 c2 c3 c4 x1 x2 x3 => Ha k m' h0 h1 h2 h3 h4 c1 c2 c3 c4 k10 (fun v' => qd_accept hE hs hc v') x1 x2 x3))
theorem qd_take_l {post : Int32 → St1 → Prop} {m : Nat} {x1 x2 f0 f1 f2 f3 f4 : Int32} {a1 a2 a3 a4 : Nat → Int32} (hm : m < 1024) (e : f0 = nI m)
    (H : ∀ k, k ≤ 10 → (k < 10 → m.testBit k = false) → wX_take_42 post x1 x2 (nI k) f0 f1 f2 f3 f4 a1 a2 a3 a4) (d : Nat) :
    ∀ k, k + d = 10 → wX_take_22 post x1 x2 f0 f1 f2 f3 f4 a1 a2 a3 a4 (d + 1) (nI k) := by
  induction d with
  | zero =>
    intro k hk
    have ek : k = 10 := by omega
    subst ek
    exact br_t (by decide) (H 10 (Nat.le_refl 10) (fun z => absurd z (by decide)))
  | succ d ih =>
    intro k hk
    refine br_f (nI_ge (b := 10) (by omega) (by decide)) (qd_has hm e (show k < 10 by omega) rfl (fun hb => br_t rfl (H k (by omega) (fun _ => hb))) (fun hb => br_f (by decide) (nm_r (nI_1 k) (ih (k + 1) (by omega)))))
theorem qd_take {post : Int32 → St1 → Prop} {g : Nat → Nat} {m s v : Nat} {f0 f1 f2 f3 f4 p0 p1 : Int32} {a1 a2 a3 a4 : Nat → Int32} (hB : qd_B g m f0 a1 a2) (hW : qd_W g m f1 a3 a4) (h1 : 1 ≤ s) (hs : s < 256) (e0 : p0 = nI s) (hv : v < 256) (e1 : p1 = nI v)
    (Hf : post (-2) (f0, f1, f2, f3, f4, a1, a2, a3, a4))
    (Hr : ∀ (f1 f2 f3 f4 : Int32) (a3 a4 : Nat → Int32), qd_Q g m a3 a4 → (∃ v', v' < 256 ∧ v' ≠ v ∧ qd_sp g m 10 (s + 256 * v') = true) → post (-3) (f0, f1, f2, f3, f4, a1, a2, a3, a4))
    (Ha : ∀ (k m' : Nat) (f0 f1 f2 f3 f4 : Int32) (b1 b2 b3 b4 : Nat → Int32), k < 10 → (∀ v', qd_sp g m 10 (s + 256 * v') = true → v' = v) → qd_B (qd_up g k (s + 256 * v)) m' f0 b1 b2 → qd_W (qd_up g k (s + 256 * v)) m' f1 b3 b4 → (∀ j, j ≠ k → m'.testBit j = m.testBit j) → post (nI k) (f0, f1, f2, f3, f4, b1, b2, b3, b4)) :
    wpX_take post (f0, f1, f2, f3, f4, a1, a2, a3, a4) p0 p1 := by
  subst e1
  unfold wpX_take
  refine qd_isSet h1 hs e0 (br_f (by decide) (br_f (nI_pos (by omega)) (br_t (nI_le (b := 255) (by omega) (by decide)) ?_)))
  subst e0
  exact ⟨11, qd_take_l hB.1 hB.2.1 (fun k hk h0 => qd_take_42 hB hW hs hv hk h0 Hf Hr Ha) 10 0 (by omega)⟩
end
section
/-! ===== the law's own methods: pieces, sums ===== -/
theorem qd_88 (x : Int32) : 8 - (8 - x) = x := by grind
theorem qd_S_0 (g : Nat → Nat) (m : Nat) : qd_S g m 0 0 := Or.inl ⟨0, by decide, rfl, qd_sp_0 g m 10⟩
theorem qd_pieces_68 {post : Int32 → St1 → Prop} {J : Int32 → Int32 → Int32 → Int32 → Int32 → Int32 → (Nat → Int32) → (Nat → Int32) → (Nat → Int32) → (Nat → Int32) → Prop} {g : Nat → Nat} {m i v : Nat} {x2 x4 x5 f0 f1 f2 f3 f4 : Int32} {a1 a2 a3 a4 : Nat → Int32} (hB : qd_B g m f0 a1 a2) (hW : qd_W g m f1 a3 a4) (hi : i < 8) (hv : v < 256) (hS : qd_S g m (2 ^ i) x4)
    (hon : (x5 = 0 ∧ x4 < 0) ∨ (¬ x5 = 0 ∧ ¬ x4 < 0))
    (H : ∀ (f1 f2 f3 f4 : Int32) (a3 a4 : Nat → Int32), qd_W g m f1 a3 a4 → J (nI (i + 1)) f0 f1 f2 f3 f4 a1 a2 a3 a4) :
    wL_pieces_68 post J (nI v) x2 (nI i) x4 x5 f0 f1 f2 f3 f4 a1 a2 a3 a4 := by
  have hp := qd_p2 i hi
  unfold wL_pieces_68
  refine qd_possible hB hW hi rfl hv rfl (fun r g1 g2 g3 g4 b3 b4 hQ hS' hr => ?_) (fun r g1 g2 g3 g4 b3 b4 hQ hS' hr1 hr2 => ?_)
  · have er := qd_S_f hB.2.2.2.2 hp hS' hS
    subst er
    have h85 : wL_pieces_85 post J (nI v) x2 (nI i) 1 f0 g1 g2 g3 g4 a1 a2 b3 b4 := by
      unfold wL_pieces_85 wL_pieces_90
      exact br_t rfl (nm_r (nI_1 i) (H g1 g2 g3 g4 b3 b4 (Or.inr hQ)))
    rcases hon with ⟨z, y⟩ | ⟨z, y⟩
    · exact br_t z h85
    · rcases hr with hr | hr
      · exact absurd hr y
      · exact br_f z (br_t hr h85)
  · have er := qd_S_f hB.2.2.2.2 hp hS' hS
    subst er
    rcases hon with ⟨z, y⟩ | ⟨z, y⟩
    · exact absurd y hr1
    · refine br_f z (br_f hr2 ?_)
      unfold wL_pieces_90
      exact br_t rfl (nm_r (nI_1 i) (H g1 g2 g3 g4 b3 b4 (Or.inr hQ)))
theorem qd_pieces_l {post : Int32 → St1 → Prop} {g : Nat → Nat} {m kk v : Nat} {f0 : Int32} {a1 a2 : Nat → Int32} (hB : qd_B g m f0 a1 a2) (hN : qd_N g m kk) (hv : v < 256)
    (H : ∀ (f1 f2 f3 f4 : Int32) (a3 a4 : Nat → Int32), qd_W g m f1 a3 a4 → post 1 (f0, f1, f2, f3, f4, a1, a2, a3, a4)) (d : Nat) :
    ∀ i, i + d = 8 → ∀ (f1 f2 f3 f4 : Int32) (a3 a4 : Nat → Int32), qd_W g m f1 a3 a4 → wL_pieces_7 post (nI v) (nI kk) (d + 1) (nI i) f0 f1 f2 f3 f4 a1 a2 a3 a4 := by
  induction d with
  | zero =>
    intro i hi f1 f2 f3 f4 a3 a4 hW
    have ei : i = 8 := by omega
    subst ei
    refine br_t (by decide) (qd_sum (s := 0) hB hW (by decide) rfl (fun r g1 g2 g3 g4 b3 b4 k1 hQ hS => ?_))
    refine br_t (qd_S_f hB.2.2.2.2 (by decide) hS (qd_S_0 g m)) ?_
    refine qd_knownSums hB (Or.inr hQ) (fun h1 h2 h3 h4 c3 c4 k2 hQ2 => ?_)
    refine qd_missing k2 ?_
    exact br_t (by rw [qd_88]) (H h1 h2 h3 h4 c3 c4 (Or.inr hQ2))
  | succ d ih =>
    intro i hi f1 f2 f3 f4 a3 a4 hW
    have i8 : i < 8 := by omega
    have hp := qd_p2 i i8
    have hk := hN.1
    refine br_f (nI_ge (b := 8) i8 (by decide)) (qd_piece hB hW i8 rfl (fun r g1 g2 g3 g4 b3 b4 hQ hS => ?_))
    cases hb : kk.testBit i
    · have hr : r < 0 := by
        rcases hS with ⟨v', h1, h2, h3⟩ | ⟨h1, _⟩
        · rw [(hN.2 i i8).mpr ⟨v', h1, h3⟩] at hb
          exact absurd hb (by decide)
        · rw [h1]
          decide
      refine br_f (qd_b0n (by omega) (by omega) hb) ?_
      unfold wL_pieces_34
      refine br_t hr ?_
      unfold wL_pieces_48
      exact br_t rfl (br_t rfl (qd_pieces_68 hB (Or.inr hQ) i8 hv hS (Or.inl ⟨rfl, hr⟩) (ih (i + 1) (by omega))))
    · have hr : ¬ r < 0 := by
        obtain ⟨v', h1, h2⟩ := (hN.2 i i8).mp hb
        intro z
        rw [qd_S_neg hS z v' h1] at h2
        exact absurd h2 (by decide)
      refine br_t (qd_b1 (by omega) (by omega) hb) ?_
      unfold wL_pieces_34
      refine br_f hr ?_
      unfold wL_pieces_48
      refine br_t rfl (br_f (by decide) (qd_sum (s := 2 ^ i) hB (Or.inr hQ) hp (qd_sh1 i (by omega)) (fun r' h1 h2 h3 h4 c3 c4 k2 hQ2 hS2 => ?_)))
      exact br_t (qd_S_f hB.2.2.2.2 hp hS2 hS) (qd_pieces_68 hB (Or.inr hQ2) i8 hv hS (Or.inr ⟨by decide, hr⟩) (ih (i + 1) (by omega)))
theorem qd_pieces {post : Int32 → St1 → Prop} {g : Nat → Nat} {m v : Nat} {f0 f1 f2 f3 f4 p1 : Int32} {a1 a2 a3 a4 : Nat → Int32} (hB : qd_B g m f0 a1 a2) (hW : qd_W g m f1 a3 a4) (hv : v < 256) (e1 : p1 = nI v)
    (H : ∀ (f1 f2 f3 f4 : Int32) (a3 a4 : Nat → Int32), qd_W g m f1 a3 a4 → post 1 (f0, f1, f2, f3, f4, a1, a2, a3, a4)) :
    wpL_pieces post (f0, f1, f2, f3, f4, a1, a2, a3, a4) p1 := by
  subst e1
  unfold wpL_pieces
  refine qd_known hB hW (fun kk g1 g2 g3 g4 b3 b4 hQ hN => ?_)
  exact ⟨9, qd_pieces_l hB hN hv H 8 0 (by omega) g1 g2 g3 g4 b3 b4 (Or.inr hQ)⟩
theorem qd_sums_98 {post : Int32 → St1 → Prop} {g : Nat → Nat} {m : Nat} {f0 f1 f2 f3 f4 : Int32} {a1 a2 a3 a4 : Nat → Int32} (hB : qd_B g m f0 a1 a2)
    (H : ∀ (f1 f2 f3 f4 : Int32) (a3 a4 : Nat → Int32), qd_W g m f1 a3 a4 → post 1 (f0, f1, f2, f3, f4, a1, a2, a3, a4)) :
    wL_sums_98 post f0 f1 f2 f3 f4 a1 a2 a3 a4 := by
  unfold wL_sums_98 wpX_drops
  refine qd_enough (c := m) hB hB.2.1 (fun g2 g3 g4 b3 b4 => ?_)
  rw [qd_en_m]
  exact br_f (by decide) (H 0 g2 g3 g4 b3 b4 (Or.inl rfl))
theorem qd_sums_63 {post : Int32 → St1 → Prop} {g : Nat → Nat} {m kk c s : Nat} {x3 f0 f1 f2 f3 f4 : Int32} {a1 a2 a3 a4 : Nat → Int32} (hB : qd_B g m f0 a1 a2) (hk : kk < 256) (h1 : 1 ≤ s) (hs : s < 256) (c1 : qd_on kk 8 ≤ c) (c8 : c ≤ 8) (hc : ¬ x3 < 0 → c = qd_on kk 8)
    (H : ∀ (f1 f2 f3 f4 : Int32) (a3 a4 : Nat → Int32), qd_W g m f1 a3 a4 → post 1 (f0, f1, f2, f3, f4, a1, a2, a3, a4)) :
    wL_sums_63 post (nI s) x3 1 (nI kk) (nI c) f0 f1 f2 f3 f4 a1 a2 a3 a4 := by
  unfold wL_sums_63
  refine br_f (by decide) (qd_onesL hk rfl (br_f (nI_nlt c1 (by omega)) (br_f (nI_ne0 (by omega) (by omega)) ?_)))
  refine br_c (fun _ => qd_sums_98 hB H) (fun z => qd_onesL hk rfl (br_t (congrArg nI (hc z)) (qd_sums_98 hB H)))
theorem qd_sums_36 {post : Int32 → St1 → Prop} {g : Nat → Nat} {m s : Nat} {x3 f0 f1 f2 f3 f4 : Int32} {a1 a2 a3 a4 : Nat → Int32} (hB : qd_B g m f0 a1 a2) (hW : qd_W g m f1 a3 a4) (h1 : 1 ≤ s) (hs : s < 256) (hS : qd_S g m s x3)
    (H : ∀ (f1 f2 f3 f4 : Int32) (a3 a4 : Nat → Int32), qd_W g m f1 a3 a4 → post 1 (f0, f1, f2, f3, f4, a1, a2, a3, a4)) :
    wL_sums_36 post (nI s) x3 f0 f1 f2 f3 f4 a1 a2 a3 a4 := by
  unfold wL_sums_36 wL_sums_41
  refine qd_known hB hW (fun kk g1 g2 g3 g4 b3 b4 hQ hN => ?_)
  refine br_f (nI_nle (by omega) (by omega)) (qd_knownWith hB h1 hs rfl hN (fun c h2 h3 h4 d3 d4 c1 c8 hc => ?_))
  refine qd_sums_63 hB hN.1 h1 hs c1 c8 (fun z => ?_) H
  obtain ⟨v, hv, _, hv2⟩ := qd_S_pos hS z
  exact hc v hv hv2
theorem qd_sums {post : Int32 → St1 → Prop} {g : Nat → Nat} {m s t : Nat} {f0 f1 f2 f3 f4 p1 p2 : Int32} {a1 a2 a3 a4 : Nat → Int32} (hB : qd_B g m f0 a1 a2) (hW : qd_W g m f1 a3 a4) (h1 : 1 ≤ s) (hs : s < 256) (e1 : p1 = nI s) (ht : t < 256) (e2 : p2 = nI t)
    (H : ∀ (f1 f2 f3 f4 : Int32) (a3 a4 : Nat → Int32), qd_W g m f1 a3 a4 → post 1 (f0, f1, f2, f3, f4, a1, a2, a3, a4)) :
    wpL_sums post (f0, f1, f2, f3, f4, a1, a2, a3, a4) p1 p2 := by
  subst e1
  subst e2
  unfold wpL_sums
  refine qd_sum hB hW hs rfl (fun r g1 g2 g3 g4 b3 b4 k1 hQ hS => ?_)
  refine qd_sum hB (Or.inr hQ) ht rfl (fun r2 h1' h2 h3 h4 c3 c4 k2 hQ2 hS2 => ?_)
  refine br_c (fun _ => qd_sums_36 hB (Or.inr hQ2) h1 hs hS H) (fun z => br_c (fun _ => qd_sums_36 hB (Or.inr hQ2) h1 hs hS H) (fun y => ?_))
  refine qd_sum (s := s ^^^ t) hB (Or.inr hQ2) (qd_lx8 hs ht) (qd_xor s t) (fun r3 i1 i2 i3 i4 d3 d4 k3 hQ3 hS3 => ?_)
  refine br_t (qd_S_f hB.2.2.2.2 (qd_lx8 hs ht) hS3 ?_) (qd_sums_36 hB (Or.inr hQ3) h1 hs hS H)
  obtain ⟨v, hv, ev, hv2⟩ := qd_S_pos hS z
  obtain ⟨u, hu, eu, hu2⟩ := qd_S_pos hS2 y
  refine Or.inl ⟨v ^^^ u, qd_lx8 hv hu, by rw [ev, eu, qd_xor], ?_⟩
  have x := qd_sp_x 10 _ _ hv2 hu2
  have a1 := qd_xm (s + 256 * v) (t + 256 * u)
  have a2 := qd_xd (s + 256 * v) (t + 256 * u)
  rw [show (s + 256 * v) % 256 = s by omega, show (t + 256 * u) % 256 = t by omega] at a1
  rw [show (s + 256 * v) / 256 = v by omega, show (t + 256 * u) / 256 = u by omega] at a2
  rw [show (s ^^^ t) + 256 * (v ^^^ u) = (s + 256 * v) ^^^ (t + 256 * u) by omega]
  exact x
end
section
/-! ===== the law's two longs: a byte for each of the first eight drops ===== -/
theorem qd_c64 : ∀ e, e < 8 → (((8 * nI e).toInt64 &&& 63).toBitVec.smod 64).toNat = 8 * e := by decide +kernel
theorem qd_255 (i : Nat) : (255 : Int64).toBitVec.getLsbD i = decide (i < 8) := by
  show (BitVec.ofNat 64 (2 ^ 8 - 1)).getLsbD i = _
  rw [BitVec.getLsbD_ofNat, Nat.testBit_two_pow_sub_one]
  by_cases h : i < 8
  · rw [decide_eq_true h, decide_eq_true (show i < 64 by omega)]
    rfl
  · rw [decide_eq_false h, Bool.and_false]
theorem qd_255i (i : Nat) : (255 : Int32).toBitVec.getLsbD i = decide (i < 8) := by
  show (BitVec.ofNat 32 (2 ^ 8 - 1)).getLsbD i = _
  rw [BitVec.getLsbD_ofNat, Nat.testBit_two_pow_sub_one]
  by_cases h : i < 8
  · rw [decide_eq_true h, decide_eq_true (show i < 32 by omega)]
    rfl
  · rw [decide_eq_false h, Bool.and_false]
theorem qd_m1 (i : Nat) (h : i < 64) : (-1 : Int64).toBitVec.getLsbD i = true := by
  have e : (-1 : Int64).toBitVec = BitVec.allOnes 64 := by decide
  rw [e, BitVec.getLsbD_allOnes]
  exact decide_eq_true h
def qd_by (x : Int64) (e : Nat) : Int32 := ((x >>> ((8 * nI e).toInt64 &&& 63)).toInt32) &&& 255
def qd_put (x : Int64) (e : Nat) (s : Int32) : Int64 := (x &&& (((255 : Int64) <<< ((8 * nI e).toInt64 &&& 63)) ^^^ (-1))) ||| (s.toInt64 <<< ((8 * nI e).toInt64 &&& 63))
theorem qd_by_t (x : Int64) {e : Nat} (he : e < 8) {i : Nat} (hi : i < 32) : (qd_by x e).toBitVec.getLsbD i = (decide (i < 8) && x.toBitVec.getLsbD (8 * e + i)) := by
  unfold qd_by
  rw [Int32.toBitVec_and, BitVec.getLsbD_and, qd_255i, Bool.and_comm]
  by_cases h : i < 8
  · rw [decide_eq_true h, Bool.true_and, Bool.true_and]
    rw [Int64.toBitVec_toInt32, Int64.toBitVec_shiftRight, BitVec.getLsbD_signExtend, decide_eq_true hi, Bool.true_and, if_pos (show i < 64 by omega)]
    show (x.toBitVec.sshiftRight (((8 * nI e).toInt64 &&& 63).toBitVec.smod 64).toNat).getLsbD i = _
    rw [qd_c64 e he, BitVec.getLsbD_sshiftRight, decide_eq_false (show ¬ 64 ≤ i by omega), if_pos (show 8 * e + i < 64 by omega)]
    rfl
  · rw [decide_eq_false h, Bool.false_and, Bool.false_and]
theorem qd_sh_t (y : Int64) {e : Nat} (he : e < 8) {i : Nat} (hi : i < 64) : (y <<< ((8 * nI e).toInt64 &&& 63)).toBitVec.getLsbD i = (decide (8 * e ≤ i) && y.toBitVec.getLsbD (i - 8 * e)) := by
  show (y.toBitVec <<< (((8 * nI e).toInt64 &&& 63).toBitVec.smod 64).toNat).getLsbD i = _
  rw [qd_c64 e he, BitVec.getLsbD_shiftLeft, decide_eq_true hi, Bool.true_and]
  by_cases h : i < 8 * e
  · rw [decide_eq_true h, decide_eq_false (show ¬ 8 * e ≤ i by omega)]
    rfl
  · rw [decide_eq_false h, decide_eq_true (show 8 * e ≤ i by omega)]
    rfl
theorem qd_put_t (x : Int64) {e s : Nat} (he : e < 8) (hs : s < 256) {i : Nat} (hi : i < 64) : (qd_put x e (nI s)).toBitVec.getLsbD i = if 8 * e ≤ i ∧ i < 8 * e + 8 then s.testBit (i - 8 * e) else x.toBitVec.getLsbD i := by
  unfold qd_put
  have hsb : (nI s).toInt64.toBitVec = BitVec.ofNat 64 s := by
    rw [nI_l (by omega)]
    rfl
  rw [Int64.toBitVec_or, BitVec.getLsbD_or, Int64.toBitVec_and, BitVec.getLsbD_and, Int64.toBitVec_xor, BitVec.getLsbD_xor, qd_sh_t _ he hi, qd_sh_t _ he hi, qd_m1 i hi, qd_255, hsb, BitVec.getLsbD_ofNat]
  by_cases h : 8 * e ≤ i
  · by_cases h2 : i < 8 * e + 8
    · rw [if_pos ⟨h, h2⟩, decide_eq_true h, decide_eq_true (show i - 8 * e < 8 by omega), decide_eq_true (show i - 8 * e < 64 by omega)]
      simp
    · rw [if_neg (fun z => h2 z.2), decide_eq_true h, decide_eq_false (show ¬ i - 8 * e < 8 by omega), qd_t8 hs (show 8 ≤ i - 8 * e by omega)]
      simp
  · rw [if_neg (fun z => h z.1), decide_eq_false h]
    simp
theorem qd_by_e (x : Int64) {e s : Nat} (he : e < 8) (hs : s < 256) : qd_by (qd_put x e (nI s)) e = nI s := by
  apply Int32.toBitVec_inj.mp
  apply BitVec.eq_of_getLsbD_eq
  intro i hi
  show (qd_by (qd_put x e (nI s)) e).toBitVec.getLsbD i = (BitVec.ofNat 32 s).getLsbD i
  rw [qd_by_t _ he hi, BitVec.getLsbD_ofNat, decide_eq_true hi, Bool.true_and]
  by_cases h : i < 8
  · rw [decide_eq_true h, Bool.true_and, qd_put_t x he hs (by omega), if_pos ⟨by omega, by omega⟩, show 8 * e + i - 8 * e = i by omega]
  · rw [decide_eq_false h, Bool.false_and, qd_t8 hs (by omega)]
theorem qd_by_n (x : Int64) {e j s : Nat} (he : e < 8) (hj : j < 8) (hs : s < 256) (h : j ≠ e) : qd_by (qd_put x e (nI s)) j = qd_by x j := by
  apply Int32.toBitVec_inj.mp
  apply BitVec.eq_of_getLsbD_eq
  intro i hi
  rw [qd_by_t _ hj hi, qd_by_t _ hj hi]
  by_cases z : i < 8
  · rw [qd_put_t x he hs (by omega), if_neg (by omega)]
  · rw [decide_eq_false z, Bool.false_and, Bool.false_and]
/-- the longs hold the sets and values of the kept drops -/
def qd_Y (g : Nat → Nat) (m : Nat) (x2 x4 : Int64) : Prop := ∀ e, e < 8 → m.testBit e = true → qd_by x2 e = nI (g e % 256) ∧ qd_by x4 e = nI (g e / 256)
end
section
/-! ===== the law ===== -/
/-- the law goes on at step i with any desk that is in order -/
def qd_J (J : Int64 → Int64 → Int32 → Int32 → Int32 → Int32 → Int32 → Int32 → (Nat → Int32) → (Nat → Int32) → (Nat → Int32) → (Nat → Int32) → Prop) (i : Nat) : Prop := ∀ (g : Nat → Nat) (m : Nat) (x2 x4 : Int64) (f0 f1 f2 f3 f4 : Int32) (a1 a2 a3 a4 : Nat → Int32), qd_B g m f0 a1 a2 → qd_W g m f1 a3 a4 → qd_Y g m x2 x4 → J x2 x4 (nI i) f0 f1 f2 f3 f4 a1 a2 a3 a4
theorem qd_law_397 {post : Int32 → Prop} {L : Nat} {xs : Nat → Int32} {J : Int64 → Int64 → Int32 → Int32 → Int32 → Int32 → Int32 → Int32 → (Nat → Int32) → (Nat → Int32) → (Nat → Int32) → (Nat → Int32) → Prop} {g : Nat → Nat} {m i s v d kc ks : Nat} {x2 x4 : Int64} {x8 f0 f1 f2 f3 f4 : Int32} {a1 a2 a3 a4 : Nat → Int32} (hJ : qd_J J (i + 1)) (hB : qd_B g m f0 a1 a2) (hW : qd_W g m f1 a3 a4) (hY : qd_Y g m x2 x4) (h1 : 1 ≤ s) (hs : s < 256) (hv : v < 256) (hd : d < 10) :
    wL_law_397 post L xs J x2 x4 (nI i) x8 (nI s) (nI v) (nI d) (qd_id g m d) kc ks f0 f1 f2 f3 f4 a1 a2 a3 a4 := by
  unfold wL_law_397
  refine qd_idle hB hW hd rfl (fun g1 g2 g3 g4 b3 b4 w1 => ?_)
  refine br_t rfl (qd_pieces hB w1 hv rfl (fun k1 k2 k3 k4 c3 c4 w2 => ?_))
  obtain ⟨t, ht, et⟩ := pk_andE (x8 >>> ((8 : Int32) &&& 31)) (m := 255) 8 (by decide)
  refine br_f (by decide) (qd_sums hB w2 h1 hs rfl ht et (fun l1 l2 l3 l4 d3 d4 w3 => ?_))
  exact br_f (by decide) (nm_r (nI_1 i) (hJ g m x2 x4 f0 l1 l2 l3 l4 a1 a2 d3 d4 hB w3 hY))
theorem qd_law_379 {post : Int32 → Prop} {L : Nat} {xs : Nat → Int32} {J : Int64 → Int64 → Int32 → Int32 → Int32 → Int32 → Int32 → Int32 → (Nat → Int32) → (Nat → Int32) → (Nat → Int32) → (Nat → Int32) → Prop} {g : Nat → Nat} {m i s v d kc ks : Nat} {x2 x4 : Int64} {x8 x15 x16 x17 f0 f1 f2 f3 f4 : Int32} {a1 a2 a3 a4 : Nat → Int32} (hJ : qd_J J (i + 1)) (hB : qd_B g m f0 a1 a2) (hW : qd_W g m f1 a3 a4) (hY : qd_Y g m x2 x4) (h1 : 1 ≤ s) (hs : s < 256) (hv : v < 256) (hd : d < 10)
    (hx : x15 = 0 ∨ ∃ e, e < 8 ∧ m.testBit e = true ∧ x16 = nI (g e % 256) ∧ x17 = nI (g e / 256)) :
    wL_law_379 post L xs J x2 x4 (nI i) x8 (nI s) (nI v) (nI d) x15 x16 x17 (qd_id g m d) kc ks f0 f1 f2 f3 f4 a1 a2 a3 a4 := by
  unfold wL_law_379
  refine br_c (fun _ => qd_law_397 hJ hB hW hY h1 hs hv hd) (fun z => ?_)
  rcases hx with y | ⟨e, he, hb, e1, e2⟩
  · exact absurd y z
  · have hg := hB.2.2.1 e (by omega)
    refine qd_sum (s := g e % 256) hB hW (by omega) e1 (fun r g1 g2 g3 g4 b3 b4 k1 hQ hS => br_t ?_ (qd_law_397 hJ hB (Or.inr hQ) hY h1 hs hv hd))
    refine qd_S_f hB.2.2.2.2 (by omega) hS (Or.inl ⟨g e / 256, by omega, e2, ?_⟩)
    rw [show g e % 256 + 256 * (g e / 256) = g e by omega]
    exact qd_sp_g (by omega) hb
theorem qd_law_316 {post : Int32 → Prop} {L : Nat} {xs : Nat → Int32} {J : Int64 → Int64 → Int32 → Int32 → Int32 → Int32 → Int32 → Int32 → (Nat → Int32) → (Nat → Int32) → (Nat → Int32) → (Nat → Int32) → Prop} {g : Nat → Nat} {m i s v d e kc ks : Nat} {x2 x4 : Int64} {x8 z0 f0 f1 f2 f3 f4 : Int32} {a1 a2 a3 a4 : Nat → Int32} (hJ : qd_J J (i + 1)) (hB : qd_B g m f0 a1 a2) (hW : qd_W g m f1 a3 a4) (hY : qd_Y g m x2 x4) (h1 : 1 ≤ s) (hs : s < 256) (hv : v < 256) (hd : d < 10) (he : e < 8) (hz : z0 = 0 ∨ m.testBit e = true) :
    wL_law_316 post L xs J x2 x4 (nI i) x8 (nI s) (nI v) (nI d) (nI m) (nI e) z0 kc ks f0 f1 f2 f3 f4 a1 a2 a3 a4 := by
  have hm := hB.1
  have hx : z0 = 0 ∨ ∃ e', e' < 8 ∧ m.testBit e' = true ∧ qd_by x2 e = nI (g e' % 256) ∧ qd_by x4 e = nI (g e' / 256) := by
    rcases hz with z | z
    · exact Or.inl z
    · exact Or.inr ⟨e, he, z, (hY e he z).1, (hY e he z).2⟩
  unfold wL_law_316
  refine nm_r (e' := qd_by x2 e) rfl (nm_r (e' := qd_by x4 e) rfl ?_)
  cases hb : m.testBit d
  · refine br_f (qd_b0n (by omega) (by omega) hb) ?_
    have hi : qd_id g m d = 0 := if_neg (by rw [hb]; decide)
    have h : wL_law_379 post L xs J x2 x4 (nI i) x8 (nI s) (nI v) (nI d) z0 (qd_by x2 e) (qd_by x4 e) (qd_id g m d) kc ks f0 f1 f2 f3 f4 a1 a2 a3 a4 := qd_law_379 hJ hB hW hY h1 hs hv hd hx
    rw [hi] at h
    unfold wL_law_378
    exact h
  · refine br_t (qd_b1 (by omega) (by omega) hb) (qd_enough (c := qd_cl m d) hB (qd_cl_e m (by omega)) (fun g2 g3 g4 b3 b4 => ?_))
    have hi : qd_id g m d = qd_en g m (qd_cl m d) := if_pos hb
    have h : wL_law_379 post L xs J x2 x4 (nI i) x8 (nI s) (nI v) (nI d) z0 (qd_by x2 e) (qd_by x4 e) (qd_id g m d) kc ks f0 0 g2 g3 g4 a1 a2 b3 b4 := qd_law_379 hJ hB (Or.inl rfl) hY h1 hs hv hd hx
    rw [hi] at h
    by_cases z : qd_en g m (qd_cl m d) = 0
    · rw [z] at h
      refine br_t z ?_
      unfold wL_law_378
      exact h
    · rw [qd_en_01 _ _ _ z] at h
      exact br_f z h
theorem qd_law_287 {post : Int32 → Prop} {L : Nat} {xs : Nat → Int32} {J : Int64 → Int64 → Int32 → Int32 → Int32 → Int32 → Int32 → Int32 → (Nat → Int32) → (Nat → Int32) → (Nat → Int32) → (Nat → Int32) → Prop} {g : Nat → Nat} {m i s v d kc ks : Nat} {x2 x4 : Int64} {x8 f0 f1 f2 f3 f4 : Int32} {a1 a2 a3 a4 : Nat → Int32} (hJ : qd_J J (i + 1)) (hB : qd_B g m f0 a1 a2) (hW : qd_W g m f1 a3 a4) (hY : qd_Y g m x2 x4) (h1 : 1 ≤ s) (hs : s < 256) (hv : v < 256) (hd : d < 10) :
    wL_law_287 post L xs J x2 x4 (nI i) x8 (nI s) (nI v) (nI d) kc ks f0 f1 f2 f3 f4 a1 a2 a3 a4 := by
  have hm := hB.1
  have e0 := hB.2.1
  subst e0
  unfold wL_law_287 wpX_drops
  refine nm_r (e' := nI (d % 8)) (pk_andN (by omega) 3 (by decide)) ?_
  have h8 : d % 8 < 8 := by omega
  cases hb : m.testBit (d % 8)
  · exact br_f (qd_b0n (by omega) (by omega) hb) (qd_law_316 hJ hB hW hY h1 hs hv hd h8 (Or.inl rfl))
  · exact br_t (qd_b1 (by omega) (by omega) hb) (qd_law_316 hJ hB hW hY h1 hs hv hd h8 (Or.inr hb))
theorem qd_law_190n {post : Int32 → Prop} {L : Nat} {xs : Nat → Int32} {J : Int64 → Int64 → Int32 → Int32 → Int32 → Int32 → Int32 → Int32 → (Nat → Int32) → (Nat → Int32) → (Nat → Int32) → (Nat → Int32) → Prop} {kc ks : Nat} {x2 x4 : Int64} {x6 x8 x9 x10 x11 x13 f0 f1 f2 f3 f4 : Int32} {a1 a2 a3 a4 : Nat → Int32} (hx : x13 < 0) (h : wL_law_287 post L xs J x2 x4 x6 x8 x9 x10 x11 kc ks f0 f1 f2 f3 f4 a1 a2 a3 a4) :
    wL_law_190 post L xs J x2 x4 x6 x8 x9 x10 x11 x13 kc ks f0 f1 f2 f3 f4 a1 a2 a3 a4 := by
  unfold wL_law_190
  refine br_t hx ?_
  unfold wL_law_230 wL_law_231
  refine br_t hx ?_
  unfold wL_law_273 wL_law_275
  exact h
theorem qd_law_190p {post : Int32 → Prop} {L : Nat} {xs : Nat → Int32} {J : Int64 → Int64 → Int32 → Int32 → Int32 → Int32 → Int32 → Int32 → (Nat → Int32) → (Nat → Int32) → (Nat → Int32) → (Nat → Int32) → Prop} {k kc ks : Nat} {x2 x4 : Int64} {x6 x8 x9 x10 x11 f0 f1 f2 f3 f4 : Int32} {a1 a2 a3 a4 : Nat → Int32} (hk : k < 10) (h8 : 8 ≤ k → wL_law_287 post L xs J x2 x4 x6 x8 x9 x10 x11 kc ks f0 f1 f2 f3 f4 a1 a2 a3 a4) (h7 : k < 8 → wL_law_287 post L xs J (qd_put x2 k x9) (qd_put x4 k x10) x6 x8 x9 x10 x11 kc ks f0 f1 f2 f3 f4 a1 a2 a3 a4) :
    wL_law_190 post L xs J x2 x4 x6 x8 x9 x10 x11 (nI k) kc ks f0 f1 f2 f3 f4 a1 a2 a3 a4 := by
  have hp : ¬ nI k < 0 := nI_pos (by omega)
  unfold wL_law_190
  refine br_f hp ?_
  rcases Nat.lt_or_ge k 8 with z | z
  · have hn : ¬ (8 : Int32) ≤ nI k := nI_ge (b := 8) z (by decide)
    refine br_f hn ?_
    unfold wL_law_231
    refine br_f hp (br_f hn ?_)
    unfold wL_law_275
    exact h7 z
  · have hn : (8 : Int32) ≤ nI k := nI_le (a := 8) z (by omega)
    refine br_t hn ?_
    unfold wL_law_230 wL_law_231
    refine br_f hp (br_t hn ?_)
    unfold wL_law_273 wL_law_275
    exact h8 z
theorem qd_Y_8 {g : Nat → Nat} {m m' k w : Nat} {x2 x4 : Int64} (hY : qd_Y g m x2 x4) (hk : 8 ≤ k) (h : ∀ j, j ≠ k → m'.testBit j = m.testBit j) : qd_Y (qd_up g k w) m' x2 x4 := by
  intro e he hb
  rw [qd_up_n g w (show e ≠ k by omega)]
  rw [h e (by omega)] at hb
  exact hY e he hb
theorem qd_Y_7 {g : Nat → Nat} {m m' k s v : Nat} {x2 x4 : Int64} (hY : qd_Y g m x2 x4) (hk : k < 8) (hs : s < 256) (hv : v < 256) (h : ∀ j, j ≠ k → m'.testBit j = m.testBit j) : qd_Y (qd_up g k (s + 256 * v)) m' (qd_put x2 k (nI s)) (qd_put x4 k (nI v)) := by
  intro e he hb
  by_cases z : e = k
  · rw [z, qd_up_e, qd_by_e x2 hk hs, qd_by_e x4 hk hv]
    exact ⟨congrArg nI (by omega), congrArg nI (by omega)⟩
  · rw [qd_up_n g _ z, qd_by_n x2 hk he hs z, qd_by_n x4 hk he hv z]
    rw [h e z] at hb
    exact hY e he hb
theorem qd_law_89 {post : Int32 → Prop} {L : Nat} {xs : Nat → Int32} {J : Int64 → Int64 → Int32 → Int32 → Int32 → Int32 → Int32 → Int32 → (Nat → Int32) → (Nat → Int32) → (Nat → Int32) → (Nat → Int32) → Prop} {g : Nat → Nat} {m i s kc ks : Nat} {x2 x4 : Int64} {x7 x8 z0 f0 f1 f2 f3 f4 : Int32} {a1 a2 a3 a4 : Nat → Int32} (hJ : qd_J J (i + 1)) (hB : qd_B g m f0 a1 a2) (hW : qd_W g m f1 a3 a4) (hY : qd_Y g m x2 x4) (h1 : 1 ≤ s) (hs : s < 256) (ez : z0 = nI s) :
    wL_law_89 post L xs J x2 x4 (nI i) x7 x8 z0 kc ks f0 f1 f2 f3 f4 a1 a2 a3 a4 := by
  subst ez
  obtain ⟨v, hv, ev⟩ := pk_andE (x8 >>> ((16 : Int32) &&& 31)) (m := 255) 8 (by decide)
  obtain ⟨c, hc, ec⟩ := pk_andE (x8 >>> ((3 : Int32) &&& 31)) (m := 255) 8 (by decide)
  have hd : c % 10 < 10 := by omega
  unfold wL_law_89
  refine nm_r ev ⟨by decide, nm_r (e' := nI (c % 10)) (by rw [ec]; exact pk_rem (d := 10) (by omega) (by decide) (by decide)) ?_⟩
  refine qd_sum hB hW hs rfl (fun r g1 g2 g3 g4 b3 b4 k1 hQ hS => ?_)
  refine br_c (fun _ => ?_) (fun _ => ?_)
  · refine qd_drop hB (Or.inr hQ) hd rfl (fun r' m' h0' h1' hB' hW' hm' => ?_)
    exact qd_law_287 hJ hB' hW' (fun e he hb => hY e he (hm' e hb)) h1 hs hv hd
  · refine qd_take hB (Or.inr hQ) h1 hs rfl hv rfl ?_ ?_ ?_
    · have h161 : wL_law_161 post L xs J x2 x4 (nI i) x8 (nI s) (nI v) (nI (c % 10)) r (-2) kc ks f0 g1 g2 g3 g4 a1 a2 b3 b4 := by
        unfold wL_law_161 wL_law_162
        exact br_t rfl (br_f (by decide) (qd_law_190n (by decide) (qd_law_287 hJ hB (Or.inr hQ) hY h1 hs hv hd)))
      exact br_c (fun _ => h161) (fun _ => br_c (fun _ => h161) (fun _ => br_t (by decide) h161))
    · intro l1 l2 l3 l4 c3 c4 hQ' hv'
      obtain ⟨v', hv', hne, hsp⟩ := hv'
      have r1 : ¬ r < 0 := fun z => by
        rw [qd_S_neg hS z v' hv'] at hsp
        exact absurd hsp (by decide)
      obtain ⟨u, hu, eu, hu2⟩ := qd_S_pos hS r1
      have r2 : ¬ r = nI v := fun z => by
        rw [eu, nI_eq (by omega) (by omega)] at z
        rw [z] at hu2
        exact hne (qd_val hB.2.2.2.2 hs hsp hu2)
      refine br_f r1 (br_f r2 (br_t (by decide) ?_))
      unfold wL_law_161 wL_law_162
      exact br_t rfl (br_t rfl (br_f r1 (br_f r2 (qd_law_190n (by decide) (qd_law_287 hJ hB (Or.inr hQ') hY h1 hs hv hd)))))
    · intro k m' h0' l1 l2 l3 l4 c1 c2 c3 c4 hk hacc hB' hW' hm'
      have hk3 : ¬ nI k = -3 := fun z => by
        have y : ¬ nI k < 0 := nI_pos (by omega)
        rw [z] at y
        exact y (by decide)
      have h161 : wL_law_161 post L xs J x2 x4 (nI i) x8 (nI s) (nI v) (nI (c % 10)) r (nI k) kc ks h0' l1 l2 l3 l4 c1 c2 c3 c4 := by
        unfold wL_law_161 wL_law_162
        refine br_t rfl (br_f hk3 (qd_law_190p hk (fun z => ?_) (fun z => ?_)))
        · exact qd_law_287 hJ hB' hW' (qd_Y_8 hY z hm') h1 hs hv hd
        · exact qd_law_287 hJ hB' hW' (qd_Y_7 hY z hs hv hm') h1 hs hv hd
      refine br_c (fun _ => h161) (fun z => br_t ?_ h161)
      obtain ⟨u, hu, eu, hu2⟩ := qd_S_pos hS z
      rw [eu, hacc u hu2]
theorem qd_law_76 {post : Int32 → Prop} {L : Nat} {xs : Nat → Int32} {J : Int64 → Int64 → Int32 → Int32 → Int32 → Int32 → Int32 → Int32 → (Nat → Int32) → (Nat → Int32) → (Nat → Int32) → (Nat → Int32) → Prop} {g : Nat → Nat} {m i s kc ks : Nat} {x2 x4 : Int64} {x7 x8 z0 f0 f1 f2 f3 f4 : Int32} {a1 a2 a3 a4 : Nat → Int32} (hJ : qd_J J (i + 1)) (hB : qd_B g m f0 a1 a2) (hW : qd_W g m f1 a3 a4) (hY : qd_Y g m x2 x4) (hs : s < 256) (ez : z0 = nI s) :
    wL_law_76 post L xs J x2 x4 (nI i) x7 x8 z0 kc ks f0 f1 f2 f3 f4 a1 a2 a3 a4 := by
  unfold wL_law_76
  refine br_c (fun _ => qd_law_89 (s := 4) hJ hB hW hY (by decide) (by decide) rfl) (fun z => qd_law_89 hJ hB hW hY ?_ hs ez)
  rcases Nat.eq_zero_or_pos s with y | y
  · exact absurd (by rw [ez]; exact qd_n0 y) z
  · exact y
theorem qd_of32 (x : Int32) : ∃ n, x = nI n := ⟨x.toBitVec.toNat, Int32.toBitVec_inj.mp (by show _ = BitVec.ofNat 32 _; simp)⟩
theorem qd_law_16 {L : Nat} {xs : Nat → Int32} {kc ks : Nat} (hL : L < 2 ^ 31) (d : Nat) : ∀ i, i + d = L → qd_J (wL_law_16 (fun r => r = 1) L xs kc ks (d + 1)) i := by
  induction d with
  | zero =>
    intro i hi g m x2 x4 f0 f1 f2 f3 f4 a1 a2 a3 a4 hB hW hY
    exact br_t (nI_le (a := L) (by omega) (by omega)) rfl
  | succ d ih =>
    intro i hi g m x2 x4 f0 f1 f2 f3 f4 a1 a2 a3 a4 hB hW hY
    have hJ := ih (i + 1) (by omega)
    refine br_f (nI_ge (b := L) (by omega) hL) ⟨vp_in_nI (by omega) hL, nm_e ⟨vp_in_nI (by omega) hL, nm_e ?_⟩⟩
    refine br_c (fun _ => qd_law_76 (s := 1) hJ hB hW hY (by decide) rfl) (fun _ => ?_)
    obtain ⟨a, ha, ea⟩ := pk_andE (xs (nI i).toNatClampNeg >>> ((4 : Int32) &&& 31)) (m := 255) 8 (by decide)
    obtain ⟨b, eb⟩ := qd_of32 (((xs (nI i).toNatClampNeg >>> ((4 : Int32) &&& 31)) >>> ((8 : Int32) &&& 31) ||| ((xs (nI i).toNatClampNeg >>> ((4 : Int32) &&& 31)) >>> ((5 : Int32) &&& 31) &&& 1)) ||| 128)
    refine qd_law_76 (s := a &&& b) hJ hB hW hY (Nat.lt_of_le_of_lt Nat.and_le_left ha) ?_
    rw [ea, eb, qd_and]
theorem qd_sp_e {g : Nat → Nat} (n p : Nat) (h : qd_sp g 0 n p = true) : p = 0 := by
  induction n with
  | zero => exact qd_sp_z.mp h
  | succ n ih =>
    rcases qd_sp_s.mp h with z | ⟨z, _⟩
    · exact ih z
    · rw [Nat.zero_testBit] at z
      exact absurd z (by decide)
theorem i_vc (xs : Nat → Int32) (L : Nat) (hL : L ≤ 260) : wpL_law (fun r => r = 1) L xs := by
  unfold wpL_law
  refine ⟨4, 36, by decide, by decide, ?_⟩
  unfold wpX_init
  refine ⟨by decide, by decide, by decide, by decide, by decide, by decide, by decide, by decide, ?_⟩
  refine ⟨L + 1, qd_law_16 (by omega) L 0 (by omega) (fun _ => 0) 0 0 0 0 0 0 0 0 (fun _ => 0) (fun _ => 0) (fun _ => 0) (fun _ => 0) ⟨by decide, rfl, fun _ _ => (by decide : (0 : Nat) < 65536), fun _ _ => ⟨(qd_n0 (x := 0 % 256) rfl).symm, (qd_n0 (x := 0 / 256) rfl).symm⟩, fun p hp _ => qd_sp_e 10 p hp⟩ (Or.inl rfl) (fun e _ hb => ?_)⟩
  rw [Nat.zero_testBit] at hb
  exact absurd hb (by decide)
end
