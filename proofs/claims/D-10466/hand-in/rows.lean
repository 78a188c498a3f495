section
theorem qb_and (a b : Nat) : nI a &&& nI b = nI (a &&& b) := by
  apply Int32.toBitVec_inj.1
  show BitVec.ofNat 32 a &&& BitVec.ofNat 32 b = BitVec.ofNat 32 (a &&& b)
  exact BitVec.ofNat_and.symm
theorem qb_or (a b : Nat) : nI a ||| nI b = nI (a ||| b) := by
  apply Int32.toBitVec_inj.1
  show BitVec.ofNat 32 a ||| BitVec.ofNat 32 b = BitVec.ofNat 32 (a ||| b)
  exact BitVec.ofNat_or.symm
theorem qb_xor (a b : Nat) : nI a ^^^ nI b = nI (a ^^^ b) := by
  apply Int32.toBitVec_inj.1
  show BitVec.ofNat 32 a ^^^ BitVec.ofNat 32 b = BitVec.ofNat 32 (a ^^^ b)
  exact BitVec.ofNat_xor.symm
theorem qb_s31 : ∀ n, n < 32 → ((nI n &&& 31).toBitVec.smod 32).toNat = n := by decide +kernel
theorem qb_shr {x j : Nat} (hx : x < 2 ^ 31) (hj : j < 32) : nI x >>> (nI j &&& 31) = nI (x / 2 ^ j) := pk_shrN hx _ j (qb_s31 j hj)
theorem qb_bit {x j : Nat} (hx : x < 2 ^ 31) (hj : j < 32) : (nI x >>> (nI j &&& 31)) &&& 1 = nI (x.testBit j).toNat := by
  rw [qb_shr hx hj]
  show nI (x / 2 ^ j) &&& nI 1 = _
  rw [qb_and, Nat.and_one_is_mod, Nat.toNat_testBit]
theorem qb_br {X J : Int32} {A B : Prop} (x j : Nat) (f : x.testBit j = true → A) (g : x.testBit j = false → B) (hX : X = nI x := by rfl) (hJ : J = nI j := by rfl) (hx : x < 2 ^ 31 := by omega) (hj : j < 32 := by omega) : (((X >>> (J &&& 31)) &&& 1) = 1 → A) ∧ (¬ ((X >>> (J &&& 31)) &&& 1) = 1 → B) := by
  subst hX hJ
  rw [qb_bit hx hj]
  cases h : x.testBit j with
  | true => exact br_t rfl (f h)
  | false => exact br_f (by decide) (g h)
theorem qb_br0 {X J : Int32} {A B : Prop} (x j : Nat) (f : x.testBit j = false → A) (g : x.testBit j = true → B) (hX : X = nI x := by rfl) (hJ : J = nI j := by rfl) (hx : x < 2 ^ 31 := by omega) (hj : j < 32 := by omega) : (((X >>> (J &&& 31)) &&& 1) = 0 → A) ∧ (¬ ((X >>> (J &&& 31)) &&& 1) = 0 → B) := by
  subst hX hJ
  rw [qb_bit hx hj]
  cases h : x.testBit j with
  | true => exact br_f (by decide) (g h)
  | false => exact br_t rfl (f h)
theorem qb_sh {j : Nat} (hj : j < 32) : (1 : Int32) <<< (nI j &&& 31) = nI (2 ^ j) := by
  have h : 1 * 2 ^ j < 2 ^ 32 := by
    rw [Nat.one_mul]
    exact Nat.pow_lt_pow_right (by decide) hj
  have e := pk_shlN (n := 1) (nI j &&& 31) j (qb_s31 j hj) h
  rw [Nat.one_mul] at e
  exact e
theorem qb_m1 : (-1 : Int32) = nI (2 ^ 32 - 1) := by decide
/-- a without b, as sets of bits -/
def qb_d (a b : Nat) : Nat := a ^^^ (a &&& b)
theorem qb_d_tb (a b i : Nat) : (qb_d a b).testBit i = (a.testBit i && !b.testBit i) := by
  unfold qb_d
  rw [Nat.testBit_xor, Nat.testBit_and]
  cases a.testBit i <;> cases b.testBit i <;> rfl
theorem qb_df (a w : Nat) : nI a &&& (nI w ^^^ (-1)) = nI (qb_d a w) := by
  rw [qb_m1]
  apply Int32.toBitVec_inj.1
  show BitVec.ofNat 32 a &&& (BitVec.ofNat 32 w ^^^ BitVec.ofNat 32 (2 ^ 32 - 1)) = BitVec.ofNat 32 (qb_d a w)
  apply BitVec.eq_of_getLsbD_eq
  intro i hi
  simp only [BitVec.getLsbD_and, BitVec.getLsbD_xor, BitVec.getLsbD_ofNat, qb_d_tb, Nat.testBit_two_pow_sub_one, hi, decide_true, Bool.true_and]
  cases a.testBit i <;> cases w.testBit i <;> rfl
theorem qb_lt {x n : Nat} (h : ∀ i, x.testBit i = true → i < n) : x < 2 ^ n := by
  apply Nat.lt_pow_two_of_testBit
  intro i hi
  cases e : x.testBit i with
  | false => rfl
  | true => exact absurd (h i e) (by omega)
theorem qb_of_lt {x n i : Nat} (hx : x < 2 ^ n) (h : x.testBit i = true) : i < n := by
  rcases Nat.lt_or_ge i n with z | z
  · exact z
  · have : x < 2 ^ i := Nat.lt_of_lt_of_le hx (Nat.pow_le_pow_right (by decide) z)
    rw [Nat.testBit_lt_two_pow this] at h
    exact absurd h (by decide)
theorem qb_d_lt {a b n : Nat} (h : a < 2 ^ n) : qb_d a b < 2 ^ n := by
  apply qb_lt
  intro i hi
  rw [qb_d_tb] at hi
  exact qb_of_lt h (by revert hi; cases a.testBit i <;> simp)
/-- bits of c - 1, i the lowest bit of c -/
theorem qb_pred : ∀ (i c : Nat), c.testBit i = true → (∀ j, j < i → c.testBit j = false) → ∀ j, (c - 1).testBit j = if j < i then true else if j = i then false else c.testBit j := by
  intro i
  induction i with
  | zero =>
    intro c h _ j
    rw [Nat.testBit_zero, decide_eq_true_iff] at h
    cases j with
    | zero =>
      rw [Nat.testBit_zero]
      simp
      omega
    | succ j =>
      rw [Nat.testBit_add_one, Nat.testBit_add_one, show (c - 1) / 2 = c / 2 by omega]
      simp
  | succ i ih =>
    intro c h h2 j
    have h0 := h2 0 (by omega)
    rw [Nat.testBit_zero, decide_eq_false_iff_not] at h0
    rw [Nat.testBit_add_one] at h
    have hc : c / 2 ≠ 0 := by
      intro z
      rw [z, Nat.zero_testBit] at h
      exact absurd h (by decide)
    cases j with
    | zero =>
      rw [Nat.testBit_zero]
      simp
      omega
    | succ j =>
      have := ih (c / 2) h (fun k hk => by rw [← Nat.testBit_add_one]; exact h2 (k + 1) (by omega)) j
      rw [Nat.testBit_add_one, Nat.testBit_add_one, show (c - 1) / 2 = c / 2 - 1 by omega, this]
      by_cases h1 : j < i
      · rw [if_pos h1, if_pos (by omega)]
      · rw [if_neg h1, if_neg (show ¬ j + 1 < i + 1 by omega)]
        by_cases h3 : j = i
        · rw [if_pos h3, if_pos (by omega)]
        · rw [if_neg h3, if_neg (by omega)]
theorem qb_least {c : Nat} (h : c ≠ 0) : ∃ i, c.testBit i = true ∧ ∀ j, j < i → c.testBit j = false := by
  obtain ⟨i, h1, h2⟩ := pk_least (fun i => c.testBit i = true) (Nat.exists_testBit_of_ne_zero h)
  exact ⟨i, h1, fun j hj => by
    cases e : c.testBit j with
    | false => rfl
    | true => exact absurd e (h2 j hj)⟩
theorem qb_neg {c : Nat} (h0 : c ≠ 0) (hc : c < 2 ^ 32) : -(nI c) = nI (2 ^ 32 - c) := by
  apply Int32.toBitVec_inj.1
  rw [Int32.toBitVec_neg]
  apply BitVec.eq_of_toNat_eq
  rw [BitVec.toNat_neg, pk_tn hc, pk_tn (by omega)]
  exact Nat.mod_eq_of_lt (by omega)
theorem qb_low {c : Nat} (h0 : c ≠ 0) (hc : c < 2 ^ 31) : ∃ i, c.testBit i = true ∧ nI c &&& (-(nI c)) = nI (2 ^ i) := by
  obtain ⟨i, h1, h2⟩ := qb_least h0
  refine ⟨i, h1, ?_⟩
  rw [qb_neg h0 (by omega), qb_and]
  have hi : i < 31 := qb_of_lt hc h1
  have e : c &&& (2 ^ 32 - c) = 2 ^ i := by
    apply Nat.eq_of_testBit_eq
    intro j
    have hp := qb_pred i c h1 h2 j
    have h3 : 2 ^ 32 - c = 2 ^ 32 - ((c - 1) + 1) := by omega
    rw [Nat.testBit_and, h3, Nat.testBit_two_pow_sub_succ (by omega), hp, Nat.testBit_two_pow]
    by_cases z : j < i
    · rw [h2 j z, decide_eq_false (show ¬ i = j by omega)]
      rfl
    · rw [if_neg z]
      by_cases z2 : j = i
      · rw [if_pos z2, z2, h1, decide_eq_true (show i < 32 by omega), decide_eq_true rfl]
        rfl
      · rw [if_neg z2, decide_eq_false (show ¬ i = j by omega)]
        cases c.testBit j <;> simp
  rw [e]
theorem qb_one {h i j : Nat} (e : h &&& (h - 1) = 0) (hi : h.testBit i = true) (hj : h.testBit j = true) : i = j := by
  have h0 : h ≠ 0 := by
    intro z
    rw [z, Nat.zero_testBit] at hi
    exact absurd hi (by decide)
  obtain ⟨l, h1, h2⟩ := qb_least h0
  have key : ∀ k, h.testBit k = true → k = l := by
    intro k hk
    rcases Nat.lt_trichotomy k l with z | z | z
    · rw [h2 k z] at hk
      exact absurd hk (by decide)
    · exact z
    · have hp := qb_pred l h h1 h2 k
      rw [if_neg (by omega), if_neg (by omega), hk] at hp
      have := congrArg (fun x => x.testBit k) e
      simp only [Nat.testBit_and, hk, hp, Nat.zero_testBit] at this
      exact absurd this (by decide)
  rw [key i hi, key j hj]
end
section
/-- how many i below n have p -/
def qc_n : Nat → (Nat → Bool) → Nat
  | 0, _ => 0
  | n + 1, p => qc_n n p + (p n).toNat
theorem qc_s (n : Nat) (p : Nat → Bool) : qc_n (n + 1) p = qc_n n p + (p n).toNat := rfl
theorem qc_congr {n : Nat} {p q : Nat → Bool} (h : ∀ i, i < n → p i = q i) : qc_n n p = qc_n n q := by
  induction n with
  | zero => rfl
  | succ n ih => rw [qc_s, qc_s, ih (fun i hi => h i (by omega)), h n (by omega)]
theorem qc_le {n : Nat} {p q : Nat → Bool} (h : ∀ i, i < n → p i = true → q i = true) : qc_n n p ≤ qc_n n q := by
  induction n with
  | zero => exact Nat.le_refl _
  | succ n ih =>
    rw [qc_s, qc_s]
    have h1 := ih (fun i hi => h i (by omega))
    have h2 : (p n).toNat ≤ (q n).toNat := by
      have := h n (by omega)
      revert this
      cases p n <;> cases q n <;> simp
    omega
theorem qc_max (n : Nat) (p : Nat → Bool) : qc_n n p ≤ n := by
  induction n with
  | zero => exact Nat.le_refl _
  | succ n ih =>
    rw [qc_s]
    have : (p n).toNat ≤ 1 := by cases p n <;> simp
    omega
theorem qc_none {n : Nat} {p : Nat → Bool} (h : ∀ i, i < n → p i = false) : qc_n n p = 0 := by
  induction n with
  | zero => rfl
  | succ n ih => rw [qc_s, ih (fun i hi => h i (by omega)), h n (by omega)]; rfl
theorem qc_one {n b : Nat} {p q : Nat → Bool} (hb : b < n) (hp : p b = true) (hq : q b = false) (h : ∀ i, i < n → i ≠ b → q i = p i) : qc_n n q + 1 = qc_n n p := by
  induction n with
  | zero => omega
  | succ n ih =>
    rw [qc_s, qc_s]
    by_cases e : b = n
    · subst e
      rw [hp, hq, qc_congr (fun i hi => h i (by omega) (by omega))]
      rfl
    · have h1 := ih (by omega) (fun i hi hn => h i (by omega) hn)
      rw [h n (by omega) (by omega)]
      omega
theorem qc_pos {n b : Nat} {p : Nat → Bool} (hb : b < n) (hp : p b = true) : 1 ≤ qc_n n p := by
  have h := qc_one (n := n) (b := b) (p := p) (q := fun i => if i = b then false else p i) hb hp (by simp) (fun i _ hn => by simp [hn])
  omega
theorem qc_dis {n : Nat} {p q s : Nat → Bool} (h1 : ∀ i, i < n → p i = true → q i = false) (h2 : ∀ i, i < n → p i = true → s i = true) (h3 : ∀ i, i < n → q i = true → s i = true) : qc_n n p + qc_n n q ≤ qc_n n s := by
  induction n with
  | zero => exact Nat.le_refl _
  | succ n ih =>
    rw [qc_s, qc_s, qc_s]
    have h := ih (fun i hi => h1 i (by omega)) (fun i hi => h2 i (by omega)) (fun i hi => h3 i (by omega))
    have g : (p n).toNat + (q n).toNat ≤ (s n).toNat := by
      have g1 := h1 n (by omega)
      have g2 := h2 n (by omega)
      have g3 := h3 n (by omega)
      revert g1 g2 g3
      cases p n <;> cases q n <;> cases s n <;> simp
    omega
theorem qc_ext {n m : Nat} {p : Nat → Bool} (hm : n ≤ m) (h : ∀ i, p i = true → i < n) : qc_n m p = qc_n n p := by
  obtain ⟨k, rfl⟩ : ∃ k, m = n + k := ⟨m - n, by omega⟩
  clear hm
  induction k with
  | zero => rfl
  | succ k ih =>
    have : p (n + k) = false := by
      cases e : p (n + k) with
      | false => rfl
      | true => exact absurd (h _ e) (by omega)
    rw [show n + (k + 1) = (n + k) + 1 by omega, qc_s, ih, this]
    rfl
theorem qc_len (n : Nat) (p : Nat → Bool) : ((List.range n).filter p).length = qc_n n p := by
  induction n with
  | zero => rfl
  | succ n ih =>
    rw [List.range_succ, List.filter_append, List.length_append, ih, qc_s]
    cases e : p n <;> simp [e]
/-- clearing the lowest bit takes one at most -/
theorem qc_kern (n x : Nat) : qc_n n x.testBit ≤ qc_n n (x &&& (x - 1)).testBit + 1 := by
  by_cases h0 : x = 0
  · subst h0
    rw [qc_none (fun i _ => Nat.zero_testBit i)]
    omega
  · obtain ⟨l, h1, h2⟩ := qb_least h0
    have hp := qb_pred l x h1 h2
    have key : ∀ i, (x &&& (x - 1)).testBit i = if i = l then false else x.testBit i := by
      intro i
      rw [Nat.testBit_and, hp i]
      by_cases z : i < l
      · rw [h2 i z]
        simp
      · rw [if_neg z]
        by_cases z2 : i = l
        · rw [if_pos z2]
          simp
        · rw [if_neg z2]
          simp
    by_cases hl : l < n
    · have := qc_one (n := n) (b := l) (p := x.testBit) (q := (x &&& (x - 1)).testBit) hl h1 (by rw [key, if_pos rfl]) (fun i _ hi => by rw [key, if_neg hi])
      omega
    · rw [qc_congr (p := x.testBit) (q := (x &&& (x - 1)).testBit) (fun i hi => by rw [key, if_neg (by omega)])]
      omega
end
section
/-! a covering instance: n sets (primes), w i the rows of the i-th, O the rows that are on -/
def qv_h (w : Nat → Nat) (r : Nat) : Nat → Nat
  | 0 => 0
  | i + 1 => if (w i).testBit r = true then qv_h w r i ||| 2 ^ i else qv_h w r i
theorem qv_h_t {w : Nat → Nat} {r i : Nat} (h : (w i).testBit r = true) : qv_h w r (i + 1) = qv_h w r i ||| 2 ^ i := if_pos h
theorem qv_h_f {w : Nat → Nat} {r i : Nat} (h : (w i).testBit r = false) : qv_h w r (i + 1) = qv_h w r i := if_neg (by rw [h]; decide)
theorem qv_h_tb (w : Nat → Nat) (r n i : Nat) : (qv_h w r n).testBit i = (decide (i < n) && (w i).testBit r) := by
  induction n with
  | zero => simp [qv_h]
  | succ n ih =>
    cases e : (w n).testBit r with
    | true =>
      rw [qv_h_t e, Nat.testBit_or, ih, Nat.testBit_two_pow]
      by_cases z : i = n
      · subst z
        simp [e]
      · have : (i < n + 1) ↔ (i < n) := by omega
        have z' : ¬ n = i := by omega
        simp [this, z']
    | false =>
      rw [qv_h_f e, ih]
      by_cases z : i = n
      · subst z
        simp [e]
      · have : (i < n + 1) ↔ (i < n) := by omega
        simp [this]
theorem qv_h_in {w : Nat → Nat} {r n i : Nat} (h : (qv_h w r n).testBit i = true) : i < n ∧ (w i).testBit r = true := by
  rw [qv_h_tb, Bool.and_eq_true, decide_eq_true_iff] at h
  exact h
theorem qv_h_lt (w : Nat → Nat) (r n : Nat) : qv_h w r n < 2 ^ n := qb_lt (fun i h => (qv_h_in h).1)
def qv_u (w : Nat → Nat) (O S : Nat) : Nat → Nat
  | 0 => O
  | i + 1 => if S.testBit i = true then qb_d (qv_u w O S i) (w i) else qv_u w O S i
theorem qv_u_t {w : Nat → Nat} {O S i : Nat} (h : S.testBit i = true) : qv_u w O S (i + 1) = qb_d (qv_u w O S i) (w i) := if_pos h
theorem qv_u_f {w : Nat → Nat} {O S i : Nat} (h : S.testBit i = false) : qv_u w O S (i + 1) = qv_u w O S i := if_neg (by rw [h]; decide)
theorem qv_u_tb (w : Nat → Nat) (O S n r : Nat) : (qv_u w O S n).testBit r = true ↔ O.testBit r = true ∧ ∀ i, i < n → S.testBit i = true → (w i).testBit r = false := by
  induction n with
  | zero => exact ⟨fun h => ⟨h, fun i hi => absurd hi (by omega)⟩, fun h => h.1⟩
  | succ n ih =>
    cases e : S.testBit n with
    | true =>
      rw [qv_u_t e, qb_d_tb, Bool.and_eq_true, ih]
      constructor
      · intro ⟨⟨h1, h2⟩, h3⟩
        refine ⟨h1, fun i hi hs => ?_⟩
        by_cases z : i = n
        · rw [z]
          revert h3
          cases (w n).testBit r <;> simp
        · exact h2 i (by omega) hs
      · intro ⟨h1, h2⟩
        exact ⟨⟨h1, fun i hi hs => h2 i (by omega) hs⟩, by rw [h2 n (by omega) e]; rfl⟩
    | false =>
      rw [qv_u_f e, ih]
      constructor
      · intro ⟨h1, h2⟩
        refine ⟨h1, fun i hi hs => ?_⟩
        by_cases z : i = n
        · rw [z, e] at hs
          exact absurd hs (by decide)
        · exact h2 i (by omega) hs
      · intro ⟨h1, h2⟩
        exact ⟨h1, fun i hi hs => h2 i (by omega) hs⟩
theorem qv_u_lt {w : Nat → Nat} {O S : Nat} (n : Nat) {k : Nat} (h : O < 2 ^ k) : qv_u w O S n < 2 ^ k := by
  apply qb_lt
  intro r hr
  exact qb_of_lt h ((qv_u_tb w O S n r).mp hr).1
/-- S covers the rows O -/
def qv_cov (n : Nat) (w : Nat → Nat) (O S : Nat) : Prop := ∀ r, O.testBit r = true → ∃ i, i < n ∧ S.testBit i = true ∧ (w i).testBit r = true
theorem qv_u_0 {n : Nat} {w : Nat → Nat} {O S : Nat} (h : qv_u w O S n = 0) : qv_cov n w O S := by
  intro r hr
  apply Classical.byContradiction
  intro hn
  have : (qv_u w O S n).testBit r = true := by
    rw [qv_u_tb]
    refine ⟨hr, fun i hi hs => ?_⟩
    cases e : (w i).testBit r with
    | false => rfl
    | true => exact absurd ⟨i, hi, hs, e⟩ hn
  rw [h, Nat.zero_testBit] at this
  exact absurd this (by decide)
theorem qv_cov_0 {n : Nat} {w : Nat → Nat} {O S : Nat} (h : qv_cov n w O S) : qv_u w O S n = 0 := by
  apply Classical.byContradiction
  intro hn
  obtain ⟨r, hr⟩ := Nat.exists_testBit_of_ne_zero hn
  rw [qv_u_tb] at hr
  obtain ⟨i, hi, hs, hw⟩ := h r hr.1
  rw [hr.2 i hi hs] at hw
  exact absurd hw (by decide)
theorem qv_cov_up {n : Nat} {w : Nat → Nat} {O S S' : Nat} (h : qv_cov n w O S) (hs : ∀ i, S.testBit i = true → S'.testBit i = true) : qv_cov n w O S' := by
  intro r hr
  obtain ⟨i, hi, h1, h2⟩ := h r hr
  exact ⟨i, hi, hs i h1, h2⟩
/-- the needed ones: rows that one prime alone has -/
def qv_nd (n : Nat) (w : Nat → Nat) (O : Nat) : Nat → Nat
  | 0 => 0
  | r + 1 => if O.testBit r = true ∧ qv_h w r n &&& (qv_h w r n - 1) = 0 then qv_nd n w O r ||| qv_h w r n else qv_nd n w O r
theorem qv_nd_sub {n : Nat} {w : Nat → Nat} {O S : Nat} (hc : qv_cov n w O S) (k : Nat) : ∀ i, (qv_nd n w O k).testBit i = true → S.testBit i = true := by
  induction k with
  | zero =>
    intro i hi
    rw [show qv_nd n w O 0 = 0 from rfl, Nat.zero_testBit] at hi
    exact absurd hi (by decide)
  | succ r ih =>
    intro i hi
    by_cases e : O.testBit r = true ∧ qv_h w r n &&& (qv_h w r n - 1) = 0
    · rw [show qv_nd n w O (r + 1) = qv_nd n w O r ||| qv_h w r n from if_pos e, Nat.testBit_or, Bool.or_eq_true] at hi
      rcases hi with hi | hi
      · exact ih i hi
      · obtain ⟨j, hj, h1, h2⟩ := hc r e.1
        have : (qv_h w r n).testBit j = true := by
          rw [qv_h_tb, h2, decide_eq_true hj]
          rfl
        rw [qb_one e.2 hi this]
        exact h1
    · rw [show qv_nd n w O (r + 1) = qv_nd n w O r from if_neg e] at hi
      exact ih i hi
theorem qv_nd_lt (n : Nat) (w : Nat → Nat) (O k : Nat) : qv_nd n w O k < 2 ^ n := by
  induction k with
  | zero => exact Nat.two_pow_pos n
  | succ r ih =>
    by_cases e : O.testBit r = true ∧ qv_h w r n &&& (qv_h w r n - 1) = 0
    · rw [show qv_nd n w O (r + 1) = qv_nd n w O r ||| qv_h w r n from if_pos e]
      exact Nat.or_lt_two_pow ih (qv_h_lt w r n)
    · rw [show qv_nd n w O (r + 1) = qv_nd n w O r from if_neg e]
      exact ih
/-- the bound: rows of Lf that share no prime; U what they use, s how many -/
def qv_b (n : Nat) (w : Nat → Nat) (Lf : Nat) : Nat → Nat × Nat
  | 0 => (0, 0)
  | r + 1 => if Lf.testBit r = true ∧ qv_h w r n &&& (qv_b n w Lf r).1 = 0 then ((qv_b n w Lf r).1 ||| qv_h w r n, (qv_b n w Lf r).2 + 1) else qv_b n w Lf r
theorem qv_b_t {n : Nat} {w : Nat → Nat} {Lf r : Nat} (h : Lf.testBit r = true ∧ qv_h w r n &&& (qv_b n w Lf r).1 = 0) : qv_b n w Lf (r + 1) = ((qv_b n w Lf r).1 ||| qv_h w r n, (qv_b n w Lf r).2 + 1) := if_pos h
theorem qv_b_f {n : Nat} {w : Nat → Nat} {Lf r : Nat} (h : ¬ (Lf.testBit r = true ∧ qv_h w r n &&& (qv_b n w Lf r).1 = 0)) : qv_b n w Lf (r + 1) = qv_b n w Lf r := if_neg h
theorem qv_b_max (n : Nat) (w : Nat → Nat) (Lf k : Nat) : (qv_b n w Lf k).2 ≤ k := by
  induction k with
  | zero => exact Nat.le_refl _
  | succ r ih =>
    by_cases e : Lf.testBit r = true ∧ qv_h w r n &&& (qv_b n w Lf r).1 = 0
    · rw [qv_b_t e]
      show _ + 1 ≤ _
      omega
    · rw [qv_b_f e]
      omega
theorem qv_b_lt (n : Nat) (w : Nat → Nat) (Lf k : Nat) : (qv_b n w Lf k).1 < 2 ^ n := by
  induction k with
  | zero => exact Nat.two_pow_pos n
  | succ r ih =>
    by_cases e : Lf.testBit r = true ∧ qv_h w r n &&& (qv_b n w Lf r).1 = 0
    · rw [qv_b_t e]
      exact Nat.or_lt_two_pow ih (qv_h_lt w r n)
    · rw [qv_b_f e]
      exact ih
theorem qv_b_in (n : Nat) (w : Nat → Nat) (Lf k : Nat) : ∀ i, (qv_b n w Lf k).1.testBit i = true → ∃ r, Lf.testBit r = true ∧ (w i).testBit r = true := by
  induction k with
  | zero =>
    intro i hi
    rw [show (qv_b n w Lf 0).1 = 0 from rfl, Nat.zero_testBit] at hi
    exact absurd hi (by decide)
  | succ r ih =>
    intro i hi
    by_cases e : Lf.testBit r = true ∧ qv_h w r n &&& (qv_b n w Lf r).1 = 0
    · rw [qv_b_t e] at hi
      dsimp only at hi
      rw [Nat.testBit_or, Bool.or_eq_true] at hi
      rcases hi with hi | hi
      · exact ih i hi
      · exact ⟨r, e.1, (qv_h_in hi).2⟩
    · rw [qv_b_f e] at hi
      exact ih i hi
theorem qv_b_cnt {n : Nat} {w : Nat → Nat} {Lf S : Nat} (hc : qv_cov n w Lf S) (k : Nat) : (qv_b n w Lf k).2 ≤ qc_n n (fun i => S.testBit i && (qv_b n w Lf k).1.testBit i) := by
  induction k with
  | zero => exact Nat.zero_le _
  | succ r ih =>
    by_cases e : Lf.testBit r = true ∧ qv_h w r n &&& (qv_b n w Lf r).1 = 0
    · rw [qv_b_t e]
      dsimp only
      obtain ⟨j, hj, h1, h2⟩ := hc r e.1
      have hh : (qv_h w r n).testBit j = true := by
        rw [qv_h_tb, h2, decide_eq_true hj]
        rfl
      have hu : (qv_b n w Lf r).1.testBit j = false := by
        have := congrArg (fun x => x.testBit j) e.2
        simp only [Nat.testBit_and, hh, Nat.zero_testBit, Bool.true_and] at this
        exact this
      have g := qc_dis (n := n) (p := fun i => S.testBit i && (qv_b n w Lf r).1.testBit i) (q := fun i => decide (i = j)) (s := fun i => S.testBit i && ((qv_b n w Lf r).1 ||| qv_h w r n).testBit i)
        (fun i _ hi => by
          apply decide_eq_false
          intro z
          subst z
          rw [hu] at hi
          simp at hi)
        (fun i _ hi => by
          rw [Bool.and_eq_true] at hi ⊢
          rw [Nat.testBit_or, hi.1, hi.2]
          exact ⟨rfl, rfl⟩)
        (fun i _ hi => by
          rw [decide_eq_true_iff] at hi
          subst hi
          rw [h1, Nat.testBit_or, hh]
          simp)
      have g2 := qc_pos (n := n) (b := j) (p := fun i => decide (i = j)) hj (decide_eq_true rfl)
      omega
    · rw [qv_b_f e]
      exact ih
/-- the bound holds: a cover around T has the rows' primes beside T -/
theorem qv_bound {n : Nat} {w : Nat → Nat} {O T S : Nat} (hc : qv_cov n w O S) (hs : ∀ i, T.testBit i = true → S.testBit i = true) : qc_n n T.testBit + (qv_b n w (qv_u w O T n) 16).2 ≤ qc_n n S.testBit := by
  have hc' : qv_cov n w (qv_u w O T n) S := fun r hr => hc r ((qv_u_tb w O T n r).mp hr).1
  have g1 := qv_b_cnt hc' 16
  have g2 := qc_dis (n := n) (p := T.testBit) (q := fun i => S.testBit i && (qv_b n w (qv_u w O T n) 16).1.testBit i) (s := S.testBit)
    (fun i hi ht => by
      cases e : (qv_b n w (qv_u w O T n) 16).1.testBit i with
      | false => simp
      | true =>
        obtain ⟨r, hr, hw⟩ := qv_b_in _ _ _ _ i e
        rw [((qv_u_tb w O T n r).mp hr).2 i hi ht] at hw
        exact absurd hw (by decide))
    (fun i _ ht => hs i ht)
    (fun i _ h => by
      rw [Bool.and_eq_true] at h
      exact h.1)
  omega
end
section
def qs_und (n t b : Nat) : Nat := qc_n n (fun i => !t.testBit i && !b.testBit i)
def qs_phi (n : Nat) (T B : Nat → Nat) : Nat → Nat
  | 0 => 0
  | k + 1 => qs_phi n T B k + (2 ^ (qs_und n (T k) (B k) + 1) - 1)
def qs_sub (a b : Nat) : Prop := ∀ i, a.testBit i = true → b.testBit i = true
def qs_no (b S : Nat) : Prop := ∀ i, b.testBit i = true → S.testBit i = false
def qs_lev (n T0 t b c k : Nat) : Prop := t < 2 ^ n ∧ b < 2 ^ n ∧ c < 2 ^ n ∧ qs_sub T0 t ∧ (∀ i, c.testBit i = true → t.testBit i = false ∧ b.testBit i = false) ∧ k + qs_und n t b ≤ n
def qs_bst (n : Nat) (w : Nat → Nat) (O T0 best : Nat) : Prop := best < 2 ^ n ∧ qv_cov n w O best ∧ qs_sub T0 best
def qs_pend (S t b c : Nat) : Prop := qs_sub t S ∧ qs_no b S ∧ ∃ i, S.testBit i = true ∧ c.testBit i = true
def qs_inv (n : Nat) (w : Nat → Nat) (O T0 D : Nat) (T B C : Nat → Nat) (best : Nat) : Prop :=
  (∀ k, k < D → qs_lev n T0 (T k) (B k) (C k) k) ∧ qs_bst n w O T0 best ∧
  ∀ S, S < 2 ^ n → qv_cov n w O S → qs_sub T0 S → qc_n n best.testBit ≤ qc_n n S.testBit ∨ ∃ k, k < D ∧ qs_pend S (T k) (B k) (C k)
/-- what opening a place (t taken, b barred) brings: the best so far and the choices c -/
def qs_out (n : Nat) (w : Nat → Nat) (O T0 t b best best' c : Nat) : Prop :=
  qs_bst n w O T0 best' ∧ qc_n n best'.testBit ≤ qc_n n best.testBit ∧ c < 2 ^ n ∧ (∀ i, c.testBit i = true → t.testBit i = false ∧ b.testBit i = false) ∧
  ∀ S, S < 2 ^ n → qv_cov n w O S → qs_sub t S → qs_no b S → qc_n n best'.testBit ≤ qc_n n S.testBit ∨ ∃ i, S.testBit i = true ∧ c.testBit i = true
def qs_opt (n : Nat) (w : Nat → Nat) (O T0 best : Nat) : Prop :=
  qs_bst n w O T0 best ∧ ∀ S, S < 2 ^ n → qv_cov n w O S → qs_sub T0 S → qc_n n best.testBit ≤ qc_n n S.testBit
theorem qs_or_bit {t b i : Nat} (h : (t ||| 2 ^ b).testBit i = true) : t.testBit i = true ∨ i = b := by
  rw [Nat.testBit_or, Bool.or_eq_true, Nat.testBit_two_pow, decide_eq_true_iff] at h
  rcases h with h | h
  · exact Or.inl h
  · exact Or.inr h.symm
theorem qs_und_t {n t b j : Nat} (hj : j < n) (ht : t.testBit j = false) (hb : b.testBit j = false) : qs_und n (t ||| 2 ^ j) b + 1 = qs_und n t b := by
  apply qc_one hj
  · rw [ht, hb]; rfl
  · rw [Nat.testBit_or, Nat.testBit_two_pow_self]; simp
  · intro i _ hi
    rw [Nat.testBit_or, Nat.testBit_two_pow_of_ne (by omega)]; simp
theorem qs_und_b {n t b j : Nat} (hj : j < n) (ht : t.testBit j = false) (hb : b.testBit j = false) : qs_und n t (b ||| 2 ^ j) + 1 = qs_und n t b := by
  apply qc_one hj
  · rw [ht, hb]; rfl
  · rw [Nat.testBit_or, Nat.testBit_two_pow_self]; simp
  · intro i _ hi
    rw [Nat.testBit_or, Nat.testBit_two_pow_of_ne (by omega)]; simp
theorem qs_phi_congr {n : Nat} {T B T' B' : Nat → Nat} {d : Nat} (hT : ∀ k, k < d → T' k = T k) (hB : ∀ k, k < d → B' k = B k) : qs_phi n T' B' d = qs_phi n T B d := by
  induction d with
  | zero => rfl
  | succ d ih =>
    show qs_phi n T' B' d + _ = qs_phi n T B d + _
    rw [ih (fun k hk => hT k (by omega)) (fun k hk => hB k (by omega)), hT d (by omega), hB d (by omega)]
theorem qs_pop {n : Nat} {w : Nat → Nat} {O T0 d : Nat} {T B C : Nat → Nat} {best : Nat} (h : qs_inv n w O T0 (d + 1) T B C best) (hc : C d = 0) : qs_inv n w O T0 d T B C best := by
  obtain ⟨h1, h2, h3⟩ := h
  refine ⟨fun k hk => h1 k (by omega), h2, fun S hS hcv hs => ?_⟩
  rcases h3 S hS hcv hs with g | ⟨k, hk, hp⟩
  · exact Or.inl g
  · by_cases e : k = d
    · subst e
      obtain ⟨_, _, i, _, hi⟩ := hp
      rw [hc, Nat.zero_testBit] at hi
      exact absurd hi (by decide)
    · exact Or.inr ⟨k, by omega, hp⟩
theorem qs_phi_pop (n : Nat) (T B : Nat → Nat) (d : Nat) : qs_phi n T B d + 1 ≤ qs_phi n T B (d + 1) := by
  show _ ≤ qs_phi n T B d + (2 ^ (qs_und n (T d) (B d) + 1) - 1)
  have : 0 < 2 ^ qs_und n (T d) (B d) := Nat.two_pow_pos _
  rw [Nat.pow_succ]
  omega
/-- a push: the choice j of the top place d is taken, the new place opened -/
theorem qs_push {n : Nat} {w : Nat → Nat} {O T0 d : Nat} {T B C T' B' C' : Nat → Nat} {best best' c j : Nat} (h : qs_inv n w O T0 (d + 1) T B C best) (hj : (C d).testBit j = true)
    (ho : qs_out n w O T0 (T d ||| 2 ^ j) (B d) best best' c)
    (hT : ∀ k, k ≤ d → T' k = T k) (hT1 : T' (d + 1) = T d ||| 2 ^ j)
    (hB : ∀ k, k < d → B' k = B k) (hB0 : B' d = B d ||| 2 ^ j) (hB1 : B' (d + 1) = B d)
    (hC : ∀ k, k < d → C' k = C k) (hC0 : C' d = qb_d (C d) (2 ^ j)) (hC1 : C' (d + 1) = c) :
    qs_inv n w O T0 (d + 2) T' B' C' best' ∧ qs_phi n T' B' (d + 2) + 1 ≤ qs_phi n T B (d + 1) ∧ d + 1 ≤ n := by
  obtain ⟨h1, h2, h3⟩ := h
  obtain ⟨o1, o2, o3, o4, o5⟩ := ho
  obtain ⟨l1, l2, l3, l4, l5, l6⟩ := h1 d (by omega)
  have hjn : j < n := qb_of_lt l3 hj
  have hjt := (l5 j hj).1
  have hjb := (l5 j hj).2
  have u1 := qs_und_t hjn hjt hjb
  have u2 := qs_und_b hjn hjt hjb
  have p2 : 2 ^ j < 2 ^ n := Nat.pow_lt_pow_right (by decide) hjn
  refine ⟨⟨?_, o1, ?_⟩, ?_, by omega⟩
  · intro k hk
    by_cases e1 : k = d + 1
    · subst e1
      rw [hT1, hB1, hC1]
      refine ⟨Nat.or_lt_two_pow l1 p2, l2, o3, fun i hi => ?_, o4, by omega⟩
      rw [Nat.testBit_or, l4 i hi]
      rfl
    · by_cases e2 : k = d
      · subst e2
        rw [hT k (Nat.le_refl _), hB0, hC0]
        refine ⟨l1, Nat.or_lt_two_pow l2 p2, qb_d_lt l3, l4, fun i hi => ?_, by omega⟩
        rw [qb_d_tb, Bool.and_eq_true] at hi
        refine ⟨(l5 i hi.1).1, ?_⟩
        rw [Nat.testBit_or, (l5 i hi.1).2]
        revert hi
        cases (2 ^ j).testBit i <;> simp
      · rw [hT k (by omega), hB k (by omega), hC k (by omega)]
        exact h1 k (by omega)
  · intro S hS hcv hs
    rcases h3 S hS hcv hs with g | ⟨k, hk, hp1, hp2, i, hi1, hi2⟩
    · exact Or.inl (Nat.le_trans o2 g)
    · by_cases e : k = d
      · subst e
        cases hSj : S.testBit j with
        | true =>
          have hsub : qs_sub (T k ||| 2 ^ j) S := by
            intro a ha
            rcases qs_or_bit ha with z | z
            · exact hp1 a z
            · rw [z]; exact hSj
          rcases o5 S hS hcv hsub hp2 with g | g
          · exact Or.inl g
          · refine Or.inr ⟨k + 1, by omega, ?_⟩
            rw [hT1, hB1, hC1]
            exact ⟨hsub, hp2, g⟩
        | false =>
          refine Or.inr ⟨k, by omega, ?_⟩
          rw [hT k (Nat.le_refl _), hB0, hC0]
          refine ⟨hp1, fun a ha => ?_, i, hi1, ?_⟩
          · rcases qs_or_bit ha with z | z
            · exact hp2 a z
            · rw [z]; exact hSj
          · rw [qb_d_tb, hi2]
            have : ¬ j = i := by
              intro z
              rw [z, hi1] at hSj
              exact absurd hSj (by decide)
            rw [Nat.testBit_two_pow_of_ne this]
            rfl
      · refine Or.inr ⟨k, by omega, ?_⟩
        rw [hT k (by omega), hB k (by omega), hC k (by omega)]
        exact ⟨hp1, hp2, i, hi1, hi2⟩
  · show qs_phi n T' B' d + (2 ^ (qs_und n (T' d) (B' d) + 1) - 1) + (2 ^ (qs_und n (T' (d + 1)) (B' (d + 1)) + 1) - 1) + 1 ≤ qs_phi n T B d + (2 ^ (qs_und n (T d) (B d) + 1) - 1)
    rw [qs_phi_congr (fun k hk => hT k (by omega)) hB, hT d (Nat.le_refl _), hB0, hT1, hB1, ← u1]
    rw [← u1] at u2
    rw [show qs_und n (T d) (B d ||| 2 ^ j) = qs_und n (T d ||| 2 ^ j) (B d) by omega]
    generalize qs_und n (T d ||| 2 ^ j) (B d) = x
    have : 0 < 2 ^ x := Nat.two_pow_pos _
    rw [Nat.pow_succ 2 (x + 1), Nat.pow_succ 2 x]
    omega
theorem qs_first {n : Nat} {w : Nat → Nat} {O T0 : Nat} {T B C : Nat → Nat} {best best' c : Nat} (h0 : T0 < 2 ^ n) (ho : qs_out n w O T0 T0 0 best best' c) (hT : T 0 = T0) (hB : B 0 = 0) (hC : C 0 = c) :
    qs_inv n w O T0 1 T B C best' ∧ qs_phi n T B 1 + 1 ≤ 2 ^ (n + 1) := by
  obtain ⟨o1, o2, o3, o4, o5⟩ := ho
  have hu : qs_und n T0 0 ≤ n := qc_max n _
  refine ⟨⟨?_, o1, ?_⟩, ?_⟩
  · intro k hk
    have : k = 0 := by omega
    subst this
    rw [hT, hB, hC]
    exact ⟨h0, Nat.two_pow_pos n, o3, fun i hi => hi, o4, by omega⟩
  · intro S hS hcv hs
    rcases o5 S hS hcv hs (fun i hi => by rw [Nat.zero_testBit] at hi; exact absurd hi (by decide)) with g | g
    · exact Or.inl g
    · refine Or.inr ⟨0, by omega, ?_⟩
      rw [hT, hB, hC]
      exact ⟨hs, fun i hi => by rw [Nat.zero_testBit] at hi; exact absurd hi (by decide), g⟩
  · show 0 + (2 ^ (qs_und n (T 0) (B 0) + 1) - 1) + 1 ≤ 2 ^ (n + 1)
    rw [hT, hB]
    have h1 : 2 ^ (qs_und n T0 0 + 1) ≤ 2 ^ (n + 1) := Nat.pow_le_pow_right (by decide) (by omega)
    have h2 : 0 < 2 ^ (qs_und n T0 0 + 1) := Nat.two_pow_pos _
    omega
theorem qs_last {n : Nat} {w : Nat → Nat} {O T0 : Nat} {T B C : Nat → Nat} {best : Nat} (h : qs_inv n w O T0 0 T B C best) : qs_opt n w O T0 best := by
  refine ⟨h.2.1, fun S hS hcv hs => ?_⟩
  rcases h.2.2 S hS hcv hs with g | ⟨k, hk, _⟩
  · exact g
  · omega
/-- the three ends of opening: a cover is offered -/
theorem qs_o_cover {n : Nat} {w : Nat → Nat} {O T0 t b best best' : Nat} (hb : qs_bst n w O T0 best) (ht : qs_sub T0 t) (htn : t < 2 ^ n) (hu : qv_u w O t n = 0) (h : best' = best ∨ best' = t)
    (h1 : qc_n n best'.testBit ≤ qc_n n best.testBit) (h2 : qc_n n best'.testBit ≤ qc_n n t.testBit) : qs_out n w O T0 t b best best' 0 := by
  refine ⟨?_, h1, Nat.two_pow_pos n, fun i hi => by rw [Nat.zero_testBit] at hi; exact absurd hi (by decide), fun S hS hcv hs _ => Or.inl (Nat.le_trans h2 (qc_le (fun i _ hi => hs i hi)))⟩
  rcases h with e | e
  · rw [e]; exact hb
  · rw [e]; exact ⟨htn, qv_u_0 hu, ht⟩
/-- the bound cuts -/
theorem qs_o_cut {n : Nat} {w : Nat → Nat} {O T0 t b best : Nat} (hb : qs_bst n w O T0 best) (h : qc_n n best.testBit < qc_n n t.testBit + (qv_b n w (qv_u w O t n) 16).2) : qs_out n w O T0 t b best best 0 := by
  refine ⟨hb, Nat.le_refl _, Nat.two_pow_pos n, fun i hi => by rw [Nat.zero_testBit] at hi; exact absurd hi (by decide), fun S hS hcv hs _ => Or.inl ?_⟩
  have := qv_bound hcv hs
  omega
/-- the primes of an uncovered row are the choices -/
theorem qs_o_row {n : Nat} {w : Nat → Nat} {O T0 t b best r : Nat} (hb : qs_bst n w O T0 best) (hr : (qv_u w O t n).testBit r = true) : qs_out n w O T0 t b best best (qb_d (qv_h w r n) b) := by
  rw [qv_u_tb] at hr
  refine ⟨hb, Nat.le_refl _, qb_d_lt (qv_h_lt w r n), fun i hi => ?_, fun S hS hcv hs hn => Or.inr ?_⟩
  · rw [qb_d_tb, Bool.and_eq_true] at hi
    obtain ⟨h1, h2⟩ := qv_h_in hi.1
    constructor
    · cases e : t.testBit i with
      | false => rfl
      | true =>
        rw [hr.2 i h1 e] at h2
        exact absurd h2 (by decide)
    · revert hi
      cases b.testBit i <;> simp
  · obtain ⟨i, hi, h1, h2⟩ := hcv r hr.1
    refine ⟨i, h1, ?_⟩
    have hbi : b.testBit i = false := by
      cases e : b.testBit i with
      | false => rfl
      | true =>
        rw [hn i e] at h1
        exact absurd h1 (by decide)
    rw [qb_d_tb, qv_h_tb, hbi, h2, decide_eq_true hi]
    rfl
end
section
def qt_wl : List Nat := [1, 2, 3, 4, 8, 12, 5, 10, 15, 16, 32, 48, 64, 128, 192, 80, 160, 240, 17, 34, 51, 68, 136, 204, 85, 170, 255, 256, 512, 768, 1024, 2048, 3072, 1280, 2560, 3840, 4096, 8192, 12288, 16384, 32768, 49152, 20480, 40960, 61440, 4352, 8704, 13056, 17408, 34816, 52224, 21760, 43520, 65280, 257, 514, 771, 1028, 2056, 3084, 1285, 2570, 3855, 4112, 8224, 12336, 16448, 32896, 49344, 20560, 41120, 61680, 4369, 8738, 13107, 17476, 34952, 52428, 21845, 43690, 65535]
/-- the rows of a cube -/
def qt_W (c : Nat) : Nat := qt_wl.getD c 0
/-- what a cube asks for a bit -/
def qt_dg (c b : Nat) : Nat := c / 3 ^ (3 - b) % 3
def qt_fb (c : Nat) : Nat := qc_n 4 (fun b => decide (qt_dg c b = 2))
/-- the row of a cube without a 2 -/
def qt_rw (c : Nat) : Nat := 8 * qt_dg c 0 + (4 * qt_dg c 1 + (2 * qt_dg c 2 + qt_dg c 3))
/-- c is a half of p -/
def qt_par (p c : Nat) : Bool := (List.range 4).any (fun b => decide (qt_dg p b = 2) && (decide (c + 3 ^ (3 - b) = p) || decide (c + 2 * 3 ^ (3 - b) = p)))
def qt_cb (m a b : Nat) : Nat := Nat.lor a (Nat.lor (Nat.shiftLeft b m) (Nat.shiftLeft (Nat.land a b) (2 * m)))
def qt_E0 (g : Nat) : Nat := g % 2
def qt_E1 (g : Nat) : Nat := qt_cb 1 (qt_E0 (g % 2 ^ 1)) (qt_E0 (g / 2 ^ 1))
def qt_E2 (g : Nat) : Nat := qt_cb 3 (qt_E1 (g % 2 ^ 2)) (qt_E1 (g / 2 ^ 2))
def qt_E3 (g : Nat) : Nat := qt_cb 9 (qt_E2 (g % 2 ^ 4)) (qt_E2 (g / 2 ^ 4))
def qt_E4 (g : Nat) : Nat := qt_cb 27 (qt_E3 (g % 2 ^ 8)) (qt_E3 (g / 2 ^ 8))
def qt_j (y s z : Nat) : Nat := Nat.lor (Nat.shiftRight y s) (Nat.shiftRight y z)
def qt_J (A : Nat) : Nat := Nat.lor (qt_j (Nat.land A 2417851621214859839930368) 27 54) (Nat.lor (qt_j (Nat.land A 2413129290725602975547392) 9 18) (Nat.lor (qt_j (Nat.land A 2119760341242089511813568) 3 6) (qt_j (Nat.land A 1381629508131004771092772) 1 2)))
/-- the primes, as bits, of the allowed cubes A -/
def qt_X (A : Nat) : Nat := Nat.xor A (Nat.land A (qt_J A))
def qt_k : Nat → Nat → Nat
  | 0, x => x
  | f + 1, x => qt_k f (Nat.land x (Nat.sub x 1))
theorem qt_f_mint : ∀ c, c < 81 → qt_fb c = 0 → qt_W c = 2 ^ qt_rw c ∧ qt_rw c < 16 := by decide +kernel
theorem qt_f_row : ∀ r, r < 16 → ∃ c, c < 81 ∧ qt_fb c = 0 ∧ qt_rw c = r := by decide +kernel
theorem qt_f_par : ∀ p, p < 81 → ∀ c, c < 81 → qt_par p c = true → qt_fb p = qt_fb c + 1 ∧ qt_W c &&& qt_W p = qt_W c := by decide +kernel
theorem qt_f_W : ∀ c, c < 81 → qt_W c < 65536 := by decide +kernel
theorem qt_f_dg (c b : Nat) : qt_dg c b < 3 := Nat.mod_lt _ (by decide)
theorem qt_cb_tb (m a b c : Nat) : (qt_cb m a b).testBit c = (a.testBit c || (decide (m ≤ c) && b.testBit (c - m) || decide (2 * m ≤ c) && (a.testBit (c - 2 * m) && b.testBit (c - 2 * m)))) := by
  show (a ||| (b <<< m ||| (a &&& b) <<< (2 * m))).testBit c = _
  rw [Nat.testBit_or, Nat.testBit_or, Nat.testBit_shiftLeft, Nat.testBit_shiftLeft, Nat.testBit_and]
theorem qt_hi {a m i : Nat} (ha : a < 2 ^ m) (hi : m ≤ i) : a.testBit i = false := by
  cases e : a.testBit i with
  | false => rfl
  | true => exact absurd (qb_of_lt ha e) (by omega)
theorem qt_cb0 {m a b c : Nat} (hc : c < m) : (qt_cb m a b).testBit c = a.testBit c := by
  rw [qt_cb_tb, decide_eq_false (show ¬ m ≤ c by omega), decide_eq_false (show ¬ 2 * m ≤ c by omega)]
  simp
theorem qt_cb1 {m a b c : Nat} (ha : a < 2 ^ m) (hc : c < m) : (qt_cb m a b).testBit (m + c) = b.testBit c := by
  rw [qt_cb_tb, decide_eq_true (show m ≤ m + c by omega), decide_eq_false (show ¬ 2 * m ≤ m + c by omega), qt_hi ha (show m ≤ m + c by omega), show m + c - m = c by omega]
  simp
theorem qt_cb2 {m a b c : Nat} (ha : a < 2 ^ m) (hb : b < 2 ^ m) (hc : c < m) : (qt_cb m a b).testBit (2 * m + c) = (a.testBit c && b.testBit c) := by
  rw [qt_cb_tb, decide_eq_true (show m ≤ 2 * m + c by omega), decide_eq_true (show 2 * m ≤ 2 * m + c by omega), qt_hi ha (show m ≤ 2 * m + c by omega), show 2 * m + c - m = m + c by omega, qt_hi hb (show m ≤ m + c by omega), show 2 * m + c - 2 * m = c by omega]
  simp
theorem qt_cb_lt {m k a b : Nat} (hk : k = 3 * m) (ha : a < 2 ^ m) (hb : b < 2 ^ m) : qt_cb m a b < 2 ^ k := by
  subst hk
  apply qb_lt
  intro i hi
  rcases Nat.lt_or_ge i (3 * m) with z | z
  · exact z
  · rw [qt_cb_tb, qt_hi ha (show m ≤ i by omega), qt_hi hb (show m ≤ i - m by omega), qt_hi hb (show m ≤ i - 2 * m by omega)] at hi
    simp at hi
theorem qt_E0_lt (g : Nat) : qt_E0 g < 2 ^ 1 := Nat.mod_lt _ (by decide)
theorem qt_E1_lt (g : Nat) : qt_E1 g < 2 ^ 3 := qt_cb_lt rfl (qt_E0_lt _) (qt_E0_lt _)
theorem qt_E2_lt (g : Nat) : qt_E2 g < 2 ^ 9 := qt_cb_lt rfl (qt_E1_lt _) (qt_E1_lt _)
theorem qt_E3_lt (g : Nat) : qt_E3 g < 2 ^ 27 := qt_cb_lt rfl (qt_E2_lt _) (qt_E2_lt _)
theorem qt_E4_lt (g : Nat) : qt_E4 g < 2 ^ 81 := qt_cb_lt rfl (qt_E3_lt _) (qt_E3_lt _)
/-- cubes without a 2 -/
theorem qt_lv {m s : Nat} {F : Nat → Nat} (hb : ∀ g, F g < 2 ^ m) {c r d : Nat} (hc : c < m) (hr : r < s) (hd : d < 2) (h : ∀ g, (F g).testBit c = g.testBit r) : ∀ g, (qt_cb m (F (g % 2 ^ s)) (F (g / 2 ^ s))).testBit (m * d + c) = g.testBit (s * d + r) := by
  intro g
  have hd' : d = 0 ∨ d = 1 := by omega
  rcases hd' with e | e
  · subst e
    rw [Nat.mul_zero, Nat.mul_zero, Nat.zero_add, Nat.zero_add, qt_cb0 hc, h, Nat.testBit_mod_two_pow, decide_eq_true hr]
    rfl
  · subst e
    rw [Nat.mul_one, Nat.mul_one, qt_cb1 (hb _) hc, h, Nat.testBit_div_two_pow, Nat.add_comm]
theorem qt_lv0 : ∀ g, (qt_E0 g).testBit 0 = g.testBit 0 := by
  intro g
  show (g % 2 ^ 1).testBit 0 = _
  rw [Nat.testBit_mod_two_pow]
  rfl
theorem qt_mint {d0 d1 d2 d3 : Nat} (h0 : d0 < 2) (h1 : d1 < 2) (h2 : d2 < 2) (h3 : d3 < 2) : ∀ g, (qt_E4 g).testBit (27 * d0 + (9 * d1 + (3 * d2 + (1 * d3 + 0)))) = g.testBit (8 * d0 + (4 * d1 + (2 * d2 + (1 * d3 + 0)))) :=
  qt_lv (s := 8) qt_E3_lt (by omega) (by omega) h0 (qt_lv (s := 4) qt_E2_lt (by omega) (by omega) h1 (qt_lv (s := 2) qt_E1_lt (by omega) (by omega) h2 (qt_lv (s := 1) qt_E0_lt (by omega) (by omega) h3 qt_lv0)))
theorem qt_al0 {c : Nat} (hc : c < 81) (hf : qt_fb c = 0) (N : Nat) : (qt_E4 N).testBit c = N.testBit (qt_rw c) := by
  have hd : ∀ b, b < 4 → qt_dg c b < 2 := by
    intro b hb
    have h3 := qt_f_dg c b
    rcases Nat.lt_or_ge (qt_dg c b) 2 with z | z
    · exact z
    · have := qc_pos (n := 4) (b := b) (p := fun b => decide (qt_dg c b = 2)) hb (decide_eq_true (by omega))
      rw [show qc_n 4 (fun b => decide (qt_dg c b = 2)) = qt_fb c from rfl, hf] at this
      omega
  have h := qt_mint (hd 0 (by omega)) (hd 1 (by omega)) (hd 2 (by omega)) (hd 3 (by omega)) N
  rw [show 27 * qt_dg c 0 + (9 * qt_dg c 1 + (3 * qt_dg c 2 + (1 * qt_dg c 3 + 0))) = c by
    show 27 * (c / 27 % 3) + (9 * (c / 9 % 3) + (3 * (c / 3 % 3) + (1 * (c / 1 % 3) + 0))) = c
    omega] at h
  rw [h]
  show N.testBit _ = N.testBit (8 * qt_dg c 0 + (4 * qt_dg c 1 + (2 * qt_dg c 2 + qt_dg c 3)))
  rw [show 1 * qt_dg c 3 + 0 = qt_dg c 3 by omega]
/-- halves -/
def qt_H (m s : Nat) (F : Nat → Nat) : Prop := ∀ g c, c < m → c / s % 3 = 2 → (F g).testBit c = ((F g).testBit (c - 2 * s) && (F g).testBit (c - s))
theorem qt_H_top {m k s : Nat} {F : Nat → Nat} (hk : k = 3 * m) (hm : 0 < m) (hb : ∀ g, F g < 2 ^ m) : qt_H k m (fun g => qt_cb m (F (g % 2 ^ s)) (F (g / 2 ^ s))) := by
  intro g c hc h
  subst hk
  have h1 : c / m < 3 := Nat.div_lt_of_lt_mul (by rw [Nat.mul_comm]; exact hc)
  rw [Nat.mod_eq_of_lt h1] at h
  have h2 : 2 * m ≤ c := by
    have := Nat.div_mul_le_self c m
    rw [h] at this
    exact this
  obtain ⟨e, rfl⟩ : ∃ e, c = 2 * m + e := ⟨c - 2 * m, by omega⟩
  have he : e < m := by omega
  dsimp only
  rw [qt_cb2 (hb _) (hb _) he, show 2 * m + e - 2 * m = e by omega, show 2 * m + e - m = m + e by omega, qt_cb0 he, qt_cb1 (hb _) he]
theorem qt_H_lift {m k s z : Nat} {F : Nat → Nat} (hk : k = 3 * m) (hb : ∀ g, F g < 2 ^ m) (h : qt_H m z F) (hA : ∀ c, (m + c) / z % 3 = c / z % 3) (hB : ∀ c, c / z % 3 = 2 → 2 * z ≤ c) : qt_H k z (fun g => qt_cb m (F (g % 2 ^ s)) (F (g / 2 ^ s))) := by
  intro g c hc hd
  subst hk
  dsimp only
  have hz := hB c hd
  rcases Nat.lt_or_ge c m with h1 | h1
  · rw [qt_cb0 h1, qt_cb0 (show c - 2 * z < m by omega), qt_cb0 (show c - z < m by omega)]
    exact h _ c h1 hd
  · obtain ⟨e, rfl⟩ : ∃ e, c = m + e := ⟨c - m, by omega⟩
    rw [hA] at hd
    have he2 := hB e hd
    rcases Nat.lt_or_ge e m with h2 | h2
    · rw [show m + e - 2 * z = m + (e - 2 * z) by omega, show m + e - z = m + (e - z) by omega, qt_cb1 (hb _) h2, qt_cb1 (hb _) (show e - 2 * z < m by omega), qt_cb1 (hb _) (show e - z < m by omega)]
      exact h _ e h2 hd
    · obtain ⟨f, rfl⟩ : ∃ f, e = m + f := ⟨e - m, by omega⟩
      rw [hA] at hd
      have he3 := hB f hd
      have hf : f < m := by omega
      rw [show m + (m + f) = 2 * m + f by omega, show 2 * m + f - 2 * z = 2 * m + (f - 2 * z) by omega, show 2 * m + f - z = 2 * m + (f - z) by omega, qt_cb2 (hb _) (hb _) hf, qt_cb2 (hb _) (hb _) (show f - 2 * z < m by omega), qt_cb2 (hb _) (hb _) (show f - z < m by omega), h _ f hf hd, h (g / 2 ^ s) f hf hd]
      cases (F (g % 2 ^ s)).testBit (f - 2 * z) <;> cases (F (g % 2 ^ s)).testBit (f - z) <;> cases (F (g / 2 ^ s)).testBit (f - 2 * z) <;> cases (F (g / 2 ^ s)).testBit (f - z) <;> rfl
theorem qt_H27 : qt_H 81 27 qt_E4 := qt_H_top (s := 8) rfl (by omega) qt_E3_lt
theorem qt_H9 : qt_H 81 9 qt_E4 := qt_H_lift (s := 8) rfl qt_E3_lt (qt_H_top (s := 4) rfl (by omega) qt_E2_lt) (by omega) (by omega)
theorem qt_H3 : qt_H 81 3 qt_E4 := qt_H_lift (s := 8) rfl qt_E3_lt (qt_H_lift (s := 4) rfl qt_E2_lt (qt_H_top (s := 2) rfl (by omega) qt_E1_lt) (by omega) (by omega)) (by omega) (by omega)
theorem qt_H1 : qt_H 81 1 qt_E4 := qt_H_lift (s := 8) rfl qt_E3_lt (qt_H_lift (s := 4) rfl qt_E2_lt (qt_H_lift (s := 2) rfl qt_E1_lt (qt_H_top (s := 1) rfl (by omega) qt_E0_lt) (by omega) (by omega)) (by omega) (by omega)) (by omega) (by omega)
theorem qt_half {c b : Nat} (hc : c < 81) (hb : b < 4) (hd : qt_dg c b = 2) (N : Nat) : (qt_E4 N).testBit c = ((qt_E4 N).testBit (c - 2 * 3 ^ (3 - b)) && (qt_E4 N).testBit (c - 3 ^ (3 - b))) := by
  have hb' : b = 0 ∨ b = 1 ∨ b = 2 ∨ b = 3 := by omega
  rcases hb' with e | e | e | e
  · subst e; exact qt_H27 N c hc hd
  · subst e; exact qt_H9 N c hc hd
  · subst e; exact qt_H3 N c hc hd
  · subst e; exact qt_H1 N c hc hd
/-- joined: a half of an allowed cube -/
theorem qt_j_tb (y s z c : Nat) : (qt_j y s z).testBit c = (y.testBit (s + c) || y.testBit (z + c)) := by
  show ((y >>> s) ||| (y >>> z)).testBit c = _
  rw [Nat.testBit_or, Nat.testBit_shiftRight, Nat.testBit_shiftRight]
theorem qt_M_tb : ∀ b, b < 4 → ∀ p, p < 81 → (([2417851621214859839930368, 2413129290725602975547392, 2119760341242089511813568, 1381629508131004771092772] : List Nat).getD b 0).testBit p = decide (qt_dg p b = 2) := by decide +kernel
theorem qt_j_in {A M b : Nat} (hb : b < 4) (hM : M < 2 ^ 81) (hT : ∀ p, p < 81 → M.testBit p = decide (qt_dg p b = 2)) (c : Nat) : (qt_j (Nat.land A M) (3 ^ (3 - b)) (2 * 3 ^ (3 - b))).testBit c = true ↔ ∃ p, p < 81 ∧ A.testBit p = true ∧ qt_dg p b = 2 ∧ (c + 3 ^ (3 - b) = p ∨ c + 2 * 3 ^ (3 - b) = p) := by
  have key : ∀ p, (Nat.land A M).testBit p = true ↔ p < 81 ∧ A.testBit p = true ∧ qt_dg p b = 2 := by
    intro p
    rw [show Nat.land A M = A &&& M from rfl, Nat.testBit_and, Bool.and_eq_true]
    constructor
    · intro h
      have hp : p < 81 := qb_of_lt hM h.2
      rw [hT p hp, decide_eq_true_iff] at h
      exact ⟨hp, h.1, h.2⟩
    · intro h
      rw [hT p h.1, decide_eq_true_iff]
      exact h.2
  rw [qt_j_tb, Bool.or_eq_true, key, key]
  constructor
  · intro h
    rcases h with h | h
    · exact ⟨_, h.1, h.2.1, h.2.2, Or.inl (Nat.add_comm _ _)⟩
    · exact ⟨_, h.1, h.2.1, h.2.2, Or.inr (Nat.add_comm _ _)⟩
  · intro ⟨p, h1, h2, h3, h4⟩
    rcases h4 with e | e
    · left
      rw [Nat.add_comm, e]
      exact ⟨h1, h2, h3⟩
    · right
      rw [Nat.add_comm, e]
      exact ⟨h1, h2, h3⟩
theorem qt_par_iff (p c : Nat) : qt_par p c = true ↔ ∃ b, b < 4 ∧ qt_dg p b = 2 ∧ (c + 3 ^ (3 - b) = p ∨ c + 2 * 3 ^ (3 - b) = p) := by
  unfold qt_par
  rw [List.any_eq_true]
  constructor
  · intro ⟨b, h1, h2⟩
    rw [Bool.and_eq_true, Bool.or_eq_true, decide_eq_true_iff, decide_eq_true_iff, decide_eq_true_iff] at h2
    exact ⟨b, List.mem_range.mp h1, h2.1, h2.2⟩
  · intro ⟨b, h1, h2, h3⟩
    refine ⟨b, List.mem_range.mpr h1, ?_⟩
    rw [Bool.and_eq_true, Bool.or_eq_true, decide_eq_true_iff, decide_eq_true_iff, decide_eq_true_iff]
    exact ⟨h2, h3⟩
theorem qt_J_in (A c : Nat) : (qt_J A).testBit c = true ↔ ∃ p, p < 81 ∧ A.testBit p = true ∧ qt_par p c = true := by
  have e : (qt_J A).testBit c = ((qt_j (Nat.land A 2417851621214859839930368) 27 54).testBit c || ((qt_j (Nat.land A 2413129290725602975547392) 9 18).testBit c || ((qt_j (Nat.land A 2119760341242089511813568) 3 6).testBit c || (qt_j (Nat.land A 1381629508131004771092772) 1 2).testBit c))) := by
    rw [← Nat.testBit_or, ← Nat.testBit_or, ← Nat.testBit_or]
    rfl
  have j0 := qt_j_in (A := A) (b := 0) (by omega) (by decide +kernel) (qt_M_tb 0 (by omega)) c
  have j1 := qt_j_in (A := A) (b := 1) (by omega) (by decide +kernel) (qt_M_tb 1 (by omega)) c
  have j2 := qt_j_in (A := A) (b := 2) (by omega) (by decide +kernel) (qt_M_tb 2 (by omega)) c
  have j3 := qt_j_in (A := A) (b := 3) (by omega) (by decide +kernel) (qt_M_tb 3 (by omega)) c
  rw [e, Bool.or_eq_true, Bool.or_eq_true, Bool.or_eq_true]
  constructor
  · intro h
    rcases h with h | h | h | h
    · obtain ⟨p, h1, h2, h3, h4⟩ := j0.mp h
      exact ⟨p, h1, h2, (qt_par_iff p c).mpr ⟨0, by omega, h3, h4⟩⟩
    · obtain ⟨p, h1, h2, h3, h4⟩ := j1.mp h
      exact ⟨p, h1, h2, (qt_par_iff p c).mpr ⟨1, by omega, h3, h4⟩⟩
    · obtain ⟨p, h1, h2, h3, h4⟩ := j2.mp h
      exact ⟨p, h1, h2, (qt_par_iff p c).mpr ⟨2, by omega, h3, h4⟩⟩
    · obtain ⟨p, h1, h2, h3, h4⟩ := j3.mp h
      exact ⟨p, h1, h2, (qt_par_iff p c).mpr ⟨3, by omega, h3, h4⟩⟩
  · intro ⟨p, h1, h2, h3⟩
    obtain ⟨b, hb, h4, h5⟩ := (qt_par_iff p c).mp h3
    have hb' : b = 0 ∨ b = 1 ∨ b = 2 ∨ b = 3 := by omega
    rcases hb' with z | z | z | z
    · subst z; exact Or.inl (j0.mpr ⟨p, h1, h2, h4, h5⟩)
    · subst z; exact Or.inr (Or.inl (j1.mpr ⟨p, h1, h2, h4, h5⟩))
    · subst z; exact Or.inr (Or.inr (Or.inl (j2.mpr ⟨p, h1, h2, h4, h5⟩)))
    · subst z; exact Or.inr (Or.inr (Or.inr (j3.mpr ⟨p, h1, h2, h4, h5⟩)))
/-- allowed and prime cubes of the rows N that aren't off -/
def qt_al (N c : Nat) : Bool := (qt_E4 N).testBit c
def qt_pr (N c : Nat) : Bool := (qt_X (qt_E4 N)).testBit c
theorem qt_pr_iff (N c : Nat) : qt_pr N c = true ↔ qt_al N c = true ∧ ¬ ∃ p, p < 81 ∧ qt_al N p = true ∧ qt_par p c = true := by
  unfold qt_pr qt_al
  rw [← qt_J_in, show qt_X (qt_E4 N) = qb_d (qt_E4 N) (qt_J (qt_E4 N)) from rfl, qb_d_tb, Bool.and_eq_true]
  cases (qt_J (qt_E4 N)).testBit c <;> simp
theorem qt_fb_4 (c : Nat) : qt_fb c ≤ 4 := qc_max 4 _
theorem qt_up (N r : Nat) : ∀ f c, c < 81 → 4 - qt_fb c ≤ f → qt_al N c = true → (qt_W c).testBit r = true → ∃ c', c' < 81 ∧ qt_pr N c' = true ∧ (qt_W c').testBit r = true := by
  intro f
  induction f with
  | zero =>
    intro c hc hf ha hw
    refine ⟨c, hc, (qt_pr_iff N c).mpr ⟨ha, ?_⟩, hw⟩
    intro ⟨p, hp, _, h⟩
    have := (qt_f_par p hp c hc h).1
    have := qt_fb_4 p
    omega
  | succ f ih =>
    intro c hc hf ha hw
    by_cases e : ∃ p, p < 81 ∧ qt_al N p = true ∧ qt_par p c = true
    · obtain ⟨p, hp, h1, h2⟩ := e
      obtain ⟨g1, g2⟩ := qt_f_par p hp c hc h2
      refine ih p hp (by omega) h1 ?_
      rw [← g2, Nat.testBit_and, Bool.and_eq_true] at hw
      exact hw.2
    · exact ⟨c, hc, (qt_pr_iff N c).mpr ⟨ha, e⟩, hw⟩
theorem qt_cover {N r : Nat} (hr : r < 16) (h : N.testBit r = true) : ∃ c, c < 81 ∧ qt_pr N c = true ∧ (qt_W c).testBit r = true := by
  obtain ⟨c, hc, hf, hrw⟩ := qt_f_row r hr
  refine qt_up N r 4 c hc (by omega) ?_ ?_
  · rw [show qt_al N c = (qt_E4 N).testBit c from rfl, qt_al0 hc hf, hrw]
    exact h
  · rw [(qt_f_mint c hc hf).1, hrw]
    exact Nat.testBit_two_pow_self
end
section
def qu_LT : List Nat := [0, 1, 2, 7, 8, 73, 10, 79, 16, 17, 146, 151, 56, 121, 186, 511, 512, 262657, 514, 262663, 520, 262729, 522, 262735, 528, 262673, 658, 262807, 568, 262777, 698, 263167, 1024, 1025, 525314, 525319, 1032, 1097, 525322, 525391, 1040, 1041, 525458, 525463, 1080, 1145, 525498, 525823, 3584, 265729, 527874, 1838599, 3592, 265801, 527882, 1838671, 3600, 265745, 528018, 1838743, 3640, 265849, 528058, 1839103, 4096, 4097, 4098, 4103, 2101256, 2101321, 2101258, 2101327, 4112, 4113, 4242, 4247, 2101304, 2101369, 2101434, 2101759, 37376, 299521, 37378, 299527, 2134536, 19173961, 2134538, 19173967, 37392, 299537, 37522, 299671, 2134584, 19174009, 2134714, 19174399, 5120, 5121, 529410, 529415, 2102280, 2102345, 2626570, 2626639, 5136, 5137, 529554, 529559, 2102328, 2102393, 2626746, 2627071, 40448, 302593, 564738, 1875463, 2137608, 19177033, 2661898, 20749903, 40464, 302609, 564882, 1875607, 2137656, 19177081, 2662074, 20750335, 8192, 8193, 8194, 8199, 8200, 8265, 8202, 8271, 4202512, 4202513, 4202642, 4202647, 4202552, 4202617, 4202682, 4203007, 8704, 270849, 8706, 270855, 8712, 270921, 8714, 270927, 4203024, 4465169, 4203154, 4465303, 4203064, 4465273, 4203194, 4465663, 74752, 74753, 599042, 599047, 74760, 74825, 599050, 599119, 4269072, 4269073, 38347922, 38347927, 4269112, 4269177, 38347962, 38348287, 77312, 339457, 601602, 1912327, 77320, 339529, 601610, 1912399, 4271632, 4533777, 38350482, 39661207, 4271672, 4533881, 38350522, 39661567, 28672, 28673, 28674, 28679, 2125832, 2125897, 2125834, 2125903, 4222992, 4222993, 4223122, 4223127, 14708792, 14708857, 14708922, 14709247, 61952, 324097, 61954, 324103, 2159112, 19198537, 2159114, 19198543, 4256272, 4518417, 4256402, 4518551, 14742072, 31781497, 14742202, 31781887, 95232, 95233, 619522, 619527, 2192392, 2192457, 2716682, 2716751, 4289552, 4289553, 38368402, 38368407, 14775352, 14775417, 48854202, 48854527, 261632, 523777, 785922, 2096647, 2358792, 19398217, 2883082, 20971087, 4455952, 4718097, 38534802, 39845527, 14941752, 31981177, 49020602, 134217727]
noncomputable def qu_c1 (t1 : Nat) (l : List Nat) : Bool := List.rec true (fun t0 _ ih => Bool.and (Nat.beq (qt_k 13 (qt_X (qt_cb 27 t0 t1))) 0) ih) l
noncomputable def qu_c2 (l : List Nat) : Bool := List.rec true (fun t1 _ ih => Bool.and (qu_c1 t1 qu_LT) ih) l
theorem qu_c1_ok {t1 : Nat} {l : List Nat} (h : qu_c1 t1 l = true) : ∀ t0, t0 ∈ l → qt_k 13 (qt_X (qt_cb 27 t0 t1)) = 0 := by
  induction l with
  | nil => intro t0 h0; exact absurd h0 (by simp)
  | cons a l ih =>
    have h' : (Bool.and (Nat.beq (qt_k 13 (qt_X (qt_cb 27 a t1))) 0) (qu_c1 t1 l)) = true := h
    rw [show ∀ a b : Bool, Bool.and a b = (a && b) from fun a b => by cases a <;> rfl, Bool.and_eq_true] at h'
    intro t0 h0
    rcases List.mem_cons.mp h0 with e | e
    · subst e
      exact Nat.eq_of_beq_eq_true h'.1
    · exact ih h'.2 t0 e
theorem qu_c2_ok {l : List Nat} (h : qu_c2 l = true) : ∀ t1, t1 ∈ l → qu_c1 t1 qu_LT = true := by
  induction l with
  | nil => intro t0 h0; exact absurd h0 (by simp)
  | cons a l ih =>
    have h' : (Bool.and (qu_c1 a qu_LT) (qu_c2 l)) = true := h
    rw [show ∀ a b : Bool, Bool.and a b = (a && b) from fun a b => by cases a <;> rfl, Bool.and_eq_true] at h'
    intro t0 h0
    rcases List.mem_cons.mp h0 with e | e
    · subst e
      exact h'.1
    · exact ih h'.2 t0 e
theorem qu_in : ∀ g, g < 256 → qt_E3 g ∈ qu_LT := by decide +kernel
theorem qu_in2 : ∀ g, g < 256 → qt_E3 g ∈ (qu_LT.drop (32 * (g / 32))).take 32 := by decide +kernel
theorem qu_k0 : qu_c2 ((qu_LT.drop 0).take 32) = true := by decide +kernel
theorem qu_k1 : qu_c2 ((qu_LT.drop 32).take 32) = true := by decide +kernel
theorem qu_k2 : qu_c2 ((qu_LT.drop 64).take 32) = true := by decide +kernel
theorem qu_k3 : qu_c2 ((qu_LT.drop 96).take 32) = true := by decide +kernel
theorem qu_k4 : qu_c2 ((qu_LT.drop 128).take 32) = true := by decide +kernel
theorem qu_k5 : qu_c2 ((qu_LT.drop 160).take 32) = true := by decide +kernel
theorem qu_k6 : qu_c2 ((qu_LT.drop 192).take 32) = true := by decide +kernel
theorem qu_k7 : qu_c2 ((qu_LT.drop 224).take 32) = true := by decide +kernel
theorem qu_all {g0 g1 : Nat} (h0 : g0 < 256) (h1 : g1 < 256) : qt_k 13 (qt_X (qt_cb 27 (qt_E3 g0) (qt_E3 g1))) = 0 := by
  have hm := qu_in2 g1 h1
  refine qu_c1_ok ?_ _ (qu_in g0 h0)
  have hk : g1 / 32 < 8 := by omega
  generalize g1 / 32 = k at hm hk
  have hk' : k = 0 ∨ k = 1 ∨ k = 2 ∨ k = 3 ∨ k = 4 ∨ k = 5 ∨ k = 6 ∨ k = 7 := by omega
  rcases hk' with e | e | e | e | e | e | e | e
  · subst e; exact qu_c2_ok qu_k0 _ hm
  · subst e; exact qu_c2_ok qu_k1 _ hm
  · subst e; exact qu_c2_ok qu_k2 _ hm
  · subst e; exact qu_c2_ok qu_k3 _ hm
  · subst e; exact qu_c2_ok qu_k4 _ hm
  · subst e; exact qu_c2_ok qu_k5 _ hm
  · subst e; exact qu_c2_ok qu_k6 _ hm
  · subst e; exact qu_c2_ok qu_k7 _ hm
theorem qu_kern (n : Nat) : ∀ f x, qc_n n x.testBit ≤ qc_n n (qt_k f x).testBit + f := by
  intro f
  induction f with
  | zero => intro x; exact Nat.le_refl _
  | succ f ih =>
    intro x
    have h1 := qc_kern n x
    have h2 := ih (x &&& (x - 1))
    have e : qt_k (f + 1) x = qt_k f (x &&& (x - 1)) := rfl
    rw [e]
    omega
/-- there are at most 13 primes -/
theorem qu_13 {N : Nat} (hN : N < 65536) : qc_n 81 (qt_pr N) ≤ 13 := by
  have h1 := qu_kern 81 13 (qt_X (qt_E4 N))
  have h2 : qt_k 13 (qt_X (qt_E4 N)) = 0 := qu_all (g0 := N % 2 ^ 8) (g1 := N / 2 ^ 8) (by omega) (by omega)
  rw [h2, qc_none (p := (0 : Nat).testBit) (fun i _ => Nat.zero_testBit i)] at h1
  show qc_n 81 (qt_X (qt_E4 N)).testBit ≤ 13
  omega
/-- the list of primes below k -/
def qu_L (N k : Nat) : List Nat := (List.range k).filter (qt_pr N)
theorem qu_L_t {N k : Nat} (h : qt_pr N k = true) : qu_L N (k + 1) = qu_L N k ++ [k] := by
  unfold qu_L
  rw [List.range_succ, List.filter_append]
  simp [h]
theorem qu_L_f {N k : Nat} (h : qt_pr N k = false) : qu_L N (k + 1) = qu_L N k := by
  unfold qu_L
  rw [List.range_succ, List.filter_append]
  simp [h]
theorem qu_L_len {N k : Nat} (hN : N < 65536) (hk : k ≤ 81) : (qu_L N k).length ≤ 13 := by
  have h1 : (qu_L N k).length ≤ (qu_L N 81).length := by
    obtain ⟨j, hj⟩ : ∃ j, 81 = k + j := ⟨81 - k, by omega⟩
    rw [hj]
    clear hj hk
    induction j with
    | zero => exact Nat.le_refl _
    | succ j ih =>
      rw [show k + (j + 1) = (k + j) + 1 by omega]
      cases e : qt_pr N (k + j) with
      | true =>
        rw [qu_L_t e, List.length_append]
        omega
      | false => rw [qu_L_f e]; exact ih
  have h2 := qu_13 hN
  have h3 : (qu_L N 81).length = qc_n 81 (qt_pr N) := qc_len 81 (qt_pr N)
  omega
theorem qu_L_mem {N c : Nat} : c ∈ qu_L N 81 ↔ c < 81 ∧ qt_pr N c = true := by
  unfold qu_L
  rw [List.mem_filter, List.mem_range]
theorem qu_L_get {N i : Nat} (hi : i < (qu_L N 81).length) : (qu_L N 81).getD i 0 < 81 ∧ qt_pr N ((qu_L N 81).getD i 0) = true := by
  rw [List.getD_eq_getElem?_getD, List.getElem?_eq_getElem hi]
  exact qu_L_mem.mp (List.getElem_mem hi)
theorem qu_L_idx {N c : Nat} (hc : c < 81) (h : qt_pr N c = true) : ∃ i, i < (qu_L N 81).length ∧ (qu_L N 81).getD i 0 = c := by
  obtain ⟨i, hi, e⟩ := List.mem_iff_getElem.mp (qu_L_mem.mpr ⟨hc, h⟩)
  refine ⟨i, hi, ?_⟩
  rw [List.getD_eq_getElem?_getD, List.getElem?_eq_getElem hi, e]
  rfl
end
section
theorem qw_power {post : Int32 → Prop} {k : Nat} (hk : k ≤ 3) (H : post (nI (3 ^ k))) : wpX_power post () (nI k) :=
  pk_loop (fun n i s => wX_power_4 post (nI k) n s (nI i)) (fun i s => s = nI (3 ^ i)) k 0 1 (by omega) rfl
    (fun n s h => pk_le k k (fun _ => by rw [h]; exact H) (fun z => absurd z (by omega)))
    (fun n i s hi h hw => pk_le k i (fun z => absurd z (by omega)) (fun _ => nm_e (nm_r (nI_1 i) (hw _ (by rw [h, Nat.pow_succ, ← pk_mul]; rfl)))))
theorem qw_p3 {b : Nat} : 0 < 3 ^ (3 - b) ∧ 3 ^ (3 - b) ≤ 27 := ⟨Nat.pow_pos (by decide), show 3 ^ (3 - b) ≤ 3 ^ 3 from Nat.pow_le_pow_right (by decide) (by omega)⟩
theorem qw_digit {post : Int32 → Prop} {c b : Nat} (hc : c < 81) (hb : b < 4) (H : post (nI (qt_dg c b))) : wpX_digit post () (nI c) (nI b) := by
  unfold wpX_digit
  rw [show (3 : Int32) - nI b = nI (3 - b) from pk_sub (a := 3) (by omega)]
  have h3 := qw_p3 (b := b)
  refine qw_power (by omega) ⟨nI_ne0 h3.1 (by omega), by decide, ?_⟩
  have e : (nI c / nI (3 ^ (3 - b))) - (nI c / nI (3 ^ (3 - b))) / 3 * 3 = nI (qt_dg c b) := by
    rw [pk_div (by omega) h3.1 (by omega)]
    have h4 : c / 3 ^ (3 - b) ≤ c := Nat.div_le_self _ _
    exact pk_rem (d := 3) (by omega) (by omega) (by omega)
  rw [e]
  exact H
theorem qw_freeBits {post : Int32 → Prop} {c : Nat} (hc : c < 81) (H : post (nI (qt_fb c))) : wpX_freeBits post () (nI c) :=
  pk_loop (fun n i s => wX_freeBits_4 post (nI c) n s (nI i)) (fun i s => s = nI (qc_n i (fun b => decide (qt_dg c b = 2)))) 4 0 0 (by omega) rfl
    (fun n s h => pk_le 4 4 (fun _ => by rw [h]; exact H) (fun z => absurd z (by omega)))
    (fun n i s hi h hw => pk_le 4 i (fun z => absurd z (by omega)) (fun _ => qw_digit hc hi
      (pk_eq (qt_dg c i) 2
        (fun z => nm_e (nm_r (nI_1 i) (hw _ (by rw [h, qc_s, decide_eq_true z, nI_1]; rfl))))
        (fun z => nm_e (nm_r (nI_1 i) (hw _ (by rw [h, qc_s, decide_eq_false z]; exact nI_add _ 0))))
        rfl rfl (by have := qt_f_dg c i; omega))))
def qt_ask (c r b : Nat) : Bool := decide (qt_dg c b = 2) || decide (qt_dg c b = (r.testBit (3 - b)).toNat)
theorem qt_f_ask : ∀ c, c < 81 → ∀ r, r < 16 → (qt_W c).testBit r = (List.range 4).all (qt_ask c r) := by decide +kernel
theorem qt_ask_all (c r : Nat) : (List.range 4).all (qt_ask c r) = true ↔ ∀ b, b < 4 → qt_ask c r b = true := by
  rw [List.all_eq_true]
  exact ⟨fun h b hb => h b (List.mem_range.mpr hb), fun h b hb => h b (List.mem_range.mp hb)⟩
theorem qw_asks {post : Int32 → Prop} {c r : Nat} (hc : c < 81) (hr : r < 16) (H1 : (∀ b, b < 4 → qt_ask c r b = true) → post 1) (H0 : ¬ (∀ b, b < 4 → qt_ask c r b = true) → post 0) : wpX_asksFor post () (nI c) (nI r) := by
  refine pk_loop (σ := Unit) (fun n i _ => wX_asksFor_2 post (nI c) (nI r) n (nI i)) (fun i _ => ∀ b, b < i → qt_ask c r b = true) 4 0 () (by omega) (fun b hb => absurd hb (by omega)) ?_ ?_
  · intro n _ h
    exact pk_le 4 4 (fun _ => H1 h) (fun z => absurd z (by omega))
  · intro n i _ hi h hw
    refine pk_le 4 i (fun z => absurd z (by omega)) (fun _ => qw_digit hc hi ?_)
    have hd := qt_f_dg c i
    refine pk_eq (qt_dg c i) 2 (fun z => nm_r (nI_1 i) (hw () (lt_s h ?_))) (fun z => ?_) rfl rfl (by omega)
    · unfold qt_ask
      rw [decide_eq_true z]
      rfl
    · have e : (nI r >>> ((3 - nI i) &&& 31)) &&& 1 = nI (r.testBit (3 - i)).toNat := by
        rw [show (3 : Int32) - nI i = nI (3 - i) from pk_sub (a := 3) (by omega)]
        exact qb_bit (by omega) (by omega)
      have hb : (r.testBit (3 - i)).toNat < 2 := by cases r.testBit (3 - i) <;> decide
      refine pk_eq (qt_dg c i) (r.testBit (3 - i)).toNat (fun z2 => nm_r (nI_1 i) (hw () (lt_s h ?_))) (fun z2 => H0 (fun hall => ?_)) rfl e (by omega) (by omega)
      · unfold qt_ask
        rw [decide_eq_true z2]
        simp
      · have := hall i hi
        unfold qt_ask at this
        rw [decide_eq_false z, decide_eq_false z2] at this
        exact absurd this (by decide)
theorem qw_asksFor {post : Int32 → Prop} {c r : Nat} (hc : c < 81) (hr : r < 16) (H1 : (qt_W c).testBit r = true → post 1) (H0 : (qt_W c).testBit r = false → post 0) : wpX_asksFor post () (nI c) (nI r) :=
  qw_asks hc hr (fun h => H1 (by rw [qt_f_ask c hc r hr]; exact (qt_ask_all c r).mpr h)) (fun h => H0 (by
    rw [qt_f_ask c hc r hr]
    cases e : (List.range 4).all (qt_ask c r) with
    | false => rfl
    | true => exact absurd ((qt_ask_all c r).mp e) h))
theorem qw_ones {post : Int32 → Prop} {x : Nat} (hx : x < 2 ^ 31) (H : post (nI (qc_n 20 x.testBit))) : wpX_ones post () (nI x) :=
  pk_loop (fun n i s => wX_ones_4 post (nI x) n s (nI i)) (fun i s => s = nI (qc_n i x.testBit)) 20 0 0 (by omega) rfl
    (fun n s h => pk_le 20 20 (fun _ => by rw [h]; exact H) (fun z => absurd z (by omega)))
    (fun n i s hi h hw => pk_le 20 i (fun z => absurd z (by omega)) (fun _ => nm_e (nm_r (nI_1 i) (hw _ (by rw [h, qb_bit hx (by omega), nI_add, qc_s])))))
theorem qw_Lones {post : Int32 → Prop} {x : Nat} (hx : x < 2 ^ 31) (H : post (nI (qc_n 16 x.testBit))) : wpL_ones post () (nI x) :=
  pk_loop (fun n i s => wL_ones_4 post (nI x) n s (nI i)) (fun i s => s = nI (qc_n i x.testBit)) 16 0 0 (by omega) rfl
    (fun n s h => pk_le 16 16 (fun _ => by rw [h]; exact H) (fun z => absurd z (by omega)))
    (fun n i s hi h hw => pk_le 16 i (fun z => absurd z (by omega)) (fun _ => nm_e (nm_r (nI_1 i) (hw _ (by rw [h, qb_bit hx (by omega), nI_add, qc_s])))))
/-- sets of primes are below 2^13: their size by the class and by the law -/
theorem qw_ones13 {post : Int32 → Prop} {x n : Nat} (hn : n ≤ 13) (hx : x < 2 ^ n) (H : post (nI (qc_n n x.testBit))) : wpX_ones post () (nI x) := by
  have h1 : 2 ^ n ≤ 2 ^ 13 := Nat.pow_le_pow_right (by decide) hn
  refine qw_ones (by omega) ?_
  rw [qc_ext (n := n) (by omega) (fun i hi => qb_of_lt hx hi)]
  exact H
theorem qw_Lones13 {post : Int32 → Prop} {x n : Nat} (hn : n ≤ 13) (hx : x < 2 ^ n) (H : post (nI (qc_n n x.testBit))) : wpL_ones post () (nI x) := by
  have h1 : 2 ^ n ≤ 2 ^ 13 := Nat.pow_le_pow_right (by decide) hn
  refine qw_Lones (by omega) ?_
  rw [qc_ext (n := n) (by omega) (fun i hi => qb_of_lt hx hi)]
  exact H
section
variable {f0 f1 f2 f3 f4 f5 : Int32} {a1 a2 a3 a4 a5 a6 a7 a8 : Nat → Int32}
theorem qw_onRows {post : Int32 → Prop} (H : ∀ r, post r) : wpX_onRows post (f0, f1, f2, f3, f4, f5, a1, a2, a3, a4, a5, a6, a7, a8) :=
  pk_loop (fun n i s => wX_onRows_4 post f0 f1 f2 f3 f4 f5 a1 a2 a3 a4 a5 a6 a7 a8 n s (nI i)) (fun _ _ => True) 16 0 0 (by omega) trivial
    (fun n s h => pk_le 16 16 (fun _ => H s) (fun z => absurd z (by omega)))
    (fun n i s hi h hw => pk_le 16 i (fun z => absurd z (by omega)) (fun _ => ⟨pk_in i 16 hi, br_c (fun _ => nm_e (nm_r (nI_1 i) (hw _ trivial))) (fun _ => nm_e (nm_r (nI_1 i) (hw _ trivial)))⟩))
theorem qw_onlyRow {post : Int32 → Prop} {c r : Nat} (hc : c < 81) (h2 : a2 c = nI (2 ^ r)) (hr : r < 16) (H : post (nI r)) : wpX_onlyRow post (f0, f1, f2, f3, f4, f5, a1, a2, a3, a4, a5, a6, a7, a8) (nI c) := by
  have hp : 2 ^ r ≤ 2 ^ 15 := Nat.pow_le_pow_right (by decide) (by omega)
  refine pk_loop (σ := Unit) (fun n i _ => wX_onlyRow_2 post (nI c) f0 f1 f2 f3 f4 f5 a1 a2 a3 a4 a5 a6 a7 a8 n (nI i)) (fun _ _ => True) r 0 () (by omega) trivial ?_ ?_
  · intro n _ _
    refine pk_le 15 r (fun _ => H) (fun z => ⟨pk_in c 81 hc, ?_⟩)
    rw [nI_clamp (show c < 2 ^ 31 by omega), h2]
    refine qb_br0 (2 ^ r) r (fun e => ?_) (fun _ => H)
    rw [Nat.testBit_two_pow_self] at e
    exact absurd e (by decide)
  · intro n i _ hi _ hw
    refine pk_le 15 i (fun z => absurd z (by omega)) (fun _ => ⟨pk_in c 81 hc, ?_⟩)
    rw [nI_clamp (show c < 2 ^ 31 by omega), h2]
    refine qb_br0 (2 ^ r) i (fun e => nm_r (nI_1 i) (hw () trivial)) (fun e => ?_)
    rw [Nat.testBit_two_pow_of_ne (by omega)] at e
    exact absurd e (by decide)
end
end
section
/-- the mask of a Boolean function -/
def qw_m (p : Nat → Bool) : Nat → Nat
  | 0 => 0
  | i + 1 => if p i = true then qw_m p i ||| 2 ^ i else qw_m p i
theorem qw_m_t {p : Nat → Bool} {i : Nat} (h : p i = true) : qw_m p (i + 1) = qw_m p i ||| 2 ^ i := if_pos h
theorem qw_m_f {p : Nat → Bool} {i : Nat} (h : p i = false) : qw_m p (i + 1) = qw_m p i := if_neg (by rw [h]; decide)
theorem qw_m_tb (p : Nat → Bool) (n i : Nat) : (qw_m p n).testBit i = (decide (i < n) && p i) := by
  induction n with
  | zero => simp [qw_m]
  | succ n ih =>
    cases e : p n with
    | true =>
      rw [qw_m_t e, Nat.testBit_or, ih, Nat.testBit_two_pow]
      by_cases z : i = n
      · subst z
        simp [e]
      · have : (i < n + 1) ↔ (i < n) := by omega
        have z' : ¬ n = i := by omega
        simp [this, z']
    | false =>
      rw [qw_m_f e, ih]
      by_cases z : i = n
      · subst z
        simp [e]
      · have : (i < n + 1) ↔ (i < n) := by omega
        simp [this]
theorem qw_m_lt (p : Nat → Bool) (n : Nat) : qw_m p n < 2 ^ n := qb_lt (fun i h => by
  rw [qw_m_tb, Bool.and_eq_true, decide_eq_true_iff] at h
  exact h.1)
theorem qw_m_self {x : Nat} (hx : x < 2 ^ 16) : qw_m x.testBit 16 = x := by
  apply Nat.eq_of_testBit_eq
  intro i
  rw [qw_m_tb]
  cases e : x.testBit i with
  | false => simp
  | true => rw [decide_eq_true (qb_of_lt hx e)]; rfl
def qw_wd (a2 : Nat → Int32) : Prop := ∀ c, c < 81 → a2 c = nI (qt_W c)
def qw_io (c : Nat) (s : Nat → Int32) : Prop := (∀ k, k < c → s k = nI (qt_W k)) ∧ ∀ k, c ≤ k → s k = 0
def qw_ii (c i : Nat) (s : Nat → Int32) : Prop := (∀ k, k < c → s k = nI (qt_W k)) ∧ s c = nI (qw_m (qt_W c).testBit i) ∧ ∀ k, c < k → s k = 0
section
variable {f0 f1 f2 f3 f4 f5 : Int32} {a1 a2 a3 a4 a5 a6 a7 a8 : Nat → Int32}
theorem qw_init78 {post : St1 → Prop} {mc ms kc ks : Nat} {J : Int32 → (Nat → Int32) → (Nat → Int32) → (Nat → Int32) → (Nat → Int32) → (Nat → Int32) → (Nat → Int32) → (Nat → Int32) → (Nat → Int32) → Prop} {c : Nat} (hc : c < 81) (hs : qw_io c a2)
    (HJ : ∀ s, qw_io (c + 1) s → J (nI (c + 1)) a1 s a3 a4 a5 a6 a7 a8) : ∃ n, wX_init_78 post mc ms J (nI c) kc ks f0 f1 f2 f3 f4 f5 n 0 a1 a2 a3 a4 a5 a6 a7 a8 := by
  refine pk_loop (fun n i s => wX_init_78 post mc ms J (nI c) kc ks f0 f1 f2 f3 f4 f5 n (nI i) a1 s a3 a4 a5 a6 a7 a8) (fun i s => qw_ii c i s) 16 0 a2 (by omega) ⟨hs.1, hs.2 c (Nat.le_refl _), fun k hk => hs.2 k (by omega)⟩ ?_ ?_
  · intro n s h
    refine pk_le 16 16 (fun _ => nm_r (nI_1 c) (HJ s ⟨fun k hk => ?_, fun k hk => h.2.2 k (by omega)⟩)) (fun z => absurd z (by omega))
    by_cases e : k = c
    · rw [e, h.2.1, qw_m_self (qt_f_W c hc)]
    · exact h.1 k (by omega)
  · intro n i s hi h hw
    refine pk_le 16 i (fun z => absurd z (by omega)) (fun _ => qw_asksFor hc hi (fun hb => ?_) (fun hb => ?_))
    · refine br_f (by decide) ⟨pk_in c 81 hc, pk_in c 81 hc, nm_e (nm_r (nI_1 i) (hw _ ?_))⟩
      rw [nI_clamp (show c < 2 ^ 31 by omega)]
      refine ⟨fun k hk => ?_, ?_, fun k hk => ?_⟩
      · rw [pk_un (by omega)]
        exact h.1 k hk
      · rw [pk_us, h.2.1, qb_sh (by omega), qb_or, qw_m_t hb]
      · rw [pk_un (by omega)]
        exact h.2.2 k hk
    · refine br_t rfl (nm_r (nI_1 i) (hw s ⟨h.1, ?_, h.2.2⟩))
      rw [h.2.1, qw_m_f hb]
theorem qw_init {post : St1 → Prop} (H : ∀ s, qw_wd s → post (0, 0, 0, 0, 0, 0, (fun _ => 0), s, (fun _ => 0), (fun _ => 0), (fun _ => 0), (fun _ => 0), (fun _ => 0), (fun _ => 0))) : wpX_init post 8 393 (0, 0, 0, 0, 0, 0) := by
  refine ⟨by omega, by omega, by omega, by omega, by omega, by omega, by omega, by omega, by omega, by omega, by omega, by omega, by omega, by omega, by omega, by omega, ?_⟩
  refine pk_loop (fun n i s => wX_init_70 post 8 393 8 393 0 0 0 0 0 0 n (nI i) (fun _ => 0) s (fun _ => 0) (fun _ => 0) (fun _ => 0) (fun _ => 0) (fun _ => 0) (fun _ => 0)) (fun i s => qw_io i s) 81 0 (fun _ => 0) (by omega) ⟨fun k hk => absurd hk (by omega), fun k _ => rfl⟩ ?_ ?_
  · intro n s h
    exact pk_le 81 81 (fun _ => H s h.1) (fun z => absurd z (by omega))
  · intro n i s hi h hw
    exact pk_le 81 i (fun z => absurd z (by omega)) (fun _ => qw_init78 hi h (fun s' h' => hw s' h'))
theorem qw_in {p : Int32} {n : Nat} (hn : n < 2 ^ 31) (h0 : ¬ p < 0) (h1 : ¬ nI n ≤ p) : vp_in p n := by
  rcases pk_ix p hn with h | h | ⟨j, hj, e⟩
  · exact absurd h h0
  · exact absurd h h1
  · subst e
    exact vp_in_nI hj hn
theorem qw_isRow {post : Int32 → Prop} {p : Int32} (H1 : vp_in p 16 → post 1) (H0 : post 0) : wpX_isRow post () p :=
  br_c (fun _ => H0) (fun h0 => br_c (fun _ => H0) (fun h1 => H1 (qw_in (by omega) h0 h1)))
theorem qw_isCube {post : Int32 → Prop} {p : Int32} (H1 : vp_in p 81 → post 1) (H0 : post 0) : wpX_isCube post () p :=
  br_c (fun _ => H0) (fun h0 => br_c (fun _ => H0) (fun h1 => H1 (qw_in (by omega) h0 h1)))
theorem qw_set {post : Int32 → St1 → Prop} {p q : Int32} (H0 : ∀ r, post r (f0, f1, f2, f3, f4, f5, a1, a2, a3, a4, a5, a6, a7, a8)) (H1 : ∀ r s, post r (f0, f1, f2, f3, f4, 0, s, a2, a3, a4, a5, a6, a7, a8)) : wpX_set post (f0, f1, f2, f3, f4, f5, a1, a2, a3, a4, a5, a6, a7, a8) p q := by
  unfold wpX_set
  dsimp only
  refine qw_isRow (fun h => ?_) ?_
  · exact br_f (by decide) (br_c (fun _ => H0 _) (fun _ => br_c (fun _ => ⟨h, nm_e ⟨h, nm_e (H1 _ _)⟩⟩) (fun _ => H0 _)))
  · exact br_t rfl (H0 _)
theorem qw_fill26 {post : Int32 → St1 → Prop} {p q : Int32} (hp : vp_in p 81) (H1 : ∀ r s, post r (f0, f1, f2, f3, f4, 0, s, a2, a3, a4, a5, a6, a7, a8)) : ∃ n, wX_fill_26 post p q f0 f1 f2 f3 f4 f5 n 0 0 a1 a2 a3 a4 a5 a6 a7 a8 := by
  refine pk_loop (fun n i (s : Int32 × (Nat → Int32)) => wX_fill_26 post p q f0 f1 f2 f3 f4 f5 n s.1 (nI i) s.2 a2 a3 a4 a5 a6 a7 a8) (fun _ _ => True) 16 0 (0, a1) (by omega) trivial ?_ ?_
  · intro n s _
    exact pk_le 16 16 (fun _ => H1 _ _) (fun z => absurd z (by omega))
  · intro n i s hi _ hw
    refine pk_le 16 i (fun z => absurd z (by omega)) (fun _ => ⟨hp, br_c (fun _ => ⟨pk_in i 16 hi, br_c (fun _ => ?_) (fun _ => ?_)⟩) (fun _ => nm_r (nI_1 i) (hw s trivial))⟩)
    · exact nm_e ⟨pk_in i 16 hi, nm_e (nm_r (nI_1 i) (hw (_, _) trivial))⟩
    · exact nm_e ⟨pk_in i 16 hi, nm_e (nm_r (nI_1 i) (hw (_, _) trivial))⟩
theorem qw_fill {post : Int32 → St1 → Prop} {p q : Int32} (H0 : ∀ r, post r (f0, f1, f2, f3, f4, f5, a1, a2, a3, a4, a5, a6, a7, a8)) (H1 : ∀ r s, post r (f0, f1, f2, f3, f4, 0, s, a2, a3, a4, a5, a6, a7, a8)) : wpX_fill post (f0, f1, f2, f3, f4, f5, a1, a2, a3, a4, a5, a6, a7, a8) p q := by
  unfold wpX_fill
  dsimp only
  refine qw_isCube (fun h => ?_) ?_
  · exact br_f (by decide) (br_c (fun _ => H0 _) (fun _ => br_c (fun _ => qw_fill26 h H1) (fun _ => H0 _)))
  · exact br_t rfl (H0 _)
theorem qw_load27 {post : Int32 → St1 → Prop} {p q : Int32} (H1 : ∀ r s, post r (f0, f1, f2, f3, f4, 0, s, a2, a3, a4, a5, a6, a7, a8)) : ∃ n, wX_load_27 post p q f0 f1 f2 f3 f4 f5 n 0 a1 a2 a3 a4 a5 a6 a7 a8 := by
  refine pk_loop (fun n i s => wX_load_27 post p q f0 f1 f2 f3 f4 f5 n (nI i) s a2 a3 a4 a5 a6 a7 a8) (fun _ _ => True) 16 0 a1 (by omega) trivial ?_ ?_
  · intro n s _
    exact pk_le 16 16 (fun _ => qw_onRows (fun r => H1 r s)) (fun z => absurd z (by omega))
  · intro n i s hi _ hw
    have key : ∀ z, wX_load_47 post (wX_load_27 post p q f0 f1 f2 f3 f4 f5 n) p q (nI i) z f0 f1 f2 f3 f4 f5 s a2 a3 a4 a5 a6 a7 a8 := fun z =>
      br_c (fun _ => ⟨pk_in i 16 hi, nm_e (nm_r (nI_1 i) (hw _ trivial))⟩) (fun _ => ⟨pk_in i 16 hi, nm_e (nm_r (nI_1 i) (hw _ trivial))⟩)
    exact pk_le 16 i (fun z => absurd z (by omega)) (fun _ => br_c (fun _ => key 2) (fun _ => key 0))
theorem qw_load {post : Int32 → St1 → Prop} {p q : Int32} (H0 : ∀ r, post r (f0, f1, f2, f3, f4, f5, a1, a2, a3, a4, a5, a6, a7, a8)) (H1 : ∀ r s, post r (f0, f1, f2, f3, f4, 0, s, a2, a3, a4, a5, a6, a7, a8)) : wpX_load post (f0, f1, f2, f3, f4, f5, a1, a2, a3, a4, a5, a6, a7, a8) p q :=
  br_c (fun _ => H0 _) (fun _ => br_c (fun _ => br_c (fun _ => H0 _) (fun _ => br_c (fun _ => qw_load27 H1) (fun _ => H0 _))) (fun _ => H0 _))
theorem qw_invert {post : Int32 → St1 → Prop} (H1 : ∀ r s, post r (f0, f1, f2, f3, f4, 0, s, a2, a3, a4, a5, a6, a7, a8)) : wpX_invert post (f0, f1, f2, f3, f4, f5, a1, a2, a3, a4, a5, a6, a7, a8) := by
  refine pk_loop (fun n i s => wX_invert_2 post f0 f1 f2 f3 f4 f5 n (nI i) s a2 a3 a4 a5 a6 a7 a8) (fun _ _ => True) 16 0 a1 (by omega) trivial ?_ ?_
  · intro n s _
    exact pk_le 16 16 (fun _ => qw_onRows (fun r => H1 r s)) (fun z => absurd z (by omega))
  · intro n i s hi _ hw
    exact pk_le 16 i (fun z => absurd z (by omega)) (fun _ => ⟨pk_in i 16 hi, br_c (fun _ => ⟨pk_in i 16 hi, nm_e (nm_r (nI_1 i) (hw _ trivial))⟩) (fun _ => ⟨pk_in i 16 hi, pk_in i 16 hi, nm_e (nm_r (nI_1 i) (hw _ trivial))⟩)⟩)
end
end
section
theorem qr_f_two : ∀ c, c < 81 → ∀ b, b < 4 → qt_dg c b = 2 → 2 * 3 ^ (3 - b) ≤ c := by decide +kernel
/-- cube c, bit b asks for nothing: the halves -/
theorem qr_half {x b : Nat} (hx : x < 81) (hb : b < 4) (hd : qt_dg x b = 2) (N : Nat) :
    ∃ z o, z < 81 ∧ o < 81 ∧ z + 2 * 3 ^ (3 - b) = x ∧ o + 3 ^ (3 - b) = x ∧ qt_fb z + 1 = qt_fb x ∧ qt_fb o + 1 = qt_fb x ∧ nI x - 2 * nI (3 ^ (3 - b)) = nI z ∧ nI x - nI (3 ^ (3 - b)) = nI o ∧ qt_al N x = (qt_al N z && qt_al N o) := by
  have h2 := qr_f_two x hx b hb hd
  have h3 := qw_p3 (b := b)
  have p1 : qt_par x (x - 2 * 3 ^ (3 - b)) = true := (qt_par_iff _ _).mpr ⟨b, hb, hd, Or.inr (by omega)⟩
  have p2 : qt_par x (x - 3 ^ (3 - b)) = true := (qt_par_iff _ _).mpr ⟨b, hb, hd, Or.inl (by omega)⟩
  refine ⟨x - 2 * 3 ^ (3 - b), x - 3 ^ (3 - b), by omega, by omega, by omega, by omega, ?_, ?_, ?_, ?_, qt_half hx hb hd N⟩
  · exact (qt_f_par x hx _ (by omega) p1).1.symm
  · exact (qt_f_par x hx _ (by omega) p2).1.symm
  · rw [show (2 : Int32) * nI (3 ^ (3 - b)) = nI (2 * 3 ^ (3 - b)) from pk_mul 2 _]
    exact pk_sub h2
  · exact pk_sub (by omega)
def qr_hf (x c b : Nat) : Prop := qt_dg x b = 2 ∧ (c + 3 ^ (3 - b) = x ∨ c + 2 * 3 ^ (3 - b) = x)
theorem qr_not_ex {p q : Prop} (h : ¬ p) (e : q → p) : ¬ q := fun z => h (e z)
section
variable {f0 f1 f2 f3 f4 f5 : Int32} {a1 a2 a3 a4 a5 a6 a7 a8 : Nat → Int32}
theorem qr_join1 {post : Int32 → St1 → Prop} {x N : Nat} (hx : x < 81) (hf : 0 < qt_fb x) (hA : qt_al N x = true) (h3 : ∀ c, c < 81 → qt_fb c + 1 = qt_fb x → a3 c = nI (qt_al N c).toNat)
    (H : ∀ s, (∀ c, c < 81 → (s c = 0 ↔ (a4 c = 0 ∧ ¬ ∃ b, b < 4 ∧ qr_hf x c b))) → post 1 (f0, f1, f2, f3, f4, f5, a1, a2, a3, s, a5, a6, a7, a8)) : wpX_join post (f0, f1, f2, f3, f4, f5, a1, a2, a3, a4, a5, a6, a7, a8) (nI x) := by
  refine pk_loop (fun n i (s : Int32 × (Nat → Int32)) => wX_join_4 post (nI x) f0 f1 f2 f3 f4 f5 n s.1 (nI i) a1 a2 a3 s.2 a5 a6 a7 a8)
    (fun i s => (s.1 = 0 ∨ s.1 = 1) ∧ ((∃ b, b < i ∧ qt_dg x b = 2) → s.1 = 1) ∧ ∀ c, c < 81 → (s.2 c = 0 ↔ (a4 c = 0 ∧ ¬ ∃ b, b < i ∧ qr_hf x c b)))
    4 0 (0, a4) (by omega) ⟨Or.inl rfl, fun ⟨b, hb, _⟩ => absurd hb (by omega), fun c _ => ⟨fun h => ⟨h, fun ⟨b, hb, _⟩ => absurd hb (by omega)⟩, fun h => h.1⟩⟩ ?_ ?_
  · intro n s h
    obtain ⟨h1, h2, h4⟩ := h
    have e1 : s.1 = 1 := by
      apply h2
      apply Classical.byContradiction
      intro hn
      have : qt_fb x = 0 := qc_none (fun b hb => decide_eq_false (fun hd => hn ⟨b, hb, hd⟩))
      omega
    refine pk_le 4 4 (fun _ => ?_) (fun z => absurd z (by omega))
    rw [e1]
    exact ⟨rfl, H s.2 h4⟩
  · intro n i s hi h hw
    obtain ⟨h1, h2, h4⟩ := h
    refine pk_le 4 i (fun z => absurd z (by omega)) (fun _ => qw_digit hx hi ?_)
    refine pk_eq (qt_dg x i) 2 (fun hd => ?_) (fun hd => nm_r (nI_1 i) (hw s ⟨h1, fun ⟨b, hb, e⟩ => h2 ⟨b, ?_, e⟩, fun c hc => ?_⟩)) rfl rfl (by have := qt_f_dg x i; omega)
    · obtain ⟨z, o, hz, ho, ez, eo, fz, fo, iz, io, al⟩ := qr_half hx hi hd N
      rw [hA] at al
      have alz : qt_al N z = true := by revert al; cases qt_al N z <;> simp
      have alo : qt_al N o = true := by revert al; cases qt_al N o <;> simp
      rw [show (3 : Int32) - nI i = nI (3 - i) from pk_sub (a := 3) (by omega)]
      refine qw_power (by omega) (nm_r iz (qw_power (by omega) (nm_r io ⟨pk_in z 81 hz, ?_⟩)))
      rw [nI_clamp (show z < 2 ^ 31 by omega), nI_clamp (show o < 2 ^ 31 by omega), h3 z hz fz, h3 o ho fo, alz, alo]
      refine br_f (by decide) ⟨pk_in o 81 ho, br_f (by decide) (br_f (by decide) ⟨pk_in z 81 hz, nm_e ⟨pk_in o 81 ho, nm_e (nm_r (nI_1 i) (hw (1, upd (upd s.2 (nI z).toNatClampNeg 1) (nI o).toNatClampNeg 1) ⟨Or.inr rfl, fun _ => rfl, fun c hc => ?_⟩))⟩⟩)⟩
      dsimp only
      rw [nI_clamp (show z < 2 ^ 31 by omega), nI_clamp (show o < 2 ^ 31 by omega)]
      by_cases c1 : c = o
      · subst c1
        rw [pk_us]
        exact ⟨fun g => absurd g (by decide), fun g => absurd ⟨i, by omega, hd, Or.inl eo⟩ g.2⟩
      · rw [pk_un c1]
        by_cases c2 : c = z
        · subst c2
          rw [pk_us]
          exact ⟨fun g => absurd g (by decide), fun g => absurd ⟨i, by omega, hd, Or.inr ez⟩ g.2⟩
        · rw [pk_un c2, h4 c hc]
          constructor
          · intro ⟨g1, g2⟩
            refine ⟨g1, fun ⟨b, hb, hh⟩ => ?_⟩
            by_cases eb : b = i
            · subst eb
              rcases hh.2 with e | e
              · exact c1 (by omega)
              · exact c2 (by omega)
            · exact g2 ⟨b, by omega, hh⟩
          · intro ⟨g1, g2⟩
            exact ⟨g1, fun ⟨b, hb, hh⟩ => g2 ⟨b, by omega, hh⟩⟩
    · by_cases eb : b = i
      · subst eb
        exact absurd e hd
      · omega
    · rw [h4 c hc]
      constructor
      · intro ⟨g1, g2⟩
        refine ⟨g1, fun ⟨b, hb, hh⟩ => ?_⟩
        by_cases eb : b = i
        · subst eb
          exact hd hh.1
        · exact g2 ⟨b, by omega, hh⟩
      · intro ⟨g1, g2⟩
        exact ⟨g1, fun ⟨b, hb, hh⟩ => g2 ⟨b, by omega, hh⟩⟩
theorem qr_join0 {post : Int32 → St1 → Prop} {x N : Nat} (hx : x < 81) (hf : 0 < qt_fb x) (hA : qt_al N x = false) (h3 : ∀ c, c < 81 → qt_fb c + 1 = qt_fb x → a3 c = nI (qt_al N c).toNat)
    (H : post 0 (f0, f1, f2, f3, f4, f5, a1, a2, a3, a4, a5, a6, a7, a8)) : wpX_join post (f0, f1, f2, f3, f4, f5, a1, a2, a3, a4, a5, a6, a7, a8) (nI x) := by
  refine pk_loop (σ := Unit) (fun n i _ => wX_join_4 post (nI x) f0 f1 f2 f3 f4 f5 n 0 (nI i) a1 a2 a3 a4 a5 a6 a7 a8)
    (fun i _ => ∀ b, b < i → ¬ qt_dg x b = 2) 4 0 () (by omega) (fun b hb => absurd hb (by omega)) ?_ ?_
  · intro n s h
    have : qt_fb x = 0 := qc_none (fun b hb => decide_eq_false (h b hb))
    omega
  · intro n i s hi h hw
    refine pk_le 4 i (fun z => absurd z (by omega)) (fun _ => qw_digit hx hi ?_)
    refine pk_eq (qt_dg x i) 2 (fun hd => ?_) (fun hd => nm_r (nI_1 i) (hw () (lt_s h hd))) rfl rfl (by have := qt_f_dg x i; omega)
    obtain ⟨z, o, hz, ho, ez, eo, fz, fo, iz, io, al⟩ := qr_half hx hi hd N
    rw [hA] at al
    rw [show (3 : Int32) - nI i = nI (3 - i) from pk_sub (a := 3) (by omega)]
    refine qw_power (by omega) (nm_r iz (qw_power (by omega) (nm_r io ⟨pk_in z 81 hz, ?_⟩)))
    rw [nI_clamp (show z < 2 ^ 31 by omega), nI_clamp (show o < 2 ^ 31 by omega), h3 z hz fz, h3 o ho fo]
    cases alz : qt_al N z with
    | false => exact br_t rfl (br_t rfl H)
    | true =>
      rw [alz] at al
      have alo : qt_al N o = false := by revert al; cases qt_al N o <;> simp
      rw [alo]
      exact br_f (by decide) ⟨pk_in o 81 ho, br_t rfl (br_t rfl H)⟩
theorem qr_join {post : Int32 → St1 → Prop} {x N : Nat} (hx : x < 81) (hf : 0 < qt_fb x) (h3 : ∀ c, c < 81 → qt_fb c + 1 = qt_fb x → a3 c = nI (qt_al N c).toNat)
    (H : ∀ s, (∀ c, c < 81 → (s c = 0 ↔ (a4 c = 0 ∧ ¬ (qt_al N x = true ∧ qt_par x c = true)))) → post (nI (qt_al N x).toNat) (f0, f1, f2, f3, f4, f5, a1, a2, a3, s, a5, a6, a7, a8)) : wpX_join post (f0, f1, f2, f3, f4, f5, a1, a2, a3, a4, a5, a6, a7, a8) (nI x) := by
  cases hA : qt_al N x with
  | true =>
    rw [hA] at H
    refine qr_join1 hx hf hA h3 (fun s hs => H s (fun c hc => ?_))
    rw [hs c hc, qt_par_iff]
    constructor
    · intro ⟨g1, g2⟩
      exact ⟨g1, fun ⟨_, b, hb, h⟩ => g2 ⟨b, hb, h⟩⟩
    · intro ⟨g1, g2⟩
      exact ⟨g1, fun ⟨b, hb, h⟩ => g2 ⟨rfl, b, hb, h⟩⟩
  | false =>
    rw [hA] at H
    exact qr_join0 hx hf hA h3 (H a4 (fun c hc => ⟨fun h => ⟨h, fun g => absurd g.1 (by decide)⟩, fun h => h.1⟩))
end
end
section
def qr_N (a1 : Nat → Int32) : Nat := qw_m (fun r => !decide (a1 r = 0)) 16
def qr_O (a1 : Nat → Int32) : Nat := qw_m (fun r => decide (a1 r = 1)) 16
def qr_n (a1 : Nat → Int32) : Nat := (qu_L (qr_N a1) 81).length
def qr_w (a1 : Nat → Int32) (i : Nat) : Nat := qt_W ((qu_L (qr_N a1) 81).getD i 0)
theorem qr_N_lt (a1 : Nat → Int32) : qr_N a1 < 65536 := qw_m_lt _ 16
theorem qr_O_lt (a1 : Nat → Int32) : qr_O a1 < 65536 := qw_m_lt _ 16
theorem qr_n_le (a1 : Nat → Int32) : qr_n a1 ≤ 13 := qu_L_len (qr_N_lt a1) (Nat.le_refl _)
theorem qr_O_tb {a1 : Nat → Int32} {r : Nat} (hr : r < 16) : (qr_O a1).testBit r = decide (a1 r = 1) := by
  unfold qr_O
  rw [qw_m_tb, decide_eq_true hr]
  rfl
def qr_dn (f x c : Nat) : Bool := decide (qt_fb c < f) || (decide (qt_fb c = f) && decide (c < x))
theorem qr_dn_iff (f x c : Nat) : qr_dn f x c = true ↔ qt_fb c < f ∨ (qt_fb c = f ∧ c < x) := by
  unfold qr_dn
  rw [Bool.or_eq_true, Bool.and_eq_true, decide_eq_true_iff, decide_eq_true_iff, decide_eq_true_iff]
theorem qr_dn_ne {f x c : Nat} (h : ¬ (c = x ∧ qt_fb x = f)) : qr_dn f (x + 1) c = qr_dn f x c := by
  rw [Bool.eq_iff_iff, qr_dn_iff, qr_dn_iff]
  by_cases e : c = x
  · subst e
    omega
  · omega
theorem qr_dn_new {f x : Nat} (h : qt_fb x = f) : qr_dn f (x + 1) x = true := by
  rw [qr_dn_iff]
  omega
theorem qr_dn_next {f c : Nat} (hc : c < 81) : qr_dn f 81 c = qr_dn (f + 1) 0 c := by
  rw [Bool.eq_iff_iff, qr_dn_iff, qr_dn_iff]
  omega
theorem qr_dn_5 (c : Nat) : qr_dn 5 0 c = true := by
  rw [qr_dn_iff]
  have := qt_fb_4 c
  omega
theorem qr_dn_0 (c : Nat) : qr_dn 0 0 c = false := by
  cases e : qr_dn 0 0 c with
  | false => rfl
  | true =>
    rw [qr_dn_iff] at e
    omega
def qr_I3 (N f x : Nat) (s : Nat → Int32) : Prop := ∀ c, c < 81 → s c = nI (qr_dn f x c && qt_al N c).toNat
def qr_I4 (N f x : Nat) (s : Nat → Int32) : Prop := ∀ c, c < 81 → (s c = 0 ↔ ¬ ∃ p, p < 81 ∧ qr_dn f x p = true ∧ qt_al N p = true ∧ qt_par p c = true)
theorem qr_I3_skip {N f x : Nat} {s : Nat → Int32} (hx : qt_fb x ≠ f) (h : qr_I3 N f x s) : qr_I3 N f (x + 1) s := by
  intro c hc
  rw [h c hc, qr_dn_ne (fun z => hx z.2)]
theorem qr_I4_skip {N f x : Nat} {s : Nat → Int32} (hx : qt_fb x ≠ f) (h : qr_I4 N f x s) : qr_I4 N f (x + 1) s := by
  intro c hc
  rw [h c hc]
  constructor
  · intro g ⟨p, h1, h2, h3⟩
    rw [qr_dn_ne (fun z => hx z.2)] at h2
    exact g ⟨p, h1, h2, h3⟩
  · intro g ⟨p, h1, h2, h3⟩
    rw [← qr_dn_ne (x := x) (fun z => hx z.2)] at h2
    exact g ⟨p, h1, h2, h3⟩
theorem qr_I3_put {N f x : Nat} {s : Nat → Int32} (hx : qt_fb x = f) (h : qr_I3 N f x s) : qr_I3 N f (x + 1) (upd s x (nI (qt_al N x).toNat)) := by
  intro c hc
  by_cases e : c = x
  · subst e
    rw [pk_us, qr_dn_new hx]
    rfl
  · rw [pk_un e, h c hc, qr_dn_ne (fun z => e z.1)]
theorem qr_I4_put {N f x : Nat} {s s' : Nat → Int32} (hx81 : x < 81) (hx : qt_fb x = f) (h : qr_I4 N f x s) (hs : ∀ c, c < 81 → (s' c = 0 ↔ (s c = 0 ∧ ¬ (qt_al N x = true ∧ qt_par x c = true)))) : qr_I4 N f (x + 1) s' := by
  intro c hc
  rw [hs c hc, h c hc]
  constructor
  · intro ⟨g1, g2⟩ ⟨p, h1, h2, h3⟩
    by_cases e : p = x
    · subst e
      exact g2 h3
    · rw [qr_dn_ne (fun z => e z.1)] at h2
      exact g1 ⟨p, h1, h2, h3⟩
  · intro g
    refine ⟨fun ⟨p, h1, h2, h3⟩ => ?_, fun h3 => g ⟨x, hx81, qr_dn_new hx, h3⟩⟩
    by_cases e : p = x
    · subst e
      exact g ⟨p, hx81, qr_dn_new hx, h3⟩
    · rw [← qr_dn_ne (x := x) (fun z => e z.1)] at h2
      exact g ⟨p, h1, h2, h3⟩
theorem qr_I3_next {N f : Nat} {s : Nat → Int32} (h : qr_I3 N f 81 s) : qr_I3 N (f + 1) 0 s := fun c hc => by rw [h c hc, qr_dn_next hc]
theorem qr_I4_next {N f : Nat} {s : Nat → Int32} (h : qr_I4 N f 81 s) : qr_I4 N (f + 1) 0 s := by
  intro c hc
  rw [h c hc]
  constructor
  · intro g ⟨p, h1, h2, h3⟩
    rw [← qr_dn_next h1] at h2
    exact g ⟨p, h1, h2, h3⟩
  · intro g ⟨p, h1, h2, h3⟩
    rw [qr_dn_next h1] at h2
    exact g ⟨p, h1, h2, h3⟩
theorem qr_nar (b : Bool) : vp_nar .boolean (nI b.toNat) = nI b.toNat := by cases b <;> rfl
theorem qr_bne {b : Bool} (h : b = true) : ¬ nI b.toNat = 0 := by rw [h]; decide
section
variable {f0 f1 f2 f3 f4 f5 : Int32} {a1 a2 a3 a4 a5 a6 a7 a8 : Nat → Int32}
theorem qr_95 {post : St1 → Prop} {J : Int32 → Int32 → Int32 → Int32 → Int32 → Int32 → Int32 → (Nat → Int32) → (Nat → Int32) → (Nat → Int32) → (Nat → Int32) → (Nat → Int32) → (Nat → Int32) → (Nat → Int32) → (Nat → Int32) → Prop} {f : Nat} (hf : f ≤ 4) (hwd : qw_wd a2) (h3 : qr_I3 (qr_N a1) f 0 a3) (h4 : qr_I4 (qr_N a1) f 0 a4)
    (HJ : ∀ s3 s4, qr_I3 (qr_N a1) (f + 1) 0 s3 → qr_I4 (qr_N a1) (f + 1) 0 s4 → J (nI (f + 1)) f0 f1 f2 f3 f4 f5 a1 a2 s3 s4 a5 a6 a7 a8) :
    ∃ n, wX_refresh_95 post J (nI f) n 0 f0 f1 f2 f3 f4 f5 a1 a2 a3 a4 a5 a6 a7 a8 := by
  refine pk_loop (fun n i (s : (Nat → Int32) × (Nat → Int32)) => wX_refresh_95 post J (nI f) n (nI i) f0 f1 f2 f3 f4 f5 a1 a2 s.1 s.2 a5 a6 a7 a8)
    (fun i s => qr_I3 (qr_N a1) f i s.1 ∧ qr_I4 (qr_N a1) f i s.2) 81 0 (a3, a4) (by omega) ⟨h3, h4⟩ ?_ ?_
  · intro n s h
    exact pk_le 81 81 (fun _ => nm_r (nI_1 f) (HJ s.1 s.2 (qr_I3_next h.1) (qr_I4_next h.2))) (fun z => absurd z (by omega))
  · intro n x s hx h hw
    refine pk_le 81 x (fun z => absurd z (by omega)) (fun _ => qw_freeBits hx ?_)
    have hb4 := qt_fb_4 x
    refine pk_eq (qt_fb x) f (fun e => ?_) (fun e => nm_r (nI_1 x) (hw s ⟨qr_I3_skip e h.1, qr_I4_skip e h.2⟩)) rfl rfl (by omega) (by omega)
    refine pk_eq f 0 (fun e0 => ?_) (fun e0 => ?_) rfl rfl (by omega) (by omega)
    · have hz : qt_fb x = 0 := by omega
      obtain ⟨m1, m2⟩ := qt_f_mint x hx hz
      have hal : qt_al (qr_N a1) x = !decide (a1 (qt_rw x) = 0) := by
        rw [show qt_al (qr_N a1) x = (qt_E4 (qr_N a1)).testBit x from rfl, qt_al0 hx hz]
        unfold qr_N
        rw [qw_m_tb, decide_eq_true m2]
        rfl
      have hI4 : qr_I4 (qr_N a1) f (x + 1) s.2 := qr_I4_put hx e h.2 (fun c hc => ⟨fun g => ⟨g, fun ⟨_, g2⟩ => by
        have := (qt_f_par x hx c hc g2).1
        omega⟩, fun g => g.1⟩)
      have hI3 := qr_I3_put e h.1
      refine qw_onlyRow hx (by rw [hwd x hx, m1]) m2 ⟨pk_in (qt_rw x) 16 m2, ?_⟩
      rw [nI_clamp (show qt_rw x < 2 ^ 31 by omega)]
      by_cases ez : a1 (qt_rw x) = 0
      · refine br_t ez ⟨pk_in x 81 hx, nm_e (nm_r (nI_1 x) (hw (upd s.1 (nI x).toNatClampNeg 0, s.2) ⟨?_, hI4⟩))⟩
        rw [hal, ez] at hI3
        dsimp only
        rw [nI_clamp (show x < 2 ^ 31 by omega)]
        exact hI3
      · refine br_f ez ⟨pk_in x 81 hx, nm_e (nm_r (nI_1 x) (hw (upd s.1 (nI x).toNatClampNeg 1, s.2) ⟨?_, hI4⟩))⟩
        rw [hal, decide_eq_false ez] at hI3
        dsimp only
        rw [nI_clamp (show x < 2 ^ 31 by omega)]
        exact hI3
    · refine qr_join (N := qr_N a1) hx (by omega) (fun c hc hfc => ?_) (fun s' hs' => ?_)
      · rw [h.1 c hc, (qr_dn_iff f x c).mpr (Or.inl (by omega))]
        rfl
      · dsimp only
        refine ⟨pk_in x 81 hx, nm_e (nm_r (nI_1 x) (hw (upd s.1 (nI x).toNatClampNeg (vp_nar .boolean (nI (qt_al (qr_N a1) x).toNat)), s') ⟨?_, qr_I4_put hx e h.2 hs'⟩))⟩
        dsimp only
        rw [nI_clamp (show x < 2 ^ 31 by omega), qr_nar]
        exact qr_I3_put e h.1
theorem qr_164 {post : St1 → Prop} (h3 : qr_I3 (qr_N a1) 5 0 a3) (h4 : qr_I4 (qr_N a1) 5 0 a4)
    (H : ∀ s5, (∀ i, i < qr_n a1 → s5 i = nI ((qu_L (qr_N a1) 81).getD i 0)) → post (nI (qr_n a1), f1, f2, f3, f4, f5, a1, a2, a3, a4, s5, a6, a7, a8)) :
    ∃ n, wX_refresh_164 post f1 f2 f3 f4 f5 n 0 0 a1 a2 a3 a4 a5 a6 a7 a8 := by
  refine pk_loop (fun n i (s : Int32 × (Nat → Int32)) => wX_refresh_164 post f1 f2 f3 f4 f5 n (nI i) s.1 a1 a2 a3 a4 s.2 a6 a7 a8)
    (fun i s => s.1 = nI (qu_L (qr_N a1) i).length ∧ ∀ j, j < (qu_L (qr_N a1) i).length → s.2 j = nI ((qu_L (qr_N a1) i).getD j 0)) 81 0 (0, a5) (by omega) ⟨rfl, fun j hj => absurd hj (by simp [qu_L])⟩ ?_ ?_
  · intro n s h
    refine pk_le 81 81 (fun _ => ?_) (fun z => absurd z (by omega))
    rw [h.1]
    exact H s.2 h.2
  · intro n x s hx h hw
    have e3 : a3 x = nI (qt_al (qr_N a1) x).toNat := by
      rw [h3 x hx, qr_dn_5]
      rfl
    have e4 := h4 x hx
    have e4' : a4 x = 0 ↔ ¬ ∃ p, p < 81 ∧ qt_al (qr_N a1) p = true ∧ qt_par p x = true := by
      rw [e4]
      constructor
      · intro g ⟨p, g1, g2⟩
        exact g ⟨p, g1, qr_dn_5 p, g2⟩
      · intro g ⟨p, g1, _, g2⟩
        exact g ⟨p, g1, g2⟩
    have hpr := qt_pr_iff (qr_N a1) x
    have hlen := qu_L_len (qr_N_lt a1) (show x ≤ 81 by omega)
    refine pk_le 81 x (fun z => absurd z (by omega)) (fun _ => ⟨pk_in x 81 hx, ?_⟩)
    rw [nI_clamp (show x < 2 ^ 31 by omega)]
    have no : qt_pr (qr_N a1) x = false → s.1 = nI (qu_L (qr_N a1) (x + 1)).length ∧ ∀ j, j < (qu_L (qr_N a1) (x + 1)).length → s.2 j = nI ((qu_L (qr_N a1) (x + 1)).getD j 0) := by
      intro e
      rw [qu_L_f e]
      exact h
    refine br_c (fun z => nm_r (nI_1 x) (hw s (no ?_))) (fun z => ⟨pk_in x 81 hx, br_c (fun z4 => ?_) (fun z4 => nm_r (nI_1 x) (hw s (no ?_)))⟩)
    · cases e : qt_pr (qr_N a1) x with
      | false => rfl
      | true =>
        rw [e3] at z
        exact absurd z (qr_bne (hpr.mp e).1)
    · have e : qt_pr (qr_N a1) x = true := by
        refine hpr.mpr ⟨?_, e4'.mp z4⟩
        cases ea : qt_al (qr_N a1) x with
        | true => rfl
        | false =>
          rw [e3, ea] at z
          exact absurd rfl z
      rw [h.1]
      refine pk_le 32 (qu_L (qr_N a1) x).length (fun g => absurd g (by omega)) (fun _ => ⟨pk_in (qu_L (qr_N a1) x).length 32 (by omega), nm_e (nm_r (nI_1 _) (nm_r (nI_1 x) (hw (nI ((qu_L (qr_N a1) x).length + 1), upd s.2 (nI (qu_L (qr_N a1) x).length).toNatClampNeg (nI x)) ⟨?_, fun j hj => ?_⟩)))⟩)
      · rw [qu_L_t e, List.length_append]
        rfl
      · dsimp only
        rw [nI_clamp (show (qu_L (qr_N a1) x).length < 2 ^ 31 by omega), qu_L_t e]
        rw [qu_L_t e, List.length_append] at hj
        by_cases ej : j = (qu_L (qr_N a1) x).length
        · rw [ej, pk_us]
          simp
        · have hj' : j < (qu_L (qr_N a1) x).length := by
            have : ([x] : List Nat).length = 1 := rfl
            omega
          rw [pk_un ej, h.2 j hj', List.getD_eq_getElem?_getD, List.getD_eq_getElem?_getD, List.getElem?_append_left hj']
    · cases e : qt_pr (qr_N a1) x with
      | false => rfl
      | true => exact absurd (e4'.mpr (hpr.mp e).2) z4
theorem qr_88 {post : St1 → Prop} (hwd : qw_wd a2) (h3 : ∀ c, c < 81 → a3 c = 0) (h4 : ∀ c, c < 81 → a4 c = 0)
    (H : ∀ s3 s4 s5, (∀ c, c < 81 → s3 c = nI (qt_al (qr_N a1) c).toNat) → (∀ i, i < qr_n a1 → s5 i = nI ((qu_L (qr_N a1) 81).getD i 0)) → post (nI (qr_n a1), f1, f2, f3, f4, f5, a1, a2, s3, s4, s5, a6, a7, a8)) :
    ∃ n, wX_refresh_88 post n 0 f0 f1 f2 f3 f4 f5 a1 a2 a3 a4 a5 a6 a7 a8 := by
  refine pk_loop (fun n i (s : (Nat → Int32) × (Nat → Int32)) => wX_refresh_88 post n (nI i) f0 f1 f2 f3 f4 f5 a1 a2 s.1 s.2 a5 a6 a7 a8)
    (fun i s => qr_I3 (qr_N a1) i 0 s.1 ∧ qr_I4 (qr_N a1) i 0 s.2) 5 0 (a3, a4) (by omega) ⟨fun c hc => ?_, fun c hc => ?_⟩ ?_ ?_
  · dsimp only
    rw [h3 c hc, qr_dn_0]
    rfl
  · exact ⟨fun _ ⟨p, _, g, _⟩ => by rw [qr_dn_0] at g; exact absurd g (by decide), fun _ => h4 c hc⟩
  · intro n s h
    refine pk_lt 4 5 (fun _ => qr_164 h.1 h.2 (fun s5 h5 => H s.1 s.2 s5 (fun c hc => ?_) h5)) (fun z => absurd z (by omega))
    rw [h.1 c hc, qr_dn_5]
    rfl
  · intro n i s hi h hw
    exact pk_lt 4 i (fun z => absurd z (by omega)) (fun _ => qr_95 (by omega) hwd h.1 h.2 (fun s3 s4 g3 g4 => hw (s3, s4) ⟨g3, g4⟩))
theorem qr_60 {post : St1 → Prop} (hwd : qw_wd a2)
    (H : ∀ s3 s4 s5, (∀ c, c < 81 → s3 c = nI (qt_al (qr_N a1) c).toNat) → (∀ i, i < qr_n a1 → s5 i = nI ((qu_L (qr_N a1) 81).getD i 0)) → post (nI (qr_n a1), f1, f2, f3, f4, f5, a1, a2, s3, s4, s5, a6, a7, a8)) :
    ∃ n, wX_refresh_60 post f0 f1 f2 f3 f4 f5 n 0 a1 a2 a3 a4 a5 a6 a7 a8 := by
  refine pk_loop (fun n i (s : (Nat → Int32) × (Nat → Int32)) => wX_refresh_60 post f0 f1 f2 f3 f4 f5 n (nI i) a1 a2 s.1 s.2 a5 a6 a7 a8)
    (fun i s => (∀ c, c < i → s.1 c = 0) ∧ ∀ c, c < i → s.2 c = 0) 81 0 (a3, a4) (by omega) ⟨fun c hc => absurd hc (by omega), fun c hc => absurd hc (by omega)⟩ ?_ ?_
  · intro n s h
    exact pk_le 81 81 (fun _ => qr_88 hwd h.1 h.2 H) (fun z => absurd z (by omega))
  · intro n i s hi h hw
    refine pk_le 81 i (fun z => absurd z (by omega)) (fun _ => ⟨pk_in i 81 hi, nm_e ⟨pk_in i 81 hi, nm_e (nm_r (nI_1 i) (hw (upd s.1 (nI i).toNatClampNeg 0, upd s.2 (nI i).toNatClampNeg 0) ?_))⟩⟩)
    dsimp only
    rw [nI_clamp (show i < 2 ^ 31 by omega)]
    refine ⟨fun c hc => ?_, fun c hc => ?_⟩
    · by_cases e : c = i
      · rw [e, pk_us]
      · rw [pk_un e]
        exact h.1 c (by omega)
    · by_cases e : c = i
      · rw [e, pk_us]
      · rw [pk_un e]
        exact h.2 c (by omega)
theorem qr_refresh0 {post : St1 → Prop} (hwd : qw_wd a2)
    (H : ∀ s3 s4 s5, (∀ c, c < 81 → s3 c = nI (qt_al (qr_N a1) c).toNat) → (∀ i, i < qr_n a1 → s5 i = nI ((qu_L (qr_N a1) 81).getD i 0)) → post (nI (qr_n a1), nI (qr_O a1), f2, f3, f4, 1, a1, a2, s3, s4, s5, a6, a7, a8)) :
    wpX_refresh post (f0, f1, f2, f3, f4, 0, a1, a2, a3, a4, a5, a6, a7, a8) := by
  refine br_t rfl ?_
  refine pk_loop (fun n i s => wX_refresh_20 post f0 f2 f3 f4 1 a1 a2 a3 a4 a5 a6 a7 a8 n (nI i) s) (fun i s => s = nI (qw_m (fun r => decide (a1 r = 1)) i)) 16 0 0 (by omega) rfl ?_ ?_
  · intro n s h
    refine pk_le 16 16 (fun _ => ?_) (fun z => absurd z (by omega))
    rw [h]
    exact qr_60 hwd H
  · intro n i s hi h hw
    refine pk_le 16 i (fun z => absurd z (by omega)) (fun _ => ⟨pk_in i 16 hi, ?_⟩)
    rw [nI_clamp (show i < 2 ^ 31 by omega)]
    refine br_c (fun z => nm_e (nm_r (nI_1 i) (hw _ ?_))) (fun z => nm_e (nm_r (nI_1 i) (hw _ ?_)))
    · rw [h, qb_sh (by omega), qb_or, qw_m_t (p := fun r => decide (a1 r = 1)) (decide_eq_true z)]
    · rw [h, qw_m_f (p := fun r => decide (a1 r = 1)) (decide_eq_false z)]
      exact (qb_or _ 0).trans (by rw [Nat.or_zero])
theorem qr_refresh1 {post : St1 → Prop} (H : post (f0, f1, f2, f3, f4, 1, a1, a2, a3, a4, a5, a6, a7, a8)) : wpX_refresh post (f0, f1, f2, f3, f4, 1, a1, a2, a3, a4, a5, a6, a7, a8) := br_f (by decide) H
end
end
section
/-- the state holds the covering instance -/
def qk_K (n : Nat) (w : Nat → Nat) (O : Nat) (a2 a5 : Nat → Int32) : Prop := n ≤ 13 ∧ O < 65536 ∧ ∀ i, i < n → w i < 65536 ∧ ∃ c, c < 81 ∧ a5 i = nI c ∧ a2 c = nI (w i)
theorem qk_pw {n x : Nat} (hn : n ≤ 13) (hx : x < 2 ^ n) : x < 8192 := Nat.lt_of_lt_of_le hx (Nat.pow_le_pow_right (n := 2) (by decide) hn)
theorem qk_m1 {h : Nat} (hh : h < 2 ^ 31) : (nI h &&& (nI h - 1)) = nI (h &&& (h - 1)) := by
  by_cases e : h = 0
  · subst e
    decide
  · rw [show nI h - 1 = nI (h - 1) from pk_sub (b := 1) (by omega), qb_and]
section
variable {n O : Nat} {w : Nat → Nat} {f0 f1 f2 f3 f4 f5 : Int32} {a1 a2 a3 a4 a5 a6 a7 a8 : Nat → Int32}
theorem qk_holders {post : Int32 → Prop} (K : qk_K n w O a2 a5) {r : Nat} (hr : r < 16) (H : post (nI (qv_h w r n))) : wpX_holders post (nI n, f1, f2, f3, f4, f5, a1, a2, a3, a4, a5, a6, a7, a8) (nI r) := by
  obtain ⟨hn, hO, hw⟩ := K
  refine pk_loop (fun m i s => wX_holders_4 post (nI r) (nI n) f1 f2 f3 f4 f5 a1 a2 a3 a4 a5 a6 a7 a8 m s (nI i)) (fun i s => s = nI (qv_h w r i)) n 0 0 (by omega) rfl ?_ ?_
  · intro m s h
    refine pk_le n n (fun _ => ?_) (fun z => absurd z (by omega))
    rw [h]
    exact H
  · intro m i s hi h hw'
    obtain ⟨hw1, c, hc, e5, e2⟩ := hw i hi
    refine pk_le n i (fun z => absurd z (by omega)) (fun _ => ?_)
    rw [nI_clamp (show i < 2 ^ 31 by omega), e5, nI_clamp (show c < 2 ^ 31 by omega), e2]
    refine ⟨pk_in i 32 (by omega), pk_in c 81 hc, qb_br (w i) r (fun z => nm_e (nm_r (nI_1 i) (hw' _ ?_))) (fun z => nm_r (nI_1 i) (hw' _ ?_))⟩
    · rw [h, qb_sh (by omega), qb_or, qv_h_t z]
    · rw [h, qv_h_f z]
theorem qk_lengthOf {post : Int32 → Prop} (K : qk_K n w O a2 a5) {S : Nat} (hS : S < 2 ^ n) (H : ∀ l, l < 1000 → post (nI l)) : wpX_lengthOf post (nI n, f1, f2, f3, f4, f5, a1, a2, a3, a4, a5, a6, a7, a8) (nI S) := by
  obtain ⟨hn, hO, hw⟩ := K
  have hS' := qk_pw hn hS
  refine pk_loop (fun m i s => wX_lengthOf_4 post (nI S) (nI n) f1 f2 f3 f4 f5 a1 a2 a3 a4 a5 a6 a7 a8 m s (nI i)) (fun i s => ∃ l, l ≤ 4 * i ∧ s = nI l) n 0 0 (by omega) ⟨0, by omega, rfl⟩ ?_ ?_
  · intro m s ⟨l, hl, h⟩
    refine pk_le n n (fun _ => ?_) (fun z => absurd z (by omega))
    rw [h]
    exact H l (by omega)
  · intro m i s hi ⟨l, hl, h⟩ hw'
    obtain ⟨hw1, c, hc, e5, e2⟩ := hw i hi
    refine pk_le n i (fun z => absurd z (by omega)) (fun _ => ?_)
    rw [nI_clamp (show i < 2 ^ 31 by omega), e5]
    have h4 := qt_fb_4 c
    refine qb_br S i (fun z => ⟨pk_in i 32 (by omega), qw_freeBits hc (nm_e (nm_r (nI_1 i) (hw' _ ⟨l + (4 - qt_fb c), by omega, ?_⟩)))⟩) (fun z => nm_r (nI_1 i) (hw' _ ⟨l, by omega, h⟩))
    rw [h, show (4 : Int32) - nI (qt_fb c) = nI (4 - qt_fb c) from pk_sub (a := 4) h4, nI_add]
theorem qk_uncovered {post : Int32 → Prop} (K : qk_K n w O a2 a5) {S : Nat} (hS : S < 2 ^ n) (H : post (nI (qv_u w O S n))) : wpX_uncovered post (nI n, nI O, f2, f3, f4, f5, a1, a2, a3, a4, a5, a6, a7, a8) (nI S) := by
  obtain ⟨hn, hO, hw⟩ := K
  have hS' := qk_pw hn hS
  refine pk_loop (fun m i s => wX_uncovered_7 post (nI S) (nI n) (nI O) f2 f3 f4 f5 a1 a2 a3 a4 a5 a6 a7 a8 m s (nI i)) (fun i s => s = nI (qv_u w O S i)) n 0 (nI O) (by omega) rfl ?_ ?_
  · intro m s h
    refine pk_le n n (fun _ => ?_) (fun z => absurd z (by omega))
    rw [h]
    exact H
  · intro m i s hi h hw'
    obtain ⟨hw1, c, hc, e5, e2⟩ := hw i hi
    refine pk_le n i (fun z => absurd z (by omega)) (fun _ => ?_)
    rw [nI_clamp (show i < 2 ^ 31 by omega), e5, nI_clamp (show c < 2 ^ 31 by omega), e2]
    refine qb_br S i (fun z => ⟨pk_in i 32 (by omega), pk_in c 81 hc, nm_e (nm_r (nI_1 i) (hw' _ ?_))⟩) (fun z => nm_r (nI_1 i) (hw' _ ?_))
    · rw [h, qb_df, qv_u_t z]
    · rw [h, qv_u_f z]
theorem qk_needed {post : Int32 → Prop} (K : qk_K n w O a2 a5) (H : post (nI (qv_nd n w O 16))) : wpX_neededSet post (nI n, nI O, f2, f3, f4, f5, a1, a2, a3, a4, a5, a6, a7, a8) := by
  have hn := K.1
  have hO := K.2.1
  refine pk_loop (fun m i s => wX_neededSet_4 post (nI n) (nI O) f2 f3 f4 f5 a1 a2 a3 a4 a5 a6 a7 a8 m s (nI i)) (fun i s => s = nI (qv_nd n w O i)) 16 0 0 (by omega) rfl ?_ ?_
  · intro m s h
    refine pk_le 16 16 (fun _ => ?_) (fun z => absurd z (by omega))
    rw [h]
    exact H
  · intro m i s hi h hw'
    refine pk_le 16 i (fun z => absurd z (by omega)) (fun _ => qk_holders K hi ?_)
    have hh := qk_pw hn (qv_h_lt w i n)
    have hle : qv_h w i n &&& (qv_h w i n - 1) ≤ qv_h w i n := Nat.and_le_left
    refine qb_br O i (fun z => pk_eq (qv_h w i n &&& (qv_h w i n - 1)) 0 (fun e => nm_e (nm_r (nI_1 i) (hw' _ ?_))) (fun e => nm_r (nI_1 i) (hw' _ ?_)) (qk_m1 (by omega)) rfl (by omega) (by omega)) (fun z => nm_r (nI_1 i) (hw' _ ?_))
    · rw [h, qb_or, show qv_nd n w O (i + 1) = qv_nd n w O i ||| qv_h w i n from if_pos ⟨z, e⟩]
    · rw [h, show qv_nd n w O (i + 1) = qv_nd n w O i from if_neg (fun g => e g.2)]
    · rw [h, show qv_nd n w O (i + 1) = qv_nd n w O i from if_neg (fun g => by rw [z] at g; exact absurd g.1 (by decide))]
theorem qk_bound {post : Int32 → Prop} (K : qk_K n w O a2 a5) {Lf : Nat} (hL : Lf < 65536) (H : post (nI (qv_b n w Lf 16).2)) : wpX_bound post (nI n, f1, f2, f3, f4, f5, a1, a2, a3, a4, a5, a6, a7, a8) (nI Lf) := by
  have hn := K.1
  refine pk_loop (fun m i (s : Int32 × Int32) => wX_bound_7 post (nI Lf) (nI n) f1 f2 f3 f4 f5 a1 a2 a3 a4 a5 a6 a7 a8 m s.1 s.2 (nI i)) (fun i s => s.1 = nI (qv_b n w Lf i).1 ∧ s.2 = nI (qv_b n w Lf i).2) 16 0 (0, 0) (by omega) ⟨rfl, rfl⟩ ?_ ?_
  · intro m s h
    refine pk_le 16 16 (fun _ => ?_) (fun z => absurd z (by omega))
    rw [h.2]
    exact H
  · intro m i s hi h hw'
    refine pk_le 16 i (fun z => absurd z (by omega)) (fun _ => qk_holders K hi ?_)
    have hh := qk_pw hn (qv_h_lt w i n)
    have hle : qv_h w i n &&& (qv_b n w Lf i).1 ≤ qv_h w i n := Nat.and_le_left
    have hand : nI (qv_h w i n) &&& s.1 = nI (qv_h w i n &&& (qv_b n w Lf i).1) := by rw [h.1, qb_and]
    refine qb_br Lf i (fun z => pk_eq (qv_h w i n &&& (qv_b n w Lf i).1) 0 (fun e => nm_e (nm_e (nm_r (nI_1 i) (hw' (s.1 ||| nI (qv_h w i n), s.2 + 1) ?_)))) (fun e => nm_r (nI_1 i) (hw' s ?_)) hand rfl (by omega) (by omega)) (fun z => nm_r (nI_1 i) (hw' s ?_))
    · rw [qv_b_t ⟨z, e⟩, h.1, h.2, qb_or, nI_1]
      exact ⟨rfl, rfl⟩
    · rw [qv_b_f (fun g => e g.2)]
      exact h
    · rw [qv_b_f (fun g => by rw [z] at g; exact absurd g.1 (by decide))]
      exact h
theorem qk_offer52 {post : St1 → Prop} (K : qk_K n w O a2 a5) {best t l : Nat} (hb : best < 2 ^ n) (ht : t < 2 ^ n) (hl : l < 1000)
    (H : ∀ best' l' g, l' < 1000 → (best' = best ∨ best' = t) → qc_n n best'.testBit ≤ qc_n n best.testBit → qc_n n best'.testBit ≤ qc_n n t.testBit → post (nI n, f1, nI (1000 * qc_n n best'.testBit + l'), nI best', g, f5, a1, a2, a3, a4, a5, a6, a7, a8)) :
    wX_offer_52 post (nI t) (nI (qc_n n t.testBit)) (nI n) f1 (nI (1000 * qc_n n best.testBit + l)) (nI best) f4 f5 a1 a2 a3 a4 a5 a6 a7 a8 := by
  have hn := K.1
  have c1 := qc_max n t.testBit
  have c2 := qc_max n best.testBit
  unfold wX_offer_52
  refine qk_lengthOf K ht (fun l2 hl2 => nm_r (e' := nI (1000 * qc_n n t.testBit + l2)) ?_ ?_)
  · rw [show (1000 : Int32) * nI (qc_n n t.testBit) = nI (1000 * qc_n n t.testBit) from pk_mul 1000 _, nI_add]
  · have k88 : qc_n n best.testBit ≤ qc_n n t.testBit → wX_offer_88 post (nI t) (nI (qc_n n t.testBit)) (nI (1000 * qc_n n t.testBit + l2)) (nI n) f1 (nI (1000 * qc_n n best.testBit + l)) (nI best) f4 f5 a1 a2 a3 a4 a5 a6 a7 a8 := by
      intro hle
      exact br_c (fun _ => qw_ones13 hn hb (pk_le (qc_n n best.testBit) (qc_n n t.testBit) (fun _ => H best l _ hl (Or.inl rfl) (Nat.le_refl _) hle) (fun z => absurd z (by omega)))) (fun _ => H best l _ hl (Or.inl rfl) (Nat.le_refl _) hle)
    refine pk_lt (1000 * qc_n n t.testBit + l2) (1000 * qc_n n best.testBit + l) (fun z => H t l2 _ hl2 (Or.inr rfl) (by omega) (Nat.le_refl _)) (fun z => ?_)
    refine pk_eq (1000 * qc_n n t.testBit + l2) (1000 * qc_n n best.testBit + l) (fun e => br_c (fun _ => H t l2 _ hl2 (Or.inr rfl) (by omega) (Nat.le_refl _)) (fun _ => k88 (by omega))) (fun _ => k88 (by omega))
theorem qk_offer {post : St1 → Prop} (K : qk_K n w O a2 a5) {best t l : Nat} (hb : best < 2 ^ n) (ht : t < 2 ^ n) (hl : l < 1000)
    (H : ∀ best' l' g, l' < 1000 → (best' = best ∨ best' = t) → qc_n n best'.testBit ≤ qc_n n best.testBit → qc_n n best'.testBit ≤ qc_n n t.testBit → post (nI n, f1, nI (1000 * qc_n n best'.testBit + l'), nI best', g, f5, a1, a2, a3, a4, a5, a6, a7, a8)) :
    wpX_offer post (nI n, f1, nI (1000 * qc_n n best.testBit + l), nI best, f4, f5, a1, a2, a3, a4, a5, a6, a7, a8) (nI t) := by
  have hn := K.1
  unfold wpX_offer
  dsimp only
  refine qw_ones13 hn ht (br_c (fun _ => ?_) (fun _ => qw_ones13 hn hb (br_c (fun _ => qw_ones13 hn hb (br_c (fun _ => nm_e ?_) (fun _ => ?_))) (fun _ => ?_))))
  · exact qk_offer52 K hb ht hl H
  · exact qk_offer52 K hb ht hl H
  · exact qk_offer52 K hb ht hl H
  · exact qk_offer52 K hb ht hl H
theorem qk_open58 {post : St1 → Prop} (K : qk_K n w O a2 a5) {d b Lf : Nat} (hd : d < 34) (h7 : a7 d = nI b) (hL : Lf < 65536) (hL0 : Lf ≠ 0) (h8 : a8 d = 0)
    (H : ∀ r s8, Lf.testBit r = true → (∀ k, k ≠ d → s8 k = a8 k) → s8 d = nI (qb_d (qv_h w r n) b) → post (nI n, f1, f2, f3, f4, f5, a1, a2, a3, a4, a5, a6, a7, s8)) :
    ∃ m, wX_open_58 post (nI d) (nI Lf) (nI n) f1 f2 f3 f4 f5 m 33 0 a1 a2 a3 a4 a5 a6 a7 a8 := by
  have hn := K.1
  refine pk_loop (fun m i (s : Int32 × (Nat → Int32)) => wX_open_58 post (nI d) (nI Lf) (nI n) f1 f2 f3 f4 f5 m s.1 (nI i) a1 a2 a3 a4 a5 a6 a7 s.2)
    (fun i s => (∀ k, k ≠ d → s.2 k = a8 k) ∧ ((s.1 = nI 33 ∧ ∀ r, r < i → Lf.testBit r = false) ∨ ∃ f r, f ≤ 20 ∧ s.1 = nI f ∧ Lf.testBit r = true ∧ s.2 d = nI (qb_d (qv_h w r n) b))) 16 0 (33, a8) (by omega) ⟨fun _ _ => rfl, Or.inl ⟨rfl, fun r hr => absurd hr (by omega)⟩⟩ ?_ ?_
  · intro m s ⟨h1, h2⟩
    refine pk_le 16 16 (fun _ => ?_) (fun z => absurd z (by omega))
    rcases h2 with ⟨_, g⟩ | ⟨f, r, _, _, g1, g2⟩
    · obtain ⟨r, hr⟩ := Nat.exists_testBit_of_ne_zero hL0
      have hr16 : r < 16 := qb_of_lt (n := 16) hL hr
      rw [g r hr16] at hr
      exact absurd hr (by decide)
    · exact H r s.2 g1 h1 g2
  · intro m i s hi ⟨h1, h2⟩ hw'
    refine pk_le 16 i (fun z => absurd z (by omega)) (fun _ => qk_holders K hi ?_)
    rw [nI_clamp (show d < 2 ^ 31 by omega), h7, qb_df]
    have hh := qk_pw hn (qb_d_lt (b := b) (qv_h_lt w i n))
    refine ⟨pk_in d 34 hd, nm_e (qb_br Lf i (fun z => ?_) (fun z => nm_r (nI_1 i) (hw' s ⟨h1, ?_⟩)))⟩
    · refine qw_ones (by omega) ?_
      have hc := qc_max 20 (qb_d (qv_h w i n) b).testBit
      have upd_case : (fun r_20 => vp_in (nI d) 34 ∧ ∀ a8_22 : Nat → Int32, a8_22 = upd s.2 d (nI (qb_d (qv_h w i n) b)) → ∀ x5_23 : Int32, x5_23 = nI i + 1 → wX_open_58 post (nI d) (nI Lf) (nI n) f1 f2 f3 f4 f5 m r_20 x5_23 a1 a2 a3 a4 a5 a6 a7 a8_22) (nI (qc_n 20 (qb_d (qv_h w i n) b).testBit)) := by
        refine ⟨pk_in d 34 hd, nm_e (nm_r (nI_1 i) (hw' (nI (qc_n 20 (qb_d (qv_h w i n) b).testBit), upd s.2 d (nI (qb_d (qv_h w i n) b))) ⟨fun k hk => ?_, Or.inr ⟨_, i, hc, rfl, z, ?_⟩⟩))⟩
        · dsimp only
          rw [pk_un hk]
          exact h1 k hk
        · dsimp only
          rw [pk_us]
      rcases h2 with ⟨g1, g2⟩ | ⟨f, r, g0, g1, g2, g3⟩
      · rw [g1]
        exact pk_le 33 (qc_n 20 (qb_d (qv_h w i n) b).testBit) (fun z => absurd z (by omega)) (fun _ => qw_ones (by omega) upd_case)
      · rw [g1]
        refine pk_le f (qc_n 20 (qb_d (qv_h w i n) b).testBit) (fun _ => nm_r (nI_1 i) ?_) (fun _ => qw_ones (by omega) upd_case)
        rw [← g1]
        exact hw' s ⟨h1, Or.inr ⟨f, r, g0, g1, g2, g3⟩⟩
    · rcases h2 with ⟨g1, g2⟩ | g
      · exact Or.inl ⟨g1, lt_s g2 z⟩
      · exact Or.inr g
theorem qk_open {post : St1 → Prop} (K : qk_K n w O a2 a5) {T0 d t b best l : Nat} (hd : d < 34) (h6 : a6 d = nI t) (h7 : a7 d = nI b) (ht : t < 2 ^ n) (hT : qs_sub T0 t) (hb : qs_bst n w O T0 best) (hl : l < 1000)
    (H : ∀ best' l' g s8 c, l' < 1000 → qs_out n w O T0 t b best best' c → (∀ k, k ≠ d → s8 k = a8 k) → s8 d = nI c → post (nI n, nI O, nI (1000 * qc_n n best'.testBit + l'), nI best', g, f5, a1, a2, a3, a4, a5, a6, a7, s8)) :
    wpX_open post (nI n, nI O, nI (1000 * qc_n n best.testBit + l), nI best, f4, f5, a1, a2, a3, a4, a5, a6, a7, a8) (nI d) := by
  have hn := K.1
  have hO := K.2.1
  unfold wpX_open
  dsimp only
  rw [nI_clamp (show d < 2 ^ 31 by omega), h6]
  have hu : qv_u w O t n < 65536 := qv_u_lt (k := 16) n hO
  have hs : ∀ k, k ≠ d → upd a8 d 0 k = a8 k := fun k hk => pk_un hk
  refine ⟨pk_in d 34 hd, nm_e (qk_uncovered K ht ⟨pk_in d 34 hd, nm_e (pk_eq (qv_u w O t n) 0 (fun e => ?_) (fun e => ?_))⟩)⟩
  · refine qk_offer K hb.1 ht hl (fun best' l' g hl' h1 h2 h3 => ?_)
    exact H best' l' g _ 0 hl' (qs_o_cover hb hT ht e h1 h2 h3) hs pk_us
  · have c1 := qc_max n t.testBit
    have c2 := qc_max n best.testBit
    have c3 := qv_b_max n w (qv_u w O t n) 16
    refine qw_ones13 hn ht (qk_bound K hu (qw_ones13 hn hb.1 (pk_le (qc_n n t.testBit + (qv_b n w (qv_u w O t n) 16).2) (qc_n n best.testBit) (fun z => ?_) (fun z => ?_) (nI_add _ _))))
    · refine qk_open58 K hd h7 hu e pk_us (fun r s8 hr g1 g2 => ?_)
      exact H best l _ s8 _ hl (qs_o_row hb hr) (fun k hk => (g1 k hk).trans (hs k hk)) g2
    · exact H best l _ _ 0 hl (qs_o_cut hb z) hs pk_us
end
end
section
def qs_t (a : Nat → Int32) (k : Nat) : Nat := (a k).toBitVec.toNat
theorem qs_t_n (a : Nat → Int32) (k : Nat) : a k = nI (qs_t a k) := Int32.toBitVec_inj.mp (by show _ = BitVec.ofNat 32 _; unfold qs_t; simp)
theorem qs_t_e {a : Nat → Int32} {k v : Nat} (h : a k = nI v) (hv : v < 8192) : qs_t a k = v := by
  unfold qs_t
  rw [h, pk_tn (by omega)]
theorem qs_t_c {a a' : Nat → Int32} {k k' : Nat} (h : a k = a' k') : qs_t a k = qs_t a' k' := by
  unfold qs_t
  rw [h]
section
variable {n O : Nat} {w : Nat → Nat} {f0 f1 f2 f3 f4 f5 : Int32} {a1 a2 a3 a4 a5 a6 a7 a8 : Nat → Int32}
theorem qk_loop {post : St1 → Prop} (K : qk_K n w O a2 a5) {T0 : Nat}
    (H : ∀ best x g s6 s7 s8, qs_opt n w O T0 best → post (nI n, nI O, x, nI best, g, f5, a1, a2, a3, a4, a5, s6, s7, s8)) :
    ∀ m D step best l g s6 s7 s8 x2, x2 = nI D - 1 → l < 1000 → qs_inv n w O T0 D (qs_t s6) (qs_t s7) (qs_t s8) best → qs_phi n (qs_t s6) (qs_t s7) D < m → step + qs_phi n (qs_t s6) (qs_t s7) D ≤ 20000 →
      wX_search_73 post m x2 (nI step) (nI n) (nI O) (nI (1000 * qc_n n best.testBit + l)) (nI best) g f5 a1 a2 a3 a4 a5 s6 s7 s8 := by
  have hn := K.1
  intro m
  induction m with
  | zero =>
    intro D step best l g s6 s7 s8 x2 hx hl hI hm
    omega
  | succ m ih =>
    intro D step best l g s6 s7 s8 x2 hx hl hI hm hst
    cases D with
    | zero =>
      refine pk_le 400000 step (fun z => absurd z (by omega)) (fun _ => br_t ?_ (H _ _ _ _ _ _ (qs_last hI)))
      rw [hx]
      decide
    | succ d =>
      rw [nI_pred] at hx
      subst hx
      obtain ⟨l1, l2, l3, l4, l5, l6⟩ := hI.1 d (by omega)
      have b1 := qk_pw hn l1
      have b2 := qk_pw hn l2
      have b3 := qk_pw hn l3
      have e6 := qs_t_n s6 d
      have e7 := qs_t_n s7 d
      have e8 := qs_t_n s8 d
      refine pk_le 400000 step (fun z => absurd z (by omega)) (fun _ => br_f (nI_pos (by omega)) ⟨pk_in d 34 (by omega), ?_⟩)
      rw [nI_1 d, nI_clamp (show d < 2 ^ 31 by omega), nI_clamp (show d + 1 < 2 ^ 31 by omega), e8]
      refine pk_eq (qs_t s8 d) 0 (fun e => nm_e (nm_r (nI_1 step) ?_)) (fun e => ?_)
      · have hp := qs_phi_pop n (qs_t s6) (qs_t s7) d
        exact ih d (step + 1) best l g s6 s7 s8 _ (Int32.sub_eq_add_neg _ _).symm hl (qs_pop hI e) (by omega) (by omega)
      · obtain ⟨j, hj, elow⟩ := qb_low e (by omega)
        have hjn : j < n := qb_of_lt l3 hj
        have p2 : 2 ^ j < 2 ^ n := Nat.pow_lt_pow_right (by decide) hjn
        have i34 : vp_in (nI d) 34 := pk_in d 34 (by omega)
        have i35 : vp_in (nI (d + 1)) 34 := pk_in (d + 1) 34 (by omega)
        refine ⟨i34, i34, nm_r elow ⟨i34, i34, nm_r (e' := upd s8 d (nI (qb_d (qs_t s8 d) (2 ^ j)))) (by rw [qb_df]) ⟨i34, i35, nm_r (e' := upd s6 (d + 1) (nI (qs_t s6 d ||| 2 ^ j))) (by rw [← qb_or, ← e6]) ⟨i34, i35, nm_e ⟨i34, i34, nm_r (e' := upd (upd s7 (d + 1) (s7 d)) d (nI (qs_t s7 d ||| 2 ^ j))) (by rw [pk_un (by omega), ← qb_or, ← e7]) (nm_e ?_)⟩⟩⟩⟩⟩
        have tlt : qs_t s6 d ||| 2 ^ j < 2 ^ n := Nat.or_lt_two_pow l1 p2
        have blt : qs_t s7 d ||| 2 ^ j < 2 ^ n := Nat.or_lt_two_pow l2 p2
        have clt : qb_d (qs_t s8 d) (2 ^ j) < 2 ^ n := qb_d_lt l3
        refine qk_open K (T0 := T0) (b := qs_t s7 d) (by omega) pk_us (by rw [pk_un (by omega), pk_us, e7]) tlt (fun i hi => by rw [Nat.testBit_or, l4 i hi]; rfl) hI.2.1 hl (fun best' l' g' s8' c hl' ho h1 h2 => ?_)
        have hc := qk_pw hn ho.2.2.1
        have P := qs_push (T' := qs_t (upd s6 (d + 1) (nI (qs_t s6 d ||| 2 ^ j)))) (B' := qs_t (upd (upd s7 (d + 1) (s7 d)) d (nI (qs_t s7 d ||| 2 ^ j)))) (C' := qs_t s8') hI hj ho
          (fun k hk => qs_t_c (pk_un (by omega)))
          (qs_t_e pk_us (qk_pw hn tlt))
          (fun k hk => qs_t_c (by rw [pk_un (by omega), pk_un (by omega)]))
          (qs_t_e pk_us (qk_pw hn blt))
          (qs_t_c (by rw [pk_un (by omega), pk_us]))
          (fun k hk => qs_t_c (by rw [h1 k (by omega), pk_un (by omega)]))
          (qs_t_e (by rw [h1 d (by omega), pk_us]) (qk_pw hn clt))
          (qs_t_e h2 hc)
        exact nm_r (nI_1 step) (ih (d + 2) (step + 1) best' l' g' _ _ s8' _ (nI_pred (d + 1)).symm hl' P.1 (by omega) (by omega))
theorem qk_search {post : St1 → Prop} (K : qk_K n w O a2 a5) (hc : qv_cov n w O (2 ^ n - 1)) {st : Nat} (hst : st < 2 ^ n)
    (H : ∀ best x g s6 s7 s8, qs_opt n w O (st ||| qv_nd n w O 16) best → post (nI n, nI O, x, nI best, g, 1, a1, a2, a3, a4, a5, s6, s7, s8)) :
    wpX_search post (nI n, nI O, f2, f3, f4, 1, a1, a2, a3, a4, a5, a6, a7, a8) (nI st) := by
  have hn := K.1
  have hp : 0 < 2 ^ n := Nat.two_pow_pos n
  have hall : 2 ^ n - 1 < 2 ^ n := by omega
  have hcn := qc_max n (2 ^ n - 1).testBit
  have hnd := qv_nd_lt n w O 16
  have e1000 : (1000 : Int32) * nI (qc_n n (2 ^ n - 1).testBit) = nI (1000 * qc_n n (2 ^ n - 1).testBit) := pk_mul 1000 _
  have hT0 : st ||| qv_nd n w O 16 < 2 ^ n := Nat.or_lt_two_pow hst hnd
  unfold wpX_search
  dsimp only
  refine qr_refresh1 ?_
  dsimp only
  refine nm_r (e' := nI (2 ^ n - 1)) (by rw [qb_sh (by omega)]; exact pk_sub (b := 1) (by omega)) ?_
  refine qw_ones13 hn hall (qk_lengthOf K hall (fun l hl => nm_r (e' := nI (1000 * qc_n n (2 ^ n - 1).testBit + l)) (by rw [e1000, nI_add]) (qk_needed K (nm_r (e' := upd a6 0 (nI (st ||| qv_nd n w O 16))) (by rw [qb_or]) (nm_e ?_)))))
  have hbst : qs_bst n w O (st ||| qv_nd n w O 16) (2 ^ n - 1) := ⟨hall, hc, fun i hi => by
    rw [Nat.testBit_two_pow_sub_one]
    exact decide_eq_true (qb_of_lt hT0 hi)⟩
  refine qk_open K (T0 := st ||| qv_nd n w O 16) (d := 0) (b := 0) (by omega) pk_us pk_us hT0 (fun i hi => hi) hbst hl (fun best' l' g' s8' c hl' ho h1 h2 => ?_)
  have F := qs_first (T := qs_t (upd a6 0 (nI (st ||| qv_nd n w O 16)))) (B := qs_t (upd a7 0 0)) (C := qs_t s8') hT0 ho (qs_t_e pk_us (qk_pw hn hT0)) (qs_t_e (v := 0) pk_us (by omega)) (qs_t_e h2 (qk_pw hn ho.2.2.1))
  have h14 : 2 ^ (n + 1) ≤ 2 ^ 14 := Nat.pow_le_pow_right (by decide) (by omega)
  exact ⟨20000, qk_loop K H 20000 1 0 best' l' g' (upd a6 0 (nI (st ||| qv_nd n w O 16))) (upd a7 0 0) s8' 0 (by decide) hl' F.1 (by omega) (by omega)⟩
end
end
section
/-! what the law asks, as plain facts of the covering instance -/
theorem qh_more {n : Nat} {w : Nat → Nat} {O N best bi i : Nat} (h0 : qs_opt n w O (0 ||| N) best) (hi : qs_opt n w O (2 ^ i ||| N) bi) : qc_n n best.testBit ≤ qc_n n bi.testBit := by
  refine h0.2 bi hi.1.1 hi.1.2.1 (fun j hj => hi.1.2.2 j ?_)
  rw [Nat.zero_or] at hj
  rw [Nat.testBit_or, hj]
  simp
theorem qh_one {n : Nat} {w : Nat → Nat} {O N bi i : Nat} (hin : i < n) (hi : qs_opt n w O (2 ^ i ||| N) bi) : 1 ≤ qc_n n bi.testBit := by
  refine qc_pos hin (hi.1.2.2 i ?_)
  rw [Nat.testBit_or, Nat.testBit_two_pow_self]
  rfl
theorem qh_less {n : Nat} {w : Nat → Nat} {O N best bi i : Nat} (h0 : qs_opt n w O (0 ||| N) best) (hi : qs_opt n w O (2 ^ i ||| N) bi) (hb : best.testBit i = true) : qc_n n bi.testBit ≤ qc_n n best.testBit := by
  refine hi.2 best h0.1.1 h0.1.2.1 (fun j hj => ?_)
  rw [Nat.testBit_or, Bool.or_eq_true] at hj
  rcases hj with z | z
  · rw [Nat.testBit_two_pow, decide_eq_true_iff] at z
    rw [← z]
    exact hb
  · refine h0.1.2.2 j ?_
    rw [Nat.zero_or]
    exact z
theorem qh_same {n : Nat} {w : Nat → Nat} {O T best b2 : Nat} (h0 : qs_opt n w O T best) (h2 : qs_opt n w O T b2) : qc_n n best.testBit = qc_n n b2.testBit :=
  Nat.le_antisymm (h0.2 b2 h2.1.1 h2.1.2.1 h2.1.2.2) (h2.2 best h0.1.1 h0.1.2.1 h0.1.2.2)
theorem qh_zero {n : Nat} {w : Nat → Nat} {O best : Nat} (h0 : qs_opt n w O (0 ||| qv_nd n w O 16) best) (hO : ∀ r, O.testBit r = false) : qc_n n best.testBit = 0 := by
  have hc : qv_cov n w O 0 := fun r hr => by rw [hO r] at hr; exact absurd hr (by decide)
  have h := h0.2 0 (Nat.two_pow_pos n) hc (fun i hi => by rw [Nat.zero_or] at hi; exact qv_nd_sub hc 16 i hi)
  rw [qc_none (p := (0 : Nat).testBit) (fun i _ => Nat.zero_testBit i)] at h
  omega
theorem qh_some {n : Nat} {w : Nat → Nat} {O T best r : Nat} (h0 : qs_opt n w O T best) (hr : O.testBit r = true) : ∃ i, i < n ∧ best.testBit i = true := by
  obtain ⟨i, hi, h1, _⟩ := h0.1.2.1 r hr
  exact ⟨i, hi, h1⟩
theorem qh_and {n : Nat} {w : Nat → Nat} {O best : Nat} (h0 : qs_opt n w O (0 ||| qv_nd n w O 16) best) : qv_nd n w O 16 &&& best = qv_nd n w O 16 := by
  apply Nat.eq_of_testBit_eq
  intro i
  rw [Nat.testBit_and]
  cases e : (qv_nd n w O 16).testBit i with
  | false => rfl
  | true => rw [h0.1.2.2 i (by rw [Nat.zero_or]; exact e)]; rfl
/-- the state is refreshed -/
def qh_R (a1 a2 a3 a5 : Nat → Int32) : Prop := qw_wd a2 ∧ (∀ c, c < 81 → a3 c = nI (qt_al (qr_N a1) c).toNat) ∧ ∀ i, i < qr_n a1 → a5 i = nI ((qu_L (qr_N a1) 81).getD i 0)
def qh_Q (f0 f1 f5 : Int32) (a1 a2 a3 a5 : Nat → Int32) : Prop := qw_wd a2 ∧ (f5 = 0 ∨ (f5 = 1 ∧ f0 = nI (qr_n a1) ∧ f1 = nI (qr_O a1) ∧ qh_R a1 a2 a3 a5))
theorem qh_K {a1 a2 a3 a5 : Nat → Int32} (R : qh_R a1 a2 a3 a5) : qk_K (qr_n a1) (qr_w a1) (qr_O a1) a2 a5 := by
  obtain ⟨hwd, _, h5⟩ := R
  refine ⟨qr_n_le a1, qr_O_lt a1, fun i hi => ?_⟩
  have hc := (qu_L_get (N := qr_N a1) hi).1
  exact ⟨qt_f_W _ hc, _, hc, h5 i hi, hwd _ hc⟩
theorem qh_cov (a1 : Nat → Int32) : qv_cov (qr_n a1) (qr_w a1) (qr_O a1) (2 ^ qr_n a1 - 1) := by
  intro r hr
  have hr16 : r < 16 := qb_of_lt (n := 16) (qr_O_lt a1) hr
  rw [qr_O_tb hr16, decide_eq_true_iff] at hr
  have hN : (qr_N a1).testBit r = true := by
    unfold qr_N
    rw [qw_m_tb, decide_eq_true hr16, hr]
    rfl
  obtain ⟨c, hc, hp, hw⟩ := qt_cover hr16 hN
  obtain ⟨i, hi, e⟩ := qu_L_idx hc hp
  refine ⟨i, hi, ?_, ?_⟩
  · rw [Nat.testBit_two_pow_sub_one]
    exact decide_eq_true hi
  · unfold qr_w
    rw [e]
    exact hw
section
variable {f0 f1 f2 f3 f4 f5 : Int32} {a1 a2 a3 a4 a5 a6 a7 a8 : Nat → Int32}
theorem qh_primes {post : Int32 → St1 → Prop} (Q : qh_Q f0 f1 f5 a1 a2 a3 a5) (H : ∀ s3 s4 s5, qh_R a1 a2 s3 s5 → post (nI (qr_n a1)) (nI (qr_n a1), nI (qr_O a1), f2, f3, f4, 1, a1, a2, s3, s4, s5, a6, a7, a8)) :
    wpX_primes post (f0, f1, f2, f3, f4, f5, a1, a2, a3, a4, a5, a6, a7, a8) := by
  obtain ⟨hwd, h⟩ := Q
  unfold wpX_primes
  dsimp only
  rcases h with h | ⟨h5, h0, h1, R⟩
  · subst h
    exact qr_refresh0 hwd (fun s3 s4 s5 g3 g5 => H s3 s4 s5 ⟨hwd, g3, g5⟩)
  · subst h5 h0 h1
    exact qr_refresh1 (H a3 a4 a5 R)
theorem qh_bestCover {post : Int32 → St1 → Prop} (R : qh_R a1 a2 a3 a5)
    (H : ∀ best x g s6 s7 s8, qs_opt (qr_n a1) (qr_w a1) (qr_O a1) (0 ||| qv_nd (qr_n a1) (qr_w a1) (qr_O a1) 16) best → post (nI best) (nI (qr_n a1), nI (qr_O a1), x, nI best, g, 1, a1, a2, a3, a4, a5, s6, s7, s8)) :
    wpX_bestCover post (nI (qr_n a1), nI (qr_O a1), f2, f3, f4, 1, a1, a2, a3, a4, a5, a6, a7, a8) := by
  unfold wpX_bestCover
  dsimp only
  exact qk_search (st := 0) (qh_K R) (qh_cov a1) (Nat.two_pow_pos _) (fun best x g s6 s7 s8 h => H best x g s6 s7 s8 h)
theorem qh_best {post : Int32 → St1 → Prop} (R : qh_R a1 a2 a3 a5)
    (H : ∀ best x g s6 s7 s8, qs_opt (qr_n a1) (qr_w a1) (qr_O a1) (0 ||| qv_nd (qr_n a1) (qr_w a1) (qr_O a1) 16) best → post (nI (qc_n (qr_n a1) best.testBit)) (nI (qr_n a1), nI (qr_O a1), x, nI best, g, 1, a1, a2, a3, a4, a5, s6, s7, s8)) :
    wpX_best post (nI (qr_n a1), nI (qr_O a1), f2, f3, f4, 1, a1, a2, a3, a4, a5, a6, a7, a8) := by
  unfold wpX_best
  dsimp only
  exact qk_search (st := 0) (qh_K R) (qh_cov a1) (Nat.two_pow_pos _) (fun best x g s6 s7 s8 h => qw_ones13 (qr_n_le a1) h.1.1 (H best x g s6 s7 s8 h))
theorem qh_bestWith {post : Int32 → St1 → Prop} (R : qh_R a1 a2 a3 a5) {i : Nat} (hi : i < qr_n a1)
    (H : ∀ best x g s6 s7 s8, qs_opt (qr_n a1) (qr_w a1) (qr_O a1) (2 ^ i ||| qv_nd (qr_n a1) (qr_w a1) (qr_O a1) 16) best → post (nI (qc_n (qr_n a1) best.testBit)) (nI (qr_n a1), nI (qr_O a1), x, nI best, g, 1, a1, a2, a3, a4, a5, s6, s7, s8)) :
    wpX_bestWith post (nI (qr_n a1), nI (qr_O a1), f2, f3, f4, 1, a1, a2, a3, a4, a5, a6, a7, a8) (nI i) := by
  have hn := qr_n_le a1
  unfold wpX_bestWith
  dsimp only
  refine qr_refresh1 ?_
  dsimp only
  refine br_f (nI_pos (by omega)) (pk_lt i (qr_n a1) (fun _ => ?_) (fun z => absurd z (by omega)))
  rw [qb_sh (by omega)]
  exact qk_search (st := 2 ^ i) (qh_K R) (qh_cov a1) (Nat.pow_lt_pow_right (by decide) hi) (fun best x g s6 s7 s8 h => qw_ones13 (qr_n_le a1) h.1.1 (H best x g s6 s7 s8 h))
theorem qh_covers {post : Int32 → St1 → Prop} (R : qh_R a1 a2 a3 a5) {S : Nat} (hS : S < 2 ^ qr_n a1) (hc : qv_cov (qr_n a1) (qr_w a1) (qr_O a1) S) (H : post 1 (nI (qr_n a1), nI (qr_O a1), f2, f3, f4, 1, a1, a2, a3, a4, a5, a6, a7, a8)) :
    wpX_covers post (nI (qr_n a1), nI (qr_O a1), f2, f3, f4, 1, a1, a2, a3, a4, a5, a6, a7, a8) (nI S) := by
  have hn := qr_n_le a1
  have hS' := qk_pw hn hS
  have h13 : 2 ^ qr_n a1 ≤ 2 ^ 13 := Nat.pow_le_pow_right (by decide) hn
  unfold wpX_covers
  dsimp only
  refine qr_refresh1 ?_
  dsimp only
  rw [qb_sh (by omega)]
  refine br_f (nI_pos (by omega)) (pk_lt S (2 ^ qr_n a1) (fun _ => qk_uncovered (qh_K R) hS ?_) (fun z => absurd z (by omega)))
  rw [qv_cov_0 hc]
  exact br_t rfl H
theorem qh_prime {post : Int32 → St1 → Prop} (R : qh_R a1 a2 a3 a5) {i : Nat} (hi : i < qr_n a1) (H : post (nI ((qu_L (qr_N a1) 81).getD i 0)) (nI (qr_n a1), nI (qr_O a1), f2, f3, f4, 1, a1, a2, a3, a4, a5, a6, a7, a8)) :
    wpX_prime post (nI (qr_n a1), nI (qr_O a1), f2, f3, f4, 1, a1, a2, a3, a4, a5, a6, a7, a8) (nI i) := by
  have hn := qr_n_le a1
  unfold wpX_prime
  dsimp only
  refine qr_refresh1 ?_
  dsimp only
  rw [nI_clamp (show i < 2 ^ 31 by omega), R.2.2 i hi]
  exact br_f (nI_pos (by omega)) (pk_le (qr_n a1) i (fun z => absurd z (by omega)) (fun _ => ⟨pk_in i 32 (by omega), H⟩))
theorem qh_allowed {post : Int32 → St1 → Prop} (R : qh_R a1 a2 a3 a5) {c : Nat} (hc : c < 81) (ha : qt_al (qr_N a1) c = true) (H : post 1 (nI (qr_n a1), nI (qr_O a1), f2, f3, f4, 1, a1, a2, a3, a4, a5, a6, a7, a8)) :
    wpX_allowed post (nI (qr_n a1), nI (qr_O a1), f2, f3, f4, 1, a1, a2, a3, a4, a5, a6, a7, a8) (nI c) := by
  unfold wpX_allowed
  dsimp only
  refine br_f (nI_pos (by omega)) (pk_le 81 c (fun z => absurd z (by omega)) (fun _ => br_f (by decide) (qr_refresh1 ?_)))
  dsimp only
  rw [nI_clamp (show c < 2 ^ 31 by omega), R.2.1 c hc]
  exact ⟨pk_in c 81 hc, br_f (qr_bne ha) H⟩
theorem qh_needed {post : Int32 → St1 → Prop} (R : qh_R a1 a2 a3 a5) (H : post (nI (qv_nd (qr_n a1) (qr_w a1) (qr_O a1) 16)) (nI (qr_n a1), nI (qr_O a1), f2, f3, f4, 1, a1, a2, a3, a4, a5, a6, a7, a8)) :
    wpX_needed post (nI (qr_n a1), nI (qr_O a1), f2, f3, f4, 1, a1, a2, a3, a4, a5, a6, a7, a8) := by
  unfold wpX_needed
  dsimp only
  refine qr_refresh1 ?_
  dsimp only
  exact qk_needed (qh_K R) H
theorem qh_194 {post : Int32 → St1 → Prop} (R : qh_R a1 a2 a3 a5) {best : Nat} (h0 : qs_opt (qr_n a1) (qr_w a1) (qr_O a1) (0 ||| qv_nd (qr_n a1) (qr_w a1) (qr_O a1) 16) best) (H : post 1 (nI (qr_n a1), nI (qr_O a1), f2, f3, f4, 1, a1, a2, a3, a4, a5, a6, a7, a8)) :
    wL_holds_194 post (nI best) (nI (qr_n a1)) (nI (qr_O a1)) f2 f3 f4 1 a1 a2 a3 a4 a5 a6 a7 a8 := by
  unfold wL_holds_194
  refine qh_needed R ?_
  dsimp only
  refine qh_needed R ?_
  dsimp only
  refine br_t ?_ H
  rw [qb_and, qh_and h0]
theorem qh_row {post : Int32 → Prop} {r : Nat} (hr : r < 16) (H : post (a1 r)) : wpX_row post (f0, f1, f2, f3, f4, f5, a1, a2, a3, a4, a5, a6, a7, a8) (nI r) := by
  unfold wpX_row
  dsimp only
  refine br_f (nI_pos (by omega)) (pk_le 16 r (fun z => absurd z (by omega)) (fun _ => br_f (by decide) ?_))
  rw [nI_clamp (show r < 2 ^ 31 by omega)]
  exact ⟨pk_in r 16 hr, H⟩
theorem qh_139 {post : Int32 → St1 → Prop} (R : qh_R a1 a2 a3 a5) {best : Nat} {x4 : Int32} (h0 : qs_opt (qr_n a1) (qr_w a1) (qr_O a1) (0 ||| qv_nd (qr_n a1) (qr_w a1) (qr_O a1) 16) best)
    (hl : (∃ i, i < qr_n a1 ∧ best.testBit i = true) → x4 = nI (qc_n (qr_n a1) best.testBit))
    (H : post 1 (nI (qr_n a1), nI (qr_O a1), f2, f3, f4, 1, a1, a2, a3, a4, a5, a6, a7, a8)) :
    ∃ m, wL_holds_139 post (nI best) (nI (qc_n (qr_n a1) best.testBit)) x4 (nI (qr_n a1)) (nI (qr_O a1)) f2 f3 f4 1 a1 a2 a3 a4 a5 a6 a7 a8 m 0 0 := by
  have hO := qr_O_lt a1
  refine pk_loop (fun m i s => wL_holds_139 post (nI best) (nI (qc_n (qr_n a1) best.testBit)) x4 (nI (qr_n a1)) (nI (qr_O a1)) f2 f3 f4 1 a1 a2 a3 a4 a5 a6 a7 a8 m s (nI i)) (fun i s => (s = 0 ∧ ∀ r, r < i → (qr_O a1).testBit r = false) ∨ (s = 1 ∧ ∃ r, (qr_O a1).testBit r = true)) 16 0 0 (by omega) (Or.inl ⟨rfl, fun r hr => absurd hr (by omega)⟩) ?_ ?_
  · intro m s h
    refine pk_le 16 16 (fun _ => ?_) (fun z => absurd z (by omega))
    rcases h with ⟨e, g⟩ | ⟨e, r, g⟩
    · rw [e, qh_zero h0 (fun r => by
        cases er : (qr_O a1).testBit r with
        | false => rfl
        | true => rw [← er]; exact g r (qb_of_lt (n := 16) hO er))]
      exact br_t rfl (br_t rfl (qh_194 R h0 H))
    · rw [e]
      exact br_f (by decide) (br_t (hl (qh_some h0 g)) (qh_194 R h0 H))
  · intro m i s hi h hw
    refine pk_le 16 i (fun z => absurd z (by omega)) (fun _ => ?_)
    rcases h with ⟨e, g⟩ | ⟨e, g⟩
    · rw [e]
      refine br_t rfl (qh_row hi ?_)
      refine br_c (fun z => nm_r (nI_1 i) (hw 1 (Or.inr ⟨rfl, i, ?_⟩))) (fun z => nm_r (nI_1 i) (hw 0 (Or.inl ⟨rfl, lt_s g ?_⟩)))
      · rw [qr_O_tb hi]
        exact decide_eq_true z
      · rw [qr_O_tb hi]
        exact decide_eq_false z
    · rw [e]
      exact br_f (by decide) (nm_r (nI_1 i) (hw 1 (Or.inr ⟨rfl, g⟩)))
theorem qh_63 {post : Int32 → St1 → Prop} (R : qh_R a1 a2 a3 a5) {best : Nat} (h0 : qs_opt (qr_n a1) (qr_w a1) (qr_O a1) (0 ||| qv_nd (qr_n a1) (qr_w a1) (qr_O a1) 16) best)
    (H : ∀ g2 g3 g4 s6 s7 s8, post 1 (nI (qr_n a1), nI (qr_O a1), g2, g3, g4, 1, a1, a2, a3, a4, a5, s6, s7, s8)) :
    ∃ m, wL_holds_63 post (nI (qr_n a1)) (nI best) (nI (qc_n (qr_n a1) best.testBit)) m (-1) 0 (nI (qr_n a1)) (nI (qr_O a1)) f2 f3 f4 1 a1 a2 a3 a4 a5 a6 a7 a8 := by
  have hn := qr_n_le a1
  have c0 := qc_max (qr_n a1) best.testBit
  refine pk_loop (fun m i (s : Int32 × Int32 × Int32 × Int32 × (Nat → Int32) × (Nat → Int32) × (Nat → Int32)) => wL_holds_63 post (nI (qr_n a1)) (nI best) (nI (qc_n (qr_n a1) best.testBit)) m s.1 (nI i) (nI (qr_n a1)) (nI (qr_O a1)) s.2.1 s.2.2.1 s.2.2.2.1 1 a1 a2 a3 a4 a5 s.2.2.2.2.1 s.2.2.2.2.2.1 s.2.2.2.2.2.2)
    (fun i s => (s.1 = -1 ∧ i = 0) ∨ ∃ k, k ≤ 13 ∧ s.1 = nI k ∧ qc_n (qr_n a1) best.testBit ≤ k ∧ ∀ j, j < i → best.testBit j = true → k ≤ qc_n (qr_n a1) best.testBit) (qr_n a1) 0 (-1, f2, f3, f4, a6, a7, a8) (by omega) (Or.inl ⟨rfl, rfl⟩) ?_ ?_
  · intro m s h
    refine pk_le (qr_n a1) (qr_n a1) (fun _ => qh_139 R h0 (fun ⟨i, hi, hb⟩ => ?_) (H _ _ _ _ _ _)) (fun z => absurd z (by omega))
    rcases h with ⟨_, e⟩ | ⟨k, _, e, g1, g2⟩
    · omega
    · rw [e]
      have := g2 i hi hb
      rw [show k = qc_n (qr_n a1) best.testBit by omega]
  · intro m i s hi h hw
    obtain ⟨hc, hp⟩ := qu_L_get (N := qr_N a1) hi
    refine pk_le (qr_n a1) i (fun z => absurd z (by omega)) (fun _ => qh_prime R hi ?_)
    dsimp only
    refine qh_allowed R hc ((qt_pr_iff _ _).mp hp).1 ?_
    dsimp only
    refine br_t rfl (qh_bestWith R hi (fun bi x g s6 s7 s8 hbi => ?_))
    dsimp only
    have c1 := qc_max (qr_n a1) bi.testBit
    have m1 := qh_more h0 hbi
    have m2 := qh_one hi hbi
    have m3 := qh_less h0 hbi
    refine pk_lt (qc_n (qr_n a1) bi.testBit) (qc_n (qr_n a1) best.testBit) (fun z => absurd z (by omega)) (fun _ => pk_le 1 (qc_n (qr_n a1) bi.testBit) (fun _ => ?_) (fun z => absurd z (by omega)))
    rcases h with ⟨e, e0⟩ | ⟨k, k13, e, g1, g2⟩
    · rw [e]
      refine br_t (by decide) (nm_r (nI_1 i) (hw (nI (qc_n (qr_n a1) bi.testBit), x, nI bi, g, s6, s7, s8) (Or.inr ⟨_, by omega, rfl, m1, fun j hj hb => ?_⟩)))
      have : j = i := by omega
      rw [this] at hb
      exact m3 hb
    · rw [e]
      refine br_f (nI_pos (by omega)) (pk_le k (qc_n (qr_n a1) bi.testBit) (fun z => nm_r (nI_1 i) (hw (nI k, x, nI bi, g, s6, s7, s8) (Or.inr ⟨k, k13, rfl, g1, fun j hj hb => ?_⟩))) (fun z => nm_r (nI_1 i) (hw (nI (qc_n (qr_n a1) bi.testBit), x, nI bi, g, s6, s7, s8) (Or.inr ⟨_, by omega, rfl, m1, fun j hj hb => ?_⟩))))
      · by_cases ej : j = i
        · rw [ej] at hb
          have := m3 hb
          omega
        · exact g2 j (by omega) hb
      · by_cases ej : j = i
        · rw [ej] at hb
          exact m3 hb
        · have := g2 j (by omega) hb
          omega
theorem qh_holds {post : Int32 → St1 → Prop} (Q : qh_Q f0 f1 f5 a1 a2 a3 a5)
    (H : ∀ g2 g3 g4 s3 s4 s5 s6 s7 s8, qh_R a1 a2 s3 s5 → post 1 (nI (qr_n a1), nI (qr_O a1), g2, g3, g4, 1, a1, a2, s3, s4, s5, s6, s7, s8)) :
    wpL_holds post (f0, f1, f2, f3, f4, f5, a1, a2, a3, a4, a5, a6, a7, a8) := by
  have hn := qr_n_le a1
  unfold wpL_holds
  dsimp only
  refine qh_primes Q (fun s3 s4 s5 R => ?_)
  dsimp only
  refine qh_bestCover R (fun best x g s6 s7 s8 h0 => ?_)
  dsimp only
  refine qh_best R (fun b2 x2 g2 t6 t7 t8 h2 => ?_)
  dsimp only
  refine br_f (nI_pos (by omega)) (pk_lt 13 (qr_n a1) (fun z => absurd z (by omega)) (fun _ => qh_covers R h0.1.1 h0.1.2.1 ?_))
  dsimp only
  refine br_t rfl (qw_Lones13 hn h0.1.1 ?_)
  rw [← qh_same h0 h2]
  refine br_t rfl ?_
  have hp : 0 < 2 ^ qr_n a1 := Nat.two_pow_pos _
  rw [show ((1 : Int32) <<< (nI (qr_n a1) &&& 31)) - 1 = nI (2 ^ qr_n a1 - 1) by rw [qb_sh (by omega)]; exact pk_sub (b := 1) (by omega)]
  refine qh_covers R (by omega) (qh_cov a1) ?_
  dsimp only
  exact br_t rfl (qh_63 R h0 (fun g2 g3 g4 s6 s7 s8 => H g2 g3 g4 s3 s4 s5 s6 s7 s8 R))
end
end
section
theorem ql_cell {post : Int32 → Prop} {L k : Nat} {xs : Nat → Int32} (hL : L ≤ 260) (hk : k < 2 ^ 31) (H : ∀ v, post v) : wpL_cell post L xs () (nI k) :=
  pk_le L k (fun _ => H 0) (fun z => ⟨pk_in k L z, H _⟩)
theorem ql_loop {L : Nat} {xs : Nat → Int32} (hL : L ≤ 260) {kc ks : Nat} : ∀ m k f0 f1 f2 f3 f4 f5 a1 a2 a3 a4 a5 a6 a7 a8, qh_Q f0 f1 f5 a1 a2 a3 a5 → k ≤ L + 1 → L + 2 ≤ k + 2 * m → wL_law_10 (fun r => r = 1) L xs kc ks m (nI k) f0 f1 f2 f3 f4 f5 a1 a2 a3 a4 a5 a6 a7 a8 := by
  intro m
  induction m with
  | zero =>
    intro k f0 f1 f2 f3 f4 f5 a1 a2 a3 a4 a5 a6 a7 a8 Q h1 h2
    omega
  | succ m ih =>
    intro k f0 f1 f2 f3 f4 f5 a1 a2 a3 a4 a5 a6 a7 a8 Q h1 h2
    refine pk_le L k (fun _ => rfl) (fun hk => ql_cell hL (by omega) (fun v1 => ?_))
    rw [nI_1 k]
    refine ql_cell hL (by omega) (fun v2 => nm_e ?_)
    have key : ∀ g5 s1, qh_Q f0 f1 g5 s1 a2 a3 a5 → wL_law_151 (fun r => r = 1) L xs (wL_law_10 (fun r => r = 1) L xs kc ks m) (nI k) kc ks f0 f1 f2 f3 f4 g5 s1 a2 a3 a4 a5 a6 a7 a8 := by
      intro g5 s1 Q'
      unfold wL_law_151
      refine qh_holds Q' (fun g2 g3 g4 s3 s4 s5 s6 s7 s8 R => ?_)
      dsimp only
      exact br_f (by decide) (nm_r (show nI k + 2 = nI (k + 2) from nI_add k 2) (ih (k + 2) _ _ _ _ _ _ _ _ _ _ _ _ _ _ ⟨R.1, Or.inr ⟨rfl, rfl, rfl, R⟩⟩ (by omega) (by omega)))
    have k0 : ∀ s1, qh_Q f0 f1 0 s1 a2 a3 a5 := fun s1 => ⟨Q.1, Or.inl rfl⟩
    refine br_c (fun _ => br_c (fun _ => br_c (fun _ => br_c (fun _ => ?_) (fun _ => ?_)) (fun _ => ?_)) (fun _ => ⟨by decide, by decide, ?_⟩)) (fun _ => ⟨by decide, ?_⟩)
    · exact qw_invert (fun r s => key 0 s (k0 s))
    · exact qw_load (fun r => key f5 a1 Q) (fun r s => key 0 s (k0 s))
    · exact qw_load (fun r => key f5 a1 Q) (fun r s => key 0 s (k0 s))
    · exact qw_fill (fun r => key f5 a1 Q) (fun r s => key 0 s (k0 s))
    · exact qw_set (fun r => key f5 a1 Q) (fun r s => key 0 s (k0 s))
theorem i_vc (xs : Nat → Int32) (L : Nat) (hL : L ≤ 260) : wpL_law (fun r => r = 1) L xs := by
  refine ⟨8, 393, by omega, by omega, qw_init (fun s hs => ?_)⟩
  exact ⟨L + 2, ql_loop hL (L + 2) 0 0 0 0 0 0 0 _ s _ _ _ _ _ _ ⟨hs, Or.inl rfl⟩ (by omega) (by omega)⟩
end
