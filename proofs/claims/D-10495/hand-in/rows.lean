section
/-! masks of Int32 as naturals -/
theorem sw_lb (a : Nat) {i : Nat} (hi : i < 32) : (nI a).toBitVec.getLsbD i = a.testBit i := by
  show (BitVec.ofNat 32 a).getLsbD i = _
  rw [BitVec.getLsbD_ofNat, decide_eq_true hi, Bool.true_and]
theorem sw_and (a b : Nat) : nI a &&& nI b = nI (a &&& b) := by
  apply Int32.toBitVec_inj.1
  show BitVec.ofNat 32 a &&& BitVec.ofNat 32 b = BitVec.ofNat 32 (a &&& b)
  apply BitVec.eq_of_getLsbD_eq
  intro i hi
  simp [hi]
theorem sw_xor (a b : Nat) : nI a ^^^ nI b = nI (a ^^^ b) := by
  apply Int32.toBitVec_inj.1
  show BitVec.ofNat 32 a ^^^ BitVec.ofNat 32 b = BitVec.ofNat 32 (a ^^^ b)
  apply BitVec.eq_of_getLsbD_eq
  intro i hi
  simp [hi]
theorem sw_or (a b : Nat) : nI a ||| nI b = nI (a ||| b) := by
  apply Int32.toBitVec_inj.1
  show BitVec.ofNat 32 a ||| BitVec.ofNat 32 b = BitVec.ofNat 32 (a ||| b)
  apply BitVec.eq_of_getLsbD_eq
  intro i hi
  simp [hi]
/-- a without b -/
def sw_dn (a b : Nat) : Nat := a ^^^ (a &&& b)
theorem sw_dn_t (a b i : Nat) : (sw_dn a b).testBit i = (a.testBit i && !b.testBit i) := by
  unfold sw_dn
  rw [Nat.testBit_xor, Nat.testBit_and]
  cases a.testBit i <;> cases b.testBit i <;> rfl
theorem sw_m1b : ∀ i, i < 32 → (-1 : Int32).toBitVec.getLsbD i = true := by decide +kernel
theorem sw_andn (a b : Nat) : nI a &&& (nI b ^^^ (-1)) = nI (sw_dn a b) := by
  apply Int32.toBitVec_inj.1
  rw [Int32.toBitVec_and, Int32.toBitVec_xor]
  apply BitVec.eq_of_getLsbD_eq
  intro i hi
  rw [BitVec.getLsbD_and, BitVec.getLsbD_xor, sw_lb a hi, sw_lb b hi, sw_lb _ hi, sw_m1b i hi, sw_dn_t]
  cases a.testBit i <;> cases b.testBit i <;> rfl
theorem sw_dn_lt {a b n : Nat} (h : a < 2 ^ n) : sw_dn a b < 2 ^ n := by
  apply Nat.lt_pow_two_of_testBit
  intro i hi
  rw [sw_dn_t, Nat.testBit_lt_two_pow (Nat.lt_of_lt_of_le h (Nat.pow_le_pow_right (by omega) hi))]
  rfl
theorem sw_s_l : ∀ n, n < 32 → ((nI n &&& 31).toBitVec.smod 32).toNat = n := by decide +kernel
theorem sw_bitv {k j : Nat} (hk : k < 2 ^ 31) (hj : j < 32) : (nI k >>> (nI j &&& 31)) &&& 1 = nI (k.testBit j).toNat := by
  have h2 : k / 2 ^ j ≤ k := Nat.div_le_self _ _
  rw [pk_shrN hk _ j (sw_s_l j hj), pk_andN (n := k / 2 ^ j) (by omega) 1 (by decide), Nat.toNat_testBit]
theorem sw_bit0 {k j : Nat} (hk : k < 2 ^ 31) (hj : j < 32) : ((nI k >>> (nI j &&& 31)) &&& 1) = 0 ↔ k.testBit j = false := by
  rw [sw_bitv hk hj]
  cases k.testBit j
  · exact ⟨fun _ => rfl, fun _ => rfl⟩
  · exact ⟨fun h => absurd h (by decide), fun h => absurd h (by decide)⟩
theorem sw_bit1 {k j : Nat} (hk : k < 2 ^ 31) (hj : j < 32) : ((nI k >>> (nI j &&& 31)) &&& 1) = 1 ↔ k.testBit j = true := by
  rw [sw_bitv hk hj]
  cases k.testBit j
  · exact ⟨fun h => absurd h (by decide), fun h => absurd h (by decide)⟩
  · exact ⟨fun _ => rfl, fun _ => rfl⟩
theorem sw_one : ∀ j, j < 31 → (1 : Int32) <<< (nI j &&& 31) = nI (2 ^ j) := by decide +kernel
theorem sw_neg {k j : Nat} (h : j < 31) : nI k &&& (((1 : Int32) <<< (nI j &&& 31)) ^^^ (-1)) = nI (sw_dn k (2 ^ j)) := by
  rw [sw_one j h, sw_andn]
theorem sw_low : ∀ t, t < 64 → t ≠ 0 → ∃ v, v < 6 ∧ t.testBit v = true ∧ nI t &&& (-(nI t)) = nI (2 ^ v) := by decide +kernel
theorem sw_low0 : nI 0 &&& (-(nI 0)) = nI 0 := by decide
/-- how many corners a mask holds -/
def sw_pop (c : Nat) : Nat := c % 2 + c / 2 % 2 + c / 4 % 2 + c / 8 % 2 + c / 16 % 2 + c / 32 % 2
theorem sw_pop_lt : ∀ a, a < 64 → ∀ b, b < 64 → a ||| b = b → a ≠ b → sw_pop a < sw_pop b := by decide +kernel
theorem sw_pop_6 : ∀ a, a < 64 → 6 ≤ sw_pop a → a = 63 := by decide +kernel
theorem sw_orx : ∀ a, a < 6 → ∀ b, b < 6 → a ≠ b → 2 ^ a ||| 2 ^ b = 2 ^ a ^^^ 2 ^ b := by decide +kernel
theorem sw_p6 : ∀ a, a < 6 → 2 ^ a < 64 := by decide +kernel
theorem sw_p10 : ∀ a, a < 10 → 2 ^ a < 1024 := by decide +kernel
theorem sw_byte : ∀ t, t < 128 → (nI t).toInt8.toInt32 = nI t := by decide +kernel
theorem sw_rest : ∀ m, m < 64 → ∀ a, a < 6 → ∀ b, b < 6 → (a < b ∧ m.testBit a = true ∧ m.testBit b = true) → sw_dn (sw_dn m (2 ^ a)) (2 ^ b) = m ^^^ 2 ^ a ^^^ 2 ^ b ∧ m ^^^ 2 ^ a ^^^ 2 ^ b < m := by decide +kernel
theorem sw_tlt {x n i : Nat} (h : x < 2 ^ n) (hi : n ≤ i) : x.testBit i = false := Nat.testBit_lt_two_pow (Nat.lt_of_lt_of_le h (Nat.pow_le_pow_right (by omega) hi))
theorem sw_bt (x : Bool) : x = false ∨ x = true := by cases x <;> simp
theorem sw_bf {x : Bool} (h : ¬ x = true) : x = false := by cases x <;> simp_all
end
section
/-! street sets J : Nat → Bool: their odd corners, their length -/
def sw_bd (A B : Nat → Nat) (J : Nat → Bool) : Nat → Nat
  | 0 => 0
  | n + 1 => sw_bd A B J n ^^^ cond (J n) (2 ^ A n ^^^ 2 ^ B n) 0
def sw_ln (L : Nat → Nat) (J : Nat → Bool) : Nat → Nat
  | 0 => 0
  | n + 1 => sw_ln L J n + cond (J n) (L n) 0
def sw_i (s : Nat) : Nat → Bool := fun t => decide (t = s)
def sw_jx (J K : Nat → Bool) : Nat → Bool := fun t => J t ^^ K t
theorem sw_x0 (x y e : Nat) : (x ^^^ e) ^^^ (y ^^^ e) = x ^^^ y := by
  apply Nat.eq_of_testBit_eq
  intro i
  simp only [Nat.testBit_xor]
  cases x.testBit i <;> cases y.testBit i <;> cases e.testBit i <;> rfl
theorem sw_x1 (x y e : Nat) : (x ^^^ e) ^^^ y = (x ^^^ y) ^^^ e := by
  apply Nat.eq_of_testBit_eq
  intro i
  simp only [Nat.testBit_xor]
  cases x.testBit i <;> cases y.testBit i <;> cases e.testBit i <;> rfl
theorem sw_x2 (x e : Nat) : (x ^^^ e) ^^^ e = x := by
  apply Nat.eq_of_testBit_eq
  intro i
  simp only [Nat.testBit_xor]
  cases x.testBit i <;> cases e.testBit i <;> rfl
theorem sw_bd_x (A B : Nat → Nat) (J K : Nat → Bool) (n : Nat) : sw_bd A B (sw_jx J K) n = sw_bd A B J n ^^^ sw_bd A B K n := by
  induction n with
  | zero => exact (Nat.xor_self 0).symm
  | succ n ih =>
    show sw_bd A B (sw_jx J K) n ^^^ cond (J n ^^ K n) (2 ^ A n ^^^ 2 ^ B n) 0 = (sw_bd A B J n ^^^ cond (J n) (2 ^ A n ^^^ 2 ^ B n) 0) ^^^ (sw_bd A B K n ^^^ cond (K n) (2 ^ A n ^^^ 2 ^ B n) 0)
    rw [ih]
    generalize 2 ^ A n ^^^ 2 ^ B n = e
    generalize sw_bd A B J n = x
    generalize sw_bd A B K n = y
    cases J n <;> cases K n
    · show (x ^^^ y) ^^^ 0 = (x ^^^ 0) ^^^ (y ^^^ 0)
      rw [sw_x0, Nat.xor_zero]
    · show (x ^^^ y) ^^^ e = (x ^^^ 0) ^^^ (y ^^^ e)
      rw [Nat.xor_zero, Nat.xor_assoc]
    · show (x ^^^ y) ^^^ e = (x ^^^ e) ^^^ (y ^^^ 0)
      rw [Nat.xor_zero, sw_x1]
    · show (x ^^^ y) ^^^ 0 = (x ^^^ e) ^^^ (y ^^^ e)
      rw [sw_x0, Nat.xor_zero]
theorem sw_ln_x (L : Nat → Nat) (J K : Nat → Bool) (n : Nat) : sw_ln L (sw_jx J K) n ≤ sw_ln L J n + sw_ln L K n := by
  induction n with
  | zero => exact Nat.le_refl _
  | succ n ih =>
    show sw_ln L (sw_jx J K) n + cond (J n ^^ K n) (L n) 0 ≤ (sw_ln L J n + cond (J n) (L n) 0) + (sw_ln L K n + cond (K n) (L n) 0)
    cases J n <;> cases K n <;> simp only [cond_true, cond_false, Bool.xor_self, Bool.xor_true, Bool.xor_false, Bool.not_true, Bool.not_false] <;> omega
theorem sw_bd_c {A B : Nat → Nat} {J K : Nat → Bool} {n : Nat} (h : ∀ s, s < n → J s = K s) : sw_bd A B J n = sw_bd A B K n := by
  induction n with
  | zero => rfl
  | succ n ih =>
    show sw_bd A B J n ^^^ cond (J n) _ 0 = sw_bd A B K n ^^^ cond (K n) _ 0
    rw [ih (fun s hs => h s (by omega)), h n (by omega)]
theorem sw_ln_c {L : Nat → Nat} {J K : Nat → Bool} {n : Nat} (h : ∀ s, s < n → J s = K s) : sw_ln L J n = sw_ln L K n := by
  induction n with
  | zero => rfl
  | succ n ih =>
    show sw_ln L J n + cond (J n) _ 0 = sw_ln L K n + cond (K n) _ 0
    rw [ih (fun s hs => h s (by omega)), h n (by omega)]
theorem sw_bd_0 (A B : Nat → Nat) {J : Nat → Bool} {n : Nat} (h : ∀ s, s < n → J s = false) : sw_bd A B J n = 0 := by
  induction n with
  | zero => rfl
  | succ n ih =>
    show sw_bd A B J n ^^^ cond (J n) _ 0 = 0
    rw [ih (fun s hs => h s (by omega)), h n (by omega), cond_false, Nat.xor_self]
theorem sw_ln_0 (L : Nat → Nat) {J : Nat → Bool} {n : Nat} (h : ∀ s, s < n → J s = false) : sw_ln L J n = 0 := by
  induction n with
  | zero => rfl
  | succ n ih =>
    show sw_ln L J n + cond (J n) _ 0 = 0
    rw [ih (fun s hs => h s (by omega)), h n (by omega)]
    rfl
theorem sw_i_s (s : Nat) : sw_i s s = true := decide_eq_true rfl
theorem sw_i_n {s t : Nat} (h : t ≠ s) : sw_i s t = false := decide_eq_false h
theorem sw_bd_i (A B : Nat → Nat) {s n : Nat} (h : s < n) : sw_bd A B (sw_i s) n = 2 ^ A s ^^^ 2 ^ B s := by
  induction n with
  | zero => omega
  | succ n ih =>
    show sw_bd A B (sw_i s) n ^^^ cond (sw_i s n) (2 ^ A n ^^^ 2 ^ B n) 0 = _
    by_cases e : n = s
    · rw [sw_bd_0 A B (fun t ht => sw_i_n (by omega)), e, sw_i_s, cond_true, Nat.zero_xor]
    · rw [ih (by omega), sw_i_n e, cond_false, Nat.xor_zero]
theorem sw_ln_i (L : Nat → Nat) {s n : Nat} (h : s < n) : sw_ln L (sw_i s) n = L s := by
  induction n with
  | zero => omega
  | succ n ih =>
    show sw_ln L (sw_i s) n + cond (sw_i s n) (L n) 0 = _
    by_cases e : n = s
    · rw [sw_ln_0 L (fun t ht => sw_i_n (by omega)), e, sw_i_s, cond_true, Nat.zero_add]
    · rw [ih (by omega), sw_i_n e, cond_false, Nat.add_zero]
theorem sw_ln_r (L : Nat → Nat) {J : Nat → Bool} {s n : Nat} (h : s < n) (hJ : J s = true) : sw_ln L (sw_jx J (sw_i s)) n + L s = sw_ln L J n := by
  induction n with
  | zero => omega
  | succ n ih =>
    show sw_ln L (sw_jx J (sw_i s)) n + cond (J n ^^ sw_i s n) (L n) 0 + L s = sw_ln L J n + cond (J n) (L n) 0
    by_cases e : n = s
    · have e1 : sw_ln L (sw_jx J (sw_i s)) n = sw_ln L J n := sw_ln_c (fun t ht => by
        show (J t ^^ sw_i s t) = J t
        rw [sw_i_n (by omega), Bool.xor_false])
      rw [e1, e, sw_i_s, hJ]
      show sw_ln L J s + 0 + L s = sw_ln L J s + L s
      omega
    · have e1 := ih (by omega)
      rw [sw_i_n e, Bool.xor_false]
      omega
theorem sw_ln_le {L : Nat → Nat} (hL : ∀ s, s < 10 → L s ≤ 20) (J : Nat → Bool) : ∀ n, n ≤ 10 → sw_ln L J n ≤ n * 20 := by
  intro n
  induction n with
  | zero => intro _; exact Nat.le_refl _
  | succ n ih =>
    intro hn
    have h1 := ih (by omega)
    have h2 := hL n (by omega)
    show sw_ln L J n + cond (J n) (L n) 0 ≤ _
    cases J n
    · rw [cond_false]; omega
    · rw [cond_true]; omega
theorem sw_bd_lt {A B : Nat → Nat} (hA : ∀ s, s < 10 → A s < 6) (hB : ∀ s, s < 10 → B s < 6) (J : Nat → Bool) : ∀ n, n ≤ 10 → sw_bd A B J n < 64 := by
  intro n
  induction n with
  | zero => intro _; exact (by decide : 0 < 64)
  | succ n ih =>
    intro hn
    show sw_bd A B J n ^^^ cond (J n) (2 ^ A n ^^^ 2 ^ B n) 0 < 64
    refine Nat.xor_lt_two_pow (n := 6) (ih (by omega)) ?_
    cases J n
    · exact (by decide : 0 < 2 ^ 6)
    · exact Nat.xor_lt_two_pow (sw_p6 _ (hA n (by omega))) (sw_p6 _ (hB n (by omega)))
/-- J lies inside the mask S -/
def sw_sub (J : Nat → Bool) (S : Nat) : Prop := ∀ s, s < 10 → J s = true → S.testBit s = true
/-- some set inside S makes exactly the corners of W odd, and is no longer than v -/
def sw_ok (A B L : Nat → Nat) (S W v : Nat) : Prop := ∃ J : Nat → Bool, sw_sub J S ∧ sw_bd A B J 10 = W ∧ sw_ln L J 10 ≤ v
theorem sw_ok_m {A B L : Nat → Nat} {S S' W u v : Nat} (h : sw_ok A B L S W u) (hS : ∀ s, s < 10 → S.testBit s = true → S'.testBit s = true) (hv : u ≤ v) : sw_ok A B L S' W v := by
  obtain ⟨J, h1, h2, h3⟩ := h
  exact ⟨J, fun s hs hj => hS s hs (h1 s hs hj), h2, by omega⟩
theorem sw_ok_x {A B L : Nat → Nat} {S W V u v : Nat} (h : sw_ok A B L S W u) (h' : sw_ok A B L S V v) : sw_ok A B L S (W ^^^ V) (u + v) := by
  obtain ⟨J, h1, h2, h3⟩ := h
  obtain ⟨K, k1, k2, k3⟩ := h'
  refine ⟨sw_jx J K, fun s hs hj => ?_, by rw [sw_bd_x, h2, k2], ?_⟩
  · have hj' : (J s ^^ K s) = true := hj
    cases e : J s
    · rw [e, Bool.false_xor] at hj'
      exact k1 s hs hj'
    · exact h1 s hs e
  · have := sw_ln_x L J K 10
    omega
theorem sw_ok_0 (A B L : Nat → Nat) (S v : Nat) : sw_ok A B L S 0 v :=
  ⟨fun _ => false, fun s _ h => absurd h Bool.false_ne_true, sw_bd_0 A B (fun _ _ => rfl), by rw [sw_ln_0 L (fun _ _ => rfl)]; omega⟩
theorem sw_ok_1 (A B L : Nat → Nat) {S s : Nat} (hs : s < 10) (h : S.testBit s = true) : sw_ok A B L S (2 ^ A s ^^^ 2 ^ B s) (L s) := by
  refine ⟨sw_i s, fun t ht hj => ?_, sw_bd_i A B hs, by rw [sw_ln_i L hs]; omega⟩
  have e : t = s := of_decide_eq_true hj
  rw [e]; exact h
theorem sw_ok_a (A B L : Nat → Nat) (S : Nat) : sw_ok A B L S (sw_bd A B S.testBit 10) (sw_ln L S.testBit 10) :=
  ⟨S.testBit, fun _ _ h => h, rfl, Nat.le_refl _⟩
theorem sw_ok_e {A B L : Nat → Nat} {S W v : Nat} (hS : ∀ s, s < 10 → S.testBit s = false) (h : sw_ok A B L S W v) : W = 0 := by
  obtain ⟨J, h1, h2, h3⟩ := h
  rw [← h2]
  exact sw_bd_0 A B (fun s hs => sw_bf (fun e => by
    have := h1 s hs e
    rw [hS s hs] at this
    exact absurd this (by decide)))
theorem sw_dn_2 {S s t : Nat} (h : t ≠ s) : (sw_dn S (2 ^ s)).testBit t = S.testBit t := by
  rw [sw_dn_t, Nat.testBit_two_pow_of_ne (fun e => h e.symm), Bool.not_false, Bool.and_true]
theorem sw_dn_3 (S s : Nat) : (sw_dn S (2 ^ s)).testBit s = false := by
  rw [sw_dn_t, Nat.testBit_two_pow_self, Bool.not_true, Bool.and_false]
theorem sw_dn_s {S s t : Nat} (h : (sw_dn S (2 ^ s)).testBit t = true) : S.testBit t = true := by
  rw [sw_dn_t] at h
  cases e : S.testBit t
  · rw [e, Bool.false_and] at h; exact h
  · rfl
theorem sw_ok_s {A B L : Nat → Nat} {S W v s : Nat} (hs : s < 10) (h : sw_ok A B L S W v) : sw_ok A B L (sw_dn S (2 ^ s)) W v ∨ ∃ u, u + L s ≤ v ∧ sw_ok A B L (sw_dn S (2 ^ s)) (W ^^^ (2 ^ A s ^^^ 2 ^ B s)) u := by
  obtain ⟨J, h1, h2, h3⟩ := h
  cases e : J s
  · refine Or.inl ⟨J, fun t ht hj => ?_, h2, h3⟩
    have hn : t ≠ s := fun z => by rw [z, e] at hj; exact absurd hj (by decide)
    rw [sw_dn_2 hn]
    exact h1 t ht hj
  · have hl := sw_ln_r L hs e
    refine Or.inr ⟨sw_ln L (sw_jx J (sw_i s)) 10, by omega, sw_jx J (sw_i s), fun t ht hj => ?_, ?_, Nat.le_refl _⟩
    · have hj' : (J t ^^ sw_i s t) = true := hj
      have hn : t ≠ s := fun z => by rw [z, e, sw_i_s] at hj'; exact absurd hj' (by decide)
      rw [sw_i_n hn, Bool.xor_false] at hj'
      rw [sw_dn_2 hn]
      exact h1 t ht hj'
    · rw [sw_bd_x, h2, sw_bd_i A B hs]
theorem sw_ok_t {A B L : Nat → Nat} {S W u s : Nat} (hs : s < 10) (hS : S.testBit s = true) (h : sw_ok A B L (sw_dn S (2 ^ s)) (W ^^^ (2 ^ A s ^^^ 2 ^ B s)) u) : sw_ok A B L S W (u + L s) := by
  have h1 : sw_ok A B L S (W ^^^ (2 ^ A s ^^^ 2 ^ B s)) u := sw_ok_m h (fun t _ ht => sw_dn_s ht) (Nat.le_refl _)
  have h2 := sw_ok_x h1 (sw_ok_1 A B L hs hS)
  rw [sw_x2] at h2
  exact h2
/-- v answers for the least length: FAR or more only when there is none -/
def sw_jn (A B L : Nat → Nat) (S W v : Nat) : Prop := (∀ u, sw_ok A B L S W u → v ≤ u) ∧ (v < 100000 → sw_ok A B L S W v)
theorem sw_jn_e {A B L : Nat → Nat} {S W v w : Nat} (h : sw_jn A B L S W v) (h' : sw_jn A B L S W w) (hv : v < 100000) : v = w := by
  have h1 := h'.1 v (h.2 hv)
  have h2 := h.1 w (h'.2 (by omega))
  omega
/-- with a street, without it: the lesser is the least -/
theorem sw_jn_s {A B L : Nat → Nat} {S W e w x s : Nat} (hs : s < 10) (hS : S.testBit s = true) (he : e < 100000) (h : sw_jn A B L S W e) (hw : sw_jn A B L (sw_dn S (2 ^ s)) (W ^^^ (2 ^ A s ^^^ 2 ^ B s)) w) (hx : sw_jn A B L (sw_dn S (2 ^ s)) W x) :
    (w < 100000 → e ≤ w + L s) ∧ (x < 100000 → e ≤ x) ∧ (w + L s ≤ e ∨ x ≤ e) := by
  refine ⟨fun z => h.1 _ (sw_ok_t hs hS (hw.2 z)), fun z => h.1 _ (sw_ok_m (hx.2 z) (fun t _ ht => sw_dn_s ht) (Nat.le_refl _)), ?_⟩
  rcases sw_ok_s hs (h.2 he) with g | ⟨u, hu, g⟩
  · exact Or.inr (hx.1 e g)
  · have := hw.1 u g
    exact Or.inl (by omega)
/-- one turn of the greedy choice -/
theorem sw_jn_g {A B L : Nat → Nat} {S W e x s : Nat} (hs : s < 10) (hS : S.testBit s = true) (he : e < 100000) (h : sw_jn A B L S W e) (hx : sw_jn A B L (sw_dn S (2 ^ s)) W x) :
    (x = e ↔ sw_ok A B L (sw_dn S (2 ^ s)) W e) ∧ (x ≠ e → L s ≤ e ∧ sw_jn A B L (sw_dn S (2 ^ s)) (W ^^^ (2 ^ A s ^^^ 2 ^ B s)) (e - L s)) := by
  have i1 : sw_ok A B L (sw_dn S (2 ^ s)) W e → x = e := by
    intro g
    have h1 := hx.1 e g
    have h2 := h.1 x (sw_ok_m (hx.2 (by omega)) (fun t _ ht => sw_dn_s ht) (Nat.le_refl _))
    omega
  refine ⟨⟨fun z => by rw [← z]; exact hx.2 (by omega), i1⟩, fun z => ?_⟩
  rcases sw_ok_s hs (h.2 he) with g | ⟨u, hu, g⟩
  · exact absurd (i1 g) z
  · refine ⟨by omega, fun u' g' => ?_, fun _ => sw_ok_m g (fun _ _ t => t) (by omega)⟩
    have := h.1 _ (sw_ok_t hs hS g')
    omega
end
section
/-! least ways: the picture of the table (cell a * 6 + b), streets below t entered, corners below k gone through -/
def sw_Dk (A B L : Nat → Nat) (S t k : Nat) (D : Nat → Nat) : Prop :=
  (∀ j, j < 36 → D j ≤ 100000) ∧ (∀ a, a < 6 → D (a * 6 + a) = 0)
  ∧ (∀ s, s < t → S.testBit s = true → D (A s * 6 + B s) ≤ L s ∧ D (B s * 6 + A s) ≤ L s)
  ∧ (∀ a b, a < 6 → b < 6 → D (a * 6 + b) < 100000 → sw_ok A B L S (2 ^ a ^^^ 2 ^ b) (D (a * 6 + b)))
  ∧ (∀ c a b, c < k → a < 6 → b < 6 → D (a * 6 + b) ≤ D (a * 6 + c) + D (c * 6 + b))
def sw_fw (k : Nat) (D : Nat → Nat) : Nat → Nat := fun j => min (D j) (D (j / 6 * 6 + k) + D (k * 6 + j % 6))
theorem sw_fw_ab {k : Nat} {D : Nat → Nat} {a b : Nat} (hb : b < 6) : sw_fw k D (a * 6 + b) = min (D (a * 6 + b)) (D (a * 6 + k) + D (k * 6 + b)) := by
  show min (D (a * 6 + b)) (D ((a * 6 + b) / 6 * 6 + k) + D (k * 6 + (a * 6 + b) % 6)) = _
  rw [show (a * 6 + b) / 6 * 6 + k = a * 6 + k by omega, show (a * 6 + b) % 6 = b by omega]
theorem sw_fw_row {k : Nat} {D : Nat → Nat} {b : Nat} (hb : b < 6) (h : D (k * 6 + k) = 0) : sw_fw k D (k * 6 + b) = D (k * 6 + b) := by
  rw [sw_fw_ab hb, h]
  omega
theorem sw_fw_col {k : Nat} {D : Nat → Nat} {a : Nat} (hk : k < 6) (h : D (k * 6 + k) = 0) : sw_fw k D (a * 6 + k) = D (a * 6 + k) := by
  rw [sw_fw_ab hk, h]
  omega
theorem sw_min4 {ab ac cb ak kb ck kc z : Nat} (hz : z = min ab (ak + kb)) (h1 : ab ≤ ac + cb) (h2 : ak ≤ ac + ck) (h3 : kb ≤ kc + cb) : z ≤ min ac (ak + kc) + min cb (ck + kb) := by
  omega
theorem sw_Dk_fw {A B L : Nat → Nat} {S t k : Nat} {D : Nat → Nat} (hk : k < 6) (h : sw_Dk A B L S t k D) (hA : ∀ s, s < t → A s < 6) (hB : ∀ s, s < t → B s < 6) : sw_Dk A B L S t (k + 1) (sw_fw k D) := by
  obtain ⟨h1, h2, h3, h4, h5⟩ := h
  refine ⟨fun j hj => ?_, fun a ha => ?_, fun s hs hS => ?_, fun a b ha hb hd => ?_, fun c a b hc ha hb => ?_⟩
  · have := h1 j hj
    show min (D j) _ ≤ _
    omega
  · rw [sw_fw_ab ha, h2 a ha]
    omega
  · have := h3 s hs hS
    rw [sw_fw_ab (hB s hs), sw_fw_ab (hA s hs)]
    omega
  · rw [sw_fw_ab hb] at hd ⊢
    by_cases e : D (a * 6 + b) ≤ D (a * 6 + k) + D (k * 6 + b)
    · rw [Nat.min_eq_left e] at hd ⊢
      exact h4 a b ha hb hd
    · rw [Nat.min_eq_right (by omega)] at hd ⊢
      have g := sw_ok_x (h4 a k ha hk (by omega)) (h4 k b hk hb (by omega))
      rw [show (2 ^ a ^^^ 2 ^ k) ^^^ (2 ^ k ^^^ 2 ^ b) = 2 ^ a ^^^ 2 ^ b by rw [Nat.xor_comm (2 ^ k) (2 ^ b), sw_x0]] at g
      exact g
  · by_cases e : c = k
    · subst e
      rw [sw_fw_row hb (h2 c hk), sw_fw_col hk (h2 c hk), sw_fw_ab hb]
      omega
    · have hc' : c < k := by omega
      rw [sw_fw_ab (a := a) (b := c) (by omega), sw_fw_ab (a := c) (b := b) hb]
      exact sw_min4 (sw_fw_ab hb) (h5 c a b hc' ha hb) (h5 c a k hc' ha hk) (h5 c k b hc' hk hb)
/-! lists of pairs (a, b, w): their odd corners, their weight -/
def sw_lx : List (Nat × Nat × Nat) → Nat
  | [] => 0
  | t :: l => (2 ^ t.1 ^^^ 2 ^ t.2.1) ^^^ sw_lx l
def sw_lw : List (Nat × Nat × Nat) → Nat
  | [] => 0
  | t :: l => t.2.2 + sw_lw l
def sw_lg (D : Nat → Nat) : List (Nat × Nat × Nat) → Prop
  | [] => True
  | t :: l => (t.1 < 6 ∧ t.2.1 < 6 ∧ D (t.1 * 6 + t.2.1) ≤ t.2.2 ∧ D (t.2.1 * 6 + t.1) ≤ t.2.2) ∧ sw_lg D l
theorem sw_x3 (p q y z : Nat) : (p ^^^ (q ^^^ (y ^^^ z))) = (q ^^^ (p ^^^ (y ^^^ z))) := by
  apply Nat.eq_of_testBit_eq
  intro i
  simp only [Nat.testBit_xor]
  cases p.testBit i <;> cases q.testBit i <;> cases y.testBit i <;> cases z.testBit i <;> rfl
theorem sw_x4 (p q z : Nat) : (p ^^^ (q ^^^ z)) = (q ^^^ (p ^^^ z)) := by
  apply Nat.eq_of_testBit_eq
  intro i
  simp only [Nat.testBit_xor]
  cases p.testBit i <;> cases q.testBit i <;> cases z.testBit i <;> rfl
theorem sw_find {D : Nat → Nat} {i : Nat} : ∀ l : List (Nat × Nat × Nat), sw_lg D l → (sw_lx l).testBit i = true →
    ∃ (x w : Nat) (l' : List (Nat × Nat × Nat)), x < 6 ∧ x ≠ i ∧ D (i * 6 + x) ≤ w ∧ D (x * 6 + i) ≤ w ∧ sw_lx l = (2 ^ i ^^^ 2 ^ x) ^^^ sw_lx l' ∧ sw_lw l = w + sw_lw l' ∧ l.length = l'.length + 1 ∧ sw_lg D l'
  | [], _, h => absurd h (by rw [show sw_lx [] = 0 from rfl, Nat.zero_testBit]; decide)
  | (a, b, w) :: l, hg, h => by
    obtain ⟨⟨g1, g2, g3, g4⟩, g5⟩ := hg
    dsimp only at g1 g2 g3 g4
    have hx : sw_lx ((a, b, w) :: l) = (2 ^ a ^^^ 2 ^ b) ^^^ sw_lx l := rfl
    have hw : sw_lw ((a, b, w) :: l) = w + sw_lw l := rfl
    have rec' : (sw_lx l).testBit i = true → ∃ (x w' : Nat) (l' : List (Nat × Nat × Nat)), x < 6 ∧ x ≠ i ∧ D (i * 6 + x) ≤ w' ∧ D (x * 6 + i) ≤ w' ∧ sw_lx ((a, b, w) :: l) = (2 ^ i ^^^ 2 ^ x) ^^^ sw_lx l' ∧ sw_lw ((a, b, w) :: l) = w' + sw_lw l' ∧ ((a, b, w) :: l).length = l'.length + 1 ∧ sw_lg D l' := by
      intro hi
      obtain ⟨x, w', l', q1, q2, q3, q4, q5, q6, q7, q8⟩ := sw_find l g5 hi
      refine ⟨x, w', (a, b, w) :: l', q1, q2, q3, q4, ?_, ?_, ?_, ⟨⟨g1, g2, g3, g4⟩, q8⟩⟩
      · rw [hx, q5]
        show _ = (2 ^ i ^^^ 2 ^ x) ^^^ ((2 ^ a ^^^ 2 ^ b) ^^^ sw_lx l')
        rw [sw_x4]
      · rw [hw, q6]
        show _ = w' + (w + sw_lw l')
        omega
      · rw [List.length_cons, q7, List.length_cons]
    by_cases ea : a = i
    · by_cases eb : b = i
      · apply rec'
        rw [hx, ea, eb, Nat.xor_self, Nat.zero_xor] at h
        exact h
      · exact ⟨b, w, l, g2, eb, by rw [← ea]; exact g3, by rw [← ea]; exact g4, by rw [hx, ea], hw, rfl, g5⟩
    · by_cases eb : b = i
      · exact ⟨a, w, l, g1, ea, by rw [← eb]; exact g4, by rw [← eb]; exact g3, by rw [hx, eb, Nat.xor_comm (2 ^ a)], hw, rfl, g5⟩
      · apply rec'
        rw [hx, Nat.testBit_xor, Nat.testBit_xor, Nat.testBit_two_pow_of_ne ea, Nat.testBit_two_pow_of_ne eb, Bool.false_xor, Bool.false_xor] at h
        exact h
/-- v answers for the mask m -/
def sw_jv (A B L : Nat → Nat) (S : Nat) (D : Nat → Nat) (m v : Nat) : Prop := v ≤ 200000 ∧ (v < 100000 → sw_ok A B L S m v) ∧ ∀ l, sw_lg D l → sw_lx l = m → v ≤ sw_lw l
/-- what pairUp finds -/
def sw_pu (D P : Nat → Nat) (m low e v : Nat) : Prop := v ≤ 200000 ∧ (∀ c, low < c → c < e → m.testBit c = true → v ≤ D (low * 6 + c) + P (m ^^^ 2 ^ low ^^^ 2 ^ c)) ∧ (v = 200000 ∨ ∃ c, low < c ∧ c < 6 ∧ m.testBit c = true ∧ v = D (low * 6 + c) + P (m ^^^ 2 ^ low ^^^ 2 ^ c))
theorem sw_x5 (m p q : Nat) : (p ^^^ q) ^^^ (m ^^^ p ^^^ q) = m := by
  apply Nat.eq_of_testBit_eq
  intro i
  simp only [Nat.testBit_xor]
  cases m.testBit i <;> cases p.testBit i <;> cases q.testBit i <;> rfl
theorem sw_x6 {m p q y : Nat} (h : m = (p ^^^ q) ^^^ y) : y = m ^^^ p ^^^ q := by
  rw [h]
  apply Nat.eq_of_testBit_eq
  intro i
  simp only [Nat.testBit_xor]
  cases y.testBit i <;> cases p.testBit i <;> cases q.testBit i <;> rfl
theorem sw_x7 {m p q r y : Nat} (h : m = (p ^^^ q) ^^^ ((q ^^^ r) ^^^ y)) : (p ^^^ r) ^^^ y = m := by
  rw [h]
  apply Nat.eq_of_testBit_eq
  intro i
  simp only [Nat.testBit_xor]
  cases y.testBit i <;> cases p.testBit i <;> cases q.testBit i <;> cases r.testBit i <;> rfl
theorem sw_pu_low {A B L : Nat → Nat} {S : Nat} {D P : Nat → Nat} {m low v : Nat} (hD : sw_Dk A B L S 10 6 D) (hm : m < 64) (hl : low < 6) (hb : m.testBit low = true) (hz : ∀ j, j < low → m.testBit j = false)
    (hP : ∀ c, low < c → c < 6 → m.testBit c = true → sw_jv A B L S D (m ^^^ 2 ^ low ^^^ 2 ^ c) (P (m ^^^ 2 ^ low ^^^ 2 ^ c)))
    (h : sw_pu D P m low 6 v) : ∀ n, ∀ l : List (Nat × Nat × Nat), l.length ≤ n → sw_lg D l → sw_lx l = m → v ≤ sw_lw l := by
  intro n
  induction n with
  | zero =>
    intro l hn hg hx
    have e : l = [] := List.length_eq_zero_iff.mp (by omega)
    rw [e] at hx
    have e2 : m = 0 := hx.symm
    rw [e2, Nat.zero_testBit] at hb
    exact absurd hb (by decide)
  | succ n ih =>
    intro l hn hg hx
    obtain ⟨x, w, l', q1, q2, q3, q4, q5, q6, q7, q8⟩ := sw_find (i := low) l hg (by rw [hx]; exact hb)
    have hy := sw_x6 (hx.symm.trans q5)
    cases ex : m.testBit x
    · have hxb : (sw_lx l').testBit x = true := by
        rw [hy, Nat.testBit_xor, Nat.testBit_xor, ex, Nat.testBit_two_pow_of_ne (fun z => q2 z.symm), Nat.testBit_two_pow_self]
        rfl
      obtain ⟨y, w2, l2, r1, r2, r3, r4, r5, r6, r7, r8⟩ := sw_find (i := x) l' q8 hxb
      have t1 := hD.2.2.2.2 x low y q1 hl r1
      have t2 := hD.2.2.2.2 x y low q1 r1 hl
      have fin := ih ((low, y, w + w2) :: l2) (by rw [List.length_cons]; omega) ⟨⟨hl, r1, by dsimp only; omega, by dsimp only; omega⟩, r8⟩ (by
        show (2 ^ low ^^^ 2 ^ y) ^^^ sw_lx l2 = m
        rw [r5] at q5
        exact sw_x7 (hx.symm.trans q5))
      have e3 : sw_lw ((low, y, w + w2) :: l2) = (w + w2) + sw_lw l2 := rfl
      omega
    · have hlx : low < x := by
        rcases Nat.lt_or_ge x low with z | z
        · rw [hz x z] at ex
          exact absurd ex (by decide)
        · omega
      have h1 := h.2.1 x hlx q1 ex
      have h2 := (hP x hlx q1 ex).2.2 l' q8 hy
      omega
theorem sw_pu_jv {A B L : Nat → Nat} {S : Nat} {D P : Nat → Nat} {m low v : Nat} (hD : sw_Dk A B L S 10 6 D) (hm : m < 64) (hl : low < 6) (hb : m.testBit low = true) (hz : ∀ j, j < low → m.testBit j = false)
    (hP : ∀ c, low < c → c < 6 → m.testBit c = true → sw_jv A B L S D (m ^^^ 2 ^ low ^^^ 2 ^ c) (P (m ^^^ 2 ^ low ^^^ 2 ^ c)))
    (h : sw_pu D P m low 6 v) : sw_jv A B L S D m v := by
  refine ⟨h.1, fun hv => ?_, fun l hg hx => sw_pu_low hD hm hl hb hz hP h l.length l (Nat.le_refl _) hg hx⟩
  rcases h.2.2 with e | ⟨c, c1, c2, c3, c4⟩
  · omega
  · have g := sw_ok_x (hD.2.2.2.1 low c hl c2 (by omega)) ((hP c c1 c2 c3).2.1 (by omega))
    rw [sw_x5, ← c4] at g
    exact g
/-- a set of streets as a list of pairs -/
def sw_ls (A B L : Nat → Nat) (J : Nat → Bool) : Nat → List (Nat × Nat × Nat)
  | 0 => []
  | n + 1 => cond (J n) ((A n, B n, L n) :: sw_ls A B L J n) (sw_ls A B L J n)
theorem sw_ls_x (A B L : Nat → Nat) (J : Nat → Bool) (n : Nat) : sw_lx (sw_ls A B L J n) = sw_bd A B J n ∧ sw_lw (sw_ls A B L J n) = sw_ln L J n := by
  induction n with
  | zero => exact ⟨rfl, rfl⟩
  | succ n ih =>
    show sw_lx (cond (J n) ((A n, B n, L n) :: sw_ls A B L J n) (sw_ls A B L J n)) = sw_bd A B J n ^^^ cond (J n) _ 0 ∧ sw_lw (cond (J n) ((A n, B n, L n) :: sw_ls A B L J n) (sw_ls A B L J n)) = sw_ln L J n + cond (J n) _ 0
    cases J n
    · rw [cond_false, cond_false, cond_false, ih.1, ih.2, Nat.xor_zero]
      exact ⟨rfl, rfl⟩
    · rw [cond_true, cond_true, cond_true, ← ih.1, ← ih.2, Nat.xor_comm, Nat.add_comm]
      exact ⟨rfl, rfl⟩
theorem sw_ls_g {A B L : Nat → Nat} {S k : Nat} {D : Nat → Nat} (hD : sw_Dk A B L S 10 k D) (hA : ∀ s, s < 10 → A s < 6) (hB : ∀ s, s < 10 → B s < 6) {J : Nat → Bool} (hJ : sw_sub J S) : ∀ n, n ≤ 10 → sw_lg D (sw_ls A B L J n) := by
  intro n
  induction n with
  | zero => intro _; exact trivial
  | succ n ih =>
    intro hn
    show sw_lg D (cond (J n) ((A n, B n, L n) :: sw_ls A B L J n) (sw_ls A B L J n))
    cases e : J n
    · exact ih (by omega)
    · have h3 := hD.2.2.1 n (by omega) (hJ n (by omega) e)
      exact ⟨⟨hA n (by omega), hB n (by omega), h3.1, h3.2⟩, ih (by omega)⟩
theorem sw_jv_jn {A B L : Nat → Nat} {S m v : Nat} {D : Nat → Nat} (hD : sw_Dk A B L S 10 6 D) (hA : ∀ s, s < 10 → A s < 6) (hB : ∀ s, s < 10 → B s < 6) (h : sw_jv A B L S D m v) : sw_jn A B L S m v := by
  refine ⟨fun u hu => ?_, h.2.1⟩
  obtain ⟨J, h1, h2, h3⟩ := hu
  have g := h.2.2 (sw_ls A B L J 10) (sw_ls_g hD hA hB h1 10 (Nat.le_refl _)) (by rw [(sw_ls_x A B L J 10).1]; exact h2)
  rw [(sw_ls_x A B L J 10).2] at g
  omega
theorem sw_jv_0 (A B L : Nat → Nat) (S : Nat) (D : Nat → Nat) : sw_jv A B L S D 0 0 :=
  ⟨by omega, fun _ => sw_ok_0 A B L S 0, fun _ _ _ => Nat.zero_le _⟩
end
section
/-! sets of corners that no street of J leaves; what can be got to -/
def sw_cl (A B : Nat → Nat) (J C : Nat → Bool) : Prop := ∀ s, s < 10 → J s = true → C (A s) = C (B s)
def sw_con (A B : Nat → Nat) (J : Nat → Bool) (v : Nat) : Prop := ∀ C : Nat → Bool, sw_cl A B J C → C v = true → ∀ s, s < 10 → J s = true → C (A s) = true
/-- how many corners of W lie in C, odd or even -/
def sw_pr (C : Nat → Bool) (W : Nat) : Nat → Bool
  | 0 => false
  | n + 1 => sw_pr C W n ^^ (W.testBit n && C n)
theorem sw_pr_x (C : Nat → Bool) (W V n : Nat) : sw_pr C (W ^^^ V) n = (sw_pr C W n ^^ sw_pr C V n) := by
  induction n with
  | zero => rfl
  | succ n ih =>
    show (sw_pr C (W ^^^ V) n ^^ ((W ^^^ V).testBit n && C n)) = ((sw_pr C W n ^^ (W.testBit n && C n)) ^^ (sw_pr C V n ^^ (V.testBit n && C n)))
    rw [ih, Nat.testBit_xor]
    cases sw_pr C W n <;> cases sw_pr C V n <;> cases W.testBit n <;> cases V.testBit n <;> cases C n <;> rfl
theorem sw_pr_0 (C : Nat → Bool) (n : Nat) : sw_pr C 0 n = false := by
  induction n with
  | zero => rfl
  | succ n ih =>
    show (sw_pr C 0 n ^^ (Nat.testBit 0 n && C n)) = false
    rw [ih, Nat.zero_testBit]
    rfl
theorem sw_pr_lo (C : Nat → Bool) {a n : Nat} (h : n ≤ a) : sw_pr C (2 ^ a) n = false := by
  induction n with
  | zero => rfl
  | succ n ih =>
    show (sw_pr C (2 ^ a) n ^^ ((2 ^ a).testBit n && C n)) = false
    rw [ih (by omega), Nat.testBit_two_pow_of_ne (by omega)]
    rfl
theorem sw_pr_p (C : Nat → Bool) {a n : Nat} (h : a < n) : sw_pr C (2 ^ a) n = C a := by
  induction n with
  | zero => omega
  | succ n ih =>
    show (sw_pr C (2 ^ a) n ^^ ((2 ^ a).testBit n && C n)) = C a
    by_cases e : a = n
    · rw [sw_pr_lo C (by omega), ← e, Nat.testBit_two_pow_self, Bool.false_xor, Bool.true_and]
    · rw [ih (by omega), Nat.testBit_two_pow_of_ne e, Bool.false_and, Bool.xor_false]
theorem sw_pr_bd {A B : Nat → Nat} (hA : ∀ s, s < 10 → A s < 6) (hB : ∀ s, s < 10 → B s < 6) {J C : Nat → Bool} (h : sw_cl A B J C) : ∀ n, n ≤ 10 → sw_pr C (sw_bd A B J n) 6 = false := by
  intro n
  induction n with
  | zero => intro _; exact sw_pr_0 C 6
  | succ n ih =>
    intro hn
    show sw_pr C (sw_bd A B J n ^^^ cond (J n) (2 ^ A n ^^^ 2 ^ B n) 0) 6 = false
    rw [sw_pr_x, ih (by omega)]
    cases e : J n
    · rw [cond_false, sw_pr_0]
      rfl
    · rw [cond_true, sw_pr_x, sw_pr_p C (hA n (by omega)), sw_pr_p C (hB n (by omega)), h n (by omega) e, Bool.xor_self]
      rfl
/-! how often each street is left: M -/
def sw_sp (M : Nat → Nat) : Nat → Bool := fun s => decide (0 < M s)
def sw_od (M : Nat → Nat) : Nat → Bool := fun s => decide (M s % 2 = 1)
def sw_de (M : Nat → Nat) (s : Nat) : Nat → Nat := fun t => if t = s then M t - 1 else M t
theorem sw_de_s (M : Nat → Nat) (s : Nat) : sw_de M s s = M s - 1 := if_pos rfl
theorem sw_de_n {M : Nat → Nat} {s t : Nat} (h : t ≠ s) : sw_de M s t = M t := if_neg h
theorem sw_sp_t {M : Nat → Nat} {s : Nat} (h : 0 < M s) : sw_sp M s = true := decide_eq_true h
theorem sw_sp_f {M : Nat → Nat} {s : Nat} (h : sw_sp M s = true) : 0 < M s := of_decide_eq_true h
theorem sw_de_le (M : Nat → Nat) (s t : Nat) : sw_de M s t ≤ M t := by
  by_cases e : t = s
  · rw [e, sw_de_s]; omega
  · rw [sw_de_n e]; exact Nat.le_refl _
theorem sw_od_de {M : Nat → Nat} {s : Nat} (h : 0 < M s) : ∀ t, sw_od (sw_de M s) t = sw_jx (sw_od M) (sw_i s) t := by
  intro t
  by_cases e : t = s
  · rw [e]
    show decide (sw_de M s s % 2 = 1) = (decide (M s % 2 = 1) ^^ sw_i s s)
    rw [sw_de_s, sw_i_s, Bool.xor_true]
    by_cases e2 : M s % 2 = 1
    · rw [decide_eq_true e2, decide_eq_false (by omega)]; rfl
    · rw [decide_eq_false e2, decide_eq_true (by omega)]; rfl
  · show decide (sw_de M s t % 2 = 1) = (decide (M t % 2 = 1) ^^ sw_i s t)
    rw [sw_de_n e, sw_i_n e, Bool.xor_false]
theorem sw_bd_de (A B : Nat → Nat) {M : Nat → Nat} {s : Nat} (hs : s < 10) (h : 0 < M s) : sw_bd A B (sw_od (sw_de M s)) 10 = sw_bd A B (sw_od M) 10 ^^^ (2 ^ A s ^^^ 2 ^ B s) := by
  rw [sw_bd_c (K := sw_jx (sw_od M) (sw_i s)) (fun t _ => sw_od_de h t), sw_bd_x, sw_bd_i A B hs]
/-- a street that may be gone along from v -/
def sw_gd (A B M : Nat → Nat) (v s : Nat) : Prop := 0 < M s ∧ (A s = v ∨ B s = v) ∧ sw_con A B (sw_sp (sw_de M s)) (A s + B s - v)
theorem sw_ev {A B M : Nat → Nat} (hA : ∀ s, s < 10 → A s < 6) (hB : ∀ s, s < 10 → B s < 6) {v st s : Nat} (hv : v < 6) (hst : st < 6) (hb : sw_bd A B (sw_od M) 10 = 2 ^ v ^^^ 2 ^ st) (hs : s < 10) (hM : 0 < M s) {C : Nat → Bool} (hC : sw_cl A B (sw_sp (sw_de M s)) C) :
    (C v ^^ C st) = (C (A s) ^^ C (B s)) := by
  have h1 : sw_cl A B (sw_od (sw_de M s)) C := fun t ht hj => hC t ht (sw_sp_t (by
    have : sw_de M s t % 2 = 1 := of_decide_eq_true hj
    omega))
  have h2 := sw_pr_bd hA hB h1 10 (Nat.le_refl _)
  rw [sw_bd_de A B hs hM, hb, sw_pr_x, sw_pr_x, sw_pr_x, sw_pr_p C hv, sw_pr_p C hst, sw_pr_p C (hA s hs), sw_pr_p C (hB s hs)] at h2
  revert h2
  cases C v <;> cases C st <;> cases C (A s) <;> cases C (B s) <;> decide
/-- a street at v that may not be gone along: some closed set C beyond it, with st in it, v not; and M s = 1 -/
theorem sw_bad {A B M : Nat → Nat} (hA : ∀ s, s < 10 → A s < 6) (hB : ∀ s, s < 10 → B s < 6) {v st s : Nat} (hv : v < 6) (hst : st < 6) (hb : sw_bd A B (sw_od M) 10 = 2 ^ v ^^^ 2 ^ st) (hc : sw_con A B (sw_sp M) v) (hs : s < 10) (hM : 0 < M s) (ht : A s = v ∨ B s = v) (hd : A s ≠ B s) (hg : ¬ sw_gd A B M v s) :
    M s = 1 ∧ ∃ C : Nat → Bool, sw_cl A B (sw_sp (sw_de M s)) C ∧ C (A s + B s - v) = true ∧ C v = false ∧ C st = true ∧ ∃ t, t < 10 ∧ sw_sp (sw_de M s) t = true ∧ C (A t) = false := by
  have h1 : ∃ C : Nat → Bool, sw_cl A B (sw_sp (sw_de M s)) C ∧ C (A s + B s - v) = true ∧ ∃ t, t < 10 ∧ sw_sp (sw_de M s) t = true ∧ C (A t) = false := by
    apply Classical.byContradiction
    intro hn
    apply hg
    refine ⟨hM, ht, fun C k1 k2 t k3 k4 => ?_⟩
    cases e : C (A t)
    · exact absurd ⟨C, k1, k2, t, k3, k4, e⟩ hn
    · rfl
  obtain ⟨C, k1, k2, t, k3, k4, k5⟩ := h1
  have hab : C (A s) = C v ∧ C (B s) = true ∨ C (B s) = C v ∧ C (A s) = true := by
    rcases ht with e | e
    · rw [e, show v + B s - v = B s by omega] at k2
      exact Or.inl ⟨by rw [e], k2⟩
    · rw [e, show A s + v - v = A s by omega] at k2
      exact Or.inr ⟨by rw [e], k2⟩
  have hCv : C v = false := by
    cases e : C v
    · rfl
    · have hcl : sw_cl A B (sw_sp M) C := by
        intro u hu hj
        by_cases eu : u = s
        · rw [eu]
          rcases hab with ⟨a1, a2⟩ | ⟨a1, a2⟩
          · rw [a1, a2, e]
          · rw [a1, a2, e]
        · exact k1 u hu (sw_sp_t (by rw [sw_de_n eu]; exact sw_sp_f hj))
      have := hc C hcl e t k3 (sw_sp_t (Nat.lt_of_lt_of_le (sw_sp_f k4) (sw_de_le M s t)))
      rw [k5] at this
      exact absurd this (by decide)
  have hev := sw_ev hA hB hv hst hb hs hM k1
  have hCs : C st = true := by
    rw [hCv] at hev hab
    rcases hab with ⟨a1, a2⟩ | ⟨a1, a2⟩
    · rw [a1, a2] at hev
      cases e : C st
      · rw [e] at hev; exact absurd hev (by decide)
      · rfl
    · rw [a1, a2] at hev
      cases e : C st
      · rw [e] at hev; exact absurd hev (by decide)
      · rfl
  refine ⟨?_, C, k1, k2, hCv, hCs, t, k3, k4, k5⟩
  rcases Nat.lt_or_ge (M s) 2 with z | z
  · omega
  · have := k1 s hs (sw_sp_t (by rw [sw_de_s]; omega))
    rw [hCv] at hab
    rcases hab with ⟨a1, a2⟩ | ⟨a1, a2⟩
    · rw [a1, a2] at this; exact absurd this (by decide)
    · rw [a1, a2] at this; exact absurd this (by decide)
/-- the walk goes on while anything is left -/
theorem sw_fl {A B M : Nat → Nat} (hA : ∀ s, s < 10 → A s < 6) (hB : ∀ s, s < 10 → B s < 6) (hd : ∀ s, s < 10 → 0 < M s → A s ≠ B s) {v st : Nat} (hv : v < 6) (hst : st < 6) (hb : sw_bd A B (sw_od M) 10 = 2 ^ v ^^^ 2 ^ st) (hc : sw_con A B (sw_sp M) v) (hne : ∃ s, s < 10 ∧ 0 < M s) : ∃ s, s < 10 ∧ sw_gd A B M v s := by
  apply Classical.byContradiction
  intro hno
  have hbad : ∀ s, s < 10 → ¬ sw_gd A B M v s := fun s hs hg => hno ⟨s, hs, hg⟩
  -- a street at v
  have h1 : ∃ s, s < 10 ∧ 0 < M s ∧ (A s = v ∨ B s = v) := by
    apply Classical.byContradiction
    intro hn
    obtain ⟨s0, hs0, hm0⟩ := hne
    have hcl : sw_cl A B (sw_sp M) (fun i => decide (i = v)) := by
      intro u hu hj
      have n1 : ¬ A u = v := fun e => hn ⟨u, hu, sw_sp_f hj, Or.inl e⟩
      have n2 : ¬ B u = v := fun e => hn ⟨u, hu, sw_sp_f hj, Or.inr e⟩
      show decide (A u = v) = decide (B u = v)
      rw [decide_eq_false n1, decide_eq_false n2]
    have h2 : decide (A s0 = v) = true := hc _ hcl (decide_eq_true rfl) s0 hs0 (sw_sp_t hm0)
    exact hn ⟨s0, hs0, hm0, Or.inl (of_decide_eq_true h2)⟩
  obtain ⟨s, hs, hM, ht⟩ := h1
  obtain ⟨b1, C, k1, k2, k3, k4, t0, k5, k6, k7⟩ := sw_bad hA hB hv hst hb hc hs hM ht (hd s hs hM) (hbad s hs)
  -- no second street at v
  have h2 : ∀ t, t < 10 → t ≠ s → 0 < M t → ¬ (A t = v ∨ B t = v) := by
    intro t htl hts hMt htv
    obtain ⟨c1, D, l1, l2, l3, l4, _⟩ := sw_bad hA hB hv hst hb hc htl hMt htv (hd t htl hMt) (hbad t htl)
    have Ct : C (A t) = false ∧ C (B t) = false := by
      have := k1 t htl (sw_sp_t (by rw [sw_de_n hts]; exact hMt))
      rcases htv with e | e
      · rw [e] at this ⊢
        exact ⟨k3, by rw [← this]; exact k3⟩
      · rw [e] at this ⊢
        exact ⟨by rw [this]; exact k3, k3⟩
    have Ds : D (A s) = false ∧ D (B s) = false := by
      have := l1 s hs (sw_sp_t (by rw [sw_de_n (fun e => hts e.symm)]; exact hM))
      rcases ht with e | e
      · rw [e] at this ⊢
        exact ⟨l3, by rw [← this]; exact l3⟩
      · rw [e] at this ⊢
        exact ⟨by rw [this]; exact l3, l3⟩
    have hcl : sw_cl A B (sw_sp (sw_de M s)) (fun i => C i && !D i) := by
      intro u hu hj
      show (C (A u) && !D (A u)) = (C (B u) && !D (B u))
      by_cases eu : u = s
      · have := sw_sp_f hj
        rw [eu, sw_de_s, b1] at this
        omega
      · by_cases et : u = t
        · rw [et, Ct.1, Ct.2]
          rfl
        · have hMu : 0 < M u := by
            have := sw_sp_f hj
            rw [sw_de_n eu] at this
            exact this
          rw [k1 u hu hj, l1 u hu (sw_sp_t (by rw [sw_de_n et]; exact hMu))]
    have hev := sw_ev hA hB hv hst hb hs hM hcl
    have hev' : ((C v && !D v) ^^ (C st && !D st)) = ((C (A s) && !D (A s)) ^^ (C (B s) && !D (B s))) := hev
    rw [k3, l3, k4, l4, Ds.1, Ds.2] at hev'
    rcases ht with e | e
    · rw [e, show v + B s - v = B s by omega] at k2
      rw [e, k3, k2] at hev'
      exact absurd hev' (by decide)
    · rw [e, show A s + v - v = A s by omega] at k2
      rw [e, k3, k2] at hev'
      exact absurd hev' (by decide)
  -- the only street at v
  have hcl : sw_cl A B (sw_sp M) (fun i => C i || decide (i = v)) := by
    intro u hu hj
    show (C (A u) || decide (A u = v)) = (C (B u) || decide (B u = v))
    by_cases eu : u = s
    · rw [eu]
      rcases ht with e | e
      · rw [e, show v + B s - v = B s by omega] at k2
        rw [e, k2, decide_eq_true (rfl : v = v), Bool.or_true, Bool.true_or]
      · rw [e, show A s + v - v = A s by omega] at k2
        rw [e, k2, decide_eq_true (rfl : v = v), Bool.or_true, Bool.true_or]
    · have hn := h2 u hu eu (sw_sp_f hj)
      rw [decide_eq_false (fun e => hn (Or.inl e)), decide_eq_false (fun e => hn (Or.inr e)), Bool.or_false, Bool.or_false]
      exact k1 u hu (sw_sp_t (by rw [sw_de_n eu]; exact sw_sp_f hj))
  have hts : t0 ≠ s := by
    intro e
    have := sw_sp_f k6
    rw [e, sw_de_s, b1] at this
    omega
  have hMt : 0 < M t0 := by
    have := sw_sp_f k6
    rw [sw_de_n hts] at this
    exact this
  have h3 : (C (A t0) || decide (A t0 = v)) = true := hc _ hcl (by
    show (C v || decide (v = v)) = true
    rw [decide_eq_true rfl, Bool.or_true]) t0 k5 (sw_sp_t hMt)
  rw [k7, decide_eq_false (fun e => h2 t0 k5 hts hMt (Or.inl e))] at h3
  exact absurd h3 (by decide)
/-- the first street that may be gone along -/
def sw_fs (A B M : Nat → Nat) (v s : Nat) : Prop := s < 10 ∧ sw_gd A B M v s ∧ ∀ t, t < s → ¬ sw_gd A B M v t
theorem sw_fs_u {A B M : Nat → Nat} {v s t : Nat} (h : sw_fs A B M v s) (h' : sw_fs A B M v t) : s = t := by
  rcases Nat.lt_trichotomy s t with z | z | z
  · exact absurd h.2.1 (h'.2.2 s z)
  · exact z
  · exact absurd h'.2.1 (h.2.2 t z)
theorem sw_fs_e {A B M : Nat → Nat} {v : Nat} (h : ∃ s, s < 10 ∧ sw_gd A B M v s) : ∃ s, sw_fs A B M v s := by
  obtain ⟨s, h1, h2⟩ := pk_least _ h
  exact ⟨s, h1.1, h1.2, fun t ht hg => h2 t ht ⟨by have := h1.1; omega, hg⟩⟩
/-- how much is left in all -/
def sw_tot (M : Nat → Nat) : Nat → Nat
  | 0 => 0
  | n + 1 => sw_tot M n + M n
theorem sw_tot_c {M N : Nat → Nat} {n : Nat} (h : ∀ s, s < n → M s = N s) : sw_tot M n = sw_tot N n := by
  induction n with
  | zero => rfl
  | succ n ih =>
    show sw_tot M n + M n = sw_tot N n + N n
    rw [ih (fun s hs => h s (by omega)), h n (by omega)]
theorem sw_tot_de {M : Nat → Nat} {s n : Nat} (hs : s < n) (h : 0 < M s) : sw_tot (sw_de M s) n + 1 = sw_tot M n := by
  induction n with
  | zero => omega
  | succ n ih =>
    show sw_tot (sw_de M s) n + sw_de M s n + 1 = sw_tot M n + M n
    by_cases e : n = s
    · rw [e, sw_de_s, sw_tot_c (N := M) (fun t ht => sw_de_n (by omega))]
      omega
    · have := ih (by omega)
      rw [sw_de_n e]
      omega
theorem sw_tot_0 {M : Nat → Nat} : ∀ n, sw_tot M n = 0 → ∀ s, s < n → M s = 0 := by
  intro n
  induction n with
  | zero => intro _ s hs; omega
  | succ n ih =>
    intro h s hs
    have h' : sw_tot M n + M n = 0 := h
    by_cases e : s = n
    · rw [e]; omega
    · exact ih (by omega) s (by omega)
theorem sw_tot_le {M : Nat → Nat} (hM : ∀ s, s < 10 → M s ≤ 2) : ∀ n, n ≤ 10 → sw_tot M n ≤ 2 * n := by
  intro n
  induction n with
  | zero => intro _; exact Nat.le_refl _
  | succ n ih =>
    intro hn
    have h1 := ih (by omega)
    have h2 := hM n (by omega)
    show sw_tot M n + M n ≤ _
    omega
/-- what the walk knows: n streets are left, it stands at v -/
def sw_wk (A B : Nat → Nat) (st n v : Nat) (M : Nat → Nat) : Prop := v < 6 ∧ sw_tot M 10 = n ∧ sw_bd A B (sw_od M) 10 = 2 ^ v ^^^ 2 ^ st ∧ sw_con A B (sw_sp M) v ∧ (∀ s, s < 10 → M s ≤ 2) ∧ ∀ s, s < 10 → 0 < M s → A s ≠ B s
theorem sw_wk_0 {A B : Nat → Nat} {st v : Nat} {M : Nat → Nat} (h : sw_wk A B st 0 v M) : ∀ s, s < 10 → ¬ sw_gd A B M v s := by
  intro s hs hg
  have h1 := sw_tot_0 10 h.2.1 s hs
  have h2 := hg.1
  omega
theorem sw_x8 (p q r : Nat) : (p ^^^ q) ^^^ (p ^^^ r) = r ^^^ q := by
  apply Nat.eq_of_testBit_eq
  intro i
  simp only [Nat.testBit_xor]
  cases p.testBit i <;> cases q.testBit i <;> cases r.testBit i <;> rfl
theorem sw_wk_s {A B : Nat → Nat} {st n v : Nat} {M : Nat → Nat} (hA : ∀ s, s < 10 → A s < 6) (hB : ∀ s, s < 10 → B s < 6) (hst : st < 6) (h : sw_wk A B st (n + 1) v M) : ∃ s, sw_fs A B M v s ∧ A s + B s - v < 6 ∧ v ≤ A s + B s ∧ 0 < M s ∧ sw_wk A B st n (A s + B s - v) (sw_de M s) := by
  obtain ⟨h1, h2, h3, h4, h5, h6⟩ := h
  have hne : ∃ s, s < 10 ∧ 0 < M s := by
    apply Classical.byContradiction
    intro hn
    have h0 : ∀ s, s < 10 → M s = 0 := fun s hs => by
      rcases Nat.eq_zero_or_pos (M s) with z | z
      · exact z
      · exact absurd ⟨s, hs, z⟩ hn
    rw [sw_tot_c (N := fun _ => 0) h0] at h2
    exact absurd h2.symm (by
      show ¬ n + 1 = 0
      omega)
  obtain ⟨s, hs⟩ := sw_fs_e (sw_fl hA hB h6 h1 hst h3 h4 hne)
  obtain ⟨g1, g2, g3⟩ := hs.2.1
  have hlt := hs.1
  have ha := hA s hlt
  have hb := hB s hlt
  refine ⟨s, hs, ?_, ?_, g1, ?_, ?_, ?_, g3, ?_, ?_⟩
  · rcases g2 with e | e <;> omega
  · rcases g2 with e | e <;> omega
  · rcases g2 with e | e <;> omega
  · have := sw_tot_de hlt g1
    omega
  · rw [sw_bd_de A B hlt g1, h3]
    rcases g2 with e | e
    · rw [e, show v + B s - v = B s by omega, sw_x8]
    · rw [e, show A s + v - v = A s by omega, Nat.xor_comm (2 ^ A s) (2 ^ v), sw_x8]
  · intro t ht
    exact Nat.le_trans (sw_de_le M s t) (h5 t ht)
  · intro t ht hm
    exact h6 t ht (Nat.lt_of_lt_of_le hm (sw_de_le M s t))
end
section
/-! the walks: streets and corners -/
theorem sw_bT {x : Bool} (h : ¬ x = false) : x = true := by cases x <;> simp_all
/-- the picture of the streets -/
def sw_G (A B L : Nat → Nat) (p : Nat) (a1 a2 a3 : Nat → Int32) : Prop :=
  p < 1024 ∧ (∀ s, s < 10 → a1 s = nI (A s)) ∧ (∀ s, s < 10 → a2 s = nI (B s)) ∧ (∀ s, s < 10 → a3 s = nI (L s)) ∧ (∀ s, s < 10 → A s < 6) ∧ (∀ s, s < 10 → B s < 6) ∧ (∀ s, s < 10 → L s ≤ 20) ∧ (∀ s, s < 10 → p.testBit s = true → A s ≠ B s)
section
variable {A B L : Nat → Nat} {p : Nat} {f : Int32} {a1 a2 a3 a4 a5 a6 : Nat → Int32}
theorem sw_ends {post : Int32 → Prop} {s : Nat} (hG : sw_G A B L p a1 a2 a3) (hs : s < 10) (hp : post (nI (2 ^ A s ||| 2 ^ B s))) : wpX_endsOf post (f, a1, a2, a3, a4, a5, a6) (nI s) := by
  obtain ⟨g0, g1, g2, g3, g4, g5, g6, g7⟩ := hG
  have ha := g4 s hs
  have hb := g5 s hs
  unfold wpX_endsOf
  refine ⟨pk_in s 10 hs, pk_in s 10 hs, ?_⟩
  rw [nI_clamp (show s < 2 ^ 31 by omega), g1 s hs, g2 s hs, sw_one _ (show A s < 31 by omega), sw_one _ (show B s < 31 by omega), sw_or]
  exact hp
theorem sw_has {post : Int32 → Prop} {s : Nat} (hp : p < 1024) (hs : s < 10) (h0 : p.testBit s = false → post 0) (h1 : p.testBit s = true → post 1) : wpX_has post (nI p, a1, a2, a3, a4, a5, a6) (nI s) := by
  unfold wpX_has
  exact pk_lt s 0 (fun z => absurd z (by omega)) (fun _ => pk_le 10 s (fun z => absurd z (by omega)) (fun _ => ek_if (sw_bit0 (by omega) (by omega)) h0 (fun z => h1 (sw_bT z))))
/-- the corners at which streets of S below i end -/
def sw_T (A B : Nat → Nat) (S i t : Nat) : Prop := t < 64 ∧ ∀ c, t.testBit c = true ↔ ∃ s, s < i ∧ S.testBit s = true ∧ (A s = c ∨ B s = c)
theorem sw_E_t (a b c : Nat) : (2 ^ a ||| 2 ^ b).testBit c = true ↔ a = c ∨ b = c := by
  rw [Nat.testBit_or, Nat.testBit_two_pow, Nat.testBit_two_pow, Bool.or_eq_true, decide_eq_true_iff, decide_eq_true_iff]
theorem sw_E_lt {a b : Nat} (ha : a < 6) (hb : b < 6) : 2 ^ a ||| 2 ^ b < 64 := Nat.or_lt_two_pow (n := 6) (sw_p6 a ha) (sw_p6 b hb)
theorem sw_T_0 (A B : Nat → Nat) (S i : Nat) {t : Nat} (h : sw_T A B S i t) (hb : S.testBit i = false) : sw_T A B S (i + 1) t := by
  refine ⟨h.1, fun c => ?_⟩
  rw [h.2 c]
  constructor
  · rintro ⟨s, h1, h2⟩
    exact ⟨s, by omega, h2⟩
  · rintro ⟨s, h1, h2, h3⟩
    have : s ≠ i := fun e => by rw [e, hb] at h2; exact absurd h2 (by decide)
    exact ⟨s, by omega, h2, h3⟩
theorem sw_T_1 {A B : Nat → Nat} {S i t : Nat} (hA : A i < 6) (hB : B i < 6) (h : sw_T A B S i t) (hb : S.testBit i = true) : sw_T A B S (i + 1) (t ||| (2 ^ A i ||| 2 ^ B i)) := by
  refine ⟨Nat.or_lt_two_pow (n := 6) h.1 (sw_E_lt hA hB), fun c => ?_⟩
  rw [Nat.testBit_or, Bool.or_eq_true, h.2 c, sw_E_t]
  constructor
  · rintro (⟨s, h1, h2⟩ | h1)
    · exact ⟨s, by omega, h2⟩
    · exact ⟨i, by omega, hb, h1⟩
  · rintro ⟨s, h1, h2, h3⟩
    by_cases e : s = i
    · rw [e] at h3
      exact Or.inr h3
    · exact Or.inl ⟨s, by omega, h2, h3⟩
theorem sw_touched {post : Int32 → Prop} {S : Nat} (hG : sw_G A B L p a1 a2 a3) (hS : S < 1024) (H : ∀ t, sw_T A B S 10 t → post (nI t)) : wpX_touched post (f, a1, a2, a3, a4, a5, a6) (nI S) := by
  unfold wpX_touched
  exact pk_loop (fun n i t => wX_touched_4 post (nI S) f a1 a2 a3 a4 a5 a6 n (nI t) (nI i)) (fun i t => sw_T A B S i t) 10 0 0 (by omega)
    ⟨by omega, fun c => ⟨fun h => absurd h (by rw [Nat.zero_testBit]; decide), fun ⟨s, h, _⟩ => absurd h (by omega)⟩⟩
    (fun n t h => pk_le 10 10 (fun _ => H t h) (fun z => absurd z (by omega)))
    (fun n i t hi h hw => pk_le 10 i (fun z => absurd z (by omega)) (fun _ => ek_if (sw_bit0 (by omega) (by omega))
      (fun z => nm_r (nI_1 i) (hw t (sw_T_0 A B S i h z)))
      (fun z => sw_ends hG hi (nm_r (sw_or _ _) (nm_r (nI_1 i) (hw _ (sw_T_1 (hG.2.2.2.2.1 i hi) (hG.2.2.2.2.2.1 i hi) h (sw_bT z))))))))
/-- c holds those of b, and lies in each closed set that does -/
def sw_R (A B : Nat → Nat) (S b c : Nat) : Prop := c < 64 ∧ (∀ i, b.testBit i = true → c.testBit i = true) ∧ ∀ C : Nat → Bool, sw_cl A B S.testBit C → (∀ i, b.testBit i = true → C i = true) → ∀ i, c.testBit i = true → C i = true
theorem sw_R_r (A B : Nat → Nat) (S : Nat) {c : Nat} (hc : c < 64) : sw_R A B S c c := ⟨hc, fun _ h => h, fun _ _ h => h⟩
theorem sw_R_t {A B : Nat → Nat} {S b c d : Nat} (h : sw_R A B S b c) (h' : sw_R A B S c d) : sw_R A B S b d :=
  ⟨h'.1, fun i hi => h'.2.1 i (h.2.1 i hi), fun C hC hb => h'.2.2 C hC (h.2.2 C hC hb)⟩
theorem sw_e0 : ∀ a, a < 6 → ∀ b, b < 6 → ∀ c, c < 64 → ((2 ^ a ||| 2 ^ b) &&& c = 0 ↔ c.testBit a = false ∧ c.testBit b = false) := by decide +kernel
theorem sw_e0I {a b c : Nat} (ha : a < 6) (hb : b < 6) (hc : c < 64) : nI (2 ^ a ||| 2 ^ b) &&& nI c = 0 ↔ c.testBit a = false ∧ c.testBit b = false := by
  have h1 : (2 ^ a ||| 2 ^ b) &&& c < 64 := Nat.and_lt_two_pow (n := 6) _ hc
  rw [sw_and, ← nI_0, nI_eq (by omega) (by omega)]
  exact sw_e0 a ha b hb c hc
/-- one round: streets below i looked at, from c0 -/
def sw_Q (A B : Nat → Nat) (S c0 i c : Nat) : Prop := sw_R A B S c0 c ∧ ∀ t, t < i → S.testBit t = true → (c0.testBit (A t) = true ∨ c0.testBit (B t) = true) → c.testBit (A t) = true ∧ c.testBit (B t) = true
theorem sw_Q_0 {A B : Nat → Nat} {S c0 i c : Nat} (h : sw_Q A B S c0 i c) (hb : S.testBit i = false ∨ (c.testBit (A i) = false ∧ c.testBit (B i) = false)) : sw_Q A B S c0 (i + 1) c := by
  refine ⟨h.1, fun t ht hS ho => ?_⟩
  by_cases e : t = i
  · rw [e] at hS ho
    rcases hb with z | ⟨z1, z2⟩
    · rw [z] at hS; exact absurd hS (by decide)
    · rcases ho with o | o
      · have := h.1.2.1 _ o
        rw [z1] at this; exact absurd this (by decide)
      · have := h.1.2.1 _ o
        rw [z2] at this; exact absurd this (by decide)
  · exact h.2 t (by omega) hS ho
theorem sw_Q_1 {A B : Nat → Nat} {S c0 i c : Nat} (hi : i < 10) (hA : A i < 6) (hB : B i < 6) (h : sw_Q A B S c0 i c) (hb : S.testBit i = true) (hn : ¬ (c.testBit (A i) = false ∧ c.testBit (B i) = false)) : sw_Q A B S c0 (i + 1) (c ||| (2 ^ A i ||| 2 ^ B i)) := by
  refine ⟨⟨Nat.or_lt_two_pow (n := 6) h.1.1 (sw_E_lt hA hB), fun j hj => ?_, fun C hC h0 j hj => ?_⟩, fun t ht hS ho => ?_⟩
  · rw [Nat.testBit_or, h.1.2.1 j hj]
    rfl
  · rw [Nat.testBit_or, Bool.or_eq_true, sw_E_t] at hj
    have hk := h.1.2.2 C hC h0
    have he := hC i hi hb
    have hT : C (A i) = true := by
      cases e : c.testBit (A i)
      · cases e2 : c.testBit (B i)
        · exact absurd ⟨e, e2⟩ hn
        · rw [he]; exact hk _ e2
      · exact hk _ e
    rcases hj with z | z | z
    · exact hk j z
    · rw [← z]; exact hT
    · rw [← z, ← he]; exact hT
  · by_cases e : t = i
    · rw [e]
      exact ⟨by rw [Nat.testBit_or, (sw_E_t _ _ _).mpr (Or.inl rfl), Bool.or_true], by rw [Nat.testBit_or, (sw_E_t _ _ _).mpr (Or.inr rfl), Bool.or_true]⟩
    · have := h.2 t (by omega) hS ho
      exact ⟨by rw [Nat.testBit_or, this.1, Bool.true_or], by rw [Nat.testBit_or, this.2, Bool.true_or]⟩
theorem sw_r15 {post : Int32 → Prop} {J5 : Int32 → Int32 → Prop} {S r c0 : Nat} (hG : sw_G A B L p a1 a2 a3) (hS : S < 1024) (hc : c0 < 64) (H : ∀ c, sw_Q A B S c0 10 c → J5 (nI c) (nI (r + 1))) : ∃ n, wX_reached_15 post J5 (nI S) (nI r) f a1 a2 a3 a4 a5 a6 n (nI c0) 0 :=
  pk_loop (fun n i c => wX_reached_15 post J5 (nI S) (nI r) f a1 a2 a3 a4 a5 a6 n (nI c) (nI i)) (fun i c => sw_Q A B S c0 i c) 10 0 c0 (by omega)
    ⟨sw_R_r A B S hc, fun t ht => absurd ht (by omega)⟩
    (fun n c h => pk_le 10 10 (fun _ => nm_r (nI_1 r) (H c h)) (fun z => absurd z (by omega)))
    (fun n i c hi h hw => pk_le 10 i (fun z => absurd z (by omega)) (fun _ => ek_if (sw_bit0 (by omega) (by omega))
      (fun z => nm_r (nI_1 i) (hw c (sw_Q_0 h (Or.inl z))))
      (fun z => sw_ends hG hi (ek_if (sw_e0I (hG.2.2.2.2.1 i hi) (hG.2.2.2.2.2.1 i hi) h.1.1)
        (fun y => nm_r (nI_1 i) (hw c (sw_Q_0 h (Or.inr y))))
        (fun y => sw_ends hG hi (nm_r (sw_or _ _) (nm_r (nI_1 i) (hw _ (sw_Q_1 hi (hG.2.2.2.2.1 i hi) (hG.2.2.2.2.2.1 i hi) h (sw_bT z) y)))))))))
theorem sw_63 : ∀ a, a < 6 → Nat.testBit 63 a = true := by decide
theorem sw_Q_n {A B : Nat → Nat} {S c0 c i : Nat} (hc : c0 < 64) (h : sw_Q A B S c0 10 c) (h0 : sw_cl A B S.testBit c0.testBit ∨ i ≤ sw_pop c0) : sw_cl A B S.testBit c.testBit ∨ i + 1 ≤ sw_pop c := by
  by_cases e : c = c0
  · left
    rw [e]
    intro t ht hS
    rcases sw_bt (c0.testBit (A t)) with z | z
    · rcases sw_bt (c0.testBit (B t)) with y | y
      · rw [z, y]
      · have := h.2 t ht hS (Or.inr y)
        rw [e] at this
        rw [this.1, this.2]
    · have := h.2 t ht hS (Or.inl z)
      rw [e] at this
      rw [this.1, this.2]
  · rcases h0 with z | z
    · exfalso
      apply e
      apply Nat.eq_of_testBit_eq
      intro j
      rcases sw_bt (c0.testBit j) with y | y
      · rcases sw_bt (c.testBit j) with x | x
        · rw [x, y]
        · have := h.1.2.2 c0.testBit z (fun _ t => t) j x
          rw [this, x]
      · rw [y, h.1.2.1 j y]
    · right
      have h1 : c0 ||| c = c := by
        apply Nat.eq_of_testBit_eq
        intro j
        rw [Nat.testBit_or]
        rcases sw_bt (c0.testBit j) with y | y
        · rw [y, Bool.false_or]
        · rw [y, h.1.2.1 j y]
          rfl
      have := sw_pop_lt c0 hc c h.1.1 h1 (fun z => e z.symm)
      omega
theorem sw_reached {post : Int32 → Prop} {S b : Nat} (hG : sw_G A B L p a1 a2 a3) (hS : S < 1024) (hb : b < 64) (H : ∀ c, sw_R A B S b c → sw_cl A B S.testBit c.testBit → post (nI c)) : wpX_reached post (f, a1, a2, a3, a4, a5, a6) (nI b) (nI S) := by
  unfold wpX_reached
  exact pk_loop (fun n i c => wX_reached_5 post (nI S) f a1 a2 a3 a4 a5 a6 n (nI c) (nI i)) (fun i c => sw_R A B S b c ∧ (sw_cl A B S.testBit c.testBit ∨ i ≤ sw_pop c)) 6 0 b (by omega)
    ⟨sw_R_r A B S hb, Or.inr (Nat.zero_le _)⟩
    (fun n c h => pk_le 6 6 (fun _ => H c h.1 (h.2.elim id (fun z => by
      have e := sw_pop_6 c h.1.1 z
      intro t ht _
      rw [e, sw_63 _ (hG.2.2.2.2.1 t ht), sw_63 _ (hG.2.2.2.2.2.1 t ht)]))) (fun z => absurd z (by omega)))
    (fun n i c hi h hw => pk_le 6 i (fun z => absurd z (by omega)) (fun _ => sw_r15 hG hS h.1.1 (fun c' h' => hw c' ⟨sw_R_t h.1 h'.1, sw_Q_n h.1.1 h' h.2⟩)))
/-- the streets of S hang together -/
def sw_Cn (A B : Nat → Nat) (S : Nat) : Prop := ∀ v, (∃ s, s < 10 ∧ S.testBit s = true ∧ (A s = v ∨ B s = v)) → sw_con A B S.testBit v
theorem sw_dn_0 {a b : Nat} : sw_dn a b = 0 ↔ ∀ i, a.testBit i = true → b.testBit i = true := by
  constructor
  · intro h i hi
    have : (sw_dn a b).testBit i = false := by rw [h, Nat.zero_testBit]
    rw [sw_dn_t, hi] at this
    cases e : b.testBit i
    · rw [e] at this; exact absurd this (by decide)
    · rfl
  · intro h
    apply Nat.eq_of_testBit_eq
    intro i
    rw [sw_dn_t, Nat.zero_testBit]
    cases e : a.testBit i
    · rfl
    · rw [h i e]; rfl
theorem sw_dnI {a b : Nat} (ha : a < 2 ^ 31) : nI a &&& (nI b ^^^ (-1)) = 0 ↔ ∀ i, a.testBit i = true → b.testBit i = true := by
  have h1 := sw_dn_lt (b := b) ha
  rw [sw_andn, ← nI_0, nI_eq h1 (by omega), sw_dn_0]
/-- from a corner v: all touched corners got to, or not -/
theorem sw_con_R {A B : Nat → Nat} {S t c v : Nat} (hT : sw_T A B S 10 t) (hR : sw_R A B S (2 ^ v) c) (hc : sw_cl A B S.testBit c.testBit) : (∀ i, t.testBit i = true → c.testBit i = true) ↔ sw_con A B S.testBit v := by
  constructor
  · intro h C hC hv s hs hS
    exact hR.2.2 C hC (fun i hi => by
      have e : v = i := by
        rw [Nat.testBit_two_pow] at hi
        exact of_decide_eq_true hi
      rw [← e]; exact hv) (A s) (h (A s) ((hT.2 (A s)).mpr ⟨s, hs, hS, Or.inl rfl⟩))
  · intro h i hi
    obtain ⟨s, hs, hS, he⟩ := (hT.2 i).mp hi
    have h1 := h c.testBit hc (hR.2.1 v Nat.testBit_two_pow_self) s hs hS
    rcases he with e | e
    · rw [← e]; exact h1
    · rw [← e, ← hc s hs hS]; exact h1
theorem sw_con_all {A B : Nat → Nat} {S v : Nat} (h : sw_con A B S.testBit v) : sw_Cn A B S := by
  intro w hw C hC hCw s hs hS
  obtain ⟨r, hr, hrS, he⟩ := hw
  have hCr : C (A r) = true := by
    rcases he with e | e
    · rw [e]; exact hCw
    · rw [hC r hr hrS, e]; exact hCw
  rcases sw_bt (C v) with z | z
  · have h1 := h (fun i => !C i) (fun t ht hT => by
      show (!C (A t)) = (!C (B t))
      rw [hC t ht hT]) (by show (!C v) = true; rw [z]; rfl) r hr hrS
    have h2 : (!C (A r)) = true := h1
    rw [hCr] at h2
    exact absurd h2 (by decide)
  · exact h C hC z s hs hS
theorem sw_connected {post : Int32 → Prop} (hG : sw_G A B L p a1 a2 a3) (h1 : sw_Cn A B p → post 1) (h0 : ¬ sw_Cn A B p → post 0) : wpX_connected post (nI p, a1, a2, a3, a4, a5, a6) := by
  unfold wpX_connected
  refine sw_touched hG hG.1 (fun t ht => ?_)
  by_cases e : t = 0
  · refine nm_r (by rw [e]; exact sw_low0) (sw_reached hG hG.1 (by omega) (fun c hR hc => ?_))
    refine ek_if (sw_dnI (by have := ht.1; omega)) (fun _ => h1 (fun v hv => ?_)) (fun z => absurd ?_ z)
    · have := (ht.2 v).mpr hv
      rw [e, Nat.zero_testBit] at this
      exact absurd this (by decide)
    · intro i hi
      rw [e, Nat.zero_testBit] at hi
      exact absurd hi (by decide)
  · obtain ⟨v, hv, hvt, hlow⟩ := sw_low t ht.1 e
    refine nm_r hlow (sw_reached hG hG.1 (sw_p6 v hv) (fun c hR hc => ?_))
    refine ek_if ((sw_dnI (by have := ht.1; omega)).trans (sw_con_R ht hR hc)) (fun z => h1 (sw_con_all z)) (fun z => h0 (fun y => z (y v ((ht.2 v).mp hvt))))
theorem sw_odd {post : Int32 → Prop} (hG : sw_G A B L p a1 a2 a3) (H : post (nI (sw_bd A B p.testBit 10))) : wpX_odd post (nI p, a1, a2, a3, a4, a5, a6) := by
  unfold wpX_odd
  exact pk_loop (σ := Unit) (fun n i _ => wX_odd_4 post (nI p) a1 a2 a3 a4 a5 a6 n (nI (sw_bd A B p.testBit i)) (nI i)) (fun _ _ => True) 10 0 () (by omega) trivial
    (fun n _ _ => pk_le 10 10 (fun _ => H) (fun z => absurd z (by omega)))
    (fun n i _ hi _ hw => pk_le 10 i (fun z => absurd z (by omega)) (fun _ => sw_has hG.1 hi
      (fun z => br_t rfl (nm_r (nI_1 i) (by
        have := hw () trivial
        have e : sw_bd A B p.testBit (i + 1) = sw_bd A B p.testBit i := by
          show sw_bd A B p.testBit i ^^^ cond (p.testBit i) _ 0 = _
          rw [z, cond_false, Nat.xor_zero]
        rw [e] at this
        exact this)))
      (fun z => br_f (by decide) (sw_ends hG hi (nm_r (by
        rw [sw_orx _ (hG.2.2.2.2.1 i hi) _ (hG.2.2.2.2.2.1 i hi) (hG.2.2.2.2.2.2.2 i hi z), sw_xor]
        show _ = nI (sw_bd A B p.testBit i ^^^ cond (p.testBit i) _ 0)
        rw [z, cond_true]) (nm_r (nI_1 i) (hw () trivial)))))))
end
end
section
/-! the walk of measure -/
def sw_V (D : Nat → Nat) (a4 : Nat → Int32) : Prop := ∀ j, j < 36 → a4 j = nI (D j)
def sw_mn (D : Nat → Nat) (k l : Nat) : Nat → Nat := fun j => if j = k then min (D j) l else D j
theorem sw_mn_k (D : Nat → Nat) (k l : Nat) : sw_mn D k l k = min (D k) l := if_pos rfl
theorem sw_mn_n {D : Nat → Nat} {k l j : Nat} (h : j ≠ k) : sw_mn D k l j = D j := if_neg h
theorem sw_mn_le (D : Nat → Nat) (k l j : Nat) : sw_mn D k l j ≤ D j := by
  by_cases e : j = k
  · rw [e, sw_mn_k]; omega
  · rw [sw_mn_n e]; exact Nat.le_refl _
theorem sw_Dk_mn {A B L : Nat → Nat} {S t : Nat} {D : Nat → Nat} {a b l : Nat} (h : sw_Dk A B L S t 0 D) (hb : b < 6) (hk : sw_ok A B L S (2 ^ a ^^^ 2 ^ b) l) : sw_Dk A B L S t 0 (sw_mn D (a * 6 + b) l) := by
  obtain ⟨h1, h2, h3, h4, h5⟩ := h
  refine ⟨fun j hj => Nat.le_trans (sw_mn_le _ _ _ _) (h1 j hj), fun c hc => ?_, fun s hs hS => ?_, fun c d hc hd hlt => ?_, fun c _ _ hc => absurd hc (by omega)⟩
  · have := sw_mn_le D (a * 6 + b) l (c * 6 + c)
    rw [h2 c hc] at this
    omega
  · have := h3 s hs hS
    have t1 := sw_mn_le D (a * 6 + b) l (A s * 6 + B s)
    have t2 := sw_mn_le D (a * 6 + b) l (B s * 6 + A s)
    omega
  · by_cases e : c * 6 + d = a * 6 + b
    · have e1 : c = a := by omega
      have e2 : d = b := by omega
      rw [e1, e2, sw_mn_k] at hlt ⊢
      by_cases e3 : D (a * 6 + b) ≤ l
      · rw [Nat.min_eq_left e3] at hlt ⊢
        exact h4 a b (by omega) hb hlt
      · rw [Nat.min_eq_right (by omega)]
        exact hk
    · rw [sw_mn_n e] at hlt ⊢
      exact h4 c d hc hd hlt
theorem sw_Dk_0 (A B L : Nat → Nat) (S : Nat) : sw_Dk A B L S 0 0 (fun i => if i / 6 = i % 6 then 0 else 100000) := by
  refine ⟨fun j _ => ?_, fun a ha => if_pos (by omega), fun s hs => absurd hs (by omega), fun a b ha hb hlt => ?_, fun c _ _ hc => absurd hc (by omega)⟩
  · show (if j / 6 = j % 6 then 0 else 100000) ≤ 100000
    split <;> omega
  · by_cases e : a = b
    · rw [e, Nat.xor_self]
      exact sw_ok_0 A B L S _
    · have e2 : ¬ (a * 6 + b) / 6 = (a * 6 + b) % 6 := by omega
      have hlt' : (if (a * 6 + b) / 6 = (a * 6 + b) % 6 then 0 else 100000) < 100000 := hlt
      rw [if_neg e2] at hlt'
      omega
theorem sw_Dk_s0 {A B L : Nat → Nat} {S i k : Nat} {D : Nat → Nat} (h : sw_Dk A B L S i k D) (hb : S.testBit i = false) : sw_Dk A B L S (i + 1) k D := by
  refine ⟨h.1, h.2.1, fun s hs hS => ?_, h.2.2.2⟩
  have : s ≠ i := fun e => by rw [e, hb] at hS; exact absurd hS (by decide)
  exact h.2.2.1 s (by omega) hS
theorem sw_Dk_s1 {A B L : Nat → Nat} {S i : Nat} {D : Nat → Nat} (h : sw_Dk A B L S i 0 D) (hi : i < 10) (hA : A i < 6) (hB : B i < 6) (hb : S.testBit i = true) : sw_Dk A B L S (i + 1) 0 (sw_mn (sw_mn D (A i * 6 + B i) (L i)) (B i * 6 + A i) (L i)) := by
  have k1 := sw_ok_1 A B L hi hb
  have g1 := sw_Dk_mn (a := A i) (b := B i) (l := L i) h hB k1
  have g2 := sw_Dk_mn (a := B i) (b := A i) (l := L i) g1 hA (by rw [Nat.xor_comm]; exact k1)
  refine ⟨g2.1, g2.2.1, fun s hs hS => ?_, g2.2.2.2⟩
  by_cases e : s = i
  · rw [e, sw_mn_k]
    refine ⟨?_, by omega⟩
    have t1 := sw_mn_le (sw_mn D (A i * 6 + B i) (L i)) (B i * 6 + A i) (L i) (A i * 6 + B i)
    rw [sw_mn_k] at t1
    omega
  · exact g2.2.2.1 s (by omega) hS
section
variable {A B L : Nat → Nat} {p : Nat} {f : Int32} {a1 a2 a3 a4 a5 a6 : Nat → Int32}
theorem sw_ix (a b : Nat) : nI a * 6 + nI b = nI (a * 6 + b) := by
  show nI a * nI 6 + nI b = _
  rw [pk_mul, nI_add]
theorem sw_shorten {post : St1 → Prop} {D : Nat → Nat} {a b l : Nat} (hV : sw_V D a4) (hD : ∀ j, j < 36 → D j ≤ 100000) (ha : a < 6) (hb : b < 6) (hl : l ≤ 20) (H : ∀ a4', sw_V (sw_mn D (a * 6 + b) l) a4' → post (f, a1, a2, a3, a4', a5, a6)) : wpX_shorten post (f, a1, a2, a3, a4, a5, a6) (nI a) (nI b) (nI l) := by
  unfold wpX_shorten
  refine nm_r (sw_ix a b) ⟨pk_in (a * 6 + b) 36 (by omega), ?_⟩
  rw [nI_clamp (show a * 6 + b < 2 ^ 31 by omega), hV (a * 6 + b) (by omega)]
  have hd := hD (a * 6 + b) (by omega)
  refine pk_le (D (a * 6 + b)) l (fun z => H a4 (fun j hj => ?_)) (fun z => ⟨pk_in (a * 6 + b) 36 (by omega), nm_e (H _ (fun j hj => ?_))⟩)
  · by_cases e : j = a * 6 + b
    · rw [e, sw_mn_k, Nat.min_eq_left z]
      exact hV _ (by omega)
    · rw [sw_mn_n e]
      exact hV j hj
  · by_cases e : j = a * 6 + b
    · rw [e, sw_mn_k, Nat.min_eq_right (by omega), pk_us]
    · rw [sw_mn_n e, pk_un e]
      exact hV j hj
theorem sw_m113 {post : St1 → Prop} {J : Int32 → (Nat → Int32) → (Nat → Int32) → (Nat → Int32) → (Nat → Int32) → (Nat → Int32) → (Nat → Int32) → Prop} {D : Nat → Nat} {k : Nat} (hk : k < 6) (hV : sw_V D a4) (hD : ∀ j, j < 36 → D j ≤ 100000) (h0 : D (k * 6 + k) = 0) (H : ∀ a4', sw_V (sw_fw k D) a4' → J (nI (k + 1)) a1 a2 a3 a4' a5 a6) : ∃ n, wX_measure_113 post J (nI k) f n 0 a1 a2 a3 a4 a5 a6 := by
  refine pk_loop (fun n j s => wX_measure_113 post J (nI k) f n (nI j) a1 a2 a3 s a5 a6) (fun j s => ∀ i, i < 36 → s i = nI (if i < j then sw_fw k D i else D i)) 36 0 a4 (by omega) (fun i hi => ?_) (fun n s h => pk_le 36 36 (fun _ => nm_r (nI_1 k) (H s (fun i hi => ?_))) (fun z => absurd z (by omega))) (fun n j s hj h hw => ?_)
  · rw [if_neg (by omega)]
    exact hV i hi
  · rw [h i hi, if_pos hi]
  · have e1 : nI j / 6 * 6 + nI k = nI (j / 6 * 6 + k) := by
      show nI j / nI 6 * 6 + nI k = _
      rw [pk_div (by omega) (by omega) (by omega), sw_ix]
    have e2 : nI k * 6 + (nI j - nI j / 6 * 6) = nI (k * 6 + j % 6) := by
      show nI k * 6 + (nI j - nI j / nI 6 * nI 6) = _
      rw [pk_rem (by omega) (by omega) (by omega), sw_ix]
    have v1 : s (j / 6 * 6 + k) = nI (D (j / 6 * 6 + k)) := by
      rw [h _ (by omega)]
      split
      · rw [sw_fw_col hk h0]
      · rfl
    have v2 : s (k * 6 + j % 6) = nI (D (k * 6 + j % 6)) := by
      rw [h _ (by omega)]
      split
      · rw [sw_fw_row (by omega) h0]
      · rfl
    have v3 : s j = nI (D j) := by
      rw [h j hj, if_neg (by omega)]
    have d1 := hD (j / 6 * 6 + k) (by omega)
    have d2 := hD (k * 6 + j % 6) (by omega)
    have d3 := hD j hj
    refine pk_le 36 j (fun z => absurd z (by omega)) (fun _ => ?_)
    rw [e1, e2, nI_clamp (show j / 6 * 6 + k < 2 ^ 31 by omega), nI_clamp (show k * 6 + j % 6 < 2 ^ 31 by omega), nI_clamp (show j < 2 ^ 31 by omega), v1, v2, v3]
    refine ⟨by decide, pk_in (j / 6 * 6 + k) 36 (by omega), by decide, pk_in (k * 6 + j % 6) 36 (by omega), nm_r (nI_add _ _) ⟨pk_in j 36 hj, ?_⟩⟩
    refine pk_le (D j) (D (j / 6 * 6 + k) + D (k * 6 + j % 6)) (fun z => nm_r (nI_1 j) (hw s (fun i hi => ?_))) (fun z => ⟨pk_in j 36 hj, nm_e (nm_r (nI_1 j) (hw _ (fun i hi => ?_)))⟩)
    · by_cases e : i = j
      · rw [e, if_pos (by omega), v3]
        show nI (D j) = nI (min (D j) (D (j / 6 * 6 + k) + D (k * 6 + j % 6)))
        rw [Nat.min_eq_left z]
      · rw [h i hi]
        by_cases e2 : i < j
        · rw [if_pos e2, if_pos (by omega)]
        · rw [if_neg e2, if_neg (by omega)]
    · by_cases e : i = j
      · rw [e, if_pos (by omega), pk_us]
        show _ = nI (min (D j) (D (j / 6 * 6 + k) + D (k * 6 + j % 6)))
        rw [Nat.min_eq_right (by omega)]
      · rw [pk_un e, h i hi]
        by_cases e2 : i < j
        · rw [if_pos e2, if_pos (by omega)]
        · rw [if_neg e2, if_neg (by omega)]
theorem sw_m105 {post : St1 → Prop} {S : Nat} (hG : sw_G A B L p a1 a2 a3) (H : ∀ a4' D, sw_V D a4' → sw_Dk A B L S 10 6 D → post (f, a1, a2, a3, a4', a5, a6)) {D : Nat → Nat} (hV : sw_V D a4) (hD : sw_Dk A B L S 10 0 D) : ∃ n, wX_measure_105 post f n 0 a1 a2 a3 a4 a5 a6 :=
  pk_loop (fun n i s => wX_measure_105 post f n (nI i) a1 a2 a3 s a5 a6) (fun i s => ∃ D, sw_V D s ∧ sw_Dk A B L S 10 i D) 6 0 a4 (by omega) ⟨D, hV, hD⟩
    (fun n s ⟨D, h1, h2⟩ => pk_le 6 6 (fun _ => H s D h1 h2) (fun z => absurd z (by omega)))
    (fun n i s hi ⟨D, h1, h2⟩ hw => pk_le 6 i (fun z => absurd z (by omega)) (fun _ => sw_m113 hi h1 h2.1 (h2.2.1 i hi) (fun s' h' => hw s' ⟨sw_fw i D, h', sw_Dk_fw hi h2 hG.2.2.2.2.1 hG.2.2.2.2.2.1⟩)))
theorem sw_m39 {post : St1 → Prop} {S : Nat} (hG : sw_G A B L p a1 a2 a3) (hS : S < 1024) (H : ∀ a4' D, sw_V D a4' → sw_Dk A B L S 10 6 D → post (f, a1, a2, a3, a4', a5, a6)) {D : Nat → Nat} (hV : sw_V D a4) (hD : sw_Dk A B L S 0 0 D) : ∃ n, wX_measure_39 post (nI S) n 0 f a1 a2 a3 a4 a5 a6 := by
  refine pk_loop (fun n i s => wX_measure_39 post (nI S) n (nI i) f a1 a2 a3 s a5 a6) (fun i s => ∃ D, sw_V D s ∧ sw_Dk A B L S i 0 D) 10 0 a4 (by omega) ⟨D, hV, hD⟩
    (fun n s ⟨D, h1, h2⟩ => pk_le 10 10 (fun _ => sw_m105 hG H h1 h2) (fun z => absurd z (by omega)))
    (fun n i s hi ⟨D, h1, h2⟩ hw => pk_le 10 i (fun z => absurd z (by omega)) (fun _ => ek_if (sw_bit0 (by omega) (by omega)) (fun z => nm_r (nI_1 i) (hw s ⟨D, h1, sw_Dk_s0 h2 z⟩)) (fun z => ?_)))
  have hA := hG.2.2.2.2.1 i hi
  have hB := hG.2.2.2.2.2.1 i hi
  have hL := hG.2.2.2.2.2.2.1 i hi
  have c1 := hG.2.1 i hi
  have c2 := hG.2.2.1 i hi
  have c3 := hG.2.2.2.1 i hi
  have hp := pk_in (x := nI i) i 10 hi
  rw [nI_clamp (show i < 2 ^ 31 by omega)]
  refine ⟨hp, hp, hp, ?_⟩
  rw [c1, c2, c3]
  refine sw_shorten h1 h2.1 hA hB hL (fun s' h' => ⟨hp, hp, hp, ?_⟩)
  rw [c1, c2, c3]
  exact sw_shorten h' (fun j hj => Nat.le_trans (sw_mn_le _ _ _ _) (h2.1 j hj)) hB hA hL (fun s2 h3 => nm_r (nI_1 i) (hw s2 ⟨_, h3, sw_Dk_s1 h2 hi hA hB (sw_bT z)⟩))
theorem sw_measure {post : St1 → Prop} {S : Nat} (hG : sw_G A B L p a1 a2 a3) (hS : S < 1024) (H : ∀ a4' D, sw_V D a4' → sw_Dk A B L S 10 6 D → post (f, a1, a2, a3, a4', a5, a6)) : wpX_measure post (f, a1, a2, a3, a4, a5, a6) (nI S) := by
  unfold wpX_measure
  refine pk_loop (fun n j s => wX_measure_2 post (nI S) f n (nI j) a1 a2 a3 s a5 a6) (fun j s => ∀ i, i < j → s i = nI (if i / 6 = i % 6 then 0 else 100000)) 36 0 a4 (by omega) (fun i hi => absurd hi (by omega))
    (fun n s h => pk_le 36 36 (fun _ => sw_m39 hG hS H h (sw_Dk_0 A B L S)) (fun z => absurd z (by omega))) (fun n j s hj h hw => pk_le 36 j (fun z => absurd z (by omega)) (fun _ => ?_))
  rw [nI_clamp (show j < 2 ^ 31 by omega)]
  refine ⟨by decide, by decide, pk_eq (j / 6) (j % 6) (fun z => ⟨pk_in j 36 hj, nm_e (nm_r (nI_1 j) (hw _ (fun i hi => ?_)))⟩) (fun z => ⟨pk_in j 36 hj, nm_e (nm_r (nI_1 j) (hw _ (fun i hi => ?_)))⟩) (pk_div (d := 6) (by omega) (by omega) (by omega)) (pk_rem (d := 6) (by omega) (by omega) (by omega))⟩
  · by_cases e : i = j
    · rw [e, if_pos z, pk_us]
      rfl
    · rw [pk_un e]
      exact h i (by omega)
  · by_cases e : i = j
    · rw [e, if_neg z, pk_us]
      rfl
    · rw [pk_un e]
      exact h i (by omega)
end
end
section
/-! the walks of pairUp, join, extra, extraWith, extraWithout -/
theorem sw_some {m : Nat} (h : m ≠ 0) : ∃ k, m.testBit k = true := by
  apply Classical.byContradiction
  intro hn
  apply h
  apply Nat.eq_of_testBit_eq
  intro i
  rw [Nat.zero_testBit]
  exact sw_bf (fun e => hn ⟨i, e⟩)
theorem sw_pu_0 {D P : Nat → Nat} {m low i v : Nat} (h : sw_pu D P m low i v) (hb : m.testBit i = false) : sw_pu D P m low (i + 1) v := by
  refine ⟨h.1, fun c h1 h2 h3 => ?_, h.2.2⟩
  have : c ≠ i := fun e => by rw [e, hb] at h3; exact absurd h3 (by decide)
  exact h.2.1 c h1 (by omega) h3
theorem sw_pu_1 {D P : Nat → Nat} {m low i v : Nat} (h : sw_pu D P m low i v) (hv : v ≤ D (low * 6 + i) + P (m ^^^ 2 ^ low ^^^ 2 ^ i)) : sw_pu D P m low (i + 1) v := by
  refine ⟨h.1, fun c h1 h2 h3 => ?_, h.2.2⟩
  by_cases e : c = i
  · rw [e]; exact hv
  · exact h.2.1 c h1 (by omega) h3
theorem sw_pu_2 {D P : Nat → Nat} {m low i v : Nat} (h : sw_pu D P m low i v) (hl : low < i) (hi : i < 6) (hb : m.testBit i = true) (hv : D (low * 6 + i) + P (m ^^^ 2 ^ low ^^^ 2 ^ i) < v) : sw_pu D P m low (i + 1) (D (low * 6 + i) + P (m ^^^ 2 ^ low ^^^ 2 ^ i)) := by
  have h0 := h.1
  refine ⟨by omega, fun c h1 h2 h3 => ?_, Or.inr ⟨i, hl, hi, hb, rfl⟩⟩
  by_cases e : c = i
  · rw [e]; exact Nat.le_refl _
  · have := h.2.1 c h1 (by omega) h3
    omega
section
variable {A B L : Nat → Nat} {p : Nat} {f : Int32} {a1 a2 a3 a4 a5 a6 : Nat → Int32}
theorem sw_p30 {post : Int32 → Prop} {D P : Nat → Nat} {m low : Nat} (hm : m < 64) (hl : low < 6) (hb : m.testBit low = true) (hV : sw_V D a4) (hD : ∀ j, j < 36 → D j ≤ 100000)
    (hP : ∀ c, low < c → c < 6 → m.testBit c = true → a5 (m ^^^ 2 ^ low ^^^ 2 ^ c) = nI (P (m ^^^ 2 ^ low ^^^ 2 ^ c)) ∧ P (m ^^^ 2 ^ low ^^^ 2 ^ c) ≤ 200000)
    (H : ∀ v, sw_pu D P m low 6 v → post (nI v)) : ∃ n, wX_pairUp_30 post (nI m) (nI low) f a1 a2 a3 a4 a5 a6 n 200000 (nI (low + 1)) := by
  refine pk_loop (fun n i v => wX_pairUp_30 post (nI m) (nI low) f a1 a2 a3 a4 a5 a6 n (nI v) (nI i)) (fun i v => low < i ∧ sw_pu D P m low i v) 6 (low + 1) 200000 (by omega) ⟨by omega, Nat.le_refl _, fun c h1 h2 => absurd h2 (by omega), Or.inl rfl⟩
    (fun n v h => pk_le 6 6 (fun _ => H v h.2) (fun z => absurd z (by omega)))
    (fun n i v hi h hw => pk_le 6 i (fun z => absurd z (by omega)) (fun _ => ek_if (sw_bit0 (by omega) (by omega)) (fun z => nm_r (nI_1 i) (hw v ⟨by omega, sw_pu_0 h.2 z⟩)) (fun z => ?_)))
  have hz := sw_bT z
  have hr := sw_rest m hm low hl i hi ⟨h.1, hb, hz⟩
  have hq := hP i h.1 hi hz
  have hd := hD (low * 6 + i) (by omega)
  have h0 := h.2.1
  refine nm_r (e' := nI (m ^^^ 2 ^ low ^^^ 2 ^ i)) (by rw [sw_neg (by omega), sw_neg (by omega), hr.1]) ?_
  rw [sw_ix, nI_clamp (show low * 6 + i < 2 ^ 31 by omega), nI_clamp (show m ^^^ 2 ^ low ^^^ 2 ^ i < 2 ^ 31 by omega), hq.1, hV _ (by omega)]
  refine ⟨pk_in (low * 6 + i) 36 (by omega), pk_in (m ^^^ 2 ^ low ^^^ 2 ^ i) 64 (by omega), nm_r (nI_add _ _) ?_⟩
  exact pk_le v (D (low * 6 + i) + P (m ^^^ 2 ^ low ^^^ 2 ^ i)) (fun y => nm_r (nI_1 i) (hw v ⟨by omega, sw_pu_1 h.2 y⟩)) (fun y => nm_r (nI_1 i) (hw _ ⟨by omega, sw_pu_2 h.2 h.1 hi hz y⟩))
theorem sw_pairUp {post : Int32 → Prop} {D P : Nat → Nat} {m : Nat} (hm : m < 64) (hm0 : m ≠ 0) (hV : sw_V D a4) (hD : ∀ j, j < 36 → D j ≤ 100000)
    (hP : ∀ a c, a < c → c < 6 → m.testBit a = true → m.testBit c = true → a5 (m ^^^ 2 ^ a ^^^ 2 ^ c) = nI (P (m ^^^ 2 ^ a ^^^ 2 ^ c)) ∧ P (m ^^^ 2 ^ a ^^^ 2 ^ c) ≤ 200000)
    (H : ∀ low v, low < 6 → m.testBit low = true → (∀ j, j < low → m.testBit j = false) → sw_pu D P m low 6 v → post (nI v)) : wpX_pairUp post (f, a1, a2, a3, a4, a5, a6) (nI m) := by
  unfold wpX_pairUp
  obtain ⟨low, h1, h2⟩ := pk_least _ (sw_some hm0)
  have hl : low < 6 := by
    rcases Nat.lt_or_ge low 6 with z | z
    · exact z
    · rw [sw_tlt (n := 6) hm z] at h1
      exact absurd h1 (by decide)
  have hz : ∀ j, j < low → m.testBit j = false := fun j hj => sw_bf (h2 j hj)
  exact pk_loop (σ := Unit) (fun n i _ => wX_pairUp_2 post (nI m) f a1 a2 a3 a4 a5 a6 n (nI i)) (fun _ _ => True) low 0 () (by omega) trivial
    (fun n _ _ => pk_le 6 low (fun z => absurd z (by omega)) (fun _ => ek_if (sw_bit0 (by omega) (by omega)) (fun z => absurd h1 (by rw [z]; decide)) (fun _ => nm_r (nI_1 low) (sw_p30 hm hl h1 hV hD (fun c c1 c2 c3 => hP low c c1 c2 h1 c3) (fun v hv => H low v hl h1 hz hv)))))
    (fun n i _ hi _ hw => pk_le 6 i (fun z => absurd z (by omega)) (fun _ => ek_if (sw_bit0 (by omega) (by omega)) (fun _ => nm_r (nI_1 i) (hw () trivial)) (fun z => absurd (hz i hi) z)))
theorem sw_join {post : Int32 → St1 → Prop} {S W : Nat} (hG : sw_G A B L p a1 a2 a3) (hW : W < 64) (hS : S < 1024) (H : ∀ v a4' a5', v ≤ 200000 → sw_jn A B L S W v → post (nI v) (f, a1, a2, a3, a4', a5', a6)) : wpX_join post (f, a1, a2, a3, a4, a5, a6) (nI W) (nI S) := by
  unfold wpX_join
  refine sw_measure hG hS (fun a4' D hV hD => nm_e ?_)
  refine pk_loop (fun n m s => wX_join_14 post (nI W) f n (nI m) a1 a2 a3 a4' s a6) (fun m s => 1 ≤ m ∧ ∀ r, r < m → (∀ i, r.testBit i = true → W.testBit i = true) → ∃ v, s r = nI v ∧ sw_jv A B L S D r v) 64 1 _ (by omega) ⟨by omega, fun r hr _ => ⟨0, ?_, ?_⟩⟩ (fun n s h => pk_le 64 64 (fun _ => ?_) (fun z => absurd z (by omega))) (fun n m s hm h hw => pk_le 64 m (fun z => absurd z (by omega)) (fun _ => ?_))
  · rw [show r = 0 by omega, pk_us]
    rfl
  · rw [show r = 0 by omega]
    exact sw_jv_0 A B L S D
  · obtain ⟨v, v1, v2⟩ := h.2 W hW (fun _ t => t)
    rw [nI_clamp (show W < 2 ^ 31 by omega), v1]
    exact ⟨pk_in W 64 hW, H v _ _ v2.1 (sw_jv_jn hD hG.2.2.2.2.1 hG.2.2.2.2.2.1 v2)⟩
  · rw [nI_clamp (show m < 2 ^ 31 by omega)]
    refine ⟨pk_in m 64 hm, nm_e (ek_if (sw_dnI (by omega)) (fun z => ?_) (fun z => nm_r (nI_1 m) (hw _ ⟨by omega, fun r hr hsub => ?_⟩)))⟩
    · have key : ∀ a c, a < c → c < 6 → m.testBit a = true → m.testBit c = true → ∃ v, upd s m 200000 (m ^^^ 2 ^ a ^^^ 2 ^ c) = nI v ∧ (upd s m 200000 (m ^^^ 2 ^ a ^^^ 2 ^ c)).toNatClampNeg = v ∧ sw_jv A B L S D (m ^^^ 2 ^ a ^^^ 2 ^ c) v := by
        intro a c h1 h2 h3 h4
        have hr := sw_rest m hm a (by omega) c h2 ⟨h1, h3, h4⟩
        obtain ⟨v, v1, v2⟩ := h.2 _ hr.2 (fun i hi => by
          rw [← hr.1] at hi
          exact z i (sw_dn_s (sw_dn_s hi)))
        have hv := v2.1
        rw [pk_un (by omega), v1]
        exact ⟨v, rfl, nI_clamp (by omega), v2⟩
      refine sw_pairUp (P := fun r => (upd s m 200000 r).toNatClampNeg) hm (by omega) hV hD.1 (fun a c h1 h2 h3 h4 => ?_) (fun low v h1 h2 h3 h4 => ⟨pk_in m 64 hm, nm_e (nm_r (nI_1 m) (hw _ ⟨by omega, fun r hr hsub => ?_⟩))⟩)
      · obtain ⟨v, v1, v2, v3⟩ := key a c h1 h2 h3 h4
        have hv := v3.1
        rw [v2, v1]
        exact ⟨rfl, hv⟩
      · by_cases e : r = m
        · rw [e, pk_us]
          refine ⟨v, rfl, sw_pu_jv hD hm h1 h2 h3 (fun c c1 c2 c3 => ?_) h4⟩
          obtain ⟨v, v1, v2, v3⟩ := key low c c1 c2 h2 c3
          rw [v2]
          exact v3
        · rw [pk_un e, pk_un e]
          exact h.2 r (by omega) hsub
    · by_cases e : r = m
      · rw [e] at hsub
        exact absurd hsub z
      · rw [pk_un e]
        exact h.2 r (by omega) hsub
theorem sw_e200 {e : Nat} (hG : sw_G A B L p a1 a2 a3) (h : sw_jn A B L p (sw_bd A B p.testBit 10) e) : e ≤ 200 := by
  have h1 := h.1 _ (sw_ok_a A B L p)
  have h2 := sw_ln_le hG.2.2.2.2.2.2.1 p.testBit 10 (Nat.le_refl _)
  omega
theorem sw_bdl (hG : sw_G A B L p a1 a2 a3) (J : Nat → Bool) : sw_bd A B J 10 < 64 := sw_bd_lt hG.2.2.2.2.1 hG.2.2.2.2.2.1 J 10 (Nat.le_refl _)
theorem sw_extra {post : Int32 → St1 → Prop} (hG : sw_G A B L p a1 a2 a3) (H : ∀ e a4' a5', e ≤ 200 → sw_jn A B L p (sw_bd A B p.testBit 10) e → post (nI e) (nI p, a1, a2, a3, a4', a5', a6)) : wpX_extra post (nI p, a1, a2, a3, a4, a5, a6) := by
  unfold wpX_extra
  refine sw_odd hG (sw_join hG (sw_bdl hG _) hG.1 (fun v a4' a5' hv hj => ?_))
  have he := sw_e200 hG hj
  exact pk_le 100000 v (fun z => absurd z (by omega)) (fun _ => H v a4' a5' he hj)
theorem sw_extraWith {post : Int32 → St1 → Prop} {s : Nat} (hG : sw_G A B L p a1 a2 a3) (hs : s < 10) (hb : p.testBit s = true) (H : ∀ w a4' a5', sw_jn A B L (sw_dn p (2 ^ s)) (sw_bd A B p.testBit 10 ^^^ (2 ^ A s ^^^ 2 ^ B s)) w → (100000 ≤ w → post (-1) (nI p, a1, a2, a3, a4', a5', a6)) ∧ (w < 100000 → post (nI (w + L s)) (nI p, a1, a2, a3, a4', a5', a6))) : wpX_extraWith post (nI p, a1, a2, a3, a4, a5, a6) (nI s) := by
  have hA := hG.2.2.2.2.1 s hs
  have hB := hG.2.2.2.2.2.1 s hs
  have c3 := hG.2.2.2.1 s hs
  have hx : sw_bd A B p.testBit 10 ^^^ (2 ^ A s ^^^ 2 ^ B s) < 64 := Nat.xor_lt_two_pow (n := 6) (sw_bdl hG _) (Nat.xor_lt_two_pow (sw_p6 _ hA) (sw_p6 _ hB))
  unfold wpX_extraWith
  refine sw_has hG.1 hs (fun z => absurd hb (by rw [z]; decide)) (fun _ => br_f (by decide) (sw_odd hG (sw_ends hG hs (nm_r (e' := nI (sw_bd A B p.testBit 10 ^^^ (2 ^ A s ^^^ 2 ^ B s))) (by rw [sw_orx _ hA _ hB (hG.2.2.2.2.2.2.2 s hs hb), sw_xor]) ?_))))
  rw [sw_neg (show s < 31 by omega)]
  refine sw_join hG hx (sw_dn_lt (n := 10) hG.1) (fun w a4' a5' hw hj => pk_le 100000 w (fun z => (H w a4' a5' hj).1 z) (fun z => ⟨pk_in s 10 hs, ?_⟩))
  rw [nI_clamp (show s < 2 ^ 31 by omega), c3, nI_add]
  exact (H w a4' a5' hj).2 z
theorem sw_extraWithout {post : Int32 → St1 → Prop} {s : Nat} (hG : sw_G A B L p a1 a2 a3) (hs : s < 10) (hb : p.testBit s = true) (H : ∀ w a4' a5', sw_jn A B L (sw_dn p (2 ^ s)) (sw_bd A B p.testBit 10) w → (100000 ≤ w → post (-1) (nI p, a1, a2, a3, a4', a5', a6)) ∧ (w < 100000 → post (nI w) (nI p, a1, a2, a3, a4', a5', a6))) : wpX_extraWithout post (nI p, a1, a2, a3, a4, a5, a6) (nI s) := by
  unfold wpX_extraWithout
  refine sw_has hG.1 hs (fun z => absurd hb (by rw [z]; decide)) (fun _ => br_f (by decide) (sw_odd hG ?_))
  rw [sw_neg (show s < 31 by omega)]
  exact sw_join hG (sw_bdl hG _) (sw_dn_lt (n := 10) hG.1) (fun w a4' a5' hw hj => pk_le 100000 w (fun z => (H w a4' a5' hj).1 z) (fun z => (H w a4' a5' hj).2 z))
end
end
section
/-! the greedy choice, purely -/
def sw_op (p : Nat) : Nat → Nat
  | 0 => p
  | s + 1 => sw_dn (sw_op p s) (2 ^ s)
theorem sw_op_t (p t : Nat) : ∀ i, (sw_op p i).testBit t = (p.testBit t && decide (i ≤ t)) := by
  intro i
  induction i with
  | zero => rw [decide_eq_true (Nat.zero_le t), Bool.and_true]; rfl
  | succ i ih =>
    show (sw_dn (sw_op p i) (2 ^ i)).testBit t = _
    rw [sw_dn_t, ih, Nat.testBit_two_pow]
    by_cases e : i = t
    · rw [decide_eq_true e, decide_eq_false (show ¬ i + 1 ≤ t by omega), Bool.not_true, Bool.and_false, Bool.and_false]
    · by_cases e2 : i ≤ t
      · rw [decide_eq_true e2, decide_eq_false e, decide_eq_true (show i + 1 ≤ t by omega), Bool.not_false, Bool.and_true]
      · rw [decide_eq_false e2, decide_eq_false (show ¬ i + 1 ≤ t by omega), Bool.and_false, Bool.false_and]
theorem sw_op_f {p i : Nat} (h : p.testBit i = false) : sw_op p (i + 1) = sw_op p i := by
  apply Nat.eq_of_testBit_eq
  intro t
  rw [sw_op_t, sw_op_t]
  by_cases e : i = t
  · rw [← e, h, Bool.false_and, Bool.false_and]
  · by_cases e2 : i ≤ t
    · rw [decide_eq_true e2, decide_eq_true (show i + 1 ≤ t by omega)]
    · rw [decide_eq_false e2, decide_eq_false (show ¬ i + 1 ≤ t by omega)]
theorem sw_op_lt {p : Nat} (h : p < 1024) : ∀ i, sw_op p i < 1024 := by
  intro i
  induction i with
  | zero => exact h
  | succ i ih => exact sw_dn_lt (n := 10) ih
/-- what is wanted, how long it is, what was chosen: behind the streets below i -/
noncomputable def sw_gs (A B L : Nat → Nat) (p e : Nat) : Nat → Nat × Nat × Nat
  | 0 => (sw_bd A B p.testBit 10, e, 0)
  | s + 1 => @ite _ (p.testBit s = true ∧ ¬ sw_ok A B L (sw_op p (s + 1)) (sw_gs A B L p e s).1 (sw_gs A B L p e s).2.1) (Classical.propDecidable _) ((sw_gs A B L p e s).1 ^^^ (2 ^ A s ^^^ 2 ^ B s), (sw_gs A B L p e s).2.1 - L s, (sw_gs A B L p e s).2.2 ||| 2 ^ s) (sw_gs A B L p e s)
theorem sw_gs_t {A B L : Nat → Nat} {p e s : Nat} (h1 : p.testBit s = true) (h2 : ¬ sw_ok A B L (sw_op p (s + 1)) (sw_gs A B L p e s).1 (sw_gs A B L p e s).2.1) : sw_gs A B L p e (s + 1) = ((sw_gs A B L p e s).1 ^^^ (2 ^ A s ^^^ 2 ^ B s), (sw_gs A B L p e s).2.1 - L s, (sw_gs A B L p e s).2.2 ||| 2 ^ s) :=
  @if_pos _ (Classical.propDecidable _) ⟨h1, h2⟩ _ _ _
theorem sw_gs_f {A B L : Nat → Nat} {p e s : Nat} (h : ¬ (p.testBit s = true ∧ ¬ sw_ok A B L (sw_op p (s + 1)) (sw_gs A B L p e s).1 (sw_gs A B L p e s).2.1)) : sw_gs A B L p e (s + 1) = sw_gs A B L p e s :=
  @if_neg _ (Classical.propDecidable _) h _ _ _
def sw_gI (A B L : Nat → Nat) (p i : Nat) (q : Nat × Nat × Nat) : Prop := sw_jn A B L (sw_op p i) q.1 q.2.1 ∧ q.2.1 ≤ 200 ∧ q.1 = sw_bd A B p.testBit 10 ^^^ sw_bd A B q.2.2.testBit 10 ∧ ∀ t, q.2.2.testBit t = true → p.testBit t = true ∧ t < i
theorem sw_gI_s {A B L : Nat → Nat} {p e : Nat} (h0 : sw_jn A B L p (sw_bd A B p.testBit 10) e) (he : e ≤ 200) : ∀ i, i ≤ 10 → sw_gI A B L p i (sw_gs A B L p e i) := by
  intro i
  induction i with
  | zero =>
    intro _
    refine ⟨h0, he, ?_, fun t ht => ?_⟩
    · show sw_bd A B p.testBit 10 = sw_bd A B p.testBit 10 ^^^ sw_bd A B (Nat.testBit 0) 10
      rw [sw_bd_0 A B (fun s _ => Nat.zero_testBit s), Nat.xor_zero]
    · have ht' : Nat.testBit 0 t = true := ht
      rw [Nat.zero_testBit] at ht'
      exact absurd ht' (by decide)
  | succ i ih =>
    intro hi
    obtain ⟨g1, g2, g3, g4⟩ := ih (by omega)
    rcases sw_bt (p.testBit i) with hb | hb
    · rw [sw_gs_f (fun z => absurd z.1 (by rw [hb]; decide))]
      refine ⟨by rw [sw_op_f hb]; exact g1, g2, g3, fun t ht => ⟨(g4 t ht).1, by have := (g4 t ht).2; omega⟩⟩
    · by_cases hk : sw_ok A B L (sw_op p (i + 1)) (sw_gs A B L p e i).1 (sw_gs A B L p e i).2.1
      · rw [sw_gs_f (fun z => z.2 hk)]
        refine ⟨⟨fun u hu => g1.1 u (sw_ok_m hu (fun t _ ht => sw_dn_s ht) (Nat.le_refl _)), fun _ => hk⟩, g2, g3, fun t ht => ⟨(g4 t ht).1, by have := (g4 t ht).2; omega⟩⟩
      · rw [sw_gs_t hb hk]
        have hob : (sw_op p i).testBit i = true := by rw [sw_op_t, hb, decide_eq_true (Nat.le_refl i)]; rfl
        refine ⟨?_, by dsimp only; omega, ?_, ?_⟩
        · rcases sw_ok_s (s := i) (by omega) (g1.2 (by omega)) with g | ⟨u, hu, g⟩
          · exact absurd g hk
          · refine ⟨fun u' g' => ?_, fun _ => sw_ok_m g (fun _ _ t => t) (by dsimp only; omega)⟩
            have := g1.1 _ (sw_ok_t (by omega) hob g')
            dsimp only
            omega
        · dsimp only
          have hnb : (sw_gs A B L p e i).2.2.testBit i = false := sw_bf (fun z => by have := (g4 i z).2; omega)
          have e1 : sw_bd A B ((sw_gs A B L p e i).2.2 ||| 2 ^ i).testBit 10 = sw_bd A B (sw_gs A B L p e i).2.2.testBit 10 ^^^ (2 ^ A i ^^^ 2 ^ B i) := by
            rw [sw_bd_c (K := sw_jx (sw_gs A B L p e i).2.2.testBit (sw_i i)) (fun t _ => ?_), sw_bd_x, sw_bd_i A B (by omega)]
            show ((sw_gs A B L p e i).2.2 ||| 2 ^ i).testBit t = ((sw_gs A B L p e i).2.2.testBit t ^^ sw_i i t)
            rw [Nat.testBit_or, Nat.testBit_two_pow]
            by_cases e2 : i = t
            · rw [← e2, hnb, sw_i_s, decide_eq_true rfl]
              rfl
            · rw [decide_eq_false e2, sw_i_n (fun z => e2 z.symm), Bool.or_false, Bool.xor_false]
          rw [e1, g3]
          exact Nat.xor_assoc _ _ _
        · intro t ht
          have ht' : ((sw_gs A B L p e i).2.2 ||| 2 ^ i).testBit t = true := ht
          rw [Nat.testBit_or, Nat.testBit_two_pow, Bool.or_eq_true] at ht'
          rcases ht' with z | z
          · exact ⟨(g4 t z).1, by have := (g4 t z).2; omega⟩
          · have e2 : i = t := of_decide_eq_true z
            rw [← e2]
            exact ⟨hb, by omega⟩
theorem sw_lt10 {x : Nat} (h : ∀ t, x.testBit t = true → t < 10) : x < 1024 := by
  apply Nat.lt_pow_two_of_testBit (n := 10)
  intro i hi
  exact sw_bf (fun z => by have := h i z; omega)
/-- the set chosen -/
noncomputable def sw_bs (A B L : Nat → Nat) (p e : Nat) : Nat := (sw_gs A B L p e 10).2.2
theorem sw_bs_p {A B L : Nat → Nat} {p e : Nat} (h0 : sw_jn A B L p (sw_bd A B p.testBit 10) e) (he : e ≤ 200) : sw_bs A B L p e < 1024 ∧ (∀ t, (sw_bs A B L p e).testBit t = true → p.testBit t = true) ∧ sw_bd A B (sw_bs A B L p e).testBit 10 = sw_bd A B p.testBit 10 := by
  obtain ⟨g1, g2, g3, g4⟩ := sw_gI_s h0 he 10 (Nat.le_refl _)
  refine ⟨sw_lt10 (fun t ht => (g4 t ht).2), fun t ht => (g4 t ht).1, ?_⟩
  have hw : (sw_gs A B L p e 10).1 = 0 := sw_ok_e (fun s hs => by rw [sw_op_t, decide_eq_false (show ¬ 10 ≤ s by omega), Bool.and_false]) (g1.2 (by omega))
  rw [hw] at g3
  have h1 := sw_x2 (sw_bd A B p.testBit 10) (sw_bd A B (sw_gs A B L p e 10).2.2.testBit 10)
  rw [← g3, Nat.zero_xor] at h1
  exact h1
section
variable {A B L : Nat → Nat} {p : Nat} {f : Int32} {a1 a2 a3 a4 a5 a6 : Nat → Int32}
theorem sw_bestSet {post : Int32 → St1 → Prop} {e : Nat} (hG : sw_G A B L p a1 a2 a3) (h0 : sw_jn A B L p (sw_bd A B p.testBit 10) e) (H : ∀ a4' a5', post (nI (sw_bs A B L p e)) (nI p, a1, a2, a3, a4', a5', a6)) : wpX_bestSet post (nI p, a1, a2, a3, a4, a5, a6) := by
  have he := sw_e200 hG h0
  unfold wpX_bestSet
  refine sw_odd hG (sw_join hG (sw_bdl hG _) hG.1 (fun v b4 b5 hv hj => ?_))
  have hev : e = v := sw_jn_e h0 hj (by omega)
  subst hev
  refine pk_lt e 100000 (fun _ => ?_) (fun z => absurd z (by omega))
  refine pk_loop (σ := (Nat → Int32) × (Nat → Int32)) (fun n i s => wX_bestSet_34 post n (nI (sw_gs A B L p e i).1) (nI (sw_gs A B L p e i).2.1) (nI (sw_op p i)) (nI (sw_gs A B L p e i).2.2) (nI i) (nI p) a1 a2 a3 s.1 s.2 a6) (fun _ _ => True) 10 0 (b4, b5) (by omega) trivial
    (fun n s _ => pk_le 10 10 (fun _ => H s.1 s.2) (fun z => absurd z (by omega)))
    (fun n i s hi _ hw => pk_le 10 i (fun z => absurd z (by omega)) (fun _ => sw_has hG.1 hi (fun hb => br_t rfl (nm_r (nI_1 i) ?_)) (fun hb => br_f (by decide) (nm_r (e' := nI (sw_op p (i + 1))) (sw_neg (by omega)) ?_))))
  · have t : wX_bestSet_34 post n (nI (sw_gs A B L p e (i + 1)).1) (nI (sw_gs A B L p e (i + 1)).2.1) (nI (sw_op p (i + 1))) (nI (sw_gs A B L p e (i + 1)).2.2) (nI (i + 1)) (nI p) a1 a2 a3 s.1 s.2 a6 := hw s trivial
    rw [sw_gs_f (fun z => absurd z.1 (by rw [hb]; decide)), sw_op_f hb] at t
    exact t
  · obtain ⟨g1, g2, g3, g4⟩ := sw_gI_s h0 he i (by omega)
    have hob : (sw_op p i).testBit i = true := by rw [sw_op_t, hb, decide_eq_true (Nat.le_refl i)]; rfl
    have hlt : (sw_gs A B L p e i).1 < 64 := by
      rw [g3]
      exact Nat.xor_lt_two_pow (n := 6) (sw_bdl hG _) (sw_bdl hG _)
    refine sw_join hG hlt (sw_op_lt hG.1 (i + 1)) (fun x c4 c5 hx hjx => ?_)
    obtain ⟨q1, q2⟩ := sw_jn_g hi hob (by omega) g1 hjx
    have t : wX_bestSet_34 post n (nI (sw_gs A B L p e (i + 1)).1) (nI (sw_gs A B L p e (i + 1)).2.1) (nI (sw_op p (i + 1))) (nI (sw_gs A B L p e (i + 1)).2.2) (nI (i + 1)) (nI p) a1 a2 a3 c4 c5 a6 := hw (c4, c5) trivial
    refine pk_eq x (sw_gs A B L p e i).2.1 (fun z => nm_r (nI_1 i) ?_) (fun z => nm_r (e' := nI ((sw_gs A B L p e i).2.2 ||| 2 ^ i)) (by rw [sw_one i (by omega), sw_or]) (sw_ends hG hi (nm_r (e' := nI ((sw_gs A B L p e i).1 ^^^ (2 ^ A i ^^^ 2 ^ B i))) (by rw [sw_orx _ (hG.2.2.2.2.1 i hi) _ (hG.2.2.2.2.2.1 i hi) (hG.2.2.2.2.2.2.2 i hi hb), sw_xor]) ⟨pk_in i 10 hi, ?_⟩)))
    · rw [sw_gs_f (fun y => y.2 (q1.mp z))] at t
      exact t
    · rw [sw_gs_t hb (fun y => z (q1.mpr y))] at t
      rw [nI_clamp (show i < 2 ^ 31 by omega), hG.2.2.2.1 i hi]
      exact nm_r (pk_sub (q2 z).1) (nm_r (nI_1 i) t)
theorem sw_walkLength {post : Int32 → St1 → Prop} (hG : sw_G A B L p a1 a2 a3) (hC : sw_Cn A B p) (H : ∀ v a4' a5', v ≤ 400 → post (nI v) (nI p, a1, a2, a3, a4', a5', a6)) : wpX_walkLength post (nI p, a1, a2, a3, a4, a5, a6) := by
  unfold wpX_walkLength
  refine sw_extra hG (fun e b4 b5 he hj => pk_lt e 0 (fun z => absurd z (by omega)) (fun _ => sw_connected hG (fun _ => br_f (by decide) ?_) (fun z => absurd hC z)))
  refine pk_loop (fun n i v => wX_walkLength_20 post (nI p) a1 a2 a3 b4 b5 a6 n (nI v) (nI i)) (fun i v => v ≤ 200 + 20 * i) 10 0 e (by omega) (by omega)
    (fun n v h => pk_le 10 10 (fun _ => H v b4 b5 (by omega)) (fun z => absurd z (by omega)))
    (fun n i v hi h hw => pk_le 10 i (fun z => absurd z (by omega)) (fun _ => sw_has hG.1 hi (fun hb => br_t rfl (nm_r (nI_1 i) (hw v (by omega)))) (fun hb => br_f (by decide) ⟨pk_in i 10 hi, ?_⟩)))
  have hL := hG.2.2.2.2.2.2.1 i hi
  rw [nI_clamp (show i < 2 ^ 31 by omega), hG.2.2.2.1 i hi]
  exact nm_r (nI_add _ _) (nm_r (nI_1 i) (hw _ (by omega)))
end
end
section
/-! the walks of stillLeft, nextStreet -/
def sw_M (M : Nat → Nat) (a6 : Nat → Int32) : Prop := ∀ s, s < 10 → a6 s = nI (M s)
theorem sw_con_c {A B : Nat → Nat} {J K : Nat → Bool} {v : Nat} (h : ∀ s, s < 10 → J s = K s) : sw_con A B J v ↔ sw_con A B K v := by
  constructor
  · intro g C hC hv s hs hK
    exact g C (fun t ht hJ => hC t ht (by rw [← h t ht]; exact hJ)) hv s hs (by rw [h s hs]; exact hK)
  · intro g C hC hv s hs hJ
    exact g C (fun t ht hK => hC t ht (by rw [h t ht]; exact hK)) hv s hs (by rw [← h s hs]; exact hJ)
theorem sw_by1 : ∀ m, m < 3 → 0 < m → (nI m - 1).toInt8.toInt32 = nI (m - 1) := by decide +kernel
theorem sw_by2 : ∀ m, m < 3 → 0 < m → (nI (m - 1) + 1).toInt8.toInt32 = nI m := by decide +kernel
theorem sw_M_de {M : Nat → Nat} {a6 : Nat → Int32} {s : Nat} (h : sw_M M a6) : sw_M (sw_de M s) (upd a6 s (nI (M s - 1))) := by
  intro t ht
  by_cases e : t = s
  · rw [e, pk_us, sw_de_s]
  · rw [pk_un e, sw_de_n e]
    exact h t ht
theorem sw_or2 {r i : Nat} (h : r < 2 ^ i) : r ||| 2 ^ i < 2 ^ (i + 1) := Nat.or_lt_two_pow (by rw [Nat.pow_succ]; omega) (by rw [Nat.pow_succ]; have := Nat.two_pow_pos i; omega)
section
variable {A B L : Nat → Nat} {p : Nat} {f : Int32} {a1 a2 a3 a4 a5 a6 : Nat → Int32}
theorem sw_stillLeft {post : Int32 → Prop} {M : Nat → Nat} (hM : sw_M M a6) (hM2 : ∀ s, s < 10 → M s ≤ 2) (H : ∀ r, r < 1024 → (∀ s, s < 10 → r.testBit s = sw_sp M s) → post (nI r)) : wpX_stillLeft post (f, a1, a2, a3, a4, a5, a6) := by
  unfold wpX_stillLeft
  refine pk_loop (fun n i r => wX_stillLeft_4 post f a1 a2 a3 a4 a5 a6 n (nI r) (nI i)) (fun i r => r < 2 ^ i ∧ ∀ s, s < i → r.testBit s = sw_sp M s) 10 0 0 (by omega) ⟨by omega, fun s hs => absurd hs (by omega)⟩
    (fun n r h => pk_le 10 10 (fun _ => H r h.1 h.2) (fun z => absurd z (by omega)))
    (fun n i r hi h hw => pk_le 10 i (fun z => absurd z (by omega)) (fun _ => ⟨pk_in i 10 hi, ?_⟩))
  have h2 := hM2 i hi
  have hp : 2 ^ i ≤ 2 ^ (i + 1) := Nat.pow_le_pow_right (by omega) (by omega)
  have hri := Nat.testBit_lt_two_pow h.1
  rw [nI_clamp (show i < 2 ^ 31 by omega), hM i hi]
  refine pk_le (M i) 0 (fun z => nm_r (nI_1 i) (hw r ⟨by omega, fun s hs => ?_⟩)) (fun z => nm_r (e' := nI (r ||| 2 ^ i)) (by rw [sw_one i (by omega), sw_or]) (nm_r (nI_1 i) (hw _ ⟨sw_or2 h.1, fun s hs => ?_⟩)))
  · by_cases e : s = i
    · rw [e, hri]
      exact (decide_eq_false (by omega)).symm
    · exact h.2 s (by omega)
  · rw [Nat.testBit_or]
    by_cases e : s = i
    · rw [e, Nat.testBit_two_pow_self, Bool.or_true, sw_sp_t z]
    · rw [Nat.testBit_two_pow_of_ne (fun y => e y.symm), Bool.or_false]
      exact h.2 s (by omega)
theorem sw_n33 {post : Int32 → St1 → Prop} {J : Int32 → (Nat → Int32) → (Nat → Int32) → (Nat → Int32) → (Nat → Int32) → (Nat → Int32) → (Nat → Int32) → Prop} {M : Nat → Nat} {v s : Nat} (hG : sw_G A B L p a1 a2 a3) (hM : sw_M M a6) (hM2 : ∀ s, s < 10 → M s ≤ 2) (hs : s < 10) (ht : A s = v ∨ B s = v)
    (H1 : sw_gd A B M v s → post (nI s) (f, a1, a2, a3, a4, a5, a6)) (H0 : ¬ sw_gd A B M v s → J (nI (s + 1)) a1 a2 a3 a4 a5 a6) : wX_nextStreet_33 post J (nI v) (nI s) 1 f a1 a2 a3 a4 a5 a6 := by
  have h2 := hM2 s hs
  have hA := hG.2.2.2.2.1 s hs
  have hB := hG.2.2.2.2.2.1 s hs
  have hi := pk_in (x := nI s) s 10 hs
  have hb6 : A s + B s - v < 6 := by omega
  have hle : v ≤ A s + B s := by omega
  unfold wX_nextStreet_33
  rw [nI_clamp (show s < 2 ^ 31 by omega), hM s hs, hG.2.1 s hs, hG.2.2.1 s hs]
  refine ⟨hi, pk_le (M s) 0 (fun z => nm_r (nI_1 s) (H0 (fun g => by have := g.1; omega))) (fun z => br_f (by decide) ⟨hi, hi, nm_r (e' := upd a6 s (nI (M s - 1))) (by rw [sw_by1 _ (by omega) z]) ?_⟩)⟩
  refine sw_stillLeft (sw_M_de hM) (fun t ht => Nat.le_trans (sw_de_le M s t) (hM2 t ht)) (fun r hr hrs => ⟨hi, hi, nm_r (e' := nI (A s + B s - v)) (by rw [nI_add, pk_sub hle]) ?_⟩)
  rw [sw_one _ (show A s + B s - v < 31 by omega)]
  refine sw_reached hG hr (sw_p6 _ hb6) (fun c hR hc => ⟨hi, hi, nm_r (e' := a6) ?_ ?_⟩)
  · rw [pk_us, sw_by2 _ (by omega) z]
    funext j
    by_cases e : j = s
    · rw [e, pk_us, hM s hs]
    · rw [pk_un e, pk_un e]
  · refine sw_touched hG hr (fun t hT => ek_if (((sw_dnI (by have := hT.1; omega)).trans (sw_con_R hT hR hc)).trans (sw_con_c hrs)) (fun y => H1 ⟨z, ht, y⟩) (fun y => nm_r (nI_1 s) (H0 (fun g => y g.2.2))))
theorem sw_n33z {post : Int32 → St1 → Prop} {J : Int32 → (Nat → Int32) → (Nat → Int32) → (Nat → Int32) → (Nat → Int32) → (Nat → Int32) → (Nat → Int32) → Prop} {x : Int32} {s : Nat} (hs : s < 10) (H0 : J (nI (s + 1)) a1 a2 a3 a4 a5 a6) : wX_nextStreet_33 post J x (nI s) 0 f a1 a2 a3 a4 a5 a6 := by
  unfold wX_nextStreet_33
  exact ⟨pk_in s 10 hs, br_c (fun _ => nm_r (nI_1 s) H0) (fun _ => br_t rfl (nm_r (nI_1 s) H0))⟩
theorem sw_next {post : Int32 → St1 → Prop} {M : Nat → Nat} {v : Nat} (hG : sw_G A B L p a1 a2 a3) (hM : sw_M M a6) (hM2 : ∀ s, s < 10 → M s ≤ 2) (hv : v < 6)
    (H1 : ∀ s, sw_fs A B M v s → post (nI s) (f, a1, a2, a3, a4, a5, a6)) (H0 : (∀ s, s < 10 → ¬ sw_gd A B M v s) → post (-1) (f, a1, a2, a3, a4, a5, a6)) : wpX_nextStreet post (f, a1, a2, a3, a4, a5, a6) (nI v) := by
  unfold wpX_nextStreet
  refine pk_loop (σ := Unit) (fun n i _ => wX_nextStreet_2 post (nI v) f n (nI i) a1 a2 a3 a4 a5 a6) (fun i _ => ∀ t, t < i → ¬ sw_gd A B M v t) 10 0 () (by omega) (fun t ht => absurd ht (by omega))
    (fun n _ h => pk_le 10 10 (fun _ => H0 h) (fun z => absurd z (by omega)))
    (fun n i _ hi h hw => pk_le 10 i (fun z => absurd z (by omega)) (fun _ => ?_))
  have hA := hG.2.2.2.2.1 i hi
  have hB := hG.2.2.2.2.2.1 i hi
  have hin := pk_in (x := nI i) i 10 hi
  rw [nI_clamp (show i < 2 ^ 31 by omega), hG.2.1 i hi, hG.2.2.1 i hi]
  have N : ∀ g : ¬ sw_gd A B M v i, wX_nextStreet_2 post (nI v) f n (nI (i + 1)) a1 a2 a3 a4 a5 a6 := fun g => hw () (lt_s h g)
  refine ⟨hin, pk_eq (A i) v (fun e => ?_) (fun e => ⟨hin, pk_eq (B i) v (fun e2 => ?_) (fun e2 => sw_n33z hi (N (fun g => g.2.1.elim e e2)))⟩)⟩
  · exact sw_n33 hG hM hM2 hi (Or.inl e) (fun g => H1 i ⟨hi, g, h⟩) N
  · exact sw_n33 hG hM hM2 hi (Or.inr e2) (fun g => H1 i ⟨hi, g, h⟩) N
end
end
section
/-! the walk as a row of streets -/
noncomputable def sw_ns (A B : Nat → Nat) (q : (Nat → Nat) × Nat) : Nat := Classical.epsilon (fun s => sw_fs A B q.1 q.2 s)
theorem sw_ns_e {A B : Nat → Nat} {q : (Nat → Nat) × Nat} {s : Nat} (h : sw_fs A B q.1 q.2 s) : sw_ns A B q = s :=
  sw_fs_u (Classical.epsilon_spec (p := fun s => sw_fs A B q.1 q.2 s) ⟨s, h⟩) h
noncomputable def sw_tr (A B : Nat → Nat) (M : Nat → Nat) (c : Nat) : Nat → (Nat → Nat) × Nat
  | 0 => (M, c)
  | k + 1 => (sw_de (sw_tr A B M c k).1 (sw_ns A B (sw_tr A B M c k)), A (sw_ns A B (sw_tr A B M c k)) + B (sw_ns A B (sw_tr A B M c k)) - (sw_tr A B M c k).2)
theorem sw_tr_I {A B M : Nat → Nat} {c n : Nat} (hA : ∀ s, s < 10 → A s < 6) (hB : ∀ s, s < 10 → B s < 6) (hc : c < 6) (h : sw_wk A B c n c M) : ∀ k, k ≤ n → sw_wk A B c (n - k) (sw_tr A B M c k).2 (sw_tr A B M c k).1 := by
  intro k
  induction k with
  | zero => intro _; exact h
  | succ k ih =>
    intro hk
    have g := ih (by omega)
    rw [show n - k = (n - (k + 1)) + 1 by omega] at g
    obtain ⟨s, h1, h2, h3, h4, h5⟩ := sw_wk_s hA hB hc g
    have e := sw_ns_e h1
    show sw_wk A B c (n - (k + 1)) (A (sw_ns A B (sw_tr A B M c k)) + B (sw_ns A B (sw_tr A B M c k)) - (sw_tr A B M c k).2) (sw_de (sw_tr A B M c k).1 (sw_ns A B (sw_tr A B M c k)))
    rw [e]
    exact h5
theorem sw_tr_s {A B M : Nat → Nat} {c n k : Nat} (hA : ∀ s, s < 10 → A s < 6) (hB : ∀ s, s < 10 → B s < 6) (hc : c < 6) (h : sw_wk A B c n c M) (hk : k < n) : sw_fs A B (sw_tr A B M c k).1 (sw_tr A B M c k).2 (sw_ns A B (sw_tr A B M c k)) ∧ (sw_tr A B M c k).2 ≤ A (sw_ns A B (sw_tr A B M c k)) + B (sw_ns A B (sw_tr A B M c k)) ∧ 0 < (sw_tr A B M c k).1 (sw_ns A B (sw_tr A B M c k)) := by
  have g := sw_tr_I hA hB hc h k (by omega)
  rw [show n - k = (n - (k + 1)) + 1 by omega] at g
  obtain ⟨s, h1, h2, h3, h4, h5⟩ := sw_wk_s hA hB hc g
  rw [sw_ns_e h1]
  exact ⟨h1, h3, h4⟩
/-- how often each street is to be gone along -/
def sw_m0 (p b : Nat) : Nat → Nat := fun t => (p.testBit t).toNat + (b.testBit t).toNat
theorem sw_m0_2 (p b t : Nat) : sw_m0 p b t ≤ 2 := by
  show (p.testBit t).toNat + (b.testBit t).toNat ≤ 2
  cases p.testBit t <;> cases b.testBit t <;> decide
def sw_tc (A B : Nat → Nat) (p c : Nat) : Prop := ∃ s, s < 10 ∧ p.testBit s = true ∧ (A s = c ∨ B s = c)
theorem sw_wk_i {A B : Nat → Nat} {p b c : Nat} (hd : ∀ s, s < 10 → p.testBit s = true → A s ≠ B s) (hb : ∀ t, b.testBit t = true → p.testBit t = true) (hbd : sw_bd A B b.testBit 10 = sw_bd A B p.testBit 10) (hC : sw_Cn A B p) (hc : c < 6) (ht : sw_tc A B p c) : sw_wk A B c (sw_tot (sw_m0 p b) 10) c (sw_m0 p b) := by
  have hsp : ∀ s, s < 10 → sw_sp (sw_m0 p b) s = p.testBit s := by
    intro s _
    show decide (0 < (p.testBit s).toNat + (b.testBit s).toNat) = _
    cases e : p.testBit s
    · cases e2 : b.testBit s
      · rfl
      · rw [hb s e2] at e; exact absurd e (by decide)
    · cases b.testBit s <;> rfl
  refine ⟨hc, rfl, ?_, (sw_con_c hsp).mpr (hC c ht), fun s _ => sw_m0_2 p b s, fun s hs hm => hd s hs ?_⟩
  · have e1 : sw_bd A B (sw_od (sw_m0 p b)) 10 = sw_bd A B (sw_jx p.testBit b.testBit) 10 := sw_bd_c (fun s _ => by
      show decide (((p.testBit s).toNat + (b.testBit s).toNat) % 2 = 1) = (p.testBit s ^^ b.testBit s)
      cases p.testBit s <;> cases b.testBit s <;> rfl)
    rw [e1, sw_bd_x, hbd, Nat.xor_self, Nat.xor_self]
  · rw [← hsp s hs]
    exact sw_sp_t hm
theorem sw_by3 : ∀ x y : Bool, (nI x.toNat + nI y.toNat).toInt8.toInt32 = nI (x.toNat + y.toNat) := by decide +kernel
section
variable {A B L : Nat → Nat} {p : Nat} {f : Int32} {a1 a2 a3 a4 a5 a6 : Nat → Int32}
theorem sw_w106 {post : Int32 → St1 → Prop} {M : Nat → Nat} {c k n : Nat} (hG : sw_G A B L p a1 a2 a3) (hM : sw_M M a6) (hc : c < 6) (hk : k ≤ 19) (hn : n ≤ 20) (hw0 : sw_wk A B c n c M)
    (H1 : k < n → ∀ a6', post (nI (sw_ns A B (sw_tr A B M c k))) (f, a1, a2, a3, a4, a5, a6')) (H0 : n ≤ k → ∀ a6', post (-1) (f, a1, a2, a3, a4, a5, a6')) : ∃ nn, wX_walkAt_106 post (nI k) nn (nI c) (-1) 0 f a1 a2 a3 a4 a5 a6 := by
  have hA := hG.2.2.2.2.1
  have hB := hG.2.2.2.2.2.1
  refine pk_loop (σ := Int32 × (Nat → Int32)) (fun nn i s => wX_walkAt_106 post (nI k) nn (nI (sw_tr A B M c i).2) s.1 (nI i) f a1 a2 a3 a4 a5 s.2) (fun i s => sw_M (sw_tr A B M c i).1 s.2 ∧ ∀ j, i = j + 1 → s.1 = nI (sw_ns A B (sw_tr A B M c j))) (min (k + 1) n) 0 (-1, a6) (by omega) ⟨hM, fun j hj => absurd hj (by omega)⟩ (fun nn s h => ?_) (fun nn i s hi h hw => ?_)
  · by_cases e : k < n
    · rw [Nat.min_eq_left (show k + 1 ≤ n by omega)] at h ⊢
      refine pk_lt k (k + 1) (fun _ => ?_) (fun z => absurd z (by omega))
      rw [h.2 k rfl]
      exact H1 e s.2
    · rw [Nat.min_eq_right (show n ≤ k + 1 by omega)] at h ⊢
      have g := sw_tr_I hA hB hc hw0 n (Nat.le_refl _)
      rw [Nat.sub_self] at g
      refine pk_lt k n (fun z => absurd z (by omega)) (fun _ => sw_next hG h.1 g.2.2.2.2.1 g.1 (fun t ht => absurd ht.2.1 (sw_wk_0 g t ht.1)) (fun _ => br_f (by decide) (H0 (by omega) s.2)))
  · have hin : i < n := by omega
    have g := sw_tr_I hA hB hc hw0 i (by omega)
    obtain ⟨t1, t2, t3⟩ := sw_tr_s hA hB hc hw0 hin
    refine pk_lt k i (fun z => absurd z (by omega)) (fun _ => sw_next hG h.1 g.2.2.2.2.1 g.1 (fun t ht => ?_) (fun z => absurd t1.2.1 (z _ t1.1)))
    have e := sw_ns_e ht
    have hlt := ht.1
    have hm2 := g.2.2.2.2.1 t hlt
    rw [e] at t2 t3
    have hin2 := pk_in (x := nI t) t 10 hlt
    dsimp only
    rw [nI_clamp (show t < 2 ^ 31 by omega), hG.2.1 t hlt, hG.2.2.1 t hlt, h.1 t hlt]
    refine br_t (nI_pos' (by omega)) ⟨hin2, hin2, nm_r (e' := upd s.2 t (nI ((sw_tr A B M c i).1 t - 1))) (by rw [sw_by1 _ (by omega) t3]) ⟨hin2, hin2, nm_r (e' := nI (A t + B t - (sw_tr A B M c i).2)) (by rw [nI_add, pk_sub t2]) (nm_r (nI_1 i) ?_)⟩⟩
    have w := hw (nI t, upd s.2 t (nI ((sw_tr A B M c i).1 t - 1))) ⟨by
      show sw_M (sw_de (sw_tr A B M c i).1 (sw_ns A B (sw_tr A B M c i))) (upd s.2 t (nI ((sw_tr A B M c i).1 t - 1)))
      rw [e]
      exact sw_M_de h.1, fun j hj => by
      have ej : i = j := by omega
      subst ej
      show nI t = _
      rw [e]⟩
    have w' : wX_walkAt_106 post (nI k) nn (nI (A (sw_ns A B (sw_tr A B M c i)) + B (sw_ns A B (sw_tr A B M c i)) - (sw_tr A B M c i).2)) (nI t) (nI (i + 1)) f a1 a2 a3 a4 a5 (upd s.2 t (nI ((sw_tr A B M c i).1 t - 1))) := w
    rw [e] at w'
    exact w'
theorem sw_w72 {post : Int32 → St1 → Prop} {J : Int32 → (Nat → Int32) → (Nat → Int32) → (Nat → Int32) → (Nat → Int32) → (Nat → Int32) → (Nat → Int32) → Prop} {x1 x2 : Int32} {b i : Nat} {x : Bool} (hb : b < 1024) (hi : i < 10) (H : J (nI (i + 1)) a1 a2 a3 a4 a5 (upd a6 i (nI (x.toNat + (b.testBit i).toNat)))) : wX_walkAt_72 post J x1 x2 (nI b) (nI i) (nI x.toNat) f a1 a2 a3 a4 a5 a6 := by
  unfold wX_walkAt_72
  rw [nI_clamp (show i < 2 ^ 31 by omega), sw_bitv (by omega) (by omega), sw_by3]
  exact ⟨pk_in i 10 hi, nm_e (nm_r (nI_1 i) H)⟩
theorem sw_w51 {post : Int32 → St1 → Prop} {b c k : Nat} (hG : sw_G A B L p a1 a2 a3) (hc : c < 6) (hk : k ≤ 19) (hb1 : b < 1024) (hw0 : sw_wk A B c (sw_tot (sw_m0 p b) 10) c (sw_m0 p b))
    (H1 : k < sw_tot (sw_m0 p b) 10 → ∀ a6', post (nI (sw_ns A B (sw_tr A B (sw_m0 p b) c k))) (nI p, a1, a2, a3, a4, a5, a6')) (H0 : sw_tot (sw_m0 p b) 10 ≤ k → ∀ a6', post (-1) (nI p, a1, a2, a3, a4, a5, a6')) : ∃ nn, wX_walkAt_51 post (nI c) (nI k) (nI b) (nI p) nn 0 a1 a2 a3 a4 a5 a6 := by
  have hn : sw_tot (sw_m0 p b) 10 ≤ 20 := sw_tot_le (fun s _ => sw_m0_2 p b s) 10 (Nat.le_refl _)
  have stp : ∀ (i : Nat) (s : Nat → Int32), i < 10 → (∀ t, t < i → s t = nI (sw_m0 p b t)) → ∀ t, t < i + 1 → upd s i (nI (sw_m0 p b i)) t = nI (sw_m0 p b t) := by
    intro i s _ h t ht
    by_cases e : t = i
    · rw [e, pk_us]
    · rw [pk_un e]; exact h t (by omega)
  refine pk_loop (fun nn i s => wX_walkAt_51 post (nI c) (nI k) (nI b) (nI p) nn (nI i) a1 a2 a3 a4 a5 s) (fun i s => ∀ t, t < i → s t = nI (sw_m0 p b t)) 10 0 a6 (by omega) (fun t ht => absurd ht (by omega))
    (fun nn s h => pk_le 10 10 (fun _ => sw_w106 hG h hc hk hn hw0 H1 H0) (fun z => absurd z (by omega)))
    (fun nn i s hi h hw => pk_le 10 i (fun z => absurd z (by omega)) (fun _ => sw_has hG.1 hi (fun z => br_t rfl (sw_w72 (x := false) hb1 hi (hw _ ?_))) (fun z => br_f (by decide) (sw_w72 (x := true) hb1 hi (hw _ ?_)))))
  · have := stp i s hi h
    rw [show sw_m0 p b i = (p.testBit i).toNat + (b.testBit i).toNat from rfl, z] at this
    exact this
  · have := stp i s hi h
    rw [show sw_m0 p b i = (p.testBit i).toNat + (b.testBit i).toNat from rfl, z] at this
    exact this
theorem sw_isCorner {post : Int32 → Prop} {c : Nat} (hc : c < 6) (H : post 1) : wpX_isCorner post () (nI c) := by
  unfold wpX_isCorner
  exact pk_lt c 0 (fun z => absurd z (by omega)) (fun _ => pk_le 6 c (fun z => absurd z (by omega)) (fun _ => H))
theorem sw_walkAt {post : Int32 → St1 → Prop} {e c k : Nat} (hG : sw_G A B L p a1 a2 a3) (hC : sw_Cn A B p) (h0 : sw_jn A B L p (sw_bd A B p.testBit 10) e) (hc : c < 6) (hk : k ≤ 20)
    (H1 : sw_tc A B p c → k < sw_tot (sw_m0 p (sw_bs A B L p e)) 10 → ∀ a4' a5' a6', post (nI (sw_ns A B (sw_tr A B (sw_m0 p (sw_bs A B L p e)) c k))) (nI p, a1, a2, a3, a4', a5', a6'))
    (H0 : (sw_tc A B p c → sw_tot (sw_m0 p (sw_bs A B L p e)) 10 ≤ k) → ∀ a4' a5' a6', post (-1) (nI p, a1, a2, a3, a4', a5', a6')) : wpX_walkAt post (nI p, a1, a2, a3, a4, a5, a6) (nI c) (nI k) := by
  have hb := sw_bs_p h0 (sw_e200 hG h0)
  have hn : sw_tot (sw_m0 p (sw_bs A B L p e)) 10 ≤ 20 := sw_tot_le (fun s _ => sw_m0_2 p _ s) 10 (Nat.le_refl _)
  unfold wpX_walkAt
  refine sw_isCorner hc (br_f (by decide) (pk_lt k 0 (fun z => absurd z (by omega)) (fun _ => pk_lt 19 k (fun z => H0 (fun _ => by omega) _ _ _) (fun hk2 => sw_walkLength hG hC (fun v b4 b5 hv => br_t (nI_pos' (by omega)) ?_)))))
  refine sw_touched hG hG.1 (fun t hT => ek_if (sw_bit0 (by have := hT.1; omega) (by omega)) (fun z => H0 (fun y => ?_) _ _ _) (fun z => ?_))
  · have := (hT.2 c).mpr y
    rw [z] at this
    exact absurd this (by decide)
  · have htc : sw_tc A B p c := (hT.2 c).mp (sw_bT z)
    exact sw_bestSet hG h0 (fun c4 c5 => sw_w51 hG hc hk2 hb.1 (sw_wk_i hG.2.2.2.2.2.2.2 hb.2.1 hb.2.2 hC hc htc) (fun y a6' => H1 htc y _ _ _) (fun y a6' => H0 (fun _ => y) _ _ _))
end
end
section
/-! two bits a street -/
def sw_dg (d : Nat → Nat) : Nat → Nat
  | 0 => 0
  | t + 1 => sw_dg d t + d t * 2 ^ (2 * t)
theorem sw_dg_c {d d' : Nat → Nat} {n : Nat} (h : ∀ t, t < n → d t = d' t) : sw_dg d n = sw_dg d' n := by
  induction n with
  | zero => rfl
  | succ n ih =>
    show sw_dg d n + d n * 2 ^ (2 * n) = sw_dg d' n + d' n * 2 ^ (2 * n)
    rw [ih (fun t ht => h t (by omega)), h n (by omega)]
theorem sw_dg_lt {d : Nat → Nat} {n : Nat} (h : ∀ t, t < n → d t < 4) : sw_dg d n < 2 ^ (2 * n) := by
  induction n with
  | zero => exact (by decide : 0 < 2 ^ 0)
  | succ n ih =>
    show sw_dg d n + d n * 2 ^ (2 * n) < 2 ^ (2 * n + 2)
    have h1 := ih (fun t ht => h t (by omega))
    have h2 := Nat.mul_le_mul_right (2 ^ (2 * n)) (show d n ≤ 3 by have := h n (by omega); omega)
    rw [Nat.pow_add]
    omega
theorem sw_dg_d {d : Nat → Nat} {n s : Nat} (hs : s < n) (h : ∀ t, t < n → d t < 4) : sw_dg d n / 2 ^ (2 * s) % 4 = d s := by
  induction n with
  | zero => omega
  | succ n ih =>
    show (sw_dg d n + d n * 2 ^ (2 * n)) / 2 ^ (2 * s) % 4 = d s
    by_cases e : s = n
    · rw [e, Nat.add_mul_div_right _ _ (Nat.two_pow_pos _), Nat.div_eq_of_lt (sw_dg_lt (fun t ht => h t (by omega))), Nat.zero_add, Nat.mod_eq_of_lt (h n (by omega))]
    · have hp : d n * 2 ^ (2 * n) = (d n * 2 ^ (2 * (n - s) - 2) * 4) * 2 ^ (2 * s) := by
        rw [show 2 * n = (2 * (n - s) - 2) + 2 + 2 * s by omega, Nat.pow_add, Nat.pow_add, ← Nat.mul_assoc, ← Nat.mul_assoc]
      rw [hp, Nat.add_mul_div_right _ _ (Nat.two_pow_pos _), Nat.add_mul_mod_self_right]
      exact ih (by omega) (fun t ht => h t (by omega))
theorem sw_dg_i {d d' : Nat → Nat} {n s : Nat} (hs : s < n) (h1 : d' s = d s + 1) (h2 : ∀ t, t ≠ s → d' t = d t) : sw_dg d' n = sw_dg d n + 2 ^ (2 * s) := by
  induction n with
  | zero => omega
  | succ n ih =>
    show sw_dg d' n + d' n * 2 ^ (2 * n) = sw_dg d n + d n * 2 ^ (2 * n) + 2 ^ (2 * s)
    by_cases e : s = n
    · rw [sw_dg_c (d := d') (d' := d) (fun t ht => h2 t (by omega)), ← e, h1, Nat.add_mul, Nat.one_mul]
      omega
    · rw [ih (by omega), h2 n (fun z => e z.symm)]
      omega
theorem sw_dg_0 {d : Nat → Nat} {n : Nat} (h : ∀ t, t < n → d t = 0) : sw_dg d n = 0 := by
  induction n with
  | zero => rfl
  | succ n ih =>
    show sw_dg d n + d n * 2 ^ (2 * n) = 0
    rw [ih (fun t ht => h t (by omega)), h n (by omega), Nat.zero_mul]
theorem sw_dg_B {d : Nat → Nat} (h : ∀ t, t < 10 → d t < 4) {n : Nat} (hn : n ≤ 10) : sw_dg d n < 1048576 := by
  have h1 := sw_dg_lt (d := d) (n := n) (fun t ht => h t (by omega))
  have h2 : 2 ^ (2 * n) ≤ 2 ^ 20 := Nat.pow_le_pow_right (by omega) (by omega)
  omega
theorem sw_tr_le (A B M : Nat → Nat) (c k t : Nat) : (sw_tr A B M c k).1 t ≤ M t := by
  induction k with
  | zero => exact Nat.le_refl _
  | succ k ih => exact Nat.le_trans (sw_de_le _ _ t) ih
theorem sw_2s (s : Nat) : 2 * nI s = nI (2 * s) := pk_mul 2 s
section
variable {A B L : Nat → Nat} {p : Nat} {f : Int32} {a1 a2 a3 a4 a5 a6 : Nat → Int32}
theorem sw_walk {post : Int32 → St1 → Prop} {e c : Nat} (hG : sw_G A B L p a1 a2 a3) (hC : sw_Cn A B p) (h0 : sw_jn A B L p (sw_bd A B p.testBit 10) e) (hc : c < 6)
    (H : ∀ g a4' a5' a6', (g = 0 ∨ g = sw_dg (sw_m0 p (sw_bs A B L p e)) 10) → post (nI g) (nI p, a1, a2, a3, a4', a5', a6')) : wpL_walk post (nI p, a1, a2, a3, a4, a5, a6) (nI c) := by
  unfold wpL_walk
  by_cases htc : sw_tc A B p c
  · have hb := sw_bs_p h0 (sw_e200 hG h0)
    generalize hbe : sw_bs A B L p e = b at *
    have hA := hG.2.2.2.2.1
    have hB := hG.2.2.2.2.2.1
    have hwk := sw_wk_i hG.2.2.2.2.2.2.2 hb.2.1 hb.2.2 hC hc htc
    have hn : sw_tot (sw_m0 p b) 10 ≤ 20 := sw_tot_le (fun s _ => sw_m0_2 p _ s) 10 (Nat.le_refl _)
    have hd4 : ∀ k t, t < 10 → sw_m0 p b t - (sw_tr A B (sw_m0 p b) c k).1 t < 4 := fun k t _ => by
      have := sw_m0_2 p b t
      omega
    refine Exists.elim (pk_loop (σ := (Nat → Int32) × (Nat → Int32) × (Nat → Int32)) (fun nn k s => wL_walk_4 post (nI c) nn (nI (sw_dg (fun t => sw_m0 p b t - (sw_tr A B (sw_m0 p b) c k).1 t) 10)) (nI k) (nI p) a1 a2 a3 s.1 s.2.1 s.2.2) (fun _ _ => True) (sw_tot (sw_m0 p b) 10) 0 (a4, a5, a6) (by omega) trivial (fun nn s _ => ?_) (fun nn k s hk _ hw => ?_)) (fun nn hnn => ⟨nn, ?_⟩)
    · refine pk_le 21 (sw_tot (sw_m0 p b) 10) (fun z => absurd z (by omega)) (fun _ => ?_)
      refine sw_walkAt hG hC h0 hc hn (fun _ z => absurd z (by rw [hbe]; omega)) (fun _ b4 b5 b6 => br_f (by decide) (H _ b4 b5 b6 (Or.inr ?_)))
      have g := sw_tr_I hA hB hc hwk _ (Nat.le_refl _)
      rw [Nat.sub_self] at g
      exact sw_dg_c (fun t ht => by rw [sw_tot_0 10 g.2.1 t ht, Nat.sub_zero])
    · obtain ⟨t1, t2, t3⟩ := sw_tr_s hA hB hc hwk hk
      refine pk_le 21 k (fun z => absurd z (by omega)) (fun _ => ?_)
      refine sw_walkAt hG hC h0 hc (by omega) (fun _ _ b4 b5 b6 => ?_) (fun z => absurd (z htc) (by rw [hbe]; omega))
      rw [hbe]
      have hs := t1.1
      have hle := sw_tr_le A B (sw_m0 p b) c k (sw_ns A B (sw_tr A B (sw_m0 p b) c k))
      have hm2 := sw_m0_2 p b (sw_ns A B (sw_tr A B (sw_m0 p b) c k))
      have w : wL_walk_4 post (nI c) nn (nI (sw_dg (fun t => sw_m0 p b t - (sw_tr A B (sw_m0 p b) c (k + 1)).1 t) 10)) (nI (k + 1)) (nI p) a1 a2 a3 b4 b5 b6 := hw (b4, b5, b6) trivial
      have ed : sw_dg (fun t => sw_m0 p b t - (sw_tr A B (sw_m0 p b) c (k + 1)).1 t) 10 = sw_dg (fun t => sw_m0 p b t - (sw_tr A B (sw_m0 p b) c k).1 t) 10 + 2 ^ (2 * sw_ns A B (sw_tr A B (sw_m0 p b) c k)) := by
        refine sw_dg_i hs ?_ (fun t ht => ?_)
        · show sw_m0 p b _ - sw_de (sw_tr A B (sw_m0 p b) c k).1 (sw_ns A B (sw_tr A B (sw_m0 p b) c k)) _ = _
          rw [sw_de_s]
          omega
        · show sw_m0 p b t - sw_de (sw_tr A B (sw_m0 p b) c k).1 (sw_ns A B (sw_tr A B (sw_m0 p b) c k)) t = _
          rw [sw_de_n ht]
      rw [ed] at w
      have hdg := sw_dg_d hs (hd4 k)
      have hB2 := sw_dg_B (hd4 k) (Nat.le_refl 10)
      generalize sw_ns A B (sw_tr A B (sw_m0 p b) c k) = s at *
      generalize sw_dg (fun t => sw_m0 p b t - (sw_tr A B (sw_m0 p b) c k).1 t) 10 = G at *
      refine br_t (nI_pos' (by omega)) (pk_lt 9 s (fun z => absurd z (by omega)) (fun _ => ?_))
      rw [sw_2s, pk_shrN (by omega) _ (2 * s) (sw_s_l _ (by omega)), pk_andN (n := G / 2 ^ (2 * s)) (by have := Nat.div_le_self G (2 ^ (2 * s)); omega) 2 (by decide), sw_one _ (by omega)]
      have hdg' : G / 2 ^ (2 * s) % 2 ^ 2 = sw_m0 p b s - (sw_tr A B (sw_m0 p b) c k).1 s := hdg
      rw [hdg']
      exact pk_eq (sw_m0 p b s - (sw_tr A B (sw_m0 p b) c k).1 s) 3 (fun z => absurd z (by omega)) (fun _ => nm_r (nI_add _ _) (nm_r (nI_1 k) w))
    · have h1 : wL_walk_4 post (nI c) nn (nI (sw_dg (fun t => sw_m0 p b t - (sw_tr A B (sw_m0 p b) c 0).1 t) 10)) (nI 0) (nI p) a1 a2 a3 a4 a5 a6 := hnn
      rw [sw_dg_0 (d := fun t => sw_m0 p b t - (sw_tr A B (sw_m0 p b) c 0).1 t) (fun t _ => Nat.sub_self (sw_m0 p b t))] at h1
      exact h1
  · exact ⟨1, pk_le 21 0 (fun z => absurd z (by omega)) (fun _ => sw_walkAt hG hC h0 hc (k := 0) (by omega) (fun y => absurd y htc) (fun _ b4 b5 b6 => br_f (by decide) (H 0 b4 b5 b6 (Or.inl rfl))))⟩
theorem sw_l117 {e N : Nat} {xs : Nat → Int32} {kc ks : Nat} (hG : sw_G A B L p a1 a2 a3) (hC : sw_Cn A B p) (h0 : sw_jn A B L p (sw_bd A B p.testBit 10) e) : ∃ n, wL_law_117 (fun r => r = 1) N xs (nI p) (nI (sw_bs A B L p e)) (nI (sw_dg (sw_m0 p (sw_bs A B L p e)) 10)) kc ks n 0 (nI p) a1 a2 a3 a4 a5 a6 := by
  have hb := sw_bs_p h0 (sw_e200 hG h0)
  have hB2 : sw_dg (sw_m0 p (sw_bs A B L p e)) 10 < 1048576 := sw_dg_B (fun t _ => by have := sw_m0_2 p (sw_bs A B L p e) t; omega) (Nat.le_refl 10)
  refine pk_loop (σ := (Nat → Int32) × (Nat → Int32) × (Nat → Int32)) (fun n c s => wL_law_117 (fun r => r = 1) N xs (nI p) (nI (sw_bs A B L p e)) (nI (sw_dg (sw_m0 p (sw_bs A B L p e)) 10)) kc ks n (nI c) (nI p) a1 a2 a3 s.1 s.2.1 s.2.2) (fun _ _ => True) 6 0 (a4, a5, a6) (by omega) trivial
    (fun n s _ => pk_le 6 6 (fun _ => pk_lt (sw_bs A B L p e) 0 (fun z => absurd z (by omega)) (fun _ => ek_if (sw_dnI (by omega)) (fun _ => rfl) (fun z => absurd hb.2.1 z))) (fun z => absurd z (by omega)))
    (fun n c s hc _ hw => pk_le 6 c (fun z => absurd z (by omega)) (fun _ => sw_walk hG hC h0 hc (fun g b4 b5 b6 hg => ?_)))
  have w := hw (b4, b5, b6) trivial
  exact pk_eq g (sw_dg (sw_m0 p (sw_bs A B L p e)) 10) (fun _ => nm_r (nI_1 c) w) (fun z => pk_eq g 0 (fun _ => nm_r (nI_1 c) w) (fun y => absurd hg (by omega)))
theorem sw_l78 {e N : Nat} {xs : Nat → Int32} {kc ks : Nat} (hG : sw_G A B L p a1 a2 a3) (hC : sw_Cn A B p) (h0 : sw_jn A B L p (sw_bd A B p.testBit 10) e) : ∃ n, wL_law_78 (fun r => r = 1) N xs (nI p) (nI (sw_bs A B L p e)) kc ks (nI p) a1 a2 a3 a4 a5 a6 n 0 0 := by
  have hb := sw_bs_p h0 (sw_e200 hG h0)
  have hp := hG.1
  have hd : ∀ t, t < 10 → sw_m0 p (sw_bs A B L p e) t < 4 := fun t _ => by have := sw_m0_2 p (sw_bs A B L p e) t; omega
  refine pk_loop (σ := Unit) (fun n i _ => wL_law_78 (fun r => r = 1) N xs (nI p) (nI (sw_bs A B L p e)) kc ks (nI p) a1 a2 a3 a4 a5 a6 n (nI (sw_dg (sw_m0 p (sw_bs A B L p e)) i)) (nI i)) (fun _ _ => True) 10 0 () (by omega) trivial
    (fun n _ _ => pk_le 10 10 (fun _ => sw_l117 hG hC h0) (fun z => absurd z (by omega)))
    (fun n i _ hi _ hw => pk_le 10 i (fun z => absurd z (by omega)) (fun _ => nm_r ?_ (nm_r (nI_1 i) (hw () trivial))))
  have h1 := sw_dg_lt (d := sw_m0 p (sw_bs A B L p e)) (n := i) (fun t ht => hd t (by omega))
  have h2 : 2 ^ (2 * i) ≤ 2 ^ 18 := Nat.pow_le_pow_right (by omega) (by omega)
  have h3 : sw_m0 p (sw_bs A B L p e) i * 2 ^ (2 * i) ≤ 2 * 2 ^ (2 * i) := Nat.mul_le_mul_right _ (sw_m0_2 _ _ _)
  rw [sw_bitv (by omega) (by omega), sw_bitv (by omega) (by omega), nI_add, sw_2s, pk_shlN (n := (p.testBit i).toNat + ((sw_bs A B L p e).testBit i).toNat) _ (2 * i) (sw_s_l _ (by omega)) (by show sw_m0 p (sw_bs A B L p e) i * 2 ^ (2 * i) < 2 ^ 32; omega), sw_or]
  show nI (sw_dg (sw_m0 p (sw_bs A B L p e)) i ||| sw_m0 p (sw_bs A B L p e) i * 2 ^ (2 * i)) = nI (sw_dg (sw_m0 p (sw_bs A B L p e)) i + sw_m0 p (sw_bs A B L p e) i * 2 ^ (2 * i))
  rw [Nat.or_comm, Nat.mul_comm, ← Nat.two_pow_add_eq_or_of_lt h1, Nat.add_comm]
end
end
section
/-! the walks of turn and sets -/
def sw_pt (F : Nat → Nat) (s x : Nat) : Nat → Nat := fun t => if t = s then x else F t
theorem sw_pt_s (F : Nat → Nat) (s x : Nat) : sw_pt F s x s = x := if_pos rfl
theorem sw_pt_n {F : Nat → Nat} {s x t : Nat} (h : t ≠ s) : sw_pt F s x t = F t := if_neg h
theorem sw_pt_u {F : Nat → Nat} {a : Nat → Int32} {s x : Nat} (h : ∀ t, t < 10 → a t = nI (F t)) : ∀ t, t < 10 → upd a s (nI x) t = nI (sw_pt F s x t) := by
  intro t ht
  by_cases e : t = s
  · rw [e, pk_us, sw_pt_s]
  · rw [pk_un e, sw_pt_n e]; exact h t ht
theorem sw_pt_b {F : Nat → Nat} {s x b : Nat} (h : ∀ t, t < 10 → F t < b) (hx : x < b) : ∀ t, t < 10 → sw_pt F s x t < b := by
  intro t ht
  by_cases e : t = s
  · rw [e, sw_pt_s]; exact hx
  · rw [sw_pt_n e]; exact h t ht
section
variable {A B L : Nat → Nat} {p : Nat} {f : Int32} {a1 a2 a3 a4 a5 a6 : Nat → Int32}
theorem sw_setLength {post : Int32 → St1 → Prop} {s l : Nat} (hG : sw_G A B L p a1 a2 a3) (hs : s < 10) (hl : l ≤ 20)
    (H : ∀ r L' a3', sw_G A B L' p a1 a2 a3' → post r (nI p, a1, a2, a3', a4, a5, a6)) : wpX_setLength post (nI p, a1, a2, a3, a4, a5, a6) (nI s) (nI l) := by
  unfold wpX_setLength
  refine sw_has hG.1 hs (fun z => br_t rfl (H 0 L a3 hG)) (fun z => br_f (by decide) (pk_lt l 0 (fun y => absurd y (by omega)) (fun _ => pk_le l 20 (fun _ => ⟨pk_in s 10 hs, nm_r (e' := upd a3 s (nI l)) ?_ (H 1 (sw_pt L s l) _ ?_)⟩) (fun y => absurd y (by omega)))))
  · rw [nI_clamp (show s < 2 ^ 31 by omega), sw_byte l (by omega)]
  · obtain ⟨g0, g1, g2, g3, g4, g5, g6, g7⟩ := hG
    refine ⟨g0, g1, g2, sw_pt_u g3, g4, g5, fun t ht => ?_, g7⟩
    have := sw_pt_b (F := L) (s := s) (x := l) (b := 21) (fun t ht => by have := g6 t ht; omega) (by omega) t ht
    omega
theorem sw_close {post : Int32 → St1 → Prop} {s : Nat} (hG : sw_G A B L p a1 a2 a3) (hs : s < 10)
    (H : ∀ r p', sw_G A B L p' a1 a2 a3 → post r (nI p', a1, a2, a3, a4, a5, a6)) : wpX_close post (nI p, a1, a2, a3, a4, a5, a6) (nI s) := by
  unfold wpX_close
  refine sw_has hG.1 hs (fun z => br_t rfl (H 0 p hG)) (fun z => br_f (by decide) (nm_r (e' := nI (sw_dn p (2 ^ s))) (sw_neg (by omega)) (H 1 (sw_dn p (2 ^ s)) ?_)))
  obtain ⟨g0, g1, g2, g3, g4, g5, g6, g7⟩ := hG
  exact ⟨sw_dn_lt (n := 10) g0, g1, g2, g3, g4, g5, g6, fun t ht hb => g7 t ht (sw_dn_s hb)⟩
theorem sw_build {post : Int32 → St1 → Prop} {a b l : Nat} (hG : sw_G A B L p a1 a2 a3) (ha : a < 6) (hb : b < 6) (hl : l ≤ 20)
    (H : ∀ r A' B' L' p' a1' a2' a3', sw_G A' B' L' p' a1' a2' a3' → post r (nI p', a1', a2', a3', a4, a5, a6)) : wpX_build post (nI p, a1, a2, a3, a4, a5, a6) (nI a) (nI b) (nI l) := by
  unfold wpX_build
  refine pk_eq a b (fun _ => H _ A B L p _ _ _ hG) (fun hab => sw_isCorner ha (br_f (by decide) (sw_isCorner hb (br_f (by decide) (pk_lt l 0 (fun y => absurd y (by omega)) (fun _ => pk_le l 20 (fun _ => ?_) (fun y => absurd y (by omega))))))))
  refine pk_loop (σ := Unit) (fun n i _ => wX_build_34 post (nI a) (nI b) (nI l) (nI p) a1 a2 a3 a4 a5 a6 n (nI i)) (fun _ _ => True) 10 0 () (by omega) trivial
    (fun n _ _ => pk_le 10 10 (fun _ => H _ A B L p _ _ _ hG) (fun z => absurd z (by omega)))
    (fun n i _ hi _ hw => pk_le 10 i (fun z => absurd z (by omega)) (fun _ => sw_has hG.1 hi (fun z => br_t rfl ?_) (fun z => br_f (by decide) (nm_r (nI_1 i) (hw () trivial)))))
  have hin := pk_in (x := nI i) i 10 hi
  rw [nI_clamp (show i < 2 ^ 31 by omega), sw_byte a (by omega), sw_byte b (by omega), sw_byte l (by omega)]
  refine nm_r (e' := nI (p ||| 2 ^ i)) (by rw [sw_one i (by omega), sw_or]) ⟨hin, nm_e ⟨hin, nm_e ⟨hin, nm_e (H _ (sw_pt A i a) (sw_pt B i b) (sw_pt L i l) (p ||| 2 ^ i) _ _ _ ?_)⟩⟩⟩
  obtain ⟨g0, g1, g2, g3, g4, g5, g6, g7⟩ := hG
  refine ⟨Nat.or_lt_two_pow (n := 10) g0 (sw_p10 i hi), sw_pt_u g1, sw_pt_u g2, sw_pt_u g3, sw_pt_b g4 ha, sw_pt_b g5 hb, fun t ht => ?_, fun t ht hbt => ?_⟩
  · have := sw_pt_b (F := L) (s := i) (x := l) (b := 21) (fun t ht => by have := g6 t ht; omega) (by omega) t ht
    omega
  · by_cases e : t = i
    · rw [e, sw_pt_s, sw_pt_s]
      exact hab
    · rw [sw_pt_n e, sw_pt_n e]
      rw [Nat.testBit_or, Nat.testBit_two_pow_of_ne (fun y => e y.symm), Bool.or_false] at hbt
      exact g7 t ht hbt
theorem sw_turn {post : St1 → Prop} (w x y : Int32) (hG : sw_G A B L p a1 a2 a3)
    (H : ∀ A' B' L' p' a1' a2' a3', sw_G A' B' L' p' a1' a2' a3' → post (nI p', a1', a2', a3', a4, a5, a6)) : wpL_turn post (nI p, a1, a2, a3, a4, a5, a6) w x y := by
  obtain ⟨jx, hjx, ex⟩ := pk_andE x (m := 65535) 16 (by decide)
  obtain ⟨jy, hjy, ey⟩ := pk_andE y (m := 65535) 16 (by decide)
  obtain ⟨ly, hly, el⟩ := pk_andE y (m := 15) 4 (by decide)
  obtain ⟨lx, hlx, em⟩ := pk_andE (x >>> ((16 : Int32) &&& 31)) (m := 15) 4 (by decide)
  unfold wpL_turn
  rw [ex, ey, el, em]
  refine ⟨by decide, nm_r (pk_rem (d := 10) (by omega) (by omega) (by omega)) (br_c (fun _ => br_c (fun _ => ?_) (fun _ => ?_)) (fun _ => ⟨by decide, by decide, ?_⟩))⟩
  · exact sw_setLength hG (Nat.mod_lt _ (by omega)) (by omega) (fun r L' a3' h => H A B L' p a1 a2 a3' h)
  · exact sw_close hG (Nat.mod_lt _ (by omega)) (fun r p' h => H A B L p' a1 a2 a3 h)
  · have e1 : nI jx - nI jx / 5 * 5 = nI (jx % 5) := pk_rem (d := 5) (by omega) (by omega) (by omega)
    have e2 : nI jy - nI jy / 5 * 5 = nI (jy % 5) := pk_rem (d := 5) (by omega) (by omega) (by omega)
    rw [e1, e2]
    exact sw_build hG (by omega) (by omega) (by omega) (fun r A' B' L' p' a1' a2' a3' h => H A' B' L' p' a1' a2' a3' h)
theorem sw_s99 {post : Int32 → St1 → Prop} {J : Int32 → Int32 → (Nat → Int32) → (Nat → Int32) → (Nat → Int32) → (Nat → Int32) → (Nat → Int32) → (Nat → Int32) → Prop} {x z x2 : Int32} {i : Nat} (hz : z = x) (H : J (nI (i + 1)) f a1 a2 a3 a4 a5 a6) : wL_sets_99 post J x x2 (nI i) z f a1 a2 a3 a4 a5 a6 := by
  unfold wL_sets_99
  exact br_t hz (nm_r (nI_1 i) H)
theorem sw_sets {post : Int32 → St1 → Prop} (hG : sw_G A B L p a1 a2 a3) (H : ∀ a4' a5', post 1 (nI p, a1, a2, a3, a4', a5', a6)) : wpL_sets post (nI p, a1, a2, a3, a4, a5, a6) := by
  unfold wpL_sets
  refine sw_extra hG (fun e b4 b5 he hj => ?_)
  have hlt := sw_bdl hG p.testBit
  have hp := hG.1
  have loop : ∃ n, wL_sets_32 post (nI e) (nI p) n 0 (nI p) a1 a2 a3 b4 b5 a6 := by
    refine pk_loop (σ := (Nat → Int32) × (Nat → Int32)) (fun n i s => wL_sets_32 post (nI e) (nI p) n (nI i) (nI p) a1 a2 a3 s.1 s.2 a6) (fun _ _ => True) 10 0 (b4, b5) (by omega) trivial
      (fun n s _ => pk_le 10 10 (fun _ => H s.1 s.2) (fun z => absurd z (by omega)))
      (fun n i s hi _ hw => pk_le 10 i (fun z => absurd z (by omega)) (fun _ => ek_if (sw_bit1 (by omega) (by omega)) (fun z => ?_) (fun z => nm_r (nI_1 i) (hw s trivial))))
    refine sw_extraWith hG hi z (fun w c4 c5 hw1 => ⟨fun hwl => ?_, fun hwl => ?_⟩)
    · refine sw_extraWithout hG hi z (fun x d4 d5 hx1 => ?_)
      obtain ⟨q1, q2, q3⟩ := sw_jn_s hi z (by omega) hj hw1 hx1
      have hk := hw (d4, d5) trivial
      refine ⟨fun y => absurd q3 (by omega), fun y => br_f (by decide) (sw_s99 (congrArg nI ?_) hk)⟩
      have := q2 y
      omega
    · have hL := hG.2.2.2.2.2.2.1 i hi
      refine sw_extraWithout hG hi z (fun x d4 d5 hx1 => ?_)
      obtain ⟨q1, q2, q3⟩ := sw_jn_s hi z (by omega) hj hw1 hx1
      have hk := hw (d4, d5) trivial
      have q4 := q1 hwl
      refine ⟨fun y => br_t (nI_pos' (by omega)) (br_f (by decide) (sw_s99 (congrArg nI ?_) hk)), fun y => br_t (nI_pos' (by omega)) (br_t (nI_pos' (by omega)) (pk_le x (w + L i) (fun t => sw_s99 (congrArg nI ?_) hk) (fun t => sw_s99 (congrArg nI ?_) hk)))⟩
      · omega
      · have := q2 y
        omega
      · have := q2 y
        omega
  have hr : wpX_odd (fun r_22 => (nI e < 0 → post 0 (nI p, a1, a2, a3, b4, b5, a6)) ∧ (¬ nI e < 0 → (r_22 = 0 → (nI e = 0 → ∃ fu32 : Nat, wL_sets_32 post (nI e) (nI p) fu32 0 (nI p) a1 a2 a3 b4 b5 a6) ∧ (¬ nI e = 0 → post 0 (nI p, a1, a2, a3, b4, b5, a6))) ∧ (¬ r_22 = 0 → ∃ fu32 : Nat, wL_sets_32 post (nI e) (nI p) fu32 0 (nI p) a1 a2 a3 b4 b5 a6))) (nI p, a1, a2, a3, b4, b5, a6) := by
    refine sw_odd hG (pk_lt e 0 (fun z => absurd z (by omega)) (fun _ => pk_eq (sw_bd A B p.testBit 10) 0 (fun z => pk_eq e 0 (fun _ => loop) (fun y => ?_)) (fun _ => loop)))
    have h1 := hj.1 0 (by rw [z]; exact sw_ok_0 A B L p 0)
    exact absurd h1 (by omega)
  exact hr
end
end
section
theorem sw_law {xs : Nat → Int32} {N kc ks : Nat} (hN : N ≤ 260) : ∃ n, wL_law_10 (fun r => r = 1) N xs kc ks n 0 0 (fun _ => 0) (fun _ => 0) (fun _ => 0) (fun _ => 0) (fun _ => 0) (fun _ => 0) := by
  refine pk_loop (σ := St1) (fun n i s => wL_law_10 (fun r => r = 1) N xs kc ks n (nI (3 * i)) s.1 s.2.1 s.2.2.1 s.2.2.2.1 s.2.2.2.2.1 s.2.2.2.2.2.1 s.2.2.2.2.2.2) (fun _ s => ∃ A B L p, s.1 = nI p ∧ sw_G A B L p s.2.1 s.2.2.1 s.2.2.2.1) (N / 3) 0 (0, (fun _ => 0), (fun _ => 0), (fun _ => 0), (fun _ => 0), (fun _ => 0), (fun _ => 0)) (by omega) ?_ ?_ ?_
  · exact ⟨fun _ => 0, fun _ => 0, fun _ => 0, 0, rfl, by omega, fun _ _ => rfl, fun _ _ => rfl, fun _ _ => rfl, fun _ _ => (by decide : (0 : Nat) < 6), fun _ _ => (by decide : (0 : Nat) < 6), fun _ _ => Nat.zero_le 20, fun s _ h => absurd h (by rw [Nat.zero_testBit]; decide)⟩
  · rintro n ⟨f, a1, a2, a3, a4, a5, a6⟩ ⟨A, B, L, p, h1, hG⟩
    dsimp only at h1 hG ⊢
    subst h1
    refine pk_le N (3 * (N / 3) + 2) (fun _ => ?_) (fun z => absurd z (by omega)) (hy := nI_add _ 2)
    refine sw_connected hG (fun hC => br_f (by decide) ?_) (fun _ => br_t rfl rfl)
    have hex : ∃ e, sw_jn A B L p (sw_bd A B p.testBit 10) e := by
      obtain ⟨e, g1, g2⟩ := pk_least (fun v => sw_ok A B L p (sw_bd A B p.testBit 10) v) ⟨_, sw_ok_a A B L p⟩
      exact ⟨e, fun u hu => by
        rcases Nat.lt_or_ge u e with z | z
        · exact absurd hu (g2 u z)
        · exact z, fun _ => g1⟩
    obtain ⟨e, he⟩ := hex
    exact sw_bestSet hG he (fun b4 b5 => sw_l78 hG hC he)
  · rintro n i ⟨f, a1, a2, a3, a4, a5, a6⟩ hi ⟨A, B, L, p, h1, hG⟩ hw
    dsimp only at h1 hG hw ⊢
    subst h1
    have e1 : nI (3 * i) + 1 = nI (3 * i + 1) := nI_add _ 1
    have e2 : nI (3 * i) + 2 = nI (3 * i + 2) := nI_add _ 2
    have e3 : nI (3 * i) + 3 = nI (3 * (i + 1)) := nI_add _ 3
    refine pk_le N (3 * i + 2) (fun z => absurd z (by omega)) (fun _ => ?_) (hy := e2)
    refine ⟨pk_in (3 * i) N (by omega), pk_in (3 * i + 1) N (by omega) (hx := e1), pk_in (3 * i + 2) N (by omega) (hx := e2), ?_⟩
    refine sw_turn _ _ _ hG (fun A' B' L' p' a1' a2' a3' h => sw_sets h (fun b4 b5 => br_f (by decide) (nm_r e3 ?_)))
    exact hw (nI p', a1', a2', a3', b4, b5, a6) ⟨A', B', L', p', rfl, h⟩
theorem i_vc (xs : Nat → Int32) (L : Nat) (hL : L ≤ 260) : wpL_law (fun r => r = 1) L xs := by
  unfold wpL_law
  refine ⟨6, 140, by omega, by omega, ?_⟩
  unfold wpX_init
  exact ⟨by omega, by omega, by omega, by omega, by omega, by omega, by omega, by omega, by omega, by omega, by omega, by omega, sw_law hL⟩
end
