section
/-! bits of an int, and a count (the rows on ct_b began as the family 'bt' of kit/laws/BITS) -/
def ct_b (x : Int32) (i : Nat) : Bool := x.toBitVec.getLsbD i
theorem ct_bext {x y : Int32} (h : ∀ i, i < 32 → ct_b x i = ct_b y i) : x = y := Int32.toBitVec_inj.mp (BitVec.eq_of_getLsbD_eq (fun i hi => h i hi))
theorem ct_bor (x y : Int32) (i : Nat) : ct_b (x ||| y) i = (ct_b x i || ct_b y i) := by unfold ct_b; rw [Int32.toBitVec_or, BitVec.getLsbD_or]
theorem ct_band (x y : Int32) (i : Nat) : ct_b (x &&& y) i = (ct_b x i && ct_b y i) := by unfold ct_b; rw [Int32.toBitVec_and, BitVec.getLsbD_and]
theorem ct_bxor (x y : Int32) (i : Nat) : ct_b (x ^^^ y) i = (ct_b x i ^^ ct_b y i) := by unfold ct_b; rw [Int32.toBitVec_xor, BitVec.getLsbD_xor]
theorem ct_bm1 : ∀ i, i < 32 → ct_b (-1) i = true := by decide +kernel
theorem ct_b0 (i : Nat) : ct_b 0 i = false := BitVec.getLsbD_zero
theorem ct_b1 : ∀ j, j < 32 → ct_b 1 j = decide (j = 0) := by decide +kernel
theorem ct_sl : ∀ n, n < 32 → ((nI n &&& 31).toBitVec.smod 32).toNat = n := by decide +kernel
theorem ct_bshl (n : Nat) (hn : n < 32) (x : Int32) {i : Nat} (hi : i < 32) : ct_b (x <<< (nI n &&& 31)) i = (decide (n ≤ i) && ct_b x (i - n)) := by
  unfold ct_b
  rw [Int32.toBitVec_shiftLeft]
  show (x.toBitVec <<< ((nI n &&& 31).toBitVec.smod 32).toNat).getLsbD i = _
  rw [ct_sl n hn, BitVec.getLsbD_shiftLeft]
  rcases Nat.lt_or_ge i n with h | h
  · simp [h, Nat.not_le.mpr h]
  · simp [hi, h, Nat.not_lt.mpr h]
theorem ct_bshr (n : Nat) (hn : n < 32) (x : Int32) {i : Nat} (hi : i < 32) : ct_b (x >>> (nI n &&& 31)) i = if n + i < 32 then ct_b x (n + i) else ct_b x 31 := by
  unfold ct_b
  rw [Int32.toBitVec_shiftRight]
  show (x.toBitVec.sshiftRight ((nI n &&& 31).toBitVec.smod 32).toNat).getLsbD i = _
  rw [ct_sl n hn, BitVec.getLsbD_sshiftRight, BitVec.msb_eq_getLsbD_last]
  simp [hi]
/-- the bit n of x, as the code reads it -/
theorem ct_bit {x : Int32} {n : Nat} (hn : n < 31) : (x >>> (nI n &&& 31)) &&& 1 = nI (ct_b x n).toNat := by
  apply ct_bext
  intro j hj
  rw [ct_band, ct_bshr n (by omega) x hj, ct_b1 j hj]
  by_cases e : j = 0
  · subst e
    rw [if_pos (show n + 0 < 32 by omega), Nat.add_zero]
    cases ct_b x n
    · decide +kernel
    · decide +kernel
  · rw [decide_eq_false e, Bool.and_false]
    cases ct_b x n
    · exact (ct_b0 j).symm
    · exact ((ct_b1 j hj).trans (decide_eq_false e)).symm
theorem ct_bit1 {x : Int32} {n : Nat} (hn : n < 31) : (x >>> (nI n &&& 31)) &&& 1 = 1 ↔ ct_b x n = true := by
  rw [ct_bit hn]
  cases ct_b x n <;> decide +kernel
theorem ct_bit0 {x : Int32} {n : Nat} (hn : n < 31) : (x >>> (nI n &&& 31)) &&& 1 = 0 ↔ ¬ ct_b x n = true := by
  rw [ct_bit hn]
  cases ct_b x n <;> decide +kernel
/-- one bit alone -/
theorem ct_one {n : Nat} (hn : n < 32) {j : Nat} (hj : j < 32) : ct_b ((1 : Int32) <<< (nI n &&& 31)) j = decide (j = n) := by
  rw [ct_bshl n hn 1 hj]
  by_cases h : n ≤ j
  · rw [ct_b1 (j - n) (by omega), decide_eq_true h, Bool.true_and]
    exact decide_eq_decide.mpr (by omega)
  · rw [decide_eq_false h, Bool.false_and, decide_eq_false (by omega)]
/-- a bit cleared, then set -/
theorem ct_put (x : Int32) {n : Nat} (hn : n < 32) {j : Nat} (hj : j < 32) : ct_b ((x &&& (((1 : Int32) <<< (nI n &&& 31)) ^^^ (-1))) ||| ((1 : Int32) <<< (nI n &&& 31))) j = (decide (j = n) || ct_b x j) := by
  rw [ct_bor, ct_band, ct_bxor, ct_one hn hj, ct_bm1 j hj]
  cases decide (j = n) <;> cases ct_b x j <;> rfl
/-! the count of f below k -/
def ct_n (f : Nat → Bool) : Nat → Nat
  | 0 => 0
  | k + 1 => ct_n f k + (f k).toNat
theorem ct_n_congr {f g : Nat → Bool} {k : Nat} (h : ∀ i, i < k → f i = g i) : ct_n f k = ct_n g k := by
  induction k with
  | zero => rfl
  | succ k ih =>
    show ct_n f k + (f k).toNat = ct_n g k + (g k).toNat
    rw [ih (fun i hi => h i (by omega)), h k (by omega)]
theorem ct_n_le (f : Nat → Bool) (k : Nat) : ct_n f k ≤ k := by
  induction k with
  | zero => exact Nat.le_refl 0
  | succ k ih =>
    show ct_n f k + (f k).toNat ≤ k + 1
    have := Bool.toNat_le (f k)
    omega
theorem ct_n_lt {f : Nat → Bool} {k i : Nat} (hi : i < k) (h : f i = false) : ct_n f k < k := by
  induction k with
  | zero => omega
  | succ k ih =>
    show ct_n f k + (f k).toNat < k + 1
    by_cases e : i = k
    · subst e
      have := ct_n_le f i
      rw [h]
      show ct_n f i + 0 < i + 1
      omega
    · have h1 := ih (by omega)
      have h2 := Bool.toNat_le (f k)
      omega
theorem ct_n_flip {f g : Nat → Bool} {k i : Nat} (hi : i < k) (hf : f i = true) (hg : g i = false) (h : ∀ j, j < k → j ≠ i → f j = g j) : ct_n f k = ct_n g k + 1 := by
  induction k with
  | zero => omega
  | succ k ih =>
    show ct_n f k + (f k).toNat = ct_n g k + (g k).toNat + 1
    by_cases e : i = k
    · subst e
      rw [ct_n_congr (fun j hj => h j (by omega) (by omega)), hf, hg]
      rfl
    · rw [ih (by omega) (fun j hj hne => h j (by omega) hne), h k (by omega) (fun z => e z.symm)]
      omega
theorem ct_n_pos {f : Nat → Bool} {k : Nat} (h : 0 < ct_n f k) : ∃ i, i < k ∧ f i = true := by
  induction k with
  | zero => exact absurd h (Nat.lt_irrefl 0)
  | succ k ih =>
    by_cases e : f k = true
    · exact ⟨k, by omega, e⟩
    · have e' : f k = false := by
        cases hf : f k
        · rfl
        · exact absurd hf e
      have h' : 0 < ct_n f k + (f k).toNat := h
      rw [e'] at h'
      obtain ⟨i, hi, hfi⟩ := ih h'
      exact ⟨i, by omega, hfi⟩
theorem ct_n_0 {f : Nat → Bool} {k : Nat} (h : ct_n f k = 0) : ∀ i, i < k → f i = false := by
  intro i hi
  induction k with
  | zero => omega
  | succ k ih =>
    have h' : ct_n f k + (f k).toNat = 0 := h
    by_cases e : i = k
    · subst e
      cases hf : f i
      · rfl
      · rw [hf] at h'
        exact absurd h' (Nat.succ_ne_zero _)
    · exact ih (by omega) (by omega)
end
section
/-! the picture: a position p < 432, a code c < 13 -/
/-- code c is a move of p (whether p is over or not) -/
def ct_ed (gW tW : Int32) (o : Nat → Int32) (p c : Nat) : Bool :=
  if p % 2 = 1 then (if c = 12 then decide (¬ tW = 0) else (decide (c < 6) && ct_b (o (p / 2 % 6)) c))
  else (if c = 12 then decide (¬ gW = 0) else (if c < 6 then ct_b (o (p / 72)) c else ct_b (o (p / 12 % 6)) (c - 6)))
/-- where it leads -/
def ct_tg (p c : Nat) : Nat :=
  if p % 2 = 1 then (if c = 12 then p - 1 else p - 1 - 2 * (p / 2 % 6) + 2 * c)
  else (if c = 12 then p + 1 else (if c < 6 then p + 1 - 72 * (p / 72) + 72 * c else p + 1 - 12 * (p / 12 % 6) + 12 * (c - 6)))
/-- who has won p at once -/
def ct_ov (ex : Int32) (p : Nat) : Nat :=
  if p / 2 % 6 = p / 72 then 1 else if p / 2 % 6 = p / 12 % 6 then 1 else if ct_b ex (p / 2 % 6) = true then 2 else 0
theorem ct_ov_lt (ex : Int32) (p : Nat) : ct_ov ex p < 3 := by
  unfold ct_ov
  split
  · decide
  · split
    · decide
    · split
      · decide
      · decide
/-- out and in agree -/
def ct_M (o inn : Nat → Int32) : Prop := ∀ a, a < 6 → ∀ c, c < 6 → ct_b (o a) c = ct_b (inn c) a
section
variable {gW tW ex : Int32} {o w f m q : Nat → Int32} {N n p c : Nat}
theorem ct_ed_odd (hs : p % 2 = 1) (h12 : ¬ c = 12) : ct_ed gW tW o p c = (decide (c < 6) && ct_b (o (p / 2 % 6)) c) := by
  unfold ct_ed
  rw [if_pos hs, if_neg h12]
theorem ct_ed_odd12 (hs : p % 2 = 1) : ct_ed gW tW o p 12 = decide (¬ tW = 0) := by
  unfold ct_ed
  rw [if_pos hs, if_pos rfl]
theorem ct_ed_evA (hs : ¬ p % 2 = 1) (h : c < 6) : ct_ed gW tW o p c = ct_b (o (p / 72)) c := by
  unfold ct_ed
  rw [if_neg hs, if_neg (by omega), if_pos h]
theorem ct_ed_evB (hs : ¬ p % 2 = 1) (h12 : ¬ c = 12) (h : ¬ c < 6) : ct_ed gW tW o p c = ct_b (o (p / 12 % 6)) (c - 6) := by
  unfold ct_ed
  rw [if_neg hs, if_neg h12, if_neg h]
theorem ct_ed_ev12 (hs : ¬ p % 2 = 1) : ct_ed gW tW o p 12 = decide (¬ gW = 0) := by
  unfold ct_ed
  rw [if_neg hs, if_pos rfl]
theorem ct_ed_oddc (hs : p % 2 = 1) (h12 : ¬ c = 12) (he : ct_ed gW tW o p c = true) : c < 6 := by
  rw [ct_ed_odd hs h12, Bool.and_eq_true] at he
  exact of_decide_eq_true he.1
theorem ct_tg_odd (hs : p % 2 = 1) (h12 : ¬ c = 12) : ct_tg p c = p - 1 - 2 * (p / 2 % 6) + 2 * c := by
  unfold ct_tg
  rw [if_pos hs, if_neg h12]
theorem ct_tg_odd12 (hs : p % 2 = 1) : ct_tg p 12 = p - 1 := by
  unfold ct_tg
  rw [if_pos hs, if_pos rfl]
theorem ct_tg_evA (hs : ¬ p % 2 = 1) (h : c < 6) : ct_tg p c = p + 1 - 72 * (p / 72) + 72 * c := by
  unfold ct_tg
  rw [if_neg hs, if_neg (by omega), if_pos h]
theorem ct_tg_evB (hs : ¬ p % 2 = 1) (h12 : ¬ c = 12) (h : ¬ c < 6) : ct_tg p c = p + 1 - 12 * (p / 12 % 6) + 12 * (c - 6) := by
  unfold ct_tg
  rw [if_neg hs, if_neg h12, if_neg h]
theorem ct_tg_ev12 (hs : ¬ p % 2 = 1) : ct_tg p 12 = p + 1 := by
  unfold ct_tg
  rw [if_neg hs, if_pos rfl]
theorem ct_tg_lt (hp : p < 432) (hc : c < 13) (he : ct_ed gW tW o p c = true) : ct_tg p c < 432 := by
  by_cases hs : p % 2 = 1
  · by_cases h12 : c = 12
    · subst h12
      rw [ct_tg_odd12 hs]
      omega
    · have h6 := ct_ed_oddc hs h12 he
      rw [ct_tg_odd hs h12]
      omega
  · by_cases h12 : c = 12
    · subst h12
      rw [ct_tg_ev12 hs]
      omega
    · by_cases h6 : c < 6
      · rw [ct_tg_evA hs h6]
        omega
      · rw [ct_tg_evB hs h12 h6]
        omega
/-- a move changes the side -/
theorem ct_tg_par (hp : p < 432) (hc : c < 13) (he : ct_ed gW tW o p c = true) : p % 2 = 1 ↔ ¬ ct_tg p c % 2 = 1 := by
  by_cases hs : p % 2 = 1
  · by_cases h12 : c = 12
    · subst h12
      rw [ct_tg_odd12 hs]
      omega
    · have h6 := ct_ed_oddc hs h12 he
      rw [ct_tg_odd hs h12]
      omega
  · by_cases h12 : c = 12
    · subst h12
      rw [ct_tg_ev12 hs]
      omega
    · by_cases h6 : c < 6
      · rw [ct_tg_evA hs h6]
        omega
      · rw [ct_tg_evB hs h12 h6]
        omega
/-- the invariant of prepare: N positions are laid out, dn: the moves that have been answered, xp: a position whose count is not spoken of -/
def ct_I (gW tW ex : Int32) (o : Nat → Int32) (N xp : Nat) (dn : Nat → Nat → Bool) (n : Nat) (w f m q : Nat → Int32) : Prop :=
  n = ct_n (fun p => decide (¬ w p = 0)) N ∧
  (∀ j, j < n → ∃ p, p < N ∧ q j = nI p ∧ ¬ w p = 0 ∧ ∃ l, l ≤ j ∧ f p = nI l) ∧
  (∀ i j, i < n → j < n → q i = q j → i = j) ∧
  (∀ p, p < N → ¬ w p = 0 → ∃ j, j < n ∧ q j = nI p) ∧
  (∀ p, p < N → ∃ k, k < 3 ∧ w p = nI k) ∧
  (∀ p, p < N → ¬ w p = 0 → f p = 0 ∨ (ct_ov ex p = 0 ∧ ∃ c, c < 13 ∧ ct_ed gW tW o p c = true ∧ w (ct_tg p c) = w p ∧ f p = f (ct_tg p c) + 1)) ∧
  (∀ p, p < N → ¬ p = xp → w p = 0 → ct_ov ex p = 0 ∧ m p = nI (ct_n (fun c => ct_ed gW tW o p c && !dn p c) 13) ∧ 0 < ct_n (fun c => ct_ed gW tW o p c && !dn p c) 13)
/-- the finished table -/
def ct_F (gW tW ex : Int32) (o w f : Nat → Int32) : Prop := ∀ p, p < 432 →
  (w p = 0 → ct_ov ex p = 0 ∧ ∃ c, c < 13 ∧ ct_ed gW tW o p c = true ∧ w (ct_tg p c) = 0) ∧
  (¬ w p = 0 → (∃ l, l < 432 ∧ f p = nI l) ∧ (f p = 0 ∨ (ct_ov ex p = 0 ∧ ∃ c, c < 13 ∧ ct_ed gW tW o p c = true ∧ w (ct_tg p c) = w p ∧ f p = f (ct_tg p c) + 1)))
/-- what prepare's steps keep -/
def ct_K (n : Nat) (w f q : Nat → Int32) (n' : Nat) (w' f' q' : Nat → Int32) : Prop :=
  n ≤ n' ∧ (∀ j, j < n → q' j = q j) ∧ (∀ p, ¬ w p = 0 → w' p = w p ∧ f' p = f p)
theorem ct_K_refl : ct_K n w f q n w f q := ⟨Nat.le_refl n, fun _ _ => rfl, fun _ _ => ⟨rfl, rfl⟩⟩
theorem ct_K_trans {n' n'' : Nat} {w' f' q' w'' f'' q'' : Nat → Int32} (h : ct_K n w f q n' w' f' q') (h' : ct_K n' w' f' q' n'' w'' f'' q'') : ct_K n w f q n'' w'' f'' q'' := by
  obtain ⟨a1, a2, a3⟩ := h
  obtain ⟨b1, b2, b3⟩ := h'
  refine ⟨Nat.le_trans a1 b1, fun j hj => ?_, fun p hp => ?_⟩
  · rw [b2 j (by omega), a2 j hj]
  · obtain ⟨e1, e2⟩ := a3 p hp
    obtain ⟨g1, g2⟩ := b3 p (by rw [e1]; exact hp)
    exact ⟨g1.trans e1, g2.trans e2⟩
theorem ct_K_set {k l : Int32} {x : Int32} (hw : w p = 0) : ct_K n w f q (n + 1) (upd w p k) (upd f p l) (upd q n x) := by
  refine ⟨by omega, fun j hj => pk_un (by omega), fun p' hp' => ?_⟩
  have hne : p' ≠ p := fun e => hp' (by rw [e]; exact hw)
  exact ⟨pk_un hne, pk_un hne⟩
theorem ct_I_0 {xp : Nat} {dn : Nat → Nat → Bool} : ct_I gW tW ex o 0 xp dn 0 w f m q :=
  ⟨rfl, fun j hj => absurd hj (Nat.not_lt_zero j), fun i j hi => absurd hi (Nat.not_lt_zero i), fun p hp => absurd hp (Nat.not_lt_zero p), fun p hp => absurd hp (Nat.not_lt_zero p), fun p hp => absurd hp (Nat.not_lt_zero p), fun p hp => absurd hp (Nat.not_lt_zero p)⟩
theorem ct_I_dn {xp : Nat} {dn dn' : Nat → Nat → Bool} (h : ct_I gW tW ex o N xp dn n w f m q) (hd : ∀ p, p < N → w p = 0 → ∀ c, c < 13 → ct_ed gW tW o p c = true → dn p c = dn' p c) : ct_I gW tW ex o N xp dn' n w f m q := by
  obtain ⟨h1, h2, h3, h4, h5, h6, h7⟩ := h
  refine ⟨h1, h2, h3, h4, h5, h6, fun p hp hx hw => ?_⟩
  have e : ct_n (fun c => ct_ed gW tW o p c && !dn p c) 13 = ct_n (fun c => ct_ed gW tW o p c && !dn' p c) 13 := ct_n_congr (fun c hc => by
    show (ct_ed gW tW o p c && !dn p c) = (ct_ed gW tW o p c && !dn' p c)
    cases he : ct_ed gW tW o p c
    · rfl
    · rw [hd p hp hw c hc he])
  rw [← e]
  exact h7 p hp hx hw
theorem ct_I_xp {xp xp' : Nat} {dn : Nat → Nat → Bool} (h : ct_I gW tW ex o N xp dn n w f m q)
    (hx : xp < N → w xp = 0 → ct_ov ex xp = 0 ∧ m xp = nI (ct_n (fun c => ct_ed gW tW o xp c && !dn xp c) 13) ∧ 0 < ct_n (fun c => ct_ed gW tW o xp c && !dn xp c) 13) : ct_I gW tW ex o N xp' dn n w f m q := by
  obtain ⟨h1, h2, h3, h4, h5, h6, h7⟩ := h
  refine ⟨h1, h2, h3, h4, h5, h6, fun p hp _ hw => ?_⟩
  by_cases e : p = xp
  · subst e
    exact hx hp hw
  · exact h7 p hp e hw
theorem ct_I_n {xp : Nat} {dn : Nat → Nat → Bool} (h : ct_I gW tW ex o N xp dn n w f m q) : n ≤ N := by
  rw [h.1]
  exact ct_n_le _ _
theorem ct_I_set {xp k l : Nat} {dn : Nat → Nat → Bool} (h : ct_I gW tW ex o N p dn n w f m q) (hN : N ≤ 432) (hp : p < N) (hw : w p = 0) (hk : 0 < k) (hk3 : k < 3) (hl : l ≤ n)
    (hlf : l = 0 ∨ (ct_ov ex p = 0 ∧ ∃ c, c < 13 ∧ ct_ed gW tW o p c = true ∧ w (ct_tg p c) = nI k ∧ nI l = f (ct_tg p c) + 1)) :
    n < 432 ∧ ct_I gW tW ex o N xp dn (n + 1) (upd w p (nI k)) (upd f p (nI l)) m (upd q n (nI p)) := by
  obtain ⟨h1, h2, h3, h4, h5, h6, h7⟩ := h
  have hk0 : ¬ nI k = 0 := nI_ne0 hk (by omega)
  have hn : n < N := by
    rw [h1]
    exact ct_n_lt hp (decide_eq_false (fun z => z hw))
  have hne : ∀ p', ¬ w p' = 0 → p' ≠ p := fun p' hp' e => hp' (by rw [e]; exact hw)
  refine ⟨by omega, ?_, ?_, ?_, ?_, ?_, ?_, ?_⟩
  · rw [ct_n_flip (f := fun x => decide (¬ upd w p (nI k) x = 0)) (g := fun x => decide (¬ w x = 0)) hp (decide_eq_true (by rw [pk_us]; exact hk0)) (decide_eq_false (fun z => z hw)) (fun j _ hj => by show decide (¬ upd w p (nI k) j = 0) = decide (¬ w j = 0); rw [pk_un hj]), ← h1]
  · intro j hj
    by_cases e : j = n
    · subst e
      exact ⟨p, hp, pk_us, by rw [pk_us]; exact hk0, l, hl, pk_us⟩
    · obtain ⟨p', hp', hq', hw', l', hl', hf'⟩ := h2 j (by omega)
      exact ⟨p', hp', by rw [pk_un e]; exact hq', by rw [pk_un (hne p' hw')]; exact hw', l', hl', by rw [pk_un (hne p' hw')]; exact hf'⟩
  · have key : ∀ j, j < n → ¬ q j = nI p := by
      intro j hj z
      obtain ⟨p', hp', hq', hw', _⟩ := h2 j hj
      rw [hq', nI_eq (by omega) (by omega)] at z
      exact hne p' hw' z
    intro i j hi hj z
    by_cases ei : i = n
    · by_cases ej : j = n
      · omega
      · rw [ei, pk_us, pk_un ej] at z
        exact absurd z.symm (key j (by omega))
    · by_cases ej : j = n
      · rw [ej, pk_us, pk_un ei] at z
        exact absurd z (key i (by omega))
      · rw [pk_un ei, pk_un ej] at z
        exact h3 i j (by omega) (by omega) z
  · intro p' hp' hw'
    by_cases e : p' = p
    · exact ⟨n, by omega, by rw [pk_us, e]⟩
    · rw [pk_un e] at hw'
      obtain ⟨j, hj, hq⟩ := h4 p' hp' hw'
      exact ⟨j, by omega, by rw [pk_un (by omega)]; exact hq⟩
  · intro p' hp'
    by_cases e : p' = p
    · exact ⟨k, hk3, by rw [e, pk_us]⟩
    · rw [pk_un e]
      exact h5 p' hp'
  · intro p' hp' hw'
    by_cases e : p' = p
    · rw [e, pk_us, pk_us]
      rcases hlf with z | ⟨z, c, hc, he, hwt, hft⟩
      · left
        rw [z, nI_0]
      · have ht : ct_tg p c ≠ p := hne _ (by rw [hwt]; exact hk0)
        exact Or.inr ⟨z, c, hc, he, by rw [pk_un ht]; exact hwt, by rw [pk_un ht]; exact hft⟩
    · rw [pk_un e] at hw'
      rw [pk_un e, pk_un e]
      rcases h6 p' hp' hw' with z | ⟨z, c, hc, he, hwt, hft⟩
      · exact Or.inl z
      · have ht : ct_tg p' c ≠ p := hne _ (by rw [hwt]; exact hw')
        exact Or.inr ⟨z, c, hc, he, by rw [pk_un ht]; exact hwt, by rw [pk_un ht]; exact hft⟩
  · intro p' hp' _ hw'
    by_cases e : p' = p
    · rw [e, pk_us] at hw'
      exact absurd hw' hk0
    · rw [pk_un e] at hw'
      exact h7 p' hp' e hw'
/-- the moves answered, and one more -/
def ct_add (dn : Nat → Nat → Bool) (p c : Nat) (p' c' : Nat) : Bool := dn p' c' || (decide (p' = p) && decide (c' = c))
theorem ct_add_ne {dn : Nat → Nat → Bool} {p' c' : Nat} (h : ¬ p' = p) : ct_add dn p c p' c' = dn p' c' := by
  unfold ct_add
  rw [decide_eq_false h, Bool.false_and, Bool.or_false]
theorem ct_I_ans {xp : Nat} {dn : Nat → Nat → Bool} (h : ct_I gW tW ex o N xp dn n w f m q) (hx : N ≤ xp) (hp : p < N) (hw : w p = 0) (hc : c < 13) (he : ct_ed gW tW o p c = true) (hd : dn p c = false) :
    ∃ s, s < 13 ∧ m p = nI (s + 1) ∧ ct_ov ex p = 0 ∧ s = ct_n (fun c' => ct_ed gW tW o p c' && !ct_add dn p c p c') 13 ∧ ct_I gW tW ex o N p (ct_add dn p c) n w f (upd m p (nI s)) q := by
  obtain ⟨h1, h2, h3, h4, h5, h6, h7⟩ := h
  obtain ⟨g1, g2, g3⟩ := h7 p hp (by omega) hw
  have e : ct_n (fun c' => ct_ed gW tW o p c' && !dn p c') 13 = ct_n (fun c' => ct_ed gW tW o p c' && !ct_add dn p c p c') 13 + 1 := by
    refine ct_n_flip hc ?_ ?_ ?_
    · show (ct_ed gW tW o p c && !dn p c) = true
      rw [he, hd]
      rfl
    · show (ct_ed gW tW o p c && !ct_add dn p c p c) = false
      unfold ct_add
      rw [decide_eq_true rfl, decide_eq_true rfl, Bool.and_true, Bool.or_true, Bool.not_true, Bool.and_false]
    · intro j _ hj
      show (ct_ed gW tW o p j && !dn p j) = (ct_ed gW tW o p j && !ct_add dn p c p j)
      unfold ct_add
      rw [decide_eq_false hj, Bool.and_false, Bool.or_false]
  have hle := ct_n_le (fun c' => ct_ed gW tW o p c' && !dn p c') 13
  refine ⟨_, ?_, ?_, g1, rfl, h1, h2, h3, h4, h5, h6, ?_⟩
  · omega
  · rw [g2, e]
  · intro p' hp' hne hw'
    have hc' : (fun c' => ct_ed gW tW o p' c' && !ct_add dn p c p' c') = (fun c' => ct_ed gW tW o p' c' && !dn p' c') := by
      funext c'
      rw [ct_add_ne hne]
    rw [hc', pk_un hne]
    exact h7 p' hp' (by omega) hw'
theorem ct_I_new {xp : Nat} {dn : Nat → Nat → Bool} (v : Int32) (h : ct_I gW tW ex o N xp dn n w f m q) (hx : N ≤ xp) (hf : ∀ p, p < N → ¬ w p = 0 → f p = 0) :
    ct_I gW tW ex o (N + 1) N dn n (upd w N 0) (upd f N 0) (upd m N v) q ∧ (∀ p, p < N + 1 → ¬ upd w N 0 p = 0 → upd f N 0 p = 0) := by
  obtain ⟨h1, h2, h3, h4, h5, h6, h7⟩ := h
  have hw0 : upd w N 0 N = 0 := pk_us
  have hf' : ∀ p, p < N + 1 → ¬ upd w N 0 p = 0 → upd f N 0 p = 0 := by
    intro p hp hw
    by_cases e : p = N
    · rw [e, pk_us]
    · rw [pk_un e] at hw
      rw [pk_un e]
      exact hf p (by omega) hw
  refine ⟨⟨?_, ?_, h3, ?_, ?_, ?_, ?_⟩, hf'⟩
  · show n = ct_n (fun p => decide (¬ upd w N 0 p = 0)) N + (decide (¬ upd w N 0 N = 0)).toNat
    rw [decide_eq_false (fun z => z hw0), h1]
    show _ = _ + 0
    rw [Nat.add_zero]
    refine ct_n_congr (fun i hi => ?_)
    show decide (¬ w i = 0) = decide (¬ upd w N 0 i = 0)
    rw [pk_un (by omega)]
  · intro j hj
    obtain ⟨p', hp', hq', hw', l', hl', hf1⟩ := h2 j hj
    exact ⟨p', by omega, hq', by rw [pk_un (by omega)]; exact hw', l', hl', by rw [pk_un (by omega)]; exact hf1⟩
  · intro p' hp' hw'
    by_cases e : p' = N
    · rw [e] at hw'
      exact absurd hw0 hw'
    · rw [pk_un e] at hw'
      exact h4 p' (by omega) hw'
  · intro p' hp'
    by_cases e : p' = N
    · exact ⟨0, by omega, by rw [e, pk_us, nI_0]⟩
    · rw [pk_un e]
      exact h5 p' (by omega)
  · intro p' hp' hw'
    exact Or.inl (hf' p' hp' hw')
  · intro p' hp' hne hw'
    rw [pk_un hne] at hw'
    rw [pk_un hne]
    exact h7 p' (by omega) (by omega) hw'
theorem ct_F_of {xp : Nat} {dn : Nat → Nat → Bool} (h : ct_I gW tW ex o 432 xp dn n w f m q) (hx : 432 ≤ xp) (hd : ∀ p c, p < 432 → c < 13 → ct_ed gW tW o p c = true → ¬ w (ct_tg p c) = 0 → dn p c = true) : ct_F gW tW ex o w f := by
  have hn := ct_I_n h
  obtain ⟨h1, h2, h3, h4, h5, h6, h7⟩ := h
  intro p hp
  refine ⟨fun hw => ?_, fun hw => ⟨?_, h6 p hp hw⟩⟩
  · obtain ⟨g1, g2, g3⟩ := h7 p hp (by omega) hw
    obtain ⟨c, hc, hcc⟩ := ct_n_pos g3
    have hcc' : (ct_ed gW tW o p c && !dn p c) = true := hcc
    rw [Bool.and_eq_true] at hcc'
    refine ⟨g1, c, hc, hcc'.1, Classical.byContradiction fun z => ?_⟩
    have := hd p c hp hc hcc'.1 z
    rw [this] at hcc'
    exact absurd hcc'.2 (by decide)
  · obtain ⟨j, hj, hq⟩ := h4 p hp hw
    obtain ⟨p', hp', hq', hw', l, hl, hf⟩ := h2 j hj
    rw [hq, nI_eq (by omega) (by omega)] at hq'
    rw [← hq'] at hf
    exact ⟨l, by omega, hf⟩
end
end
section
/-! the moves that lead to Q, and the moves answered in the midst of spread(Q) -/
section
variable {gW tW : Int32} {o : Nat → Int32} {p c Q x y : Nat} {B : Nat → Bool}
theorem ct_t1 (hQ : Q < 432) (hs : ¬ Q % 2 = 1) (hx : x < 6) : Q + 1 - 2 * (Q / 2 % 6) + 2 * x < 432 ∧ (Q + 1 - 2 * (Q / 2 % 6) + 2 * x) % 2 = 1 ∧ (Q + 1 - 2 * (Q / 2 % 6) + 2 * x) / 2 % 6 = x ∧ ct_tg (Q + 1 - 2 * (Q / 2 % 6) + 2 * x) (Q / 2 % 6) = Q := by
  have h1 : (Q + 1 - 2 * (Q / 2 % 6) + 2 * x) % 2 = 1 := by omega
  have h2 : (Q + 1 - 2 * (Q / 2 % 6) + 2 * x) / 2 % 6 = x := by omega
  refine ⟨by omega, h1, h2, ?_⟩
  rw [ct_tg_odd h1 (by omega), h2]
  omega
theorem ct_t2 (hp : p < 432) (hc : c < 6) (he : ct_ed gW tW o p c = true) (ht : ct_tg p c = Q) (hs : ¬ Q % 2 = 1) : c = Q / 2 % 6 ∧ p = Q + 1 - 2 * (Q / 2 % 6) + 2 * (p / 2 % 6) ∧ ct_b (o (p / 2 % 6)) (Q / 2 % 6) = true := by
  have hp1 : p % 2 = 1 := (ct_tg_par hp (by omega) he).mpr (by rw [ht]; exact hs)
  rw [ct_tg_odd hp1 (by omega)] at ht
  rw [ct_ed_odd hp1 (by omega), Bool.and_eq_true] at he
  have hc' : c = Q / 2 % 6 := by omega
  refine ⟨hc', by omega, ?_⟩
  rw [← hc']
  exact he.2
theorem ct_t12 (hp : p < 432) (he : ct_ed gW tW o p 12 = true) (ht : ct_tg p 12 = Q) (hs : ¬ Q % 2 = 1) : p = Q + 1 ∧ ¬ tW = 0 := by
  have hp1 : p % 2 = 1 := (ct_tg_par hp (by omega) he).mpr (by rw [ht]; exact hs)
  rw [ct_tg_odd12 hp1] at ht
  rw [ct_ed_odd12 hp1] at he
  exact ⟨by omega, of_decide_eq_true he⟩
theorem ct_tc (hp : p < 432) (hc : c < 13) (he : ct_ed gW tW o p c = true) (ht : ct_tg p c = Q) (hs : ¬ Q % 2 = 1) : c < 6 ∨ c = 12 := by
  have hp1 : p % 2 = 1 := (ct_tg_par hp hc he).mpr (by rw [ht]; exact hs)
  by_cases h12 : c = 12
  · exact Or.inr h12
  · exact Or.inl (ct_ed_oddc hp1 h12 he)
def ct_De (B : Nat → Bool) (Q p c : Nat) : Bool := B (ct_tg p c) || decide (ct_tg p c = Q)
def ct_Dt (B : Nat → Bool) (Q x p c : Nat) : Bool := B (ct_tg p c) || (decide (ct_tg p c = Q) && (decide (c < 6) && decide (p / 2 % 6 < x)))
theorem ct_Dt_0 : ct_Dt B Q 0 p c = B (ct_tg p c) := by
  unfold ct_Dt
  rw [decide_eq_false (Nat.not_lt_zero _), Bool.and_false, Bool.and_false, Bool.or_false]
theorem ct_Dt_s (hQ : Q < 432) (hs : ¬ Q % 2 = 1) (hx : x < 6) (hp : p < 432) (he : ct_ed gW tW o p c = true) :
    ct_add (ct_Dt B Q x) (Q + 1 - 2 * (Q / 2 % 6) + 2 * x) (Q / 2 % 6) p c = ct_Dt B Q (x + 1) p c := by
  obtain ⟨t1, t2, t3, t4⟩ := ct_t1 hQ hs hx
  apply Bool.eq_iff_iff.mpr
  simp only [ct_add, ct_Dt, Bool.or_eq_true, Bool.and_eq_true, decide_eq_true_eq]
  constructor
  · rintro ((h | ⟨h1, h2, h3⟩) | ⟨h1, h2⟩)
    · exact Or.inl h
    · exact Or.inr ⟨h1, h2, by omega⟩
    · rw [h1, h2]
      exact Or.inr ⟨t4, by omega, by omega⟩
  · rintro (h | ⟨h1, h2, h3⟩)
    · exact Or.inl (Or.inl h)
    · by_cases e : p / 2 % 6 < x
      · exact Or.inl (Or.inr ⟨h1, h2, e⟩)
      · obtain ⟨g1, g2, _⟩ := ct_t2 hp h2 he h1 hs
        have ex : p / 2 % 6 = x := by omega
        rw [ex] at g2
        exact Or.inr ⟨g2, g1⟩
theorem ct_Dt_n (hs : ¬ Q % 2 = 1) (hp : p < 432) (he : ct_ed gW tW o p c = true) (hb : ¬ ct_b (o x) (Q / 2 % 6) = true) :
    ct_Dt B Q x p c = ct_Dt B Q (x + 1) p c := by
  apply Bool.eq_iff_iff.mpr
  simp only [ct_Dt, Bool.or_eq_true, Bool.and_eq_true, decide_eq_true_eq]
  constructor
  · rintro (h | ⟨h1, h2, h3⟩)
    · exact Or.inl h
    · exact Or.inr ⟨h1, h2, by omega⟩
  · rintro (h | ⟨h1, h2, h3⟩)
    · exact Or.inl h
    · by_cases e : p / 2 % 6 < x
      · exact Or.inr ⟨h1, h2, e⟩
      · obtain ⟨_, _, g3⟩ := ct_t2 hp h2 he h1 hs
        have ex : p / 2 % 6 = x := by omega
        rw [ex] at g3
        exact absurd g3 hb
theorem ct_Dt_e (hs : ¬ Q % 2 = 1) (hp : p < 432) (hc : c < 13) (he : ct_ed gW tW o p c = true) :
    ct_add (ct_Dt B Q 6) (Q + 1) 12 p c = ct_De B Q p c := by
  apply Bool.eq_iff_iff.mpr
  simp only [ct_add, ct_Dt, ct_De, Bool.or_eq_true, Bool.and_eq_true, decide_eq_true_eq]
  constructor
  · rintro ((h | ⟨h1, h2, h3⟩) | ⟨h1, h2⟩)
    · exact Or.inl h
    · exact Or.inr h1
    · rw [h1, h2, ct_tg_odd12 (by omega)]
      exact Or.inr (by omega)
  · rintro (h | h)
    · exact Or.inl (Or.inl h)
    · rcases ct_tc hp hc he h hs with z | z
      · exact Or.inl (Or.inr ⟨h, z, by omega⟩)
      · subst z
        exact Or.inr ⟨(ct_t12 hp he h hs).1, rfl⟩
theorem ct_Dt_f (hs : ¬ Q % 2 = 1) (hp : p < 432) (hc : c < 13) (he : ct_ed gW tW o p c = true) (ht : tW = 0) :
    ct_Dt B Q 6 p c = ct_De B Q p c := by
  apply Bool.eq_iff_iff.mpr
  simp only [ct_Dt, ct_De, Bool.or_eq_true, Bool.and_eq_true, decide_eq_true_eq]
  constructor
  · rintro (h | ⟨h1, h2, h3⟩)
    · exact Or.inl h
    · exact Or.inr h1
  · rintro (h | h)
    · exact Or.inl h
    · rcases ct_tc hp hc he h hs with z | z
      · exact Or.inr ⟨h, z, by omega⟩
      · subst z
        exact absurd ht (ct_t12 hp he h hs).2
theorem ct_Dt_new (hQ : Q < 432) (hs : ¬ Q % 2 = 1) (hx : x < 6) (hB : B Q = false) : ct_Dt B Q x (Q + 1 - 2 * (Q / 2 % 6) + 2 * x) (Q / 2 % 6) = false := by
  obtain ⟨t1, t2, t3, t4⟩ := ct_t1 hQ hs hx
  unfold ct_Dt
  rw [t4, hB, t3, decide_eq_false (Nat.lt_irrefl x), Bool.and_false, Bool.and_false]
  rfl
theorem ct_Dt_new12 (hs : ¬ Q % 2 = 1) (hB : B Q = false) : ct_Dt B Q 6 (Q + 1) 12 = false := by
  have e : ct_tg (Q + 1) 12 = Q := by
    rw [ct_tg_odd12 (by omega)]
    omega
  unfold ct_Dt
  rw [e, hB, decide_eq_false (show ¬ 12 < 6 by omega), Bool.false_and, Bool.and_false]
  rfl
/-! the guards' moves -/
theorem ct_gA1 (hQ : Q < 432) (hs : Q % 2 = 1) (hx : x < 6) : Q - 1 - 72 * (Q / 72) + 72 * x < 432 ∧ (¬ (Q - 1 - 72 * (Q / 72) + 72 * x) % 2 = 1) ∧ (Q - 1 - 72 * (Q / 72) + 72 * x) / 72 = x ∧ ct_tg (Q - 1 - 72 * (Q / 72) + 72 * x) (Q / 72) = Q := by
  have h1 : ¬ (Q - 1 - 72 * (Q / 72) + 72 * x) % 2 = 1 := by omega
  have h2 : (Q - 1 - 72 * (Q / 72) + 72 * x) / 72 = x := by omega
  refine ⟨by omega, h1, h2, ?_⟩
  rw [ct_tg_evA h1 (by omega), h2]
  omega
theorem ct_gB1 (hQ : Q < 432) (hs : Q % 2 = 1) (hx : x < 6) : Q - 1 - 12 * (Q / 12 % 6) + 12 * x < 432 ∧ (¬ (Q - 1 - 12 * (Q / 12 % 6) + 12 * x) % 2 = 1) ∧ (Q - 1 - 12 * (Q / 12 % 6) + 12 * x) / 12 % 6 = x ∧ ct_tg (Q - 1 - 12 * (Q / 12 % 6) + 12 * x) (6 + Q / 12 % 6) = Q := by
  have h1 : ¬ (Q - 1 - 12 * (Q / 12 % 6) + 12 * x) % 2 = 1 := by omega
  have h2 : (Q - 1 - 12 * (Q / 12 % 6) + 12 * x) / 12 % 6 = x := by omega
  refine ⟨by omega, h1, h2, ?_⟩
  rw [ct_tg_evB h1 (by omega) (by omega), h2]
  omega
theorem ct_gpar (hp : p < 432) (hc : c < 13) (he : ct_ed gW tW o p c = true) (ht : ct_tg p c = Q) (hs : Q % 2 = 1) : ¬ p % 2 = 1 :=
  fun z => (ct_tg_par hp hc he).mp z (by rw [ht]; exact hs)
theorem ct_gA2 (hp : p < 432) (hc : c < 6) (he : ct_ed gW tW o p c = true) (ht : ct_tg p c = Q) (hs : Q % 2 = 1) : c = Q / 72 ∧ p = Q - 1 - 72 * (Q / 72) + 72 * (p / 72) ∧ ct_b (o (p / 72)) (Q / 72) = true := by
  have hp1 := ct_gpar hp (by omega) he ht hs
  rw [ct_tg_evA hp1 hc] at ht
  rw [ct_ed_evA hp1 hc] at he
  have hc' : c = Q / 72 := by omega
  refine ⟨hc', by omega, ?_⟩
  rw [← hc']
  exact he
theorem ct_gB2 (hp : p < 432) (hc6 : 6 ≤ c) (hc : c < 12) (he : ct_ed gW tW o p c = true) (ht : ct_tg p c = Q) (hs : Q % 2 = 1) : c = 6 + Q / 12 % 6 ∧ p = Q - 1 - 12 * (Q / 12 % 6) + 12 * (p / 12 % 6) ∧ ct_b (o (p / 12 % 6)) (Q / 12 % 6) = true := by
  have hp1 := ct_gpar hp (by omega) he ht hs
  rw [ct_tg_evB hp1 (by omega) (by omega)] at ht
  rw [ct_ed_evB hp1 (by omega) (by omega)] at he
  have hc' : c = 6 + Q / 12 % 6 := by omega
  refine ⟨hc', by omega, ?_⟩
  have hc2 : Q / 12 % 6 = c - 6 := by omega
  rw [hc2]
  exact he
theorem ct_g12 (hp : p < 432) (he : ct_ed gW tW o p 12 = true) (ht : ct_tg p 12 = Q) (hs : Q % 2 = 1) : p = Q - 1 ∧ ¬ gW = 0 := by
  have hp1 := ct_gpar hp (by omega) he ht hs
  rw [ct_tg_ev12 hp1] at ht
  rw [ct_ed_ev12 hp1] at he
  exact ⟨by omega, of_decide_eq_true he⟩
def ct_Dg (B : Nat → Bool) (Q x y p c : Nat) : Bool := B (ct_tg p c) || (decide (ct_tg p c = Q) && ((decide (c < 6) && decide (p / 72 < x)) || (decide (6 ≤ c ∧ c < 12) && decide (p / 12 % 6 < y))))
theorem ct_Dg_0 : ct_Dg B Q 0 0 p c = B (ct_tg p c) := by
  unfold ct_Dg
  rw [decide_eq_false (Nat.not_lt_zero _), decide_eq_false (Nat.not_lt_zero _), Bool.and_false, Bool.and_false, Bool.or_false, Bool.and_false, Bool.or_false]
theorem ct_DgA_s (hQ : Q < 432) (hs : Q % 2 = 1) (hx : x < 6) (hp : p < 432) (he : ct_ed gW tW o p c = true) :
    ct_add (ct_Dg B Q x y) (Q - 1 - 72 * (Q / 72) + 72 * x) (Q / 72) p c = ct_Dg B Q (x + 1) y p c := by
  obtain ⟨t1, t2, t3, t4⟩ := ct_gA1 hQ hs hx
  apply Bool.eq_iff_iff.mpr
  simp only [ct_add, ct_Dg, Bool.or_eq_true, Bool.and_eq_true, decide_eq_true_eq]
  constructor
  · rintro ((h | ⟨h1, ⟨h2, h3⟩ | h2⟩) | ⟨h1, h2⟩)
    · exact Or.inl h
    · exact Or.inr ⟨h1, Or.inl ⟨h2, by omega⟩⟩
    · exact Or.inr ⟨h1, Or.inr h2⟩
    · rw [h1, h2]
      exact Or.inr ⟨t4, Or.inl ⟨by omega, by omega⟩⟩
  · rintro (h | ⟨h1, ⟨h2, h3⟩ | h2⟩)
    · exact Or.inl (Or.inl h)
    · by_cases e : p / 72 < x
      · exact Or.inl (Or.inr ⟨h1, Or.inl ⟨h2, e⟩⟩)
      · obtain ⟨g1, g2, _⟩ := ct_gA2 hp h2 he h1 hs
        have ex : p / 72 = x := by omega
        rw [ex] at g2
        exact Or.inr ⟨g2, g1⟩
    · exact Or.inl (Or.inr ⟨h1, Or.inr h2⟩)
theorem ct_DgA_n (hs : Q % 2 = 1) (hp : p < 432) (he : ct_ed gW tW o p c = true) (hb : ¬ ct_b (o x) (Q / 72) = true) :
    ct_Dg B Q x y p c = ct_Dg B Q (x + 1) y p c := by
  apply Bool.eq_iff_iff.mpr
  simp only [ct_Dg, Bool.or_eq_true, Bool.and_eq_true, decide_eq_true_eq]
  constructor
  · rintro (h | ⟨h1, ⟨h2, h3⟩ | h2⟩)
    · exact Or.inl h
    · exact Or.inr ⟨h1, Or.inl ⟨h2, by omega⟩⟩
    · exact Or.inr ⟨h1, Or.inr h2⟩
  · rintro (h | ⟨h1, ⟨h2, h3⟩ | h2⟩)
    · exact Or.inl h
    · by_cases e : p / 72 < x
      · exact Or.inr ⟨h1, Or.inl ⟨h2, e⟩⟩
      · obtain ⟨_, _, g3⟩ := ct_gA2 hp h2 he h1 hs
        have ex : p / 72 = x := by omega
        rw [ex] at g3
        exact absurd g3 hb
    · exact Or.inr ⟨h1, Or.inr h2⟩
theorem ct_DgB_s (hQ : Q < 432) (hs : Q % 2 = 1) (hy : y < 6) (hp : p < 432) (he : ct_ed gW tW o p c = true) :
    ct_add (ct_Dg B Q x y) (Q - 1 - 12 * (Q / 12 % 6) + 12 * y) (6 + Q / 12 % 6) p c = ct_Dg B Q x (y + 1) p c := by
  obtain ⟨t1, t2, t3, t4⟩ := ct_gB1 hQ hs hy
  apply Bool.eq_iff_iff.mpr
  simp only [ct_add, ct_Dg, Bool.or_eq_true, Bool.and_eq_true, decide_eq_true_eq]
  constructor
  · rintro ((h | ⟨h1, h2 | ⟨h2, h3⟩⟩) | ⟨h1, h2⟩)
    · exact Or.inl h
    · exact Or.inr ⟨h1, Or.inl h2⟩
    · exact Or.inr ⟨h1, Or.inr ⟨h2, by omega⟩⟩
    · rw [h1, h2]
      exact Or.inr ⟨t4, Or.inr ⟨by omega, by omega⟩⟩
  · rintro (h | ⟨h1, h2 | ⟨h2, h3⟩⟩)
    · exact Or.inl (Or.inl h)
    · exact Or.inl (Or.inr ⟨h1, Or.inl h2⟩)
    · by_cases e : p / 12 % 6 < y
      · exact Or.inl (Or.inr ⟨h1, Or.inr ⟨h2, e⟩⟩)
      · obtain ⟨g1, g2, _⟩ := ct_gB2 hp h2.1 h2.2 he h1 hs
        have ex : p / 12 % 6 = y := by omega
        rw [ex] at g2
        exact Or.inr ⟨g2, g1⟩
theorem ct_DgB_n (hs : Q % 2 = 1) (hp : p < 432) (he : ct_ed gW tW o p c = true) (hb : ¬ ct_b (o y) (Q / 12 % 6) = true) :
    ct_Dg B Q x y p c = ct_Dg B Q x (y + 1) p c := by
  apply Bool.eq_iff_iff.mpr
  simp only [ct_Dg, Bool.or_eq_true, Bool.and_eq_true, decide_eq_true_eq]
  constructor
  · rintro (h | ⟨h1, h2 | ⟨h2, h3⟩⟩)
    · exact Or.inl h
    · exact Or.inr ⟨h1, Or.inl h2⟩
    · exact Or.inr ⟨h1, Or.inr ⟨h2, by omega⟩⟩
  · rintro (h | ⟨h1, h2 | ⟨h2, h3⟩⟩)
    · exact Or.inl h
    · exact Or.inr ⟨h1, Or.inl h2⟩
    · by_cases e : p / 12 % 6 < y
      · exact Or.inr ⟨h1, Or.inr ⟨h2, e⟩⟩
      · obtain ⟨_, _, g3⟩ := ct_gB2 hp h2.1 h2.2 he h1 hs
        have ex : p / 12 % 6 = y := by omega
        rw [ex] at g3
        exact absurd g3 hb
theorem ct_gAll (hp : p < 432) (hc : c < 13) (h12 : ¬ c = 12) : (c < 6 ∧ p / 72 < 6) ∨ ((6 ≤ c ∧ c < 12) ∧ p / 12 % 6 < 6) := by
  by_cases h : c < 6
  · exact Or.inl ⟨h, by omega⟩
  · exact Or.inr ⟨⟨by omega, by omega⟩, by omega⟩
theorem ct_Dg_e (hs : Q % 2 = 1) (hp : p < 432) (hc : c < 13) (he : ct_ed gW tW o p c = true) :
    ct_add (ct_Dg B Q 6 6) (Q - 1) 12 p c = ct_De B Q p c := by
  apply Bool.eq_iff_iff.mpr
  simp only [ct_add, ct_Dg, ct_De, Bool.or_eq_true, Bool.and_eq_true, decide_eq_true_eq]
  constructor
  · rintro ((h | ⟨h1, h2⟩) | ⟨h1, h2⟩)
    · exact Or.inl h
    · exact Or.inr h1
    · rw [h1, h2, ct_tg_ev12 (by omega)]
      exact Or.inr (by omega)
  · rintro (h | h)
    · exact Or.inl (Or.inl h)
    · by_cases z : c = 12
      · subst z
        exact Or.inr ⟨(ct_g12 hp he h hs).1, rfl⟩
      · exact Or.inl (Or.inr ⟨h, ct_gAll hp hc z⟩)
theorem ct_Dg_f (hs : Q % 2 = 1) (hp : p < 432) (hc : c < 13) (he : ct_ed gW tW o p c = true) (hg : gW = 0) :
    ct_Dg B Q 6 6 p c = ct_De B Q p c := by
  apply Bool.eq_iff_iff.mpr
  simp only [ct_Dg, ct_De, Bool.or_eq_true, Bool.and_eq_true, decide_eq_true_eq]
  constructor
  · rintro (h | ⟨h1, h2⟩)
    · exact Or.inl h
    · exact Or.inr h1
  · rintro (h | h)
    · exact Or.inl h
    · by_cases z : c = 12
      · subst z
        exact absurd hg (ct_g12 hp he h hs).2
      · exact Or.inr ⟨h, ct_gAll hp hc z⟩
theorem ct_DgA_new (hQ : Q < 432) (hs : Q % 2 = 1) (hx : x < 6) (hB : B Q = false) : ct_Dg B Q x y (Q - 1 - 72 * (Q / 72) + 72 * x) (Q / 72) = false := by
  obtain ⟨t1, t2, t3, t4⟩ := ct_gA1 hQ hs hx
  unfold ct_Dg
  rw [t4, hB, t3, decide_eq_false (Nat.lt_irrefl x), Bool.and_false, decide_eq_false (show ¬ (6 ≤ Q / 72 ∧ Q / 72 < 12) by omega), Bool.false_and, Bool.or_false, Bool.and_false]
  rfl
theorem ct_DgB_new (hQ : Q < 432) (hs : Q % 2 = 1) (hy : y < 6) (hB : B Q = false) : ct_Dg B Q x y (Q - 1 - 12 * (Q / 12 % 6) + 12 * y) (6 + Q / 12 % 6) = false := by
  obtain ⟨t1, t2, t3, t4⟩ := ct_gB1 hQ hs hy
  unfold ct_Dg
  rw [t4, hB, t3, decide_eq_false (Nat.lt_irrefl y), Bool.and_false, decide_eq_false (show ¬ 6 + Q / 12 % 6 < 6 by omega), Bool.false_and, Bool.or_false, Bool.and_false]
  rfl
theorem ct_Dg_new12 (hs : Q % 2 = 1) (hB : B Q = false) : ct_Dg B Q 6 6 (Q - 1) 12 = false := by
  have e : ct_tg (Q - 1) 12 = Q := by
    rw [ct_tg_ev12 (by omega)]
    omega
  unfold ct_Dg
  rw [e, hB, decide_eq_false (show ¬ 12 < 6 by omega), Bool.false_and, decide_eq_false (show ¬ (6 ≤ 12 ∧ 12 < 12) by omega), Bool.false_and, Bool.or_false, Bool.and_false]
  rfl
end
end
section
/-! the small methods, each a walk -/
theorem ct_i8 : ∀ k, k < 100 → (nI k).toInt8.toInt32 = nI k := by decide +kernel
theorem ct_i16 : ∀ k, k < 600 → (nI k).toInt16.toInt32 = nI k := by decide +kernel
theorem ct_ring {A K B D R : Int32} (h : A + K * B = R + K * D) : A + K * (B - D) = R := by grind
/-- a + k (b - d), below zero in between or not -/
theorem ct_lin {a k b d r : Nat} (h : a + k * b = r + k * d) : nI a + nI k * (nI b - nI d) = nI r := by
  apply ct_ring
  rw [pk_mul, pk_mul, nI_add, nI_add, h]
section
variable {gW tW ex bA bB bT bTh rd qd : Int32} {o inn w f m q : Nat → Int32} {n p c : Nat}
theorem ct_dA (hp : p < 432) : nI p / 72 = nI (p / 72) := pk_div (d := 72) (by omega) (by omega) (by omega)
theorem ct_dB (hp : p < 432) : (nI p / 12) - (nI p / 12) / 6 * 6 = nI (p / 12 % 6) := by
  have h : nI p / 12 = nI (p / 12) := pk_div (d := 12) (by omega) (by omega) (by omega)
  rw [h]
  exact pk_rem (d := 6) (by omega) (by omega) (by omega)
theorem ct_dT (hp : p < 432) : (nI p / 2) - (nI p / 2) / 6 * 6 = nI (p / 2 % 6) := by
  have h : nI p / 2 = nI (p / 2) := pk_div (d := 2) (by omega) (by omega) (by omega)
  rw [h]
  exact pk_rem (d := 6) (by omega) (by omega) (by omega)
theorem ct_dS (hp : p < 432) : nI p - nI p / 2 * 2 = nI (p % 2) := pk_rem (d := 2) (by omega) (by omega) (by omega)
theorem ct_off {post : Int32 → Prop} {u : St0} {x : Nat} (hx : x < 6) (H : post 0) : wpX_off post u (nI x) :=
  br_f (nI_pos (by omega)) (br_t (nI_le (b := 5) (by omega) (by omega)) H)
theorem ct_over {post : Int32 → Prop} (hp : p < 432) (H : post (nI (ct_ov ex p))) : wpX_over post (gW, tW, ex, bA, bB, bT, bTh, rd, qd, o, inn, w, f, m, q) (nI p) := by
  refine ⟨by decide, nm_r (ct_dA hp) ⟨by decide, by decide, nm_r (ct_dB hp) ⟨by decide, by decide, nm_r (ct_dT hp) ?_⟩⟩⟩
  unfold ct_ov at H
  refine pk_eq (p / 2 % 6) (p / 72) (fun h => ?_) (fun h => pk_eq (p / 2 % 6) (p / 12 % 6) (fun h2 => ?_) (fun h2 => ek_if (ct_bit1 (show p / 2 % 6 < 31 by omega)) (fun e => ?_) (fun e => ?_)))
  · rw [if_pos h] at H
    exact H
  · rw [if_neg h, if_pos h2] at H
    exact H
  · rw [if_neg h, if_neg h2, if_pos e] at H
    exact H
  · rw [if_neg h, if_neg h2, if_neg e] at H
    exact H
theorem ct_bits {post : Int32 → Prop} {u : St0} {x : Int32} (H : post (nI (ct_n (ct_b x) 6))) : wpX_bits post u x :=
  pk_loop (σ := Unit) (fun n i _ => wX_bits_4 post x n (nI (ct_n (ct_b x) i)) (nI i)) (fun _ _ => True) 6 0 () (by omega) trivial
    (fun n _ _ => pk_le 6 6 (fun _ => H) (fun z => absurd z (by omega)))
    (fun n i _ hi _ hw => pk_le 6 i (fun z => absurd z (by omega)) (fun _ => nm_r (e' := nI (ct_n (ct_b x) (i + 1))) (by rw [ct_bit (show i < 31 by omega), nI_add]; rfl) (nm_r (nI_1 i) (hw () trivial))))
theorem ct_cnt_odd (hs : p % 2 = 1) : ct_n (ct_ed gW tW o p) 13 = ct_n (ct_b (o (p / 2 % 6))) 6 + (decide (¬ tW = 0)).toNat := by
  simp [ct_n, ct_ed, hs]
theorem ct_cnt_ev (hs : ¬ p % 2 = 1) : ct_n (ct_ed gW tW o p) 13 = ct_n (ct_b (o (p / 72))) 6 + ct_n (ct_b (o (p / 12 % 6))) 6 + (decide (¬ gW = 0)).toNat := by
  simp [ct_n, ct_ed, hs]
  omega
theorem ct_moveCount {post : Int32 → Prop} (hp : p < 432) (H : post (nI (ct_n (ct_ed gW tW o p) 13))) : wpX_moveCount post (gW, tW, ex, bA, bB, bT, bTh, rd, qd, o, inn, w, f, m, q) (nI p) := by
  have eA : o (nI p / 72).toNatClampNeg = o (p / 72) := by rw [ct_dA hp, nI_clamp (by omega)]
  have eB : o ((nI p / 12) - (nI p / 12) / 6 * 6).toNatClampNeg = o (p / 12 % 6) := by rw [ct_dB hp, nI_clamp (by omega)]
  have eT : o ((nI p / 2) - (nI p / 2) / 6 * 6).toNatClampNeg = o (p / 2 % 6) := by rw [ct_dT hp, nI_clamp (by omega)]
  refine ⟨by decide, pk_in (p / 72) 6 (by omega) (ct_dA hp), nm_r eA ⟨by decide, by decide, pk_in (p / 12 % 6) 6 (by omega) (ct_dB hp), nm_r eB ⟨by decide, by decide, pk_in (p / 2 % 6) 6 (by omega) (ct_dT hp), nm_r eT ⟨by decide, ?_⟩⟩⟩⟩
  refine pk_eq (p % 2) 1 (fun hs => ct_bits ?_) (fun hs => ct_bits (ct_bits ?_)) (ct_dS hp)
  · rw [ct_cnt_odd hs] at H
    refine br_c (fun h => ?_) (fun h => ?_)
    · rw [decide_eq_false (fun z => z h)] at H
      exact H
    · rw [decide_eq_true h] at H
      rw [nI_1]
      exact H
  · rw [ct_cnt_ev hs] at H
    refine br_c (fun h => ?_) (fun h => ?_)
    · rw [decide_eq_false (fun z => z h)] at H
      rw [nI_add]
      exact H
    · rw [decide_eq_true h] at H
      rw [nI_add, nI_1]
      exact H
theorem ct_number {post : Int32 → Prop} {u : St0} (hp : p < 432) (H : post (nI p)) : wpX_number post u (nI (p / 72)) (nI (p / 12 % 6)) (nI (p / 2 % 6)) (nI (p % 2)) := by
  have e : (((nI (p / 72) * 6) + nI (p / 12 % 6)) * 6 + nI (p / 2 % 6)) * 2 = nI ((((p / 72) * 6 + p / 12 % 6) * 6 + p / 2 % 6) * 2) := by
    show (((nI (p / 72) * nI 6) + nI (p / 12 % 6)) * nI 6 + nI (p / 2 % 6)) * nI 2 = _
    rw [pk_mul, nI_add, pk_mul, nI_add, pk_mul]
  refine pk_eq (p % 2) 0 (fun h => ?_) (fun h => ?_)
  · refine ek_v (P := post) (b := nI p) ?_ H
    rw [e]
    show nI _ + nI 0 = _
    rw [nI_add]
    congr 1
    omega
  · refine ek_v (P := post) (b := nI p) ?_ H
    rw [e, nI_1]
    congr 1
    omega
theorem ct_after {post : Int32 → Prop} (hp : p < 432) (hc : c < 13) (H1 : ct_ov ex p = 0 → ct_ed gW tW o p c = true → post (nI (ct_tg p c))) (H2 : ¬ (ct_ov ex p = 0 ∧ ct_ed gW tW o p c = true) → post (-1)) :
    wpX_after post (gW, tW, ex, bA, bB, bT, bTh, rd, qd, o, inn, w, f, m, q) (nI p) (nI c) := by
  have hov := ct_ov_lt ex p
  refine br_f (nI_pos (by omega)) (br_t (nI_le (b := 12) (by omega) (by omega)) (ct_over hp (pk_eq (ct_ov ex p) 0 (fun h0 => ?_) (fun h0 => H2 (fun z => h0 z.1)))))
  have H1' := H1 h0
  have H2' : ¬ ct_ed gW tW o p c = true → post (-1) := fun z => H2 (fun y => z y.2)
  refine ⟨by decide, nm_r (ct_dA hp) ⟨by decide, by decide, nm_r (ct_dB hp) ⟨by decide, by decide, nm_r (ct_dT hp) ⟨by decide, ?_⟩⟩⟩⟩
  refine pk_eq (p % 2) 1 (fun hs => pk_eq c 12 (fun h12 => ?_) (fun h12 => ?_)) (fun hs => pk_eq c 12 (fun h12 => ?_) (fun h12 => ?_)) (ct_dS hp)
  · subst h12
    rw [ct_ed_odd12 hs] at H1' H2'
    rw [ct_tg_odd12 hs] at H1'
    refine br_c (fun h => H2' (by rw [decide_eq_true_eq]; exact fun z => z h)) (fun h => ek_v (P := post) (pk_sub (b := 1) (by omega)) (H1' (decide_eq_true h)))
  · refine pk_lt 5 c (fun h => H2' (fun z => absurd (ct_ed_oddc hs h12 z) (by omega))) (fun h => ⟨pk_in (p / 2 % 6) 6 (by omega), ?_⟩)
    rw [nI_clamp (show p / 2 % 6 < 2 ^ 31 by omega)]
    rw [ct_ed_odd hs h12, decide_eq_true (show c < 6 by omega), Bool.true_and] at H1' H2'
    rw [ct_tg_odd hs h12] at H1'
    refine ek_if (ct_bit0 (show c < 31 by omega)) (fun e => H2' e) (fun e => ek_v (P := post) ?_ (H1' (Classical.not_not.mp e)))
    have e1 : nI p - 1 = nI (p - 1) := pk_sub (b := 1) (by omega)
    rw [e1]
    exact ct_lin (k := 2) (by omega)
  · subst h12
    rw [ct_ed_ev12 hs] at H1' H2'
    rw [ct_tg_ev12 hs] at H1'
    refine br_c (fun h => H2' (by rw [decide_eq_true_eq]; exact fun z => z h)) (fun h => ek_v (P := post) (nI_1 p) (H1' (decide_eq_true h)))
  · refine pk_le 6 c (fun h => nm_r (e' := nI (c - 6)) (pk_sub (b := 6) h) ⟨pk_in (p / 12 % 6) 6 (by omega), ?_⟩) (fun h => ⟨pk_in (p / 72) 6 (by omega), ?_⟩)
    · rw [nI_clamp (show p / 12 % 6 < 2 ^ 31 by omega)]
      rw [ct_ed_evB hs h12 (by omega)] at H1' H2'
      rw [ct_tg_evB hs h12 (by omega)] at H1'
      refine ek_if (ct_bit0 (show c - 6 < 31 by omega)) (fun e => H2' e) (fun e => ek_v (P := post) ?_ (H1' (Classical.not_not.mp e)))
      rw [nI_1]
      exact ct_lin (k := 12) (by omega)
    · rw [nI_clamp (show p / 72 < 2 ^ 31 by omega)]
      rw [ct_ed_evA hs (by omega)] at H1' H2'
      rw [ct_tg_evA hs (by omega)] at H1'
      refine ek_if (ct_bit0 (show c < 31 by omega)) (fun e => H2' e) (fun e => ek_v (P := post) ?_ (H1' (Classical.not_not.mp e)))
      rw [nI_1]
      exact ct_lin (k := 72) (by omega)
theorem ct_settle {post : St2 → Prop} {k l : Nat} (hn : n < 432) (hp : p < 432) (hk : k < 3) (hl : l < 500) (H : post (gW, tW, ex, bA, bB, bT, bTh, rd, nI (n + 1), o, inn, upd w p (nI k), upd f p (nI l), m, upd q n (nI p))) :
    wpX_settle post (gW, tW, ex, bA, bB, bT, bTh, rd, nI n, o, inn, w, f, m, q) (nI p) (nI k) (nI l) := by
  have e1 : upd w (nI p).toNatClampNeg (nI k).toInt8.toInt32 = upd w p (nI k) := by rw [nI_clamp (by omega), ct_i8 k (by omega)]
  have e2 : upd f (nI p).toNatClampNeg (nI l).toInt16.toInt32 = upd f p (nI l) := by rw [nI_clamp (by omega), ct_i16 l (by omega)]
  have e3 : upd q (nI n).toNatClampNeg (nI p).toInt16.toInt32 = upd q n (nI p) := by rw [nI_clamp (by omega), ct_i16 p (by omega)]
  exact br_t (nI_lt (b := 432) hn (by omega)) ⟨pk_in p 432 hp, nm_r e1 ⟨pk_in p 432 hp, nm_r e2 ⟨pk_in n 432 hn, nm_r e3 (nm_r (nI_1 n) H)⟩⟩⟩
end
end
section
/-! answer and spread -/
section
variable {gW tW ex bA bB bT bTh rd : Int32} {o inn w f m q : Nat → Int32} {n p c : Nat}
theorem ct_ans50 {post : St2 → Prop} {k l : Nat} (hn : n < 432) (hp : p < 432) (hk : k < 3) (hl : l < 500) (H : post (gW, tW, ex, bA, bB, bT, bTh, rd, nI (n + 1), o, inn, upd w p (nI k), upd f p (nI l), m, upd q n (nI p))) :
    wX_answer_50 post (nI p) (nI k) (nI l) gW tW ex bA bB bT bTh rd (nI n) o inn w f m q := by
  unfold wX_answer_50
  exact ct_settle hn hp hk hl H
theorem ct_ans22 {post : St2 → Prop} {k l s : Nat} {z : Int32} (hp : p < 432) (hs : s < 13) (hm : m p = nI (s + 1))
    (H1 : 0 < s → post (gW, tW, ex, bA, bB, bT, bTh, rd, nI n, o, inn, w, f, upd m p (nI s), q))
    (H2 : wX_answer_50 post (nI p) (nI k) (nI l) gW tW ex bA bB bT bTh rd (nI n) o inn w f (upd m p (nI s)) q) :
    wX_answer_22 post (nI p) (nI k) (nI l) z gW tW ex bA bB bT bTh rd (nI n) o inn w f m q := by
  have e : upd m (nI p).toNatClampNeg ((m (nI p).toNatClampNeg - 1).toInt8.toInt32) = upd m p (nI s) := by
    rw [nI_clamp (by omega), hm, nI_pred, ct_i8 s (by omega)]
  refine ⟨pk_in p 432 hp, pk_in p 432 hp, nm_r e (br_c (fun _ => H2) (fun _ => ⟨pk_in p 432 hp, pk_eq s 0 (fun _ => H2) (fun h => H1 (by omega)) ?_⟩))⟩
  rw [nI_clamp (by omega), pk_us]
theorem ct_answer {post : St2 → Prop} {dn : Nat → Nat → Bool} {i k l : Nat} (hI : ct_I gW tW ex o 432 999 dn n w f m q) (hp : p < 432) (hc : c < 13) (he : ct_ed gW tW o p c = true) (hd : dn p c = false)
    (hi : i < n) (hk : 0 < k) (hk3 : k < 3) (hw : w (ct_tg p c) = nI k) (hf : f (ct_tg p c) = nI l) (hl : l ≤ i)
    (H : ∀ (n' : Nat) (w' f' m' q' : Nat → Int32), ct_I gW tW ex o 432 999 (ct_add dn p c) n' w' f' m' q' → ct_K n w f q n' w' f' q' → post (gW, tW, ex, bA, bB, bT, bTh, rd, nI n', o, inn, w', f', m', q')) :
    wpX_answer post (gW, tW, ex, bA, bB, bT, bTh, rd, nI n, o, inn, w, f, m, q) (nI p) (nI k) (nI (l + 1)) := by
  have hcl : (nI p).toNatClampNeg = p := nI_clamp (by omega)
  have hn := ct_I_n hI
  by_cases h0 : w p = 0
  · obtain ⟨s, hs13, hm, hov, hs, hI'⟩ := ct_I_ans hI (by omega) hp h0 hc he hd
    obtain ⟨hn', hI2⟩ := ct_I_set (xp := 999) (k := k) (l := l + 1) hI' (Nat.le_refl _) hp h0 hk hk3 (by omega) (Or.inr ⟨hov, c, hc, he, hw, by rw [hf, nI_1]⟩)
    have go : ∀ z : Int32, wX_answer_22 post (nI p) (nI k) (nI (l + 1)) z gW tW ex bA bB bT bTh rd (nI n) o inn w f m q := fun z =>
      ct_ans22 hp hs13 hm (fun h => H _ _ _ _ _ (ct_I_xp hI' (fun _ _ => ⟨hov, by rw [pk_us, ← hs], by rw [← hs]; exact h⟩)) ct_K_refl) (ct_ans50 hn' hp hk3 (by omega) (H _ _ _ _ _ hI2 (ct_K_set h0)))
    exact ⟨pk_in p 432 hp, br_t (by rw [hcl]; exact h0) ⟨by decide, br_c (fun _ => go 2) (fun _ => go 1)⟩⟩
  · exact ⟨pk_in p 432 hp, br_f (by rw [hcl]; exact h0) (H _ _ _ _ _ (ct_I_dn hI (fun p' hp' hw' c' _ _ => (ct_add_ne (fun z => h0 (by rw [← z]; exact hw'))).symm)) ct_K_refl)⟩
theorem ct_K_at {n' Q k l : Nat} {w' f' q' : Nat → Int32} (h : ct_K n w f q n' w' f' q') (hk : 0 < k) (hk3 : k < 3) (hw : w Q = nI k) (hf : f Q = nI l) : w' Q = nI k ∧ f' Q = nI l := by
  obtain ⟨e1, e2⟩ := h.2.2 Q (by rw [hw]; exact nI_ne0 hk (by omega))
  exact ⟨e1.trans hw, e2.trans hf⟩
section
variable {post : St2 → Prop} {B : Nat → Bool} {Q k l i : Nat}
theorem ct_sp48 (hM : ct_M o inn) (hQ : Q < 432) (hs : ¬ Q % 2 = 1) (hB : B Q = false) (hk : 0 < k) (hk3 : k < 3) (hI : ct_I gW tW ex o 432 999 (fun p c => B (ct_tg p c)) n w f m q) (hi : i < n) (hw : w Q = nI k) (hf : f Q = nI l) (hl : l ≤ i)
    (H : ∀ (n' : Nat) (w' f' m' q' : Nat → Int32), ct_I gW tW ex o 432 999 (ct_De B Q) n' w' f' m' q' → ct_K n w f q n' w' f' q' → post (gW, tW, ex, bA, bB, bT, bTh, rd, nI n', o, inn, w', f', m', q')) :
    ∃ fu, wX_spread_48 post (nI Q) (nI (Q / 2 % 6)) (nI k) (nI (l + 1)) fu 0 gW tW ex bA bB bT bTh rd (nI n) o inn w f m q := by
  refine pk_loop (σ := Nat × (Nat → Int32) × (Nat → Int32) × (Nat → Int32) × (Nat → Int32))
    (fun fu x s => wX_spread_48 post (nI Q) (nI (Q / 2 % 6)) (nI k) (nI (l + 1)) fu (nI x) gW tW ex bA bB bT bTh rd (nI s.1) o inn s.2.1 s.2.2.1 s.2.2.2.1 s.2.2.2.2)
    (fun x s => ct_I gW tW ex o 432 999 (ct_Dt B Q x) s.1 s.2.1 s.2.2.1 s.2.2.2.1 s.2.2.2.2 ∧ ct_K n w f q s.1 s.2.1 s.2.2.1 s.2.2.2.2)
    6 0 (n, w, f, m, q) (by omega) ⟨ct_I_dn hI (fun p _ _ c _ _ => ct_Dt_0.symm), ct_K_refl⟩ ?_ ?_
  · rintro fu ⟨n1, w1, f1, m1, q1⟩ ⟨h1, h2⟩
    dsimp only at h1 h2
    show wX_spread_48 post (nI Q) (nI (Q / 2 % 6)) (nI k) (nI (l + 1)) (fu + 1) (nI 6) gW tW ex bA bB bT bTh rd (nI n1) o inn w1 f1 m1 q1
    obtain ⟨hw1, hf1⟩ := ct_K_at h2 hk hk3 hw hf
    have hn1 := h2.1
    have et : ct_tg (Q + 1) 12 = Q := by
      rw [ct_tg_odd12 (by omega)]
      omega
    refine pk_le 6 6 (fun _ => br_c (fun ht => H n1 w1 f1 m1 q1 (ct_I_dn h1 (fun p hp _ c hc he => ct_Dt_f hs hp hc he ht)) h2) (fun ht => ?_)) (fun z => absurd z (by omega))
    rw [nI_1]
    exact ct_answer (c := 12) h1 (by omega) (by omega) (by rw [ct_ed_odd12 (by omega)]; exact decide_eq_true ht) (ct_Dt_new12 hs hB) (show i < n1 by omega) hk hk3 (by rw [et]; exact hw1) (by rw [et]; exact hf1) hl
      (fun n' w' f' m' q' hI' hK' => H n' w' f' m' q' (ct_I_dn hI' (fun p hp _ c hc he => ct_Dt_e hs hp hc he)) (ct_K_trans h2 hK'))
  · rintro fu x ⟨n1, w1, f1, m1, q1⟩ hx ⟨h1, h2⟩ hgo
    dsimp only at h1 h2
    show wX_spread_48 post (nI Q) (nI (Q / 2 % 6)) (nI k) (nI (l + 1)) (fu + 1) (nI x) gW tW ex bA bB bT bTh rd (nI n1) o inn w1 f1 m1 q1
    obtain ⟨hw1, hf1⟩ := ct_K_at h2 hk hk3 hw hf
    have hn1 := h2.1
    obtain ⟨t1, t2, t3, t4⟩ := ct_t1 hQ hs hx
    have hb : ct_b (o x) (Q / 2 % 6) = ct_b (inn (Q / 2 % 6)) x := hM x hx (Q / 2 % 6) (by omega)
    refine pk_le 6 x (fun z => absurd z (by omega)) (fun _ => ⟨pk_in (Q / 2 % 6) 6 (by omega), ?_⟩)
    rw [nI_clamp (show Q / 2 % 6 < 2 ^ 31 by omega)]
    refine ek_if (ct_bit1 (show x < 31 by omega)) (fun e => ?_) (fun e => nm_r (nI_1 x) (hgo (n1, w1, f1, m1, q1) ⟨ct_I_dn h1 (fun p hp _ c _ he => ct_Dt_n hs hp he (by rw [hb]; exact e)), h2⟩))
    have ea : (nI Q + 1) + (2 * (nI x - nI (Q / 2 % 6))) = nI (Q + 1 - 2 * (Q / 2 % 6) + 2 * x) := by
      rw [nI_1]
      exact ct_lin (k := 2) (by omega)
    rw [ea]
    exact ct_answer (c := Q / 2 % 6) h1 t1 (by omega) (by rw [ct_ed_odd t2 (by omega), t3, hb, e, decide_eq_true (by omega)]; rfl) (ct_Dt_new hQ hs hx hB) (show i < n1 by omega) hk hk3 (by rw [t4]; exact hw1) (by rw [t4]; exact hf1) hl
      (fun n' w' f' m' q' hI' hK' => nm_r (nI_1 x) (hgo (n', w', f', m', q') ⟨ct_I_dn hI' (fun p hp _ c _ he => ct_Dt_s hQ hs hx hp he), ct_K_trans h2 hK'⟩))
theorem ct_sp159 {x : Nat} {J : Int32 → Int32 → Int32 → Int32 → Int32 → Int32 → Int32 → Int32 → Int32 → Int32 → (Nat → Int32) → (Nat → Int32) → (Nat → Int32) → (Nat → Int32) → (Nat → Int32) → (Nat → Int32) → Prop}
    (hM : ct_M o inn) (hQ : Q < 432) (hs : Q % 2 = 1) (hB : B Q = false) (hk : 0 < k) (hk3 : k < 3) (hx : x < 6) (hI : ct_I gW tW ex o 432 999 (ct_Dg B Q (x + 1) x) n w f m q) (hi : i < n) (hw : w Q = nI k) (hf : f Q = nI l) (hl : l ≤ i)
    (H : ∀ (n' : Nat) (w' f' m' q' : Nat → Int32), ct_I gW tW ex o 432 999 (ct_Dg B Q (x + 1) (x + 1)) n' w' f' m' q' → ct_K n w f q n' w' f' q' → J (nI (x + 1)) gW tW ex bA bB bT bTh rd (nI n') o inn w' f' m' q') :
    wX_spread_159 post J (nI Q) (nI (Q / 72)) (nI (Q / 12 % 6)) (nI k) (nI (l + 1)) (nI x) gW tW ex bA bB bT bTh rd (nI n) o inn w f m q := by
  obtain ⟨t1, t2, t3, t4⟩ := ct_gB1 hQ hs hx
  have hb : ct_b (o x) (Q / 12 % 6) = ct_b (inn (Q / 12 % 6)) x := hM x hx (Q / 12 % 6) (by omega)
  refine ⟨pk_in (Q / 12 % 6) 6 (by omega), ?_⟩
  rw [nI_clamp (show Q / 12 % 6 < 2 ^ 31 by omega)]
  refine ek_if (ct_bit1 (show x < 31 by omega)) (fun e => ?_) (fun e => nm_r (nI_1 x) (H n w f m q (ct_I_dn hI (fun p hp _ c _ he => ct_DgB_n hs hp he (by rw [hb]; exact e))) ct_K_refl))
  have e1 : nI Q - 1 = nI (Q - 1) := pk_sub (b := 1) (by omega)
  have ea : (nI Q - 1) + (12 * (nI x - nI (Q / 12 % 6))) = nI (Q - 1 - 12 * (Q / 12 % 6) + 12 * x) := by
    rw [e1]
    exact ct_lin (k := 12) (by omega)
  rw [ea]
  exact ct_answer (c := 6 + Q / 12 % 6) hI t1 (by omega) (by rw [ct_ed_evB t2 (by omega) (by omega), t3, Nat.add_sub_cancel_left, hb, e]) (ct_DgB_new hQ hs hx hB) hi hk hk3 (by rw [t4]; exact hw) (by rw [t4]; exact hf) hl
    (fun n' w' f' m' q' hI' hK' => nm_r (nI_1 x) (H n' w' f' m' q' (ct_I_dn hI' (fun p hp _ c _ he => ct_DgB_s hQ hs hx hp he)) hK'))
theorem ct_sp118 (hM : ct_M o inn) (hQ : Q < 432) (hs : Q % 2 = 1) (hB : B Q = false) (hk : 0 < k) (hk3 : k < 3) (hI : ct_I gW tW ex o 432 999 (fun p c => B (ct_tg p c)) n w f m q) (hi : i < n) (hw : w Q = nI k) (hf : f Q = nI l) (hl : l ≤ i)
    (H : ∀ (n' : Nat) (w' f' m' q' : Nat → Int32), ct_I gW tW ex o 432 999 (ct_De B Q) n' w' f' m' q' → ct_K n w f q n' w' f' q' → post (gW, tW, ex, bA, bB, bT, bTh, rd, nI n', o, inn, w', f', m', q')) :
    ∃ fu, wX_spread_118 post (nI Q) (nI (Q / 72)) (nI (Q / 12 % 6)) (nI k) (nI (l + 1)) fu 0 gW tW ex bA bB bT bTh rd (nI n) o inn w f m q := by
  have e1 : nI Q - 1 = nI (Q - 1) := pk_sub (b := 1) (by omega)
  refine pk_loop (σ := Nat × (Nat → Int32) × (Nat → Int32) × (Nat → Int32) × (Nat → Int32))
    (fun fu x s => wX_spread_118 post (nI Q) (nI (Q / 72)) (nI (Q / 12 % 6)) (nI k) (nI (l + 1)) fu (nI x) gW tW ex bA bB bT bTh rd (nI s.1) o inn s.2.1 s.2.2.1 s.2.2.2.1 s.2.2.2.2)
    (fun x s => ct_I gW tW ex o 432 999 (ct_Dg B Q x x) s.1 s.2.1 s.2.2.1 s.2.2.2.1 s.2.2.2.2 ∧ ct_K n w f q s.1 s.2.1 s.2.2.1 s.2.2.2.2)
    6 0 (n, w, f, m, q) (by omega) ⟨ct_I_dn hI (fun p _ _ c _ _ => ct_Dg_0.symm), ct_K_refl⟩ ?_ ?_
  · rintro fu ⟨n1, w1, f1, m1, q1⟩ ⟨h1, h2⟩
    dsimp only at h1 h2
    show wX_spread_118 post (nI Q) (nI (Q / 72)) (nI (Q / 12 % 6)) (nI k) (nI (l + 1)) (fu + 1) (nI 6) gW tW ex bA bB bT bTh rd (nI n1) o inn w1 f1 m1 q1
    obtain ⟨hw1, hf1⟩ := ct_K_at h2 hk hk3 hw hf
    have hn1 := h2.1
    have et : ct_tg (Q - 1) 12 = Q := by
      rw [ct_tg_ev12 (by omega)]
      omega
    refine pk_le 6 6 (fun _ => br_c (fun ht => H n1 w1 f1 m1 q1 (ct_I_dn h1 (fun p hp _ c hc he => ct_Dg_f hs hp hc he ht)) h2) (fun ht => ?_)) (fun z => absurd z (by omega))
    rw [e1]
    exact ct_answer (c := 12) h1 (by omega) (by omega) (by rw [ct_ed_ev12 (by omega)]; exact decide_eq_true ht) (ct_Dg_new12 hs hB) (show i < n1 by omega) hk hk3 (by rw [et]; exact hw1) (by rw [et]; exact hf1) hl
      (fun n' w' f' m' q' hI' hK' => H n' w' f' m' q' (ct_I_dn hI' (fun p hp _ c hc he => ct_Dg_e hs hp hc he)) (ct_K_trans h2 hK'))
  · rintro fu x ⟨n1, w1, f1, m1, q1⟩ hx ⟨h1, h2⟩ hgo
    dsimp only at h1 h2
    show wX_spread_118 post (nI Q) (nI (Q / 72)) (nI (Q / 12 % 6)) (nI k) (nI (l + 1)) (fu + 1) (nI x) gW tW ex bA bB bT bTh rd (nI n1) o inn w1 f1 m1 q1
    obtain ⟨hw1, hf1⟩ := ct_K_at h2 hk hk3 hw hf
    have hn1 := h2.1
    obtain ⟨t1, t2, t3, t4⟩ := ct_gA1 hQ hs hx
    have hb : ct_b (o x) (Q / 72) = ct_b (inn (Q / 72)) x := hM x hx (Q / 72) (by omega)
    have go : ∀ (n2 : Nat) (w2 f2 m2 q2 : Nat → Int32), ct_I gW tW ex o 432 999 (ct_Dg B Q (x + 1) x) n2 w2 f2 m2 q2 → ct_K n w f q n2 w2 f2 q2 →
        wX_spread_159 post (wX_spread_118 post (nI Q) (nI (Q / 72)) (nI (Q / 12 % 6)) (nI k) (nI (l + 1)) fu) (nI Q) (nI (Q / 72)) (nI (Q / 12 % 6)) (nI k) (nI (l + 1)) (nI x) gW tW ex bA bB bT bTh rd (nI n2) o inn w2 f2 m2 q2 := by
      intro n2 w2 f2 m2 q2 g1 g2
      obtain ⟨hw2, hf2⟩ := ct_K_at g2 hk hk3 hw hf
      have hn2 := g2.1
      exact ct_sp159 hM hQ hs hB hk hk3 hx g1 (show i < n2 by omega) hw2 hf2 hl (fun n' w' f' m' q' hI' hK' => hgo (n', w', f', m', q') ⟨hI', ct_K_trans g2 hK'⟩)
    refine pk_le 6 x (fun z => absurd z (by omega)) (fun _ => ⟨pk_in (Q / 72) 6 (by omega), ?_⟩)
    rw [nI_clamp (show Q / 72 < 2 ^ 31 by omega)]
    refine ek_if (ct_bit1 (show x < 31 by omega)) (fun e => ?_) (fun e => go n1 w1 f1 m1 q1 (ct_I_dn h1 (fun p hp _ c _ he => ct_DgA_n hs hp he (by rw [hb]; exact e))) h2)
    have ea : (nI Q - 1) + (72 * (nI x - nI (Q / 72))) = nI (Q - 1 - 72 * (Q / 72) + 72 * x) := by
      rw [e1]
      exact ct_lin (k := 72) (by omega)
    rw [ea]
    exact ct_answer (c := Q / 72) h1 t1 (by omega) (by rw [ct_ed_evA t2 (by omega), t3, hb, e]) (ct_DgA_new hQ hs hx hB) (show i < n1 by omega) hk hk3 (by rw [t4]; exact hw1) (by rw [t4]; exact hf1) hl
      (fun n' w' f' m' q' hI' hK' => go n' w' f' m' q' (ct_I_dn hI' (fun p hp _ c _ he => ct_DgA_s hQ hs hx hp he)) (ct_K_trans h2 hK'))
theorem ct_spread (hM : ct_M o inn) (hQ : Q < 432) (hB : B Q = false) (hk : 0 < k) (hk3 : k < 3) (hI : ct_I gW tW ex o 432 999 (fun p c => B (ct_tg p c)) n w f m q) (hi : i < n) (hw : w Q = nI k) (hf : f Q = nI l) (hl : l ≤ i)
    (H : ∀ (n' : Nat) (w' f' m' q' : Nat → Int32), ct_I gW tW ex o 432 999 (ct_De B Q) n' w' f' m' q' → ct_K n w f q n' w' f' q' → post (gW, tW, ex, bA, bB, bT, bTh, rd, nI n', o, inn, w', f', m', q')) :
    wpX_spread post (gW, tW, ex, bA, bB, bT, bTh, rd, nI n, o, inn, w, f, m, q) (nI Q) := by
  have e5 : w (nI Q).toNatClampNeg = nI k := by rw [nI_clamp (by omega), hw]
  have e6 : f (nI Q).toNatClampNeg + 1 = nI (l + 1) := by rw [nI_clamp (by omega), hf, nI_1]
  exact ⟨by decide, nm_r (ct_dA hQ) ⟨by decide, by decide, nm_r (ct_dB hQ) ⟨by decide, by decide, nm_r (ct_dT hQ) ⟨pk_in Q 432 hQ, nm_r e5 ⟨pk_in Q 432 hQ, nm_r e6 ⟨by decide,
    pk_eq (Q % 2) 0 (fun h => ct_sp48 hM hQ (by omega) hB hk hk3 hI hi hw hf hl H) (fun h => ct_sp118 hM hQ (by omega) hB hk hk3 hI hi hw hf hl H) (ct_dS hQ)⟩⟩⟩⟩⟩⟩
end
end
end
section
/-! prepare -/
section
variable {gW tW ex bA bB bT bTh rd qd : Int32} {o inn w f m q : Nat → Int32} {n i : Nat} {post : St2 → Prop}
theorem ct_p77 {v : Nat} {dn : Nat → Nat → Bool} {J : Int32 → Int32 → Int32 → Int32 → Int32 → Int32 → Int32 → Int32 → Int32 → Int32 → (Nat → Int32) → (Nat → Int32) → (Nat → Int32) → (Nat → Int32) → (Nat → Int32) → (Nat → Int32) → Prop}
    (hi : i < 432) (hv : v < 3) (hI : ct_I gW tW ex o (i + 1) i dn n w f m q) (hf : ∀ p, p < i + 1 → ¬ w p = 0 → f p = 0) (hw : w i = 0)
    (h0 : v = 0 → ct_ov ex i = 0 ∧ m i = nI (ct_n (fun c => ct_ed gW tW o i c && !dn i c) 13) ∧ 0 < ct_n (fun c => ct_ed gW tW o i c && !dn i c) 13)
    (H : ∀ (n' : Nat) (w' f' q' : Nat → Int32), ct_I gW tW ex o (i + 1) 999 dn n' w' f' m q' → (∀ p, p < i + 1 → ¬ w' p = 0 → f' p = 0) → J (nI (i + 1)) gW tW ex bA bB bT bTh rd (nI n') o inn w' f' m q') :
    wX_prepare_77 post J (nI i) (nI v) gW tW ex bA bB bT bTh rd (nI n) o inn w f m q := by
  refine pk_eq v 0 (fun z => nm_r (nI_1 i) (H n w f q (ct_I_xp hI (fun _ _ => h0 z)) hf)) (fun z => ?_)
  obtain ⟨hn', hI2⟩ := ct_I_set (xp := 999) (k := v) (l := 0) hI (by omega) (by omega) hw (by omega) hv (by omega) (Or.inl rfl)
  refine ct_settle (l := 0) hn' hi hv (by omega) (nm_r (nI_1 i) (H _ _ _ _ hI2 ?_))
  intro p hp hwp
  by_cases e : p = i
  · rw [e, pk_us, nI_0]
  · rw [pk_un e] at hwp
    rw [pk_un e]
    exact hf p hp hwp
theorem ct_p96 (hM : ct_M o inn) (hI : ct_I gW tW ex o 432 999 (fun _ _ => false) n w f m q)
    (H : ∀ (qd' : Int32) (w' f' m' q' : Nat → Int32), ct_F gW tW ex o w' f' → post (gW, tW, ex, bA, bB, bT, bTh, 1, qd', o, inn, w', f', m', q')) :
    ∃ fu, wX_prepare_96 post fu 0 gW tW ex bA bB bT bTh rd (nI n) o inn w f m q := by
  have fin : ∀ (i n1 : Nat) (w1 f1 m1 q1 : Nat → Int32) (B : Nat → Bool), i = n1 → (∀ t, t < 432 → (B t = true ↔ ∃ j, j < i ∧ q1 j = nI t)) → ct_I gW tW ex o 432 999 (fun p c => B (ct_tg p c)) n1 w1 f1 m1 q1 → ct_F gW tW ex o w1 f1 := by
    intro i n1 w1 f1 m1 q1 B e hB h
    subst e
    exact ct_F_of h (by omega) (fun p c hp hc he hw => (hB (ct_tg p c) (ct_tg_lt hp hc he)).mpr (h.2.2.2.1 (ct_tg p c) (ct_tg_lt hp hc he) hw))
  refine pk_loop (σ := Nat × (Nat → Int32) × (Nat → Int32) × (Nat → Int32) × (Nat → Int32))
    (fun fu x s => wX_prepare_96 post fu (nI x) gW tW ex bA bB bT bTh rd (nI s.1) o inn s.2.1 s.2.2.1 s.2.2.2.1 s.2.2.2.2)
    (fun x s => x ≤ s.1 ∧ ∃ B : Nat → Bool, (∀ t, t < 432 → (B t = true ↔ ∃ j, j < x ∧ s.2.2.2.2 j = nI t)) ∧ ct_I gW tW ex o 432 999 (fun p c => B (ct_tg p c)) s.1 s.2.1 s.2.2.1 s.2.2.2.1 s.2.2.2.2)
    432 0 (n, w, f, m, q) (by omega) ⟨Nat.zero_le _, fun _ => false, fun t _ => ⟨fun z => absurd z Bool.false_ne_true, fun ⟨j, hj, _⟩ => absurd hj (Nat.not_lt_zero j)⟩, hI⟩ ?_ ?_
  · rintro fu ⟨n1, w1, f1, m1, q1⟩ ⟨hx, B, hB, h1⟩
    dsimp only at hx hB h1
    have hn := ct_I_n h1
    show wX_prepare_96 post (fu + 1) (nI 432) gW tW ex bA bB bT bTh rd (nI n1) o inn w1 f1 m1 q1
    exact pk_le n1 432 (fun _ => H _ _ _ _ _ (fin 432 n1 w1 f1 m1 q1 B (by omega) hB h1)) (fun z => absurd z (by omega))
  · rintro fu x ⟨n1, w1, f1, m1, q1⟩ hx432 ⟨hx, B, hB, h1⟩ hgo
    dsimp only at hx hB h1
    have hn := ct_I_n h1
    show wX_prepare_96 post (fu + 1) (nI x) gW tW ex bA bB bT bTh rd (nI n1) o inn w1 f1 m1 q1
    refine pk_le n1 x (fun z => H _ _ _ _ _ (fin x n1 w1 f1 m1 q1 B (by omega) hB h1)) (fun z => pk_le 432 x (fun y => absurd y (by omega)) (fun _ => ⟨pk_in x 432 hx432, ?_⟩))
    rw [nI_clamp (show x < 2 ^ 31 by omega)]
    obtain ⟨Q, hQ, hq, hwQ, l, hl, hfl⟩ := h1.2.1 x z
    obtain ⟨k, hk3, hwk⟩ := h1.2.2.2.2.1 Q hQ
    have hk : 0 < k := by
      rcases Nat.eq_zero_or_pos k with e | e
      · rw [e, nI_0] at hwk
        exact absurd hwk hwQ
      · exact e
    have hBQ : B Q = false := by
      cases hb : B Q
      · rfl
      · obtain ⟨j, hj, hqj⟩ := (hB Q hQ).mp hb
        have := h1.2.2.1 j x (by omega) z (hqj.trans hq.symm)
        omega
    rw [hq]
    refine ct_spread hM hQ hBQ hk hk3 h1 z hwk hfl hl (fun n' w' f' m' q' hI' hK' => nm_r (nI_1 x) (hgo (n', w', f', m', q') ⟨Nat.le_trans z hK'.1, fun t => B t || decide (t = Q), fun t ht => ?_, hI'⟩))
    rw [Bool.or_eq_true, decide_eq_true_eq, hB t ht]
    constructor
    · rintro (⟨j, hj, hqj⟩ | e)
      · exact ⟨j, by omega, (hK'.2.1 j (by omega)).trans hqj⟩
      · exact ⟨x, by omega, by rw [e]; exact (hK'.2.1 x z).trans hq⟩
    · rintro ⟨j, hj, hqj⟩
      have hqj' : q' j = nI t := hqj
      rw [hK'.2.1 j (by omega)] at hqj'
      by_cases e : j = x
      · rw [e, hq, nI_eq (by omega) (by omega)] at hqj'
        exact Or.inr hqj'.symm
      · exact Or.inl ⟨j, by omega, hqj'⟩
theorem ct_p15 (hM : ct_M o inn)
    (H : ∀ (qd' : Int32) (w' f' m' q' : Nat → Int32), ct_F gW tW ex o w' f' → post (gW, tW, ex, bA, bB, bT, bTh, 1, qd', o, inn, w', f', m', q')) :
    ∃ fu, wX_prepare_15 post fu 0 gW tW ex bA bB bT bTh rd 0 o inn w f m q := by
  refine pk_loop (σ := Nat × (Nat → Int32) × (Nat → Int32) × (Nat → Int32) × (Nat → Int32))
    (fun fu x s => wX_prepare_15 post fu (nI x) gW tW ex bA bB bT bTh rd (nI s.1) o inn s.2.1 s.2.2.1 s.2.2.2.1 s.2.2.2.2)
    (fun x s => ct_I gW tW ex o x 999 (fun _ _ => false) s.1 s.2.1 s.2.2.1 s.2.2.2.1 s.2.2.2.2 ∧ (∀ p, p < x → ¬ s.2.1 p = 0 → s.2.2.1 p = 0))
    432 0 (0, w, f, m, q) (by omega) ⟨ct_I_0, fun p hp => absurd hp (Nat.not_lt_zero p)⟩ ?_ ?_
  · rintro fu ⟨n1, w1, f1, m1, q1⟩ ⟨h1, h2⟩
    dsimp only at h1 h2
    show wX_prepare_15 post (fu + 1) (nI 432) gW tW ex bA bB bT bTh rd (nI n1) o inn w1 f1 m1 q1
    exact pk_le 432 432 (fun _ => ct_p96 hM h1 H) (fun z => absurd z (by omega))
  · rintro fu x ⟨n1, w1, f1, m1, q1⟩ hx ⟨h1, h2⟩ hgo
    dsimp only at h1 h2
    show wX_prepare_15 post (fu + 1) (nI x) gW tW ex bA bB bT bTh rd (nI n1) o inn w1 f1 m1 q1
    have hov := ct_ov_lt ex x
    have hcnt := ct_n_le (ct_ed gW tW o x) 13
    have e1 : upd w1 (nI x).toNatClampNeg 0 = upd w1 x 0 := by rw [nI_clamp (by omega)]
    have e2 : upd f1 (nI x).toNatClampNeg 0 = upd f1 x 0 := by rw [nI_clamp (by omega)]
    have e3 : upd m1 (nI x).toNatClampNeg (nI (ct_n (ct_ed gW tW o x) 13)).toInt8.toInt32 = upd m1 x (nI (ct_n (ct_ed gW tW o x) 13)) := by rw [nI_clamp (by omega), ct_i8 _ (by omega)]
    obtain ⟨g1, g2⟩ := ct_I_new (nI (ct_n (ct_ed gW tW o x) 13)) h1 (by omega) h2
    have ec : ct_n (fun c => ct_ed gW tW o x c && !false) 13 = ct_n (ct_ed gW tW o x) 13 := ct_n_congr (fun c _ => by rw [Bool.not_false, Bool.and_true])
    have go : ∀ v, v < 3 → (v = 0 → ct_ov ex x = 0 ∧ 0 < ct_n (ct_ed gW tW o x) 13) →
        wX_prepare_77 post (wX_prepare_15 post fu) (nI x) (nI v) gW tW ex bA bB bT bTh rd (nI n1) o inn (upd w1 x 0) (upd f1 x 0) (upd m1 x (nI (ct_n (ct_ed gW tW o x) 13))) q1 :=
      fun v hv h0 => ct_p77 hx hv g1 g2 pk_us (fun z => ⟨(h0 z).1, by rw [pk_us, ec], by rw [ec]; exact (h0 z).2⟩) (fun n' w' f' q' hI' hf' => hgo (n', w', f', _, q') ⟨hI', hf'⟩)
    refine pk_le 432 x (fun z => absurd z (by omega)) (fun _ => ⟨pk_in x 432 hx, nm_r e1 ⟨pk_in x 432 hx, nm_r e2 (ct_moveCount hx ⟨pk_in x 432 hx, nm_r e3 (ct_over hx ?_)⟩)⟩⟩)
    refine pk_eq (ct_ov ex x) 0 (fun h0 => pk_eq (ct_n (ct_ed gW tW o x) 13) 0 (fun hc => ⟨by decide, br_c (fun _ => ?_) (fun _ => ?_)⟩) (fun hc => go _ hov (fun _ => ⟨h0, by omega⟩))) (fun h0 => go _ hov (fun z => absurd z h0))
    · unfold wX_prepare_76
      exact go 1 (by omega) (fun z => absurd z (by omega))
    · unfold wX_prepare_76
      exact go 2 (by omega) (fun z => absurd z (by omega))
theorem ct_prepare (hM : ct_M o inn) (hr : rd = 0 ∨ (rd = 1 ∧ ct_F gW tW ex o w f))
    (H : ∀ (qd' : Int32) (w' f' m' q' : Nat → Int32), ct_F gW tW ex o w' f' → (rd = 1 → qd' = qd ∧ w' = w ∧ f' = f ∧ m' = m ∧ q' = q) → post (gW, tW, ex, bA, bB, bT, bTh, 1, qd', o, inn, w', f', m', q')) :
    wpX_prepare post (gW, tW, ex, bA, bB, bT, bTh, rd, qd, o, inn, w, f, m, q) := by
  rcases hr with e | ⟨e, hF⟩
  · subst e
    exact br_t rfl (ct_p15 hM (fun qd' w' f' m' q' hF => H qd' w' f' m' q' hF (fun z => absurd z (by decide))))
  · subst e
    exact br_f (by decide) (H qd w f m q hF (fun _ => ⟨rfl, rfl, rfl, rfl, rfl⟩))
end
end
section
/-! the questions: outcome, length, best; the board and play -/
theorem ct_v8 {a b t s : Nat} (ha : a < 6) (hb : b < 6) : (a + 8 * b + 64 * t + 512 * s) / 8 % 2 ^ 3 = b := by
  have e : (a + 8 * b + 64 * t + 512 * s) / 8 = b + 8 * t + 64 * s := by omega
  rw [e]
  show (b + 8 * t + 64 * s) % 8 = b
  omega
theorem ct_v64 {a b t s : Nat} (ha : a < 6) (hb : b < 6) (ht : t < 6) : (a + 8 * b + 64 * t + 512 * s) / 64 % 2 ^ 3 = t := by
  have e : (a + 8 * b + 64 * t + 512 * s) / 64 = t + 8 * s := by omega
  rw [e]
  show (t + 8 * s) % 8 = t
  omega
theorem ct_sub1 (x : Int32) : x + 1 - 1 = x := by grind
section
variable {gW tW ex rd qd : Int32} {o inn w f m q : Nat → Int32} {n p c : Nat}
theorem ct_board {post : Int32 → Prop} (hp : p < 432) (H : post (nI (p / 72 + 8 * (p / 12 % 6) + 64 * (p / 2 % 6) + 512 * (p % 2)))) :
    wpX_board post (gW, tW, ex, nI (p / 72), nI (p / 12 % 6), nI (p / 2 % 6), nI (p % 2), rd, qd, o, inn, w, f, m, q) := by
  have e : (nI (p / 72) + (8 * nI (p / 12 % 6))) + (64 * nI (p / 2 % 6)) = nI (p / 72 + 8 * (p / 12 % 6) + 64 * (p / 2 % 6)) := by
    show (nI (p / 72) + (nI 8 * nI (p / 12 % 6))) + (nI 64 * nI (p / 2 % 6)) = _
    rw [pk_mul, pk_mul, nI_add, nI_add]
  refine pk_eq (p % 2) 0 (fun h => ?_) (fun h => ?_)
  · unfold wX_board_14
    refine ek_v (P := post) ?_ H
    rw [e]
    show nI _ + nI 0 = _
    rw [nI_add]
    congr 1
    omega
  · unfold wX_board_14
    refine ek_v (P := post) ?_ H
    rw [e]
    show nI _ + nI 512 = _
    rw [nI_add]
    congr 1
    omega
theorem ct_bdA (hp : p < 432) : nI (p / 72 + 8 * (p / 12 % 6) + 64 * (p / 2 % 6) + 512 * (p % 2)) &&& 7 = nI (p / 72) := by
  rw [pk_andN (by omega) (m := 7) 3 (by decide)]
  congr 1
  omega
theorem ct_bdB (hp : p < 432) : (nI (p / 72 + 8 * (p / 12 % 6) + 64 * (p / 2 % 6) + 512 * (p % 2)) >>> ((3 : Int32) &&& 31)) &&& 7 = nI (p / 12 % 6) := by
  have e : nI (p / 72 + 8 * (p / 12 % 6) + 64 * (p / 2 % 6) + 512 * (p % 2)) >>> ((3 : Int32) &&& 31) = nI ((p / 72 + 8 * (p / 12 % 6) + 64 * (p / 2 % 6) + 512 * (p % 2)) / 8) := pk_shrN (by omega) _ 3 (by decide)
  rw [e, pk_andN (by omega) (m := 7) 3 (by decide)]
  rw [ct_v8 (by omega) (by omega)]
theorem ct_bdT (hp : p < 432) : (nI (p / 72 + 8 * (p / 12 % 6) + 64 * (p / 2 % 6) + 512 * (p % 2)) >>> ((6 : Int32) &&& 31)) &&& 7 = nI (p / 2 % 6) := by
  have e : nI (p / 72 + 8 * (p / 12 % 6) + 64 * (p / 2 % 6) + 512 * (p % 2)) >>> ((6 : Int32) &&& 31) = nI ((p / 72 + 8 * (p / 12 % 6) + 64 * (p / 2 % 6) + 512 * (p % 2)) / 64) := pk_shrN (by omega) _ 6 (by decide)
  rw [e, pk_andN (by omega) (m := 7) 3 (by decide)]
  rw [ct_v64 (by omega) (by omega) (by omega)]
theorem ct_outcome {post : Int32 → St2 → Prop} {bA bB bT bTh : Int32} (hM : ct_M o inn) (hr : rd = 0 ∨ (rd = 1 ∧ ct_F gW tW ex o w f)) (hp : p < 432)
    (H : ∀ (qd' : Int32) (w' f' m' q' : Nat → Int32), ct_F gW tW ex o w' f' → (rd = 1 → qd' = qd ∧ w' = w ∧ f' = f ∧ m' = m ∧ q' = q) → post (w' p) (gW, tW, ex, bA, bB, bT, bTh, 1, qd', o, inn, w', f', m', q')) :
    wpX_outcome post (gW, tW, ex, bA, bB, bT, bTh, rd, qd, o, inn, w, f, m, q) (nI (p / 72)) (nI (p / 12 % 6)) (nI (p / 2 % 6)) (nI (p % 2)) := by
  have hcl : (nI p).toNatClampNeg = p := nI_clamp (by omega)
  unfold wpX_outcome
  dsimp only
  refine ct_off (by omega) (br_t rfl (ct_off (by omega) (br_t rfl (ct_off (by omega) (br_t rfl (ct_prepare hM hr (fun qd' w' f' m' q' hF hs => ct_number hp ⟨pk_in p 432 hp, ?_⟩)))))))
  rw [hcl]
  exact H qd' w' f' m' q' hF hs
theorem ct_who {post : Int32 → St2 → Prop} (hM : ct_M o inn) (hr : rd = 0 ∨ (rd = 1 ∧ ct_F gW tW ex o w f)) (hp : p < 432)
    (H : ∀ (qd' : Int32) (w' f' m' q' : Nat → Int32), ct_F gW tW ex o w' f' → (rd = 1 → qd' = qd ∧ w' = w ∧ f' = f ∧ m' = m ∧ q' = q) → post (w' p) (gW, tW, ex, nI (p / 72), nI (p / 12 % 6), nI (p / 2 % 6), nI (p % 2), 1, qd', o, inn, w', f', m', q')) :
    wpL_who post (gW, tW, ex, nI (p / 72), nI (p / 12 % 6), nI (p / 2 % 6), nI (p % 2), rd, qd, o, inn, w, f, m, q) := by
  have go : ∀ z : Int32, z = nI (p % 2) → wL_who_43 post z (nI (p / 2 % 6)) (nI (p / 12 % 6)) (nI (p / 72)) gW tW ex (nI (p / 72)) (nI (p / 12 % 6)) (nI (p / 2 % 6)) (nI (p % 2)) rd qd o inn w f m q := by
    intro z ez
    subst ez
    unfold wL_who_43
    exact ct_outcome hM hr hp H
  refine ct_board hp (nm_r (ct_bdA hp) (nm_r (ct_bdB hp) (nm_r (ct_bdT hp) ?_)))
  refine pk_lt (p / 72 + 8 * (p / 12 % 6) + 64 * (p / 2 % 6) + 512 * (p % 2)) 512 (fun h => go 0 ?_) (fun h => go 1 ?_)
  · rw [show p % 2 = 0 by omega, nI_0]
  · rw [show p % 2 = 1 by omega]
    rfl
theorem ct_who1 {post : Int32 → St2 → Prop} (hM : ct_M o inn) (hF : ct_F gW tW ex o w f) (hp : p < 432)
    (H : post (w p) (gW, tW, ex, nI (p / 72), nI (p / 12 % 6), nI (p / 2 % 6), nI (p % 2), 1, qd, o, inn, w, f, m, q)) :
    wpL_who post (gW, tW, ex, nI (p / 72), nI (p / 12 % 6), nI (p / 2 % 6), nI (p % 2), 1, qd, o, inn, w, f, m, q) := by
  refine ct_who hM (Or.inr ⟨rfl, hF⟩) hp (fun qd' w' f' m' q' _ hs => ?_)
  obtain ⟨e1, e2, e3, e4, e5⟩ := hs rfl
  rw [e1, e2, e3, e4, e5]
  exact H
theorem ct_prep1 {post : St2 → Prop} {bA bB bT bTh : Int32} (H : post (gW, tW, ex, bA, bB, bT, bTh, 1, qd, o, inn, w, f, m, q)) : wpX_prepare post (gW, tW, ex, bA, bB, bT, bTh, 1, qd, o, inn, w, f, m, q) :=
  br_f (by decide) H
theorem ct_length {post : Int32 → St2 → Prop} (hp : p < 432)
    (H0 : w p = 0 → post (-3) (gW, tW, ex, nI (p / 72), nI (p / 12 % 6), nI (p / 2 % 6), nI (p % 2), 1, qd, o, inn, w, f, m, q))
    (H1 : ¬ w p = 0 → post (f p) (gW, tW, ex, nI (p / 72), nI (p / 12 % 6), nI (p / 2 % 6), nI (p % 2), 1, qd, o, inn, w, f, m, q)) :
    wpL_length post (gW, tW, ex, nI (p / 72), nI (p / 12 % 6), nI (p / 2 % 6), nI (p % 2), 1, qd, o, inn, w, f, m, q) := by
  have hcl : (nI p).toNatClampNeg = p := nI_clamp (by omega)
  have go : ∀ z : Int32, z = nI (p % 2) → wL_length_43 post z (nI (p / 2 % 6)) (nI (p / 12 % 6)) (nI (p / 72)) gW tW ex (nI (p / 72)) (nI (p / 12 % 6)) (nI (p / 2 % 6)) (nI (p % 2)) 1 qd o inn w f m q := by
    intro z ez
    subst ez
    unfold wL_length_43 wpX_length
    dsimp only
    refine ct_off (by omega) (br_t rfl (ct_off (by omega) (br_t rfl (ct_off (by omega) (br_t rfl (ct_prep1 (ct_number hp ⟨pk_in p 432 hp, ?_⟩)))))))
    rw [hcl]
    exact br_c (fun h => H0 h) (fun h => ⟨pk_in p 432 hp, H1 h⟩)
  refine ct_board hp (nm_r (ct_bdA hp) (nm_r (ct_bdB hp) (nm_r (ct_bdT hp) ?_)))
  refine pk_lt (p / 72 + 8 * (p / 12 % 6) + 64 * (p / 2 % 6) + 512 * (p % 2)) 512 (fun h => go 0 ?_) (fun h => go 1 ?_)
  · rw [show p % 2 = 0 by omega, nI_0]
  · rw [show p % 2 = 1 by omega]
    rfl
theorem ct_best26 {post : Int32 → St2 → Prop} {bA bB bT bTh : Int32} (hp : p < 432) (hF : ct_F gW tW ex o w f)
    (H1 : ∀ c, c < 13 → ct_ov ex p = 0 → ct_ed gW tW o p c = true → w (ct_tg p c) = w p → (w p = 0 ∨ (¬ w p = 0 ∧ f (ct_tg p c) = f p - 1)) → post (nI c) (gW, tW, ex, bA, bB, bT, bTh, rd, qd, o, inn, w, f, m, q))
    (H2 : ¬ w p = 0 → f p = 0 → post (-2) (gW, tW, ex, bA, bB, bT, bTh, rd, qd, o, inn, w, f, m, q)) :
    ∃ fu, wX_best_26 post (nI p) gW tW ex bA bB bT bTh rd qd o inn w f m q fu 0 := by
  have hcl : (nI p).toNatClampNeg = p := nI_clamp (by omega)
  refine pk_loop (σ := Unit) (fun fu x _ => wX_best_26 post (nI p) gW tW ex bA bB bT bTh rd qd o inn w f m q fu (nI x))
    (fun x _ => ∀ c, c < x → ¬ (ct_ov ex p = 0 ∧ ct_ed gW tW o p c = true ∧ w (ct_tg p c) = w p ∧ (w p = 0 ∨ f (ct_tg p c) = f p - 1)))
    13 0 () (by omega) (fun c hc => absurd hc (Nat.not_lt_zero c)) ?_ ?_
  · intro fu _ hno
    refine pk_lt 12 13 (fun _ => ?_) (fun z => absurd z (by omega))
    by_cases h0 : w p = 0
    · obtain ⟨hov, c, hc, he, hw⟩ := (hF p hp).1 h0
      exact absurd ⟨hov, he, by rw [hw, h0], Or.inl h0⟩ (hno c hc)
    · obtain ⟨_, h | ⟨hov, c, hc, he, hw, hf⟩⟩ := (hF p hp).2 h0
      · exact H2 h0 h
      · exact absurd ⟨hov, he, hw, Or.inr (by rw [hf, ct_sub1])⟩ (hno c hc)
  · intro fu x _ hx hno hgo
    refine pk_lt 12 x (fun z => absurd z (by omega)) (fun _ => ct_after hp hx (fun hov he => ?_) (fun hne => br_t (by decide) (nm_r (nI_1 x) (hgo () (lt_s hno (fun z => hne ⟨z.1, z.2.1⟩))))))
    have ht := ct_tg_lt hp hx he
    have hct : (nI (ct_tg p x)).toNatClampNeg = ct_tg p x := nI_clamp (by omega)
    refine br_f (nI_pos (by omega)) ⟨pk_in (ct_tg p x) 432 ht, pk_in p 432 hp, ?_⟩
    rw [hct, hcl]
    refine br_c (fun hw => ⟨pk_in p 432 hp, br_c (fun h0 => H1 x hx hov he hw (Or.inl h0)) (fun h0 => ⟨pk_in (ct_tg p x) 432 ht, pk_in p 432 hp, br_c (fun hf => H1 x hx hov he hw (Or.inr ⟨h0, hf⟩)) (fun hf => nm_r (nI_1 x) (hgo () (lt_s hno ?_)))⟩)⟩) (fun hw => nm_r (nI_1 x) (hgo () (lt_s hno (fun z => hw z.2.2.1))))
    rintro ⟨_, _, _, z | z⟩
    · exact h0 z
    · exact hf z
theorem ct_best {post : Int32 → St2 → Prop} (hp : p < 432) (hF : ct_F gW tW ex o w f)
    (H1 : ∀ c, c < 13 → ct_ov ex p = 0 → ct_ed gW tW o p c = true → w (ct_tg p c) = w p → (w p = 0 ∨ (¬ w p = 0 ∧ f (ct_tg p c) = f p - 1)) → post (nI c) (gW, tW, ex, nI (p / 72), nI (p / 12 % 6), nI (p / 2 % 6), nI (p % 2), 1, qd, o, inn, w, f, m, q))
    (H2 : ¬ w p = 0 → f p = 0 → post (-2) (gW, tW, ex, nI (p / 72), nI (p / 12 % 6), nI (p / 2 % 6), nI (p % 2), 1, qd, o, inn, w, f, m, q)) :
    wpX_best post (gW, tW, ex, nI (p / 72), nI (p / 12 % 6), nI (p / 2 % 6), nI (p % 2), 1, qd, o, inn, w, f, m, q) :=
  ct_prep1 (ct_number hp (ct_best26 hp hF H1 H2))
theorem ct_play {post : Int32 → St2 → Prop} (hp : p < 432) (hc : c < 13) (hov : ct_ov ex p = 0) (he : ct_ed gW tW o p c = true)
    (H : post 0 (gW, tW, ex, nI (ct_tg p c / 72), nI (ct_tg p c / 12 % 6), nI (ct_tg p c / 2 % 6), nI (ct_tg p c % 2), rd, qd, o, inn, w, f, m, q)) :
    wpX_play post (gW, tW, ex, nI (p / 72), nI (p / 12 % 6), nI (p / 2 % 6), nI (p % 2), rd, qd, o, inn, w, f, m, q) (nI c) := by
  have ht := ct_tg_lt hp hc he
  unfold wpX_play
  dsimp only
  refine ct_number hp (ct_after hp hc (fun _ _ => br_t (nI_pos' (by omega)) ⟨by decide, nm_r (ct_dA ht) ⟨by decide, by decide, nm_r (ct_dB ht) ⟨by decide, by decide, nm_r (ct_dT ht) ⟨by decide, pk_eq (ct_tg p c % 2) 1 (fun h => ?_) (fun h => ?_) (ct_dS ht)⟩⟩⟩⟩) (fun z => absurd ⟨hov, he⟩ z))
  · rw [h] at H
    exact H
  · rw [show ct_tg p c % 2 = 0 by omega] at H
    exact H
end
end
section
/-! the map: door, exit; the law's own small methods -/
theorem ct_nb {s : Nat} (hs : s < 2) : narrow .boolean (.int (nI s)) = .int (nI s) ∧ fits .boolean (.int (nI s)) = true := by
  have h : s = 0 ∨ s = 1 := by omega
  rcases h with e | e
  · subst e
    exact ⟨rfl, rfl⟩
  · subst e
    exact ⟨rfl, rfl⟩
section
variable {gW tW ex bA bB bT bTh rd qd : Int32} {o inn w f m q : Nat → Int32} {a b L : Nat} {xs : Nat → Int32}
theorem ct_cell {post : Int32 → Prop} {u : St0} {k : Nat} (hL : L ≤ 260) (hk : k < 260) (H : ∀ r, post r) : wpL_cell post L xs u (nI k) :=
  pk_le L k (fun _ => H 0) (fun z => ⟨pk_in k L z, H _⟩)
theorem ct_place {post : Int32 → Prop} {u : St0} {x : Int32} (H : ∀ a, a < 6 → post (nI a)) : wpL_place post u x := by
  obtain ⟨j, hj, e⟩ := pk_andE x (m := 2147483647) 31 (by decide)
  have e6 : (x &&& 2147483647) - (x &&& 2147483647) / 6 * 6 = nI (j % 6) := by
    rw [e]
    exact pk_rem (d := 6) hj (by omega) (by omega)
  exact ⟨by decide, ek_v (P := post) e6 (H (j % 6) (by omega))⟩
theorem ct_M_put (ha : a < 6) (hb : b < 6) (hM : ct_M o inn) :
    ct_M (upd (upd o a (o a &&& (((1 : Int32) <<< (nI b &&& 31)) ^^^ (-1)))) a ((o a &&& (((1 : Int32) <<< (nI b &&& 31)) ^^^ (-1))) ||| ((1 : Int32) <<< (nI b &&& 31))))
      (upd (upd inn b (inn b &&& (((1 : Int32) <<< (nI a &&& 31)) ^^^ (-1)))) b ((inn b &&& (((1 : Int32) <<< (nI a &&& 31)) ^^^ (-1))) ||| ((1 : Int32) <<< (nI a &&& 31)))) := by
  intro x hx y hy
  by_cases ea : x = a
  · by_cases eb : y = b
    · rw [ea, eb, pk_us, pk_us, ct_put _ (by omega) (by omega), ct_put _ (by omega) (by omega), decide_eq_true rfl, decide_eq_true rfl]
      rfl
    · rw [ea, pk_us, pk_un eb, pk_un eb, ct_put _ (by omega) (by omega), decide_eq_false eb, Bool.false_or]
      exact hM a ha y hy
  · by_cases eb : y = b
    · rw [eb, pk_us, pk_un ea, pk_un ea, ct_put _ (by omega) (by omega), decide_eq_false ea, Bool.false_or]
      exact hM x hx b hb
    · rw [pk_un ea, pk_un ea, pk_un eb, pk_un eb]
      exact hM x hx y hy
theorem ct_door {post : Int32 → St2 → Prop} (ha : a < 6) (hb : b < 6) (hab : a ≠ b) (hM : ct_M o inn)
    (H : ∀ (r : Int32) (o' inn' : Nat → Int32), ct_M o' inn' → post r (gW, tW, ex, bA, bB, bT, bTh, 0, qd, o', inn', w, f, m, q)) :
    wpX_door post (gW, tW, ex, bA, bB, bT, bTh, rd, qd, o, inn, w, f, m, q) (nI a) (nI b) 1 := by
  have ca : (nI a).toNatClampNeg = a := nI_clamp (by omega)
  have cb : (nI b).toNatClampNeg = b := nI_clamp (by omega)
  have hK := ct_M_put ha hb hM
  unfold wpX_door
  dsimp only
  refine ct_off ha (br_t rfl (ct_off hb (br_t rfl (pk_eq a b (fun z => absurd z hab) (fun _ => ⟨pk_in a 6 ha, fun r _ => ⟨pk_in a 6 ha, pk_in a 6 ha, ?_⟩⟩)))))
  rw [ca, cb]
  refine nm_e ⟨pk_in b 6 hb, pk_in b 6 hb, nm_e (br_f (by decide) ⟨pk_in a 6 ha, pk_in a 6 ha, ?_⟩)⟩
  rw [pk_us, pk_us]
  exact nm_e ⟨pk_in b 6 hb, pk_in b 6 hb, nm_e (H r _ _ hK)⟩
theorem ct_exit {post : Int32 → St2 → Prop} {z : Int32} (ha : a < 6)
    (H : ∀ (r ex' : Int32), post r (gW, tW, ex', bA, bB, bT, bTh, 0, qd, o, inn, w, f, m, q)) :
    wpX_exit post (gW, tW, ex, bA, bB, bT, bTh, rd, qd, o, inn, w, f, m, q) (nI a) z := by
  unfold wpX_exit
  dsimp only
  exact ct_off ha (br_t rfl (fun x3 _ f4 _ => br_c (fun _ => H x3 f4) (fun _ => fun f6 _ => H x3 f6)))
theorem ct_init {post : St2 → Prop} {r : Int32} (H : ∀ g t : Int32, post (g, t, 0, 0, 1, 5, 0, 0, 0, (fun _ => 0), (fun _ => 0), (fun _ => 0), (fun _ => 0), (fun _ => 0), (fun _ => 0))) :
    wpX_init post 6 1740 (0, 0, 0, 0, 0, 0, 0, 0, 0) r := by
  have h83 : ∀ (g : Int32) (s : Nat), s < 2 → wX_init_83 post 6 1740 (nI s) 6 1740 g 0 0 0 0 0 0 0 0 (fun _ => 0) (fun _ => 0) (fun _ => 0) (fun _ => 0) (fun _ => 0) (fun _ => 0) :=
    fun g s hs => ⟨(ct_nb hs).1, (ct_nb hs).2, H g (nI s)⟩
  have h68 : ∀ s : Nat, s < 2 → wX_init_68 post 6 1740 r (nI s) 6 1740 0 0 0 0 0 0 0 0 0 (fun _ => 0) (fun _ => 0) (fun _ => 0) (fun _ => 0) (fun _ => 0) (fun _ => 0) :=
    fun s hs => ⟨(ct_nb hs).1, (ct_nb hs).2, br_c (fun _ => h83 (nI s) 0 (by omega)) (fun _ => h83 (nI s) 1 (by omega))⟩
  exact ⟨by decide, by decide, by decide, by decide, by decide, by decide, by decide, by decide, by decide, by decide, by decide, by decide, br_c (fun _ => h68 0 (by omega)) (fun _ => h68 1 (by omega))⟩
end
end
section
/-! the law -/
theorem ct_addm1 (x : Int32) : x + (-1) = x - 1 := by grind
theorem ct_neg1 {l : Nat} (hl : l < 432) : ¬ nI l = 0 - 1 := by
  intro z
  have h := congrArg Int32.toInt z
  rw [nI_toInt (by omega), show ((0 : Int32) - 1).toInt = -1 by decide] at h
  omega
section
variable {gW tW ex bA bB bT bTh qd : Int32} {o inn w f m q : Nat → Int32} {p L kc ks : Nat} {xs : Nat → Int32} {post : Int32 → Prop}
theorem ct_180 (hM : ct_M o inn) (hF : ct_F gW tW ex o w f) (hp : p < 432) (hw : w p = 0) (H : post 1) :
    ∃ fu, wL_law_180 post L xs (-3) kc ks fu 0 gW tW ex (nI (p / 72)) (nI (p / 12 % 6)) (nI (p / 2 % 6)) (nI (p % 2)) 1 qd o inn w f m q := by
  refine pk_loop (σ := Nat) (fun fu i p => wL_law_180 post L xs (-3) kc ks fu (nI i) gW tW ex (nI (p / 72)) (nI (p / 12 % 6)) (nI (p / 2 % 6)) (nI (p % 2)) 1 qd o inn w f m q)
    (fun _ p => p < 432 ∧ w p = 0) 40 0 p (by omega) ⟨hp, hw⟩ (fun fu p _ => pk_le 40 40 (fun _ => H) (fun z => absurd z (by omega))) ?_
  rintro fu i p hi ⟨hp, hw⟩ hgo
  refine pk_le 40 i (fun z => absurd z (by omega)) (fun _ => ct_best hp hF (fun c hc hov he hwt _ => ?_) (fun h0 _ => absurd hw h0))
  have ht := ct_tg_lt hp hc he
  exact br_t rfl (ct_play hp hc hov he (br_t rfl (ct_who1 hM hF ht (br_t (hwt.trans hw) (nm_r (nI_1 i) (hgo (ct_tg p c) ⟨ht, hwt.trans hw⟩))))))
theorem ct_229 {x4 : Int32} (hM : ct_M o inn) (hF : ct_F gW tW ex o w f) (hp : p < 432) (hw : w p = x4) (h4 : ¬ x4 = 0) (H : post 1) :
    ∃ fu, wL_law_229 post L xs x4 kc ks fu (f p) 0 gW tW ex (nI (p / 72)) (nI (p / 12 % 6)) (nI (p / 2 % 6)) (nI (p % 2)) 1 qd o inn w f m q := by
  obtain ⟨⟨l0, hl0, hf0⟩, _⟩ := (hF p hp).2 (by rw [hw]; exact h4)
  refine pk_loop (σ := Nat) (fun fu i p => wL_law_229 post L xs x4 kc ks fu (f p) (nI i) gW tW ex (nI (p / 72)) (nI (p / 12 % 6)) (nI (p / 2 % 6)) (nI (p % 2)) 1 qd o inn w f m q)
    (fun i p => p < 432 ∧ w p = x4 ∧ ∃ l, f p = nI l ∧ l + i ≤ 432) 432 0 p (by omega) ⟨hp, hw, l0, hf0, by omega⟩ ?_ ?_
  · rintro fu p ⟨hp, hw, l, hl, hle⟩
    have hf : f p = 0 := by rw [hl, show l = 0 by omega, nI_0]
    have hw0 : ¬ w p = 0 := by rw [hw]; exact h4
    refine pk_le 432 432 (fun _ => br_t hf (ct_length hp (fun h => absurd h hw0) (fun _ => br_t hf (ct_best hp hF (fun c hc hov he hwt hft => ?_) (fun _ _ => br_t rfl H))))) (fun z => absurd z (by omega))
    rcases hft with z | ⟨_, z⟩
    · exact absurd z hw0
    · obtain ⟨⟨l', hl', hf'⟩, _⟩ := (hF (ct_tg p c) (ct_tg_lt hp hc he)).2 (by rw [hwt]; exact hw0)
      rw [hf', hf] at z
      exact absurd z (ct_neg1 hl')
  · rintro fu i p hi ⟨hp, hw, l, hl, hle⟩ hgo
    have hw0 : ¬ w p = 0 := by rw [hw]; exact h4
    refine pk_le 432 i (fun z => absurd z (by omega)) (fun _ => pk_le l 0 (fun z => nm_r (nI_1 i) (hgo p ⟨hp, hw, l, hl, by omega⟩)) (fun z => ct_best hp hF (fun c hc hov he hwt hft => ?_) (fun _ h0 => ?_)) hl)
    · have ht := ct_tg_lt hp hc he
      have hft' : f (ct_tg p c) = f p - 1 := by
        rcases hft with y | ⟨_, y⟩
        · exact absurd y hw0
        · exact y
      have e1 : nI l - 1 = nI (l - 1) := pk_sub (b := 1) (by omega)
      exact ct_play hp hc hov he (br_t rfl (ct_who1 hM hF ht (br_t (hwt.trans hw) (nm_r (e' := f (ct_tg p c)) (by rw [hft', ct_addm1]) (nm_r (nI_1 i) (hgo (ct_tg p c) ⟨ht, hwt.trans hw, l - 1, by rw [hft', hl, e1], by omega⟩))))))
    · rw [hl] at h0
      exact absurd h0 (nI_ne0 z (by omega))
theorem ct_pos {a b t s : Nat} (ha : a < 6) (hb : b < 6) (ht : t < 6) (hs : s < 2) : ∃ p, p < 432 ∧ p / 72 = a ∧ p / 12 % 6 = b ∧ p / 2 % 6 = t ∧ p % 2 = s :=
  ⟨((a * 6 + b) * 6 + t) * 2 + s, by omega, by omega, by omega, by omega, by omega⟩
theorem ct_156 {a b t s : Nat} (ha : a < 6) (hb : b < 6) (ht : t < 6) (hs : s < 2) (hM : ct_M o inn) (H : post 1) :
    wL_law_156 post L xs (nI s) (nI t) (nI b) (nI a) kc ks gW tW ex bA bB bT bTh 0 qd o inn w f m q := by
  obtain ⟨p, hp, e1, e2, e3, e4⟩ := ct_pos ha hb ht hs
  subst e1 e2 e3 e4
  unfold wL_law_156 wpX_set
  dsimp only
  refine ct_off ha (br_t rfl (ct_off hb (br_t rfl (ct_off ht (br_t rfl ⟨(ct_nb hs).1, (ct_nb hs).2, ?_⟩)))))
  exact ct_who hM (Or.inl rfl) hp (fun qd' w' f' m' q' hF _ => ct_length hp (fun h0 => br_t h0 (ct_180 hM hF hp h0 H)) (fun h0 => br_f h0 (ct_229 hM hF hp rfl h0 H)))
theorem ct_67 {a k : Nat} {z : Int32} {J : Int32 → Int32 → Int32 → Int32 → Int32 → Int32 → Int32 → Int32 → Int32 → Int32 → (Nat → Int32) → (Nat → Int32) → (Nat → Int32) → (Nat → Int32) → (Nat → Int32) → (Nat → Int32) → Prop} {y : Int32}
    (ha : a < 6) (hy : nI k + 2 = y) (H : ∀ ex' : Int32, J y gW tW ex' bA bB bT bTh 0 qd o inn w f m q) :
    wL_law_67 post L xs J (nI k) z (nI a) kc ks gW tW ex bA bB bT bTh 0 qd o inn w f m q := by
  unfold wL_law_67
  exact ct_exit ha (fun r ex' => nm_r hy (H ex'))
theorem ct_17 (hL : L ≤ 260) (hM : ct_M o inn) (H : post 1) : ∃ fu, wL_law_17 post L xs kc ks fu 2 gW tW ex bA bB bT bTh 0 qd o inn w f m q := by
  have tail : ∀ (ex' : Int32) (o' inn' : Nat → Int32) (r : Int32), ct_M o' inn' → ∀ x, x = r &&& 2147483647 → (¬ (6 : Int32) = 0 ∧ (¬ (6 : Int32) = 0 ∧ (¬ (6 : Int32) = 0 ∧ (¬ (36 : Int32) = 0 ∧ (¬ (6 : Int32) = 0 ∧ (¬ (216 : Int32) = 0 ∧ (¬ (2 : Int32) = 0 ∧
      ((((x / 216) - (x / 216) / 2 * 2) = 1 → wL_law_156 post L xs 1 ((x / 36) - (x / 36) / 6 * 6) ((x / 6) - (x / 6) / 6 * 6) (x - x / 6 * 6) kc ks gW tW ex' bA bB bT bTh 0 qd o' inn' w f m q) ∧
       (¬ ((x / 216) - (x / 216) / 2 * 2) = 1 → wL_law_156 post L xs 0 ((x / 36) - (x / 36) / 6 * 6) ((x / 6) - (x / 6) / 6 * 6) (x - x / 6 * 6) kc ks gW tW ex' bA bB bT bTh 0 qd o' inn' w f m q))))))))) := by
    intro ex' o' inn' r hM' x hx
    obtain ⟨j, hj, e⟩ := pk_andE r (m := 2147483647) 31 (by decide)
    rw [e] at hx
    subst hx
    have d6 : nI j / 6 = nI (j / 6) := pk_div (d := 6) hj (by omega) (by omega)
    have d36 : nI j / 36 = nI (j / 36) := pk_div (d := 36) hj (by omega) (by omega)
    have r1 : nI j - nI j / 6 * 6 = nI (j % 6) := pk_rem (d := 6) hj (by omega) (by omega)
    have r2 : (nI j / 6) - (nI j / 6) / 6 * 6 = nI (j / 6 % 6) := by
      rw [d6]
      exact pk_rem (d := 6) (by omega) (by omega) (by omega)
    have r3 : (nI j / 36) - (nI j / 36) / 6 * 6 = nI (j / 36 % 6) := by
      rw [d36]
      exact pk_rem (d := 6) (by omega) (by omega) (by omega)
    rw [r1, r2, r3]
    exact ⟨by decide, by decide, by decide, by decide, by decide, by decide, by decide, br_c (fun _ => ct_156 (s := 1) (by omega) (by omega) (by omega) (by omega) hM' H) (fun _ => ct_156 (s := 0) (by omega) (by omega) (by omega) (by omega) hM' H)⟩
  refine pk_loop (σ := Int32 × (Nat → Int32) × (Nat → Int32)) (fun fu i s => wL_law_17 post L xs kc ks fu (nI (2 + 2 * i)) gW tW s.1 bA bB bT bTh 0 qd s.2.1 s.2.2 w f m q)
    (fun _ s => ct_M s.2.1 s.2.2) 130 0 (ex, o, inn) (by omega) hM ?_ ?_
  · rintro fu ⟨ex1, o1, inn1⟩ h1
    dsimp only at h1
    show wL_law_17 post L xs kc ks (fu + 1) (nI (2 + 2 * 130)) gW tW ex1 bA bB bT bTh 0 qd o1 inn1 w f m q
    exact pk_le L (2 + 2 * 130 + 1) (fun _ => ct_cell (k := 1) hL (by omega) (fun r => tail ex1 o1 inn1 r h1)) (fun z => absurd z (by omega)) rfl (nI_1 _)
  · rintro fu i ⟨ex1, o1, inn1⟩ hi h1 hgo
    dsimp only at h1
    show wL_law_17 post L xs kc ks (fu + 1) (nI (2 + 2 * i)) gW tW ex1 bA bB bT bTh 0 qd o1 inn1 w f m q
    have e2 : nI (2 + 2 * i) + 2 = nI (2 + 2 * (i + 1)) := (nI_add _ 2).trans (congrArg nI (by omega))
    have go : ∀ (ex' : Int32) (o' inn' : Nat → Int32), ct_M o' inn' → wL_law_17 post L xs kc ks fu (nI (2 + 2 * (i + 1))) gW tW ex' bA bB bT bTh 0 qd o' inn' w f m q := fun ex' o' inn' h => hgo (ex', o', inn') h
    refine pk_le L (2 + 2 * i + 1) (fun _ => ct_cell (k := 1) hL (by omega) (fun r => tail ex1 o1 inn1 r h1)) (fun z => ⟨pk_in (2 + 2 * i) L (by omega), ct_place (fun a ha => ⟨pk_in (2 + 2 * i + 1) L (by omega) (nI_1 _), ct_place (fun b hb => pk_eq a b (fun e => ⟨pk_in (2 + 2 * i) L (by omega), ?_⟩) (fun e => ?_))⟩)⟩) rfl (nI_1 _)
    · exact br_c (fun _ => ct_67 ha e2 (fun ex' => go ex' o1 inn1 h1)) (fun _ => ct_67 ha e2 (fun ex' => go ex' o1 inn1 h1))
    · exact ct_door ha hb e h1 (fun r o' inn' h' => ⟨pk_in (2 + 2 * i + 1) L (by omega) (nI_1 _), br_c (fun _ => ct_door hb ha (Ne.symm e) h' (fun r2 o2 inn2 h2 => nm_r e2 (go ex1 o2 inn2 h2))) (fun _ => nm_r e2 (go ex1 o' inn' h'))⟩)
end
theorem i_vc (xs : Nat → Int32) (L : Nat) (hL : L ≤ 260) : wpL_law (fun r => r = 1) L xs := by
  unfold wpL_law
  exact ct_cell (k := 0) hL (by omega) (fun r => ⟨6, 1740, by decide, by decide, ct_init (fun g t => ct_17 hL (fun a _ c _ => (ct_b0 c).trans (ct_b0 a).symm) rfl)⟩)
end
