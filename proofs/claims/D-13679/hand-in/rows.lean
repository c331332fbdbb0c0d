section
/-! the bits of an Int32 (this family began as the kit's BITS rows) -/
def zb_t (x : Int32) (i : Nat) : Bool := x.toBitVec.getLsbD i
theorem zb_ext {x y : Int32} (h : ∀ i, i < 32 → zb_t x i = zb_t y i) : x = y := Int32.toBitVec_inj.mp (BitVec.eq_of_getLsbD_eq (fun i hi => h i hi))
theorem zb_or (x y : Int32) (i : Nat) : zb_t (x ||| y) i = (zb_t x i || zb_t y i) := by unfold zb_t; rw [Int32.toBitVec_or, BitVec.getLsbD_or]
theorem zb_and (x y : Int32) (i : Nat) : zb_t (x &&& y) i = (zb_t x i && zb_t y i) := by unfold zb_t; rw [Int32.toBitVec_and, BitVec.getLsbD_and]
theorem zb_xor (x y : Int32) (i : Nat) : zb_t (x ^^^ y) i = (zb_t x i ^^ zb_t y i) := by unfold zb_t; rw [Int32.toBitVec_xor, BitVec.getLsbD_xor]
theorem zb_big {x : Int32} {i : Nat} (h : 32 ≤ i) : zb_t x i = false := BitVec.getLsbD_of_ge _ _ h
theorem zb_0 (i : Nat) : zb_t 0 i = false := BitVec.getLsbD_zero
theorem zb_m1 : ∀ i, i < 32 → zb_t (-1) i = true := by decide +kernel
theorem zb_one (i : Nat) : zb_t 1 i = decide (i = 0) := by
  rcases Nat.lt_or_ge i 32 with h | h
  · exact (by decide +kernel : ∀ i, i < 32 → zb_t 1 i = decide (i = 0)) i h
  · rw [zb_big h, decide_eq_false (by omega)]
theorem zb_w (i : Nat) : zb_t 16777215 i = decide (i < 24) := by
  rcases Nat.lt_or_ge i 32 with h | h
  · exact (by decide +kernel : ∀ i, i < 32 → zb_t 16777215 i = decide (i < 24)) i h
  · rw [zb_big h, decide_eq_false (by omega)]
theorem zb_sl : ∀ n, n < 32 → ((nI n &&& 31).toBitVec.smod 32).toNat = n := by decide +kernel
theorem zb_shl (n : Nat) (hn : n < 32) (x : Int32) {i : Nat} (hi : i < 32) : zb_t (x <<< (nI n &&& 31)) i = (decide (n ≤ i) && zb_t x (i - n)) := by
  unfold zb_t
  rw [Int32.toBitVec_shiftLeft]
  show (x.toBitVec <<< ((nI n &&& 31).toBitVec.smod 32).toNat).getLsbD i = _
  rw [zb_sl n hn, BitVec.getLsbD_shiftLeft]
  rcases Nat.lt_or_ge i n with h | h
  · simp [h, Nat.not_le.mpr h]
  · simp [hi, h, Nat.not_lt.mpr h]
theorem zb_sshr (n : Nat) (hn : n < 32) (x : Int32) {i : Nat} (hi : i < 32) : zb_t (x >>> (nI n &&& 31)) i = if n + i < 32 then zb_t x (n + i) else zb_t x 31 := by
  unfold zb_t
  rw [Int32.toBitVec_shiftRight]
  show (x.toBitVec.sshiftRight ((nI n &&& 31).toBitVec.smod 32).toNat).getLsbD i = _
  rw [zb_sl n hn, BitVec.getLsbD_sshiftRight, BitVec.msb_eq_getLsbD_last]
  simp [hi]
/-- a bit as an int -/
def zb_v (b : Bool) : Int32 := if b = true then 1 else 0
theorem zb_v_inj : ∀ {a b : Bool}, zb_v a = zb_v b ↔ a = b := by decide
theorem zb_v_0 : ∀ {a : Bool}, zb_v a = 0 ↔ a = false := by decide
theorem zb_get {n : Nat} (hn : n < 32) (x : Int32) : (x >>> (nI n &&& 31)) &&& 1 = zb_v (zb_t x n) := by
  apply zb_ext
  intro i hi
  rw [zb_and, zb_one, zb_sshr n hn x hi]
  unfold zb_v
  by_cases e : i = 0
  · subst e
    rw [Nat.add_zero, if_pos hn]
    cases h : zb_t x n <;> simp [zb_0, zb_one]
  · cases h : zb_t x n <;> simp [zb_0, zb_one, e]
theorem zb_dotm : ∀ n, n < 24 → ∀ i, i < 32 → zb_t ((1 : Int32) <<< (nI n &&& 31)) i = decide (i = n) := by decide +kernel
theorem zb_mask : ∀ q, q < 24 → ∀ p, p < 24 → p ≤ q → ∀ i, i < 32 → zb_t (((1 : Int32) <<< ((nI q + 1) &&& 31)) - ((1 : Int32) <<< (nI p &&& 31))) i = (decide (p ≤ i) && decide (i ≤ q)) := by decide +kernel
theorem zb_byte : ∀ n, n < 24 → (nI n).toInt8.toInt32 = nI n := by decide +kernel
theorem zb_nand (a b : Nat) : nI a &&& nI b = nI (a &&& b) := by
  apply Int32.toBitVec_inj.1
  show BitVec.ofNat 32 a &&& BitVec.ofNat 32 b = BitVec.ofNat 32 (a &&& b)
  apply BitVec.eq_of_getLsbD_eq
  intro i hi
  simp [hi]
theorem zb_24 {v : Int32} (h : ∀ i, 24 ≤ i → zb_t v i = false) : ∃ n : Nat, n < 2 ^ 24 ∧ v = nI n ∧ ∀ i, n.testBit i = zb_t v i :=
  ⟨v.toBitVec.toNat, Nat.lt_pow_two_of_testBit _ (fun i hi => h i hi), (Int32.ofNat_bitVecToNat v.toBitVec).symm, fun _ => rfl⟩
/-! ints -/
theorem zi_add {a b : Int32} (h1 : -2147483648 ≤ a.toInt + b.toInt) (h2 : a.toInt + b.toInt < 2147483648) : (a + b).toInt = a.toInt + b.toInt := by
  rw [Int32.toInt_add]
  exact Int.bmod_eq_of_le (by omega) (by omega)
theorem zi_sub {a b : Int32} (h1 : -2147483648 ≤ a.toInt - b.toInt) (h2 : a.toInt - b.toInt < 2147483648) : (a - b).toInt = a.toInt - b.toInt := by
  rw [Int32.toInt_sub]
  exact Int.bmod_eq_of_le (by omega) (by omega)
theorem zi_neg {a : Int32} (h1 : -2147483648 < a.toInt) : (-a).toInt = -a.toInt := by
  rw [Int32.toInt_neg]
  have := Int32.toInt_lt a
  exact Int.bmod_eq_of_le (by omega) (by omega)
theorem zi_lt {a b : Int32} : a < b ↔ a.toInt < b.toInt := Int32.lt_iff_toInt_lt
theorem zi_le {a b : Int32} : a ≤ b ↔ a.toInt ≤ b.toInt := Int32.le_iff_toInt_le
theorem zi_0 : (0 : Int32).toInt = 0 := rfl
theorem zi_1 : (1 : Int32).toInt = 1 := rfl
theorem zi_23 : (23 : Int32).toInt = 23 := rfl
theorem zi_24 : (24 : Int32).toInt = 24 := rfl
theorem zi_nat {x : Int32} {n : Nat} (h : x.toInt = n) : x = nI n := by
  apply Int32.toInt_inj.1
  have := Int32.toInt_lt x
  rw [nI_toInt (by omega), h]
theorem zi_rng {x : Int32} (h0 : ¬ x < 0) (h1 : ¬ 24 ≤ x) : ∃ n : Nat, n < 24 ∧ x = nI n := by
  rw [zi_lt, zi_0] at h0
  rw [zi_le, zi_24] at h1
  exact ⟨x.toInt.toNat, by omega, zi_nat (by omega)⟩
/-! sums -/
def zs_s (f : Nat → Nat) : Nat → Nat
  | 0 => 0
  | n + 1 => zs_s f n + f n
theorem zs_succ (f : Nat → Nat) (n : Nat) : zs_s f (n + 1) = zs_s f n + f n := rfl
theorem zs_head (f : Nat → Nat) (n : Nat) : zs_s f (n + 1) = f 0 + zs_s (fun i => f (i + 1)) n := by
  induction n with
  | zero => show 0 + f 0 = f 0 + 0; omega
  | succ n ih =>
    rw [zs_succ, ih, zs_succ]
    omega
theorem zs_congr {f g : Nat → Nat} {n : Nat} (h : ∀ i, i < n → f i = g i) : zs_s f n = zs_s g n := by
  induction n with
  | zero => rfl
  | succ n ih => rw [zs_succ, zs_succ, ih (fun i hi => h i (by omega)), h n (by omega)]
theorem zs_add (f g : Nat → Nat) (n : Nat) : zs_s (fun i => f i + g i) n = zs_s f n + zs_s g n := by
  induction n with
  | zero => rfl
  | succ n ih =>
    rw [zs_succ, zs_succ, zs_succ, ih]
    omega
theorem zs_zero (n : Nat) : zs_s (fun _ => 0) n = 0 := by
  induction n with
  | zero => rfl
  | succ n ih => rw [zs_succ, ih]
theorem zs_swap (g : Nat → Nat → Nat) (m n : Nat) : zs_s (fun y => zs_s (fun x => g y x) n) m = zs_s (fun x => zs_s (fun y => g y x) m) n := by
  induction m with
  | zero => exact (zs_zero n).symm
  | succ m ih =>
    rw [zs_succ, ih, ← zs_add]
    rfl
theorem zs_le {f : Nat → Nat} {c n : Nat} (h : ∀ i, i < n → f i ≤ c) : zs_s f n ≤ n * c := by
  induction n with
  | zero => exact Nat.zero_le _
  | succ n ih =>
    rw [zs_succ, Nat.succ_mul]
    exact Nat.add_le_add (ih (fun i hi => h i (by omega))) (h n (by omega))
/-- two rows that differ at one place alone -/
theorem zs_one {f g : Nat → Nat} {n k : Nat} (hk : k < n) (h : ∀ i, i < n → i ≠ k → f i = g i) : zs_s f n + g k = zs_s g n + f k := by
  induction n with
  | zero => omega
  | succ n ih =>
    rw [zs_succ, zs_succ]
    by_cases e : k = n
    · subst e
      rw [zs_congr (f := f) (g := g) (fun i hi => h i (by omega) (by omega))]
      omega
    · have := ih (by omega) (fun i hi hn => h i (by omega) hn)
      have := h n (by omega) (by omega)
      omega
theorem zs_pc : ∀ (k n : Nat), n ≠ 0 → n < 2 ^ k → zs_s (fun i => ((n &&& (n - 1)).testBit i).toNat) k + 1 = zs_s (fun i => (n.testBit i).toNat) k := by
  intro k
  induction k with
  | zero =>
    intro n h h2
    rw [Nat.pow_zero] at h2
    omega
  | succ k ih =>
    intro n h h2
    rw [zs_head, zs_head]
    simp only [Nat.testBit_add_one, Nat.testBit_zero, Nat.and_div_two]
    rw [Nat.pow_succ] at h2
    have e2 : ¬ (n &&& (n - 1)) % 2 = 1 := by
      rw [Nat.and_mod_two_eq_one]
      omega
    rw [decide_eq_false e2]
    rcases Nat.mod_two_eq_zero_or_one n with e | e
    · have := ih (n / 2) (by omega) (by omega)
      rw [show (n - 1) / 2 = n / 2 - 1 by omega, decide_eq_false (show ¬ n % 2 = 1 by omega)]
      omega
    · rw [show (n - 1) / 2 = n / 2 by omega, Nat.and_self, decide_eq_true e]
      show 0 + _ + 1 = 1 + _
      omega
/-- bits in a row of 24 -/
def zs_b (v : Int32) : Nat := zs_s (fun i => (zb_t v i).toNat) 24
end
section
/-! a figure and the set that it holds -/
def zf_F (f : Nat → Int32) (S : Int → Int → Prop) : Prop := ∀ y x : Nat, y < 24 → x < 32 → (zb_t (f y) x = true ↔ x < 24 ∧ S x y)
theorem zf_eq {f : Nat → Int32} {S T : Int → Int → Prop} (h : zf_F f S) (e : ∀ x y : Nat, x < 24 → y < 24 → (S x y ↔ T x y)) : zf_F f T := by
  intro y x hy hx
  rw [h y x hy hx]
  exact ⟨fun ⟨a, b⟩ => ⟨a, (e x y a hy).mp b⟩, fun ⟨a, b⟩ => ⟨a, (e x y a hy).mpr b⟩⟩
theorem zf_or {f : Nat → Int32} {S T : Int → Int → Prop} {n : Nat} {m : Int32} (hn : n < 24) (h : zf_F f S) (hm : ∀ i : Nat, i < 32 → (zb_t m i = true ↔ i < 24 ∧ T i n)) (hT : ∀ x y : Nat, y < 24 → y ≠ n → ¬ T x y) : zf_F (upd f n (f n ||| m)) (fun x y => S x y ∨ T x y) := by
  intro y x hy hx
  by_cases e : y = n
  · subst e
    rw [pk_us, zb_or, Bool.or_eq_true, h y x hy hx, hm x hx]
    constructor
    · rintro (⟨a, b⟩ | ⟨a, b⟩)
      · exact ⟨a, Or.inl b⟩
      · exact ⟨a, Or.inr b⟩
    · rintro ⟨a, b | b⟩
      · exact Or.inl ⟨a, b⟩
      · exact Or.inr ⟨a, b⟩
  · rw [pk_un e, h y x hy hx]
    constructor
    · rintro ⟨a, b⟩
      exact ⟨a, Or.inl b⟩
    · rintro ⟨a, b | b⟩
      · exact ⟨a, b⟩
      · exact absurd b (hT x y hy e)
theorem zf_fill {f s : Nat → Int32} {i k : Nat} {x : Int32} (hk : k = i) (h : ∀ j, j < i → s j = f j) (hx : x = f i) : ∀ j, j < i + 1 → upd s k x j = f j := by
  intro j hj
  rw [hk]
  by_cases e : j = i
  · rw [e, pk_us, hx]
  · rw [pk_un e]
    exact h j (by omega)
theorem zw_clear {post : St1 → Prop} {p w : Int32} {a1 a2 a3 a4 a5 : Nat → Int32} (H : ∀ f, zf_F f (fun _ _ => False) → post (p, w, a1, f, a3, a4, a5)) : wpX_clearFigure post (p, w, a1, a2, a3, a4, a5) :=
  pk_loop (fun n i s => wX_clearFigure_2 post p w n (nI i) a1 s a3 a4 a5) (fun i s => ∀ j, j < i → s j = 0) 24 0 a2 (by omega) (fun j hj => absurd hj (by omega))
    (fun n s h => pk_le 24 24 (fun _ => H s (fun y x hy hx => by rw [h y hy, zb_0]; exact ⟨fun z => absurd z Bool.false_ne_true, fun z => False.elim z.2⟩)) (fun z => absurd z (by omega)))
    (fun n i s hi h hw => pk_le 24 i (fun z => absurd z (by omega)) (fun _ => ⟨pk_in i 24 hi, nm_e (nm_r (nI_1 i) (hw _ (zf_fill (f := fun _ => 0) (nI_clamp (by omega)) h rfl)))⟩))
theorem zw_dot {post : St1 → Prop} {p w : Int32} {a1 a2 a3 a4 a5 : Nat → Int32} {S : Int → Int → Prop} {X Y : Int32} (h : zf_F a2 S) (H : ∀ f, zf_F f (fun x y => S x y ∨ (x = X.toInt ∧ y = Y.toInt)) → post (p, w, a1, f, a3, a4, a5)) : wpX_dot post (p, w, a1, a2, a3, a4, a5) X Y := by
  have no : (∀ x y : Nat, x < 24 → y < 24 → ¬ ((x : Int) = X.toInt ∧ (y : Int) = Y.toInt)) → post (p, w, a1, a2, a3, a4, a5) :=
    fun z => H a2 (zf_eq h (fun x y hx hy => ⟨Or.inl, fun g => g.resolve_right (z x y hx hy)⟩))
  refine br_c (fun c => no ?_) (fun c => br_c (fun d => no ?_) (fun d => br_c (fun e => no ?_) (fun e => br_c (fun g => no ?_) (fun g => ?_))))
  · rw [zi_lt, zi_0] at c
    intro x y hx hy z
    omega
  · rw [zi_le, zi_24] at d
    intro x y hx hy z
    omega
  · rw [zi_lt, zi_0] at e
    intro x y hx hy z
    omega
  · rw [zi_le, zi_24] at g
    intro x y hx hy z
    omega
  · obtain ⟨m, hm, rfl⟩ := zi_rng c d
    obtain ⟨n, hn, rfl⟩ := zi_rng e g
    refine ⟨pk_in n 24 hn, pk_in n 24 hn, nm_e (H _ ?_)⟩
    rw [nI_clamp (show n < 2 ^ 31 by omega), nI_toInt (show m < 2 ^ 31 by omega), nI_toInt (show n < 2 ^ 31 by omega)]
    refine zf_or hn h (fun i hi => ?_) (fun x y hy hne z => hne (by have := z.2; omega))
    rw [zb_dotm m hm i hi, decide_eq_true_iff]
    constructor
    · intro z
      exact ⟨by omega, by omega, rfl⟩
    · intro z
      have := z.2.1
      omega
theorem zw_run23 {post : St1 → Prop} {p w : Int32} {a1 a2 a3 a4 a5 : Nat → Int32} {S : Int → Int → Prop} {Y A B : Int32} (hA : 0 ≤ A.toInt) (hB : B.toInt ≤ 23) (h : zf_F a2 S) (H : ∀ f, zf_F f (fun x y => S x y ∨ (y = Y.toInt ∧ A.toInt ≤ x ∧ x ≤ B.toInt)) → post (p, w, a1, f, a3, a4, a5)) : wX_run_23 post Y A B p w a1 a2 a3 a4 a5 := by
  have no : (∀ x y : Nat, x < 24 → y < 24 → ¬ ((y : Int) = Y.toInt ∧ A.toInt ≤ (x : Int) ∧ (x : Int) ≤ B.toInt)) → post (p, w, a1, a2, a3, a4, a5) :=
    fun z => H a2 (zf_eq h (fun x y hx hy => ⟨Or.inl, fun g => g.resolve_right (z x y hx hy)⟩))
  refine br_c (fun c => no ?_) (fun c => br_c (fun d => no ?_) (fun d => br_c (fun e => ?_) (fun e => no ?_)))
  · rw [zi_lt, zi_0] at c
    intro x y hx hy z
    omega
  · rw [zi_le, zi_24] at d
    intro x y hx hy z
    omega
  · rw [zi_le] at e
    obtain ⟨n, hn, rfl⟩ := zi_rng c d
    obtain ⟨i, hi⟩ : ∃ i : Nat, A.toInt = i := ⟨A.toInt.toNat, by omega⟩
    obtain ⟨j, hj⟩ : ∃ j : Nat, B.toInt = j := ⟨B.toInt.toNat, by omega⟩
    have eA := zi_nat hi
    have eB := zi_nat hj
    refine ⟨pk_in n 24 hn, pk_in n 24 hn, nm_e (H _ ?_)⟩
    rw [nI_clamp (show n < 2 ^ 31 by omega), nI_toInt (show n < 2 ^ 31 by omega), hi, hj, eA, eB]
    refine zf_or hn h (fun k hk => ?_) (fun x y hy hne z => hne (by have := z.1; omega))
    rw [zb_mask j (by omega) i (by omega) (by omega) k hk, Bool.and_eq_true, decide_eq_true_iff, decide_eq_true_iff]
    constructor
    · intro z
      exact ⟨by omega, rfl, by omega, by omega⟩
    · intro z
      have := z.2.2.1
      have := z.2.2.2
      exact ⟨by omega, by omega⟩
  · rw [zi_le] at e
    intro x y hx hy z
    omega
theorem zw_run {post : St1 → Prop} {p w : Int32} {a1 a2 a3 a4 a5 : Nat → Int32} {S : Int → Int → Prop} {Y A B : Int32} (h : zf_F a2 S) (H : ∀ f, zf_F f (fun x y => S x y ∨ (y = Y.toInt ∧ A.toInt ≤ x ∧ x ≤ B.toInt)) → post (p, w, a1, f, a3, a4, a5)) : wpX_run post (p, w, a1, a2, a3, a4, a5) Y A B := by
  have r9 : ∀ A' : Int32, 0 ≤ A'.toInt → (∀ x : Nat, A'.toInt ≤ (x : Int) ↔ A.toInt ≤ (x : Int)) → wX_run_9 post Y B A' p w a1 a2 a3 a4 a5 := by
    intro A' h0 e
    refine br_c (fun c => ?_) (fun c => ?_)
    · rw [zi_lt, zi_24] at c
      refine zw_run23 h0 (by omega) h (fun f hf => H f (zf_eq hf (fun x y hx hy => ?_)))
      rw [e x]
    · rw [zi_lt, zi_24] at c
      refine zw_run23 (B := 23) h0 (by decide) h (fun f hf => H f (zf_eq hf (fun x y hx hy => ?_)))
      rw [e x, show ((x : Int) ≤ (23 : Int32).toInt ↔ (x : Int) ≤ B.toInt) from ⟨fun _ => by omega, fun _ => by rw [zi_23]; omega⟩]
  refine br_c (fun c => ?_) (fun c => ?_)
  · rw [zi_le, zi_0] at c
    exact r9 A c (fun x => Iff.rfl)
  · rw [zi_le, zi_0] at c
    exact r9 0 (by decide) (fun x => ⟨fun _ => by omega, fun _ => by rw [zi_0]; omega⟩)
/-! bits counted -/
theorem zw_bits4 {post : Int32 → Prop} {p w : Int32} {a1 a2 a3 a4 a5 : Nat → Int32} : ∀ (k m c : Nat), m < 2 ^ 24 → zs_s (fun i => (m.testBit i).toNat) 24 = k → post (nI (c + k)) → wX_bitsIn_4 post p w a1 a2 a3 a4 a5 (k + 1) (nI c) (nI m) := by
  intro k
  induction k with
  | zero =>
    intro m c hm hk hp
    have e : m = 0 := by
      rcases Nat.eq_zero_or_pos m with z | z
      · exact z
      · have := zs_pc 24 m (by omega) hm
        omega
    subst e
    exact br_t nI_0 hp
  | succ k ih =>
    intro m c hm hk hp
    have hne : m ≠ 0 := by
      intro z
      subst z
      have : zs_s (fun i => ((0 : Nat).testBit i).toNat) 24 = 0 := by
        rw [zs_congr (g := fun _ => 0) (fun i _ => by rw [Nat.zero_testBit]; rfl), zs_zero]
      omega
    have hz := zs_pc 24 m hne hm
    refine br_f (nI_ne0 (by omega) (by omega)) (nm_r (e' := nI (m &&& (m - 1))) ?_ (nm_r (nI_1 c) (ih _ _ ?_ ?_ ?_)))
    · have e1 : nI m - 1 = nI (m - 1) := pk_sub (b := 1) (by omega)
      rw [e1, zb_nand]
    · exact Nat.lt_of_le_of_lt Nat.and_le_left hm
    · omega
    · rw [show c + 1 + k = c + (k + 1) by omega]
      exact hp
theorem zw_bits {post : Int32 → Prop} {p w : Int32} {a1 a2 a3 a4 a5 : Nat → Int32} {v : Int32} (hv : ∀ i, 24 ≤ i → zb_t v i = false) (H : post (nI (zs_b v))) : wpX_bitsIn post (p, w, a1, a2, a3, a4, a5) v := by
  obtain ⟨n, hn, rfl, hb⟩ := zb_24 hv
  have e : zs_s (fun i => (n.testBit i).toNat) 24 = zs_b (nI n) := zs_congr (fun i _ => by rw [hb i])
  exact ⟨zs_b (nI n) + 1, zw_bits4 _ n 0 hn e (by rw [Nat.zero_add]; exact H)⟩
/-- no bit above the raster -/
def zk_C (a : Nat → Int32) : Prop := ∀ y, y < 24 → ∀ x, 24 ≤ x → zb_t (a y) x = false
def zk_n (a : Nat → Int32) : Nat := zs_s (fun y => zs_b (a y)) 24
theorem zw_count {post : Int32 → Prop} {p w : Int32} {a1 a2 a3 a4 a5 : Nat → Int32} (c : zk_C a1) (H : post (nI (zk_n a1))) : wpX_count post (p, w, a1, a2, a3, a4, a5) :=
  pk_loop (σ := Unit) (fun n i _ => wX_count_4 post p w a1 a2 a3 a4 a5 n (nI (zs_s (fun y => zs_b (a1 y)) i)) (nI i)) (fun _ _ => True) 24 0 () (by omega) trivial
    (fun n _ _ => pk_le 24 24 (fun _ => H) (fun z => absurd z (by omega)))
    (fun n i _ hi _ hw => pk_le 24 i (fun z => absurd z (by omega)) (fun _ => ⟨pk_in i 24 hi, by
      rw [nI_clamp (show i < 2 ^ 31 by omega)]
      exact zw_bits (c i hi) (nm_r (nI_add _ _) (nm_r (nI_1 i) (hw () trivial)))⟩))
/-! the pen -/
def zk_op (p u v : Int32) : Int32 := if p = 0 then u ||| v else if p = 1 then u &&& (v ^^^ (-1)) else u ^^^ v
def zk_bo (p : Int32) (u v : Bool) : Bool := if p = 0 then u || v else if p = 1 then u && !v else u ^^ v
theorem zk_opb (p u v : Int32) {i : Nat} (hi : i < 32) : zb_t (zk_op p u v) i = zk_bo p (zb_t u i) (zb_t v i) := by
  unfold zk_op zk_bo
  by_cases h0 : p = 0
  · rw [if_pos h0, if_pos h0, zb_or]
  · rw [if_neg h0, if_neg h0]
    by_cases h1 : p = 1
    · rw [if_pos h1, if_pos h1, zb_and, zb_xor, zb_m1 i hi, Bool.xor_true]
    · rw [if_neg h1, if_neg h1, zb_xor]
theorem zk_opc {p u v : Int32} {i : Nat} (hu : zb_t u i = false) (hv : zb_t v i = false) : zb_t (zk_op p u v) i = false := by
  rcases Nat.lt_or_ge i 32 with h | h
  · rw [zk_opb p u v h, hu, hv]
    unfold zk_bo
    by_cases h0 : p = 0
    · rw [if_pos h0]; rfl
    · rw [if_neg h0]
      by_cases h1 : p = 1
      · rw [if_pos h1]; rfl
      · rw [if_neg h1]; rfl
  · exact zb_big h
def zk_ch (p : Int32) (a f : Nat → Int32) : Nat := zs_s (fun y => zs_b (a y ^^^ zk_op p (a y) (f y))) 24
theorem zw_ink72 {post : Int32 → St1 → Prop} {J : Int32 → Int32 → (Nat → Int32) → (Nat → Int32) → (Nat → Int32) → (Nat → Int32) → (Nat → Int32) → Prop} {p w : Int32} {a1 a2 a3 a4 a5 : Nat → Int32} {c i : Nat} {z : Int32} (hi : i < 24) (hz : ∀ k, 24 ≤ k → zb_t (a1 i ^^^ z) k = false) (H : J (nI (c + zs_b (a1 i ^^^ z))) (nI (i + 1)) (upd a1 i z) a2 a3 a4 a5) : wX_ink_72 post J (nI c) (nI i) z p w a1 a2 a3 a4 a5 := by
  unfold wX_ink_72
  rw [nI_clamp (show i < 2 ^ 31 by omega)]
  exact ⟨pk_in i 24 hi, zw_bits hz (nm_r (nI_add _ _) ⟨pk_in i 24 hi, nm_e (nm_r (nI_1 i) H)⟩)⟩
theorem zw_ink {post : Int32 → St1 → Prop} {p w : Int32} {a1 a2 a3 a4 a5 : Nat → Int32} (c1 : zk_C a1) (c2 : zk_C a2) (H : ∀ a', (∀ j, j < 24 → a' j = zk_op p (a1 j) (a2 j)) → post (nI (zk_ch p a1 a2)) (p, w, a', a2, a3, a4, a5)) : wpX_ink post (p, w, a1, a2, a3, a4, a5) :=
  pk_loop (fun n i s => wX_ink_4 post p w n (nI (zs_s (fun y => zs_b (a1 y ^^^ zk_op p (a1 y) (a2 y))) i)) (nI i) s a2 a3 a4 a5) (fun i s => (∀ j, j < i → s j = zk_op p (a1 j) (a2 j)) ∧ ∀ j, i ≤ j → s j = a1 j) 24 0 a1 (by omega) ⟨fun j hj => absurd hj (by omega), fun _ _ => rfl⟩
    (fun n s h => pk_le 24 24 (fun _ => H s h.1) (fun z => absurd z (by omega)))
    (fun n i s hi h hw => pk_le 24 i (fun z => absurd z (by omega)) (fun _ => by
      have e : s i = a1 i := h.2 i (Nat.le_refl i)
      have step : wX_ink_72 post (wX_ink_4 post p w n) (nI (zs_s (fun y => zs_b (a1 y ^^^ zk_op p (a1 y) (a2 y))) i)) (nI i) (zk_op p (a1 i) (a2 i)) p w s a2 a3 a4 a5 := by
        refine zw_ink72 hi (fun k hk => ?_) ?_
        · rw [zb_xor, e, c1 i hi k hk, zk_opc (c1 i hi k hk) (c2 i hi k hk)]
          rfl
        · rw [e]
          exact hw _ ⟨zf_fill (f := fun j => zk_op p (a1 j) (a2 j)) rfl h.1 rfl, fun j hj => by rw [pk_un (by omega)]; exact h.2 j (by omega)⟩
      rw [nI_clamp (show i < 2 ^ 31 by omega), e]
      refine br_c (fun h0 => ⟨pk_in i 24 hi, pk_in i 24 hi, ?_⟩) (fun h0 => br_c (fun h1 => ⟨pk_in i 24 hi, pk_in i 24 hi, ?_⟩) (fun h1 => ⟨pk_in i 24 hi, pk_in i 24 hi, ?_⟩))
      · have ez : zk_op p (a1 i) (a2 i) = a1 i ||| a2 i := by
          unfold zk_op
          rw [if_pos h0]
        rw [ez] at step
        exact step
      · have ez : zk_op p (a1 i) (a2 i) = a1 i &&& (a2 i ^^^ (-1)) := by
          unfold zk_op
          rw [if_neg h0, if_pos h1]
        rw [ez] at step
        exact step
      · have ez : zk_op p (a1 i) (a2 i) = a1 i ^^^ a2 i := by
          unfold zk_op
          rw [if_neg h0, if_neg h1]
        rw [ez] at step
        exact step))
/-! what a figure's call leaves -/
def zk_Ok (post : Int32 → St1 → Prop) (p : Int32) (a1 : Nat → Int32) (S : Int → Int → Prop) : Prop :=
  ∀ (w : Int32) (a' f a3 a4 a5 : Nat → Int32), zf_F f S → (∀ j, j < 24 → a' j = zk_op p (a1 j) (f j)) → post (nI (zk_ch p a1 f)) (p, w, a', f, a3, a4, a5)
theorem zf_C {f : Nat → Int32} {S : Int → Int → Prop} (h : zf_F f S) : zk_C f := by
  intro y hy x hx
  rcases Nat.lt_or_ge x 32 with z | z
  · have := h y x hy z
    cases e : zb_t (f y) x with
    | false => rfl
    | true =>
      have := (this.mp e).1
      omega
  · exact zb_big z
theorem zw_inkOk {post : Int32 → St1 → Prop} {p w : Int32} {a1 f a3 a4 a5 : Nat → Int32} {S : Int → Int → Prop} (c : zk_C a1) (hf : zf_F f S) (H : zk_Ok post p a1 S) : wpX_ink post (p, w, a1, f, a3, a4, a5) :=
  zw_ink c (zf_C hf) (fun a' ha => H w a' f a3 a4 a5 hf ha)
/-! pixels -/
theorem zi_px {x y : Nat} (hx : x < 24) (hy : y < 24) : nI (32 * y + x) &&& 31 = nI x := by
  rw [pk_andN (m := 31) (by omega) 5 (by decide), show (32 * y + x) % 2 ^ 5 = x by omega]
theorem zi_py {x y : Nat} (hx : x < 24) (hy : y < 24) : nI (32 * y + x) >>> ((5 : Int32) &&& 31) = nI y := by
  rw [pk_shrN (by omega) _ 5 (by decide), show (32 * y + x) / 2 ^ 5 = y by omega]
theorem zi_pix (x y : Nat) : (32 : Int32) * nI y + nI x = nI (32 * y + x) := by
  rw [show (32 : Int32) = nI 32 from rfl, pk_mul, nI_add]
theorem zw_pix {post : Int32 → Prop} {p w : Int32} {a1 a2 a3 a4 a5 : Nat → Int32} {x y : Nat} (hx : x < 24) (hy : y < 24) (H : post 1) : wpX_isPixel post (p, w, a1, a2, a3, a4, a5) (nI (32 * y + x)) := by
  refine br_f (nI_pos (by omega)) (br_f ?_ (br_f ?_ H))
  · rw [zi_px hx hy]
    exact nI_ge (b := 24) hx (by decide)
  · rw [zi_py hx hy]
    exact nI_ge (b := 24) hy (by decide)
theorem zw_get {post : Int32 → Prop} {p w : Int32} {a1 a2 a3 a4 a5 : Nat → Int32} {x y : Nat} (hx : x < 24) (hy : y < 24) (H : post (zb_v (zb_t (a1 y) x))) : wpX_get post (p, w, a1, a2, a3, a4, a5) (nI (32 * y + x)) := by
  unfold wpX_get
  dsimp only
  refine zw_pix hx hy (br_f (by decide) ?_)
  rw [zi_px hx hy, zi_py hx hy, nI_clamp (show y < 2 ^ 31 by omega), zb_get (by omega)]
  exact ⟨pk_in y 24 hy, H⟩
theorem zw_row {post : Int32 → Prop} {p w : Int32} {a1 a2 a3 a4 a5 : Nat → Int32} {y : Nat} (hy : y < 24) (H : post (a1 y)) : wpX_row post (p, w, a1, a2, a3, a4, a5) (nI y) := by
  refine br_f (nI_pos (by omega)) (br_t (nI_lt (b := 24) hy (by decide)) ⟨pk_in y 24 hy, ?_⟩)
  rw [nI_clamp (show y < 2 ^ 31 by omega)]
  exact H
theorem zw_pixel {post : Int32 → Prop} {v : Int32} (H : ∀ x y : Nat, x < 24 → y < 24 → post (nI (32 * y + x))) : wpL_pixel post () v := by
  unfold wpL_pixel
  obtain ⟨i, hi, ei⟩ := pk_andE (v >>> ((8 : Int32) &&& 31)) (m := 255) 8 (by decide)
  obtain ⟨j, hj, ej⟩ := pk_andE v (m := 255) 8 (by decide)
  refine ⟨by decide, by decide, ?_⟩
  rw [ei, ej, show (24 : Int32) = nI 24 from rfl, pk_rem (by omega) (by decide) (by decide), pk_rem (by omega) (by decide) (by decide), zi_pix]
  exact H _ _ (Nat.mod_lt _ (by decide)) (Nat.mod_lt _ (by decide))
theorem zw_turned {post : Int32 → Prop} {x y : Nat} (hx : x < 24) (hy : y < 24) (H : post (nI (32 * x + y))) : wpL_turned post () (nI (32 * y + x)) := by
  unfold wpL_turned
  rw [zi_px hx hy, zi_py hx hy, zi_pix]
  exact H
/-! the two rasters -/
def zk_K (a b : Nat → Int32) : Prop := zk_C a ∧ zk_C b ∧ ∀ y x, y < 24 → x < 24 → zb_t (a y) x = zb_t (b x) y
theorem zk_sw {M N : Nat → Nat → Bool} (h : ∀ y x, y < 24 → x < 24 → M y x = N x y) : zs_s (fun y => zs_s (fun x => (M y x).toNat) 24) 24 = zs_s (fun y => zs_s (fun x => (N y x).toNat) 24) 24 := by
  rw [zs_swap (fun y x => (M y x).toNat)]
  exact zs_congr (fun x hx => zs_congr (fun y hy => by rw [h y x hy hx]))
theorem zk_nsw {a b : Nat → Int32} (K : zk_K a b) : zk_n a = zk_n b := zk_sw (M := fun y x => zb_t (a y) x) (N := fun y x => zb_t (b y) x) K.2.2
theorem zk_pair {p : Int32} {a b f g a' b' : Nat → Int32} {S T : Int → Int → Prop} (K : zk_K a b) (e : ∀ x y : Nat, x < 24 → y < 24 → (S x y ↔ T y x)) (hf : zf_F f S) (hg : zf_F g T) (ha : ∀ j, j < 24 → a' j = zk_op p (a j) (f j)) (hb : ∀ j, j < 24 → b' j = zk_op p (b j) (g j)) : zk_ch p a f = zk_ch p b g ∧ zk_K a' b' := by
  have fg : ∀ y x, y < 24 → x < 24 → zb_t (f y) x = zb_t (g x) y := by
    intro y x hy hx
    apply Bool.eq_iff_iff.mpr
    rw [hf y x hy (by omega), hg x y hx (by omega)]
    exact ⟨fun z => ⟨hy, (e x y hx hy).mp z.2⟩, fun z => ⟨hx, (e x y hx hy).mpr z.2⟩⟩
  have oo : ∀ y x, y < 24 → x < 24 → zb_t (zk_op p (a y) (f y)) x = zb_t (zk_op p (b x) (g x)) y := by
    intro y x hy hx
    rw [zk_opb _ _ _ (by omega), zk_opb _ _ _ (by omega), K.2.2 y x hy hx, fg y x hy hx]
  refine ⟨zk_sw (M := fun y x => zb_t (a y ^^^ zk_op p (a y) (f y)) x) (N := fun y x => zb_t (b y ^^^ zk_op p (b y) (g y)) x) (fun y x hy hx => ?_), fun y hy x hx => ?_, fun y hy x hx => ?_, fun y x hy hx => ?_⟩
  · rw [zb_xor, zb_xor, K.2.2 y x hy hx, oo y x hy hx]
  · rw [ha y hy]
    exact zk_opc (K.1 y hy x hx) (zf_C hf y hy x hx)
  · rw [hb y hy]
    exact zk_opc (K.2.1 y hy x hx) (zf_C hg y hy x hx)
  · rw [ha y hy, hb x hx]
    exact oo y x hy hx
theorem zw_alike {post : Int32 → Prop} {p w q v : Int32} {a1 a2 a3 a4 a5 b1 b2 b3 b4 b5 : Nat → Int32} (K : zk_K a1 b1) (H : post 1) : wpL_alike post (p, w, a1, a2, a3, a4, a5, q, v, b1, b2, b3, b4, b5) := by
  unfold wpL_alike
  dsimp only
  refine zw_count K.1 (zw_count K.2.1 (br_t (congrArg nI (zk_nsw K)) ?_))
  exact pk_loop (σ := Unit) (fun n i _ => wL_alike_15 post p w a1 a2 a3 a4 a5 q v b1 b2 b3 b4 b5 n (nI i)) (fun _ _ => True) 24 0 () (by omega) trivial
    (fun n _ _ => pk_le 24 24 (fun _ => H) (fun z => absurd z (by omega)))
    (fun n i _ hi _ hw => pk_le 24 i (fun z => absurd z (by omega)) (fun _ => zw_row hi (
      pk_loop (σ := Unit) (fun n' j _ => wL_alike_30 post (wL_alike_15 post p w a1 a2 a3 a4 a5 q v b1 b2 b3 b4 b5 n) (nI i) (a1 i) p w a1 a2 a3 a4 a5 q v b1 b2 b3 b4 b5 n' (nI j)) (fun _ _ => True) 24 0 () (by omega) trivial
        (fun n' _ _ => pk_le 24 24 (fun _ => nm_r (nI_1 i) (hw () trivial)) (fun z => absurd z (by omega)))
        (fun n' j _ hj _ hw' => pk_le 24 j (fun z => absurd z (by omega)) (fun _ => by
          rw [zi_pix]
          exact zw_get hi hj (br_t (by rw [zb_get (by omega), K.2.2 i j hi hj]) (nm_r (nI_1 j) (hw' () trivial))))))))
end
section
/-! lines: one step of height and error, as the code makes it -/
def zl_st (r l h e : Int32) : Int32 × Int32 :=
  if e + 2 * r ≤ l then (if -l < e + 2 * r then (h, e + 2 * r) else if l ≤ 0 then (h, e + 2 * r) else (h + (-1), e + 2 * r + 2 * l)) else (h + 1, e + 2 * r - 2 * l)
def zl_it (r l h : Int32) : Nat → Int32 × Int32
  | 0 => (h, 0)
  | n + 1 => zl_st r l (zl_it r l h n).1 (zl_it r l h n).2
/-- the first n dots from fr on: step number U, height V -/
def zl_L (r l h : Int32) (fr n : Nat) (U V : Int) : Prop := ∃ k : Nat, k < n ∧ U = ((fr + k : Nat) : Int) ∧ V = (zl_it r l h k).1.toInt
theorem zl_Ls {r l h : Int32} {fr n : Nat} {U V : Int} : zl_L r l h fr (n + 1) U V ↔ zl_L r l h fr n U V ∨ (U = ((fr + n : Nat) : Int) ∧ V = (zl_it r l h n).1.toInt) := by
  constructor
  · rintro ⟨k, hk, h1, h2⟩
    by_cases e : k = n
    · subst e
      exact Or.inr ⟨h1, h2⟩
    · exact Or.inl ⟨k, by omega, h1, h2⟩
  · rintro (⟨k, hk, h1, h2⟩ | ⟨h1, h2⟩)
    · exact ⟨k, by omega, h1, h2⟩
    · exact ⟨n, by omega, h1, h2⟩
def zl_X (x5 : Int32) (G : Int → Int → Prop) (x y : Int) : Prop := if x5 = 0 then G x y else G y x
theorem zw_wl100 {post : St1 → Prop} {J : Int32 → Int32 → Int32 → Int32 → Int32 → (Nat → Int32) → (Nat → Int32) → (Nat → Int32) → (Nat → Int32) → (Nat → Int32) → Prop} {x5 x7 h r l e x12 p w : Int32} {a1 a2 a3 a4 a5 : Nat → Int32} (H : J (zl_st r l h e).1 (zl_st r l h e).2 (x12 + 1) p w a1 a2 a3 a4 a5) : wX_walkLine_100 post J x5 x7 h r l e x12 p w a1 a2 a3 a4 a5 := by
  unfold zl_st at H
  refine nm_e (br_c (fun c => br_c (fun d => nm_e ?_) (fun d => br_c (fun g => nm_e ?_) (fun g => nm_e (nm_e (nm_e ?_))))) (fun c => nm_e (nm_e (nm_e ?_))))
  · rw [if_pos c, if_pos d] at H
    exact H
  · rw [if_pos c, if_neg d, if_pos g] at H
    exact H
  · rw [if_pos c, if_neg d, if_neg g] at H
    exact H
  · rw [if_neg c] at H
    exact H
theorem zw_wl69 {post : St1 → Prop} {x5 r l h p w : Int32} {a1 a3 a4 a5 : Nat → Int32} {S : Int → Int → Prop} {fr to : Nat} (ht : to < 24) (hfr : fr ≤ to) (H : ∀ f, zf_F f (fun x y => S x y ∨ zl_X x5 (zl_L r l h fr (to - fr + 1)) x y) → post (p, w, a1, f, a3, a4, a5)) : ∀ (m n : Nat) (f : Nat → Int32), fr + n + m = to + 1 → zf_F f (fun x y => S x y ∨ zl_X x5 (zl_L r l h fr n) x y) → wX_walkLine_69 post x5 (nI to) r l (m + 1) (zl_it r l h n).1 (zl_it r l h n).2 (nI (fr + n)) p w a1 f a3 a4 a5 := by
  intro m
  induction m with
  | zero =>
    intro n f e hf
    refine br_t (nI_lt (by omega) (by omega)) (H f ?_)
    rw [show to - fr + 1 = n by omega]
    exact hf
  | succ m ih =>
    intro n f e hf
    have st : ∀ f', zf_F f' (fun x y => S x y ∨ zl_X x5 (zl_L r l h fr (n + 1)) x y) → wX_walkLine_100 post (wX_walkLine_69 post x5 (nI to) r l (m + 1)) x5 (nI to) (zl_it r l h n).1 r l (zl_it r l h n).2 (nI (fr + n)) p w a1 f' a3 a4 a5 :=
      fun f' hf' => zw_wl100 (by rw [nI_1]; exact ih (n + 1) f' (by omega) hf')
    refine br_f (nI_nlt (by omega) (by omega)) (br_c (fun c => zw_dot hf (fun f' hf' => st f' (zf_eq hf' ?_))) (fun c => zw_dot hf (fun f' hf' => st f' (zf_eq hf' ?_))))
    · intro x y hx hy
      simp only [zl_X, if_pos c, zl_Ls, nI_toInt (show fr + n < 2 ^ 31 by omega)]
      exact or_assoc
    · intro x y hx hy
      simp only [zl_X, if_neg c, zl_Ls, nI_toInt (show fr + n < 2 ^ 31 by omega)]
      constructor
      · rintro ((z | z) | z)
        · exact Or.inl z
        · exact Or.inr (Or.inl z)
        · exact Or.inr (Or.inr ⟨z.2, z.1⟩)
      · rintro (z | z | z)
        · exact Or.inl (Or.inl z)
        · exact Or.inl (Or.inr z)
        · exact Or.inr ⟨z.2, z.1⟩
theorem zw_w53 {post : St1 → Prop} {x5 r h p w : Int32} {a1 f a3 a4 a5 : Nat → Int32} {S : Int → Int → Prop} {fr to : Nat} (hfr : fr ≤ to) (ht : to < 24) (hf : zf_F f S) (H : ∀ f', zf_F f' (fun x y => S x y ∨ zl_X x5 (zl_L r (nI to - nI fr) h fr (to - fr + 1)) x y) → post (p, w, a1, f', a3, a4, a5)) : wX_walkLine_53 post x5 (nI fr) (nI to) h r p w a1 f a3 a4 a5 := by
  refine nm_e ⟨to + 1 - fr + 1, zw_wl69 ht hfr H (to + 1 - fr) 0 f (by omega) (zf_eq hf (fun x y _ _ => ⟨Or.inl, fun z => z.resolve_right ?_⟩))⟩
  unfold zl_X
  split
  · rintro ⟨k, hk, _⟩
    omega
  · rintro ⟨k, hk, _⟩
    omega
def zl_G (a b c d : Nat) : Int → Int → Prop := if c < a then zl_L (nI b - nI d) (nI a - nI c) (nI d) c (a - c + 1) else zl_L (nI d - nI b) (nI c - nI a) (nI b) a (c - a + 1)
theorem zw_walk {post : St1 → Prop} {x5 p w : Int32} {a1 f a3 a4 a5 : Nat → Int32} {S : Int → Int → Prop} {a b c d : Nat} (ha : a < 24) (hc : c < 24) (hf : zf_F f S) (H : ∀ f', zf_F f' (fun x y => S x y ∨ zl_X x5 (zl_G a b c d) x y) → post (p, w, a1, f', a3, a4, a5)) : wpX_walkLine post (p, w, a1, f, a3, a4, a5) (nI a) (nI b) (nI c) (nI d) x5 := by
  unfold zl_G at H
  by_cases e : c < a
  · have z : nI c < nI a := nI_lt e (by omega)
    simp only [if_pos e] at H
    exact br_t z (br_t z (br_t z (br_t z (zw_w53 (by omega) ha hf H))))
  · have z : ¬ nI c < nI a := nI_nlt (by omega) (by omega)
    simp only [if_neg e] at H
    exact br_f z (br_f z (br_f z (br_f z (zw_w53 (by omega) hc hf H))))
def zl_d (a b : Nat) : Nat := (a - b) + (b - a)
theorem zw_dist {post : Int32 → Prop} {p w : Int32} {a1 a2 a3 a4 a5 : Nat → Int32} {a b : Nat} (ha : a < 24) (hb : b < 24) (H : post (nI (zl_d a b))) : wpX_distance post (p, w, a1, a2, a3, a4, a5) (nI a) (nI b) :=
  pk_le b a (fun z => by rw [pk_sub z, show a - b = zl_d a b by unfold zl_d; omega]; exact H) (fun z => by rw [pk_sub (by omega), show b - a = zl_d a b by unfold zl_d; omega]; exact H)
def zl_S (ax ay bx by' : Nat) (x y : Int) : Prop := if zl_d ax bx < zl_d ay by' then zl_G ay ax by' bx y x else zl_G ax ay bx by' x y
theorem zw_line94 {post : Int32 → St1 → Prop} {p w : Int32} {a1 f a3 a4 a5 : Nat → Int32} {S : Int → Int → Prop} (c : zk_C a1) (hf : zf_F f S) (H : zk_Ok post p a1 S) : wX_line_94 post p w a1 f a3 a4 a5 := by
  unfold wX_line_94
  exact zw_inkOk c hf (fun w a' f a3 a4 a5 h1 h2 => H w a' f a3 a4 a5 h1 h2)
theorem zw_line {post : Int32 → St1 → Prop} {p w : Int32} {a1 a2 a3 a4 a5 : Nat → Int32} {ax ay bx by' : Nat} (hax : ax < 24) (hay : ay < 24) (hbx : bx < 24) (hby : by' < 24) (c : zk_C a1) (H : zk_Ok post p a1 (zl_S ax ay bx by')) : wpX_line post (p, w, a1, a2, a3, a4, a5) (nI (32 * ay + ax)) (nI (32 * by' + bx)) := by
  unfold wpX_line
  dsimp only
  refine zw_pix hax hay (br_f (by decide) (zw_pix hbx hby (br_f (by decide) (zw_clear (fun f hf => ?_)))))
  dsimp only
  rw [zi_px hax hay, zi_px hbx hby, zi_py hax hay, zi_py hbx hby]
  refine zw_dist hax hbx (zw_dist hay hby (pk_lt (zl_d ax bx) (zl_d ay by') (fun z => ?_) (fun z => ?_) rfl rfl (by unfold zl_d; omega) (by unfold zl_d; omega)))
  · refine zw_walk hay hby hf (fun f' hf' => zw_line94 c (zf_eq hf' (fun x y hx hy => ?_)) H)
    simp only [zl_X, zl_S, if_pos z]
    rw [if_neg (by decide)]
    exact ⟨fun t => t.resolve_left (fun s => s), Or.inr⟩
  · refine zw_walk hax hbx hf (fun f' hf' => zw_line94 c (zf_eq hf' (fun x y hx hy => ?_)) H)
    simp only [zl_X, zl_S, if_neg (Nat.not_lt.mpr z)]
    rw [if_pos trivial]
    exact ⟨fun t => t.resolve_left (fun s => s), Or.inr⟩
/-! the line turned -/
theorem zl_Gsw {a b c d : Nat} (h : a ≠ c) : zl_G c d a b = zl_G a b c d := by
  unfold zl_G
  rcases Nat.lt_or_ge c a with e | e
  · rw [if_neg (by omega), if_pos e]
  · rw [if_pos (by omega), if_neg (by omega)]
theorem zl_up {L h : Nat} (h0 : 0 < L) (hL : L < 24) : ∀ k, zl_it (nI L) (nI L) (nI h) k = (nI (h + k), 0) := by
  intro k
  induction k with
  | zero => rfl
  | succ k ih =>
    show zl_st (nI L) (nI L) (zl_it (nI L) (nI L) (nI h) k).1 (zl_it (nI L) (nI L) (nI h) k).2 = _
    rw [ih]
    show zl_st (nI L) (nI L) (nI (h + k)) 0 = _
    unfold zl_st
    have e : (0 : Int32) + 2 * nI L = nI (2 * L) := by
      rw [show (2 : Int32) = nI 2 from rfl, pk_mul, Int32.zero_add]
    rw [e, if_neg (nI_ge (by omega) (by omega)), show (2 : Int32) * nI L = nI (2 * L) from pk_mul 2 L, pk_sub (Nat.le_refl _), Nat.sub_self, nI_1]
    rfl
theorem zl_dn {L h : Nat} (h0 : 0 < L) (hL : L < 24) : ∀ k, zl_it (-nI L) (nI L) (nI h) k = (nI h - nI k, 0) := by
  intro k
  induction k with
  | zero =>
    show (nI h, (0 : Int32)) = (nI h - nI 0, 0)
    rw [nI_0, Int32.sub_zero]
  | succ k ih =>
    show zl_st (-nI L) (nI L) (zl_it (-nI L) (nI L) (nI h) k).1 (zl_it (-nI L) (nI L) (nI h) k).2 = _
    rw [ih]
    show zl_st (-nI L) (nI L) (nI h - nI k) 0 = _
    unfold zl_st
    have e : (0 : Int32) + 2 * (-nI L) = -nI (2 * L) := by
      rw [← pk_mul 2 L, show nI 2 = (2 : Int32) from rfl]
      grind
    have e1 : (nI L).toInt = L := nI_toInt (by omega)
    have e2 : (nI (2 * L)).toInt = ((2 * L : Nat) : Int) := nI_toInt (by omega)
    have e3 : (-nI (2 * L)).toInt = -((2 * L : Nat) : Int) := by
      rw [zi_neg (by omega), e2]
    have e4 : (-nI L).toInt = -(L : Int) := by
      rw [zi_neg (by omega), e1]
    rw [e, if_pos (by rw [zi_le, e3, e1]; omega), if_neg (by rw [zi_lt, e3, e4]; omega), if_neg (by rw [zi_le, e1, zi_0]; omega)]
    have e5 : nI h - nI k + (-1) = nI h - nI (k + 1) := by
      rw [nI_succ]
      grind
    have e6 : -nI (2 * L) + 2 * nI L = 0 := by
      rw [← pk_mul 2 L, show nI 2 = (2 : Int32) from rfl]
      grind
    rw [e5, e6]
theorem zl_Lu {L h fr : Nat} (hL : L < 24) (hh : h < 24) {U V : Int} : zl_L (nI L) (nI L) (nI h) fr (L + 1) U V ↔ (fr : Int) ≤ U ∧ U ≤ fr + L ∧ V = h + (U - fr) := by
  constructor
  · rintro ⟨k, hk, h1, h2⟩
    rcases Nat.eq_zero_or_pos L with z | z
    · have : k = 0 := by omega
      subst this
      have : (zl_it (nI L) (nI L) (nI h) 0).1.toInt = h := nI_toInt (by omega)
      omega
    · rw [zl_up z hL k] at h2
      dsimp only at h2
      rw [nI_toInt (by omega)] at h2
      omega
  · rintro ⟨h1, h2, h3⟩
    refine ⟨(U - fr).toNat, by omega, by omega, ?_⟩
    rcases Nat.eq_zero_or_pos L with z | z
    · have : (U - fr).toNat = 0 := by omega
      rw [this]
      have : (zl_it (nI L) (nI L) (nI h) 0).1.toInt = h := nI_toInt (by omega)
      omega
    · rw [zl_up z hL]
      dsimp only
      rw [nI_toInt (by omega)]
      omega
theorem zl_Ld {L h fr : Nat} (h0 : 0 < L) (hL : L < 24) (hh : h < 24) {U V : Int} : zl_L (-nI L) (nI L) (nI h) fr (L + 1) U V ↔ (fr : Int) ≤ U ∧ U ≤ fr + L ∧ V = h - (U - fr) := by
  constructor
  · rintro ⟨k, hk, h1, h2⟩
    rw [zl_dn h0 hL k] at h2
    dsimp only at h2
    rw [pk_sub_toInt (by omega) (by omega)] at h2
    omega
  · rintro ⟨h1, h2, h3⟩
    refine ⟨(U - fr).toNat, by omega, by omega, ?_⟩
    rw [zl_dn h0 hL]
    dsimp only
    rw [pk_sub_toInt (by omega) (by omega)]
    omega
theorem zl_nsub {a b : Nat} (h : a ≤ b) : nI a - nI b = -nI (b - a) := by
  rw [← pk_sub h]
  grind
def zl_E (a b c d : Nat) (U V : Int) : Prop := (c < a ∧ (c : Int) ≤ U ∧ U ≤ a ∧ ((d ≤ b ∧ V = d + (U - c)) ∨ (b < d ∧ V = d - (U - c)))) ∨ (a ≤ c ∧ (a : Int) ≤ U ∧ U ≤ c ∧ ((b ≤ d ∧ V = b + (U - a)) ∨ (d < b ∧ V = b - (U - a))))
theorem zl_Gd {a b c d : Nat} (ha : a < 24) (hb : b < 24) (hc : c < 24) (hd : d < 24) (h : zl_d a c = zl_d b d) {U V : Int} : zl_G a b c d U V ↔ zl_E a b c d U V := by
  unfold zl_d at h
  unfold zl_G zl_E
  rcases Nat.lt_or_ge c a with e | e
  · rw [if_pos e, pk_sub (show c ≤ a by omega)]
    rcases Nat.lt_or_ge b d with g | g
    · rw [zl_nsub (by omega), show d - b = a - c by omega, zl_Ld (by omega) (by omega) (by omega)]
      omega
    · rw [pk_sub g, show b - d = a - c by omega, zl_Lu (by omega) (by omega)]
      omega
  · rw [if_neg (by omega), pk_sub e]
    rcases Nat.lt_or_ge d b with g | g
    · rw [zl_nsub (by omega), show b - d = c - a by omega, zl_Ld (by omega) (by omega) (by omega)]
      omega
    · rw [pk_sub g, show d - b = c - a by omega, zl_Lu (by omega) (by omega)]
      omega
theorem zl_turn {ax ay bx by' : Nat} (hax : ax < 24) (hay : ay < 24) (hbx : bx < 24) (hby : by' < 24) (x y : Nat) : zl_S ax ay bx by' x y ↔ zl_S by' bx ay ax y x := by
  have c1 : zl_d by' ay = zl_d ay by' := by unfold zl_d; omega
  have c2 : zl_d bx ax = zl_d ax bx := by unfold zl_d; omega
  unfold zl_S
  rw [c1, c2]
  rcases Nat.lt_trichotomy (zl_d ax bx) (zl_d ay by') with e | e | e
  · rw [if_pos e, if_neg (by omega), zl_Gsw (a := ay) (c := by') (by intro z; subst z; unfold zl_d at e; omega)]
  · rw [if_neg (by omega), if_neg (by omega), zl_Gd hax hay hbx hby e, zl_Gd hby hbx hay hax (by rw [c1, c2, e])]
    unfold zl_d at e
    unfold zl_E
    omega
  · rw [if_neg (by omega), if_pos e, zl_Gsw (a := ax) (c := bx) (by intro z; subst z; unfold zl_d at e; omega)]
end
section
/-! rings: eight dots -/
def zr_8 (a b u v : Nat) (x y : Int) : Prop := ((x = a + u ∨ x = a - u) ∧ (y = b + v ∨ y = b - v)) ∨ ((x = a + v ∨ x = a - v) ∧ (y = b + u ∨ y = b - u))
theorem zw_eight {post : St1 → Prop} {p w : Int32} {a1 f a3 a4 a5 : Nat → Int32} {S : Int → Int → Prop} {a b u v : Nat} (ha : a < 24) (hb : b < 24) (hu : u < 32) (hv : v < 32) (hf : zf_F f S) (H : ∀ f', zf_F f' (fun x y => S x y ∨ zr_8 a b u v x y) → post (p, w, a1, f', a3, a4, a5)) : wpX_eightDots post (p, w, a1, f, a3, a4, a5) (nI a) (nI b) (nI u) (nI v) := by
  refine ⟨3, ?_⟩
  refine br_f (by decide) (zw_dot hf (fun f1 h1 => zw_dot h1 (fun f2 h2 => zw_dot h2 (fun f3 h3 => zw_dot h3 (fun f4 h4 => nm_r (show (-1 : Int32) + 2 = 1 by decide) ?_)))))
  refine br_f (by decide) (zw_dot h4 (fun f5 h5 => zw_dot h5 (fun f6 h6 => zw_dot h6 (fun f7 h7 => zw_dot h7 (fun f8 h8 => nm_r (show (1 : Int32) + 2 = 3 by decide) ?_)))))
  refine br_t (by decide) (H f8 (zf_eq h8 (fun x y hx hy => ?_)))
  have m1 : ∀ c : Nat, nI c + -1 * nI v = nI c - nI v := fun c => by grind
  have m2 : ∀ c : Nat, nI c + 1 * nI v = nI (c + v) := fun c => by rw [Int32.one_mul, nI_add]
  have e1 : (nI a + nI u).toInt = (a : Int) + u := by rw [nI_add, nI_toInt (by omega)]; omega
  have e2 : (nI b + nI u).toInt = (b : Int) + u := by rw [nI_add, nI_toInt (by omega)]; omega
  have e3 : (nI a - nI u).toInt = (a : Int) - u := pk_sub_toInt (by omega) (by omega)
  have e4 : (nI b - nI u).toInt = (b : Int) - u := pk_sub_toInt (by omega) (by omega)
  have e5 : (nI a - nI v).toInt = (a : Int) - v := pk_sub_toInt (by omega) (by omega)
  have e6 : (nI b - nI v).toInt = (b : Int) - v := pk_sub_toInt (by omega) (by omega)
  have e7 : (nI (a + v)).toInt = (a : Int) + v := by rw [nI_toInt (by omega)]; omega
  have e8 : (nI (b + v)).toInt = (b : Int) + v := by rw [nI_toInt (by omega)]; omega
  simp only [m1, m2, e1, e2, e3, e4, e5, e6, e7, e8]
  unfold zr_8
  by_cases hs : S x y
  · simp only [hs, true_or]
  · simp only [hs, false_or]
    omega
/-- the height at step u: it falls from v while the middle lies outside -/
def zr_dn (r u : Nat) : Nat → Nat
  | 0 => 0
  | v + 1 => if (v + 1) * (v + 1) - (v + 1) + u * u < r * r then v + 1 else zr_dn r u v
def zr_v (r : Nat) : Nat → Nat
  | 0 => zr_dn r 0 r
  | u + 1 => zr_dn r (u + 1) (zr_v r u)
theorem zr_dn_le (r u v : Nat) : zr_dn r u v ≤ v := by
  induction v with
  | zero => exact Nat.le_refl 0
  | succ v ih =>
    unfold zr_dn
    split
    · exact Nat.le_refl _
    · omega
theorem zr_mono (r : Nat) {u k : Nat} (h : u ≤ k) : zr_v r k ≤ zr_v r u := by
  induction k with
  | zero =>
    rw [show u = 0 by omega]
    exact Nat.le_refl _
  | succ k ih =>
    by_cases e : u = k + 1
    · rw [e]
      exact Nat.le_refl _
    · exact Nat.le_trans (zr_dn_le r (k + 1) (zr_v r k)) (ih (by omega))
theorem zr_le (r : Nat) (k : Nat) : zr_v r k ≤ r := Nat.le_trans (zr_mono r (Nat.zero_le k)) (zr_dn_le r 0 r)
def zr_S (a b r n : Nat) (x y : Int) : Prop := ∃ k : Nat, k < n ∧ k ≤ zr_v r k ∧ zr_8 a b k (zr_v r k) x y
theorem zw_r13 {post : St1 → Prop} {J : Int32 → Int32 → Int32 → Int32 → (Nat → Int32) → (Nat → Int32) → (Nat → Int32) → (Nat → Int32) → (Nat → Int32) → Prop} {x1 x2 p w : Int32} {a1 f a3 a4 a5 : Nat → Int32} {r u : Nat} (hr : r ≤ 30) (hu : u ≤ 32) : ∀ v : Nat, v ≤ 30 → wX_drawRing_44 post J x1 x2 (nI r) (nI (zr_dn r u v)) (nI u) p w a1 f a3 a4 a5 → wX_drawRing_13 post J x1 x2 (nI r) (nI u) p w a1 f a3 a4 a5 (v + 1) (nI v) := by
  intro v
  induction v with
  | zero =>
    intro _ H
    exact br_t (by decide) H
  | succ v ih =>
    intro hv H
    have b1 : (v + 1) * (v + 1) ≤ 30 * 30 := Nat.mul_le_mul hv hv
    have b2 : u * u ≤ 32 * 32 := Nat.mul_le_mul hu hu
    have b3 : r * r ≤ 30 * 30 := Nat.mul_le_mul hr hr
    have b4 : v + 1 ≤ (v + 1) * (v + 1) := Nat.le_mul_self _
    have hx : nI (v + 1) * nI (v + 1) - nI (v + 1) + nI u * nI u = nI ((v + 1) * (v + 1) - (v + 1) + u * u) := by
      rw [pk_mul, pk_mul, pk_sub b4, nI_add]
    refine br_f (nI_nle (by omega) (by omega)) (pk_lt ((v + 1) * (v + 1) - (v + 1) + u * u) (r * r) (fun z => ?_) (fun z => nm_r (pk_m1 v) (ih (by omega) ?_)) hx (pk_mul r r) (by omega) (by omega))
    · unfold zr_dn at H
      rw [if_pos z] at H
      exact H
    · unfold zr_dn at H
      rw [if_neg (by omega)] at H
      exact H
theorem zw_r6 {post : St1 → Prop} {p w : Int32} {a1 a3 a4 a5 : Nat → Int32} {S : Int → Int → Prop} {a b r : Nat} (ha : a < 24) (hb : b < 24) (hr : r ≤ 30) (H : ∀ f, zf_F f (fun x y => S x y ∨ zr_S a b r 32 x y) → post (p, w, a1, f, a3, a4, a5)) : ∀ (m u v : Nat) (f : Nat → Int32), u + m = 32 → v ≤ 30 → zr_dn r u v = zr_v r u → zf_F f (fun x y => S x y ∨ zr_S a b r u x y) → wX_drawRing_6 post (nI a) (nI b) (nI r) (m + 1) (nI v) (nI u) p w a1 f a3 a4 a5 := by
  have ex : ∀ (u : Nat) (f : Nat → Int32), u ≤ 32 → zr_v r u < u → zf_F f (fun x y => S x y ∨ zr_S a b r u x y) → post (p, w, a1, f, a3, a4, a5) := by
    intro u f hu hlt hf
    refine H f (zf_eq hf (fun x y _ _ => or_congr Iff.rfl ⟨?_, ?_⟩))
    · rintro ⟨k, h1, h2⟩
      exact ⟨k, by omega, h2⟩
    · rintro ⟨k, h1, h2, h3⟩
      refine ⟨k, ?_, h2, h3⟩
      rcases Nat.lt_or_ge k u with z | z
      · exact z
      · have := zr_mono r z
        omega
  intro m
  induction m with
  | zero =>
    intro u v f e hv hd hf
    have := zr_dn_le r u v
    exact br_t (nI_lt (by omega) (by omega)) (ex u f (by omega) (by omega) hf)
  | succ m ih =>
    intro u v f e hv hd hf
    have hle := zr_dn_le r u v
    refine pk_lt v u (fun z => ex u f (by omega) (by omega) hf) (fun z => ⟨v + 1, zw_r13 hr (by omega) v hv ?_⟩)
    rw [hd]
    refine pk_le u (zr_v r u) (fun g => zw_eight ha hb (by omega) (by omega) hf (fun f' hf' => nm_r (nI_1 u) (ih (u + 1) (zr_v r u) f' (by omega) (by omega) rfl (zf_eq hf' (fun x y _ _ => ?_))))) (fun g => ex u f (by omega) g hf)
    constructor
    · rintro ((t | ⟨k, h1, h2⟩) | t)
      · exact Or.inl t
      · exact Or.inr ⟨k, by omega, h2⟩
      · exact Or.inr ⟨u, by omega, g, t⟩
    · rintro (t | ⟨k, h1, h2, h3⟩)
      · exact Or.inl (Or.inl t)
      · by_cases e' : k = u
        · subst e'
          exact Or.inr h3
        · exact Or.inl (Or.inr ⟨k, by omega, h2, h3⟩)
theorem zw_ring {post : Int32 → St1 → Prop} {p w : Int32} {a1 a2 a3 a4 a5 : Nat → Int32} {x y r : Nat} (hx : x < 24) (hy : y < 24) (hr : r ≤ 30) (c : zk_C a1) (H : zk_Ok post p a1 (zr_S x y r 32)) : wpX_ring post (p, w, a1, a2, a3, a4, a5) (nI (32 * y + x)) (nI r) := by
  unfold wpX_ring
  dsimp only
  refine zw_pix hx hy (br_f (by decide) (br_f (nI_pos (by omega)) (br_t (nI_le (b := 30) hr (by decide)) (zw_clear (fun f hf => ?_)))))
  dsimp only
  rw [zi_px hx hy, zi_py hx hy]
  refine ⟨33, zw_r6 (S := fun _ _ => False) hx hy hr (fun f' hf' => zw_inkOk c (zf_eq hf' (fun i j _ _ => ⟨fun t => t.resolve_left (fun s => s), Or.inr⟩)) (fun w a' f a3 a4 a5 h1 h2 => H w a' f a3 a4 a5 h1 h2)) 32 0 r f (by omega) (by omega) rfl (zf_eq hf (fun i j _ _ => ⟨False.elim, ?_⟩))⟩
  rintro (t | ⟨k, h1, _⟩)
  · exact t
  · omega
theorem zr_turn (a b r : Nat) (x y : Nat) : zr_S a b r 32 x y ↔ zr_S b a r 32 y x := by
  have e : ∀ u v : Nat, zr_8 a b u v x y ↔ zr_8 b a u v y x := by
    intro u v
    unfold zr_8
    omega
  constructor
  · rintro ⟨k, h1, h2, h3⟩
    exact ⟨k, h1, h2, (e _ _).mp h3⟩
  · rintro ⟨k, h1, h2, h3⟩
    exact ⟨k, h1, h2, (e _ _).mpr h3⟩
end
section
/-! blots: the half width less one, or one below nothing -/
def zo_x : Nat → Int32
  | 0 => -1
  | k + 1 => nI k
theorem zo_m1 (k : Nat) : nI k + (-1) = zo_x k := by
  cases k with
  | zero => rfl
  | succ k => exact pk_m1 k
def zo_c (p q k v : Nat) : Prop := q * q * k * k + p * p * v * v ≤ p * p * q * q
theorem zo_ck {p q k k' v : Nat} (h : zo_c p q k' v) (hk : k ≤ k') : zo_c p q k v := by
  unfold zo_c at *
  have := Nat.mul_le_mul (Nat.mul_le_mul_left (q * q) hk) hk
  omega
theorem zo_cv {p q k v v' : Nat} (h : zo_c p q k v') (hv : v ≤ v') : zo_c p q k v := by
  unfold zo_c at *
  have := Nat.mul_le_mul (Nat.mul_le_mul_left (p * p) hv) hv
  omega
theorem zo_b {a b c d : Nat} (ha : a ≤ 30) (hb : b ≤ 30) (hc : c ≤ 30) (hd : d ≤ 30) : a * b * c * d ≤ 810000 := Nat.mul_le_mul (Nat.mul_le_mul (Nat.mul_le_mul ha hb) hc) hd
def zo_S (a b p q n : Nat) (x y : Int) : Prop := ∃ k v : Nat, v < n ∧ k ≤ p ∧ zo_c p q k v ∧ (x = a + k ∨ x = a - k) ∧ (y = b + v ∨ y = b - v)
theorem zw_b23 {post : St1 → Prop} {J : Int32 → Int32 → Int32 → Int32 → (Nat → Int32) → (Nat → Int32) → (Nat → Int32) → (Nat → Int32) → (Nat → Int32) → Prop} {x4 x5 f0 w : Int32} {a1 f a3 a4 a5 : Nat → Int32} {p q v : Nat} (hp : p ≤ 30) (hq : q ≤ 30) (hv : v ≤ 30) : ∀ W : Nat, W ≤ 31 → (∀ W', W' ≤ W → (0 < W' → zo_c p q (W' - 1) v) → (∀ k, k < W → zo_c p q k v → k < W') → wX_drawBlot_63 post J (nI p) (nI q) x4 x5 (zo_x W') (nI v) f0 w a1 f a3 a4 a5) → wX_drawBlot_23 post J (nI p) (nI q) x4 x5 (nI v) f0 w a1 f a3 a4 a5 (W + 1) (zo_x W) := by
  intro W
  induction W with
  | zero =>
    intro _ H
    exact br_t (show (-1 : Int32) < 0 by decide) (H 0 (Nat.le_refl 0) (fun z => absurd z (by omega)) (fun k z => absurd z (by omega)))
  | succ k ih =>
    intro hW H
    have b1 := zo_b hq hq (show k ≤ 30 by omega) (show k ≤ 30 by omega)
    have b2 := zo_b hp hp hv hv
    have b3 := zo_b hp hp hq hq
    have hx : nI q * nI q * nI k * nI k + nI p * nI p * nI v * nI v = nI (q * q * k * k + p * p * v * v) := by
      simp only [pk_mul, nI_add]
    have hy : nI p * nI p * nI q * nI q = nI (p * p * q * q) := by
      simp only [pk_mul]
    refine br_f (nI_pos (n := k) (by omega)) (pk_le (q * q * k * k + p * p * v * v) (p * p * q * q) (fun z => H (k + 1) (Nat.le_refl _) (fun _ => z) (fun j hj _ => hj)) (fun z => nm_r (zo_m1 k) (ih (by omega) (fun W' h1 h2 h3 => H W' (by omega) h2 (fun j hj hc => ?_)))) hx hy (by omega) (by omega))
    by_cases e : j = k
    · subst e
      unfold zo_c at hc
      omega
    · exact h3 j (by omega) hc
theorem zw_b17 {post : St1 → Prop} {f0 w : Int32} {a1 a3 a4 a5 : Nat → Int32} {S : Int → Int → Prop} {a b p q : Nat} (ha : a < 24) (hb : b < 24) (hp : p ≤ 30) (hq : q ≤ 30) (H : ∀ f, zf_F f (fun x y => S x y ∨ zo_S a b p q (q + 1) x y) → post (f0, w, a1, f, a3, a4, a5)) : ∀ (m v W : Nat) (f : Nat → Int32), v + m = q + 1 → W ≤ p + 1 → (∀ k, k ≤ p → zo_c p q k v → k < W) → zf_F f (fun x y => S x y ∨ zo_S a b p q v x y) → wX_drawBlot_17 post (nI p) (nI q) (nI a) (nI b) (m + 1) (zo_x W) (nI v) f0 w a1 f a3 a4 a5 := by
  intro m
  induction m with
  | zero =>
    intro v W f e hW hk hf
    refine br_t (nI_lt (by omega) (by omega)) (H f ?_)
    rw [show q + 1 = v by omega]
    exact hf
  | succ m ih =>
    intro v W f e hW hk hf
    refine br_f (nI_nlt (by omega) (by omega)) ⟨W + 1, zw_b23 hp hq (by omega) W (by omega) (fun W' h1 h2 h3 => ?_)⟩
    have hk' : ∀ k, k ≤ p → zo_c p q k v → k < W' := fun k h4 h5 => h3 k (hk k h4 h5) h5
    cases W' with
    | zero =>
      refine br_f (show ¬ (0 : Int32) ≤ -1 by decide) (H f (zf_eq hf (fun x y _ _ => or_congr Iff.rfl ⟨?_, ?_⟩)))
      · rintro ⟨k, i, g1, g2⟩
        exact ⟨k, i, by omega, g2⟩
      · rintro ⟨k, i, g1, g2, g3, g4⟩
        refine ⟨k, i, ?_, g2, g3, g4⟩
        rcases Nat.lt_or_ge i v with z | z
        · exact z
        · exact absurd (hk' k g2 (zo_cv g3 z)) (by omega)
    | succ k0 =>
      have c0 : zo_c p q k0 v := h2 (by omega)
      refine br_t (nI_pos' (n := k0) (by omega)) (zw_run hf (fun f1 hf1 => zw_run hf1 (fun f2 hf2 => nm_r (nI_1 v) (ih (v + 1) (k0 + 1) f2 (by omega) (by omega) (fun k h4 h5 => hk' k h4 (zo_cv h5 (by omega))) (zf_eq hf2 (fun x y hx hy => ?_))))))
      have e1 : (nI b + nI v).toInt = (b : Int) + v := by rw [nI_add, nI_toInt (by omega)]; omega
      have e2 : (nI b - nI v).toInt = (b : Int) - v := pk_sub_toInt (by omega) (by omega)
      have e3 : (nI a - nI k0).toInt = (a : Int) - k0 := pk_sub_toInt (by omega) (by omega)
      have e4 : (nI a + nI k0).toInt = (a : Int) + k0 := by rw [nI_add, nI_toInt (by omega)]; omega
      simp only [zo_x, e1, e2, e3, e4]
      constructor
      · have put : ∀ (x y : Int), (a : Int) - k0 ≤ x → x ≤ a + k0 → (y = b + v ∨ y = b - v) → zo_S a b p q (v + 1) x y := by
          intro x y g1 g2 g3
          exact ⟨(x - a).natAbs, v, by omega, by omega, zo_ck c0 (by omega), by omega, g3⟩
        rintro (((t | ⟨k, i, g1, g2⟩) | ⟨g1, g2, g3⟩) | ⟨g1, g2, g3⟩)
        · exact Or.inl t
        · exact Or.inr ⟨k, i, by omega, g2⟩
        · exact Or.inr (put _ _ g2 g3 (Or.inl g1))
        · exact Or.inr (put _ _ g2 g3 (Or.inr g1))
      · rintro (t | ⟨k, i, g1, g2, g3, g4, g5⟩)
        · exact Or.inl (Or.inl (Or.inl t))
        · by_cases e' : i = v
          · subst e'
            have hkk := hk' k g2 g3
            rcases g5 with g5 | g5
            · exact Or.inl (Or.inr ⟨g5, by omega, by omega⟩)
            · exact Or.inr ⟨g5, by omega, by omega⟩
          · exact Or.inl (Or.inl (Or.inr ⟨k, i, by omega, g2, g3, g4, g5⟩))
theorem zw_drawBlot {post : St1 → Prop} {f0 w : Int32} {a1 f a3 a4 a5 : Nat → Int32} {x y p q : Nat} (hx : x < 24) (hy : y < 24) (hp : p ≤ 30) (hq : q ≤ 30) (hf : zf_F f (fun _ _ => False)) (H : ∀ f, zf_F f (zo_S x y p q (q + 1)) → post (f0, w, a1, f, a3, a4, a5)) : wpX_drawBlot post (f0, w, a1, f, a3, a4, a5) (nI (32 * y + x)) (nI p) (nI q) := by
  refine nm_r (zi_px hx hy) (nm_r (zi_py hx hy) ⟨q + 2, zw_b17 (S := fun _ _ => False) hx hy hp hq (fun f' hf' => H f' (zf_eq hf' (fun i j _ _ => ⟨fun t => t.resolve_left (fun s => s), Or.inr⟩))) (q + 1) 0 (p + 1) f (by omega) (by omega) (fun k hk _ => by omega) (zf_eq hf (fun i j _ _ => ⟨False.elim, ?_⟩))⟩)
  rintro (t | ⟨k, v, h1, _⟩)
  · exact t
  · omega
theorem zo_turn (a b p q : Nat) (x y : Nat) : zo_S a b p q (q + 1) x y ↔ zo_S b a q p (p + 1) y x := by
  have cc : ∀ p q k v : Nat, zo_c p q k v → zo_c q p v k := by
    intro p q k v h
    unfold zo_c at *
    have : p * p * q * q = q * q * p * p := by
      rw [Nat.mul_assoc (p * p) q q, Nat.mul_assoc (q * q) p p, Nat.mul_comm]
    omega
  constructor
  · rintro ⟨k, v, h1, h2, h3, h4, h5⟩
    exact ⟨v, k, by omega, by omega, cc _ _ _ _ h3, h5, h4⟩
  · rintro ⟨k, v, h1, h2, h3, h4, h5⟩
    exact ⟨v, k, by omega, by omega, cc _ _ _ _ h3, h5, h4⟩
theorem zw_disc {post : Int32 → St1 → Prop} {p w : Int32} {a1 a2 a3 a4 a5 : Nat → Int32} {x y r : Nat} (hx : x < 24) (hy : y < 24) (hr : r ≤ 30) (c : zk_C a1) (H : zk_Ok post p a1 (zo_S x y r r (r + 1))) : wpX_disc post (p, w, a1, a2, a3, a4, a5) (nI (32 * y + x)) (nI r) := by
  unfold wpX_disc
  dsimp only
  refine zw_pix hx hy (br_f (by decide) (br_f (nI_pos (by omega)) (br_t (nI_le (b := 30) hr (by decide)) (zw_clear (fun f hf => ?_)))))
  exact zw_drawBlot hx hy hr hr hf (fun f' hf' => zw_inkOk c hf' (fun w a' f a3 a4 a5 h1 h2 => H w a' f a3 a4 a5 h1 h2))
/-! crosses -/
def zo_X (a b p q n : Nat) (x y : Int) : Prop := 0 ≤ y ∧ y < n ∧ ((p = 0 ∧ q = 0) ∨ (p = 0 ∧ q ≠ 0 ∧ x = a) ∨ (p ≠ 0 ∧ y = b))
theorem zw_c14 {post : St1 → Prop} {f0 w : Int32} {a1 a3 a4 a5 : Nat → Int32} {S : Int → Int → Prop} {a b p q : Nat} (ha : a < 24) (hb : b < 24) (hp : p ≤ 30) (hq : q ≤ 30) (H : ∀ f, zf_F f (fun x y => S x y ∨ zo_X a b p q 24 x y) → post (f0, w, a1, f, a3, a4, a5)) : ∀ (m v : Nat) (f : Nat → Int32), v + m = 24 → zf_F f (fun x y => S x y ∨ zo_X a b p q v x y) → wX_drawCross_14 post (nI p) (nI q) (nI a) (nI b) (m + 1) (nI v) f0 w a1 f a3 a4 a5 := by
  intro m
  induction m with
  | zero =>
    intro v f e hf
    refine br_t (nI_le (a := 24) (by omega) (by omega)) (H f ?_)
    rw [show 24 = v by omega]
    exact hf
  | succ m ih =>
    intro v f e hf
    have ev : (nI v).toInt = (v : Int) := nI_toInt (by omega)
    have ea : (nI a).toInt = (a : Int) := nI_toInt (by omega)
    have go : ∀ (T : Int → Int → Prop) (f' : Nat → Int32), zf_F f' T → (∀ x y : Nat, x < 24 → y < 24 → (T x y ↔ S x y ∨ zo_X a b p q (v + 1) x y)) → wX_drawCross_14 post (nI p) (nI q) (nI a) (nI b) (m + 1) (nI v + 1) f0 w a1 f' a3 a4 a5 := by
      intro T f' hT he
      rw [nI_1]
      exact ih (v + 1) f' (by omega) (zf_eq hT he)
    have c41 : ¬ (p = 0 ∧ q = 0) → wX_drawCross_41 post (wX_drawCross_14 post (nI p) (nI q) (nI a) (nI b) (m + 1)) (nI p) (nI q) (nI a) (nI b) (nI v) f0 w a1 f a3 a4 a5 := by
      intro hn
      refine pk_eq p 0 (fun z => zw_dot hf (fun f' hf' => nm_e (go _ f' hf' (fun x y hx hy => ?_)))) (fun z => pk_eq v b (fun g => zw_run hf (fun f' hf' => nm_e (go _ f' hf' (fun x y hx hy => ?_)))) (fun g => nm_e (go _ f hf (fun x y hx hy => ?_))))
      · rw [ev, ea]
        unfold zo_X
        by_cases hs : S x y
        · simp only [hs, true_or]
        · simp only [hs, false_or]
          omega
      · rw [ev, zi_0, zi_23]
        unfold zo_X
        by_cases hs : S x y
        · simp only [hs, true_or]
        · simp only [hs, false_or]
          omega
      · unfold zo_X
        by_cases hs : S x y
        · simp only [hs, true_or]
        · simp only [hs, false_or]
          omega
    refine br_f (nI_ge (b := 24) (by omega) (by decide)) (pk_eq p 0 (fun z => pk_eq q 0 (fun g => zw_run hf (fun f' hf' => nm_e (go _ f' hf' (fun x y hx hy => ?_)))) (fun g => c41 (fun t => g t.2))) (fun z => c41 (fun t => z t.1)))
    rw [ev, zi_0, zi_23]
    unfold zo_X
    by_cases hs : S x y
    · simp only [hs, true_or]
    · simp only [hs, false_or]
      omega
theorem zw_cross {post : St1 → Prop} {f0 w : Int32} {a1 f a3 a4 a5 : Nat → Int32} {x y p q : Nat} (hx : x < 24) (hy : y < 24) (hp : p ≤ 30) (hq : q ≤ 30) (hf : zf_F f (fun _ _ => False)) (H : ∀ f, zf_F f (zo_X x y p q 24) → post (f0, w, a1, f, a3, a4, a5)) : wpX_drawCross post (f0, w, a1, f, a3, a4, a5) (nI (32 * y + x)) (nI p) (nI q) := by
  refine nm_r (zi_px hx hy) (nm_r (zi_py hx hy) ⟨25, zw_c14 (S := fun _ _ => False) hx hy hp hq (fun f' hf' => H f' (zf_eq hf' (fun i j _ _ => ⟨fun t => t.resolve_left (fun s => s), Or.inr⟩))) 24 0 f (by omega) (zf_eq hf (fun i j _ _ => ⟨False.elim, ?_⟩))⟩)
  rintro (t | ⟨h0, h1, _⟩)
  · exact t
  · omega
def zo_B (a b p q : Nat) (x y : Int) : Prop := if p = 0 ∨ q = 0 then zo_X a b p q 24 x y else zo_S a b p q (q + 1) x y
theorem zo_Bturn {a b p q : Nat} {x y : Nat} (hx : x < 24) (hy : y < 24) : zo_B a b p q x y ↔ zo_B b a q p y x := by
  unfold zo_B
  by_cases h : p = 0 ∨ q = 0
  · rw [if_pos h, if_pos h.symm]
    unfold zo_X
    omega
  · rw [if_neg h, if_neg (fun t => h t.symm)]
    exact zo_turn a b p q x y
theorem zw_b59 {post : Int32 → St1 → Prop} {p w : Int32} {a1 f a3 a4 a5 : Nat → Int32} {S : Int → Int → Prop} (c : zk_C a1) (hf : zf_F f S) (H : zk_Ok post p a1 S) : wX_blot_59 post p w a1 f a3 a4 a5 := by
  unfold wX_blot_59
  exact zw_inkOk c hf (fun w a' f a3 a4 a5 h1 h2 => H w a' f a3 a4 a5 h1 h2)
theorem zw_blot {post : Int32 → St1 → Prop} {f0 w : Int32} {a1 a2 a3 a4 a5 : Nat → Int32} {x y p q : Nat} (hx : x < 24) (hy : y < 24) (hp : p ≤ 30) (hq : q ≤ 30) (c : zk_C a1) (H : zk_Ok post f0 a1 (zo_B x y p q)) : wpX_blot post (f0, w, a1, a2, a3, a4, a5) (nI (32 * y + x)) (nI p) (nI q) := by
  have c42 : p = 0 ∨ q = 0 → ∀ (f : Nat → Int32), zf_F f (fun _ _ => False) → wX_blot_42 post (nI (32 * y + x)) (nI p) (nI q) f0 w a1 f a3 a4 a5 := by
    intro h f hf
    unfold wX_blot_42
    refine zw_cross hx hy hp hq hf (fun f' hf' => zw_b59 c (zf_eq hf' (fun i j _ _ => ?_)) H)
    unfold zo_B
    rw [if_pos h]
  unfold wpX_blot
  dsimp only
  refine zw_pix hx hy (br_f (by decide) (br_f (nI_pos (by omega)) (br_f (nI_nlt (a := 30) hp (by decide)) (br_f (nI_pos (by omega)) (br_t (nI_le (b := 30) hq (by decide)) (zw_clear (fun f hf => ?_)))))))
  refine pk_eq p 0 (fun z => c42 (Or.inl z) f hf) (fun z => pk_eq q 0 (fun g => c42 (Or.inr g) f hf) (fun g => ?_))
  refine zw_drawBlot hx hy hp hq hf (fun f' hf' => zw_b59 c (zf_eq hf' (fun i j _ _ => ?_)) H)
  unfold zo_B
  rw [if_neg (fun t => t.elim z g)]
end
section
/-! triangles -/
theorem zw_small {post : Int32 → Prop} {p w : Int32} {a1 a2 a3 a4 a5 : Nat → Int32} {a b c : Nat} (ha : a < 24) (hb : b < 24) (hc : c < 24) (H : post (nI (min (min a b) c))) : wpX_smallest post (p, w, a1, a2, a3, a4, a5) (nI a) (nI b) (nI c) := by
  refine pk_le b a (fun z => pk_le b c (fun g => ?_) (fun g => ?_)) (fun z => pk_le a c (fun g => ?_) (fun g => ?_))
  · rw [show min (min a b) c = b by omega] at H; exact H
  · rw [show min (min a b) c = c by omega] at H; exact H
  · rw [show min (min a b) c = a by omega] at H; exact H
  · rw [show min (min a b) c = c by omega] at H; exact H
theorem zw_great {post : Int32 → Prop} {p w : Int32} {a1 a2 a3 a4 a5 : Nat → Int32} {a b c : Nat} (ha : a < 24) (hb : b < 24) (hc : c < 24) (H : post (nI (max (max a b) c))) : wpX_greatest post (p, w, a1, a2, a3, a4, a5) (nI a) (nI b) (nI c) := by
  refine pk_le a b (fun z => pk_le c b (fun g => ?_) (fun g => ?_)) (fun z => pk_le c a (fun g => ?_) (fun g => ?_))
  · rw [show max (max a b) c = b by omega] at H; exact H
  · rw [show max (max a b) c = c by omega] at H; exact H
  · rw [show max (max a b) c = a by omega] at H; exact H
  · rw [show max (max a b) c = c by omega] at H; exact H
/-- on which side of the edge from (fx, fy) to (tx, ty) -/
def zt_s (fx fy tx ty x y : Int32) : Int32 := (tx - fx) * (y - fy) - (ty - fy) * (x - fx)
def zt_on (s1 s2 s3 : Int32) : Prop := (¬ s1 < 0 ∧ ¬ s2 < 0 ∧ ¬ s3 < 0) ∨ (¬ 0 < s1 ∧ ¬ 0 < s2 ∧ ¬ 0 < s3)
theorem zw_side {post : Int32 → Prop} {p w : Int32} {a1 a2 a3 a4 a5 : Nat → Int32} {fx fy tx ty : Nat} {X Y : Int32} (h1 : fx < 24) (h2 : fy < 24) (h3 : tx < 24) (h4 : ty < 24) (H : post (zt_s (nI fx) (nI fy) (nI tx) (nI ty) X Y)) : wpX_side post (p, w, a1, a2, a3, a4, a5) (nI (32 * fy + fx)) (nI (32 * ty + tx)) X Y := by
  unfold wpX_side
  dsimp only
  rw [zi_px h1 h2, zi_py h1 h2, zi_px h3 h4, zi_py h3 h4]
  exact nm_e (nm_e H)
section
variable {post : St1 → Prop} {J70 : Int32 → Int32 → Int32 → (Nat → Int32) → (Nat → Int32) → (Nat → Int32) → (Nat → Int32) → (Nat → Int32) → Prop} {J117 : Int32 → Int32 → Int32 → Int32 → Int32 → Int32 → (Nat → Int32) → (Nat → Int32) → (Nat → Int32) → (Nat → Int32) → (Nat → Int32) → Prop} {x1 x2 x3 x4 x5 x7 x8 s1 s2 s3 x12 p w : Int32} {a1 a2 a3 a4 a5 : Nat → Int32}
theorem zw_t144 {z0 : Int32} (h : (¬ z0 = 0 ∨ (¬ 0 < s1 ∧ ¬ 0 < s2 ∧ ¬ 0 < s3)) → wX_drawTriangle_178 post J70 J117 x1 x2 x3 x4 x5 x7 x8 s1 s2 s3 x12 p w a1 a2 a3 a4 a5) (h' : ¬ (¬ z0 = 0 ∨ (¬ 0 < s1 ∧ ¬ 0 < s2 ∧ ¬ 0 < s3)) → wX_drawTriangle_186 post J70 J117 x1 x2 x3 x4 x5 x7 x8 s1 s2 s3 x12 p w a1 a2 a3 a4 a5) : wX_drawTriangle_144 post J70 J117 x1 x2 x3 x4 x5 x7 x8 s1 s2 s3 x12 z0 p w a1 a2 a3 a4 a5 := by
  have k : ¬ (¬ 0 < s1 ∧ ¬ 0 < s2 ∧ ¬ 0 < s3) → wX_drawTriangle_165 post J70 J117 x1 x2 x3 x4 x5 x7 x8 s1 s2 s3 x12 z0 p w a1 a2 a3 a4 a5 := by
    intro hn
    unfold wX_drawTriangle_165
    exact br_c (fun t => br_t rfl (h' (fun s => s.elim (fun q => q t) hn))) (fun t => h (Or.inl t))
  refine br_c (fun c => k (fun t => t.1 c)) (fun c => br_c (fun d => k (fun t => t.2.1 d)) (fun d => br_c (fun e => k (fun t => t.2.2 e)) (fun e => ?_)))
  exact br_c (fun t => br_f (by decide) (h (Or.inr ⟨c, d, e⟩))) (fun t => h (Or.inl t))
theorem zw_t117s (h : zt_on s1 s2 s3 → wX_drawTriangle_178 post J70 J117 x1 x2 x3 x4 x5 x7 x8 s1 s2 s3 x12 p w a1 a2 a3 a4 a5) (h' : ¬ zt_on s1 s2 s3 → wX_drawTriangle_186 post J70 J117 x1 x2 x3 x4 x5 x7 x8 s1 s2 s3 x12 p w a1 a2 a3 a4 a5) : (s1 < 0 → wX_drawTriangle_143 post J70 J117 x1 x2 x3 x4 x5 x7 x8 s1 s2 s3 x12 p w a1 a2 a3 a4 a5) ∧ (¬ s1 < 0 → ((s2 < 0 → wX_drawTriangle_143 post J70 J117 x1 x2 x3 x4 x5 x7 x8 s1 s2 s3 x12 p w a1 a2 a3 a4 a5) ∧ (¬ s2 < 0 → ((s3 < 0 → wX_drawTriangle_143 post J70 J117 x1 x2 x3 x4 x5 x7 x8 s1 s2 s3 x12 p w a1 a2 a3 a4 a5) ∧ (¬ s3 < 0 → wX_drawTriangle_144 post J70 J117 x1 x2 x3 x4 x5 x7 x8 s1 s2 s3 x12 1 p w a1 a2 a3 a4 a5))))) := by
  have k : ¬ (¬ s1 < 0 ∧ ¬ s2 < 0 ∧ ¬ s3 < 0) → wX_drawTriangle_143 post J70 J117 x1 x2 x3 x4 x5 x7 x8 s1 s2 s3 x12 p w a1 a2 a3 a4 a5 := by
    intro hn
    unfold wX_drawTriangle_143
    exact zw_t144 (fun t => h (t.elim (fun q => absurd rfl q) Or.inr)) (fun t => h' (fun s => s.elim hn (fun q => t (Or.inr q))))
  refine br_c (fun c => k (fun t => t.1 c)) (fun c => br_c (fun d => k (fun t => t.2.1 d)) (fun d => br_c (fun e => k (fun t => t.2.2 e)) (fun e => ?_)))
  exact zw_t144 (fun t => h (Or.inl ⟨c, d, e⟩)) (fun t => absurd (Or.inl (by decide)) t)
theorem zw_t117 {S : Int → Int → Prop} {A1 A2 A3 : Nat → Int32} {left right y : Nat} (hr : right < 24) (hy : y < 24) (h1 : ∀ x, A1 x - ((x2 >>> ((5 : Int32) &&& 31)) - (x1 >>> ((5 : Int32) &&& 31))) = A1 (x + 1)) (h2 : ∀ x, A2 x - ((x3 >>> ((5 : Int32) &&& 31)) - (x2 >>> ((5 : Int32) &&& 31))) = A2 (x + 1)) (h3 : ∀ x, A3 x - ((x1 >>> ((5 : Int32) &&& 31)) - (x3 >>> ((5 : Int32) &&& 31))) = A3 (x + 1))
    (HJ : ∀ f, zf_F f (fun X Y => S X Y ∨ ∃ i : Nat, left ≤ i ∧ i < right + 1 ∧ zt_on (A1 i) (A2 i) (A3 i) ∧ X = i ∧ Y = y) → J70 (nI (y + 1)) p w a1 f a3 a4 a5) :
    ∀ (m x : Nat) (f : Nat → Int32), left ≤ x → x + m = right + 1 → zf_F f (fun X Y => S X Y ∨ ∃ i : Nat, left ≤ i ∧ i < x ∧ zt_on (A1 i) (A2 i) (A3 i) ∧ X = i ∧ Y = y) → wX_drawTriangle_117 post J70 x1 x2 x3 x4 (nI right) x7 (nI y) (m + 1) (A1 x) (A2 x) (A3 x) (nI x) p w a1 f a3 a4 a5 := by
  intro m
  induction m with
  | zero =>
    intro x f hl e hf
    refine br_t (nI_lt (by omega) (by omega)) (nm_r (nI_1 y) (HJ f ?_))
    rw [show right + 1 = x by omega]
    exact hf
  | succ m ih =>
    intro x f hl e hf
    have go : ∀ f', zf_F f' (fun X Y => S X Y ∨ ∃ i : Nat, left ≤ i ∧ i < x + 1 ∧ zt_on (A1 i) (A2 i) (A3 i) ∧ X = i ∧ Y = y) → wX_drawTriangle_186 post J70 (wX_drawTriangle_117 post J70 x1 x2 x3 x4 (nI right) x7 (nI y) (m + 1)) x1 x2 x3 x4 (nI right) x7 (nI y) (A1 x) (A2 x) (A3 x) (nI x) p w a1 f' a3 a4 a5 :=
      fun f' hf' => nm_r (h1 x) (nm_r (h2 x) (nm_r (h3 x) (nm_r (nI_1 x) (ih (x + 1) f' (by omega) (by omega) hf'))))
    refine br_f (nI_nlt (by omega) (by omega)) (zw_t117s (fun c => ?_) (fun c => go f (zf_eq hf (fun X Y _ _ => ?_))))
    · unfold wX_drawTriangle_178
      refine zw_dot hf (fun f' hf' => go f' (zf_eq hf' (fun X Y _ _ => ?_)))
      rw [nI_toInt (show x < 2 ^ 31 by omega), nI_toInt (show y < 2 ^ 31 by omega)]
      constructor
      · rintro ((t | ⟨i, g1, g2, g3⟩) | t)
        · exact Or.inl t
        · exact Or.inr ⟨i, g1, by omega, g3⟩
        · exact Or.inr ⟨x, hl, by omega, c, t.1, t.2⟩
      · rintro (t | ⟨i, g1, g2, g3, g4, g5⟩)
        · exact Or.inl (Or.inl t)
        · by_cases e' : i = x
          · subst e'
            exact Or.inr ⟨g4, g5⟩
          · exact Or.inl (Or.inr ⟨i, g1, by omega, g3, g4, g5⟩)
    · constructor
      · rintro (t | ⟨i, g1, g2, g3⟩)
        · exact Or.inl t
        · exact Or.inr ⟨i, g1, by omega, g3⟩
      · rintro (t | ⟨i, g1, g2, g3, g4, g5⟩)
        · exact Or.inl t
        · by_cases e' : i = x
          · subst e'
            exact absurd g3 c
          · exact Or.inr ⟨i, g1, by omega, g3, g4, g5⟩
end
def zt_C (px py qx qy rx ry i j : Nat) : Prop := zt_on (zt_s (nI px) (nI py) (nI qx) (nI qy) (nI i) (nI j)) (zt_s (nI qx) (nI qy) (nI rx) (nI ry) (nI i) (nI j)) (zt_s (nI rx) (nI ry) (nI px) (nI py) (nI i) (nI j))
def zt_R (px py qx qy rx ry left right low n : Nat) (X Y : Int) : Prop := ∃ i j : Nat, left ≤ i ∧ i < right + 1 ∧ low ≤ j ∧ j < n ∧ zt_C px py qx qy rx ry i j ∧ X = i ∧ Y = j
def zt_S (px py qx qy rx ry : Nat) : Int → Int → Prop := zt_R px py qx qy rx ry (min (min px qx) rx) (max (max px qx) rx) (min (min py qy) ry) (max (max py qy) ry + 1)
theorem zt_step (fx fy tx ty : Int32) (Y : Int32) (x : Nat) : zt_s fx fy tx ty (nI x) Y - (ty - fy) = zt_s fx fy tx ty (nI (x + 1)) Y := by
  unfold zt_s
  rw [nI_succ]
  grind
theorem zw_t70 {post : St1 → Prop} {p w : Int32} {a1 a3 a4 a5 : Nat → Int32} {S : Int → Int → Prop} {px py qx qy rx ry left right low high : Nat} (h1 : px < 24) (h2 : py < 24) (h3 : qx < 24) (h4 : qy < 24) (h5 : rx < 24) (h6 : ry < 24) (hl : left ≤ right) (hr : right < 24) (hh : high < 24)
    (H : ∀ f, zf_F f (fun x y => S x y ∨ zt_R px py qx qy rx ry left right low (high + 1) x y) → post (p, w, a1, f, a3, a4, a5)) : ∀ (m y : Nat) (f : Nat → Int32), low ≤ y → y + m = high + 1 → zf_F f (fun x y' => S x y' ∨ zt_R px py qx qy rx ry left right low y x y') → wX_drawTriangle_70 post (nI (32 * py + px)) (nI (32 * qy + qx)) (nI (32 * ry + rx)) (nI left) (nI right) (nI high) (m + 1) (nI y) p w a1 f a3 a4 a5 := by
  intro m
  induction m with
  | zero =>
    intro y f hy e hf
    refine br_t (nI_lt (by omega) (by omega)) (H f ?_)
    rw [show high + 1 = y by omega]
    exact hf
  | succ m ih =>
    intro y f hy e hf
    refine br_f (nI_nlt (by omega) (by omega)) (zw_side h1 h2 h3 h4 (zw_side h3 h4 h5 h6 (zw_side h5 h6 h1 h2 ⟨right + 1 - left + 1, ?_⟩)))
    refine zw_t117 (S := fun x y' => S x y' ∨ zt_R px py qx qy rx ry left right low y x y') (left := left) (A1 := fun x => zt_s (nI px) (nI py) (nI qx) (nI qy) (nI x) (nI y)) (A2 := fun x => zt_s (nI qx) (nI qy) (nI rx) (nI ry) (nI x) (nI y)) (A3 := fun x => zt_s (nI rx) (nI ry) (nI px) (nI py) (nI x) (nI y)) hr (by omega) (fun x => ?_) (fun x => ?_) (fun x => ?_) (fun f' hf' => ih (y + 1) f' (by omega) (by omega) (zf_eq hf' (fun X Y _ _ => ?_))) (right + 1 - left) left f (Nat.le_refl _) (by omega) (zf_eq hf (fun X Y _ _ => ⟨Or.inl, ?_⟩))
    · rw [zi_py h1 h2, zi_py h3 h4]
      exact zt_step _ _ _ _ _ x
    · rw [zi_py h5 h6, zi_py h3 h4]
      exact zt_step _ _ _ _ _ x
    · rw [zi_py h1 h2, zi_py h5 h6]
      exact zt_step _ _ _ _ _ x
    · constructor
      · rintro ((t | ⟨i, j, g1, g2, g3, g4, g5⟩) | ⟨i, g1, g2, g3, g4, g5⟩)
        · exact Or.inl t
        · exact Or.inr ⟨i, j, g1, g2, g3, by omega, g5⟩
        · exact Or.inr ⟨i, y, g1, g2, hy, by omega, g3, g4, g5⟩
      · rintro (t | ⟨i, j, g1, g2, g3, g4, g5, g6, g7⟩)
        · exact Or.inl (Or.inl t)
        · by_cases e' : j = y
          · subst e'
            exact Or.inr ⟨i, g1, g2, g5, g6, g7⟩
          · exact Or.inl (Or.inr ⟨i, j, g1, g2, g3, by omega, g5, g6, g7⟩)
    · rintro (t | ⟨i, g1, g2, _⟩)
      · exact t
      · omega
theorem zw_tri {post : Int32 → St1 → Prop} {p w : Int32} {a1 a2 a3 a4 a5 : Nat → Int32} {px py qx qy rx ry : Nat} (h1 : px < 24) (h2 : py < 24) (h3 : qx < 24) (h4 : qy < 24) (h5 : rx < 24) (h6 : ry < 24) (c : zk_C a1) (H : zk_Ok post p a1 (zt_S px py qx qy rx ry)) : wpX_triangle post (p, w, a1, a2, a3, a4, a5) (nI (32 * py + px)) (nI (32 * qy + qx)) (nI (32 * ry + rx)) := by
  unfold wpX_triangle
  dsimp only
  refine zw_pix h1 h2 (br_f (by decide) (zw_pix h3 h4 (br_f (by decide) (zw_pix h5 h6 (br_f (by decide) (zw_clear (fun f hf => ?_)))))))
  dsimp only
  unfold wpX_drawTriangle
  dsimp only
  rw [zi_px h1 h2, zi_py h1 h2, zi_px h3 h4, zi_py h3 h4, zi_px h5 h6, zi_py h5 h6]
  refine zw_small h1 h3 h5 (zw_great h1 h3 h5 (zw_small h2 h4 h6 (zw_great h2 h4 h6 ⟨max (max py qy) ry + 1 - min (min py qy) ry + 1, ?_⟩)))
  refine zw_t70 (S := fun _ _ => False) (low := min (min py qy) ry) h1 h2 h3 h4 h5 h6 (by omega) (by omega) (by omega) (fun f' hf' => zw_inkOk c (zf_eq hf' (fun i j _ _ => ⟨fun t => t.resolve_left (fun s => s), Or.inr⟩)) (fun w a' f a3 a4 a5 g1 g2 => H w a' f a3 a4 a5 g1 g2)) _ _ f (Nat.le_refl _) (by omega) (zf_eq hf (fun i j _ _ => ⟨False.elim, ?_⟩))
  rintro (t | ⟨i, j, _, _, g1, g2, _⟩)
  · exact t
  · omega
theorem zt_rev (ax ay bx by' x y : Int32) : zt_s by' bx ay ax y x = zt_s ax ay bx by' x y := by
  unfold zt_s
  grind
theorem zt_turn (px py qx qy rx ry x y : Nat) : zt_S px py qx qy rx ry x y ↔ zt_S ry rx qy qx py px y x := by
  have e : ∀ i j, zt_C ry rx qy qx py px j i ↔ zt_C px py qx qy rx ry i j := by
    intro i j
    unfold zt_C
    rw [zt_rev (nI qx) (nI qy) (nI rx) (nI ry), zt_rev (nI px) (nI py) (nI qx) (nI qy), zt_rev (nI rx) (nI ry) (nI px) (nI py)]
    unfold zt_on
    constructor
    · rintro (⟨g1, g2, g3⟩ | ⟨g1, g2, g3⟩)
      · exact Or.inl ⟨g2, g1, g3⟩
      · exact Or.inr ⟨g2, g1, g3⟩
    · rintro (⟨g1, g2, g3⟩ | ⟨g1, g2, g3⟩)
      · exact Or.inl ⟨g2, g1, g3⟩
      · exact Or.inr ⟨g2, g1, g3⟩
  constructor
  · rintro ⟨i, j, g1, g2, g3, g4, g5, g6, g7⟩
    exact ⟨j, i, by omega, by omega, by omega, by omega, (e i j).mpr g5, g7, g6⟩
  · rintro ⟨j, i, g1, g2, g3, g4, g5, g6, g7⟩
    exact ⟨i, j, by omega, by omega, by omega, by omega, (e i j).mp g5, g7, g6⟩
end
section
/-! moves -/
def zm_f (a : Nat → Int32) (dy : Int) (y : Nat) : Int32 := if 0 ≤ (y : Int) - dy ∧ (y : Int) - dy < 24 then a ((y : Int) - dy).toNat else 0
def zm_g (D v : Int32) : Int32 := if D < 0 then (v >>> ((-D) &&& 31)) &&& 16777215 else (v <<< (D &&& 31)) &&& 16777215
def zm_M (a : Nat → Int32) (dx dy : Int) (y x : Nat) : Bool := if 0 ≤ (y : Int) - dy ∧ (y : Int) - dy < 24 ∧ 0 ≤ (x : Int) - dx ∧ (x : Int) - dx < 24 then zb_t (a ((y : Int) - dy).toNat) ((x : Int) - dx).toNat else false
theorem zm_gb {D v : Int32} (hD : -24 ≤ D.toInt) (hD' : D.toInt ≤ 24) (hv : ∀ k, 24 ≤ k → zb_t v k = false) {x : Nat} (hx : x < 24) : zb_t (zm_g D v) x = if 0 ≤ (x : Int) - D.toInt ∧ (x : Int) - D.toInt < 24 then zb_t v ((x : Int) - D.toInt).toNat else false := by
  unfold zm_g
  by_cases h : D < 0
  · rw [if_pos h]
    rw [zi_lt, zi_0] at h
    obtain ⟨n, hn⟩ : ∃ n : Nat, -D.toInt = n := ⟨(-D.toInt).toNat, by omega⟩
    have e : -D = nI n := zi_nat (by rw [zi_neg (by omega), hn])
    rw [e, zb_and, zb_w, decide_eq_true hx, Bool.and_true, zb_sshr n (by omega) v (by omega)]
    by_cases g : n + x < 24
    · rw [if_pos (show n + x < 32 by omega), if_pos (show 0 ≤ (x : Int) - D.toInt ∧ (x : Int) - D.toInt < 24 by omega), show ((x : Int) - D.toInt).toNat = n + x by omega]
    · rw [if_neg (show ¬ (0 ≤ (x : Int) - D.toInt ∧ (x : Int) - D.toInt < 24) by omega)]
      split
      · exact hv _ (by omega)
      · exact hv _ (by omega)
  · rw [if_neg h]
    rw [zi_lt, zi_0] at h
    obtain ⟨n, hn⟩ : ∃ n : Nat, D.toInt = n := ⟨D.toInt.toNat, by omega⟩
    have e : D = nI n := zi_nat hn
    rw [hn, e, zb_and, zb_w, decide_eq_true hx, Bool.and_true, zb_shl n (by omega) v (by omega)]
    by_cases g : n ≤ x
    · rw [decide_eq_true g, Bool.true_and, if_pos (show 0 ≤ (x : Int) - (n : Int) ∧ (x : Int) - (n : Int) < 24 by omega), show ((x : Int) - (n : Int)).toNat = x - n by omega]
    · rw [decide_eq_false g, Bool.false_and, if_neg (show ¬ (0 ≤ (x : Int) - (n : Int) ∧ (x : Int) - (n : Int) < 24) by omega)]
theorem zm_b {a : Nat → Int32} {D : Int32} {dy : Int} (c : zk_C a) (hD : -24 ≤ D.toInt) (hD' : D.toInt ≤ 24) {y x : Nat} (hx : x < 24) : zb_t (zm_g D (zm_f a dy y)) x = zm_M a D.toInt dy y x := by
  rw [zm_gb hD hD' (fun k hk => by
    unfold zm_f
    split
    · exact c _ (by omega) k hk
    · exact zb_0 k) hx]
  unfold zm_f zm_M
  by_cases h : 0 ≤ (y : Int) - dy ∧ (y : Int) - dy < 24
  · rw [if_pos h]
    by_cases g : 0 ≤ (x : Int) - D.toInt ∧ (x : Int) - D.toInt < 24
    · rw [if_pos g, if_pos ⟨h.1, h.2, g.1, g.2⟩]
    · rw [if_neg g, if_neg (fun t => g ⟨t.2.2.1, t.2.2.2⟩)]
  · rw [if_neg h, zb_0]
    split
    · split
      · rename_i t
        exact absurd ⟨t.1, t.2.1⟩ h
      · rfl
    · split
      · rename_i t
        exact absurd ⟨t.1, t.2.1⟩ h
      · rfl
theorem zm_C {s f : Nat → Int32} {D : Int32} (h : ∀ j, j < 24 → s j = zm_g D (f j)) : zk_C s := by
  intro y hy x hx
  rw [h y hy]
  unfold zm_g
  split
  · rw [zb_and, zb_w, decide_eq_false (by omega), Bool.and_false]
  · rw [zb_and, zb_w, decide_eq_false (by omega), Bool.and_false]
theorem zw_m86 {post : Int32 → St1 → Prop} {D x3 p w : Int32} {a1 f a3 a4 a5 : Nat → Int32} (H : ∀ a', (∀ j, j < 24 → a' j = zm_g D (f j)) → post (x3 - nI (zk_n a')) (p, w, a', f, a3, a4, a5)) : ∃ n, wX_move_86 post D x3 p w n 0 a1 f a3 a4 a5 :=
  pk_loop (fun n i s => wX_move_86 post D x3 p w n (nI i) s f a3 a4 a5) (fun i s => ∀ j, j < i → s j = zm_g D (f j)) 24 0 a1 (by omega) (fun j hj => absurd hj (by omega))
    (fun n s h => pk_le 24 24 (fun _ => zw_count (zm_C h) (H s h)) (fun z => absurd z (by omega)))
    (fun n i s hi h hw => pk_le 24 i (fun z => absurd z (by omega)) (fun _ => by
      have st := hw (upd s i (zm_g D (f i))) (zf_fill (f := fun j => zm_g D (f j)) rfl h rfl)
      rw [nI_clamp (show i < 2 ^ 31 by omega)]
      refine br_c (fun d => ⟨pk_in i 24 hi, pk_in i 24 hi, nm_r (e' := upd s i (zm_g D (f i))) ?_ (nm_r (nI_1 i) st)⟩) (fun d => ⟨pk_in i 24 hi, pk_in i 24 hi, nm_r (e' := upd s i (zm_g D (f i))) ?_ (nm_r (nI_1 i) st)⟩)
      · unfold zm_g
        rw [if_pos d]
      · unfold zm_g
        rw [if_neg d]))
theorem zw_m34 {post : Int32 → St1 → Prop} {D E x3 p w : Int32} {a1 a2 a3 a4 a5 : Nat → Int32} (hE : -24 ≤ E.toInt) (hE' : E.toInt ≤ 24) (H : ∀ f, (∀ j, j < 24 → f j = zm_f a1 E.toInt j) → ∃ n, wX_move_86 post D x3 p w n 0 a1 f a3 a4 a5) : ∃ n, wX_move_34 post D E x3 p w n 0 a1 a2 a3 a4 a5 :=
  pk_loop (fun n i s => wX_move_34 post D E x3 p w n (nI i) a1 s a3 a4 a5) (fun i s => ∀ j, j < i → s j = zm_f a1 E.toInt j) 24 0 a2 (by omega) (fun j hj => absurd hj (by omega))
    (fun n s h => pk_le 24 24 (fun _ => H s h) (fun z => absurd z (by omega)))
    (fun n i s hi h hw => pk_le 24 i (fun z => absurd z (by omega)) (fun _ => by
      have st := hw (upd s i (zm_f a1 E.toInt i)) (zf_fill (f := fun j => zm_f a1 E.toInt j) rfl h rfl)
      have en : (nI i).toInt = (i : Int) := nI_toInt (by omega)
      have ei : (nI i - E).toInt = (i : Int) - E.toInt := by
        rw [zi_sub (by omega) (by omega), en]
      rw [nI_clamp (show i < 2 ^ 31 by omega)]
      refine br_c (fun d => ⟨pk_in i 24 hi, nm_r (e' := upd s i (zm_f a1 E.toInt i)) ?_ (nm_r (nI_1 i) st)⟩) (fun d => br_c (fun g => ⟨pk_in i 24 hi, nm_r (e' := upd s i (zm_f a1 E.toInt i)) ?_ (nm_r (nI_1 i) st)⟩) (fun g => ?_))
      · rw [zi_lt, zi_0, ei] at d
        unfold zm_f
        rw [if_neg (by omega)]
      · rw [zi_le, zi_24, ei] at g
        unfold zm_f
        rw [if_neg (by omega)]
      · obtain ⟨k, hk, ek⟩ := zi_rng d g
        rw [ek, nI_toInt (show k < 2 ^ 31 by omega)] at ei
        rw [ek, nI_clamp (show k < 2 ^ 31 by omega)]
        refine ⟨pk_in k 24 hk, pk_in i 24 hi, nm_r (e' := upd s i (zm_f a1 E.toInt i)) ?_ (nm_r (nI_1 i) st)⟩
        unfold zm_f
        rw [if_pos (by omega), show ((i : Int) - E.toInt).toNat = k by omega]))
theorem zw_move {post : Int32 → St1 → Prop} {D E p w : Int32} {a1 a2 a3 a4 a5 : Nat → Int32} (hD : -24 ≤ D.toInt) (hD' : D.toInt ≤ 24) (hE : -24 ≤ E.toInt) (hE' : E.toInt ≤ 24) (c : zk_C a1) (H : ∀ a' f, zk_C a' → (∀ y x, y < 24 → x < 24 → zb_t (a' y) x = zm_M a1 D.toInt E.toInt y x) → post (nI (zk_n a1) - nI (zk_n a')) (p, w, a', f, a3, a4, a5)) : wpX_move post (p, w, a1, a2, a3, a4, a5) D E := by
  have m : (-24 : Int32).toInt = -24 := by decide
  refine br_f ?_ (br_f ?_ (br_f ?_ (br_t ?_ (zw_count c (zw_m34 hE hE' (fun f hf => zw_m86 (fun a' ha => H a' f (zm_C ha) (fun y x hy hx => ?_))))))))
  · rw [zi_lt, m]; omega
  · rw [zi_lt, zi_24]; omega
  · rw [zi_lt, m]; omega
  · rw [zi_le, zi_24]; omega
  · rw [ha y hy, hf y hy]
    exact zm_b c hD hD' hx
theorem zm_pair {a b a' b' : Nat → Int32} {dx dy : Int} (K : zk_K a b) (ca : zk_C a') (cb : zk_C b') (ha : ∀ y x, y < 24 → x < 24 → zb_t (a' y) x = zm_M a dx dy y x) (hb : ∀ y x, y < 24 → x < 24 → zb_t (b' y) x = zm_M b dy dx y x) : zk_K a' b' := by
  refine ⟨ca, cb, fun y x hy hx => ?_⟩
  rw [ha y x hy hx, hb x y hx hy]
  unfold zm_M
  by_cases h : 0 ≤ (y : Int) - dy ∧ (y : Int) - dy < 24 ∧ 0 ≤ (x : Int) - dx ∧ (x : Int) - dx < 24
  · rw [if_pos h, if_pos ⟨h.2.2.1, h.2.2.2, h.1, h.2.1⟩]
    exact K.2.2 _ _ (by omega) (by omega)
  · rw [if_neg h, if_neg (fun t => h ⟨t.2.2.1, t.2.2.2, t.1, t.2.1⟩)]
end
section
/-! floods, the plain law: what is reached from a pixel -/
def zq_R (a : Nat → Int32) (v : Bool) (y0 x0 y x : Nat) : Prop := ∀ T : Nat → Nat → Prop, T y0 x0 → (∀ y x y' x', T y x → y' < 24 → x' < 24 → zb_t (a y') x' = v → ((y' = y ∧ (x' = x + 1 ∨ x = x' + 1)) ∨ (x' = x ∧ (y' = y + 1 ∨ y = y' + 1))) → T y' x') → T y x
theorem zq_R0 (a : Nat → Int32) (v : Bool) (y0 x0 : Nat) : zq_R a v y0 x0 y0 x0 := fun _ h _ => h
theorem zq_Rs {a : Nat → Int32} {v : Bool} {y0 x0 : Nat} (y x y' x' : Nat) (h : zq_R a v y0 x0 y x) (hy : y' < 24) (hx : x' < 24) (hv : zb_t (a y') x' = v) (ad : (y' = y ∧ (x' = x + 1 ∨ x = x' + 1)) ∨ (x' = x ∧ (y' = y + 1 ∨ y = y' + 1))) : zq_R a v y0 x0 y' x' := fun T h0 hs => hs y x y' x' (h T h0 hs) hy hx hv ad
theorem zq_turn {a b : Nat → Int32} {v : Bool} {y0 x0 y x : Nat} (k : ∀ y x, y < 24 → x < 24 → zb_t (a y) x = zb_t (b x) y) (h : zq_R a v y0 x0 y x) : zq_R b v x0 y0 x y :=
  fun T h0 hs => h (fun y x => T x y) h0 (fun y x y' x' t hy hx hv ad => hs x y x' y' t hx hy (by rw [← k y' x' hy hx]; exact hv) ad.symm)
/-- a property spreads along a run -/
theorem zq_along {Q : Nat → Prop} {i j x : Nat} (hi : i ≤ x) (hj : x ≤ j) (h : Q x) (up : ∀ k, i ≤ k → k + 1 ≤ j → Q k → Q (k + 1)) (dn : ∀ k, i ≤ k → k + 1 ≤ j → Q (k + 1) → Q k) : ∀ k, i ≤ k → k ≤ j → Q k := by
  have h1 : ∀ d, x + d ≤ j → Q (x + d) := by
    intro d
    induction d with
    | zero => exact fun _ => h
    | succ d ih => exact fun e => up (x + d) (by omega) (by omega) (ih (by omega))
  have h2 : ∀ d, i + d ≤ x → Q (x - d) := by
    intro d
    induction d with
    | zero => exact fun _ => h
    | succ d ih =>
      intro e
      refine dn (x - (d + 1)) (by omega) (by omega) ?_
      rw [show x - (d + 1) + 1 = x - d by omega]
      exact ih (by omega)
  intro k hk hk'
  rcases Nat.le_total x k with e | e
  · rw [show k = x + (k - x) by omega]
    exact h1 _ (by omega)
  · rw [show k = x - (x - k) by omega]
    exact h2 _ (by omega)
/-! where runs start -/
def zq_st (f : Nat → Int32) (y x : Nat) : Bool := zb_t (f y) x && (decide (x = 0) || !zb_t (f y) (x - 1))
def zq_N (f : Nat → Int32) : Nat := zs_s (fun y => zs_s (fun x => (zq_st f y x).toNat) 24) 24
theorem zs_two {g : Nat → Nat} (h : ∀ x, g x + g (x + 1) ≤ 1) (n : Nat) : zs_s g (2 * n) ≤ n := by
  induction n with
  | zero => exact Nat.le_refl 0
  | succ n ih =>
    have e : zs_s g (2 * (n + 1)) = zs_s g (2 * n) + g (2 * n) + g (2 * n + 1) := rfl
    have := h (2 * n)
    omega
theorem zq_12 (f : Nat → Int32) (y : Nat) : zs_s (fun x => (zq_st f y x).toNat) 24 ≤ 12 := by
  refine zs_two (fun x => ?_) 12
  have e : zq_st f y (x + 1) = (zb_t (f y) (x + 1) && !zb_t (f y) x) := by
    unfold zq_st
    rw [decide_eq_false (by omega), Bool.false_or, Nat.add_sub_cancel]
  cases h : zb_t (f y) x with
  | false =>
    have e2 : zq_st f y x = false := by
      unfold zq_st
      rw [h, Bool.false_and]
    rw [e2, Bool.toNat_false, Nat.zero_add]
    exact Bool.toNat_le _
  | true =>
    rw [e, h, Bool.not_true, Bool.and_false, Bool.toNat_false, Nat.add_zero]
    exact Bool.toNat_le _
theorem zq_288 (f : Nat → Int32) : zq_N f ≤ 288 := zs_le (c := 12) (fun y _ => zq_12 f y)
theorem zs_iv (i j : Nat) (n : Nat) : zs_s (fun k => if i ≤ k ∧ k ≤ j then 1 else 0) n = min n (j + 1) - i := by
  induction n with
  | zero => rw [Nat.zero_min, Nat.zero_sub]; rfl
  | succ n ih =>
    rw [zs_succ, ih]
    by_cases h : i ≤ n ∧ n ≤ j
    · rw [if_pos h]
      omega
    · rw [if_neg h]
      omega
/-! the invariant -/
def zq_l (a4 a5 : Nat → Int32) (k : Nat) : Nat := (a5 k).toNatClampNeg + 1 - (a4 k).toNatClampNeg
def zq_G (a : Nat → Int32) (v : Bool) (R : Nat → Nat → Prop) (f : Nat → Int32) (w : Nat) (a3 a4 a5 : Nat → Int32) (tot pop : Nat) : Prop :=
  zk_C f ∧ (∀ y x, y < 24 → x < 24 → zb_t (f y) x = true → zb_t (a y) x = v ∧ R y x) ∧ (∀ y x, y < 24 → x + 1 < 24 → zb_t (a y) x = v → zb_t (a y) (x + 1) = v → zb_t (f y) x = zb_t (f y) (x + 1)) ∧ (∀ k, k < w → ∃ y i j : Nat, y < 24 ∧ i ≤ j ∧ j < 24 ∧ a3 k = nI y ∧ a4 k = nI i ∧ a5 k = nI j ∧ ∀ x, i ≤ x → x ≤ j → zb_t (f y) x = true) ∧ tot + zs_s (zq_l a4 a5) w = zk_n f ∧ pop + w = zq_N f
def zq_P (a : Nat → Int32) (v : Bool) (f : Nat → Int32) (w : Nat) (a3 a4 a5 : Nat → Int32) (E : Nat → Nat → Prop) : Prop := ∀ y x, y < 24 → x < 24 → zb_t (f y) x = true → (∃ k i j : Nat, k < w ∧ j < 24 ∧ a3 k = nI y ∧ a4 k = nI i ∧ a5 k = nI j ∧ i ≤ x ∧ x ≤ j) ∨ E y x ∨ ∀ y', (y' = y + 1 ∨ y = y' + 1) → y' < 24 → zb_t (a y') x = v → zb_t (f y') x = true
section
variable {a f a3 a4 a5 : Nat → Int32} {v : Bool} {R E : Nat → Nat → Prop} {w tot pop y x i j : Nat} {m : Int32}
theorem zq_put (hR : ∀ y x y' x', R y x → y' < 24 → x' < 24 → zb_t (a y') x' = v → ((y' = y ∧ (x' = x + 1 ∨ x = x' + 1)) ∨ (x' = x ∧ (y' = y + 1 ∨ y = y' + 1))) → R y' x')
    (G : zq_G a v R f w a3 a4 a5 tot pop) (P : zq_P a v f w a3 a4 a5 E) (hy : y < 24) (hf : zb_t (f y) x = false) (hr : R y x) (hi : i ≤ x) (hj : x ≤ j) (hj' : j < 24) (hv : ∀ k, i ≤ k → k ≤ j → zb_t (a y) k = v) (hL : 0 < i → ¬ zb_t (a y) (i - 1) = v) (hU : j + 1 < 24 → ¬ zb_t (a y) (j + 1) = v)
    (hm : ∀ k, k < 32 → zb_t m k = (decide (i ≤ k) && decide (k ≤ j))) :
    w < 288 ∧ zq_G a v R (upd f y (f y ||| m)) (w + 1) (upd a3 w (nI y)) (upd a4 w (nI i)) (upd a5 w (nI j)) tot pop ∧ zq_P a v (upd f y (f y ||| m)) (w + 1) (upd a3 w (nI y)) (upd a4 w (nI i)) (upd a5 w (nI j)) E ∧ (∀ y' x', zb_t (f y') x' = true → zb_t (upd f y (f y ||| m) y') x' = true) ∧ zb_t (upd f y (f y ||| m) y) x = true := by
  obtain ⟨g1, g2, g3, g4, g5, g6⟩ := G
  have no : ∀ k, i ≤ k → k ≤ j → zb_t (f y) k = false :=
    zq_along hi hj hf (fun k h1 h2 h3 => by rw [← g3 y k hy (by omega) (hv k h1 (by omega)) (hv (k + 1) (by omega) h2)]; exact h3) (fun k h1 h2 h3 => by rw [g3 y k hy (by omega) (hv k h1 (by omega)) (hv (k + 1) (by omega) h2)]; exact h3)
  have rr : ∀ k, i ≤ k → k ≤ j → R y k :=
    zq_along hi hj hr (fun k h1 h2 h3 => hR y k y (k + 1) h3 hy (by omega) (hv _ (by omega) h2) (Or.inl ⟨rfl, Or.inl rfl⟩)) (fun k h1 h2 h3 => hR y (k + 1) y k h3 hy (by omega) (hv _ h1 (by omega)) (Or.inl ⟨rfl, Or.inr rfl⟩))
  generalize ef : upd f y (f y ||| m) = f'
  have fo : ∀ y', y' ≠ y → f' y' = f y' := fun y' h => by rw [← ef, pk_un h]
  have fy : ∀ k, k < 32 → zb_t (f' y) k = (zb_t (f y) k || (decide (i ≤ k) && decide (k ≤ j))) := fun k h => by rw [← ef, pk_us, zb_or, hm k h]
  have fin : ∀ k, i ≤ k → k ≤ j → zb_t (f' y) k = true := fun k h1 h2 => by rw [fy k (by omega), decide_eq_true h1, decide_eq_true h2, Bool.and_self, Bool.or_true]
  have fout : ∀ k, k < 32 → ¬ (i ≤ k ∧ k ≤ j) → zb_t (f' y) k = zb_t (f y) k := by
    intro k hk h
    rw [fy k hk]
    by_cases h1 : i ≤ k
    · rw [decide_eq_false (fun t => h ⟨h1, t⟩), Bool.and_false, Bool.or_false]
    · rw [decide_eq_false h1, Bool.false_and, Bool.or_false]
  have sub : ∀ y' x', zb_t (f y') x' = true → zb_t (f' y') x' = true := by
    intro y' x' h
    by_cases e : y' = y
    · subst e
      rcases Nat.lt_or_ge x' 32 with z | z
      · rw [fy x' z, h, Bool.true_or]
      · rw [zb_big z] at h
        exact absurd h Bool.false_ne_true
    · rw [fo y' e]
      exact h
  have bk : ∀ y' x', y' < 24 → x' < 24 → zb_t (f' y') x' = true → zb_t (f y') x' = true ∨ (y' = y ∧ i ≤ x' ∧ x' ≤ j) := by
    intro y' x' hy' hx' h
    by_cases e : y' = y
    · by_cases h1 : i ≤ x' ∧ x' ≤ j
      · exact Or.inr ⟨e, h1⟩
      · subst e
        rw [fout x' (by omega) h1] at h
        exact Or.inl h
    · rw [fo y' e] at h
      exact Or.inl h
  have nn : zq_N f' = zq_N f + 1 := by
    have r0 : zs_s (fun x => (zq_st f' y x).toNat) 24 + (zq_st f y i).toNat = zs_s (fun x => (zq_st f y x).toNat) 24 + (zq_st f' y i).toNat := by
      refine zs_one (f := fun x => (zq_st f' y x).toNat) (g := fun x => (zq_st f y x).toNat) (k := i) (by omega) (fun k hk hne => congrArg Bool.toNat ?_)
      by_cases h1 : i ≤ k ∧ k ≤ j
      · unfold zq_st
        rw [no k h1.1 h1.2, fin (k - 1) (by omega) (by omega), decide_eq_false (by omega), Bool.false_and, Bool.not_true, Bool.or_false, Bool.and_false]
      · cases hb : zb_t (f y) k with
        | false =>
          unfold zq_st
          rw [fout k (by omega) h1, hb, Bool.false_and, Bool.false_and]
        | true =>
          unfold zq_st
          rw [fout k (by omega) h1]
          by_cases k0 : k = 0
          · rw [decide_eq_true k0, Bool.true_or, Bool.true_or]
          · rw [fout (k - 1) (by omega) (fun t => ?_)]
            have ek : k = j + 1 := by omega
            rw [ek] at hb
            exact hU (by omega) (g2 y (j + 1) hy (by omega) hb).1
    have r1 : zq_st f y i = false := by
      unfold zq_st
      rw [no i (Nat.le_refl i) (by omega), Bool.false_and]
    have r2 : zq_st f' y i = true := by
      unfold zq_st
      rw [fin i (Nat.le_refl i) (by omega), Bool.true_and]
      by_cases i0 : i = 0
      · rw [decide_eq_true i0, Bool.true_or]
      · rw [fout (i - 1) (by omega) (by omega)]
        cases hb : zb_t (f y) (i - 1) with
        | false => rw [Bool.not_false, Bool.or_true]
        | true => exact absurd (g2 y (i - 1) hy (by omega) hb).1 (hL (by omega))
    have r3 := zs_one (f := fun y => zs_s (fun x => (zq_st f' y x).toNat) 24) (g := fun y => zs_s (fun x => (zq_st f y x).toNat) 24) (k := y) (n := 24) hy (fun k hk hne => zs_congr (fun x _ => by unfold zq_st; rw [fo k hne]))
    rw [r1, r2, Bool.toNat_false, Bool.toNat_true] at r0
    unfold zq_N
    omega
  have cn : zk_n f' = zk_n f + (j + 1 - i) := by
    have r0 : zs_b (f' y) = zs_b (f y) + (j + 1 - i) := by
      have r1 : zs_b (f' y) = zs_s (fun k => (zb_t (f y) k).toNat + (if i ≤ k ∧ k ≤ j then 1 else 0)) 24 := by
        refine zs_congr (fun k hk => ?_)
        by_cases h1 : i ≤ k ∧ k ≤ j
        · rw [if_pos h1, fin k h1.1 h1.2, no k h1.1 h1.2]
          rfl
        · rw [if_neg h1, fout k (by omega) h1]
          rfl
      rw [r1, zs_add, zs_iv]
      show zs_b (f y) + _ = _
      omega
    have r3 := zs_one (f := fun y => zs_b (f' y)) (g := fun y => zs_b (f y)) (k := y) (n := 24) hy (fun k hk hne => by rw [fo k hne])
    unfold zk_n
    omega
  have w288 := zq_288 f'
  have keep : ∀ (s : Nat → Int32) (z : Int32) (k : Nat), k < w → upd s w z k = s k := fun s z k hk => pk_un (by omega)
  refine ⟨by omega, ⟨?_, ?_, ?_, ?_, ?_, ?_⟩, ?_, sub, fin x hi hj⟩
  · intro y' hy' k hk
    by_cases e : y' = y
    · subst e
      rcases Nat.lt_or_ge k 32 with z | z
      · rw [fout k z (by omega)]
        exact g1 y' hy' k hk
      · exact zb_big z
    · rw [fo y' e]
      exact g1 y' hy' k hk
  · intro y' x' hy' hx' h
    rcases bk y' x' hy' hx' h with t | ⟨t1, t2, t3⟩
    · exact g2 y' x' hy' hx' t
    · subst t1
      exact ⟨hv x' t2 t3, rr x' t2 t3⟩
  · intro y' x' hy' hx' h1 h2
    by_cases e : y' = y
    · subst e
      by_cases k1 : i ≤ x' ∧ x' ≤ j
      · by_cases k2 : x' + 1 ≤ j
        · rw [fin x' k1.1 k1.2, fin (x' + 1) (by omega) k2]
        · have ex : x' = j := by omega
          subst ex
          exact absurd h2 (hU hx')
      · by_cases k2 : i ≤ x' + 1 ∧ x' + 1 ≤ j
        · have ex : i = x' + 1 := by omega
          have := hL (by omega)
          rw [ex, Nat.add_sub_cancel] at this
          exact absurd h1 this
        · rw [fout x' (by omega) k1, fout (x' + 1) (by omega) k2]
          exact g3 y' x' hy' hx' h1 h2
    · rw [fo y' e]
      exact g3 y' x' hy' hx' h1 h2
  · intro k hk
    by_cases e : k = w
    · subst e
      exact ⟨y, i, j, hy, by omega, hj', pk_us, pk_us, pk_us, fin⟩
    · obtain ⟨y', i', j', q1, q2, q3, q4, q5, q6, q7⟩ := g4 k (by omega)
      exact ⟨y', i', j', q1, q2, q3, by rw [pk_un e]; exact q4, by rw [pk_un e]; exact q5, by rw [pk_un e]; exact q6, fun x h1 h2 => sub _ _ (q7 x h1 h2)⟩
  · rw [zs_succ, zs_congr (f := zq_l (upd a4 w (nI i)) (upd a5 w (nI j))) (g := zq_l a4 a5) (fun k hk => by unfold zq_l; rw [keep a4 _ k hk, keep a5 _ k hk])]
    have : zq_l (upd a4 w (nI i)) (upd a5 w (nI j)) w = j + 1 - i := by
      unfold zq_l
      rw [pk_us, pk_us, nI_clamp (by omega), nI_clamp (by omega)]
    omega
  · omega
  · intro y' x' hy' hx' h
    rcases bk y' x' hy' hx' h with t | ⟨t1, t2, t3⟩
    · rcases P y' x' hy' hx' t with ⟨k, i', j', q1, q0, q2, q3, q4, q5⟩ | q | q
      · exact Or.inl ⟨k, i', j', by omega, q0, by rw [keep a3 _ k q1]; exact q2, by rw [keep a4 _ k q1]; exact q3, by rw [keep a5 _ k q1]; exact q4, q5⟩
      · exact Or.inr (Or.inl q)
      · exact Or.inr (Or.inr (fun y2 h1 h2 h3 => sub _ _ (q y2 h1 h2 h3)))
    · subst t1
      exact Or.inl ⟨w, i, j, by omega, hj', pk_us, pk_us, pk_us, t2, t3⟩
end
end
section
/-! floods, the walk -/
theorem zw_a102 {post : St1 → Prop} {p : Int32} {a f a3 a4 a5 : Nat → Int32} {w y i j : Nat} (hw : w < 288) (hy : y < 24) (hi : i < 24) (hj : j < 24) (H : post (p, nI (w + 1), a, upd f y (f y ||| (((1 : Int32) <<< ((nI j + 1) &&& 31)) - ((1 : Int32) <<< (nI i &&& 31)))), upd a3 w (nI y), upd a4 w (nI i), upd a5 w (nI j))) : wX_addRun_102 post (nI y) (nI i) (nI j) p (nI w) a f a3 a4 a5 := by
  unfold wX_addRun_102
  rw [nI_clamp (show y < 2 ^ 31 by omega), nI_clamp (show w < 2 ^ 31 by omega), zb_byte y hy, zb_byte i hi, zb_byte j hj]
  exact ⟨pk_in y 24 hy, pk_in y 24 hy, nm_e ⟨pk_in w 288 hw, nm_e ⟨pk_in w 288 hw, nm_e ⟨pk_in w 288 hw, nm_e (nm_r (nI_1 w) H)⟩⟩⟩⟩
theorem zw_a72 {post : St1 → Prop} {p W X4 : Int32} {a f a3 a4 a5 : Nat → Int32} {v : Bool} {y x : Nat} (hy : y < 24) (H : ∀ j, x ≤ j → j < 24 → (∀ k, x ≤ k → k ≤ j → zb_t (a y) k = v) → (j + 1 < 24 → ¬ zb_t (a y) (j + 1) = v) → wX_addRun_102 post (nI y) X4 (nI j) p W a f a3 a4 a5) : ∀ m j, j + m = 23 → x ≤ j → (∀ k, x ≤ k → k ≤ j → zb_t (a y) k = v) → wX_addRun_72 post (nI y) (zb_v v) X4 p W a f a3 a4 a5 (m + 1) (nI j) := by
  intro m
  induction m with
  | zero =>
    intro j e hx hv
    exact br_t (nI_le (a := 23) (by omega) (by omega)) (H j hx (by omega) hv (fun z => absurd z (by omega)))
  | succ m ih =>
    intro j e hx hv
    refine br_f (nI_ge (b := 23) (by omega) (by decide)) ⟨pk_in y 24 hy, ?_⟩
    rw [nI_clamp (show y < 2 ^ 31 by omega), nI_1, zb_get (show j + 1 < 32 by omega)]
    refine br_c (fun c => nm_e (ih (j + 1) (by omega) (by omega) (fun k h1 h2 => ?_))) (fun c => H j hx (by omega) hv (fun _ t => c (zb_v_inj.mpr t)))
    by_cases e' : k = j + 1
    · rw [e']
      exact zb_v_inj.mp c
    · exact hv k h1 (by omega)
theorem zw_a44 {post : St1 → Prop} {p W : Int32} {a f a3 a4 a5 : Nat → Int32} {v : Bool} {y x : Nat} (hy : y < 24) (hx : x < 24) (H : ∀ i, i ≤ x → (∀ k, i ≤ k → k ≤ x → zb_t (a y) k = v) → (0 < i → ¬ zb_t (a y) (i - 1) = v) → ∃ n, wX_addRun_72 post (nI y) (zb_v v) (nI i) p W a f a3 a4 a5 n (nI x)) : ∀ i, i ≤ x → (∀ k, i ≤ k → k ≤ x → zb_t (a y) k = v) → wX_addRun_44 post (nI y) (zb_v v) (nI x) p W a f a3 a4 a5 (i + 1) (nI i) := by
  intro i
  induction i with
  | zero =>
    intro h hv
    exact br_t (by decide) (H 0 h hv (fun z => absurd z (by omega)))
  | succ i ih =>
    intro h hv
    refine br_f (nI_nle (by omega) (by omega)) ⟨pk_in y 24 hy, ?_⟩
    rw [nI_clamp (show y < 2 ^ 31 by omega), nI_pred, zb_get (show i < 32 by omega)]
    refine br_c (fun c => nm_r (pk_m1 i) (ih (by omega) (fun k h1 h2 => ?_))) (fun c => H (i + 1) h hv (fun _ t => c (zb_v_inj.mpr t)))
    by_cases e' : k = i
    · rw [e']
      exact zb_v_inj.mp c
    · exact hv k (by omega) h2
section
variable {post : St1 → Prop} {p : Int32} {a f a3 a4 a5 : Nat → Int32} {v : Bool} {R E : Nat → Nat → Prop} {w tot pop x : Nat} {Y : Int32}
theorem zw_add (hR : ∀ y x y' x', R y x → y' < 24 → x' < 24 → zb_t (a y') x' = v → ((y' = y ∧ (x' = x + 1 ∨ x = x' + 1)) ∨ (x' = x ∧ (y' = y + 1 ∨ y = y' + 1))) → R y' x') (hx : x < 24) (hY : ∀ y, y < 24 → Y = nI y → zb_t (a y) x = v → R y x) (G : zq_G a v R f w a3 a4 a5 tot pop) (P : zq_P a v f w a3 a4 a5 E)
    (H : ∀ f' w' a3' a4' a5', zq_G a v R f' w' a3' a4' a5' tot pop → zq_P a v f' w' a3' a4' a5' E → (∀ y x, zb_t (f y) x = true → zb_t (f' y) x = true) → (∀ y, y < 24 → Y = nI y → zb_t (a y) x = v → zb_t (f' y) x = true) → post (p, nI w', a, f', a3', a4', a5')) : wpX_addRun post (p, nI w, a, f, a3, a4, a5) Y (nI x) (zb_v v) := by
  have same : (∀ y, y < 24 → Y = nI y → zb_t (a y) x = v → zb_t (f y) x = true) → post (p, nI w, a, f, a3, a4, a5) := fun h => H f w a3 a4 a5 G P (fun _ _ h => h) h
  refine br_c (fun c => same ?_) (fun c => br_c (fun d => same ?_) (fun d => ?_))
  · intro y hy e
    subst e
    exact absurd c (nI_pos (by omega))
  · intro y hy e
    subst e
    exact absurd d (nI_ge (b := 24) hy (by decide))
  · obtain ⟨y, hy, rfl⟩ := zi_rng c d
    have inj : ∀ y', y' < 24 → nI y = nI y' → y' = y := fun y' h' e => ((nI_eq (by omega) (by omega)).mp e).symm
    rw [nI_clamp (show y < 2 ^ 31 by omega), zb_get (show x < 32 by omega), zb_get (show x < 32 by omega)]
    refine ⟨pk_in y 24 hy, br_c (fun g => ⟨pk_in y 24 hy, br_c (fun h => ?_) (fun h => same ?_)⟩) (fun g => same ?_)⟩
    · have hfx : zb_t (f y) x = false := zb_v_0.mp g
      have hax : zb_t (a y) x = v := zb_v_inj.mp h
      have one : ∀ k, x ≤ k → k ≤ x → zb_t (a y) k = v := fun k h1 h2 => by rw [show k = x by omega]; exact hax
      refine ⟨x + 1, zw_a44 hy hx (fun i hi hvi hLi => ⟨23 - x + 1, zw_a72 hy (fun j hj hj' hvj hUj => ?_) (23 - x) x (by omega) (Nat.le_refl x) one⟩) x (Nat.le_refl x) one⟩
      obtain ⟨q1, q2, q3, q4, q5⟩ := zq_put hR G P hy hfx (hY y hy rfl hax) hi hj hj' (fun k h1 h2 => (Nat.le_total x k).elim (fun e => hvj k e h2) (fun e => hvi k h1 e)) hLi hUj (zb_mask j hj' i (by omega) (by omega))
      exact zw_a102 q1 hy (by omega) hj' (H _ _ _ _ _ q2 q3 q4 (fun y' hy' e _ => by rw [inj y' hy' e]; exact q5))
    · intro y' hy' e hv
      rw [inj y' hy' e] at hv
      exact absurd (zb_v_inj.mpr hv) h
    · intro y' hy' e hv
      rw [inj y' hy' e]
      cases hb : zb_t (f y) x with
      | true => rfl
      | false => exact absurd (zb_v_0.mpr hb) g
end
theorem zw_103 {post : Int32 → St1 → Prop} {J : Int32 → Int32 → Int32 → (Nat → Int32) → (Nat → Int32) → (Nat → Int32) → (Nat → Int32) → (Nat → Int32) → Prop} {p x3 : Int32} {a : Nat → Int32} {v : Bool} {R : Nat → Nat → Prop} {y j tot pop y0 x0 : Nat} (hR : ∀ y x y' x', R y x → y' < 24 → x' < 24 → zb_t (a y') x' = v → ((y' = y ∧ (x' = x + 1 ∨ x = x' + 1)) ∨ (x' = x ∧ (y' = y + 1 ∨ y = y' + 1))) → R y' x') (hy : y < 24) (hj : j < 24)
    (HJ : ∀ f w a3 a4 a5, zq_G a v R f w a3 a4 a5 tot pop → zq_P a v f w a3 a4 a5 (fun _ _ => False) → zb_t (f y0) x0 = true → J x3 p (nI w) a f a3 a4 a5) :
    ∀ (m x : Nat) (f : Nat → Int32) (w : Nat) (a3 a4 a5 : Nat → Int32), x + m = j + 1 → zq_G a v R f w a3 a4 a5 tot pop → zq_P a v f w a3 a4 a5 (fun y' x' => y' = y ∧ x ≤ x' ∧ x' ≤ j) → (∀ k, x ≤ k → k ≤ j → zb_t (f y) k = true) → zb_t (f y0) x0 = true → wX_flood_103 post J (zb_v v) x3 (nI y) (nI j) (m + 1) (nI x) p (nI w) a f a3 a4 a5 := by
  intro m
  induction m with
  | zero =>
    intro x f w a3 a4 a5 e G P hrun hS
    refine br_t (nI_lt (by omega) (by omega)) (HJ f w a3 a4 a5 G (fun y' x' hy' hx' h => ?_) hS)
    rcases P y' x' hy' hx' h with q | ⟨_, q1, q2⟩ | q
    · exact Or.inl q
    · omega
    · exact Or.inr (Or.inr q)
  | succ m ih =>
    intro x f w a3 a4 a5 e G P hrun hS
    have hx : x < 24 := by omega
    have rx : R y x := (G.2.1 y x hy hx (hrun x (Nat.le_refl x) (by omega))).2
    refine br_f (nI_nlt (by omega) (by omega)) (zw_add hR hx (fun y' hy' e' hv => ?_) G P (fun f1 w1 b3 b4 b5 G1 P1 s1 t1 => zw_add hR hx (fun y' hy' e' hv => ?_) G1 P1 (fun f2 w2 c3 c4 c5 G2 P2 s2 t2 => nm_r (nI_1 x) (ih (x + 1) f2 w2 c3 c4 c5 (by omega) G2 (fun y' x' hy' hx' h => ?_) (fun k h1 h2 => s2 _ _ (s1 _ _ (hrun k (by omega) h2))) (s2 _ _ (s1 _ _ hS))))))
    · have e1 : (nI y - nI 1).toInt = (y : Int) - (1 : Nat) := pk_sub_toInt (by omega) (by omega)
      have e2 : (nI y - nI 1).toInt = (nI y').toInt := congrArg Int32.toInt e'
      rw [e1, nI_toInt (by omega)] at e2
      exact hR y x y' x rx hy' hx hv (Or.inr ⟨rfl, Or.inr (by omega)⟩)
    · rw [nI_1] at e'
      exact hR y x y' x rx hy' hx hv (Or.inr ⟨rfl, Or.inl ((nI_eq (by omega) (by omega)).mp e').symm⟩)
    · rcases P2 y' x' hy' hx' h with q | ⟨q0, q1, q2⟩ | q
      · exact Or.inl q
      · by_cases ex : x' = x
        · subst ex
          subst q0
          refine Or.inr (Or.inr (fun y2 ad hy2 hv => ?_))
          rcases ad with ad | ad
          · exact t2 y2 hy2 (by rw [ad]; exact nI_1 y') hv
          · exact s2 _ _ (t1 y2 hy2 (by rw [ad]; exact nI_pred y2) hv)
        · exact Or.inr (Or.inl ⟨q0, by omega, q2⟩)
      · exact Or.inr (Or.inr q)
theorem zw_144 {post : Int32 → St1 → Prop} {p x3 W : Int32} {a f a3 a4 a5 : Nat → Int32} (H : ∀ a', (∀ j, j < 24 → a' j = a j ^^^ f j) → post x3 (p, W, a', f, a3, a4, a5)) : ∃ n, wX_flood_144 post x3 p W n 0 a f a3 a4 a5 :=
  pk_loop (fun n i s => wX_flood_144 post x3 p W n (nI i) s f a3 a4 a5) (fun i s => (∀ j, j < i → s j = a j ^^^ f j) ∧ ∀ j, i ≤ j → s j = a j) 24 0 a (by omega) ⟨fun j hj => absurd hj (by omega), fun _ _ => rfl⟩
    (fun n s h => pk_le 24 24 (fun _ => H s h.1) (fun z => absurd z (by omega)))
    (fun n i s hi h hw => pk_le 24 i (fun z => absurd z (by omega)) (fun _ => by
      rw [nI_clamp (show i < 2 ^ 31 by omega), h.2 i (Nat.le_refl i)]
      exact ⟨pk_in i 24 hi, pk_in i 24 hi, pk_in i 24 hi, nm_e (nm_r (nI_1 i) (hw _ ⟨zf_fill (f := fun j => a j ^^^ f j) rfl h.1 rfl, fun j hj => by rw [pk_un (by omega)]; exact h.2 j (by omega)⟩))⟩))
theorem zw_39 {post : Int32 → St1 → Prop} {p : Int32} {a : Nat → Int32} {v : Bool} {y0 x0 : Nat} (hy0 : y0 < 24) (hx0 : x0 < 24)
    (H : ∀ f a' a3 a4 a5, zk_C f → (∀ y x, y < 24 → x < 24 → (zb_t (f y) x = true ↔ zq_R a v y0 x0 y x)) → (∀ j, j < 24 → a' j = a j ^^^ f j) → post (nI (zk_n f)) (p, nI 0, a', f, a3, a4, a5)) :
    ∀ (m pop tot : Nat) (f : Nat → Int32) (w : Nat) (a3 a4 a5 : Nat → Int32), pop + m = 288 → zq_G a v (zq_R a v y0 x0) f w a3 a4 a5 tot pop → zq_P a v f w a3 a4 a5 (fun _ _ => False) → zb_t (f y0) x0 = true → wX_flood_39 post (zb_v v) (m + 1) (nI tot) p (nI w) a f a3 a4 a5 := by
  have ex : ∀ (pop tot : Nat) (f a3 a4 a5 : Nat → Int32), zq_G a v (zq_R a v y0 x0) f 0 a3 a4 a5 tot pop → zq_P a v f 0 a3 a4 a5 (fun _ _ => False) → zb_t (f y0) x0 = true → ∃ n, wX_flood_144 post (nI tot) p (nI 0) n 0 a f a3 a4 a5 := by
    intro pop tot f a3 a4 a5 G P hS
    have et : tot = zk_n f := G.2.2.2.2.1
    rw [et]
    refine zw_144 (fun a' ha => H f a' a3 a4 a5 G.1 (fun y x hy hx => ⟨fun h => (G.2.1 y x hy hx h).2, fun h => ?_⟩) ha)
    have key := h (fun y x => y < 24 ∧ x < 24 ∧ zb_t (f y) x = true) ⟨hy0, hx0, hS⟩ (fun y x y' x' t hy' hx' hv ad => ⟨hy', hx', ?_⟩)
    · exact key.2.2
    · obtain ⟨t1, t2, t3⟩ := t
      have hvx := (G.2.1 y x t1 t2 t3).1
      rcases ad with ⟨e1, e2 | e2⟩ | ⟨e1, e2⟩
      · subst e1
        subst e2
        rw [← G.2.2.1 y' x t1 hx' hvx hv]
        exact t3
      · subst e1
        subst e2
        rw [G.2.2.1 y' x' t1 t2 hv hvx]
        exact t3
      · subst e1
        rcases P y x' t1 t2 t3 with ⟨k, _, _, q, _⟩ | q | q
        · omega
        · exact False.elim q
        · exact q y' e2 hy' hv
  intro m
  induction m with
  | zero =>
    intro pop tot f w a3 a4 a5 e G P hS
    have n1 := zq_288 f
    have n2 := G.2.2.2.2.2
    have w0 : w = 0 := by omega
    subst w0
    exact br_t (by decide) (ex pop tot f a3 a4 a5 G P hS)
  | succ m ih =>
    intro pop tot f w a3 a4 a5 e G P hS
    cases w with
    | zero => exact br_t (by decide) (ex pop tot f a3 a4 a5 G P hS)
    | succ w =>
      have n1 := zq_288 f
      obtain ⟨g1, g2, g3, g4, g5, g6⟩ := G
      obtain ⟨y, i, j, q1, q2, q3, q4, q5, q6, q7⟩ := g4 w (by omega)
      refine br_f (nI_nle (by omega) (by omega)) (nm_r (nI_pred w) ?_)
      rw [nI_clamp (show w < 2 ^ 31 by omega)]
      have el : zq_l a4 a5 w = j + 1 - i := by
        unfold zq_l
        rw [q5, q6, nI_clamp (by omega), nI_clamp (by omega)]
      rw [zs_succ, el] at g5
      refine ⟨pk_in w 288 (by omega), nm_r q4 ⟨pk_in w 288 (by omega), nm_r q5 ⟨pk_in w 288 (by omega), nm_r q6 (nm_r (e' := nI (tot + (j + 1 - i))) ?_ ⟨j + 1 - i + 1, zw_103 (tot := tot + (j + 1 - i)) (pop := pop + 1) zq_Rs q1 q3 (fun f' w' b3 b4 b5 G' P' S' => ih (pop + 1) (tot + (j + 1 - i)) f' w' b3 b4 b5 (by omega) G' P' S') (j + 1 - i) i f w a3 a4 a5 (by omega) ⟨g1, g2, g3, fun k hk => g4 k (by omega), by omega, by omega⟩ (fun y' x' hy' hx' h => ?_) q7 hS⟩)⟩⟩⟩
      · rw [pk_sub q2, nI_1, nI_add, show j - i + 1 = j + 1 - i by omega]
      · rcases P y' x' hy' hx' h with ⟨k, i', j', r1, r0, r2, r3, r4, r5, r6⟩ | q | q
        · by_cases ek : k = w
          · subst ek
            have u1 : y = y' := (nI_eq (by omega) (by omega)).mp (q4.symm.trans r2)
            have u2 : i = i' := (nI_eq (by omega) (by omega)).mp (q5.symm.trans r3)
            have u3 : j = j' := (nI_eq (by omega) (by omega)).mp (q6.symm.trans r4)
            exact Or.inr (Or.inl ⟨u1.symm, by omega, by omega⟩)
          · exact Or.inl ⟨k, i', j', by omega, r0, r2, r3, r4, r5, r6⟩
        · exact False.elim q
        · exact Or.inr (Or.inr q)
theorem zw_flood {post : Int32 → St1 → Prop} {p w : Int32} {a1 a2 a3 a4 a5 : Nat → Int32} {x y : Nat} (hx : x < 24) (hy : y < 24)
    (H : ∀ f a' a3 a4 a5, zk_C f → (∀ y' x', y' < 24 → x' < 24 → (zb_t (f y') x' = true ↔ zq_R a1 (zb_t (a1 y) x) y x y' x')) → (∀ j, j < 24 → a' j = a1 j ^^^ f j) → post (nI (zk_n f)) (p, nI 0, a', f, a3, a4, a5)) : wpX_flood post (p, w, a1, a2, a3, a4, a5) (nI (32 * y + x)) := by
  unfold wpX_flood
  dsimp only
  refine zw_pix hx hy (br_f (by decide) (zw_get hx hy (zw_clear (fun f hf => ?_))))
  dsimp only
  rw [zi_px hx hy, zi_py hx hy]
  have fz : ∀ y x, y < 24 → zb_t (f y) x = false := by
    intro y x hy
    rcases Nat.lt_or_ge x 32 with z | z
    · cases hb : zb_t (f y) x with
      | false => rfl
      | true => exact False.elim ((hf y x hy z).mp hb).2
    · exact zb_big z
  have n0 : zk_n f = 0 := by
    unfold zk_n
    rw [zs_congr (g := fun _ => 0) (fun y hy => by
      show zs_s _ 24 = 0
      rw [zs_congr (g := fun _ => 0) (fun x _ => by rw [fz y x hy]; rfl), zs_zero]), zs_zero]
  have n1 : zq_N f = 0 := by
    unfold zq_N
    rw [zs_congr (g := fun _ => 0) (fun y hy => by
      show zs_s _ 24 = 0
      rw [zs_congr (g := fun _ => 0) (fun x _ => by unfold zq_st; rw [fz y x hy]; rfl), zs_zero]), zs_zero]
  refine zw_add (w := 0) (tot := 0) (pop := 0) (E := fun _ _ => False) (R := zq_R a1 (zb_t (a1 y) x) y x) zq_Rs hx (fun y' hy' e hv => ?_) ⟨fun y hy x _ => fz y x hy, fun y x hy hx h => ?_, fun y x hy hx _ _ => by rw [fz y x hy, fz y (x + 1) hy], fun k hk => absurd hk (by omega), by rw [n0]; rfl, by rw [n1]⟩ (fun y x hy hx h => ?_) (fun f' w' b3 b4 b5 G P s t => ⟨289, zw_39 hy hx H 288 0 0 f' w' b3 b4 b5 (by omega) G P (t y hy rfl rfl)⟩)
  · rw [(nI_eq (by omega) (by omega)).mp e] at hv ⊢
    exact zq_R0 _ _ _ _
  · rw [fz y x hy] at h
    exact absurd h Bool.false_ne_true
  · rw [fz y x hy] at h
    exact absurd h Bool.false_ne_true
theorem zq_pair {a b f g a' b' : Nat → Int32} {y0 x0 : Nat} (K : zk_K a b) (hy : y0 < 24) (hx : x0 < 24) (cf : zk_C f) (cg : zk_C g) (hf : ∀ y x, y < 24 → x < 24 → (zb_t (f y) x = true ↔ zq_R a (zb_t (a y0) x0) y0 x0 y x)) (hg : ∀ y x, y < 24 → x < 24 → (zb_t (g y) x = true ↔ zq_R b (zb_t (b x0) y0) x0 y0 y x)) (ha : ∀ j, j < 24 → a' j = a j ^^^ f j) (hb : ∀ j, j < 24 → b' j = b j ^^^ g j) : zk_n f = zk_n g ∧ zk_K a' b' := by
  have fg : ∀ y x, y < 24 → x < 24 → zb_t (f y) x = zb_t (g x) y := by
    intro y x hy' hx'
    apply Bool.eq_iff_iff.mpr
    rw [hf y x hy' hx', hg x y hx' hy', ← K.2.2 y0 x0 hy hx]
    exact ⟨fun h => zq_turn K.2.2 h, fun h => zq_turn (fun y x h1 h2 => (K.2.2 x y h2 h1).symm) h⟩
  refine ⟨zk_sw (M := fun y x => zb_t (f y) x) (N := fun y x => zb_t (g y) x) fg, fun y hy x hx => ?_, fun y hy x hx => ?_, fun y x hy hx => ?_⟩
  · rw [ha y hy, zb_xor, K.1 y hy x hx, cf y hy x hx]
    rfl
  · rw [hb y hy, zb_xor, K.2.1 y hy x hx, cg y hy x hx]
    rfl
  · rw [ha y hy, hb x hx, zb_xor, zb_xor, K.2.2 y x hy hx, fg y x hy hx]
end
section
/-! the law, one turn -/
theorem zl_515 {post : Int32 → Prop} {L : Nat} {xs : Nat → Int32} {J : Int32 → Int32 → Int32 → (Nat → Int32) → (Nat → Int32) → (Nat → Int32) → (Nat → Int32) → (Nat → Int32) → Int32 → Int32 → (Nat → Int32) → (Nat → Int32) → (Nat → Int32) → (Nat → Int32) → (Nat → Int32) → Prop} {x3 : Int32} {kc ks : Nat} {p w q v : Int32} {a1 a2 a3 a4 a5 b1 b2 b3 b4 b5 : Nat → Int32} (K : zk_K a1 b1) (HJ : J (x3 + 4) p w a1 a2 a3 a4 a5 q v b1 b2 b3 b4 b5) : wL_law_515 post L xs J x3 1 kc ks p w a1 a2 a3 a4 a5 q v b1 b2 b3 b4 b5 := by
  refine br_f (by decide) (zw_alike K (br_f (by decide) (nm_e HJ)))
theorem zl_sel (u : Int32) : ∃ s : Nat, s ≤ 30 ∧ (u &&& 255) - (u &&& 255) / 31 * 31 = nI s := by
  obtain ⟨j, hj, e⟩ := pk_andE u (m := 255) 8 (by decide)
  refine ⟨j % 31, by omega, ?_⟩
  rw [e]
  exact pk_rem (d := 31) (by omega) (by decide) (by decide)
theorem zl_loop (xs : Nat → Int32) (L : Nat) (hL : L ≤ 260) (kc ks : Nat) : ∀ (m i : Nat) (p w v : Int32) (a1 a2 a3 a4 a5 b1 b2 b3 b4 b5 : Nat → Int32), 4 * (i + m) ≤ L → L < 4 * (i + m) + 4 → zk_K a1 b1 → wL_law_18 (fun r => r = 1) L xs kc ks (m + 1) (nI (4 * i)) p w a1 a2 a3 a4 a5 p v b1 b2 b3 b4 b5 := by
  have eL : (Int32.ofNat L - 4).toInt = (L : Int) - (4 : Nat) := pk_sub_toInt (a := L) (b := 4) (by omega) (by omega)
  intro m
  induction m with
  | zero =>
    intro i p w v a1 a2 a3 a4 a5 b1 b2 b3 b4 b5 h1 h2 K
    have e0 : (nI (4 * i)).toInt = ((4 * i : Nat) : Int) := nI_toInt (by omega)
    exact br_t (by rw [zi_lt, eL, e0]; omega) rfl
  | succ m ih =>
    intro i p w v a1 a2 a3 a4 a5 b1 b2 b3 b4 b5 h1 h2 K
    have e0 : (nI (4 * i)).toInt = ((4 * i : Nat) : Int) := nI_toInt (by omega)
    have e4 : nI (4 * i) + 4 = nI (4 * (i + 1)) := nI_add (4 * i) 4
    have fin : ∀ (p w v : Int32) (a1 a2 a3 a4 a5 b1 b2 b3 b4 b5 : Nat → Int32), zk_K a1 b1 → wL_law_515 (fun r => r = 1) L xs (wL_law_18 (fun r => r = 1) L xs kc ks (m + 1)) (nI (4 * i)) 1 kc ks p w a1 a2 a3 a4 a5 p v b1 b2 b3 b4 b5 :=
      fun p w v a1 a2 a3 a4 a5 b1 b2 b3 b4 b5 K => zl_515 K (by rw [e4]; exact ih (i + 1) p w v a1 a2 a3 a4 a5 b1 b2 b3 b4 b5 (by omega) (by omega) K)
    obtain ⟨s, hs, es⟩ := zl_sel ((xs (nI (4 * i) + 1).toNatClampNeg) >>> ((16 : Int32) &&& 31))
    obtain ⟨t, ht, et⟩ := zl_sel ((xs (nI (4 * i) + 2).toNatClampNeg) >>> ((16 : Int32) &&& 31))
    have s3 : nI s &&& 3 = nI (s % 4) := pk_andN (m := 3) (by omega) 2 (by decide)
    have t3 : nI t &&& 3 = nI (t % 4) := pk_andN (m := 3) (by omega) 2 (by decide)
    have s7 : nI s &&& 7 = nI (s % 8) := pk_andN (m := 7) (by omega) 3 (by decide)
    have t7 : nI t &&& 7 = nI (t % 8) := pk_andN (m := 7) (by omega) 3 (by decide)
    have s15 : (nI s - 15).toInt = (s : Int) - (15 : Nat) := pk_sub_toInt (a := s) (b := 15) (by omega) (by omega)
    have t15 : (nI t - 15).toInt = (t : Int) - (15 : Nat) := pk_sub_toInt (a := t) (b := 15) (by omega) (by omega)
    have s1 : (nI (s % 4) - 1).toInt = ((s % 4 : Nat) : Int) - (1 : Nat) := pk_sub_toInt (a := s % 4) (b := 1) (by omega) (by omega)
    have t1 : (nI (t % 4) - 1).toInt = ((t % 4 : Nat) : Int) - (1 : Nat) := pk_sub_toInt (a := t % 4) (b := 1) (by omega) (by omega)
    refine br_f (by rw [zi_lt, eL, e0]; omega) ⟨pk_in (4 * i + 1) L (by omega) (nI_1 _), zw_pixel (fun ax ay hax hay => ⟨pk_in (4 * i + 2) L (by omega) (nI_add _ 2), zw_pixel (fun bx by' hbx hby => ⟨pk_in (4 * i + 3) L (by omega) (nI_add _ 3), zw_pixel (fun cx cy hcx hcy => zw_turned hax hay (zw_turned hbx hby (zw_turned hcx hcy ⟨pk_in (4 * i + 1) L (by omega) (nI_1 _), by decide, nm_r es ⟨pk_in (4 * i + 2) L (by omega) (nI_add _ 2), by decide, nm_r et ⟨pk_in (4 * i) L (by omega), fun k _ => ?_⟩⟩⟩)))⟩)⟩)⟩
    refine br_c (fun _ => ?_) (fun _ => br_c (fun _ => ?_) (fun _ => br_c (fun _ => ?_) (fun _ => br_c (fun _ => ?_) (fun _ => br_c (fun _ => ?_) (fun _ => br_c (fun _ => ?_) (fun _ => br_c (fun _ => ?_) (fun _ => br_c (fun _ => ?_) (fun _ => br_c (fun _ => ?_) (fun _ => br_c (fun _ => ?_) (fun _ => br_c (fun _ => ?_) (fun _ => br_c (fun _ => ?_) (fun _ => br_c (fun _ => ?_) (fun _ => br_c (fun _ => ?_) (fun _ => trivial))))))))))))))
    · exact zw_line hax hay hbx hby K.1 (fun w' a' f c3 c4 c5 hf ha => zw_line hby hbx hay hax K.2.1 (fun v' b' g d3 d4 d5 hg hb => br_t (congrArg nI (zk_pair K (fun x y _ _ => zl_turn hax hay hbx hby x y) hf hg ha hb).1) (fin p w' v' a' f c3 c4 c5 b' g d3 d4 d5 (zk_pair K (fun x y _ _ => zl_turn hax hay hbx hby x y) hf hg ha hb).2)))
    · exact zw_line hax hay hbx hby K.1 (fun w' a' f c3 c4 c5 hf ha => zw_line hby hbx hay hax K.2.1 (fun v' b' g d3 d4 d5 hg hb => br_t (congrArg nI (zk_pair K (fun x y _ _ => zl_turn hax hay hbx hby x y) hf hg ha hb).1) (fin p w' v' a' f c3 c4 c5 b' g d3 d4 d5 (zk_pair K (fun x y _ _ => zl_turn hax hay hbx hby x y) hf hg ha hb).2)))
    · unfold wL_law_180
      exact br_c (fun c => br_t c (br_t rfl (fin _ _ _ _ _ _ _ _ _ _ _ _ _ K))) (fun c => br_c (fun d => br_f c (br_t d (br_t rfl (fin _ _ _ _ _ _ _ _ _ _ _ _ _ K)))) (fun d => br_f c (br_f d (br_t rfl (fin _ _ _ _ _ _ _ _ _ _ _ _ _ K)))))
    · unfold wL_law_180
      exact br_c (fun c => br_t c (br_t rfl (fin _ _ _ _ _ _ _ _ _ _ _ _ _ K))) (fun c => br_c (fun d => br_f c (br_t d (br_t rfl (fin _ _ _ _ _ _ _ _ _ _ _ _ _ K)))) (fun d => br_f c (br_f d (br_t rfl (fin _ _ _ _ _ _ _ _ _ _ _ _ _ K)))))
    · exact zw_flood hax hay (fun f a' c3 c4 c5 cf hf ha => zw_flood hay hax (fun g b' d3 d4 d5 cg hg hb => br_t (congrArg nI (zq_pair K hay hax cf cg hf hg ha hb).1) (fin _ _ _ _ _ _ _ _ _ _ _ _ _ (zq_pair K hay hax cf cg hf hg ha hb).2)))
    · exact zw_move (by rw [s15]; omega) (by rw [s15]; omega) (by rw [t15]; omega) (by rw [t15]; omega) K.1 (fun a' f ca ha => zw_move (by rw [t15]; omega) (by rw [t15]; omega) (by rw [s15]; omega) (by rw [s15]; omega) K.2.1 (fun b' g cb hb => br_t (by rw [zk_nsw K, zk_nsw (zm_pair K ca cb ha hb)]) (fin _ _ _ _ _ _ _ _ _ _ _ _ _ (zm_pair K ca cb ha hb))))
    · rw [s3, t3]
      exact zw_move (by rw [s1]; omega) (by rw [s1]; omega) (by rw [t1]; omega) (by rw [t1]; omega) K.1 (fun a' f ca ha => zw_move (by rw [t1]; omega) (by rw [t1]; omega) (by rw [s1]; omega) (by rw [s1]; omega) K.2.1 (fun b' g cb hb => br_t (by rw [zk_nsw K, zk_nsw (zm_pair K ca cb ha hb)]) (fin _ _ _ _ _ _ _ _ _ _ _ _ _ (zm_pair K ca cb ha hb))))
    · exact zw_disc hax hay hs K.1 (fun w' a' f c3 c4 c5 hf ha => zw_disc hay hax hs K.2.1 (fun v' b' g d3 d4 d5 hg hb => br_t (congrArg nI (zk_pair K (fun x y _ _ => zo_turn ax ay s s x y) hf hg ha hb).1) (fin p w' v' a' f c3 c4 c5 b' g d3 d4 d5 (zk_pair K (fun x y _ _ => zo_turn ax ay s s x y) hf hg ha hb).2)))
    · unfold wL_law_349
      exact zw_ring hax hay hs K.1 (fun w' a' f c3 c4 c5 hf ha => zw_ring hay hax hs K.2.1 (fun v' b' g d3 d4 d5 hg hb => br_t (congrArg nI (zk_pair K (fun x y _ _ => zr_turn ax ay s x y) hf hg ha hb).1) (fin p w' v' a' f c3 c4 c5 b' g d3 d4 d5 (zk_pair K (fun x y _ _ => zr_turn ax ay s x y) hf hg ha hb).2)))
    · unfold wL_law_349
      exact zw_ring hax hay hs K.1 (fun w' a' f c3 c4 c5 hf ha => zw_ring hay hax hs K.2.1 (fun v' b' g d3 d4 d5 hg hb => br_t (congrArg nI (zk_pair K (fun x y _ _ => zr_turn ax ay s x y) hf hg ha hb).1) (fin p w' v' a' f c3 c4 c5 b' g d3 d4 d5 (zk_pair K (fun x y _ _ => zr_turn ax ay s x y) hf hg ha hb).2)))
    · exact zw_blot hax hay hs ht K.1 (fun w' a' f c3 c4 c5 hf ha => zw_blot hay hax ht hs K.2.1 (fun v' b' g d3 d4 d5 hg hb => br_t (congrArg nI (zk_pair K (fun x y hx hy => zo_Bturn hx hy) hf hg ha hb).1) (fin p w' v' a' f c3 c4 c5 b' g d3 d4 d5 (zk_pair K (fun x y hx hy => zo_Bturn hx hy) hf hg ha hb).2)))
    · rw [s7, t7]
      exact zw_blot hax hay (p := s % 8) (q := t % 8) (by omega) (by omega) K.1 (fun w' a' f c3 c4 c5 hf ha => zw_blot hay hax (p := t % 8) (q := s % 8) (by omega) (by omega) K.2.1 (fun v' b' g d3 d4 d5 hg hb => br_t (congrArg nI (zk_pair K (fun x y hx hy => zo_Bturn hx hy) hf hg ha hb).1) (fin p w' v' a' f c3 c4 c5 b' g d3 d4 d5 (zk_pair K (fun x y hx hy => zo_Bturn hx hy) hf hg ha hb).2)))
    · unfold wL_law_456
      exact zw_tri hax hay hbx hby hcx hcy K.1 (fun w' a' f c3 c4 c5 hf ha => zw_tri hcy hcx hby hbx hay hax K.2.1 (fun v' b' g d3 d4 d5 hg hb => br_t (congrArg nI (zk_pair K (fun x y _ _ => zt_turn ax ay bx by' cx cy x y) hf hg ha hb).1) (fin p w' v' a' f c3 c4 c5 b' g d3 d4 d5 (zk_pair K (fun x y _ _ => zt_turn ax ay bx by' cx cy x y) hf hg ha hb).2)))
    · unfold wL_law_456
      exact zw_tri hax hay hbx hby hcx hcy K.1 (fun w' a' f c3 c4 c5 hf ha => zw_tri hcy hcx hby hbx hay hax K.2.1 (fun v' b' g d3 d4 d5 hg hb => br_t (congrArg nI (zk_pair K (fun x y _ _ => zt_turn ax ay bx by' cx cy x y) hf hg ha hb).1) (fin p w' v' a' f c3 c4 c5 b' g d3 d4 d5 (zk_pair K (fun x y _ _ => zt_turn ax ay bx by' cx cy x y) hf hg ha hb).2)))
end
section
theorem zl_init {post : St1 → Prop} (H : post (0, 0, (fun _ => 0), (fun _ => 0), (fun _ => 0), (fun _ => 0), (fun _ => 0))) : wpX_init post 5 912 (0, 0) := by
  unfold wpX_init
  exact ⟨by decide, by decide, by decide, by decide, by decide, by decide, by decide, by decide, by decide, by decide, H⟩
theorem zl_K0 : zk_K (fun _ => 0) (fun _ => 0) := ⟨fun _ _ x _ => zb_0 x, fun _ _ x _ => zb_0 x, fun y x _ _ => by rw [zb_0, zb_0]⟩
theorem i_vc (xs : Nat → Int32) (L : Nat) (hL : L ≤ 260) : wpL_law (fun r => r = 1) L xs := by
  unfold wpL_law
  refine ⟨5, 912, by decide, by decide, zl_init ⟨by decide, by decide, 5, 912, by decide, by decide, zl_init ⟨L / 4 + 1, ?_⟩⟩⟩
  exact zl_loop xs L hL _ _ (L / 4) 0 0 0 0 _ _ _ _ _ _ _ _ _ _ (by omega) (by omega) zl_K0
end
