section
/-! bits of an Int32 (the first family began as rows of laws/BITS.to-paste) -/
def mb_t (x : Int32) (i : Nat) : Bool := x.toBitVec.getLsbD i
theorem mb_ext {x y : Int32} (h : ∀ i, i < 32 → mb_t x i = mb_t y i) : x = y := Int32.toBitVec_inj.mp (BitVec.eq_of_getLsbD_eq (fun i hi => h i hi))
theorem mb_or (x y : Int32) (i : Nat) : mb_t (x ||| y) i = (mb_t x i || mb_t y i) := by unfold mb_t; rw [Int32.toBitVec_or, BitVec.getLsbD_or]
theorem mb_and (x y : Int32) (i : Nat) : mb_t (x &&& y) i = (mb_t x i && mb_t y i) := by unfold mb_t; rw [Int32.toBitVec_and, BitVec.getLsbD_and]
theorem mb_xor (x y : Int32) (i : Nat) : mb_t (x ^^^ y) i = (mb_t x i ^^ mb_t y i) := by unfold mb_t; rw [Int32.toBitVec_xor, BitVec.getLsbD_xor]
theorem mb_big {x : Int32} {i : Nat} (h : 32 ≤ i) : mb_t x i = false := BitVec.getLsbD_of_ge _ _ h
theorem mb_m1 : ∀ i, i < 32 → mb_t (-1) i = true := by decide +kernel
theorem mb_0 (i : Nat) : mb_t 0 i = false := BitVec.getLsbD_zero
theorem mb_sl : ∀ n, n < 32 → ((nI n &&& 31).toBitVec.smod 32).toNat = n := by decide +kernel
theorem mb_shl (n : Nat) (hn : n < 32) (x : Int32) {i : Nat} (hi : i < 32) : mb_t (x <<< (nI n &&& 31)) i = (decide (n ≤ i) && mb_t x (i - n)) := by
  unfold mb_t
  rw [Int32.toBitVec_shiftLeft]
  show (x.toBitVec <<< ((nI n &&& 31).toBitVec.smod 32).toNat).getLsbD i = _
  rw [mb_sl n hn, BitVec.getLsbD_shiftLeft]
  rcases Nat.lt_or_ge i n with h | h
  · simp [h, Nat.not_le.mpr h]
  · simp [hi, h, Nat.not_lt.mpr h]
theorem mb_sshr (n : Nat) (hn : n < 32) (x : Int32) {i : Nat} (hi : i < 32) : mb_t (x >>> (nI n &&& 31)) i = if n + i < 32 then mb_t x (n + i) else mb_t x 31 := by
  unfold mb_t
  rw [Int32.toBitVec_shiftRight]
  show (x.toBitVec.sshiftRight ((nI n &&& 31).toBitVec.smod 32).toNat).getLsbD i = _
  rw [mb_sl n hn, BitVec.getLsbD_sshiftRight, BitVec.msb_eq_getLsbD_last]
  simp [hi]
/-- the mask of one vertex -/
def mb_bit (v : Nat) : Int32 := (1 : Int32) <<< (nI v &&& 31)
theorem mb_tb0 : ∀ v, v < 32 → ∀ i, i < 32 → mb_t (mb_bit v) i = decide (i = v) := by decide +kernel
theorem mb_tb {v : Nat} (hv : v < 32) (i : Nat) : mb_t (mb_bit v) i = decide (i = v) := by
  rcases Nat.lt_or_ge i 32 with h | h
  · exact mb_tb0 v hv i h
  · rw [mb_big h, decide_eq_false (by omega)]
theorem mb_1 (i : Nat) : mb_t 1 i = decide (i = 0) := mb_tb (v := 0) (by omega) i
theorem mb_not (x : Int32) {i : Nat} (hi : i < 32) : mb_t (x ^^^ (-1)) i = !mb_t x i := by
  rw [mb_xor, mb_m1 i hi]
  cases mb_t x i <;> rfl
/-- a mask against one bit -/
theorem mb_ab {x : Int32} {v : Nat} (hv : v < 32) : x &&& mb_bit v = 0 ↔ mb_t x v = false := by
  constructor
  · intro h
    have e := congrArg (fun y => mb_t y v) h
    simp only [mb_and, mb_tb hv, mb_0] at e
    simpa using e
  · intro h
    apply mb_ext
    intro i hi
    rw [mb_and, mb_tb hv, mb_0]
    by_cases e : i = v
    · rw [e, h]; rfl
    · rw [decide_eq_false e, Bool.and_false]
theorem mb_nab {x : Int32} {v : Nat} (hv : v < 32) : ¬ x &&& mb_bit v = 0 ↔ mb_t x v = true := by
  rw [mb_ab hv]
  cases mb_t x v <;> simp
/-- a mask without one bit -/
theorem mb_clr (x : Int32) {v i : Nat} (hv : v < 32) (hi : i < 32) : mb_t (x &&& (mb_bit v ^^^ (-1))) i = (mb_t x i && !decide (i = v)) := by
  rw [mb_and, mb_not _ hi, mb_tb hv]
theorem mb_dif (x y : Int32) {i : Nat} (hi : i < 32) : mb_t (x &&& (y ^^^ (-1))) i = (mb_t x i && !mb_t y i) := by
  rw [mb_and, mb_not _ hi]
/-- the shifted bit that the loops test -/
theorem mb_sh {x : Int32} {v : Nat} (hv : v < 31) : (x >>> (nI v &&& 31)) &&& 1 = if mb_t x v then 1 else 0 := by
  apply mb_ext
  intro i hi
  rw [mb_and, mb_sshr v (by omega) x hi, mb_1]
  by_cases e : i = 0
  · subst e
    rw [if_pos (by omega), Nat.add_zero, decide_eq_true rfl, Bool.and_true]
    cases mb_t x v
    · exact (mb_0 0).symm
    · exact (mb_1 0).symm
  · rw [decide_eq_false e, Bool.and_false]
    cases mb_t x v
    · exact (mb_0 i).symm
    · show false = mb_t 1 i
      rw [mb_1, decide_eq_false e]
theorem mb_sh1 {x : Int32} {v : Nat} (hv : v < 31) : (x >>> (nI v &&& 31)) &&& 1 = 1 ↔ mb_t x v = true := by
  rw [mb_sh hv]
  cases mb_t x v <;> decide
theorem mb_shN {x : Int32} {v : Nat} (hv : v < 31) : (x >>> (nI v &&& 31)) &&& 1 = nI (if mb_t x v then 1 else 0) := by
  rw [mb_sh hv]
  cases mb_t x v <;> rfl
/-- a natural number's bits -/
theorem mb_nI (n : Nat) {i : Nat} (hi : i < 32) : mb_t (nI n) i = n.testBit i := by
  unfold mb_t
  show (BitVec.ofNat 32 n).getLsbD i = _
  rw [BitVec.getLsbD_ofNat, decide_eq_true hi, Bool.true_and]
theorem mb_bitN : ∀ v, v < 31 → mb_bit v = nI (2 ^ v) := by decide +kernel
theorem mb_full : ∀ n, n < 13 → ((1 : Int32) <<< (nI n &&& 31)) - 1 = nI (2 ^ n - 1) := by decide +kernel
def mb_fu (n : Nat) : Int32 := ((1 : Int32) <<< (nI n &&& 31)) - 1
theorem mb_tfu {n : Nat} (hn : n < 13) {i : Nat} (hi : i < 32) : mb_t (mb_fu n) i = decide (i < n) := by
  unfold mb_fu
  rw [mb_full n hn, mb_nI _ hi, Nat.testBit_two_pow_sub_one]
theorem mb_orN (a b : Nat) : nI a ||| nI b = nI (a ||| b) := by
  apply Int32.toBitVec_inj.1
  show BitVec.ofNat 32 a ||| BitVec.ofNat 32 b = BitVec.ofNat 32 (a ||| b)
  apply BitVec.eq_of_getLsbD_eq
  intro i hi
  simp [hi]
/-- one more vertex in a set of lower ones -/
theorem mb_tk {t v : Nat} (hv : v < 31) (ht : t < 2 ^ v) : nI t ||| mb_bit v = nI (t + 2 ^ v) := by
  rw [mb_bitN v hv, mb_orN]
  have e := Nat.two_pow_add_eq_or_of_lt ht 1
  rw [Nat.mul_one] at e
  rw [Nat.or_comm, ← e, Nat.add_comm]
/-! stores and loads -/
theorem mb_stx {f : Nat → Int32} {P : (Nat → Int32) → Prop} {i x x' : Int32} {N : Nat} (k : Nat) (hk : k < N) (e : x = x') (h : P (upd f k x')) (hi : i = nI k := by rfl) (hN : N < 2 ^ 31 := by omega) : vp_in i N ∧ ∀ y, y = upd f i.toNatClampNeg x → P y := by
  subst hi
  subst e
  refine ⟨vp_in_nI hk hN, fun y hy => ?_⟩
  rw [hy, nI_clamp (Nat.lt_trans hk hN)]
  exact h
theorem mb_st {f : Nat → Int32} {P : (Nat → Int32) → Prop} {i x : Int32} {N : Nat} (k : Nat) (hk : k < N) (h : P (upd f k x)) (hi : i = nI k := by rfl) (hN : N < 2 ^ 31 := by omega) : vp_in i N ∧ ∀ y, y = upd f i.toNatClampNeg x → P y :=
  mb_stx k hk rfl h hi hN
theorem mb_ld {f : Nat → Int32} {P : Int32 → Prop} {i : Int32} {N : Nat} (k : Nat) (hk : k < N) (h : P (f k)) (hi : i = nI k := by rfl) (hN : N < 2 ^ 31 := by omega) : vp_in i N ∧ ∀ y, y = f i.toNatClampNeg → P y := by
  subst hi
  refine ⟨vp_in_nI hk hN, fun y hy => ?_⟩
  rw [hy, nI_clamp (Nat.lt_trans hk hN)]
  exact h
theorem mb_cl {k : Nat} (f : Nat → Int32) (hk : k < 2 ^ 31 := by omega) : f (nI k).toNatClampNeg = f k := by rw [nI_clamp hk]
theorem mb_m1T : (-1 : Int32).toInt = -1 := by decide
theorem mb_leT {x y : Int32} : x ≤ y ↔ x.toInt ≤ y.toInt := Int32.le_iff_toInt_le
theorem mb_ltT {x y : Int32} : x < y ↔ x.toInt < y.toInt := Int32.lt_iff_toInt_lt
/-- sums below a bound -/
def mb_sum (f : Nat → Nat) : Nat → Nat
  | 0 => 0
  | n + 1 => mb_sum f n + f n
theorem mb_sum_congr {f h : Nat → Nat} : ∀ n, (∀ i, i < n → f i = h i) → mb_sum f n = mb_sum h n
  | 0 => fun _ => rfl
  | n + 1 => fun e => by
    show mb_sum f n + f n = mb_sum h n + h n
    rw [mb_sum_congr n (fun i hi => e i (by omega)), e n (by omega)]
/-- a sum whose function changes in one place -/
theorem mb_sum_one {f h : Nat → Nat} {k : Nat} : ∀ n, k < n → (∀ i, i < n → i ≠ k → f i = h i) → mb_sum f n + h k = mb_sum h n + f k
  | 0 => fun z _ => absurd z (by omega)
  | n + 1 => fun hk e => by
    show mb_sum f n + f n + h k = mb_sum h n + h n + f k
    by_cases c : k = n
    · subst c
      rw [mb_sum_congr k (fun i hi => e i (by omega) (by omega))]
      omega
    · have i1 := mb_sum_one (f := f) (h := h) (k := k) n (by omega) (fun i hi hne => e i (by omega) hne)
      have i2 := e n (by omega) (fun z => c z.symm)
      omega
theorem mb_sum_le {f h : Nat → Nat} : ∀ n, (∀ i, i < n → f i ≤ h i) → mb_sum f n ≤ mb_sum h n
  | 0 => fun _ => Nat.le_refl 0
  | n + 1 => fun e => Nat.add_le_add (mb_sum_le n (fun i hi => e i (by omega))) (e n (by omega))
theorem mb_sum_ge {f : Nat → Nat} {k : Nat} : ∀ n, k < n → f k ≤ mb_sum f n
  | 0 => fun z => absurd z (by omega)
  | n + 1 => fun hk => by
    show f k ≤ mb_sum f n + f n
    by_cases c : k = n
    · subst c; omega
    · have := mb_sum_ge (f := f) (k := k) n (by omega)
      omega
end
section
/-! what can still be gained: the pure picture -/
/-- x can be gained on the last k vertices, with those of o open -/
def mb_C (a1 : Nat → Int32) (mi mo : Int32) (g : Nat → Nat) (n : Nat) : Nat → Int32 → Nat → Prop
  | 0 => fun _ x => x = 0
  | k + 1 => fun o x => (mi &&& mb_bit (n - (k + 1)) = 0 ∧ mb_C a1 mi mo g n k (o &&& (mb_bit (n - (k + 1)) ^^^ (-1))) x) ∨
      (¬ o &&& mb_bit (n - (k + 1)) = 0 ∧ mo &&& mb_bit (n - (k + 1)) = 0 ∧ ∃ y, x = g (n - (k + 1)) + y ∧ mb_C a1 mi mo g n k ((o &&& (mb_bit (n - (k + 1)) ^^^ (-1))) &&& (a1 (n - (k + 1)) ^^^ (-1))) y)
/-- the same from level v on -/
def mb_D (a1 : Nat → Int32) (mi mo : Int32) (g : Nat → Nat) (n v : Nat) (o : Int32) (x : Nat) : Prop := mb_C a1 mi mo g n (n - v) o x
theorem mb_D_iff {a1 : Nat → Int32} {mi mo : Int32} {g : Nat → Nat} {n v : Nat} {o : Int32} {x : Nat} (hv : v < n) : mb_D a1 mi mo g n v o x ↔ ((mi &&& mb_bit v = 0 ∧ mb_D a1 mi mo g n (v + 1) (o &&& (mb_bit v ^^^ (-1))) x) ∨ (¬ o &&& mb_bit v = 0 ∧ mo &&& mb_bit v = 0 ∧ ∃ y, x = g v + y ∧ mb_D a1 mi mo g n (v + 1) ((o &&& (mb_bit v ^^^ (-1))) &&& (a1 v ^^^ (-1))) y)) := by
  obtain ⟨k, hk⟩ : ∃ k, n - v = k + 1 := ⟨n - v - 1, by omega⟩
  have e1 : n - (v + 1) = k := by omega
  have e2 : n - (k + 1) = v := by omega
  unfold mb_D
  rw [hk, e1, mb_C, e2]
theorem mb_D_end {a1 : Nat → Int32} {mi mo : Int32} {g : Nat → Nat} {n : Nat} {o : Int32} {x : Nat} : mb_D a1 mi mo g n n o x ↔ x = 0 := by
  unfold mb_D
  rw [Nat.sub_self]
  exact Iff.rfl
theorem mb_down {Q : Nat → Prop} {n : Nat} (h0 : Q n) (hs : ∀ v, v < n → Q (v + 1) → Q v) : ∀ v, v ≤ n → Q v := by
  have key : ∀ d v, v + d = n → Q v := by
    intro d
    induction d with
    | zero => intro v hv; have : v = n := by omega
              rw [this]; exact h0
    | succ d ih => intro v hv; exact hs v (by omega) (ih (v + 1) (by omega))
  intro v hv
  exact key (n - v) v (by omega)
/-- more open vertices, no less to gain -/
theorem mb_D_mono {a1 : Nat → Int32} {mi mo : Int32} {g : Nat → Nat} {n : Nat} (hn : n ≤ 12) : ∀ v, v ≤ n → ∀ (o o' : Int32) (x : Nat), (∀ i, mb_t o i = true → mb_t o' i = true) → mb_D a1 mi mo g n v o x → mb_D a1 mi mo g n v o' x := by
  apply mb_down
  · intro o o' x _ h
    exact mb_D_end.mpr (mb_D_end.mp h)
  · intro v hv ih o o' x hs h
    have sub : ∀ m : Int32, ∀ i, mb_t (o &&& m) i = true → mb_t (o' &&& m) i = true := by
      intro m i hi
      rw [mb_and] at hi ⊢
      have h2 : mb_t o i = true ∧ mb_t m i = true := by simpa using hi
      rw [hs i h2.1, h2.2]; rfl
    have sub2 : ∀ m p : Int32, ∀ i, mb_t ((o &&& m) &&& p) i = true → mb_t ((o' &&& m) &&& p) i = true := by
      intro m p i hi
      rw [mb_and] at hi ⊢
      have h2 : mb_t (o &&& m) i = true ∧ mb_t p i = true := by simpa using hi
      rw [sub m i h2.1, h2.2]; rfl
    rcases (mb_D_iff hv).mp h with ⟨h1, h2⟩ | ⟨h1, h2, y, h3, h4⟩
    · exact (mb_D_iff hv).mpr (Or.inl ⟨h1, ih _ _ _ (sub _) h2⟩)
    · exact (mb_D_iff hv).mpr (Or.inr ⟨(mb_nab (by omega)).mpr (hs v ((mb_nab (by omega)).mp h1)), h2, y, h3, ih _ _ _ (sub2 _ _) h4⟩)
/-- a node: what it is worth, its set, and that whatever it can still gain is R -/
def mb_N (a1 : Nat → Int32) (mi mo : Int32) (g : Nat → Nat) (n : Nat) (R : Nat → Prop) (v : Nat) (a b d : Int32) (X : Nat) : Prop :=
  b = nI X ∧ X ≤ 131072 * v ∧ d = nI (X % 4096) ∧ X % 4096 < 2 ^ v ∧ ∀ x, mb_D a1 mi mo g n v a x → R (X + x)
/-- a layer of m nodes -/
def mb_S (a1 : Nat → Int32) (mi mo : Int32) (g : Nat → Nat) (n : Nat) (R : Nat → Prop) (v m : Nat) (A B D : Nat → Int32) : Prop :=
  ∀ i, i < m → ∃ X, mb_N a1 mi mo g n R v (A i) (B i) (D i) X
/-- a layer from which at least q can be had -/
def mb_P (a1 : Nat → Int32) (mi mo : Int32) (g : Nat → Nat) (n v m : Nat) (A B : Nat → Int32) (q : Nat) : Prop :=
  ∃ i, i < m ∧ ∃ X x, B i = nI X ∧ X ≤ 131072 * v ∧ mb_D a1 mi mo g n v (A i) x ∧ q ≤ X + x
section
variable {a1 : Nat → Int32} {mi mo : Int32} {g : Nat → Nat} {n v m : Nat} {R : Nat → Prop} {A B D A' B' D' : Nat → Int32}
theorem mb_S_congr (h : mb_S a1 mi mo g n R v m A B D) (e : ∀ i, i < m → A' i = A i ∧ B' i = B i ∧ D' i = D i) : mb_S a1 mi mo g n R v m A' B' D' := by
  intro i hi
  obtain ⟨e1, e2, e3⟩ := e i hi
  rw [e1, e2, e3]
  exact h i hi
theorem mb_P_congr {q : Nat} (h : mb_P a1 mi mo g n v m A B q) (e : ∀ i, i < m → A' i = A i ∧ B' i = B i) : mb_P a1 mi mo g n v m A' B' q := by
  obtain ⟨i, hi, X, x, h1, h2, h3, h4⟩ := h
  obtain ⟨e1, e2⟩ := e i hi
  exact ⟨i, hi, X, x, by rw [e2]; exact h1, h2, by rw [e1]; exact h3, h4⟩
theorem mb_S_weak {R' : Nat → Prop} (h : mb_S a1 mi mo g n R v m A B D) (hr : ∀ x, R x → R' x) : mb_S a1 mi mo g n R' v m A B D := by
  intro i hi
  obtain ⟨X, h1, h2, h3, h4, h5⟩ := h i hi
  exact ⟨X, h1, h2, h3, h4, fun x hx => hr _ (h5 x hx)⟩
theorem mb_S_le {m' : Nat} (h : mb_S a1 mi mo g n R v m A B D) (hm : m' ≤ m) : mb_S a1 mi mo g n R v m' A B D :=
  fun i hi => h i (by omega)
/-- the three ways of 'reach' -/
theorem mb_in1 {o : Int32} {X x k q : Nat} (hv : v ≤ 12) (hS : mb_S a1 mi mo g n R v m A B D) (hk : k < m) (ha : A k = o) (hle : nI X ≤ B k) (hX : X ≤ 131072 * v) (hx : mb_D a1 mi mo g n v o x) (hq : q ≤ X + x) : mb_P a1 mi mo g n v m A B q := by
  obtain ⟨X', e, hb, _⟩ := hS k hk
  rw [e] at hle
  have h := (nI_leI (by omega) (by omega)).mp hle
  exact ⟨k, hk, X', x, e, hb, by rw [ha]; exact hx, by omega⟩
theorem mb_in2S {o : Int32} {X k : Nat} (hS : mb_S a1 mi mo g n R v m A B D) (ha : A k = o) (hX : X ≤ 131072 * v) (hT : X % 4096 < 2 ^ v) (hR : ∀ x, mb_D a1 mi mo g n v o x → R (X + x)) : mb_S a1 mi mo g n R v m A (upd B k (nI X)) (upd D k (nI (X % 4096))) := by
  intro i hi
  by_cases e : i = k
  · rw [e, pk_us, pk_us, ha]
    exact ⟨X, rfl, hX, rfl, hT, hR⟩
  · rw [pk_un e, pk_un e]
    exact hS i hi
theorem mb_in2P {X k q : Nat} (hv : v ≤ 12) (hle : ¬ nI X ≤ B k) (hX : X ≤ 131072 * v) (h : mb_P a1 mi mo g n v m A B q) : mb_P a1 mi mo g n v m A (upd B k (nI X)) q := by
  obtain ⟨i, hi, X', x, h1, h2, h3, h4⟩ := h
  by_cases e : i = k
  · rw [← e, h1, nI_leI (by omega) (by omega)] at hle
    exact ⟨i, hi, X, x, by rw [e, pk_us], hX, h3, by omega⟩
  · exact ⟨i, hi, X', x, by rw [pk_un e]; exact h1, h2, h3, h4⟩
theorem mb_in2N {o : Int32} {X x k q : Nat} (hk : k < m) (ha : A k = o) (hX : X ≤ 131072 * v) (hx : mb_D a1 mi mo g n v o x) (hq : q ≤ X + x) : mb_P a1 mi mo g n v m A (upd B k (nI X)) q :=
  ⟨k, hk, X, x, pk_us, hX, by rw [ha]; exact hx, hq⟩
theorem mb_in3S {o : Int32} {X : Nat} (hS : mb_S a1 mi mo g n R v m A B D) (hX : X ≤ 131072 * v) (hT : X % 4096 < 2 ^ v) (hR : ∀ x, mb_D a1 mi mo g n v o x → R (X + x)) : mb_S a1 mi mo g n R v (m + 1) (upd A m o) (upd B m (nI X)) (upd D m (nI (X % 4096))) := by
  intro i hi
  by_cases e : i = m
  · rw [e, pk_us, pk_us, pk_us]
    exact ⟨X, rfl, hX, rfl, hT, hR⟩
  · rw [pk_un e, pk_un e, pk_un e]
    exact hS i (by omega)
theorem mb_in3P {o b : Int32} {q : Nat} (h : mb_P a1 mi mo g n v m A B q) : mb_P a1 mi mo g n v (m + 1) (upd A m o) (upd B m b) q := by
  obtain ⟨i, hi, X', x, h1, h2, h3, h4⟩ := h
  have e : i ≠ m := by omega
  exact ⟨i, by omega, X', x, by rw [pk_un e]; exact h1, h2, by rw [pk_un e]; exact h3, h4⟩
theorem mb_in3N {o : Int32} {X x q : Nat} (hX : X ≤ 131072 * v) (hx : mb_D a1 mi mo g n v o x) (hq : q ≤ X + x) : mb_P a1 mi mo g n v (m + 1) (upd A m o) (upd B m (nI X)) q :=
  ⟨m, by omega, X, x, pk_us, hX, by rw [pk_us]; exact hx, hq⟩
/-- a node's two children -/
theorem mb_ch0 {a b d : Int32} {X : Nat} (hv : v < n) (h : mb_N a1 mi mo g n R v a b d X) (hm : mi &&& mb_bit v = 0) : X ≤ 131072 * (v + 1) ∧ X % 4096 < 2 ^ (v + 1) ∧ ∀ x, mb_D a1 mi mo g n (v + 1) (a &&& (mb_bit v ^^^ (-1))) x → R (X + x) := by
  obtain ⟨_, h2, _, h4, h5⟩ := h
  refine ⟨by omega, ?_, fun x hx => h5 x ((mb_D_iff hv).mpr (Or.inl ⟨hm, hx⟩))⟩
  have := Nat.pow_succ (n := 2) (m := v)
  omega
theorem mb_mod {X v y : Nat} (hv : v < 12) (h : X % 4096 < 2 ^ v) (hy : y % 4096 = 2 ^ v) : (X + y) % 4096 = X % 4096 + 2 ^ v ∧ X % 4096 + 2 ^ v < 2 ^ (v + 1) := by
  have h1 := Nat.pow_succ (n := 2) (m := v)
  have h2 : 2 ^ (v + 1) ≤ 2 ^ 12 := Nat.pow_le_pow_right (by omega) (by omega)
  rw [h1] at h2
  rw [h1]
  generalize 2 ^ v = p at *
  omega
theorem mb_ch1 {a b d : Int32} {X : Nat} (hv : v < n) (hn : n ≤ 12) (h : mb_N a1 mi mo g n R v a b d X) (hg : g v ≤ 131072) (hg2 : g v % 4096 = 2 ^ v) (ho : ¬ a &&& mb_bit v = 0) (hm : mo &&& mb_bit v = 0) :
    b + nI (g v) = nI (X + g v) ∧ d ||| mb_bit v = nI ((X + g v) % 4096) ∧ X + g v ≤ 131072 * (v + 1) ∧ (X + g v) % 4096 < 2 ^ (v + 1) ∧ ∀ x, mb_D a1 mi mo g n (v + 1) ((a &&& (mb_bit v ^^^ (-1))) &&& (a1 v ^^^ (-1))) x → R (X + g v + x) := by
  obtain ⟨h1, h2, h3, h4, h5⟩ := h
  obtain ⟨e1, e2⟩ := mb_mod (by omega) h4 hg2
  refine ⟨by rw [h1, nI_add], ?_, by omega, by omega, fun x hx => ?_⟩
  · rw [h3, mb_tk (by omega) h4, e1]
  · have := h5 (g v + x) ((mb_D_iff hv).mpr (Or.inr ⟨ho, hm, x, rfl, hx⟩))
    rw [Nat.add_assoc]
    exact this
/-! putting a layer into order -/
def mb_M (m : Nat) (A B D A' B' D' : Nat → Int32) : Prop :=
  (∀ i, i < m → ∃ j, j < m ∧ A' i = A j ∧ B' i = B j ∧ D' i = D j) ∧ (∀ j, j < m → ∃ i, i < m ∧ A' i = A j ∧ B' i = B j ∧ D' i = D j)
theorem mb_M_refl : mb_M m A B D A B D := ⟨fun i hi => ⟨i, hi, rfl, rfl, rfl⟩, fun i hi => ⟨i, hi, rfl, rfl, rfl⟩⟩
theorem mb_M_trans {A2 B2 D2 : Nat → Int32} (h : mb_M m A B D A' B' D') (h' : mb_M m A' B' D' A2 B2 D2) : mb_M m A B D A2 B2 D2 := by
  refine ⟨fun i hi => ?_, fun j hj => ?_⟩
  · obtain ⟨j, hj, e1, e2, e3⟩ := h'.1 i hi
    obtain ⟨k, hk, f1, f2, f3⟩ := h.1 j hj
    exact ⟨k, hk, e1.trans f1, e2.trans f2, e3.trans f3⟩
  · obtain ⟨k, hk, f1, f2, f3⟩ := h.2 j hj
    obtain ⟨i, hi, e1, e2, e3⟩ := h'.2 k hk
    exact ⟨i, hi, e1.trans f1, e2.trans f2, e3.trans f3⟩
theorem mb_M_S (h : mb_M m A B D A' B' D') (hS : mb_S a1 mi mo g n R v m A B D) : mb_S a1 mi mo g n R v m A' B' D' := by
  intro i hi
  obtain ⟨j, hj, e1, e2, e3⟩ := h.1 i hi
  rw [e1, e2, e3]
  exact hS j hj
theorem mb_M_P {q : Nat} (h : mb_M m A B D A' B' D') (hP : mb_P a1 mi mo g n v m A B q) : mb_P a1 mi mo g n v m A' B' q := by
  obtain ⟨j, hj, X, x, h1, h2, h3, h4⟩ := hP
  obtain ⟨i, hi, e1, e2, e3⟩ := h.2 j hj
  exact ⟨i, hi, X, x, by rw [e2]; exact h1, h2, by rw [e1]; exact h3, h4⟩
end
/-- the places from p on pushed up by one, as far as i -/
def mb_pu (p i : Nat) (f : Nat → Int32) : Nat → Int32 := fun j => if j ≤ p then f j else if j ≤ i then f (j - 1) else f j
theorem mb_pu_0 (i : Nat) (f : Nat → Int32) : mb_pu i i f = f := by
  funext j
  unfold mb_pu
  by_cases h : j ≤ i
  · rw [if_pos h]
  · rw [if_neg h, if_neg h]
theorem mb_pu_s {p i : Nat} (hp : p < i) (f : Nat → Int32) : upd (mb_pu (p + 1) i f) (p + 1) (mb_pu (p + 1) i f p) = mb_pu p i f := by
  funext j
  by_cases e : j = p + 1
  · rw [e, pk_us]
    unfold mb_pu
    rw [if_pos (by omega), if_neg (by omega), if_pos (by omega), Nat.add_sub_cancel]
  · rw [pk_un e]
    unfold mb_pu
    by_cases h : j ≤ p
    · rw [if_pos h, if_pos (by omega)]
    · rw [if_neg h, if_neg (by omega)]
/-- where a place's content came from -/
def mb_ix (p i j : Nat) : Nat := if j = p then i else if j ≤ p then j else if j ≤ i then j - 1 else j
theorem mb_ix_v (p i : Nat) (f : Nat → Int32) (j : Nat) : upd (mb_pu p i f) p (f i) j = f (mb_ix p i j) := by
  by_cases e : j = p
  · rw [e, pk_us]
    unfold mb_ix
    rw [if_pos rfl]
  · rw [pk_un e]
    unfold mb_ix mb_pu
    rw [if_neg e]
    by_cases h : j ≤ p
    · rw [if_pos h, if_pos h]
    · rw [if_neg h, if_neg h]
      by_cases h2 : j ≤ i
      · rw [if_pos h2, if_pos h2]
      · rw [if_neg h2, if_neg h2]
theorem mb_ix_lt {p i j m : Nat} (hp : p ≤ i) (hi : i < m) (hj : j < m) : mb_ix p i j < m := by
  unfold mb_ix
  split
  · exact hi
  · split
    · exact hj
    · split
      · omega
      · exact hj
theorem mb_ix_on {p i m : Nat} (hp : p ≤ i) (hi : i < m) (k : Nat) (hk : k < m) : ∃ j, j < m ∧ mb_ix p i j = k := by
  by_cases h1 : k < p
  · refine ⟨k, hk, ?_⟩
    unfold mb_ix
    rw [if_neg (by omega), if_pos (by omega)]
  · by_cases h2 : k < i
    · refine ⟨k + 1, by omega, ?_⟩
      unfold mb_ix
      rw [if_neg (by omega), if_neg (by omega), if_pos (by omega), Nat.add_sub_cancel]
    · by_cases h3 : k = i
      · refine ⟨p, by omega, ?_⟩
        unfold mb_ix
        rw [if_pos rfl, h3]
      · refine ⟨k, hk, ?_⟩
        unfold mb_ix
        rw [if_neg (by omega), if_neg (by omega), if_neg (by omega)]
theorem mb_ix_M {p i m : Nat} (hp : p ≤ i) (hi : i < m) (A B D : Nat → Int32) : mb_M m A B D (upd (mb_pu p i A) p (A i)) (upd (mb_pu p i B) p (B i)) (upd (mb_pu p i D) p (D i)) := by
  refine ⟨fun j hj => ⟨mb_ix p i j, mb_ix_lt hp hi hj, mb_ix_v p i A j, mb_ix_v p i B j, mb_ix_v p i D j⟩, fun k hk => ?_⟩
  obtain ⟨j, hj, e⟩ := mb_ix_on hp hi k hk
  exact ⟨j, hj, by rw [mb_ix_v, e], by rw [mb_ix_v, e], by rw [mb_ix_v, e]⟩
/-- the first i places fall -/
def mb_So (i : Nat) (B : Nat → Int32) : Prop := ∀ a b, a ≤ b → b < i → (B b).toInt ≤ (B a).toInt
theorem mb_ix_So {p i : Nat} {B : Nat → Int32} (hp : p ≤ i) (h : mb_So i B) (h1 : ∀ j, p ≤ j → j < i → (B j).toInt < (B i).toInt) (h2 : 0 < p → (B i).toInt ≤ (B (p - 1)).toInt) : mb_So (i + 1) (upd (mb_pu p i B) p (B i)) := by
  intro a b hab hb
  rw [mb_ix_v, mb_ix_v]
  unfold mb_ix
  by_cases ea : a = p
  · rw [if_pos ea]
    by_cases eb : b = p
    · rw [if_pos eb]; omega
    · rw [if_neg eb, if_neg (by omega), if_pos (by omega)]
      have := h1 (b - 1) (by omega) (by omega)
      omega
  · rw [if_neg ea]
    by_cases la : a ≤ p
    · rw [if_pos la]
      by_cases eb : b = p
      · rw [if_pos eb]
        have k1 := h2 (by omega)
        have k2 := h a (p - 1) (by omega) (by omega)
        omega
      · rw [if_neg eb]
        by_cases lb : b ≤ p
        · rw [if_pos lb]
          exact h a b hab (by omega)
        · rw [if_neg lb, if_pos (by omega)]
          exact h a (b - 1) (by omega) (by omega)
    · rw [if_neg la, if_neg (show ¬ b = p by omega), if_neg (show ¬ b ≤ p by omega), if_pos (show b ≤ i by omega), if_pos (show a ≤ i by omega)]
      exact h (a - 1) (b - 1) (by omega) (by omega)
/-- the places behind the last kept one become one with it -/
theorem mb_mg {a1 : Nat → Int32} {mi mo : Int32} {g : Nat → Nat} {n v m w q : Nat} {A B A' : Nat → Int32} (hn : n ≤ 12) (hv : v ≤ n) (hw : 0 < w) (hwm : w ≤ m) (hB : ∀ i, i < m → ∃ X, B i = nI X ∧ X ≤ 131072 * v) (hs : mb_So m B) (hA : ∀ j, j + 1 < w → A' j = A j) (hA2 : ∀ j, w ≤ j + 1 → j < m → ∀ i, mb_t (A j) i = true → mb_t (A' (w - 1)) i = true) (h : mb_P a1 mi mo g n v m A B q) : mb_P a1 mi mo g n v w A' B q := by
  obtain ⟨j, hj, X, x, h1, h2, h3, h4⟩ := h
  by_cases c : j + 1 < w
  · exact ⟨j, by omega, X, x, h1, h2, by rw [hA j c]; exact h3, h4⟩
  · obtain ⟨Y, e, hY⟩ := hB (w - 1) (by omega)
    have k := hs (w - 1) j (by omega) hj
    rw [e, h1, nI_toInt (by omega), nI_toInt (by omega)] at k
    exact ⟨w - 1, by omega, Y, x, e, hY, mb_D_mono hn v hv _ _ _ (hA2 j (by omega) hj) h3, by omega⟩
end
section
/-! one layer: the walks of reach, expand, takeLayer, sortLayer, mergeBehind, keepCut -/
section
variable {f_n f_w f_i f_o f_mi f_mo f_sz f_ns f_cl f_cs f_ex f_bv f_bt : Int32} {a1 a2 a3 a4 a5 a6 a7 a8 a9 a10 a11 a12 a13 a14 a15 a16 a17 : Nat → Int32}
theorem mb_reach0 {post : St2 → Prop} {o x t : Int32} {m : Nat} (hm : m < 64)
    (H1 : ∀ k, k < m → a7 k = o → x ≤ a8 k → post (f_n, f_w, f_i, f_o, f_mi, f_mo, f_sz, nI m, f_cl, f_cs, f_ex, f_bv, f_bt, a1, a2, a3, a4, a5, a6, a7, a8, a9, a10, a11, a12, a13, a14, a15, a16, a17))
    (H2 : ∀ k, k < m → a7 k = o → ¬ x ≤ a8 k → post (f_n, f_w, f_i, f_o, f_mi, f_mo, f_sz, nI m, f_cl, f_cs, f_ex, f_bv, f_bt, a1, a2, a3, a4, a5, a6, a7, upd a8 k x, upd a9 k t, a10, a11, a12, a13, a14, a15, a16, a17))
    (H3 : (∀ k, k < m → ¬ a7 k = o) → post (f_n, f_w, f_i, f_o, f_mi, f_mo, f_sz, nI (m + 1), f_cl, f_cs, f_ex, f_bv, f_bt, a1, a2, a3, a4, a5, a6, upd a7 m o, upd a8 m x, upd a9 m t, a10, a11, a12, a13, a14, a15, a16, a17)) :
    wpX_reach post (f_n, f_w, f_i, f_o, f_mi, f_mo, f_sz, nI m, f_cl, f_cs, f_ex, f_bv, f_bt, a1, a2, a3, a4, a5, a6, a7, a8, a9, a10, a11, a12, a13, a14, a15, a16, a17) o x t := by
  refine pk_loop (σ := Unit) (fun n i _ => wX_reach_3 post o x t f_n f_w f_i f_o f_mi f_mo f_sz (nI m) f_cl f_cs f_ex f_bv f_bt a1 a2 a3 a4 a5 a6 a7 a8 a9 a10 a11 a12 a13 a14 a15 a16 a17 n (nI i)) (fun i _ => ∀ k, k < i → ¬ a7 k = o) m 0 () (by omega) (fun k hk => absurd hk (by omega)) ?_ ?_
  · intro n _ h
    exact pk_le m m (fun _ => pk_le 64 m (fun z => absurd z (by omega)) (fun _ => mb_st m hm (mb_st m hm (mb_st m hm (nm_r (nI_1 m) (H3 h)))))) (fun z => absurd z (by omega))
  · intro n i _ hi h hw
    refine pk_le m i (fun z => absurd z (by omega)) (fun _ => ?_)
    rw [nI_clamp (show i < 2 ^ 31 by omega)]
    exact ⟨pk_in i 64 (by omega), br_c (fun g => ⟨pk_in i 64 (by omega), br_c (fun g2 => H1 i hi g g2) (fun g2 => ⟨pk_in i 64 (by omega), nm_e ⟨pk_in i 64 (by omega), nm_e (H2 i hi g g2)⟩⟩)⟩) (fun g => nm_r (nI_1 i) (hw () (lt_s h g)))⟩
theorem mb_reach {post : St2 → Prop} {g : Nat → Nat} {n v m X : Nat} {R : Nat → Prop} {o mi mo : Int32} (hv : v ≤ 12) (hm : m < 64) (hS : mb_S a1 mi mo g n R v m a7 a8 a9) (hX : X ≤ 131072 * v) (hT : X % 4096 < 2 ^ v) (hR : ∀ x, mb_D a1 mi mo g n v o x → R (X + x))
    (H : ∀ (m' : Nat) (b7 b8 b9 : Nat → Int32), m ≤ m' → m' ≤ m + 1 → mb_S a1 mi mo g n R v m' b7 b8 b9 → (∀ q, mb_P a1 mi mo g n v m a7 a8 q → mb_P a1 mi mo g n v m' b7 b8 q) → (∀ x q, mb_D a1 mi mo g n v o x → q ≤ X + x → mb_P a1 mi mo g n v m' b7 b8 q) → post (f_n, f_w, f_i, f_o, f_mi, f_mo, f_sz, nI m', f_cl, f_cs, f_ex, f_bv, f_bt, a1, a2, a3, a4, a5, a6, b7, b8, b9, a10, a11, a12, a13, a14, a15, a16, a17)) :
    wpX_reach post (f_n, f_w, f_i, f_o, f_mi, f_mo, f_sz, nI m, f_cl, f_cs, f_ex, f_bv, f_bt, a1, a2, a3, a4, a5, a6, a7, a8, a9, a10, a11, a12, a13, a14, a15, a16, a17) o (nI X) (nI (X % 4096)) :=
  mb_reach0 hm
    (fun k hk e h => H m a7 a8 a9 (by omega) (by omega) hS (fun _ h => h) (fun x q hx hq => mb_in1 hv hS hk e h hX hx hq))
    (fun k hk e h => H m a7 _ _ (by omega) (by omega) (mb_in2S hS e hX hT hR) (fun q hq => mb_in2P hv h hX hq) (fun x q hx hq => mb_in2N hk e hX hx hq))
    (fun h => H (m + 1) _ _ _ (by omega) (by omega) (mb_in3S hS hX hT hR) (fun q hq => mb_in3P hq) (fun x q hx hq => mb_in3N hX hx hq))
theorem mb_expand39 {post : St2 → Prop} {g : Nat → Nat} {n v m X i : Nat} {R : Nat → Prop} (hv : v < n) (hn : n ≤ 12) (hi : i < 64) (hm : m < 64) (hN : mb_N a1 f_mi f_mo g n R v (a4 i) (a5 i) (a6 i) X) (hg : a3 v = nI (g v)) (hg1 : g v ≤ 131072) (hg2 : g v % 4096 = 2 ^ v) (hS : mb_S a1 f_mi f_mo g n R (v + 1) m a7 a8 a9)
    (H : ∀ (m' : Nat) (b7 b8 b9 : Nat → Int32), m ≤ m' → m' ≤ m + 1 → mb_S a1 f_mi f_mo g n R (v + 1) m' b7 b8 b9 → (∀ q, mb_P a1 f_mi f_mo g n (v + 1) m a7 a8 q → mb_P a1 f_mi f_mo g n (v + 1) m' b7 b8 q) → (¬ a4 i &&& mb_bit v = 0 → f_mo &&& mb_bit v = 0 → ∀ x q, mb_D a1 f_mi f_mo g n (v + 1) ((a4 i &&& (mb_bit v ^^^ (-1))) &&& (a1 v ^^^ (-1))) x → q ≤ X + g v + x → mb_P a1 f_mi f_mo g n (v + 1) m' b7 b8 q) → post (f_n, f_w, f_i, f_o, f_mi, f_mo, f_sz, nI m', f_cl, f_cs, f_ex, f_bv, f_bt, a1, a2, a3, a4, a5, a6, b7, b8, b9, a10, a11, a12, a13, a14, a15, a16, a17)) :
    wX_expand_39 post (nI i) (nI v) (mb_bit v) f_n f_w f_i f_o f_mi f_mo f_sz (nI m) f_cl f_cs f_ex f_bv f_bt a1 a2 a3 a4 a5 a6 a7 a8 a9 a10 a11 a12 a13 a14 a15 a16 a17 := by
  unfold wX_expand_39
  rw [nI_clamp (show i < 2 ^ 31 by omega), nI_clamp (show v < 2 ^ 31 by omega)]
  refine ⟨pk_in i 64 hi, br_c (fun z => H m a7 a8 a9 (by omega) (by omega) hS (fun _ h => h) (fun z' => absurd z z')) (fun z => br_c (fun z2 => ⟨pk_in i 64 hi, pk_in v 12 (by omega), pk_in i 64 hi, pk_in v 12 (by omega), pk_in i 64 hi, ?_⟩) (fun z2 => H m a7 a8 a9 (by omega) (by omega) hS (fun _ h => h) (fun _ z' => absurd z' z2)))⟩
  obtain ⟨e1, e2, e3, e4, e5⟩ := mb_ch1 hv hn hN hg1 hg2 z z2
  rw [hg, e1, e2]
  exact mb_reach (by omega) hm hS e3 e4 e5 (fun m' b7 b8 b9 h1 h2 h3 h4 h5 => H m' b7 b8 b9 h1 h2 h3 h4 (fun _ _ => h5))
theorem mb_expand {post : St2 → Prop} {g : Nat → Nat} {n v m X i : Nat} {R : Nat → Prop} (hv : v < n) (hn : n ≤ 12) (hi : i < 64) (hm : m + 1 < 64) (hN : mb_N a1 f_mi f_mo g n R v (a4 i) (a5 i) (a6 i) X) (hg : a3 v = nI (g v)) (hg1 : g v ≤ 131072) (hg2 : g v % 4096 = 2 ^ v) (hS : mb_S a1 f_mi f_mo g n R (v + 1) m a7 a8 a9)
    (H : ∀ (m' : Nat) (b7 b8 b9 : Nat → Int32), m ≤ m' → m' ≤ m + 2 → mb_S a1 f_mi f_mo g n R (v + 1) m' b7 b8 b9 → (∀ q, mb_P a1 f_mi f_mo g n (v + 1) m a7 a8 q → mb_P a1 f_mi f_mo g n (v + 1) m' b7 b8 q) → (∀ x q, mb_D a1 f_mi f_mo g n v (a4 i) x → q ≤ X + x → mb_P a1 f_mi f_mo g n (v + 1) m' b7 b8 q) → post (f_n, f_w, f_i, f_o, f_mi, f_mo, f_sz, nI m', f_cl, f_cs, f_ex, f_bv, f_bt, a1, a2, a3, a4, a5, a6, b7, b8, b9, a10, a11, a12, a13, a14, a15, a16, a17)) :
    wpX_expand post (f_n, f_w, f_i, f_o, f_mi, f_mo, f_sz, nI m, f_cl, f_cs, f_ex, f_bv, f_bt, a1, a2, a3, a4, a5, a6, a7, a8, a9, a10, a11, a12, a13, a14, a15, a16, a17) (nI i) (nI v) := by
  unfold wpX_expand
  refine nm_r (e' := mb_bit v) rfl ?_
  rw [nI_clamp (show i < 2 ^ 31 by omega)]
  refine br_c (fun z => ⟨pk_in i 64 hi, pk_in i 64 hi, pk_in i 64 hi, ?_⟩) (fun z => ?_)
  · obtain ⟨c1, c2, c3⟩ := mb_ch0 hv hN z
    rw [hN.1, hN.2.2.1]
    refine mb_reach (by omega) (by omega) hS c1 c2 c3 (fun m1 b7 b8 b9 h1 h2 h3 h4 h5 => ?_)
    refine mb_expand39 hv hn hi (by omega) hN hg hg1 hg2 h3 (fun m' d7 d8 d9 k1 k2 k3 k4 k5 => H m' d7 d8 d9 (by omega) (by omega) k3 (fun q hq => k4 q (h4 q hq)) (fun x q hx hq => ?_))
    rcases (mb_D_iff hv).mp hx with ⟨_, hd⟩ | ⟨ho, hmo, y, e, hd⟩
    · exact k4 q (h5 x q hd hq)
    · exact k5 ho hmo y q hd (by omega)
  · refine mb_expand39 hv hn hi (by omega) hN hg hg1 hg2 hS (fun m' d7 d8 d9 k1 k2 k3 k4 k5 => H m' d7 d8 d9 (by omega) (by omega) k3 k4 (fun x q hx hq => ?_))
    rcases (mb_D_iff hv).mp hx with ⟨z', _⟩ | ⟨ho, hmo, y, e, hd⟩
    · exact absurd z' z
    · exact k5 ho hmo y q hd (by omega)
theorem mb_takeLayer {post : St2 → Prop} {m : Nat} (hm : m ≤ 64) (H : ∀ b4 b5 b6 : Nat → Int32, (∀ j, j < m → b4 j = a7 j ∧ b5 j = a8 j ∧ b6 j = a9 j) → post (f_n, f_w, f_i, f_o, f_mi, f_mo, nI m, nI m, f_cl, f_cs, f_ex, f_bv, f_bt, a1, a2, a3, b4, b5, b6, a7, a8, a9, a10, a11, a12, a13, a14, a15, a16, a17)) : wpX_takeLayer post (f_n, f_w, f_i, f_o, f_mi, f_mo, f_sz, nI m, f_cl, f_cs, f_ex, f_bv, f_bt, a1, a2, a3, a4, a5, a6, a7, a8, a9, a10, a11, a12, a13, a14, a15, a16, a17) := by
  refine pk_loop (σ := (Nat → Int32) × (Nat → Int32) × (Nat → Int32)) (fun n i s => wX_takeLayer_10 post f_n f_w f_i f_o f_mi f_mo (nI m) (nI m) f_cl f_cs f_ex f_bv f_bt n (nI i) a1 a2 a3 s.1 s.2.1 s.2.2 a7 a8 a9 a10 a11 a12 a13 a14 a15 a16 a17) (fun i s => ∀ j, j < i → s.1 j = a7 j ∧ s.2.1 j = a8 j ∧ s.2.2 j = a9 j) m 0 (a4, a5, a6) (by omega) (fun j hj => absurd hj (by omega)) ?_ ?_
  · intro n s h
    exact pk_le m m (fun _ => H s.1 s.2.1 s.2.2 h) (fun z => absurd z (by omega))
  · intro n i s hi h hw
    refine pk_le m i (fun z => absurd z (by omega)) (fun _ => ?_)
    refine ⟨pk_in i 64 (by omega), mb_stx i (by omega) (mb_cl a7) ⟨pk_in i 64 (by omega), mb_stx i (by omega) (mb_cl a8) ⟨pk_in i 64 (by omega), mb_stx i (by omega) (mb_cl a9) (nm_r (nI_1 i) (hw (upd s.1 i (a7 i), upd s.2.1 i (a8 i), upd s.2.2 i (a9 i)) ?_))⟩⟩⟩
    intro j hj
    show upd s.1 i (a7 i) j = a7 j ∧ upd s.2.1 i (a8 i) j = a8 j ∧ upd s.2.2 i (a9 i) j = a9 j
    by_cases e : j = i
    · rw [e]; exact ⟨pk_us, pk_us, pk_us⟩
    · rw [pk_un e, pk_un e, pk_un e]; exact h j (by omega)
theorem mb_keepCut {post : St2 → Prop} {m v : Nat} (hm : m ≤ 64) (H : ∀ b10 b11 b12 : Nat → Int32, (∀ j, j < m → b10 j = a4 j ∧ b11 j = a5 j ∧ b12 j = a6 j) → post (f_n, f_w, f_i, f_o, f_mi, f_mo, nI m, f_ns, nI v, nI m, f_ex, f_bv, f_bt, a1, a2, a3, a4, a5, a6, a7, a8, a9, b10, b11, b12, a13, a14, a15, a16, a17)) : wpX_keepCut post (f_n, f_w, f_i, f_o, f_mi, f_mo, nI m, f_ns, f_cl, f_cs, f_ex, f_bv, f_bt, a1, a2, a3, a4, a5, a6, a7, a8, a9, a10, a11, a12, a13, a14, a15, a16, a17) (nI v) := by
  refine pk_loop (σ := (Nat → Int32) × (Nat → Int32) × (Nat → Int32)) (fun n i s => wX_keepCut_15 post f_n f_w f_i f_o f_mi f_mo (nI m) f_ns (nI v) (nI m) f_ex f_bv f_bt n (nI i) a1 a2 a3 a4 a5 a6 a7 a8 a9 s.1 s.2.1 s.2.2 a13 a14 a15 a16 a17) (fun i s => ∀ j, j < i → s.1 j = a4 j ∧ s.2.1 j = a5 j ∧ s.2.2 j = a6 j) m 0 (a10, a11, a12) (by omega) (fun j hj => absurd hj (by omega)) ?_ ?_
  · intro n s h
    exact pk_le m m (fun _ => H s.1 s.2.1 s.2.2 h) (fun z => absurd z (by omega))
  · intro n i s hi h hw
    refine pk_le m i (fun z => absurd z (by omega)) (fun _ => ?_)
    refine ⟨pk_in i 64 (by omega), mb_stx i (by omega) (mb_cl a4) ⟨pk_in i 64 (by omega), mb_stx i (by omega) (mb_cl a5) ⟨pk_in i 64 (by omega), mb_stx i (by omega) (mb_cl a6) (nm_r (nI_1 i) (hw (upd s.1 i (a4 i), upd s.2.1 i (a5 i), upd s.2.2 i (a6 i)) ?_))⟩⟩⟩
    intro j hj
    show upd s.1 i (a4 i) j = a4 j ∧ upd s.2.1 i (a5 i) j = a5 j ∧ upd s.2.2 i (a6 i) j = a6 j
    by_cases e : j = i
    · rw [e]; exact ⟨pk_us, pk_us, pk_us⟩
    · rw [pk_un e, pk_un e, pk_un e]; exact h j (by omega)
theorem mb_sort107 {post : St2 → Prop} {J2 : Int32 → (Nat → Int32) → (Nat → Int32) → (Nat → Int32) → (Nat → Int32) → (Nat → Int32) → (Nat → Int32) → (Nat → Int32) → (Nat → Int32) → (Nat → Int32) → (Nat → Int32) → (Nat → Int32) → (Nat → Int32) → (Nat → Int32) → (Nat → Int32) → (Nat → Int32) → (Nat → Int32) → (Nat → Int32) → Prop} {i p : Nat} {e4 e5 e6 : Int32} (hp : p < 64) (H : J2 (nI (i + 1)) a1 a2 a3 (upd a4 p e4) (upd a5 p e5) (upd a6 p e6) a7 a8 a9 a10 a11 a12 a13 a14 a15 a16 a17) : wX_sortLayer_107 post J2 (nI i) e4 e5 e6 (nI p) f_n f_w f_i f_o f_mi f_mo f_sz f_ns f_cl f_cs f_ex f_bv f_bt a1 a2 a3 a4 a5 a6 a7 a8 a9 a10 a11 a12 a13 a14 a15 a16 a17 :=
  mb_st p hp (mb_st p hp (mb_st p hp (nm_r (nI_1 i) H)))
theorem mb_sort35 {post : St2 → Prop} {J2 : Int32 → (Nat → Int32) → (Nat → Int32) → (Nat → Int32) → (Nat → Int32) → (Nat → Int32) → (Nat → Int32) → (Nat → Int32) → (Nat → Int32) → (Nat → Int32) → (Nat → Int32) → (Nat → Int32) → (Nat → Int32) → (Nat → Int32) → (Nat → Int32) → (Nat → Int32) → (Nat → Int32) → (Nat → Int32) → Prop} {i : Nat} {A B D : Nat → Int32} (hi : i < 64)
    (H : ∀ p, p ≤ i → (∀ j, p ≤ j → j < i → (B j).toInt < (B i).toInt) → (0 < p → (B i).toInt ≤ (B (p - 1)).toInt) → J2 (nI (i + 1)) a1 a2 a3 (upd (mb_pu p i A) p (A i)) (upd (mb_pu p i B) p (B i)) (upd (mb_pu p i D) p (D i)) a7 a8 a9 a10 a11 a12 a13 a14 a15 a16 a17) :
    ∀ p, p ≤ i → (∀ j, p ≤ j → j < i → (B j).toInt < (B i).toInt) → wX_sortLayer_35 post J2 (nI i) (A i) (B i) (D i) f_n f_w f_i f_o f_mi f_mo f_sz f_ns f_cl f_cs f_ex f_bv f_bt (p + 1) (nI p) a1 a2 a3 (mb_pu p i A) (mb_pu p i B) (mb_pu p i D) a7 a8 a9 a10 a11 a12 a13 a14 a15 a16 a17 := by
  intro p
  induction p with
  | zero =>
    intro hp hB
    exact pk_le 0 0 (fun _ => mb_sort107 (by omega) (H 0 hp hB (fun z => absurd z (by omega)))) (fun z => absurd z (by omega))
  | succ p ih =>
    intro hp hB
    refine pk_le (p + 1) 0 (fun z => absurd z (by omega)) (fun _ => ?_)
    rw [nI_pred, nI_clamp (show p < 2 ^ 31 by omega), nI_clamp (show p + 1 < 2 ^ 31 by omega)]
    have ep : mb_pu (p + 1) i B p = B p := by
      unfold mb_pu
      rw [if_pos (by omega)]
    refine ⟨pk_in p 64 (by omega), br_c (fun z => ?_) (fun z => ?_)⟩
    · rw [ep, mb_leT] at z
      exact mb_sort107 (by omega) (H (p + 1) hp hB (fun _ => z))
    · rw [ep, mb_leT] at z
      refine ⟨pk_in p 64 (by omega), pk_in (p + 1) 64 (by omega), nm_r (mb_pu_s (by omega) A) ⟨pk_in p 64 (by omega), pk_in (p + 1) 64 (by omega), nm_r (mb_pu_s (by omega) B) ⟨pk_in p 64 (by omega), pk_in (p + 1) 64 (by omega), nm_r (mb_pu_s (by omega) D) (nm_r (pk_m1 p) (ih (by omega) (fun j h1 h2 => ?_)))⟩⟩⟩
      by_cases e : j = p
      · rw [e]; omega
      · exact hB j (by omega) h2
theorem mb_sortLayer {post : St2 → Prop} {m : Nat} (h1 : 1 ≤ m) (hm : m ≤ 64) (H : ∀ b4 b5 b6 : Nat → Int32, mb_M m a4 a5 a6 b4 b5 b6 → mb_So m b5 → post (f_n, f_w, f_i, f_o, f_mi, f_mo, nI m, f_ns, f_cl, f_cs, f_ex, f_bv, f_bt, a1, a2, a3, b4, b5, b6, a7, a8, a9, a10, a11, a12, a13, a14, a15, a16, a17)) : wpX_sortLayer post (f_n, f_w, f_i, f_o, f_mi, f_mo, nI m, f_ns, f_cl, f_cs, f_ex, f_bv, f_bt, a1, a2, a3, a4, a5, a6, a7, a8, a9, a10, a11, a12, a13, a14, a15, a16, a17) := by
  refine pk_loop (σ := (Nat → Int32) × (Nat → Int32) × (Nat → Int32)) (fun n i s => wX_sortLayer_2 post f_n f_w f_i f_o f_mi f_mo (nI m) f_ns f_cl f_cs f_ex f_bv f_bt n (nI i) a1 a2 a3 s.1 s.2.1 s.2.2 a7 a8 a9 a10 a11 a12 a13 a14 a15 a16 a17) (fun i s => mb_M m a4 a5 a6 s.1 s.2.1 s.2.2 ∧ mb_So i s.2.1) m 1 (a4, a5, a6) h1 ⟨mb_M_refl, fun a b hab hb => ?_⟩ ?_ ?_
  · have ea : a = 0 := by omega
    have eb : b = 0 := by omega
    rw [ea, eb]; omega
  · intro n s h
    exact pk_le m m (fun _ => H s.1 s.2.1 s.2.2 h.1 h.2) (fun z => absurd z (by omega))
  · intro n i s hi h hw
    refine pk_le m i (fun z => absurd z (by omega)) (fun _ => mb_ld i (by omega) (mb_ld i (by omega) (mb_ld i (by omega) ⟨i + 1, ?_⟩)))
    have key : wX_sortLayer_35 post (wX_sortLayer_2 post f_n f_w f_i f_o f_mi f_mo (nI m) f_ns f_cl f_cs f_ex f_bv f_bt n) (nI i) (s.1 i) (s.2.1 i) (s.2.2 i) f_n f_w f_i f_o f_mi f_mo (nI m) f_ns f_cl f_cs f_ex f_bv f_bt (i + 1) (nI i) a1 a2 a3 (mb_pu i i s.1) (mb_pu i i s.2.1) (mb_pu i i s.2.2) a7 a8 a9 a10 a11 a12 a13 a14 a15 a16 a17 :=
      mb_sort35 (by omega) (fun p hp hB hz => hw (upd (mb_pu p i s.1) p (s.1 i), upd (mb_pu p i s.2.1) p (s.2.1 i), upd (mb_pu p i s.2.2) p (s.2.2 i)) ⟨mb_M_trans h.1 (mb_ix_M hp hi _ _ _), mb_ix_So hp h.2 hB hz⟩) i (by omega) (fun j a b => absurd a (by omega))
    rw [mb_pu_0, mb_pu_0, mb_pu_0] at key
    exact key
theorem mb_mergeB {post : St2 → Prop} {m w : Nat} (hm : m ≤ 64) (hw : 0 < w) (hwm : w ≤ m) (H : ∀ b4 : Nat → Int32, (∀ j, j + 1 < w → b4 j = a4 j) → (∀ j, w ≤ j + 1 → j < m → ∀ i, mb_t (a4 j) i = true → mb_t (b4 (w - 1)) i = true) → post (f_n, f_w, f_i, f_o, f_mi, f_mo, nI m, f_ns, f_cl, f_cs, f_ex, f_bv, f_bt, a1, a2, a3, b4, a5, a6, a7, a8, a9, a10, a11, a12, a13, a14, a15, a16, a17)) : wpX_mergeBehind post (f_n, f_w, f_i, f_o, f_mi, f_mo, nI m, f_ns, f_cl, f_cs, f_ex, f_bv, f_bt, a1, a2, a3, a4, a5, a6, a7, a8, a9, a10, a11, a12, a13, a14, a15, a16, a17) (nI w) := by
  obtain ⟨k, rfl⟩ : ∃ k, w = k + 1 := ⟨w - 1, by omega⟩
  refine pk_loop (fun n i s => wX_mergeBehind_2 post (nI (k + 1)) f_n f_w f_i f_o f_mi f_mo (nI m) f_ns f_cl f_cs f_ex f_bv f_bt n (nI i) a1 a2 a3 s a5 a6 a7 a8 a9 a10 a11 a12 a13 a14 a15 a16 a17) (fun i s => k + 1 ≤ i ∧ (∀ j, j ≠ k → s j = a4 j) ∧ (∀ j, k ≤ j → j < i → ∀ b, mb_t (a4 j) b = true → mb_t (s k) b = true)) m (k + 1) a4 hwm ⟨by omega, fun _ _ => rfl, fun j h1 h2 b hb => ?_⟩ ?_ ?_
  · have e : j = k := by omega
    rw [← e]; exact hb
  · intro n s h
    exact pk_le m m (fun _ => H s (fun j hj => h.2.1 j (by omega)) (fun j h1 h2 i hb => h.2.2 j (by omega) h2 i hb)) (fun z => absurd z (by omega))
  · intro n i s hi h hs
    have hki := h.1
    refine pk_le m i (fun z => absurd z (by omega)) (fun _ => ?_)
    rw [nI_pred, nI_clamp (show i < 2 ^ 31 by omega), nI_clamp (show k < 2 ^ 31 by omega)]
    refine ⟨pk_in k 64 (by omega), pk_in i 64 (by omega), pk_in k 64 (by omega), nm_e (nm_r (nI_1 i) (hs _ ⟨by omega, fun j hj => by rw [pk_un hj]; exact h.2.1 j hj, fun j h1 h2 b hb => ?_⟩))⟩
    rw [pk_us, mb_or]
    by_cases c2 : j < i
    · rw [h.2.2 j h1 c2 b hb]; rfl
    · have e : j = i := by omega
      rw [h.2.1 i (by omega), ← e, hb, Bool.or_true]
end
end
section
/-! the layers behind one subproblem -/
section
variable {f_n f_w f_i f_o f_mi f_mo f_sz f_ns f_cl f_cs f_ex f_bv f_bt : Int32} {a1 a2 a3 a4 a5 a6 a7 a8 a9 a10 a11 a12 a13 a14 a15 a16 a17 : Nat → Int32}
theorem mb_run86 {post : Int32 → St2 → Prop} {J7 : Int32 → Int32 → Int32 → Int32 → Int32 → Int32 → Int32 → Int32 → Int32 → Int32 → Int32 → Int32 → Int32 → Int32 → (Nat → Int32) → (Nat → Int32) → (Nat → Int32) → (Nat → Int32) → (Nat → Int32) → (Nat → Int32) → (Nat → Int32) → (Nat → Int32) → (Nat → Int32) → (Nat → Int32) → (Nat → Int32) → (Nat → Int32) → (Nat → Int32) → (Nat → Int32) → (Nat → Int32) → (Nat → Int32) → (Nat → Int32) → Prop} {x1 x2 : Int32} {v m w : Nat} (hw : 0 < w) (hw2 : w ≤ 16) (hm : m ≤ 64)
    (Ha : m ≤ w → J7 (nI (v + 1)) f_n f_w f_i f_o f_mi f_mo (nI m) f_ns f_cl f_cs f_ex f_bv f_bt a1 a2 a3 a4 a5 a6 a7 a8 a9 a10 a11 a12 a13 a14 a15 a16 a17)
    (Hb : x2 = 0 → w < m → ∀ b4 b5 b6 : Nat → Int32, mb_M m a4 a5 a6 b4 b5 b6 → J7 (nI (v + 1)) f_n f_w f_i f_o f_mi f_mo (nI w) f_ns f_cl f_cs 0 f_bv f_bt a1 a2 a3 b4 b5 b6 a7 a8 a9 a10 a11 a12 a13 a14 a15 a16 a17)
    (Hc : ¬ x2 = 0 → w < m → ∀ b4 c4 b5 b6 : Nat → Int32, mb_M m a4 a5 a6 b4 b5 b6 → mb_So m b5 → (∀ j, j + 1 < w → c4 j = b4 j) → (∀ j, w ≤ j + 1 → j < m → ∀ i, mb_t (b4 j) i = true → mb_t (c4 (w - 1)) i = true) → J7 (nI (v + 1)) f_n f_w f_i f_o f_mi f_mo (nI w) f_ns f_cl f_cs 0 f_bv f_bt a1 a2 a3 c4 b5 b6 a7 a8 a9 a10 a11 a12 a13 a14 a15 a16 a17) :
    wX_run_86 post J7 x1 x2 (nI v) (nI w) f_n f_w f_i f_o f_mi f_mo (nI m) f_ns f_cl f_cs f_ex f_bv f_bt a1 a2 a3 a4 a5 a6 a7 a8 a9 a10 a11 a12 a13 a14 a15 a16 a17 := by
  unfold wX_run_86
  refine pk_le m w (fun z => nm_r (nI_1 v) (Ha z)) (fun z => ?_)
  refine mb_sortLayer (by omega) hm (fun b4 b5 b6 hM hS => ?_)
  refine br_c (fun z2 => nm_r (nI_1 v) (Hb z2 z b4 b5 b6 hM)) (fun z2 => ?_)
  exact mb_mergeB hm hw (by omega) (fun c4 h1 h2 => nm_r (nI_1 v) (Hc z2 z b4 c4 b5 b6 hM hS h1 h2))
theorem mb_layer {post : Int32 → St2 → Prop} {J7 : Int32 → Int32 → Int32 → Int32 → Int32 → Int32 → Int32 → Int32 → Int32 → Int32 → Int32 → Int32 → Int32 → Int32 → (Nat → Int32) → (Nat → Int32) → (Nat → Int32) → (Nat → Int32) → (Nat → Int32) → (Nat → Int32) → (Nat → Int32) → (Nat → Int32) → (Nat → Int32) → (Nat → Int32) → (Nat → Int32) → (Nat → Int32) → (Nat → Int32) → (Nat → Int32) → (Nat → Int32) → (Nat → Int32) → (Nat → Int32) → Prop} {x2 : Int32} {g : Nat → Nat} {n L v sz wd : Nat} {R : Nat → Prop} (hv : v < n) (hn : n ≤ 12) (hsz : sz ≤ 16) (hL0 : L ≤ v) (hL : v = L → sz ≤ 1) (hw1 : 1 ≤ wd) (hw2 : wd ≤ 16) (hg : ∀ u, u < n → a3 u = nI (g u) ∧ g u ≤ 131072 ∧ g u % 4096 = 2 ^ u) (hS : mb_S a1 f_mi f_mo g n R v sz a4 a5 a6)
    (Ha : ∀ (m : Nat) (ns : Int32) (b4 b5 b6 b7 b8 b9 : Nat → Int32), m ≤ 2 * sz → m ≤ 16 → mb_S a1 f_mi f_mo g n R (v + 1) m b4 b5 b6 → (∀ q, mb_P a1 f_mi f_mo g n v sz a4 a5 q → mb_P a1 f_mi f_mo g n (v + 1) m b4 b5 q) → J7 (nI (v + 1)) f_n (nI wd) f_i f_o f_mi f_mo (nI m) ns f_cl f_cs f_ex f_bv f_bt a1 a2 a3 b4 b5 b6 b7 b8 b9 a10 a11 a12 a13 a14 a15 a16 a17)
    (Hb : x2 = 0 → v ≠ L → ∀ (m : Nat) (ns : Int32) (b4 b5 b6 b7 b8 b9 : Nat → Int32), m ≤ 16 → mb_S a1 f_mi f_mo g n R (v + 1) m b4 b5 b6 → J7 (nI (v + 1)) f_n (nI wd) f_i f_o f_mi f_mo (nI m) ns f_cl f_cs 0 f_bv f_bt a1 a2 a3 b4 b5 b6 b7 b8 b9 a10 a11 a12 a13 a14 a15 a16 a17)
    (Hc : ¬ x2 = 0 → v ≠ L → ∀ (m : Nat) (ns : Int32) (b4 b5 b6 b7 b8 b9 : Nat → Int32), m ≤ 16 → mb_S a1 f_mi f_mo g n (fun _ => True) (v + 1) m b4 b5 b6 → (∀ q, mb_P a1 f_mi f_mo g n v sz a4 a5 q → mb_P a1 f_mi f_mo g n (v + 1) m b4 b5 q) → J7 (nI (v + 1)) f_n (nI wd) f_i f_o f_mi f_mo (nI m) ns f_cl f_cs 0 f_bv f_bt a1 a2 a3 b4 b5 b6 b7 b8 b9 a10 a11 a12 a13 a14 a15 a16 a17) :
    ∃ k, wX_run_39 post J7 (nI L) x2 (nI v) k 0 f_n (nI wd) f_i f_o f_mi f_mo (nI sz) 0 f_cl f_cs f_ex f_bv f_bt a1 a2 a3 a4 a5 a6 a7 a8 a9 a10 a11 a12 a13 a14 a15 a16 a17 := by
  have tail : ∀ (m w : Nat) (b4 b5 b6 b7 b8 b9 : Nat → Int32), m ≤ 2 * sz → 1 ≤ w → w ≤ 16 → (v = L → 2 ≤ w) → mb_S a1 f_mi f_mo g n R (v + 1) m b4 b5 b6 → (∀ q, mb_P a1 f_mi f_mo g n v sz a4 a5 q → mb_P a1 f_mi f_mo g n (v + 1) m b4 b5 q) → wX_run_86 post J7 (nI L) x2 (nI v) (nI w) f_n (nI wd) f_i f_o f_mi f_mo (nI m) (nI m) f_cl f_cs f_ex f_bv f_bt a1 a2 a3 b4 b5 b6 b7 b8 b9 a10 a11 a12 a13 a14 a15 a16 a17 := by
    intro m w b4 b5 b6 b7 b8 b9 hm h1 h2 h3 hS' hP'
    refine mb_run86 h1 h2 (by omega) (fun z => Ha m _ b4 b5 b6 b7 b8 b9 hm (by omega) hS' hP') (fun z2 z c4 c5 c6 hM => ?_) (fun z2 z c4 d4 c5 c6 hM hSo k1 k2 => ?_)
    · refine Hb z2 (fun e => ?_) w _ c4 c5 c6 b7 b8 b9 h2 (mb_S_le (mb_M_S hM hS') (by omega))
      have q1 := hL e
      have q2 := h3 e
      omega
    · have hS2 := mb_M_S hM hS'
      refine Hc z2 (fun e => ?_) w _ d4 c5 c6 b7 b8 b9 h2 (fun i hi => ?_) (fun q hq => ?_)
      · have q1 := hL e
        have q2 := h3 e
        omega
      · obtain ⟨X, e1, e2, e3, e4, _⟩ := hS2 i (by omega)
        exact ⟨X, e1, e2, e3, e4, fun _ _ => trivial⟩
      · refine mb_mg hn (by omega) h1 (by omega) (fun i hi => ?_) hSo k1 k2 (mb_M_P hM (hP' q hq))
        obtain ⟨X, e1, e2, _⟩ := hS2 i hi
        exact ⟨X, e1, e2⟩
  refine pk_loop (σ := Nat × (Nat → Int32) × (Nat → Int32) × (Nat → Int32)) (fun k i s => wX_run_39 post J7 (nI L) x2 (nI v) k (nI i) f_n (nI wd) f_i f_o f_mi f_mo (nI sz) (nI s.1) f_cl f_cs f_ex f_bv f_bt a1 a2 a3 a4 a5 a6 s.2.1 s.2.2.1 s.2.2.2 a10 a11 a12 a13 a14 a15 a16 a17) (fun i s => s.1 ≤ 2 * i ∧ mb_S a1 f_mi f_mo g n R (v + 1) s.1 s.2.1 s.2.2.1 s.2.2.2 ∧ (∀ q, mb_P a1 f_mi f_mo g n v i a4 a5 q → mb_P a1 f_mi f_mo g n (v + 1) s.1 s.2.1 s.2.2.1 q)) sz 0 (0, a7, a8, a9) (by omega) ⟨Nat.zero_le _, fun i hi => absurd hi (Nat.not_lt_zero i), fun q h => ?_⟩ ?_ ?_
  · obtain ⟨i, hi, _⟩ := h
    exact absurd hi (Nat.not_lt_zero i)
  · intro k s h
    obtain ⟨h1, h2, h3⟩ := h
    refine pk_le sz sz (fun _ => ?_) (fun z => absurd z (by omega))
    refine mb_takeLayer (by omega) (fun b4 b5 b6 hb => ?_)
    have hS' := mb_S_congr h2 hb
    have hP' : ∀ q, mb_P a1 f_mi f_mo g n v sz a4 a5 q → mb_P a1 f_mi f_mo g n (v + 1) s.1 b4 b5 q := fun q hq => mb_P_congr (h3 q hq) (fun i hi => ⟨(hb i hi).1, (hb i hi).2.1⟩)
    refine pk_eq v L (fun e => pk_le 2 wd (fun c => ?_) (fun c => ?_)) (fun e => ?_)
    · exact tail s.1 wd b4 b5 b6 s.2.1 s.2.2.1 s.2.2.2 h1 hw1 hw2 (fun _ => c) hS' hP'
    · exact tail s.1 2 b4 b5 b6 s.2.1 s.2.2.1 s.2.2.2 h1 (by omega) (by omega) (fun _ => by omega) hS' hP'
    · exact tail s.1 wd b4 b5 b6 s.2.1 s.2.2.1 s.2.2.2 h1 hw1 hw2 (fun e' => absurd e' e) hS' hP'
  · intro k i s hi h hs
    obtain ⟨h1, h2, h3⟩ := h
    obtain ⟨X, hN⟩ := hS i hi
    obtain ⟨g0, g1, g2⟩ := hg v hv
    refine pk_le sz i (fun z => absurd z (by omega)) (fun _ => ?_)
    refine mb_expand hv hn (by omega) (by omega) hN g0 g1 g2 h2 (fun m' b7 b8 b9 k1 k2 k3 k4 k5 => nm_r (nI_1 i) (hs (m', b7, b8, b9) ⟨?_, k3, fun q hq => ?_⟩))
    · show m' ≤ 2 * (i + 1)
      omega
    · obtain ⟨j, hj, Y, x, e1, e2, e3, e4⟩ := hq
      by_cases c : j = i
      · subst c
        have hX := hN.2.1
        have e : Y = X := (nI_eq (by omega) (by omega)).mp (e1.symm.trans hN.1)
        exact k5 x q e3 (by omega)
      · exact k4 q (h3 q ⟨j, by omega, Y, x, e1, e2, e3, e4⟩)
theorem mb_run133 {post : Int32 → St2 → Prop} {x2 : Int32} {m : Nat} (hm : m ≤ 64)
    (H : ∀ r bv bt : Int32, (∀ i, i < m → (a5 i).toInt ≤ r.toInt) → (x2 = 0 → (∀ i, i < m → (a5 i).toInt ≤ bv.toInt) ∧ f_bv.toInt ≤ bv.toInt ∧ ((bv = f_bv ∧ bt = f_bt) ∨ ∃ i, i < m ∧ bv = a5 i ∧ bt = a6 i)) → (¬ x2 = 0 → bv = f_bv ∧ bt = f_bt) → post r (f_n, f_w, f_i, f_o, f_mi, f_mo, nI m, f_ns, f_cl, f_cs, f_ex, bv, bt, a1, a2, a3, a4, a5, a6, a7, a8, a9, a10, a11, a12, a13, a14, a15, a16, a17)) :
    ∃ k, wX_run_133 post x2 f_n f_w f_i f_o f_mi f_mo (nI m) f_ns f_cl f_cs f_ex a1 a2 a3 a4 a5 a6 a7 a8 a9 a10 a11 a12 a13 a14 a15 a16 a17 k (-1) 0 f_bv f_bt := by
  refine pk_loop (σ := Int32 × Int32 × Int32) (fun k i s => wX_run_133 post x2 f_n f_w f_i f_o f_mi f_mo (nI m) f_ns f_cl f_cs f_ex a1 a2 a3 a4 a5 a6 a7 a8 a9 a10 a11 a12 a13 a14 a15 a16 a17 k s.1 (nI i) s.2.1 s.2.2) (fun i s => (∀ j, j < i → (a5 j).toInt ≤ s.1.toInt) ∧ (x2 = 0 → (∀ j, j < i → (a5 j).toInt ≤ s.2.1.toInt) ∧ f_bv.toInt ≤ s.2.1.toInt ∧ ((s.2.1 = f_bv ∧ s.2.2 = f_bt) ∨ ∃ j, j < i ∧ s.2.1 = a5 j ∧ s.2.2 = a6 j)) ∧ (¬ x2 = 0 → s.2.1 = f_bv ∧ s.2.2 = f_bt)) m 0 (-1, f_bv, f_bt) (by omega) ⟨fun j hj => absurd hj (by omega), fun _ => ⟨fun j hj => absurd hj (by omega), Int.le_refl _, Or.inl ⟨rfl, rfl⟩⟩, fun _ => ⟨rfl, rfl⟩⟩ ?_ ?_
  · intro k s h
    exact pk_le m m (fun _ => H s.1 s.2.1 s.2.2 h.1 h.2.1 h.2.2) (fun z => absurd z (by omega))
  · intro k i s hi h hs
    obtain ⟨h1, h2, h3⟩ := h
    have fin : ∀ r : Int32, (∀ j, j < i + 1 → (a5 j).toInt ≤ r.toInt) → wX_run_161 post (wX_run_133 post x2 f_n f_w f_i f_o f_mi f_mo (nI m) f_ns f_cl f_cs f_ex a1 a2 a3 a4 a5 a6 a7 a8 a9 a10 a11 a12 a13 a14 a15 a16 a17 k) x2 r (nI i) f_n f_w f_i f_o f_mi f_mo (nI m) f_ns f_cl f_cs f_ex s.2.1 s.2.2 a1 a2 a3 a4 a5 a6 a7 a8 a9 a10 a11 a12 a13 a14 a15 a16 a17 := by
      intro r hr
      unfold wX_run_161
      rw [nI_clamp (show i < 2 ^ 31 by omega)]
      refine br_c (fun z => ⟨pk_in i 64 (by omega), br_c (fun c => nm_r (nI_1 i) (hs (r, s.2.1, s.2.2) ⟨hr, fun _ => ?_, fun z' => absurd z z'⟩)) (fun c => ⟨pk_in i 64 (by omega), nm_e ⟨pk_in i 64 (by omega), nm_e (nm_r (nI_1 i) (hs (r, a5 i, a6 i) ⟨hr, fun _ => ?_, fun z' => absurd z z'⟩))⟩⟩)⟩) (fun z => nm_r (nI_1 i) (hs (r, s.2.1, s.2.2) ⟨hr, fun z' => absurd z' z, h3⟩))
      · obtain ⟨u1, u2, u3⟩ := h2 z
        rw [mb_leT] at c
        refine ⟨lt_s u1 c, u2, ?_⟩
        rcases u3 with u | ⟨j, hj, u⟩
        · exact Or.inl u
        · exact Or.inr ⟨j, by omega, u⟩
      · obtain ⟨u1, u2, u3⟩ := h2 z
        rw [mb_leT] at c
        have c' : s.2.1.toInt ≤ (a5 i).toInt := by omega
        refine ⟨lt_s (fun j hj => Int.le_trans (u1 j hj) c') (Int.le_refl _), Int.le_trans u2 c', Or.inr ⟨i, by omega, rfl, rfl⟩⟩
    refine pk_le m i (fun z => absurd z (by omega)) (fun _ => ?_)
    rw [nI_clamp (show i < 2 ^ 31 by omega)]
    refine ⟨pk_in i 64 (by omega), br_c (fun c => fin s.1 (lt_s h1 (mb_leT.mp c))) (fun c => ⟨pk_in i 64 (by omega), nm_e (fin (a5 i) (lt_s (fun j hj => ?_) (Int.le_refl _)))⟩)⟩
    rw [mb_leT] at c
    have := h1 j hj
    omega
/-- what is known of the kept cut -/
def mb_Cut (a1 : Nat → Int32) (mi mo : Int32) (g : Nat → Nat) (n : Nat) (R Q : Nat → Prop) (L v : Nat) (cl cs : Int32) (a10 a11 a12 : Nat → Int32) : Prop :=
  ∃ c k, cl = nI c ∧ cs = nI k ∧ L ≤ c ∧ c < v ∧ (L + 1 < v → L < c) ∧ k ≤ 16 ∧ k ≤ 2 ^ (c - L) ∧ mb_S a1 mi mo g n R c k a10 a11 a12 ∧ ∀ q, Q q → mb_P a1 mi mo g n c k a10 a11 q
/-- the cut-down run -/
theorem mb_runR {post : Int32 → St2 → Prop} {g : Nat → Nat} {n L wd : Nat} {R Q : Nat → Prop} (hn : n ≤ 12) (hL : L < n) (hw1 : 1 ≤ wd) (hw2 : wd ≤ 16) (hg : ∀ u, u < n → a3 u = nI (g u) ∧ g u ≤ 131072 ∧ g u % 4096 = 2 ^ u)
    (H : ∀ (r sz ns ex bv bt : Int32) (b4 b5 b6 b7 b8 b9 : Nat → Int32), f_bv.toInt ≤ bv.toInt → ((bv = f_bv ∧ bt = f_bt) ∨ ∃ X, bv = nI X ∧ X ≤ 131072 * 12 ∧ bt = nI (X % 4096) ∧ X % 4096 < 2 ^ n ∧ R X) → ((ex = 1 ∧ ∀ q : Nat, Q q → (q : Int) ≤ bv.toInt) ∨ (ex = 0 ∧ L + 1 < n)) → post r (nI n, nI wd, f_i, f_o, f_mi, f_mo, sz, ns, f_cl, f_cs, ex, bv, bt, a1, a2, a3, b4, b5, b6, b7, b8, b9, a10, a11, a12, a13, a14, a15, a16, a17)) :
    ∀ (d v sz : Nat) (ns ex : Int32) (b4 b5 b6 b7 b8 b9 : Nat → Int32), v + d = n → L ≤ v → sz ≤ 16 → (v = L → sz ≤ 1 ∧ ex = 1) → mb_S a1 f_mi f_mo g n R v sz b4 b5 b6 → ((ex = 1 ∧ ∀ q, Q q → mb_P a1 f_mi f_mo g n v sz b4 b5 q) ∨ (ex = 0 ∧ L + 1 < v)) →
    wX_run_7 post (nI L) 0 (d + 1) (nI v) (nI n) (nI wd) f_i f_o f_mi f_mo (nI sz) ns f_cl f_cs ex f_bv f_bt a1 a2 a3 b4 b5 b6 b7 b8 b9 a10 a11 a12 a13 a14 a15 a16 a17 := by
  intro d
  induction d with
  | zero =>
    intro v sz ns ex b4 b5 b6 b7 b8 b9 hv hLv hsz h1 hS hE
    have e : v = n := by omega
    subst e
    refine pk_le v v (fun _ => ?_) (fun z => absurd z (by omega))
    refine mb_run133 (by omega) (fun r bv bt k1 k2 k3 => H r _ _ _ bv bt _ _ _ _ _ _ (k2 rfl).2.1 ?_ ?_)
    · rcases (k2 rfl).2.2 with u | ⟨i, hi, u1, u2⟩
      · exact Or.inl u
      · obtain ⟨X, e1, e2, e3, e4, e5⟩ := hS i hi
        exact Or.inr ⟨X, by rw [u1, e1], by omega, by rw [u2, e3], e4, e5 0 (mb_D_end.mpr rfl)⟩
    · rcases hE with ⟨he, hq⟩ | ⟨he, hq⟩
      · refine Or.inl ⟨he, fun q hQ => ?_⟩
        obtain ⟨i, hi, X, x, e1, e2, e3, e4⟩ := hq q hQ
        have e5 := mb_D_end.mp e3
        have e6 := (k2 rfl).1 i hi
        rw [e1, nI_toInt (by omega)] at e6
        omega
      · exact Or.inr ⟨he, by omega⟩
  | succ d ih =>
    intro v sz ns ex b4 b5 b6 b7 b8 b9 hv hLv hsz h1 hS hE
    have lay : ∃ k, wX_run_39 post (wX_run_7 post (nI L) 0 (d + 1)) (nI L) 0 (nI v) k 0 (nI n) (nI wd) f_i f_o f_mi f_mo (nI sz) 0 f_cl f_cs ex f_bv f_bt a1 a2 a3 b4 b5 b6 b7 b8 b9 a10 a11 a12 a13 a14 a15 a16 a17 := by
      refine mb_layer (by omega) hn hsz hLv (fun e => (h1 e).1) hw1 hw2 hg hS (fun m ns c4 c5 c6 c7 c8 c9 k1 k2 k3 k4 => ?_) (fun _ hvL m ns c4 c5 c6 c7 c8 c9 k2 k3 => ?_) (fun z => absurd rfl z)
      · refine ih (v + 1) m ns ex c4 c5 c6 c7 c8 c9 (by omega) (by omega) k2 (fun e => absurd e (by omega)) k3 ?_
        rcases hE with ⟨he, hq⟩ | ⟨he, hq⟩
        · exact Or.inl ⟨he, fun q hQ => k4 q (hq q hQ)⟩
        · exact Or.inr ⟨he, by omega⟩
      · exact ih (v + 1) m ns 0 c4 c5 c6 c7 c8 c9 (by omega) (by omega) k2 (fun e => absurd e (by omega)) k3 (Or.inr ⟨rfl, by omega⟩)
    exact pk_le n v (fun z => absurd z (by omega)) (fun _ => br_c (fun _ => lay) (fun _ => br_t rfl lay))
/-- the merged run -/
theorem mb_runX {post : Int32 → St2 → Prop} {g : Nat → Nat} {n L wd : Nat} {R Q : Nat → Prop} (hn : n ≤ 12) (hL : L < n) (hw1 : 1 ≤ wd) (hw2 : wd ≤ 16) (hg : ∀ u, u < n → a3 u = nI (g u) ∧ g u ≤ 131072 ∧ g u % 4096 = 2 ^ u)
    (H : ∀ (r sz ns cl cs ex : Int32) (b4 b5 b6 b7 b8 b9 b10 b11 b12 : Nat → Int32), (∀ q : Nat, Q q → (q : Int) ≤ r.toInt) → mb_Cut a1 f_mi f_mo g n R Q L n cl cs b10 b11 b12 → post r (nI n, nI wd, f_i, f_o, f_mi, f_mo, sz, ns, cl, cs, ex, f_bv, f_bt, a1, a2, a3, b4, b5, b6, b7, b8, b9, b10, b11, b12, a13, a14, a15, a16, a17)) :
    ∀ (d v sz : Nat) (ns cl cs ex : Int32) (b4 b5 b6 b7 b8 b9 b10 b11 b12 : Nat → Int32), v + d = n → L ≤ v → sz ≤ 16 → (v = L → sz ≤ 1) → (v ≤ L + 1 → ex = 1) → (∀ q, Q q → mb_P a1 f_mi f_mo g n v sz b4 b5 q) → ((ex = 1 ∧ mb_S a1 f_mi f_mo g n R v sz b4 b5 b6 ∧ sz ≤ 2 ^ (v - L)) ∨ (ex = 0 ∧ mb_S a1 f_mi f_mo g n (fun _ => True) v sz b4 b5 b6)) → (L < v → mb_Cut a1 f_mi f_mo g n R Q L v cl cs b10 b11 b12) →
    wX_run_7 post (nI L) 1 (d + 1) (nI v) (nI n) (nI wd) f_i f_o f_mi f_mo (nI sz) ns cl cs ex f_bv f_bt a1 a2 a3 b4 b5 b6 b7 b8 b9 b10 b11 b12 a13 a14 a15 a16 a17 := by
  intro d
  induction d with
  | zero =>
    intro v sz ns cl cs ex b4 b5 b6 b7 b8 b9 b10 b11 b12 hv hLv hsz h1 h2 hP hE hC
    have e : v = n := by omega
    subst e
    refine pk_le v v (fun _ => ?_) (fun z => absurd z (by omega))
    refine mb_run133 (by omega) (fun r bv bt k1 k2 k3 => ?_)
    obtain ⟨e1, e2⟩ := k3 (by decide)
    rw [e1, e2]
    refine H r _ _ _ _ _ _ _ _ _ _ _ _ _ _ (fun q hQ => ?_) (hC hL)
    obtain ⟨i, hi, X, x, e1, e2, e3, e4⟩ := hP q hQ
    have e5 := mb_D_end.mp e3
    have e6 := k1 i hi
    rw [e1, nI_toInt (by omega)] at e6
    omega
  | succ d ih =>
    intro v sz ns cl cs ex b4 b5 b6 b7 b8 b9 b10 b11 b12 hv hLv hsz h1 h2 hP hE hC
    refine pk_le n v (fun z => absurd z (by omega)) (fun _ => ?_)
    rcases hE with ⟨he, hS, hp⟩ | ⟨he, hS⟩
    · subst he
      refine br_f (by decide) (br_f (by decide) (mb_keepCut (by omega) (fun c10 c11 c12 hc => ?_)))
      have hcut : mb_Cut a1 f_mi f_mo g n R Q L (v + 1) (nI v) (nI sz) c10 c11 c12 :=
        ⟨v, sz, rfl, rfl, hLv, by omega, fun _ => by omega, hsz, hp, mb_S_congr hS hc, fun q hQ => mb_P_congr (hP q hQ) (fun i hi => ⟨(hc i hi).1, (hc i hi).2.1⟩)⟩
      have lay : ∃ k, wX_run_39 post (wX_run_7 post (nI L) 1 (d + 1)) (nI L) 1 (nI v) k 0 (nI n) (nI wd) f_i f_o f_mi f_mo (nI sz) 0 (nI v) (nI sz) 1 f_bv f_bt a1 a2 a3 b4 b5 b6 b7 b8 b9 c10 c11 c12 a13 a14 a15 a16 a17 := by
        refine mb_layer (by omega) hn hsz hLv h1 hw1 hw2 hg hS (fun m ns c4 c5 c6 c7 c8 c9 k1 k2 k3 k4 => ?_) (fun z => absurd z (by decide)) (fun _ hvL m ns c4 c5 c6 c7 c8 c9 k2 k3 k4 => ?_)
        · refine ih (v + 1) m ns _ _ 1 c4 c5 c6 c7 c8 c9 c10 c11 c12 (by omega) (by omega) k2 (fun e => absurd e (by omega)) (fun _ => rfl) (fun q hQ => k4 q (hP q hQ)) (Or.inl ⟨rfl, k3, ?_⟩) (fun _ => hcut)
          rw [show v + 1 - L = (v - L) + 1 by omega, Nat.pow_succ]
          omega
        · exact ih (v + 1) m ns _ _ 0 c4 c5 c6 c7 c8 c9 c10 c11 c12 (by omega) (by omega) k2 (fun e => absurd e (by omega)) (fun z => absurd z (by omega)) (fun q hQ => k4 q (hP q hQ)) (Or.inr ⟨rfl, k3⟩) (fun _ => hcut)
      exact lay
    · subst he
      have hv2 : L + 1 < v := by
        rcases Nat.lt_or_ge (L + 1) v with h | h
        · exact h
        · exact absurd (h2 h) (by decide)
      have hcut : mb_Cut a1 f_mi f_mo g n R Q L (v + 1) cl cs b10 b11 b12 := by
        obtain ⟨c, k, u1, u2, u3, u4, u5, u6, u7, u8, u9⟩ := hC (by omega)
        exact ⟨c, k, u1, u2, u3, by omega, fun _ => u5 hv2, u6, u7, u8, u9⟩
      have lay : ∃ k, wX_run_39 post (wX_run_7 post (nI L) 1 (d + 1)) (nI L) 1 (nI v) k 0 (nI n) (nI wd) f_i f_o f_mi f_mo (nI sz) 0 cl cs 0 f_bv f_bt a1 a2 a3 b4 b5 b6 b7 b8 b9 b10 b11 b12 a13 a14 a15 a16 a17 := by
        refine mb_layer (by omega) hn hsz hLv h1 hw1 hw2 hg hS (fun m ns c4 c5 c6 c7 c8 c9 k1 k2 k3 k4 => ?_) (fun z => absurd z (by decide)) (fun _ hvL m ns c4 c5 c6 c7 c8 c9 k2 k3 k4 => ?_)
        · exact ih (v + 1) m ns _ _ 0 c4 c5 c6 c7 c8 c9 b10 b11 b12 (by omega) (by omega) k2 (fun e => absurd e (by omega)) (fun z => absurd z (by omega)) (fun q hQ => k4 q (hP q hQ)) (Or.inr ⟨rfl, k3⟩) (fun _ => hcut)
        · exact ih (v + 1) m ns _ _ 0 c4 c5 c6 c7 c8 c9 b10 b11 b12 (by omega) (by omega) k2 (fun e => absurd e (by omega)) (fun z => absurd z (by omega)) (fun q hQ => k4 q (hP q hQ)) (Or.inr ⟨rfl, k3⟩) (fun _ => hcut)
      exact br_t rfl lay
end
end
section
/-! the search -/
/-- the subproblems that wait -/
def mb_Wt (a1 : Nat → Int32) (mi mo : Int32) (g : Nat → Nat) (n : Nat) (R : Nat → Prop) (k : Nat) (a13 a14 a15 a16 : Nat → Int32) : Prop :=
  ∀ i, i < k → ∃ L X, a13 i = nI L ∧ L < n ∧ i ≤ 16 * L ∧ mb_N a1 mi mo g n R L (a14 i) (a15 i) (a16 i) X
/-- from what waits at least q can be had -/
def mb_WP (a1 : Nat → Int32) (mi mo : Int32) (g : Nat → Nat) (n k : Nat) (a13 a14 a15 : Nat → Int32) (q : Nat) : Prop :=
  ∃ i, i < k ∧ ∃ L X x, a13 i = nI L ∧ L < n ∧ a15 i = nI X ∧ X ≤ 131072 * L ∧ mb_D a1 mi mo g n L (a14 i) x ∧ q ≤ X + x
/-- the steps that it may still take -/
def mb_ph (a13 : Nat → Int32) (k : Nat) : Nat := mb_sum (fun i => 2 ^ (12 - (a13 i).toNatClampNeg) - 1) k
/-- the best set so far -/
def mb_B (n : Nat) (R : Nat → Prop) (bv bt : Int32) : Prop :=
  (bv = -1 ∧ bt = 0) ∨ ∃ X, bv = nI X ∧ X ≤ 131072 * 12 ∧ bt = nI (X % 4096) ∧ X % 4096 < 2 ^ n ∧ R X
theorem mb_ph_s {a13 : Nat → Int32} {k L : Nat} (h : a13 k = nI L) (hL : L < 2 ^ 31) : mb_ph a13 (k + 1) = mb_ph a13 k + (2 ^ (12 - L) - 1) := by
  unfold mb_ph
  show mb_sum _ k + (2 ^ (12 - (a13 k).toNatClampNeg) - 1) = _
  rw [h, nI_clamp hL]
theorem mb_ph_congr {a13 b13 : Nat → Int32} {k : Nat} (h : ∀ i, i < k → b13 i = a13 i) : mb_ph b13 k = mb_ph a13 k :=
  mb_sum_congr k (fun i hi => by rw [h i hi])
theorem mb_ph_add {b13 : Nat → Int32} {p c : Nat} (hc : c < 2 ^ 31) : ∀ k, (∀ j, j < k → b13 (p + j) = nI c) → mb_ph b13 (p + k) = mb_ph b13 p + k * (2 ^ (12 - c) - 1)
  | 0 => fun _ => by rw [Nat.zero_mul]; rfl
  | k + 1 => fun h => by
    have i1 := mb_ph_add (b13 := b13) (p := p) hc k (fun j hj => h j (by omega))
    rw [← Nat.add_assoc, mb_ph_s (h k (by omega)) hc, i1, Nat.succ_mul]
    omega
theorem mb_pot {k c L : Nat} (h1 : L < c) (h2 : c < 12) (hk : k ≤ 2 ^ (c - L)) : 1 + k * (2 ^ (12 - c) - 1) ≤ 2 ^ (12 - L) - 1 := by
  have e : 2 ^ (12 - L) = 2 ^ (c - L) * 2 ^ (12 - c) := by
    rw [← Nat.pow_add]
    congr 1
    omega
  have ha : 2 ^ 1 ≤ 2 ^ (c - L) := Nat.pow_le_pow_right (by omega) (by omega)
  have hb : 2 ^ 1 ≤ 2 ^ (12 - c) := Nat.pow_le_pow_right (by omega) (by omega)
  rw [e]
  generalize 2 ^ (c - L) = a at *
  generalize 2 ^ (12 - c) = b at *
  obtain ⟨b', rfl⟩ : ∃ b', b = b' + 1 := ⟨b - 1, by omega⟩
  rw [Nat.add_sub_cancel, Nat.mul_succ]
  have := Nat.mul_le_mul_right b' hk
  omega
section
variable {f_n f_w f_i f_o f_mi f_mo f_sz f_ns f_cl f_cs f_ex f_bv f_bt : Int32} {a1 a2 a3 a4 a5 a6 a7 a8 a9 a10 a11 a12 a13 a14 a15 a16 a17 : Nat → Int32}
theorem mb_start {post : St2 → Prop} {o x t : Int32} (h : post (f_n, f_w, f_i, f_o, f_mi, f_mo, 1, f_ns, f_cl, f_cs, f_ex, f_bv, f_bt, a1, a2, a3, upd a4 0 o, upd a5 0 x, upd a6 0 t, a7, a8, a9, a10, a11, a12, a13, a14, a15, a16, a17)) : wpX_startLayer post (f_n, f_w, f_i, f_o, f_mi, f_mo, f_sz, f_ns, f_cl, f_cs, f_ex, f_bv, f_bt, a1, a2, a3, a4, a5, a6, a7, a8, a9, a10, a11, a12, a13, a14, a15, a16, a17) o x t :=
  nm_e (nm_e (nm_e h))
theorem mb_S1 {mi mo o : Int32} {g : Nat → Nat} {n L X : Nat} {R : Nat → Prop} (hN : mb_N a1 mi mo g n R L o (nI X) (nI (X % 4096)) X) : mb_S a1 mi mo g n R L 1 (upd a4 0 o) (upd a5 0 (nI X)) (upd a6 0 (nI (X % 4096))) := by
  intro i hi
  have e : i = 0 := by omega
  rw [e, pk_us, pk_us, pk_us]
  exact ⟨X, hN⟩
theorem mb_P1 {mi mo o : Int32} {g : Nat → Nat} {n L X q : Nat} (hX : X ≤ 131072 * L) (h : ∃ x, mb_D a1 mi mo g n L o x ∧ q ≤ X + x) : mb_P a1 mi mo g n L 1 (upd a4 0 o) (upd a5 0 (nI X)) q := by
  obtain ⟨x, h1, h2⟩ := h
  exact ⟨0, by omega, X, x, pk_us, hX, by rw [pk_us]; exact h1, h2⟩
theorem mb_runRw {post : Int32 → St2 → Prop} {g : Nat → Nat} {n L X wd : Nat} {R : Nat → Prop} {o : Int32} (hn : n ≤ 12) (hL : L < n) (hw1 : 1 ≤ wd) (hw2 : wd ≤ 16) (hg : ∀ u, u < n → a3 u = nI (g u) ∧ g u ≤ 131072 ∧ g u % 4096 = 2 ^ u) (hN : mb_N a1 f_mi f_mo g n R L o (nI X) (nI (X % 4096)) X)
    (H : ∀ (r sz ns ex bv bt : Int32) (b4 b5 b6 b7 b8 b9 : Nat → Int32), f_bv.toInt ≤ bv.toInt → ((bv = f_bv ∧ bt = f_bt) ∨ ∃ X, bv = nI X ∧ X ≤ 131072 * 12 ∧ bt = nI (X % 4096) ∧ X % 4096 < 2 ^ n ∧ R X) → ((ex = 1 ∧ ∀ q : Nat, (∃ x, mb_D a1 f_mi f_mo g n L o x ∧ q ≤ X + x) → (q : Int) ≤ bv.toInt) ∨ (ex = 0 ∧ L + 1 < n)) → post r (nI n, nI wd, f_i, f_o, f_mi, f_mo, sz, ns, f_cl, f_cs, ex, bv, bt, a1, a2, a3, b4, b5, b6, b7, b8, b9, a10, a11, a12, a13, a14, a15, a16, a17)) :
    wpX_run post (nI n, nI wd, f_i, f_o, f_mi, f_mo, 1, f_ns, f_cl, f_cs, f_ex, f_bv, f_bt, a1, a2, a3, upd a4 0 o, upd a5 0 (nI X), upd a6 0 (nI (X % 4096)), a7, a8, a9, a10, a11, a12, a13, a14, a15, a16, a17) (nI L) 0 :=
  ⟨(n - L) + 1, mb_runR hn hL hw1 hw2 hg H (n - L) L 1 f_ns 1 _ _ _ _ _ _ (by omega) (Nat.le_refl L) (by omega) (fun _ => ⟨Nat.le_refl 1, rfl⟩) (mb_S1 hN) (Or.inl ⟨rfl, fun q hq => mb_P1 hN.2.1 hq⟩)⟩
theorem mb_runXw {post : Int32 → St2 → Prop} {g : Nat → Nat} {n L X wd : Nat} {R : Nat → Prop} {o : Int32} (hn : n ≤ 12) (hL : L < n) (hw1 : 1 ≤ wd) (hw2 : wd ≤ 16) (hg : ∀ u, u < n → a3 u = nI (g u) ∧ g u ≤ 131072 ∧ g u % 4096 = 2 ^ u) (hN : mb_N a1 f_mi f_mo g n R L o (nI X) (nI (X % 4096)) X)
    (H : ∀ (r sz ns cl cs ex : Int32) (b4 b5 b6 b7 b8 b9 b10 b11 b12 : Nat → Int32), (∀ q : Nat, (∃ x, mb_D a1 f_mi f_mo g n L o x ∧ q ≤ X + x) → (q : Int) ≤ r.toInt) → mb_Cut a1 f_mi f_mo g n R (fun q => ∃ x, mb_D a1 f_mi f_mo g n L o x ∧ q ≤ X + x) L n cl cs b10 b11 b12 → post r (nI n, nI wd, f_i, f_o, f_mi, f_mo, sz, ns, cl, cs, ex, f_bv, f_bt, a1, a2, a3, b4, b5, b6, b7, b8, b9, b10, b11, b12, a13, a14, a15, a16, a17)) :
    wpX_run post (nI n, nI wd, f_i, f_o, f_mi, f_mo, 1, f_ns, f_cl, f_cs, f_ex, f_bv, f_bt, a1, a2, a3, upd a4 0 o, upd a5 0 (nI X), upd a6 0 (nI (X % 4096)), a7, a8, a9, a10, a11, a12, a13, a14, a15, a16, a17) (nI L) 1 :=
  ⟨(n - L) + 1, mb_runX hn hL hw1 hw2 hg H (n - L) L 1 f_ns f_cl f_cs 1 _ _ _ _ _ _ _ _ _ (by omega) (Nat.le_refl L) (by omega) (fun _ => Nat.le_refl 1) (fun _ => rfl) (fun q hq => mb_P1 hN.2.1 hq) (Or.inl ⟨rfl, mb_S1 hN, Nat.one_le_two_pow⟩) (fun z => absurd z (by omega))⟩
/-- the kept cut is laid on the stack -/
theorem mb_push {post : St2 → Prop} {J49 : Int32 → Int32 → Int32 → Int32 → Int32 → Int32 → Int32 → Int32 → Int32 → Int32 → Int32 → Int32 → Int32 → Int32 → Int32 → (Nat → Int32) → (Nat → Int32) → (Nat → Int32) → (Nat → Int32) → (Nat → Int32) → (Nat → Int32) → (Nat → Int32) → (Nat → Int32) → (Nat → Int32) → (Nat → Int32) → (Nat → Int32) → (Nat → Int32) → (Nat → Int32) → (Nat → Int32) → (Nat → Int32) → (Nat → Int32) → (Nat → Int32) → Prop} {st p k : Nat} (hk : k ≤ 16) (hp : p + k ≤ 256) (hst : st < 8192)
    (H : ∀ b13 b14 b15 b16 : Nat → Int32, (∀ i, i < p → b13 i = a13 i ∧ b14 i = a14 i ∧ b15 i = a15 i ∧ b16 i = a16 i) → (∀ j, j < k → b13 (p + j) = f_cl ∧ b14 (p + j) = a10 j ∧ b15 (p + j) = a11 j ∧ b16 (p + j) = a12 j) → J49 (nI (p + k)) (nI (st + 1)) f_n f_w f_i f_o f_mi f_mo f_sz f_ns f_cl (nI k) f_ex f_bv f_bt a1 a2 a3 a4 a5 a6 a7 a8 a9 a10 a11 a12 b13 b14 b15 b16 a17) :
    ∃ f, wX_solve_148 post J49 (nI st) f_n f_w f_i f_o f_mi f_mo f_sz f_ns f_cl (nI k) f_ex f_bv f_bt f (nI p) 0 a1 a2 a3 a4 a5 a6 a7 a8 a9 a10 a11 a12 a13 a14 a15 a16 a17 := by
  refine pk_loop (σ := (Nat → Int32) × (Nat → Int32) × (Nat → Int32) × (Nat → Int32)) (fun f j s => wX_solve_148 post J49 (nI st) f_n f_w f_i f_o f_mi f_mo f_sz f_ns f_cl (nI k) f_ex f_bv f_bt f (nI (p + j)) (nI j) a1 a2 a3 a4 a5 a6 a7 a8 a9 a10 a11 a12 s.1 s.2.1 s.2.2.1 s.2.2.2 a17) (fun j s => (∀ i, i < p → s.1 i = a13 i ∧ s.2.1 i = a14 i ∧ s.2.2.1 i = a15 i ∧ s.2.2.2 i = a16 i) ∧ (∀ i, i < j → s.1 (p + i) = f_cl ∧ s.2.1 (p + i) = a10 i ∧ s.2.2.1 (p + i) = a11 i ∧ s.2.2.2 (p + i) = a12 i)) k 0 (a13, a14, a15, a16) (by omega) ⟨fun i hi => ⟨rfl, rfl, rfl, rfl⟩, fun i hi => absurd hi (by omega)⟩ ?_ ?_
  · intro f s h
    exact pk_le k k (fun _ => nm_r (nI_1 st) (H s.1 s.2.1 s.2.2.1 s.2.2.2 h.1 h.2)) (fun z => absurd z (by omega))
  · intro f j s hj h hs
    obtain ⟨h1, h2⟩ := h
    refine pk_le k j (fun z => absurd z (by omega)) (fun _ => pk_le 256 (p + j) (fun z => absurd z (by omega)) (fun _ => ?_))
    refine mb_st (p + j) (by omega) ⟨pk_in j 64 (by omega), mb_stx (p + j) (by omega) (mb_cl a10) ⟨pk_in j 64 (by omega), mb_stx (p + j) (by omega) (mb_cl a11) ⟨pk_in j 64 (by omega), mb_stx (p + j) (by omega) (mb_cl a12) (nm_r (nI_1 (p + j)) (nm_r (nI_1 j) (hs (upd s.1 (p + j) f_cl, upd s.2.1 (p + j) (a10 j), upd s.2.2.1 (p + j) (a11 j), upd s.2.2.2 (p + j) (a12 j)) ⟨fun i hi => ?_, fun i hi => ?_⟩)))⟩⟩⟩
    · show upd s.1 (p + j) f_cl i = a13 i ∧ upd s.2.1 (p + j) (a10 j) i = a14 i ∧ upd s.2.2.1 (p + j) (a11 j) i = a15 i ∧ upd s.2.2.2 (p + j) (a12 j) i = a16 i
      have e : i ≠ p + j := by omega
      rw [pk_un e, pk_un e, pk_un e, pk_un e]
      exact h1 i hi
    · show upd s.1 (p + j) f_cl (p + i) = f_cl ∧ upd s.2.1 (p + j) (a10 j) (p + i) = a10 i ∧ upd s.2.2.1 (p + j) (a11 j) (p + i) = a11 i ∧ upd s.2.2.2 (p + j) (a12 j) (p + i) = a12 i
      by_cases e : i = j
      · rw [e]; exact ⟨pk_us, pk_us, pk_us, pk_us⟩
      · have e' : p + i ≠ p + j := by omega
        rw [pk_un e', pk_un e', pk_un e', pk_un e']
        exact h2 i (by omega)
theorem mb_solve49 {post : St2 → Prop} {g : Nat → Nat} {n wd : Nat} {R : Nat → Prop} (hn : n ≤ 12) (hw1 : 1 ≤ wd) (hw2 : wd ≤ 16) (hg : ∀ u, u < n → a3 u = nI (g u) ∧ g u ≤ 131072 ∧ g u % 4096 = 2 ^ u)
    (H : ∀ (sz ns cl cs ex bv bt : Int32) (b4 b5 b6 b7 b8 b9 b10 b11 b12 b13 b14 b15 b16 : Nat → Int32), mb_B n R bv bt → (∀ q : Nat, R q → (q : Int) ≤ bv.toInt) → post (nI n, nI wd, f_i, f_o, f_mi, f_mo, sz, ns, cl, cs, ex, bv, bt, a1, a2, a3, b4, b5, b6, b7, b8, b9, b10, b11, b12, b13, b14, b15, b16, a17)) :
    ∀ (f st k : Nat) (sz ns cl cs ex bv bt : Int32) (b4 b5 b6 b7 b8 b9 b10 b11 b12 b13 b14 b15 b16 : Nat → Int32), 8192 ≤ st + f → st + mb_ph b13 k ≤ 8191 → mb_Wt a1 f_mi f_mo g n R k b13 b14 b15 b16 → mb_B n R bv bt → (∀ q : Nat, R q → (q : Int) ≤ bv.toInt ∨ mb_WP a1 f_mi f_mo g n k b13 b14 b15 q) →
    wX_solve_49 post (f + 1) (nI k) (nI st) (nI n) (nI wd) f_i f_o f_mi f_mo sz ns cl cs ex bv bt a1 a2 a3 b4 b5 b6 b7 b8 b9 b10 b11 b12 b13 b14 b15 b16 a17 := by
  intro f
  induction f with
  | zero =>
    intro st k sz ns cl cs ex bv bt b4 b5 b6 b7 b8 b9 b10 b11 b12 b13 b14 b15 b16 h1 h2
    exfalso
    omega
  | succ f ih =>
    intro st k sz ns cl cs ex bv bt b4 b5 b6 b7 b8 b9 b10 b11 b12 b13 b14 b15 b16 h1 h2 hW hB hC
    have hst : st < 8192 := by omega
    have hk : k < 2 ^ 31 := by
      rcases Nat.eq_zero_or_pos k with z | z
      · omega
      · obtain ⟨L, X, _, q1, q2, _⟩ := hW (k - 1) (by omega)
        omega
    refine pk_le 8192 st (fun z => absurd z (by omega)) (fun _ => pk_le k 0 (fun z => ?_) (fun z => ?_))
    · refine H _ _ _ _ _ _ _ _ _ _ _ _ _ _ _ _ _ _ _ _ hB (fun q hq => ?_)
      rcases hC q hq with c | ⟨i, hi, _⟩
      · exact c
      · exact absurd hi (by omega)
    obtain ⟨p, rfl⟩ : ∃ p, k = p + 1 := ⟨k - 1, by omega⟩
    obtain ⟨L, X, e13, hL, hp, hN⟩ := hW p (by omega)
    have e15 := hN.1
    have e16 := hN.2.2.1
    have hX := hN.2.1
    rw [mb_ph_s e13 (by omega)] at h2
    have hpow : 2 ^ 1 ≤ 2 ^ (12 - L) := Nat.pow_le_pow_right (by omega) (by omega)
    have hNX : mb_N a1 f_mi f_mo g n R L (b14 p) (nI X) (nI (X % 4096)) X := ⟨rfl, hN.2.1, rfl, hN.2.2.2⟩
    have hW' : mb_Wt a1 f_mi f_mo g n R p b13 b14 b15 b16 := fun i hi => hW i (by omega)
    refine nm_r (pk_m1 p) (mb_ld p (by omega) (mb_ld p (by omega) (mb_ld p (by omega) (mb_ld p (by omega) ?_))))
    rw [e13, e15, e16]
    refine mb_start (mb_runRw hn hL hw1 hw2 hg hNX (fun r sz ns ex bv' bt' c4 c5 c6 c7 c8 c9 k1 k2 k3 => ?_))
    have hB' : mb_B n R bv' bt' := by
      rcases k2 with ⟨u1, u2⟩ | u
      · rw [u1, u2]; exact hB
      · exact Or.inr u
    have old : ∀ (q : Nat) (bw : Int32), bv'.toInt ≤ bw.toInt → (∀ q : Nat, (∃ x, mb_D a1 f_mi f_mo g n L (b14 p) x ∧ q ≤ X + x) → (q : Int) ≤ bw.toInt) → R q → (q : Int) ≤ bw.toInt ∨ mb_WP a1 f_mi f_mo g n p b13 b14 b15 q := by
      intro q bw hbw hq hR
      rcases hC q hR with c | ⟨i, hi, L', X', x, u1, u2, u3, u4, u5, u6⟩
      · exact Or.inl (Int.le_trans c (Int.le_trans k1 hbw))
      · by_cases ei : i = p
        · left
          subst ei
          have eL : L' = L := (nI_eq (by omega) (by omega)).mp (u1.symm.trans e13)
          have eX : X' = X := (nI_eq (by omega) (by omega)).mp (u3.symm.trans e15)
          subst eL
          subst eX
          exact hq q ⟨x, u5, u6⟩
        · exact Or.inr ⟨i, by omega, L', X', x, u1, u2, u3, u4, u5, u6⟩
    rcases k3 with ⟨ke, kq⟩ | ⟨ke, kL⟩
    · subst ke
      exact br_f (by decide) (nm_r (nI_1 st) (ih (st + 1) p _ _ _ _ _ _ _ _ _ _ _ _ _ _ _ _ _ _ _ _ (by omega) (by omega) hW' hB' (fun q hR => old q bv' (Int.le_refl _) kq hR)))
    · subst ke
      refine br_t rfl (mb_start (mb_runXw hn hL hw1 hw2 hg hNX (fun r sz ns cl cs ex d4 d5 d6 d7 d8 d9 d10 d11 d12 j1 j2 => ?_)))
      refine br_c (fun c => ?_) (fun c => ?_)
      · rw [mb_leT] at c
        exact nm_r (nI_1 st) (ih (st + 1) p _ _ _ _ _ _ _ _ _ _ _ _ _ _ _ _ _ _ _ _ (by omega) (by omega) hW' hB' (fun q hR => old q bv' (Int.le_refl _) (fun q' hq' => Int.le_trans (j1 q' hq') c) hR))
      · obtain ⟨cc, kk, v1, v2, v3, v4, v5, v6, v7, v8, v9⟩ := j2
        subst v1
        subst v2
        have v5' := v5 kL
        refine mb_push v6 (by omega) hst (fun x13 x14 x15 x16 w1 w2 => ih (st + 1) (p + kk) _ _ _ _ _ _ _ _ _ _ _ _ _ _ _ _ _ _ _ _ (by omega) ?_ ?_ hB' ?_)
        · rw [mb_ph_add (c := cc) (by omega) kk (fun j hj => (w2 j hj).1), mb_ph_congr (fun i hi => (w1 i hi).1)]
          have := mb_pot v5' (by omega) v7
          omega
        · intro i hi
          by_cases ci : i < p
          · obtain ⟨u1, u2, u3, u4⟩ := w1 i ci
            rw [u1, u2, u3, u4]
            exact hW i (by omega)
          · obtain ⟨j, rfl⟩ : ∃ j, i = p + j := ⟨i - p, by omega⟩
            obtain ⟨u1, u2, u3, u4⟩ := w2 j (by omega)
            rw [u1, u2, u3, u4]
            obtain ⟨Y, hY⟩ := v8 j (by omega)
            exact ⟨cc, Y, rfl, v4, by omega, hY⟩
        · intro q hR
          rcases hC q hR with c' | ⟨i, hi, L', X', x, u1, u2, u3, u4, u5, u6⟩
          · exact Or.inl (Int.le_trans c' k1)
          · right
            by_cases ei : i = p
            · subst ei
              have eL : L' = L := (nI_eq (by omega) (by omega)).mp (u1.symm.trans e13)
              have eX : X' = X := (nI_eq (by omega) (by omega)).mp (u3.symm.trans e15)
              subst eL
              subst eX
              obtain ⟨j, hj, Y, y, y1, y2, y3, y4⟩ := v9 q ⟨x, u5, u6⟩
              obtain ⟨t1, t2, t3, t4⟩ := w2 j hj
              exact ⟨i + j, by omega, cc, Y, y, t1, v4, by rw [t3]; exact y1, y2, by rw [t2]; exact y3, y4⟩
            · obtain ⟨t1, t2, t3, t4⟩ := w1 i (by omega)
              exact ⟨i, by omega, L', X', x, by rw [t1]; exact u1, u2, by rw [t3]; exact u3, u4, by rw [t2]; exact u5, u6⟩
/-- the search finds the best set -/
theorem mb_solve {post : St2 → Prop} {g : Nat → Nat} {n wd : Nat} (h0 : 0 < n) (hn : n ≤ 12) (hw1 : 1 ≤ wd) (hw2 : wd ≤ 16) (hg : ∀ u, u < n → a3 u = nI (g u) ∧ g u ≤ 131072 ∧ g u % 4096 = 2 ^ u)
    (H : ∀ (sz ns cl cs ex bv bt : Int32) (b4 b5 b6 b7 b8 b9 b10 b11 b12 b13 b14 b15 b16 : Nat → Int32), mb_B n (mb_D a1 f_mi f_mo g n 0 (mb_fu n)) bv bt → (∀ q : Nat, mb_D a1 f_mi f_mo g n 0 (mb_fu n) q → (q : Int) ≤ bv.toInt) → post (nI n, nI wd, f_i, f_o, f_mi, f_mo, sz, ns, cl, cs, ex, bv, bt, a1, a2, a3, b4, b5, b6, b7, b8, b9, b10, b11, b12, b13, b14, b15, b16, a17)) :
    wpX_solve post (nI n, nI wd, f_i, f_o, f_mi, f_mo, f_sz, f_ns, f_cl, f_cs, f_ex, f_bv, f_bt, a1, a2, a3, a4, a5, a6, a7, a8, a9, a10, a11, a12, a13, a14, a15, a16, a17) := by
  unfold wpX_solve
  refine nm_e (nm_e (nm_e (nm_e ⟨8192 + 1, ?_⟩)))
  refine mb_solve49 hn hw1 hw2 hg H 8192 0 1 _ _ _ _ _ (-1) 0 _ _ _ _ _ _ _ _ _ _ _ _ _ (by omega) ?_ ?_ (Or.inl ⟨rfl, rfl⟩) ?_
  · rw [mb_ph_s (L := 0) (by rw [pk_us]; rfl) (by omega)]
    show 0 + (0 + (2 ^ 12 - 1)) ≤ 8191
    omega
  · intro i hi
    have e : i = 0 := by omega
    subst e
    rw [pk_us, pk_us, pk_us, pk_us]
    refine ⟨0, 0, rfl, h0, by omega, rfl, by omega, rfl, by decide, fun x hx => ?_⟩
    rw [Nat.zero_add]
    exact hx
  · intro q hq
    refine Or.inr ⟨0, by omega, 0, 0, q, by rw [pk_us]; rfl, h0, by rw [pk_us]; rfl, by omega, by rw [pk_us]; exact hq, by omega⟩
end
end
section
/-! laws of what can be gained -/
section
variable {a1 : Nat → Int32} {mi mo mi' mo' : Int32} {g w : Nat → Nat} {n : Nat}
theorem mb_sum_0 {f : Nat → Nat} (h : ∀ i, f i = 0) : ∀ m, mb_sum f m = 0
  | 0 => rfl
  | m + 1 => by
    show mb_sum f m + f m = 0
    rw [mb_sum_0 h m, h m]
theorem mb_sum_add (f h : Nat → Nat) : ∀ m, mb_sum f m + mb_sum h m = mb_sum (fun i => f i + h i) m
  | 0 => rfl
  | m + 1 => by
    have := mb_sum_add f h m
    show mb_sum f m + f m + (mb_sum h m + h m) = mb_sum (fun i => f i + h i) m + (f m + h m)
    omega
/-- the weight and the set that a gain is made of -/
theorem mb_D_wt (hn : n ≤ 12) (hg : ∀ u, u < n → g u = 4096 * w u + 2 ^ u) : ∀ v, v ≤ n → ∀ (o : Int32) (x : Nat), mb_D a1 mi mo g n v o x → ∃ y t s, x = 4096 * y + t ∧ t + 2 ^ v ≤ 2 ^ n ∧ t = 2 ^ v * s ∧ y = mb_sum (fun u => if t.testBit u then w u else 0) n := by
  apply mb_down
  · intro o x h
    refine ⟨0, 0, 0, mb_D_end.mp h, by omega, by rw [Nat.mul_zero], ?_⟩
    rw [mb_sum_0]
    intro i
    rw [Nat.zero_testBit]
    rfl
  · intro v hv ih o x h
    have hp : 2 ^ (v + 1) = 2 * 2 ^ v := by rw [Nat.pow_succ]; omega
    rcases (mb_D_iff hv).mp h with ⟨_, h2⟩ | ⟨_, _, x', h3, h4⟩
    · obtain ⟨y, t, s, e1, e2, e3, e4⟩ := ih _ _ h2
      refine ⟨y, t, 2 * s, e1, by omega, ?_, e4⟩
      rw [e3, hp, Nat.mul_comm 2 (2 ^ v), Nat.mul_assoc]
    · obtain ⟨y, t, s, e1, e2, e3, e4⟩ := ih _ _ h4
      have hor : t + 2 ^ v = t ||| 2 ^ v := by
        have q := Nat.two_pow_add_eq_or_of_lt (i := v + 1) (b := 2 ^ v) (Nat.pow_lt_pow_right (by omega) (by omega)) s
        rw [← e3] at q
        exact q
      have htb : t.testBit v = false := by
        rw [e3, Nat.testBit_two_pow_mul]
        rw [decide_eq_false (by omega), Bool.false_and]
      refine ⟨y + w v, t + 2 ^ v, 2 * s + 1, ?_, by omega, ?_, ?_⟩
      · rw [h3, hg v hv, e1]
        omega
      · rw [Nat.mul_add, Nat.mul_one, e3, hp, Nat.mul_comm 2 (2 ^ v), Nat.mul_assoc]
      · have q := mb_sum_one (f := fun u => if (t + 2 ^ v).testBit u then w u else 0) (h := fun u => if t.testBit u then w u else 0) (k := v) n hv (fun i hi hne => by
          show (if (t + 2 ^ v).testBit i then w i else 0) = if t.testBit i then w i else 0
          rw [hor, Nat.testBit_or, Nat.testBit_two_pow, decide_eq_false (fun z => hne z.symm), Bool.or_false])
        have q1 : (if t.testBit v then w v else 0) = 0 := by rw [htb]; rfl
        have q2 : (if (t + 2 ^ v).testBit v then w v else 0) = w v := by
          rw [hor, Nat.testBit_or, Nat.testBit_two_pow, decide_eq_true rfl, Bool.or_true]
          rfl
        rw [q1, q2] at q
        omega
theorem mb_D_wt0 (hn : n ≤ 12) (hg : ∀ u, u < n → g u = 4096 * w u + 2 ^ u) {o : Int32} {x : Nat} (h : mb_D a1 mi mo g n 0 o x) : x / 4096 = mb_sum (fun u => if (x % 4096).testBit u then w u else 0) n := by
  obtain ⟨y, t, s, e1, e2, e3, e4⟩ := mb_D_wt hn hg 0 (by omega) o x h
  have hp : 2 ^ n ≤ 2 ^ 12 := Nat.pow_le_pow_right (by omega) hn
  have ht : x % 4096 = t := by omega
  have hy : x / 4096 = y := by omega
  rw [ht, hy]
  exact e4
/-- fewer demands, no less to gain -/
theorem mb_D_less (hn : n ≤ 12) : ∀ v, v ≤ n → ∀ (o : Int32) (x : Nat), (∀ u, v ≤ u → u < n → mb_t mi' u = true → mb_t mi u = true) → (∀ u, v ≤ u → u < n → mb_t mo' u = true → mb_t mo u = true) → mb_D a1 mi mo g n v o x → mb_D a1 mi' mo' g n v o x := by
  apply mb_down
  · intro o x _ _ h
    exact mb_D_end.mpr (mb_D_end.mp h)
  · intro v hv ih o x h1 h2 h
    have z : ∀ {x y : Int32}, (mb_t y v = true → mb_t x v = true) → x &&& mb_bit v = 0 → y &&& mb_bit v = 0 := by
      intro x y hxy hx
      rw [mb_ab (by omega)] at hx ⊢
      cases c : mb_t y v
      · rfl
      · rw [hxy c] at hx
        exact hx
    rcases (mb_D_iff hv).mp h with ⟨k1, k2⟩ | ⟨k1, k2, y, k3, k4⟩
    · exact (mb_D_iff hv).mpr (Or.inl ⟨z (h1 v (by omega) hv) k1, ih _ _ (fun u q => h1 u (by omega)) (fun u q => h2 u (by omega)) k2⟩)
    · exact (mb_D_iff hv).mpr (Or.inr ⟨k1, z (h2 v (by omega) hv) k2, y, k3, ih _ _ (fun u q => h1 u (by omega)) (fun u q => h2 u (by omega)) k4⟩)
theorem mb_tor (x : Int32) {p : Nat} (hp : p < 32) (u : Nat) : mb_t (x ||| mb_bit p) u = (mb_t x u || decide (u = p)) := by
  rw [mb_or, mb_tb hp]
/-- with p or without p -/
theorem mb_D_split (hn : n ≤ 12) {p : Nat} (hp : p < n) : ∀ v, v ≤ n → v ≤ p → ∀ (o : Int32) (x : Nat), mb_D a1 mi mo g n v o x → mb_D a1 (mi ||| mb_bit p) mo g n v o x ∨ mb_D a1 mi (mo ||| mb_bit p) g n v o x := by
  apply mb_down
  · intro h
    omega
  · intro v hv ih hvp o x h
    by_cases c : v = p
    · subst c
      rcases (mb_D_iff hv).mp h with ⟨k1, k2⟩ | ⟨k1, k2, y, k3, k4⟩
      · right
        refine (mb_D_iff hv).mpr (Or.inl ⟨k1, mb_D_less hn _ (by omega) _ _ (fun u _ _ z => z) (fun u q _ z => ?_) k2⟩)
        rw [mb_tor _ (by omega), decide_eq_false (by omega), Bool.or_false] at z
        exact z
      · left
        refine (mb_D_iff hv).mpr (Or.inr ⟨k1, k2, y, k3, mb_D_less hn _ (by omega) _ _ (fun u q _ z => ?_) (fun u _ _ z => z) k4⟩)
        rw [mb_tor _ (by omega), decide_eq_false (by omega), Bool.or_false] at z
        exact z
    · have z : ∀ x : Int32, x &&& mb_bit v = 0 → (x ||| mb_bit p) &&& mb_bit v = 0 := by
        intro x hx
        rw [mb_ab (by omega)] at hx ⊢
        rw [mb_tor _ (by omega), decide_eq_false c, Bool.or_false]
        exact hx
      rcases (mb_D_iff hv).mp h with ⟨k1, k2⟩ | ⟨k1, k2, y, k3, k4⟩
      · rcases ih (by omega) _ _ k2 with q | q
        · exact Or.inl ((mb_D_iff hv).mpr (Or.inl ⟨z _ k1, q⟩))
        · exact Or.inr ((mb_D_iff hv).mpr (Or.inl ⟨k1, q⟩))
      · rcases ih (by omega) _ _ k4 with q | q
        · exact Or.inl ((mb_D_iff hv).mpr (Or.inr ⟨k1, k2, y, k3, q⟩))
        · exact Or.inr ((mb_D_iff hv).mpr (Or.inr ⟨k1, z _ k2, y, k3, q⟩))
/-- a vertex demanded in and out -/
theorem mb_D_conf (hn : n ≤ 12) {p : Nat} (hp : p < n) (h1 : mb_t mi p = true) (h2 : mb_t mo p = true) : ∀ v, v ≤ n → v ≤ p → ∀ (o : Int32) (x : Nat), ¬ mb_D a1 mi mo g n v o x := by
  apply mb_down
  · intro h
    omega
  · intro v hv ih hvp o x h
    by_cases c : v = p
    · subst c
      rcases (mb_D_iff hv).mp h with ⟨k1, k2⟩ | ⟨k1, k2, _⟩
      · rw [mb_ab (by omega), h1] at k1
        exact absurd k1 (by decide)
      · rw [mb_ab (by omega), h2] at k2
        exact absurd k2 (by decide)
    · rcases (mb_D_iff hv).mp h with ⟨k1, k2⟩ | ⟨k1, k2, y, k3, k4⟩
      · exact ih (by omega) _ _ k2
      · exact ih (by omega) _ _ k4
/-- a vertex demanded and no longer open -/
theorem mb_D_shut (hn : n ≤ 12) {p : Nat} (hp : p < n) (h1 : mb_t mi p = true) : ∀ v, v ≤ n → v ≤ p → ∀ (o : Int32) (x : Nat), mb_t o p = false → ¬ mb_D a1 mi mo g n v o x := by
  apply mb_down
  · intro h
    omega
  · intro v hv ih hvp o x ho h
    by_cases c : v = p
    · subst c
      rcases (mb_D_iff hv).mp h with ⟨k1, k2⟩ | ⟨k1, k2, _⟩
      · rw [mb_ab (by omega), h1] at k1
        exact absurd k1 (by decide)
      · rw [mb_nab (by omega), ho] at k1
        exact absurd k1 (by decide)
    · rcases (mb_D_iff hv).mp h with ⟨k1, k2⟩ | ⟨k1, k2, y, k3, k4⟩
      · exact ih (by omega) _ _ (by rw [mb_and, ho, Bool.false_and]) k2
      · exact ih (by omega) _ _ (by rw [mb_and, mb_and, ho, Bool.false_and, Bool.false_and]) k4
/-- two joined vertices demanded -/
theorem mb_D_two (hn : n ≤ 12) {p q : Nat} (hpq : p < q) (hq : q < n) (h1 : mb_t mi p = true) (h2 : mb_t mi q = true) (hj : mb_t (a1 p) q = true) : ∀ v, v ≤ n → v ≤ p → ∀ (o : Int32) (x : Nat), ¬ mb_D a1 mi mo g n v o x := by
  apply mb_down
  · intro h
    omega
  · intro v hv ih hvp o x h
    by_cases c : v = p
    · subst c
      rcases (mb_D_iff hv).mp h with ⟨k1, k2⟩ | ⟨k1, k2, y, k3, k4⟩
      · rw [mb_ab (by omega), h1] at k1
        exact absurd k1 (by decide)
      · refine mb_D_shut hn hq h2 (v + 1) (by omega) (by omega) _ _ ?_ k4
        rw [mb_dif _ _ (by omega), hj]
        exact Bool.and_false _
    · rcases (mb_D_iff hv).mp h with ⟨k1, k2⟩ | ⟨k1, k2, y, k3, k4⟩
      · exact ih (by omega) _ _ k2
      · exact ih (by omega) _ _ k4
/-- if no two demanded vertices are joined there is a set -/
theorem mb_D_ex (hn : n ≤ 12) (hj : ∀ p q, p < n → q < n → mb_t mi p = true → mb_t mi q = true → mb_t (a1 p) q = false) (hm : ∀ p, p < n → mb_t mi p = true → mb_t mo p = false) : ∀ v, v ≤ n → ∀ (o : Int32), (∀ p, v ≤ p → p < n → mb_t mi p = true → mb_t o p = true) → ∃ x, mb_D a1 mi mo g n v o x := by
  apply mb_down
  · intro o _
    exact ⟨0, mb_D_end.mpr rfl⟩
  · intro v hv ih o ho
    cases c : mb_t mi v
    · obtain ⟨x, hx⟩ := ih (o &&& (mb_bit v ^^^ (-1))) (fun p h1 h2 h3 => by
        rw [mb_clr _ (by omega) (by omega), ho p (by omega) h2 h3, decide_eq_false (by omega)]; rfl)
      exact ⟨x, (mb_D_iff hv).mpr (Or.inl ⟨(mb_ab (by omega)).mpr c, hx⟩)⟩
    · obtain ⟨x, hx⟩ := ih ((o &&& (mb_bit v ^^^ (-1))) &&& (a1 v ^^^ (-1))) (fun p h1 h2 h3 => by
        rw [mb_dif _ _ (by omega), mb_clr _ (by omega) (by omega), ho p (by omega) h2 h3, decide_eq_false (by omega), hj v p hv h2 c h3]; rfl)
      exact ⟨g v + x, (mb_D_iff hv).mpr (Or.inr ⟨(mb_nab (by omega)).mpr (ho v (by omega) hv c), (mb_ab (by omega)).mpr (hm v hv c), x, rfl, hx⟩)⟩
/-- the answer of best -/
def mb_Bw (a1 : Nat → Int32) (mi mo : Int32) (g : Nat → Nat) (n : Nat) (r : Int32) : Prop :=
  (r = -1 ∧ ∀ x, ¬ mb_D a1 mi mo g n 0 (mb_fu n) x) ∨ ∃ X, r = nI (X / 4096) ∧ X ≤ 131072 * 12 ∧ mb_D a1 mi mo g n 0 (mb_fu n) X ∧ ∀ x, mb_D a1 mi mo g n 0 (mb_fu n) x → x ≤ X
theorem mb_Bw_le {r r' : Int32} (h : mb_Bw a1 mi mo g n r) (h' : mb_Bw a1 mi' mo' g n r') (hs : ∀ x, mb_D a1 mi' mo' g n 0 (mb_fu n) x → mb_D a1 mi mo g n 0 (mb_fu n) x) : r'.toInt ≤ r.toInt := by
  rcases h' with ⟨e, _⟩ | ⟨X', e', hX', k1, k2⟩
  · rw [e, mb_m1T]
    rcases h with ⟨e, _⟩ | ⟨X, e, hX, _⟩
    · rw [e, mb_m1T]; omega
    · rw [e, nI_toInt (by omega)]; omega
  · rcases h with ⟨e, k⟩ | ⟨X, e, hX, _, k⟩
    · exact absurd (hs X' k1) (k X')
    · have q := k X' (hs X' k1)
      rw [e, e', nI_toInt (by omega), nI_toInt (by omega)]
      have := Nat.div_le_div_right (c := 4096) q
      omega
/-- the better of with and without is the best -/
theorem mb_Bw_max (hn : n ≤ 12) {p : Nat} (hp : p < n) {r r1 r2 : Int32} (h : mb_Bw a1 mi mo g n r) (h1 : mb_Bw a1 (mi ||| mb_bit p) mo g n r1) (h2 : mb_Bw a1 mi (mo ||| mb_bit p) g n r2) : (r1 ≤ r2 → r2 = r) ∧ (¬ r1 ≤ r2 → r1 = r) := by
  have s1 : ∀ x, mb_D a1 (mi ||| mb_bit p) mo g n 0 (mb_fu n) x → mb_D a1 mi mo g n 0 (mb_fu n) x := fun x hx => mb_D_less hn 0 (by omega) _ _ (fun u _ _ z => by rw [mb_tor _ (by omega), z]; rfl) (fun u _ _ z => z) hx
  have s2 : ∀ x, mb_D a1 mi (mo ||| mb_bit p) g n 0 (mb_fu n) x → mb_D a1 mi mo g n 0 (mb_fu n) x := fun x hx => mb_D_less hn 0 (by omega) _ _ (fun u _ _ z => z) (fun u _ _ z => by rw [mb_tor _ (by omega), z]; rfl) hx
  have l1 := mb_Bw_le h h1 s1
  have l2 := mb_Bw_le h h2 s2
  have key : r.toInt ≤ r1.toInt ∨ r.toInt ≤ r2.toInt := by
    rcases h with ⟨e, _⟩ | ⟨X, e, hX, k1, k2⟩
    · left
      rw [e, mb_m1T]
      rcases h1 with ⟨e, _⟩ | ⟨X, e, hX, _⟩
      · rw [e, mb_m1T]; omega
      · rw [e, nI_toInt (by omega)]; omega
    · have fin : ∀ {r' : Int32} {mi' mo' : Int32}, mb_Bw a1 mi' mo' g n r' → mb_D a1 mi' mo' g n 0 (mb_fu n) X → r.toInt ≤ r'.toInt := by
        intro r' mi' mo' hb hd
        rcases hb with ⟨_, k⟩ | ⟨X', e', hX', _, k⟩
        · exact absurd hd (k X)
        · have q := k X hd
          rw [e, e', nI_toInt (by omega), nI_toInt (by omega)]
          have := Nat.div_le_div_right (c := 4096) q
          omega
      rcases mb_D_split hn hp 0 (by omega) (by omega) _ _ k1 with q | q
      · exact Or.inl (fin h1 q)
      · exact Or.inr (fin h2 q)
  refine ⟨fun z => Int32.toInt_inj.mp ?_, fun z => Int32.toInt_inj.mp ?_⟩
  · rw [mb_leT] at z
    omega
  · rw [mb_leT] at z
    omega
end
/-! counting sets -/
/-- how many sets of the last k vertices bring the weight a to b at least -/
def mb_K (a1 : Nat → Int32) (mi mo : Int32) (w : Nat → Nat) (n : Nat) : Nat → Int32 → Nat → Nat → Nat
  | 0 => fun _ a b => if b ≤ a then 1 else 0
  | k + 1 => fun o a b => (if mi &&& mb_bit (n - (k + 1)) = 0 then mb_K a1 mi mo w n k (o &&& (mb_bit (n - (k + 1)) ^^^ (-1))) a b else 0) +
      (if ¬ o &&& mb_bit (n - (k + 1)) = 0 ∧ mo &&& mb_bit (n - (k + 1)) = 0 then mb_K a1 mi mo w n k ((o &&& (mb_bit (n - (k + 1)) ^^^ (-1))) &&& (a1 (n - (k + 1)) ^^^ (-1))) (a + w (n - (k + 1))) b else 0)
def mb_L (a1 : Nat → Int32) (mi mo : Int32) (w : Nat → Nat) (n v : Nat) (o : Int32) (a b : Nat) : Nat := mb_K a1 mi mo w n (n - v) o a b
section
variable {a1 : Nat → Int32} {mi mo : Int32} {g w : Nat → Nat} {n : Nat}
theorem mb_L_eq {v : Nat} {o : Int32} {a b : Nat} (hv : v < n) : mb_L a1 mi mo w n v o a b = (if mi &&& mb_bit v = 0 then mb_L a1 mi mo w n (v + 1) (o &&& (mb_bit v ^^^ (-1))) a b else 0) + (if ¬ o &&& mb_bit v = 0 ∧ mo &&& mb_bit v = 0 then mb_L a1 mi mo w n (v + 1) ((o &&& (mb_bit v ^^^ (-1))) &&& (a1 v ^^^ (-1))) (a + w v) b else 0) := by
  obtain ⟨k, hk⟩ : ∃ k, n - v = k + 1 := ⟨n - v - 1, by omega⟩
  have e1 : n - (v + 1) = k := by omega
  have e2 : n - (k + 1) = v := by omega
  unfold mb_L
  rw [hk, e1, mb_K, e2]
theorem mb_L_end {o : Int32} {a b : Nat} : mb_L a1 mi mo w n n o a b = if b ≤ a then 1 else 0 := by
  unfold mb_L
  rw [Nat.sub_self]
  rfl
theorem mb_L_le : ∀ v, v ≤ n → ∀ (o : Int32) (a b : Nat), mb_L a1 mi mo w n v o a b ≤ 2 ^ (n - v) := by
  apply mb_down
  · intro o a b
    rw [mb_L_end, Nat.sub_self]
    split <;> omega
  · intro v hv ih o a b
    rw [mb_L_eq hv, show n - v = (n - (v + 1)) + 1 by omega, Nat.pow_succ]
    have h1 := ih (o &&& (mb_bit v ^^^ (-1))) a b
    have h2 := ih ((o &&& (mb_bit v ^^^ (-1))) &&& (a1 v ^^^ (-1))) (a + w v) b
    split <;> split <;> omega
/-- a bound of nothing: the weight doesn't matter -/
theorem mb_L_0 : ∀ v, v ≤ n → ∀ (o : Int32) (a a' : Nat), mb_L a1 mi mo w n v o a 0 = mb_L a1 mi mo w n v o a' 0 := by
  apply mb_down
  · intro o a a'
    rw [mb_L_end, mb_L_end, if_pos (Nat.zero_le _), if_pos (Nat.zero_le _)]
  · intro v hv ih o a a'
    rw [mb_L_eq hv, mb_L_eq hv, ih _ a a', ih _ (a + w v) (a' + w v)]
/-- too little is left -/
theorem mb_L_cut {r : Nat → Nat} (hr : ∀ v, v < n → r v = r (v + 1) + w v) : ∀ v, v ≤ n → ∀ (o : Int32) (a b : Nat), a + r v < b → mb_L a1 mi mo w n v o a b = 0 := by
  apply mb_down
  · intro o a b h
    rw [mb_L_end, if_neg (by omega)]
  · intro v hv ih o a b h
    have q := hr v hv
    rw [mb_L_eq hv, ih _ a b (by omega), ih _ (a + w v) b (by omega)]
    split <;> split <;> rfl
/-- a set that is worth it is counted -/
theorem mb_L_pos (hn : n ≤ 12) (hg : ∀ u, u < n → g u = 4096 * w u + 2 ^ u) : ∀ v, v ≤ n → ∀ (o : Int32) (x a b : Nat), mb_D a1 mi mo g n v o x → b ≤ a + x / 4096 → 1 ≤ mb_L a1 mi mo w n v o a b := by
  apply mb_down
  · intro o x a b h hb
    have := mb_D_end.mp h
    subst this
    rw [mb_L_end, if_pos (by omega)]
    omega
  · intro v hv ih o x a b h hb
    rw [mb_L_eq hv]
    rcases (mb_D_iff hv).mp h with ⟨k1, k2⟩ | ⟨k1, k2, y, k3, k4⟩
    · rw [if_pos k1]
      have := ih _ _ a b k2 hb
      omega
    · rw [if_pos (show ¬ o &&& mb_bit v = 0 ∧ mo &&& mb_bit v = 0 from ⟨k1, k2⟩)]
      obtain ⟨y', t, s, e1, e2, e3, e4⟩ := mb_D_wt hn hg (v + 1) (by omega) _ _ k4
      have hp : 2 ^ n ≤ 2 ^ 12 := Nat.pow_le_pow_right (by omega) hn
      have hp2 : 2 ^ (v + 1) = 2 * 2 ^ v := by rw [Nat.pow_succ]; omega
      have hgv := hg v hv
      have := ih _ _ (a + w v) b k4 (by
        generalize 2 ^ v = pv at *
        generalize 2 ^ (v + 1) = pv1 at *
        generalize 2 ^ n = pn at *
        clear e3 e4
        omega)
      omega
end
end
section
/-! the small methods, and the answers that rest on the search -/
def mb_g (w : Nat → Nat) (u : Nat) : Nat := 4096 * w u + 2 ^ u
theorem mb_g_ok {w : Nat → Nat} {u : Nat} (hu : u < 12) (hw : w u ≤ 30) : mb_g w u ≤ 131072 ∧ mb_g w u % 4096 = 2 ^ u := by
  have h : 2 ^ u ≤ 2 ^ 11 := Nat.pow_le_pow_right (by omega) (by omega)
  unfold mb_g
  generalize 2 ^ u = p at *
  omega
/-- the graph, the weights and the demands that the law keeps -/
def mb_G (n wd : Nat) (w : Nat → Nat) (fi fo : Int32) (a1 a2 : Nat → Int32) : Prop :=
  2 ≤ n ∧ n ≤ 12 ∧ 1 ≤ wd ∧ wd ≤ 16 ∧ (∀ u, u < 12 → a2 u = nI (w u) ∧ w u ≤ 30) ∧ (∀ u v, u < n → v < n → mb_t (a1 u) v = mb_t (a1 v) u) ∧ (∀ u, u < n → mb_t (a1 u) u = false) ∧ (∀ b, b < 32 → mb_t fi b = true → b < n ∧ mb_t fo b = false)
section
variable {f_n f_w f_i f_o f_mi f_mo f_sz f_ns f_cl f_cs f_ex f_bv f_bt : Int32} {a1 a2 a3 a4 a5 a6 a7 a8 a9 a10 a11 a12 a13 a14 a15 a16 a17 : Nat → Int32}
theorem mb_takeW {post : St2 → Prop} {n : Nat} {w : Nat → Nat} (hn : n ≤ 12) (hw : ∀ u, u < 12 → a2 u = nI (w u)) (H : ∀ b3 : Nat → Int32, (∀ u, u < n → b3 u = nI (mb_g w u)) → post (nI n, f_w, f_i, f_o, f_i, f_o, f_sz, f_ns, f_cl, f_cs, f_ex, f_bv, f_bt, a1, a2, b3, a4, a5, a6, a7, a8, a9, a10, a11, a12, a13, a14, a15, a16, a17)) : wpX_takeWeights post (nI n, f_w, f_i, f_o, f_mi, f_mo, f_sz, f_ns, f_cl, f_cs, f_ex, f_bv, f_bt, a1, a2, a3, a4, a5, a6, a7, a8, a9, a10, a11, a12, a13, a14, a15, a16, a17) := by
  refine pk_loop (fun k i s => wX_takeWeights_2 post (nI n) f_w f_i f_o f_mi f_mo f_sz f_ns f_cl f_cs f_ex f_bv f_bt k (nI i) a1 a2 s a4 a5 a6 a7 a8 a9 a10 a11 a12 a13 a14 a15 a16 a17) (fun i s => ∀ u, u < i → s u = nI (mb_g w u)) n 0 a3 (by omega) (fun j hj => absurd hj (by omega)) ?_ ?_
  · intro k s h
    exact pk_le n n (fun _ => H s h) (fun z => absurd z (by omega))
  · intro k i s hi h hs
    refine pk_le n i (fun z => absurd z (by omega)) (fun _ => ⟨pk_in i 12 (by omega), mb_stx (x' := nI (mb_g w i)) i (by omega) ?_ (nm_r (nI_1 i) (hs _ ?_))⟩)
    · rw [mb_cl a2, hw i (by omega)]
      show nI 4096 * nI (w i) + mb_bit i = _
      rw [pk_mul, mb_bitN i (by omega), nI_add]
      rfl
    · intro u hu
      by_cases e : u = i
      · rw [e, pk_us]
      · rw [pk_un e]; exact h u (by omega)
theorem mb_takeO {post : St2 → Prop} {n : Nat} (hn : n ≤ 12) (H : ∀ b3 : Nat → Int32, (∀ u, u < n → b3 u = nI (mb_g (fun _ => 1) u)) → post (nI n, f_w, f_i, f_o, 0, 0, f_sz, f_ns, f_cl, f_cs, f_ex, f_bv, f_bt, a1, a2, b3, a4, a5, a6, a7, a8, a9, a10, a11, a12, a13, a14, a15, a16, a17)) : wpX_takeOnes post (nI n, f_w, f_i, f_o, f_mi, f_mo, f_sz, f_ns, f_cl, f_cs, f_ex, f_bv, f_bt, a1, a2, a3, a4, a5, a6, a7, a8, a9, a10, a11, a12, a13, a14, a15, a16, a17) := by
  refine pk_loop (fun k i s => wX_takeOnes_2 post (nI n) f_w f_i f_o f_mi f_mo f_sz f_ns f_cl f_cs f_ex f_bv f_bt k (nI i) a1 a2 s a4 a5 a6 a7 a8 a9 a10 a11 a12 a13 a14 a15 a16 a17) (fun i s => ∀ u, u < i → s u = nI (mb_g (fun _ => 1) u)) n 0 a3 (by omega) (fun j hj => absurd hj (by omega)) ?_ ?_
  · intro k s h
    exact pk_le n n (fun _ => H s h) (fun z => absurd z (by omega))
  · intro k i s hi h hs
    refine pk_le n i (fun z => absurd z (by omega)) (fun _ => mb_stx (x' := nI (mb_g (fun _ => 1) i)) i (by omega) ?_ (nm_r (nI_1 i) (hs _ ?_)))
    · show nI 4096 + mb_bit i = _
      rw [mb_bitN i (by omega), nI_add]
      rfl
    · intro u hu
      by_cases e : u = i
      · rw [e, pk_us]
      · rw [pk_un e]; exact h u (by omega)
theorem mb_weightOf {post : Int32 → Prop} {n : Nat} {w : Nat → Nat} {x : Int32} (hn : n ≤ 12) (hw : ∀ u, u < 12 → a2 u = nI (w u)) (H : post (nI (mb_sum (fun u => if mb_t x u then w u else 0) n))) : wpX_weightOf post (nI n, f_w, f_i, f_o, f_mi, f_mo, f_sz, f_ns, f_cl, f_cs, f_ex, f_bv, f_bt, a1, a2, a3, a4, a5, a6, a7, a8, a9, a10, a11, a12, a13, a14, a15, a16, a17) x := by
  refine pk_loop (σ := Unit) (fun k i _ => wX_weightOf_4 post x (nI n) f_w f_i f_o f_mi f_mo f_sz f_ns f_cl f_cs f_ex f_bv f_bt a1 a2 a3 a4 a5 a6 a7 a8 a9 a10 a11 a12 a13 a14 a15 a16 a17 k (nI (mb_sum (fun u => if mb_t x u then w u else 0) i)) (nI i)) (fun i _ => True) n 0 () (by omega) trivial ?_ ?_
  · intro k _ _
    exact pk_le n n (fun _ => H) (fun z => absurd z (by omega))
  · intro k i _ hi _ hs
    have hs' := hs () trivial
    refine pk_le n i (fun z => absurd z (by omega)) (fun _ => br_c (fun c => ⟨pk_in i 12 (by omega), nm_r ?_ (nm_r (nI_1 i) hs')⟩) (fun c => nm_r ?_ (nm_r (nI_1 i) hs')))
    · rw [mb_sh1 (by omega)] at c
      rw [mb_cl a2, hw i (by omega), nI_add]
      show _ = nI (mb_sum (fun u => if mb_t x u then w u else 0) i + (if mb_t x i then w i else 0))
      rw [if_pos c]
    · rw [mb_sh1 (by omega)] at c
      show _ + nI 0 = nI (mb_sum (fun u => if mb_t x u then w u else 0) i + (if mb_t x i then w i else 0))
      rw [if_neg c, nI_add]
theorem mb_ones {post : Int32 → Prop} {x : Int32} (H : post (nI (mb_sum (fun u => if mb_t x u then 1 else 0) 12))) : wpX_ones post () x := by
  refine pk_loop (σ := Unit) (fun k i _ => wX_ones_4 post x k (nI (mb_sum (fun u => if mb_t x u then 1 else 0) i)) (nI i)) (fun i _ => True) 12 0 () (by omega) trivial ?_ ?_
  · intro k _ _
    exact pk_le 12 12 (fun _ => H) (fun z => absurd z (by omega))
  · intro k i _ hi _ hs
    refine pk_le 12 i (fun z => absurd z (by omega)) (fun _ => nm_r ?_ (nm_r (nI_1 i) (hs () trivial)))
    rw [mb_shN (by omega), nI_add]
    rfl
theorem mb_size {post : Int32 → Prop} {x : Int32} (H : post (nI (mb_sum (fun u => if mb_t x u then 1 else 0) 12))) : wpL_size post () x := by
  refine pk_loop (σ := Unit) (fun k i _ => wL_size_4 post x k (nI (mb_sum (fun u => if mb_t x u then 1 else 0) i)) (nI i)) (fun i _ => True) 12 0 () (by omega) trivial ?_ ?_
  · intro k _ _
    exact pk_le 12 12 (fun _ => H) (fun z => absurd z (by omega))
  · intro k i _ hi _ hs
    refine pk_le 12 i (fun z => absurd z (by omega)) (fun _ => nm_r ?_ (nm_r (nI_1 i) (hs () trivial)))
    rw [mb_shN (by omega), nI_add]
    rfl
theorem mb_possible {post : Int32 → Prop} {n : Nat} (hn : n ≤ 12) (H1 : (∀ v, v < n → mb_t f_i v = true → a1 v &&& f_i = 0) → post 1) (H0 : ∀ v, v < n → mb_t f_i v = true → ¬ a1 v &&& f_i = 0 → post 0) : wpX_possible post (nI n, f_w, f_i, f_o, f_mi, f_mo, f_sz, f_ns, f_cl, f_cs, f_ex, f_bv, f_bt, a1, a2, a3, a4, a5, a6, a7, a8, a9, a10, a11, a12, a13, a14, a15, a16, a17) := by
  refine pk_loop (σ := Unit) (fun k i _ => wX_possible_2 post (nI n) f_w f_i f_o f_mi f_mo f_sz f_ns f_cl f_cs f_ex f_bv f_bt a1 a2 a3 a4 a5 a6 a7 a8 a9 a10 a11 a12 a13 a14 a15 a16 a17 k (nI i)) (fun i _ => ∀ v, v < i → mb_t f_i v = true → a1 v &&& f_i = 0) n 0 () (by omega) (fun j hj => absurd hj (by omega)) ?_ ?_
  · intro k _ h
    exact pk_le n n (fun _ => H1 h) (fun z => absurd z (by omega))
  · intro k i _ hi h hs
    refine pk_le n i (fun z => absurd z (by omega)) (fun _ => ?_)
    rw [nI_clamp (show i < 2 ^ 31 by omega)]
    refine br_c (fun c => ⟨pk_in i 12 (by omega), br_c (fun d => nm_r (nI_1 i) (hs () (lt_s h (fun _ => d)))) (fun d => H0 i hi ((mb_sh1 (by omega)).mp c) d)⟩) (fun c => nm_r (nI_1 i) (hs () (lt_s h (fun d => absurd ((mb_sh1 (by omega)).mpr d) c))))
theorem mb_isV {post : Int32 → Prop} {n v : Nat} (hn : n ≤ 12) (hv : v < n) (h : post 1) : wpX_isVertex post (nI n, f_w, f_i, f_o, f_mi, f_mo, f_sz, f_ns, f_cl, f_cs, f_ex, f_bv, f_bt, a1, a2, a3, a4, a5, a6, a7, a8, a9, a10, a11, a12, a13, a14, a15, a16, a17) (nI v) :=
  pk_lt v 0 (fun z => absurd z (by omega)) (fun _ => pk_le n v (fun z => absurd z (by omega)) (fun _ => h))
/-- the answer out of the search's result -/
theorem mb_fin {P : Int32 → Prop} {n : Nat} {w : Nat → Nat} {mi mo : Int32} (hn : n ≤ 12) (hw : ∀ u, u < 12 → a2 u = nI (w u)) (hB : mb_B n (mb_D a1 mi mo (mb_g w) n 0 (mb_fu n)) f_bv f_bt) (hC : ∀ q : Nat, mb_D a1 mi mo (mb_g w) n 0 (mb_fu n) q → (q : Int) ≤ f_bv.toInt) (H : ∀ r, mb_Bw a1 mi mo (mb_g w) n r → P r) :
    (0 ≤ f_bv → wpX_weightOf P (nI n, f_w, f_i, f_o, f_mi, f_mo, f_sz, f_ns, f_cl, f_cs, f_ex, f_bv, f_bt, a1, a2, a3, a4, a5, a6, a7, a8, a9, a10, a11, a12, a13, a14, a15, a16, a17) f_bt) ∧ (¬ 0 ≤ f_bv → P (-1)) := by
  rcases hB with ⟨e1, e2⟩ | ⟨X, e1, e2, e3, e4, e5⟩
  · subst e1
    refine br_f (by decide) (H _ (Or.inl ⟨rfl, fun x hx => ?_⟩))
    have := hC x hx
    rw [mb_m1T] at this
    omega
  · subst e1
    subst e3
    refine br_t (nI_pos' (by omega)) (mb_weightOf hn hw (H _ (Or.inr ⟨X, ?_, e2, e5, fun x hx => ?_⟩)))
    · rw [mb_D_wt0 (w := w) hn (fun u _ => rfl) e5]
      congr 1
      apply mb_sum_congr
      intro i hi
      rw [mb_nI _ (by omega)]
    · have := hC x hx
      rw [nI_toInt (by omega)] at this
      omega
theorem mb_best {post : Int32 → St2 → Prop} {n wd : Nat} {w : Nat → Nat} (hG : mb_G n wd w f_i f_o a1 a2) (H : ∀ (r : Int32) (x_mi x_mo x_sz x_ns x_cl x_cs x_ex x_bv x_bt : Int32) (b3 b4 b5 b6 b7 b8 b9 b10 b11 b12 b13 b14 b15 b16 b17 : Nat → Int32), mb_Bw a1 f_i f_o (mb_g w) n r → post r (nI n, nI wd, f_i, f_o, x_mi, x_mo, x_sz, x_ns, x_cl, x_cs, x_ex, x_bv, x_bt, a1, a2, b3, b4, b5, b6, b7, b8, b9, b10, b11, b12, b13, b14, b15, b16, b17)) : wpX_best post (nI n, nI wd, f_i, f_o, f_mi, f_mo, f_sz, f_ns, f_cl, f_cs, f_ex, f_bv, f_bt, a1, a2, a3, a4, a5, a6, a7, a8, a9, a10, a11, a12, a13, a14, a15, a16, a17) := by
  obtain ⟨hn0, hn, hw1, hw2, ha, _⟩ := hG
  have ha2 : ∀ u, u < 12 → a2 u = nI (w u) := fun u hu => (ha u hu).1
  unfold wpX_best
  refine mb_takeW hn ha2 (fun b3 h3 => ?_)
  refine mb_solve (g := mb_g w) (by omega) hn hw1 hw2 (fun u hu => ⟨h3 u hu, mb_g_ok (by omega) (ha u (by omega)).2⟩) (fun sz ns cl cs ex bv bt b4 b5 b6 b7 b8 b9 b10 b11 b12 b13 b14 b15 b16 hB hC => ?_)
  exact mb_fin hn ha2 hB hC (fun r hr => H r _ _ _ _ _ _ _ _ _ _ _ _ _ _ _ _ _ _ _ _ _ _ _ _ hr)
theorem mb_bestWith {post : Int32 → St2 → Prop} {n wd v : Nat} {w : Nat → Nat} (hG : mb_G n wd w f_i f_o a1 a2) (hv : v < n) (H : ∀ (r : Int32) (x_mi x_mo x_sz x_ns x_cl x_cs x_ex x_bv x_bt : Int32) (b3 b4 b5 b6 b7 b8 b9 b10 b11 b12 b13 b14 b15 b16 b17 : Nat → Int32), mb_Bw a1 (f_i ||| mb_bit v) f_o (mb_g w) n r → post r (nI n, nI wd, f_i, f_o, x_mi, x_mo, x_sz, x_ns, x_cl, x_cs, x_ex, x_bv, x_bt, a1, a2, b3, b4, b5, b6, b7, b8, b9, b10, b11, b12, b13, b14, b15, b16, b17)) : wpX_bestWith post (nI n, nI wd, f_i, f_o, f_mi, f_mo, f_sz, f_ns, f_cl, f_cs, f_ex, f_bv, f_bt, a1, a2, a3, a4, a5, a6, a7, a8, a9, a10, a11, a12, a13, a14, a15, a16, a17) (nI v) := by
  obtain ⟨hn0, hn, hw1, hw2, ha, _, _, hf⟩ := hG
  have ha2 : ∀ u, u < 12 → a2 u = nI (w u) := fun u hu => (ha u hu).1
  unfold wpX_bestWith
  refine mb_isV hn hv (br_f (by decide) (mb_takeW hn ha2 (fun b3 h3 => nm_r (e' := f_i ||| mb_bit v) rfl ?_)))
  refine br_c (fun c => ?_) (fun c => H (-1) _ _ _ _ _ _ _ _ _ _ _ _ _ _ _ _ _ _ _ _ _ _ _ _ (Or.inl ⟨rfl, ?_⟩))
  · refine mb_solve (g := mb_g w) (by omega) hn hw1 hw2 (fun u hu => ⟨h3 u hu, mb_g_ok (by omega) (ha u (by omega)).2⟩) (fun sz ns cl cs ex bv bt b4 b5 b6 b7 b8 b9 b10 b11 b12 b13 b14 b15 b16 hB hC => ?_)
    exact mb_fin hn ha2 hB hC (fun r hr => H r _ _ _ _ _ _ _ _ _ _ _ _ _ _ _ _ _ _ _ _ _ _ _ _ hr)
  · have ho : mb_t f_o v = true := by
      cases e : mb_t f_o v
      · exfalso
        apply c
        apply mb_ext
        intro i hi
        rw [mb_and, mb_tor _ (by omega), mb_0]
        cases e2 : mb_t f_i i
        · by_cases e3 : i = v
          · rw [e3, e, Bool.and_false]
          · rw [decide_eq_false e3]; rfl
        · rw [(hf i hi e2).2, Bool.and_false]
      · rfl
    exact fun x => mb_D_conf hn hv (by rw [mb_tor _ (by omega), decide_eq_true rfl, Bool.or_true]) ho 0 (by omega) (by omega) _ x
theorem mb_bestWithout {post : Int32 → St2 → Prop} {n wd v : Nat} {w : Nat → Nat} (hG : mb_G n wd w f_i f_o a1 a2) (hv : v < n) (H : ∀ (r : Int32) (x_mi x_mo x_sz x_ns x_cl x_cs x_ex x_bv x_bt : Int32) (b3 b4 b5 b6 b7 b8 b9 b10 b11 b12 b13 b14 b15 b16 b17 : Nat → Int32), mb_Bw a1 f_i (f_o ||| mb_bit v) (mb_g w) n r → post r (nI n, nI wd, f_i, f_o, x_mi, x_mo, x_sz, x_ns, x_cl, x_cs, x_ex, x_bv, x_bt, a1, a2, b3, b4, b5, b6, b7, b8, b9, b10, b11, b12, b13, b14, b15, b16, b17)) : wpX_bestWithout post (nI n, nI wd, f_i, f_o, f_mi, f_mo, f_sz, f_ns, f_cl, f_cs, f_ex, f_bv, f_bt, a1, a2, a3, a4, a5, a6, a7, a8, a9, a10, a11, a12, a13, a14, a15, a16, a17) (nI v) := by
  obtain ⟨hn0, hn, hw1, hw2, ha, _, _, hf⟩ := hG
  have ha2 : ∀ u, u < 12 → a2 u = nI (w u) := fun u hu => (ha u hu).1
  unfold wpX_bestWithout
  refine mb_isV hn hv (br_f (by decide) (mb_takeW hn ha2 (fun b3 h3 => nm_r (e' := f_o ||| mb_bit v) rfl ?_)))
  refine br_c (fun c => ?_) (fun c => H (-1) _ _ _ _ _ _ _ _ _ _ _ _ _ _ _ _ _ _ _ _ _ _ _ _ (Or.inl ⟨rfl, ?_⟩))
  · refine mb_solve (g := mb_g w) (by omega) hn hw1 hw2 (fun u hu => ⟨h3 u hu, mb_g_ok (by omega) (ha u (by omega)).2⟩) (fun sz ns cl cs ex bv bt b4 b5 b6 b7 b8 b9 b10 b11 b12 b13 b14 b15 b16 hB hC => ?_)
    exact mb_fin hn ha2 hB hC (fun r hr => H r _ _ _ _ _ _ _ _ _ _ _ _ _ _ _ _ _ _ _ _ _ _ _ _ hr)
  · have ho : mb_t f_i v = true := by
      cases e : mb_t f_i v
      · exfalso
        apply c
        apply mb_ext
        intro i hi
        rw [mb_and, mb_tor _ (by omega), mb_0]
        cases e2 : mb_t f_i i
        · rfl
        · by_cases e3 : i = v
          · rw [e3, e] at e2
            exact absurd e2 (by decide)
          · rw [decide_eq_false e3, (hf i hi e2).2]; rfl
      · rfl
    exact fun x => mb_D_conf hn hv ho (by rw [mb_tor _ (by omega), decide_eq_true rfl, Bool.or_true]) 0 (by omega) (by omega) _ x
/-- the largest set, by its number -/
def mb_A (a1 : Nat → Int32) (n X : Nat) : Prop := X % 4096 < 2 ^ n ∧ mb_D a1 0 0 (mb_g (fun _ => 1)) n 0 (mb_fu n) X ∧ ∀ x, mb_D a1 0 0 (mb_g (fun _ => 1)) n 0 (mb_fu n) x → x ≤ X
theorem mb_A_of {n : Nat} {bv bt : Int32} (hn : n ≤ 12) (hB : mb_B n (mb_D a1 0 0 (mb_g (fun _ => 1)) n 0 (mb_fu n)) bv bt) (hC : ∀ q : Nat, mb_D a1 0 0 (mb_g (fun _ => 1)) n 0 (mb_fu n) q → (q : Int) ≤ bv.toInt) : ∃ X, bt = nI (X % 4096) ∧ mb_A a1 n X := by
  rcases hB with ⟨e1, e2⟩ | ⟨X, e1, e2, e3, e4, e5⟩
  · exfalso
    obtain ⟨x, hx⟩ := mb_D_ex (a1 := a1) (mi := 0) (mo := 0) (g := mb_g (fun _ => 1)) hn (fun p q _ _ h => absurd h (by rw [mb_0]; decide)) (fun p _ h => absurd h (by rw [mb_0]; decide)) 0 (by omega) (mb_fu n) (fun p _ _ h => absurd h (by rw [mb_0]; decide))
    have := hC x hx
    rw [e1, mb_m1T] at this
    omega
  · refine ⟨X, e3, e4, e5, fun x hx => ?_⟩
    have := hC x hx
    rw [e1, nI_toInt (by omega)] at this
    omega
theorem mb_leastCover {post : Int32 → St2 → Prop} {n wd : Nat} {w : Nat → Nat} (hG : mb_G n wd w f_i f_o a1 a2) (H : ∀ (X : Nat) (x_mi x_mo x_sz x_ns x_cl x_cs x_ex x_bv x_bt : Int32) (b3 b4 b5 b6 b7 b8 b9 b10 b11 b12 b13 b14 b15 b16 b17 : Nat → Int32), mb_A a1 n X → post (mb_fu n &&& (nI (X % 4096) ^^^ (-1))) (nI n, nI wd, f_i, f_o, x_mi, x_mo, x_sz, x_ns, x_cl, x_cs, x_ex, x_bv, x_bt, a1, a2, b3, b4, b5, b6, b7, b8, b9, b10, b11, b12, b13, b14, b15, b16, b17)) : wpX_leastCover post (nI n, nI wd, f_i, f_o, f_mi, f_mo, f_sz, f_ns, f_cl, f_cs, f_ex, f_bv, f_bt, a1, a2, a3, a4, a5, a6, a7, a8, a9, a10, a11, a12, a13, a14, a15, a16, a17) := by
  obtain ⟨hn0, hn, hw1, hw2, ha, _⟩ := hG
  unfold wpX_leastCover
  refine mb_takeO hn (fun b3 h3 => ?_)
  refine mb_solve (g := mb_g (fun _ => 1)) (by omega) hn hw1 hw2 (fun u hu => ⟨h3 u hu, mb_g_ok (by omega) (by omega)⟩) (fun sz ns cl cs ex bv bt b4 b5 b6 b7 b8 b9 b10 b11 b12 b13 b14 b15 b16 hB hC => ?_)
  obtain ⟨X, e, hA⟩ := mb_A_of hn hB hC
  subst e
  exact H X _ _ _ _ _ _ _ _ _ _ _ _ _ _ _ _ _ _ _ _ _ _ _ _ hA
theorem mb_alpha {post : Int32 → St2 → Prop} {n wd : Nat} {w : Nat → Nat} (hG : mb_G n wd w f_i f_o a1 a2) (H : ∀ (X : Nat) (x_mi x_mo x_sz x_ns x_cl x_cs x_ex x_bv x_bt : Int32) (b3 b4 b5 b6 b7 b8 b9 b10 b11 b12 b13 b14 b15 b16 b17 : Nat → Int32), mb_A a1 n X → post (nI (mb_sum (fun u => if mb_t (nI (X % 4096)) u then 1 else 0) 12)) (nI n, nI wd, f_i, f_o, x_mi, x_mo, x_sz, x_ns, x_cl, x_cs, x_ex, x_bv, x_bt, a1, a2, b3, b4, b5, b6, b7, b8, b9, b10, b11, b12, b13, b14, b15, b16, b17)) : wpX_alpha post (nI n, nI wd, f_i, f_o, f_mi, f_mo, f_sz, f_ns, f_cl, f_cs, f_ex, f_bv, f_bt, a1, a2, a3, a4, a5, a6, a7, a8, a9, a10, a11, a12, a13, a14, a15, a16, a17) := by
  obtain ⟨hn0, hn, hw1, hw2, ha, _⟩ := hG
  unfold wpX_alpha
  refine mb_takeO hn (fun b3 h3 => ?_)
  refine mb_solve (g := mb_g (fun _ => 1)) (by omega) hn hw1 hw2 (fun u hu => ⟨h3 u hu, mb_g_ok (by omega) (by omega)⟩) (fun sz ns cl cs ex bv bt b4 b5 b6 b7 b8 b9 b10 b11 b12 b13 b14 b15 b16 hB hC => ?_)
  obtain ⟨X, e, hA⟩ := mb_A_of hn hB hC
  subst e
  exact mb_ones (H X _ _ _ _ _ _ _ _ _ _ _ _ _ _ _ _ _ _ _ _ _ _ _ _ hA)
end
/-- the set and the rest -/
theorem mb_lt_sum (n : Nat) : ∀ m, mb_sum (fun b => if b < n then 1 else 0) m = min m n
  | 0 => by rw [Nat.zero_min]; rfl
  | m + 1 => by
    show mb_sum (fun b => if b < n then 1 else 0) m + (if m < n then 1 else 0) = min (m + 1) n
    rw [mb_lt_sum n m]
    split <;> omega
theorem mb_cover {n t : Nat} (hn : n ≤ 12) (ht : t < 2 ^ n) : mb_sum (fun u => if mb_t (nI t) u then 1 else 0) 12 + mb_sum (fun u => if mb_t (mb_fu n &&& (nI t ^^^ (-1))) u then 1 else 0) 12 = n := by
  rw [mb_sum_add, mb_sum_congr (h := fun b => if b < n then 1 else 0) 12, mb_lt_sum]
  · omega
  · intro i hi
    show (if mb_t (nI t) i then 1 else 0) + (if mb_t (mb_fu n &&& (nI t ^^^ (-1))) i then 1 else 0) = if i < n then 1 else 0
    rw [mb_dif _ _ (by omega), mb_tfu (by omega) (by omega), mb_nI _ (by omega)]
    by_cases c : i < n
    · rw [decide_eq_true c, if_pos c]
      cases t.testBit i <;> rfl
    · have h : t.testBit i = false := Nat.testBit_lt_two_pow (Nat.lt_of_lt_of_le ht (Nat.pow_le_pow_right (by omega) (by omega)))
      rw [h, decide_eq_false c, if_neg c]
      rfl
end
section
/-! allowedSets: layers of distinct states with numbers of ways -/
theorem mb_pig : ∀ (N m : Nat) (f : Nat → Nat), (∀ i, i < m → f i < N) → (∀ i j, i < m → j < m → f i = f j → i = j) → m ≤ N := by
  intro N
  induction N with
  | zero =>
    intro m f h _
    rcases Nat.eq_zero_or_pos m with z | z
    · omega
    · exact absurd (h 0 z) (by omega)
  | succ N ih =>
    intro m f h inj
    rcases Nat.eq_zero_or_pos m with z | z
    · omega
    · by_cases c : ∃ i, i < m ∧ f i = N
      · obtain ⟨i0, hi0, e0⟩ := c
        have key : m - 1 ≤ N := by
          refine ih (m - 1) (fun i => if i = i0 then f (m - 1) else f i) (fun i hi => ?_) (fun i j hi hj e => ?_)
          · show (if i = i0 then f (m - 1) else f i) < N
            by_cases c1 : i = i0
            · rw [if_pos c1]
              have q := h (m - 1) (by omega)
              rcases Nat.lt_or_ge (f (m - 1)) N with q2 | q2
              · exact q2
              · have := inj (m - 1) i0 (by omega) hi0 (by omega)
                omega
            · rw [if_neg c1]
              have q := h i (by omega)
              rcases Nat.lt_or_ge (f i) N with q2 | q2
              · exact q2
              · exact absurd (inj i i0 (by omega) hi0 (by omega)) c1
          · have e' : (if i = i0 then f (m - 1) else f i) = (if j = i0 then f (m - 1) else f j) := e
            by_cases c1 : i = i0
            · by_cases c2 : j = i0
              · omega
              · rw [if_pos c1, if_neg c2] at e'
                have := inj (m - 1) j (by omega) (by omega) e'
                omega
            · by_cases c2 : j = i0
              · rw [if_neg c1, if_pos c2] at e'
                have := inj i (m - 1) (by omega) (by omega) e'
                omega
              · rw [if_neg c1, if_neg c2] at e'
                exact inj i j (by omega) (by omega) e'
        omega
      · have := ih m f (fun i hi => by
          have q := h i hi
          rcases Nat.lt_or_ge (f i) N with q2 | q2
          · exact q2
          · exact absurd ⟨i, hi, by omega⟩ c) inj
        omega
/-- a state of the vertices from v on -/
def mb_Z (n v : Nat) (x : Int32) : Prop := ∀ b, b < 32 → mb_t x b = true → v ≤ b ∧ b < n
theorem mb_Z_few {n v m : Nat} {A : Nat → Int32} (hv : v ≤ n) (hz : ∀ i, i < m → mb_Z n v (A i)) (hd : ∀ i j, i < m → j < m → A i = A j → i = j) : m ≤ 2 ^ (n - v) := by
  have tt : ∀ (x : Int32) (b : Nat), x.toBitVec.toNat.testBit b = mb_t x b := fun x b => rfl
  refine mb_pig (2 ^ (n - v)) m (fun i => (A i).toBitVec.toNat / 2 ^ v) (fun i hi => ?_) (fun i j hi hj e => ?_)
  · show (A i).toBitVec.toNat / 2 ^ v < 2 ^ (n - v)
    apply Nat.div_lt_of_lt_mul
    rw [← Nat.pow_add, show v + (n - v) = n by omega]
    apply Nat.lt_pow_two_of_testBit
    intro b hb
    rw [tt]
    rcases Nat.lt_or_ge b 32 with c | c
    · cases e : mb_t (A i) b
      · rfl
      · have := (hz i hi b c e).2
        omega
    · exact mb_big c
  · apply hd i j hi hj
    apply mb_ext
    intro b hb
    by_cases c : v ≤ b
    · have e' : (A i).toBitVec.toNat / 2 ^ v = (A j).toBitVec.toNat / 2 ^ v := e
      have q := congrArg (fun y => y.testBit (b - v)) e'
      rw [Nat.testBit_div_two_pow, Nat.testBit_div_two_pow, tt, tt, show b - v + v = b by omega] at q
      exact q
    · have z : ∀ k, k < m → mb_t (A k) b = false := by
        intro k hk
        cases e2 : mb_t (A k) b
        · rfl
        · exact absurd (hz k hk b hb e2).1 c
      rw [z i hi, z j hj]
/-- a layer of m distinct states with c ways each, T in all -/
def mb_Y (a1 : Nat → Int32) (mi mo : Int32) (w : Nat → Nat) (n v m : Nat) (A B : Nat → Int32) (T : Nat) : Prop :=
  (∀ i, i < m → mb_Z n v (A i)) ∧ (∀ i j, i < m → j < m → A i = A j → i = j) ∧ ∃ c : Nat → Nat, (∀ i, i < m → B i = nI (c i)) ∧ mb_sum (fun i => c i * mb_L a1 mi mo w n v (A i) 0 0) m = T
theorem mb_Y_congr {a1 : Nat → Int32} {mi mo : Int32} {w : Nat → Nat} {n v m T : Nat} {A B A' B' : Nat → Int32} (h : mb_Y a1 mi mo w n v m A B T) (e : ∀ i, i < m → A' i = A i ∧ B' i = B i) : mb_Y a1 mi mo w n v m A' B' T := by
  obtain ⟨h1, h2, c, h3, h4⟩ := h
  refine ⟨fun i hi => by rw [(e i hi).1]; exact h1 i hi, fun i j hi hj q => h2 i j hi hj (by rw [← (e i hi).1, ← (e j hj).1]; exact q), c, fun i hi => by rw [(e i hi).2]; exact h3 i hi, ?_⟩
  rw [← h4]
  apply mb_sum_congr
  intro i hi
  rw [(e i hi).1]
theorem mb_Y_found {a1 : Nat → Int32} {mi mo : Int32} {w : Nat → Nat} {n v m T k y : Nat} {A B : Nat → Int32} (h : mb_Y a1 mi mo w n v m A B T) (hk : k < m) : mb_Y a1 mi mo w n v m A (upd B k (B k + nI y)) (T + y * mb_L a1 mi mo w n v (A k) 0 0) := by
  obtain ⟨h1, h2, c, h3, h4⟩ := h
  refine ⟨h1, h2, fun i => if i = k then c k + y else c i, fun i hi => ?_, ?_⟩
  · show upd B k (B k + nI y) i = nI (if i = k then c k + y else c i)
    by_cases e : i = k
    · rw [e, pk_us, if_pos rfl, h3 k hk, nI_add]
    · rw [pk_un e, if_neg e, h3 i hi]
  · have q := mb_sum_one (f := fun i => (if i = k then c k + y else c i) * mb_L a1 mi mo w n v (A i) 0 0) (h := fun i => c i * mb_L a1 mi mo w n v (A i) 0 0) (k := k) m hk (fun i hi hne => by
      show (if i = k then c k + y else c i) * mb_L a1 mi mo w n v (A i) 0 0 = c i * mb_L a1 mi mo w n v (A i) 0 0
      rw [if_neg hne])
    rw [if_pos rfl, h4, Nat.add_mul] at q
    show mb_sum (fun i => (if i = k then c k + y else c i) * mb_L a1 mi mo w n v (A i) 0 0) m = _
    omega
theorem mb_Y_new {a1 : Nat → Int32} {mi mo : Int32} {w : Nat → Nat} {n v m T y : Nat} {A B : Nat → Int32} {o : Int32} (h : mb_Y a1 mi mo w n v m A B T) (hz : mb_Z n v o) (hd : ∀ k, k < m → ¬ A k = o) : mb_Y a1 mi mo w n v (m + 1) (upd A m o) (upd B m (nI y)) (T + y * mb_L a1 mi mo w n v o 0 0) := by
  obtain ⟨h1, h2, c, h3, h4⟩ := h
  refine ⟨fun i hi => ?_, fun i j hi hj q => ?_, fun i => if i = m then y else c i, fun i hi => ?_, ?_⟩
  · by_cases e : i = m
    · rw [e, pk_us]; exact hz
    · rw [pk_un e]; exact h1 i (by omega)
  · by_cases e : i = m
    · by_cases e2 : j = m
      · omega
      · rw [e, pk_us, pk_un e2] at q
        exact absurd q.symm (hd j (by omega))
    · by_cases e2 : j = m
      · rw [e2, pk_us, pk_un e] at q
        exact absurd q (hd i (by omega))
      · rw [pk_un e, pk_un e2] at q
        exact h2 i j (by omega) (by omega) q
  · show upd B m (nI y) i = nI (if i = m then y else c i)
    by_cases e : i = m
    · rw [e, pk_us, if_pos rfl]
    · rw [pk_un e, if_neg e, h3 i (by omega)]
  · show mb_sum (fun i => (if i = m then y else c i) * mb_L a1 mi mo w n v (upd A m o i) 0 0) m + (if m = m then y else c m) * mb_L a1 mi mo w n v (upd A m o m) 0 0 = _
    rw [if_pos rfl, pk_us, ← h4]
    congr 1
    apply mb_sum_congr
    intro i hi
    have e : i ≠ m := by omega
    show (if i = m then y else c i) * mb_L a1 mi mo w n v (upd A m o i) 0 0 = _
    rw [if_neg e, pk_un e]
section
variable {f_n f_w f_i f_o f_mi f_mo f_sz f_ns f_cl f_cs f_ex f_bv f_bt : Int32} {a1 a2 a3 a4 a5 a6 a7 a8 a9 a10 a11 a12 a13 a14 a15 a16 a17 : Nat → Int32}
theorem mb_reachC {post : St2 → Prop} {w : Nat → Nat} {n v m T y : Nat} {o mi mo : Int32} (hm : m ≤ 64) (hfit : (∀ k, k < m → ¬ a7 k = o) → m < 64) (hY : mb_Y a1 mi mo w n v m a7 a8 T) (hz : mb_Z n v o)
    (H : ∀ (m' : Nat) (b7 b8 : Nat → Int32), m ≤ m' → m' ≤ m + 1 → m' ≤ 64 → mb_Y a1 mi mo w n v m' b7 b8 (T + y * mb_L a1 mi mo w n v o 0 0) → post (f_n, f_w, f_i, f_o, f_mi, f_mo, f_sz, nI m', f_cl, f_cs, f_ex, f_bv, f_bt, a1, a2, a3, a4, a5, a6, b7, b8, a9, a10, a11, a12, a13, a14, a15, a16, a17)) :
    wpX_reachCount post (f_n, f_w, f_i, f_o, f_mi, f_mo, f_sz, nI m, f_cl, f_cs, f_ex, f_bv, f_bt, a1, a2, a3, a4, a5, a6, a7, a8, a9, a10, a11, a12, a13, a14, a15, a16, a17) o (nI y) := by
  refine pk_loop (σ := Unit) (fun k i _ => wX_reachCount_2 post o (nI y) f_n f_w f_i f_o f_mi f_mo f_sz (nI m) f_cl f_cs f_ex f_bv f_bt a1 a2 a3 a4 a5 a6 a7 a8 a9 a10 a11 a12 a13 a14 a15 a16 a17 k (nI i)) (fun i _ => ∀ k, k < i → ¬ a7 k = o) m 0 () (by omega) (fun k hk => absurd hk (by omega)) ?_ ?_
  · intro k _ h
    have hm2 := hfit h
    exact pk_le m m (fun _ => pk_le 64 m (fun z => absurd z (by omega)) (fun _ => mb_st m hm2 (mb_st m hm2 (nm_r (nI_1 m) (H (m + 1) _ _ (by omega) (by omega) (by omega) (mb_Y_new hY hz h)))))) (fun z => absurd z (by omega))
  · intro k i _ hi h hw
    refine pk_le m i (fun z => absurd z (by omega)) (fun _ => ?_)
    rw [nI_clamp (show i < 2 ^ 31 by omega)]
    refine ⟨pk_in i 64 (by omega), br_c (fun g => ⟨pk_in i 64 (by omega), pk_in i 64 (by omega), nm_e (H m _ _ (by omega) (by omega) hm ?_)⟩) (fun g => nm_r (nI_1 i) (hw () (lt_s h g)))⟩
    have q := mb_Y_found (y := y) hY hi
    rw [g] at q
    exact q
theorem mb_Z_0 {n v : Nat} {x : Int32} (hv : v < 32) (h : mb_Z n v x) : mb_Z n (v + 1) (x &&& (mb_bit v ^^^ (-1))) := by
  intro b hb hx
  rw [mb_clr _ hv hb] at hx
  have e : mb_t x b = true ∧ ¬ b = v := by simpa using hx
  have := h b hb e.1
  omega
theorem mb_Z_1 {n v : Nat} {x y : Int32} (h : mb_Z n v x) : mb_Z n v (x &&& y) := by
  intro b hb hx
  rw [mb_and] at hx
  have e : mb_t x b = true ∧ mb_t y b = true := by simpa using hx
  exact h b hb e.1
theorem mb_count33 {post : St2 → Prop} {w : Nat → Nat} {n v m T i y : Nat} (hv : v < n) (hn : n ≤ 12) (hi : i < 64) (hm : m ≤ 64) (hfit : ∀ o (A : Nat → Int32), mb_Z n (v + 1) o → (∀ k, k < m → mb_Z n (v + 1) (A k)) → (∀ k j, k < m → j < m → A k = A j → k = j) → (∀ k, k < m → ¬ A k = o) → m < 64) (hY : mb_Y a1 f_mi f_mo w n (v + 1) m a7 a8 T) (hz : mb_Z n v (a4 i)) (hy : a5 i = nI y)
    (H : ∀ (m' : Nat) (b7 b8 : Nat → Int32), m ≤ m' → m' ≤ m + 1 → m' ≤ 64 → mb_Y a1 f_mi f_mo w n (v + 1) m' b7 b8 (T + y * (if ¬ a4 i &&& mb_bit v = 0 ∧ f_mo &&& mb_bit v = 0 then mb_L a1 f_mi f_mo w n (v + 1) ((a4 i &&& (mb_bit v ^^^ (-1))) &&& (a1 v ^^^ (-1))) 0 0 else 0)) → post (f_n, f_w, f_i, f_o, f_mi, f_mo, f_sz, nI m', f_cl, f_cs, f_ex, f_bv, f_bt, a1, a2, a3, a4, a5, a6, b7, b8, a9, a10, a11, a12, a13, a14, a15, a16, a17)) :
    wX_countNode_33 post (nI i) (nI v) (mb_bit v) f_n f_w f_i f_o f_mi f_mo f_sz (nI m) f_cl f_cs f_ex f_bv f_bt a1 a2 a3 a4 a5 a6 a7 a8 a9 a10 a11 a12 a13 a14 a15 a16 a17 := by
  unfold wX_countNode_33
  rw [nI_clamp (show i < 2 ^ 31 by omega), nI_clamp (show v < 2 ^ 31 by omega)]
  refine ⟨pk_in i 64 hi, br_c (fun z => H m a7 a8 (by omega) (by omega) hm ?_) (fun z => br_c (fun z2 => ⟨pk_in i 64 hi, pk_in v 12 (by omega), pk_in i 64 hi, ?_⟩) (fun z2 => H m a7 a8 (by omega) (by omega) hm ?_))⟩
  · rw [if_neg (fun q => q.1 z), Nat.mul_zero]
    exact hY
  · rw [hy]
    have zo := mb_Z_1 (y := a1 v ^^^ (-1)) (mb_Z_0 (by omega) hz)
    refine mb_reachC hm (fun h => hfit _ a7 zo hY.1 hY.2.1 h) hY zo (fun m' b7 b8 k1 k2 k3 k4 => H m' b7 b8 k1 k2 k3 ?_)
    rw [if_pos ⟨z, z2⟩]
    exact k4
  · rw [if_neg (fun q => z2 q.2), Nat.mul_zero]
    exact hY
theorem mb_count {post : St2 → Prop} {w : Nat → Nat} {n v m T i y : Nat} (hv : v < n) (hn : n ≤ 12) (hi : i < 64) (hm : m ≤ 64) (hfit : ∀ m', m' ≤ m + 1 → ∀ o (A : Nat → Int32), mb_Z n (v + 1) o → (∀ k, k < m' → mb_Z n (v + 1) (A k)) → (∀ k j, k < m' → j < m' → A k = A j → k = j) → (∀ k, k < m' → ¬ A k = o) → m' < 64) (hY : mb_Y a1 f_mi f_mo w n (v + 1) m a7 a8 T) (hz : mb_Z n v (a4 i)) (hy : a5 i = nI y)
    (H : ∀ (m' : Nat) (b7 b8 : Nat → Int32), m ≤ m' → m' ≤ m + 2 → m' ≤ 64 → mb_Y a1 f_mi f_mo w n (v + 1) m' b7 b8 (T + y * mb_L a1 f_mi f_mo w n v (a4 i) 0 0) → post (f_n, f_w, f_i, f_o, f_mi, f_mo, f_sz, nI m', f_cl, f_cs, f_ex, f_bv, f_bt, a1, a2, a3, a4, a5, a6, b7, b8, a9, a10, a11, a12, a13, a14, a15, a16, a17)) :
    wpX_countNode post (f_n, f_w, f_i, f_o, f_mi, f_mo, f_sz, nI m, f_cl, f_cs, f_ex, f_bv, f_bt, a1, a2, a3, a4, a5, a6, a7, a8, a9, a10, a11, a12, a13, a14, a15, a16, a17) (nI i) (nI v) := by
  unfold wpX_countNode
  refine nm_r (e' := mb_bit v) rfl ?_
  rw [nI_clamp (show i < 2 ^ 31 by omega)]
  have eL := mb_L_eq (a1 := a1) (mi := f_mi) (mo := f_mo) (w := w) (o := a4 i) (a := 0) (b := 0) hv
  rw [mb_L_0 (v + 1) (by omega) ((a4 i &&& (mb_bit v ^^^ (-1))) &&& (a1 v ^^^ (-1))) (0 + w v) 0] at eL
  refine br_c (fun z => ⟨pk_in i 64 hi, pk_in i 64 hi, ?_⟩) (fun z => ?_)
  · rw [hy]
    have zo := mb_Z_0 (by omega) hz
    refine mb_reachC hm (fun h => hfit m (by omega) _ a7 zo hY.1 hY.2.1 h) hY zo (fun m1 b7 b8 k1 k2 k3 k4 => ?_)
    refine mb_count33 hv hn hi k3 (hfit m1 (by omega)) k4 hz hy (fun m' d7 d8 j1 j2 j3 j4 => H m' d7 d8 (by omega) (by omega) j3 ?_)
    rw [eL, if_pos z, Nat.mul_add, ← Nat.add_assoc]
    exact j4
  · refine mb_count33 hv hn hi hm (hfit m (by omega)) hY hz hy (fun m' d7 d8 j1 j2 j3 j4 => H m' d7 d8 (by omega) (by omega) j3 ?_)
    rw [eL, if_neg z, Nat.zero_add]
    exact j4
theorem mb_as69 {post : Int32 → St2 → Prop} {m : Nat} {c : Nat → Nat} (hm : m ≤ 64) (hc : ∀ i, i < m → a5 i = nI (c i)) (H : post (nI (mb_sum c m)) (f_n, f_w, f_i, f_o, f_mi, f_mo, nI m, f_ns, f_cl, f_cs, f_ex, f_bv, f_bt, a1, a2, a3, a4, a5, a6, a7, a8, a9, a10, a11, a12, a13, a14, a15, a16, a17)) : ∃ k, wX_allowedSets_69 post f_n f_w f_i f_o f_mi f_mo (nI m) f_ns f_cl f_cs f_ex f_bv f_bt a1 a2 a3 a4 a5 a6 a7 a8 a9 a10 a11 a12 a13 a14 a15 a16 a17 k 0 0 := by
  refine pk_loop (σ := Unit) (fun k i _ => wX_allowedSets_69 post f_n f_w f_i f_o f_mi f_mo (nI m) f_ns f_cl f_cs f_ex f_bv f_bt a1 a2 a3 a4 a5 a6 a7 a8 a9 a10 a11 a12 a13 a14 a15 a16 a17 k (nI (mb_sum c i)) (nI i)) (fun i _ => True) m 0 () (by omega) trivial ?_ ?_
  · intro k _ _
    exact pk_le m m (fun _ => H) (fun z => absurd z (by omega))
  · intro k i _ hi _ hs
    refine pk_le m i (fun z => absurd z (by omega)) (fun _ => ⟨pk_in i 64 (by omega), nm_r ?_ (nm_r (nI_1 i) (hs () trivial))⟩)
    rw [mb_cl a5, hc i hi, nI_add]
    rfl
theorem mb_as35 {post : Int32 → St2 → Prop} {J : Int32 → Int32 → Int32 → Int32 → Int32 → Int32 → Int32 → Int32 → Int32 → Int32 → Int32 → Int32 → Int32 → Int32 → (Nat → Int32) → (Nat → Int32) → (Nat → Int32) → (Nat → Int32) → (Nat → Int32) → (Nat → Int32) → (Nat → Int32) → (Nat → Int32) → (Nat → Int32) → (Nat → Int32) → (Nat → Int32) → (Nat → Int32) → (Nat → Int32) → (Nat → Int32) → (Nat → Int32) → (Nat → Int32) → (Nat → Int32) → Prop} {w : Nat → Nat} {n v m T : Nat} (hv : v < n) (hn : n ≤ 12) (hm : m ≤ 64) (hm6 : v ≤ 6 → m ≤ 2 ^ v) (hY : mb_Y a1 f_mi f_mo w n v m a4 a5 T)
    (H : ∀ (m' : Nat) (ns : Int32) (b4 b5 b6 b7 b8 b9 : Nat → Int32), m' ≤ 64 → (v + 1 ≤ 6 → m' ≤ 2 ^ (v + 1)) → mb_Y a1 f_mi f_mo w n (v + 1) m' b4 b5 T → J (nI (v + 1)) f_n f_w f_i f_o f_mi f_mo (nI m') ns f_cl f_cs f_ex f_bv f_bt a1 a2 a3 b4 b5 b6 b7 b8 b9 a10 a11 a12 a13 a14 a15 a16 a17) :
    ∃ k, wX_allowedSets_35 post J (nI v) k 0 f_n f_w f_i f_o f_mi f_mo (nI m) 0 f_cl f_cs f_ex f_bv f_bt a1 a2 a3 a4 a5 a6 a7 a8 a9 a10 a11 a12 a13 a14 a15 a16 a17 := by
  obtain ⟨h1, h2, c, h3, h4⟩ := hY
  refine pk_loop (σ := Nat × (Nat → Int32) × (Nat → Int32)) (fun k i s => wX_allowedSets_35 post J (nI v) k (nI i) f_n f_w f_i f_o f_mi f_mo (nI m) (nI s.1) f_cl f_cs f_ex f_bv f_bt a1 a2 a3 a4 a5 a6 s.2.1 s.2.2 a9 a10 a11 a12 a13 a14 a15 a16 a17) (fun i s => s.1 ≤ 64 ∧ s.1 ≤ 2 * i ∧ mb_Y a1 f_mi f_mo w n (v + 1) s.1 s.2.1 s.2.2 (mb_sum (fun i => c i * mb_L a1 f_mi f_mo w n v (a4 i) 0 0) i)) m 0 (0, a7, a8) (by omega) ⟨Nat.zero_le _, Nat.zero_le _, fun i hi => absurd hi (Nat.not_lt_zero i), fun i j hi => absurd hi (Nat.not_lt_zero i), fun _ => 0, fun i hi => absurd hi (Nat.not_lt_zero i), rfl⟩ ?_ ?_
  · intro k s h
    obtain ⟨k1, k2, k3⟩ := h
    refine pk_le m m (fun _ => mb_takeLayer k1 (fun b4 b5 b6 hb => nm_r (nI_1 v) ?_)) (fun z => absurd z (by omega))
    refine H s.1 _ b4 b5 b6 _ _ _ k1 (fun z => ?_) ?_
    · have := hm6 (by omega)
      rw [Nat.pow_succ]
      omega
    · rw [← h4]
      exact mb_Y_congr k3 (fun i hi => ⟨(hb i hi).1, (hb i hi).2.1⟩)
  · intro k i s hi h hs
    obtain ⟨k1, k2, k3⟩ := h
    refine pk_le m i (fun z => absurd z (by omega)) (fun _ => ?_)
    refine mb_count hv hn (by omega) k1 (fun m' hm' o A zo zA dA nA => ?_) k3 (h1 i hi) (h3 i hi) (fun m' b7 b8 j1 j2 j3 j4 => nm_r (nI_1 i) (hs (m', b7, b8) ⟨j3, ?_, j4⟩))
    · by_cases c5 : v ≤ 5
      · have q := hm6 (by omega)
        have q2 : 2 ^ v ≤ 2 ^ 5 := Nat.pow_le_pow_right (by omega) c5
        omega
      · have q := mb_Z_few (m := m') (n := n) (v := v + 1) (A := A) (by omega) zA dA
        have q2 : 2 ^ (n - (v + 1)) ≤ 2 ^ 5 := Nat.pow_le_pow_right (by omega) (by omega)
        omega
    · show m' ≤ 2 * (i + 1)
      omega
theorem mb_as20 {post : Int32 → St2 → Prop} {w : Nat → Nat} {n T : Nat} (hn : n ≤ 12) (H : ∀ (sz ns : Int32) (b4 b5 b6 b7 b8 b9 : Nat → Int32), post (nI T) (nI n, f_w, f_i, f_o, f_mi, f_mo, sz, ns, f_cl, f_cs, f_ex, f_bv, f_bt, a1, a2, a3, b4, b5, b6, b7, b8, b9, a10, a11, a12, a13, a14, a15, a16, a17)) :
    ∀ (d v m : Nat) (ns : Int32) (b4 b5 b6 b7 b8 b9 : Nat → Int32), v + d = n → m ≤ 64 → (v ≤ 6 → m ≤ 2 ^ v) → mb_Y a1 f_mi f_mo w n v m b4 b5 T →
    wX_allowedSets_20 post (d + 1) (nI v) (nI n) f_w f_i f_o f_mi f_mo (nI m) ns f_cl f_cs f_ex f_bv f_bt a1 a2 a3 b4 b5 b6 b7 b8 b9 a10 a11 a12 a13 a14 a15 a16 a17 := by
  intro d
  induction d with
  | zero =>
    intro v m ns b4 b5 b6 b7 b8 b9 hv hm hm6 hY
    have e : v = n := by omega
    subst e
    obtain ⟨h1, h2, c, h3, h4⟩ := hY
    refine pk_le v v (fun _ => mb_as69 hm h3 ?_) (fun z => absurd z (by omega))
    have e : mb_sum c m = T := by
      rw [← h4]
      apply mb_sum_congr
      intro i hi
      rw [mb_L_end, if_pos (Nat.le_refl 0), Nat.mul_one]
    rw [e]
    exact H _ _ _ _ _ _ _ _
  | succ d ih =>
    intro v m ns b4 b5 b6 b7 b8 b9 hv hm hm6 hY
    exact pk_le n v (fun z => absurd z (by omega)) (fun _ => mb_as35 (by omega) hn hm hm6 hY (fun m' ns' c4 c5 c6 c7 c8 c9 k1 k2 k3 => ih (v + 1) m' ns' c4 c5 c6 c7 c8 c9 (by omega) k1 k2 k3))
theorem mb_allowed {post : Int32 → St2 → Prop} {n wd : Nat} {w : Nat → Nat} (hG : mb_G n wd w f_i f_o a1 a2) (H : ∀ (x_mi x_mo x_sz x_ns x_cl x_cs x_ex x_bv x_bt : Int32) (b3 b4 b5 b6 b7 b8 b9 b10 b11 b12 b13 b14 b15 b16 b17 : Nat → Int32), post (nI (mb_L a1 f_i f_o w n 0 (mb_fu n) 0 0)) (nI n, nI wd, f_i, f_o, x_mi, x_mo, x_sz, x_ns, x_cl, x_cs, x_ex, x_bv, x_bt, a1, a2, b3, b4, b5, b6, b7, b8, b9, b10, b11, b12, b13, b14, b15, b16, b17)) : wpX_allowedSets post (nI n, nI wd, f_i, f_o, f_mi, f_mo, f_sz, f_ns, f_cl, f_cs, f_ex, f_bv, f_bt, a1, a2, a3, a4, a5, a6, a7, a8, a9, a10, a11, a12, a13, a14, a15, a16, a17) := by
  obtain ⟨hn0, hn, hw1, hw2, ha, _⟩ := hG
  unfold wpX_allowedSets
  refine mb_takeW hn (fun u hu => (ha u hu).1) (fun b3 h3 => mb_start ⟨n + 1, ?_⟩)
  refine mb_as20 (w := w) (T := mb_L a1 f_i f_o w n 0 (mb_fu n) 0 0) hn (fun sz ns b4 b5 b6 b7 b8 b9 => H _ _ _ _ _ _ _ _ _ _ _ _ _ _ _ _ _ _ _ _ _ _ _ _) n 0 1 _ _ _ _ _ _ _ (by omega) (by omega) (fun _ => by decide) ⟨fun i hi => ?_, fun i j hi hj _ => by omega, fun _ => 1, fun i hi => ?_, ?_⟩
  · have e : i = 0 := by omega
    rw [e, pk_us]
    intro b hb h
    have h' : mb_t (mb_fu n) b = true := h
    rw [mb_tfu (by omega) hb] at h'
    have := of_decide_eq_true h'
    omega
  · have e : i = 0 := by omega
    rw [e, pk_us]
    rfl
  · show 0 + 1 * mb_L a1 f_i f_o w n 0 (upd _ 0 _ 0) 0 0 = _
    rw [pk_us, Nat.zero_add, Nat.one_mul]
    rfl
end
end
section
/-! atLeast: the sets of a weight of b at least, counted from a stack -/
theorem mb_sum_mono {f : Nat → Nat} {a : Nat} : ∀ d, mb_sum f a ≤ mb_sum f (a + d)
  | 0 => Nat.le_refl _
  | d + 1 => Nat.le_trans (mb_sum_mono d) (Nat.le_add_right _ _)
/-- the weight of the vertices from v on -/
def mb_rs (w : Nat → Nat) (n v : Nat) : Nat := mb_sum w n - mb_sum w v
theorem mb_rs_s {w : Nat → Nat} {n v : Nat} (hv : v < n) : mb_rs w n v = mb_rs w n (v + 1) + w v := by
  unfold mb_rs
  have h : mb_sum w (v + 1) ≤ mb_sum w n := by
    have := mb_sum_mono (f := w) (a := v + 1) (n - (v + 1))
    rw [show v + 1 + (n - (v + 1)) = n by omega] at this
    exact this
  have e : mb_sum w (v + 1) = mb_sum w v + w v := rfl
  omega
theorem mb_rs_le {w : Nat → Nat} {n v : Nat} (hn : n ≤ 12) (hw : ∀ u, u < 12 → w u ≤ 30) : mb_rs w n v ≤ 360 := by
  have h : ∀ m, m ≤ 12 → mb_sum w m ≤ 30 * m := by
    intro m
    induction m with
    | zero => intro _; exact Nat.le_refl 0
    | succ m ih =>
      intro hm
      have := ih (by omega)
      have := hw m (by omega)
      show mb_sum w m + w m ≤ _
      omega
  have := h n hn
  unfold mb_rs
  omega
/-- the nodes that wait -/
def mb_Wn (n k : Nat) (a13 a15 : Nat → Int32) : Prop := ∀ i, i < k → ∃ v a, a13 i = nI v ∧ v ≤ n ∧ i ≤ v ∧ a15 i = nI a ∧ a ≤ 30 * v
/-- what they count -/
def mb_Ws (a1 : Nat → Int32) (mi mo : Int32) (w : Nat → Nat) (n b k : Nat) (a13 a14 a15 : Nat → Int32) : Nat := mb_sum (fun i => mb_L a1 mi mo w n (a13 i).toNatClampNeg (a14 i) (a15 i).toNatClampNeg b) k
/-- the steps that they may take -/
def mb_Wp (n k : Nat) (a13 : Nat → Int32) : Nat := mb_sum (fun i => 2 ^ (n + 1 - (a13 i).toNatClampNeg) - 1) k
theorem mb_Ws_s {a1 : Nat → Int32} {mi mo : Int32} {w : Nat → Nat} {n b k v a : Nat} {a13 a14 a15 : Nat → Int32} (h1 : a13 k = nI v) (hv : v < 2 ^ 31) (h2 : a15 k = nI a) (ha : a < 2 ^ 31) : mb_Ws a1 mi mo w n b (k + 1) a13 a14 a15 = mb_Ws a1 mi mo w n b k a13 a14 a15 + mb_L a1 mi mo w n v (a14 k) a b := by
  unfold mb_Ws
  show mb_sum _ k + mb_L a1 mi mo w n (a13 k).toNatClampNeg (a14 k) (a15 k).toNatClampNeg b = _
  rw [h1, h2, nI_clamp hv, nI_clamp ha]
theorem mb_Ws_u {a1 : Nat → Int32} {mi mo : Int32} {w : Nat → Nat} {n b k j : Nat} {a13 a14 a15 : Nat → Int32} {x y z : Int32} (hj : k ≤ j) : mb_Ws a1 mi mo w n b k (upd a13 j x) (upd a14 j y) (upd a15 j z) = mb_Ws a1 mi mo w n b k a13 a14 a15 := by
  unfold mb_Ws
  apply mb_sum_congr
  intro i hi
  have e : i ≠ j := by omega
  rw [pk_un e, pk_un e, pk_un e]
theorem mb_Wp_s {n k v : Nat} {a13 : Nat → Int32} (h1 : a13 k = nI v) (hv : v < 2 ^ 31) : mb_Wp n (k + 1) a13 = mb_Wp n k a13 + (2 ^ (n + 1 - v) - 1) := by
  unfold mb_Wp
  show mb_sum _ k + (2 ^ (n + 1 - (a13 k).toNatClampNeg) - 1) = _
  rw [h1, nI_clamp hv]
theorem mb_Wp_u {n k j : Nat} {a13 : Nat → Int32} {x : Int32} (hj : k ≤ j) : mb_Wp n k (upd a13 j x) = mb_Wp n k a13 := by
  unfold mb_Wp
  apply mb_sum_congr
  intro i hi
  have e : i ≠ j := by omega
  rw [pk_un e]
theorem mb_Wn_u {n k v a : Nat} {a13 a15 : Nat → Int32} (h : mb_Wn n k a13 a15) (h1 : v ≤ n) (h2 : k ≤ v) (h3 : a ≤ 30 * v) : mb_Wn n (k + 1) (upd a13 k (nI v)) (upd a15 k (nI a)) := by
  intro i hi
  by_cases e : i = k
  · rw [e, pk_us, pk_us]
    exact ⟨v, a, rfl, h1, h2, rfl, h3⟩
  · rw [pk_un e, pk_un e]
    exact h i (by omega)
section
variable {f_n f_w f_i f_o f_mi f_mo f_sz f_ns f_cl f_cs f_ex f_bv f_bt : Int32} {a1 a2 a3 a4 a5 a6 a7 a8 a9 a10 a11 a12 a13 a14 a15 a16 a17 : Nat → Int32}
/-- the second child and on -/
theorem mb_at216 {post : Int32 → St2 → Prop} {J : Int32 → Int32 → Int32 → (Nat → Int32) → (Nat → Int32) → (Nat → Int32) → (Nat → Int32) → (Nat → Int32) → (Nat → Int32) → (Nat → Int32) → (Nat → Int32) → (Nat → Int32) → (Nat → Int32) → (Nat → Int32) → (Nat → Int32) → (Nat → Int32) → (Nat → Int32) → (Nat → Int32) → (Nat → Int32) → (Nat → Int32) → Prop} {w : Nat → Nat} {n v a b p st fd : Nat} {x1 o : Int32} (hv : v < n) (hn : n ≤ 12) (hp : p ≤ v + 1) (hw : ∀ u, u < 12 → a2 u = nI (w u) ∧ w u ≤ 30) (ha : a ≤ 30 * v) (hW : mb_Wn n p a13 a15) (hst : st < 8192)
    (H : ∀ (k : Nat) (b13 b14 b15 : Nat → Int32), mb_Wn n k b13 b15 → mb_Wp n k b13 ≤ mb_Wp n p a13 + (2 ^ (n - v) - 1) → mb_Ws a1 f_mi f_mo w n b k b13 b14 b15 = mb_Ws a1 f_mi f_mo w n b p a13 a14 a15 + (if ¬ o &&& mb_bit v = 0 ∧ f_mo &&& mb_bit v = 0 then mb_L a1 f_mi f_mo w n (v + 1) ((o &&& (mb_bit v ^^^ (-1))) &&& (a1 v ^^^ (-1))) (a + w v) b else 0) → J (nI k) (nI fd) (nI (st + 1)) a1 a2 a3 a4 a5 a6 a7 a8 a9 a10 a11 a12 b13 b14 b15 a16 a17) :
    wX_atLeast_216 post J x1 (nI p) (nI fd) (nI st) (nI v) o (nI a) (mb_bit v) f_n f_w f_i f_o f_mi f_mo f_sz f_ns f_cl f_cs f_ex f_bv f_bt a1 a2 a3 a4 a5 a6 a7 a8 a9 a10 a11 a12 a13 a14 a15 a16 a17 := by
  unfold wX_atLeast_216
  rw [nI_clamp (show v < 2 ^ 31 by omega)]
  refine br_c (fun z => nm_r (nI_1 st) (H p a13 a14 a15 hW (by omega) ?_)) (fun z => br_c (fun z2 => ?_) (fun z2 => nm_r (nI_1 st) (H p a13 a14 a15 hW (by omega) ?_)))
  · rw [if_neg (fun q => q.1 z)]; rfl
  · obtain ⟨w1, w2⟩ := hw v (by omega)
    refine mb_stx (x' := nI (v + 1)) p (by omega) (nI_1 v) ⟨pk_in v 12 (by omega), mb_st p (by omega) ⟨pk_in v 12 (by omega), mb_stx (x' := nI (a + w v)) p (by omega) (by rw [w1, nI_add]) (nm_r (nI_1 p) (nm_r (nI_1 st) (H (p + 1) _ _ _ (mb_Wn_u hW (by omega) hp (by omega)) ?_ ?_)))⟩⟩
    · rw [mb_Wp_s (v := v + 1) pk_us (by omega), mb_Wp_u (Nat.le_refl p), show n + 1 - (v + 1) = n - v by omega]
      omega
    · rw [mb_Ws_s (v := v + 1) (a := a + w v) pk_us (by omega) pk_us (by omega), mb_Ws_u (Nat.le_refl p), pk_us, if_pos ⟨z, z2⟩]
  · rw [if_neg (fun q => z2 q.2)]; rfl
theorem mb_at87 {post : Int32 → St2 → Prop} {w : Nat → Nat} {n b T : Nat} (hn : n ≤ 12) (hb : b < 2 ^ 31) (hw : ∀ u, u < 12 → a2 u = nI (w u) ∧ w u ≤ 30) (hr : ∀ u, u ≤ n → a17 u = nI (mb_rs w n u))
    (H : ∀ b13 b14 b15 : Nat → Int32, post (nI T) (nI n, f_w, f_i, f_o, f_mi, f_mo, f_sz, f_ns, f_cl, f_cs, f_ex, f_bv, f_bt, a1, a2, a3, a4, a5, a6, a7, a8, a9, a10, a11, a12, b13, b14, b15, a16, a17)) :
    ∀ (f st k fd : Nat) (b13 b14 b15 : Nat → Int32), 8192 ≤ st + f → st + mb_Wp n k b13 ≤ 8191 → mb_Wn n k b13 b15 → fd + mb_Ws a1 f_mi f_mo w n b k b13 b14 b15 = T →
    wX_atLeast_87 post (nI b) (nI n) f_w f_i f_o f_mi f_mo f_sz f_ns f_cl f_cs f_ex f_bv f_bt (f + 1) (nI k) (nI fd) (nI st) a1 a2 a3 a4 a5 a6 a7 a8 a9 a10 a11 a12 b13 b14 b15 a16 a17 := by
  intro f
  induction f with
  | zero =>
    intro st k fd b13 b14 b15 h1 h2
    exfalso
    omega
  | succ f ih =>
    intro st k fd b13 b14 b15 h1 h2 hW hT
    have hst : st < 8192 := by omega
    have hk : k ≤ 13 := by
      rcases Nat.eq_zero_or_pos k with z | z
      · omega
      · obtain ⟨v, a, _, q1, q2, _⟩ := hW (k - 1) (by omega)
        omega
    refine pk_le 8192 st (fun z => absurd z (by omega)) (fun _ => pk_le k 0 (fun z => ?_) (fun z => ?_))
    · have e : k = 0 := by omega
      subst e
      have e2 : fd = T := hT
      rw [e2]
      exact H b13 b14 b15
    obtain ⟨p, rfl⟩ : ∃ p, k = p + 1 := ⟨k - 1, by omega⟩
    obtain ⟨v, a, e13, hv, hpv, e15, ha⟩ := hW p (by omega)
    have hW' : mb_Wn n p b13 b15 := fun i hi => hW i (by omega)
    rw [mb_Wp_s e13 (by omega)] at h2
    rw [mb_Ws_s e13 (by omega) e15 (by omega)] at hT
    have hpow : 2 ^ 1 ≤ 2 ^ (n + 1 - v) := Nat.pow_le_pow_right (by omega) (by omega)
    refine nm_r (pk_m1 p) (mb_ld p (by omega) (mb_ld p (by omega) (mb_ld p (by omega) ?_)))
    rw [e13, e15]
    refine pk_eq v n (fun c => ?_) (fun c => ⟨pk_in v 13 (by omega), ?_⟩)
    · subst c
      rw [mb_L_end] at hT
      refine pk_lt a b (fun d => nm_r (e' := nI fd) ?_ (nm_r (nI_1 st) (ih (st + 1) p fd b13 b14 b15 (by omega) (by omega) hW' ?_))) (fun d => nm_r (nI_1 fd) (nm_r (nI_1 st) (ih (st + 1) p (fd + 1) b13 b14 b15 (by omega) (by omega) hW' ?_)))
      · show nI fd + nI 0 = nI fd
        rw [nI_add]
        rfl
      · rw [if_neg (by omega)] at hT
        omega
      · rw [if_pos d] at hT
        omega
    · have hvn : v < n := by omega
      have hrl : mb_rs w n v ≤ 360 := mb_rs_le hn (fun u hu => (hw u hu).2)
      rw [nI_clamp (show v < 2 ^ 31 by omega), nI_clamp (show p < 2 ^ 31 by omega), hr v (by omega), nI_add]
      have hpw : 2 ^ (n + 1 - v) = 2 * 2 ^ (n - v) := by
        rw [show n + 1 - v = (n - v) + 1 by omega, Nat.pow_succ]
        omega
      have hpw1 : 1 ≤ 2 ^ (n - v) := Nat.one_le_two_pow
      refine pk_lt (a + mb_rs w n v) b (fun d => nm_r (nI_1 st) (ih (st + 1) p fd b13 b14 b15 (by omega) (by omega) hW' ?_)) (fun d => nm_r (e' := mb_bit v) rfl (br_c (fun z1 => ?_) (fun z1 => ?_)))
      · rw [mb_L_cut (r := mb_rs w n) (fun u hu => mb_rs_s hu) v (by omega) _ _ _ d] at hT
        omega
      · rw [mb_L_eq hvn, if_pos z1] at hT
        refine ⟨pk_in p 256 (by omega), nm_r (by rw [nI_1]) ⟨pk_in p 256 (by omega), nm_e ⟨pk_in p 256 (by omega), nm_e (nm_r (nI_1 p) ?_)⟩⟩⟩
        refine mb_at216 (w := w) (b := b) hvn hn (by omega) hw ha (mb_Wn_u (v := v + 1) hW' (by omega) (by omega) (by omega)) hst (fun k c13 c14 c15 j1 j2 j3 => ih (st + 1) k fd c13 c14 c15 (by omega) ?_ j1 ?_)
        · rw [mb_Wp_s (v := v + 1) pk_us (by omega), mb_Wp_u (Nat.le_refl p), show n + 1 - (v + 1) = n - v by omega] at j2
          omega
        · rw [j3, mb_Ws_s (v := v + 1) (a := a) pk_us (by omega) pk_us (by omega), mb_Ws_u (Nat.le_refl p), pk_us]
          omega
      · rw [mb_L_eq hvn, if_neg z1] at hT
        refine mb_at216 (w := w) (b := b) hvn hn (by omega) hw ha hW' hst (fun k c13 c14 c15 j1 j2 j3 => ih (st + 1) k fd c13 c14 c15 (by omega) ?_ j1 ?_)
        · omega
        · rw [j3]
          omega
theorem mb_sub1 (x : Int32) : x - 1 = x + (-1) := by
  rw [Int32.sub_eq_add_neg]
theorem mb_at21 {post : Int32 → St2 → Prop} {w : Nat → Nat} {n b : Nat} (h0 : 0 < n) (hn : n ≤ 12) (hb : b < 2 ^ 31) (hw : ∀ u, u < 12 → a2 u = nI (w u) ∧ w u ≤ 30)
    (H : ∀ b13 b14 b15 b17 : Nat → Int32, post (nI (mb_L a1 f_mi f_mo w n 0 (mb_fu n) 0 b)) (nI n, f_w, f_i, f_o, f_mi, f_mo, f_sz, f_ns, f_cl, f_cs, f_ex, f_bv, f_bt, a1, a2, a3, a4, a5, a6, a7, a8, a9, a10, a11, a12, b13, b14, b15, a16, b17)) :
    ∀ (v : Nat) (b17 : Nat → Int32), v ≤ n → (∀ u, v ≤ u → u ≤ n → b17 u = nI (mb_rs w n u)) → wX_atLeast_21 post (nI b) (nI n) f_w f_i f_o f_mi f_mo f_sz f_ns f_cl f_cs f_ex f_bv f_bt (v + 1) (nI v + (-1)) a1 a2 a3 a4 a5 a6 a7 a8 a9 a10 a11 a12 a13 a14 a15 a16 b17 := by
  intro v
  induction v with
  | zero =>
    intro b17 _ h17
    refine br_t (by decide) (nm_e (nm_e (nm_e ⟨8192 + 1, ?_⟩)))
    refine mb_at87 (T := mb_L a1 f_mi f_mo w n 0 (mb_fu n) 0 b) hn hb hw (fun u hu => h17 u (by omega) hu) (fun b13 b14 b15 => H b13 b14 b15 b17) 8192 0 1 0 _ _ _ (by omega) ?_ ?_ ?_
    · rw [mb_Wp_s (v := 0) (by rw [pk_us]; rfl) (by omega)]
      have : 2 ^ (n + 1 - 0) ≤ 2 ^ 13 := Nat.pow_le_pow_right (by omega) (by omega)
      show 0 + (0 + (2 ^ (n + 1 - 0) - 1)) ≤ 8191
      omega
    · intro i hi
      have e : i = 0 := by omega
      subst e
      rw [pk_us, pk_us]
      exact ⟨0, 0, rfl, by omega, by omega, rfl, by omega⟩
    · rw [mb_Ws_s (v := 0) (a := 0) (by rw [pk_us]; rfl) (by omega) (by rw [pk_us]; rfl) (by omega), pk_us]
      show 0 + (0 + _) = _
      rw [Nat.zero_add, Nat.zero_add]
      rfl
  | succ v ih =>
    intro b17 hv h17
    rw [pk_m1]
    refine br_f (nI_pos (by omega)) ?_
    rw [nI_1, nI_clamp (show v < 2 ^ 31 by omega), nI_clamp (show v + 1 < 2 ^ 31 by omega)]
    refine ⟨pk_in (v + 1) 13 (by omega), pk_in v 12 (by omega), pk_in v 13 (by omega), nm_e (nm_e (ih _ (by omega) (fun u h1 h2 => ?_)))⟩
    by_cases e : u = v
    · rw [e, pk_us, h17 (v + 1) (by omega) (by omega), (hw v (by omega)).1, nI_add, ← mb_rs_s (show v < n by omega)]
    · rw [pk_un e]
      exact h17 u (by omega) h2
theorem mb_atLeast {post : Int32 → St2 → Prop} {n wd b : Nat} {w : Nat → Nat} (hG : mb_G n wd w f_i f_o a1 a2) (hb : b < 2 ^ 31) (H : ∀ (x_mi x_mo x_sz x_ns x_cl x_cs x_ex x_bv x_bt : Int32) (b3 b4 b5 b6 b7 b8 b9 b10 b11 b12 b13 b14 b15 b16 b17 : Nat → Int32), post (nI (mb_L a1 f_i f_o w n 0 (mb_fu n) 0 b)) (nI n, nI wd, f_i, f_o, x_mi, x_mo, x_sz, x_ns, x_cl, x_cs, x_ex, x_bv, x_bt, a1, a2, b3, b4, b5, b6, b7, b8, b9, b10, b11, b12, b13, b14, b15, b16, b17)) : wpX_atLeast post (nI n, nI wd, f_i, f_o, f_mi, f_mo, f_sz, f_ns, f_cl, f_cs, f_ex, f_bv, f_bt, a1, a2, a3, a4, a5, a6, a7, a8, a9, a10, a11, a12, a13, a14, a15, a16, a17) (nI b) := by
  obtain ⟨hn0, hn, hw1, hw2, ha, _⟩ := hG
  unfold wpX_atLeast
  refine mb_takeW hn (fun u hu => (ha u hu).1) (fun b3 h3 => mb_st n (by omega) (nm_r (mb_sub1 (nI n)) ⟨n + 1, ?_⟩))
  refine mb_at21 (by omega) hn hb ha (fun b13 b14 b15 b17 => H _ _ _ _ _ _ _ _ _ _ _ _ _ _ _ _ _ _ _ _ _ _ _ _) n _ (Nat.le_refl n) (fun u h1 h2 => ?_)
  have e : u = n := by omega
  rw [e, pk_us]
  unfold mb_rs
  rw [Nat.sub_self]
  rfl
end
end
section
/-! the calls that change the graph, the weights and the demands -/
def mb_Gr (n : Nat) (a1 : Nat → Int32) : Prop := (∀ u v, u < n → v < n → mb_t (a1 u) v = mb_t (a1 v) u) ∧ (∀ u, u < n → mb_t (a1 u) u = false)
def mb_Ff (n : Nat) (fi fo : Int32) : Prop := ∀ b, b < 32 → mb_t fi b = true → b < n ∧ mb_t fo b = false
theorem mb_G_of {n wd : Nat} {w : Nat → Nat} {fi fo : Int32} {a1 a2 : Nat → Int32} (h1 : 2 ≤ n) (h2 : n ≤ 12) (h3 : 1 ≤ wd) (h4 : wd ≤ 16) (h5 : ∀ u, u < 12 → a2 u = nI (w u) ∧ w u ≤ 30) (h6 : mb_Gr n a1) (h7 : mb_Ff n fi fo) : mb_G n wd w fi fo a1 a2 :=
  ⟨h1, h2, h3, h4, h5, h6.1, h6.2, h7⟩
theorem mb_Gr_set {n u v : Nat} {a1 : Nat → Int32} {F : Int32 → Nat → Int32} {th : Bool} (hn : n ≤ 12) (hu : u < n) (hv : v < n) (hne : u ≠ v) (hF : ∀ x p b, p < 12 → b < 32 → mb_t (F x p) b = if b = p then th else mb_t x b) (h : mb_Gr n a1) : mb_Gr n (upd (upd a1 u (F (a1 u) v)) v (F (upd a1 u (F (a1 u) v) v) u)) := by
  rw [pk_un (fun e => hne e.symm)]
  have key : ∀ x y, x < n → y < n → mb_t (upd (upd a1 u (F (a1 u) v)) v (F (a1 v) u) x) y = if (x = u ∧ y = v) ∨ (x = v ∧ y = u) then th else mb_t (a1 x) y := by
    intro x y hx hy
    by_cases c1 : x = v
    · rw [c1, pk_us, hF _ _ _ (by omega) (by omega)]
      by_cases c2 : y = u
      · rw [if_pos c2, if_pos (Or.inr ⟨rfl, c2⟩)]
      · rw [if_neg c2, if_neg (by omega)]
    · rw [pk_un c1]
      by_cases c2 : x = u
      · rw [c2, pk_us, hF _ _ _ (by omega) (by omega)]
        by_cases c3 : y = v
        · rw [if_pos c3, if_pos (Or.inl ⟨rfl, c3⟩)]
        · rw [if_neg c3, if_neg (by omega)]
      · rw [pk_un c2, if_neg (by omega)]
  refine ⟨fun x y hx hy => ?_, fun x hx => ?_⟩
  · rw [key x y hx hy, key y x hy hx, h.1 x y hx hy]
    by_cases c : (x = u ∧ y = v) ∨ (x = v ∧ y = u)
    · rw [if_pos c, if_pos (by omega)]
    · rw [if_neg c, if_neg (by omega)]
  · rw [key x x hx hx, if_neg (by omega)]
    exact h.2 x hx
theorem mb_F0 (x : Int32) (p b : Nat) (hp : p < 12) (hb : b < 32) : mb_t (x &&& (mb_bit p ^^^ (-1))) b = if b = p then false else mb_t x b := by
  rw [mb_clr _ (by omega) hb]
  by_cases c : b = p
  · rw [if_pos c, decide_eq_true c]; exact Bool.and_false _
  · rw [if_neg c, decide_eq_false c]; exact Bool.and_true _
theorem mb_F1 (x : Int32) (p b : Nat) (hp : p < 12) (hb : b < 32) : mb_t (x ||| mb_bit p) b = if b = p then true else mb_t x b := by
  rw [mb_tor _ (by omega)]
  by_cases c : b = p
  · rw [if_pos c, decide_eq_true c, Bool.or_true]
  · rw [if_neg c, decide_eq_false c, Bool.or_false]
section
variable {f_n f_w f_i f_o f_mi f_mo f_sz f_ns f_cl f_cs f_ex f_bv f_bt : Int32} {a1 a2 a3 a4 a5 a6 a7 a8 a9 a10 a11 a12 a13 a14 a15 a16 a17 : Nat → Int32}
theorem mb_setEdge {post : St2 → Prop} {n u v : Nat} {p2 : Int32} (hn : n ≤ 12) (hu : u < n) (hv : v < n) (hne : u ≠ v) (hG : mb_Gr n a1) (H : ∀ b1 : Nat → Int32, mb_Gr n b1 → post (f_n, f_w, f_i, f_o, f_mi, f_mo, f_sz, f_ns, f_cl, f_cs, f_ex, f_bv, f_bt, b1, a2, a3, a4, a5, a6, a7, a8, a9, a10, a11, a12, a13, a14, a15, a16, a17)) : wpX_setEdge post (f_n, f_w, f_i, f_o, f_mi, f_mo, f_sz, f_ns, f_cl, f_cs, f_ex, f_bv, f_bt, a1, a2, a3, a4, a5, a6, a7, a8, a9, a10, a11, a12, a13, a14, a15, a16, a17) (nI u) (nI v) p2 := by
  refine br_c (fun z => ⟨pk_in u 12 (by omega), ?_⟩) (fun z => ⟨pk_in u 12 (by omega), ?_⟩)
  · unfold wX_setEdge_34
    rw [nI_clamp (show u < 2 ^ 31 by omega), nI_clamp (show v < 2 ^ 31 by omega)]
    exact ⟨pk_in u 12 (by omega), nm_e (br_t z ⟨pk_in v 12 (by omega), pk_in v 12 (by omega), nm_e (H _ (mb_Gr_set (F := fun x p => x &&& (mb_bit p ^^^ (-1))) hn hu hv hne mb_F0 hG))⟩)⟩
  · unfold wX_setEdge_34
    rw [nI_clamp (show u < 2 ^ 31 by omega), nI_clamp (show v < 2 ^ 31 by omega)]
    exact ⟨pk_in u 12 (by omega), nm_e (br_f z ⟨pk_in v 12 (by omega), pk_in v 12 (by omega), nm_e (H _ (mb_Gr_set (F := fun x p => x ||| mb_bit p) hn hu hv hne mb_F1 hG))⟩)⟩
theorem mb_edge {post : Int32 → St2 → Prop} {n u v : Nat} {p2 : Int32} (hn : n ≤ 12) (hu : u < n) (hv : v < n) (hG : mb_Gr n a1) (H : ∀ (r : Int32) (b1 : Nat → Int32), mb_Gr n b1 → post r (nI n, f_w, f_i, f_o, f_mi, f_mo, f_sz, f_ns, f_cl, f_cs, f_ex, f_bv, f_bt, b1, a2, a3, a4, a5, a6, a7, a8, a9, a10, a11, a12, a13, a14, a15, a16, a17)) : wpX_edge post (nI n, f_w, f_i, f_o, f_mi, f_mo, f_sz, f_ns, f_cl, f_cs, f_ex, f_bv, f_bt, a1, a2, a3, a4, a5, a6, a7, a8, a9, a10, a11, a12, a13, a14, a15, a16, a17) (nI u) (nI v) p2 := by
  unfold wpX_edge
  refine mb_isV hn hu (br_f (by decide) (mb_isV hn hv (br_f (by decide) (pk_eq u v (fun e => H _ a1 hG) (fun e => ⟨pk_in u 12 (by omega), nm_e (br_c (fun _ => ?_) (fun _ => ?_))⟩)))))
  · exact mb_setEdge hn hu hv e hG (fun b1 h => H _ b1 h)
  · exact mb_setEdge hn hu hv e hG (fun b1 h => H _ b1 h)
theorem mb_ch93 {post : Int32 → St2 → Prop} {n : Nat} (hn : n ≤ 12) (H : ∀ r : Int32, post r (nI n, f_w, f_i, f_o, f_mi, f_mo, f_sz, f_ns, f_cl, f_cs, f_ex, f_bv, f_bt, a1, a2, a3, a4, a5, a6, a7, a8, a9, a10, a11, a12, a13, a14, a15, a16, a17)) : ∃ k, wX_chain_93 post (nI n) f_w f_i f_o f_mi f_mo f_sz f_ns f_cl f_cs f_ex f_bv f_bt a1 a2 a3 a4 a5 a6 a7 a8 a9 a10 a11 a12 a13 a14 a15 a16 a17 k 0 0 := by
  refine pk_loop (fun k i s => wX_chain_93 post (nI n) f_w f_i f_o f_mi f_mo f_sz f_ns f_cl f_cs f_ex f_bv f_bt a1 a2 a3 a4 a5 a6 a7 a8 a9 a10 a11 a12 a13 a14 a15 a16 a17 k s (nI i)) (fun i s => True) n 0 0 (by omega) trivial ?_ ?_
  · intro k s _
    exact pk_le n n (fun _ => H _) (fun z => absurd z (by omega))
  · intro k i s hi _ hs
    exact pk_le n i (fun z => absurd z (by omega)) (fun _ => ⟨pk_in i 12 (by omega), mb_ones (nm_e (nm_r (nI_1 i) (hs _ trivial)))⟩)
theorem mb_chain {post : Int32 → St2 → Prop} {n u st c : Nat} (hn0 : 0 < n) (hn : n ≤ 12) (hu : u < n) (hs1 : 1 ≤ st) (hs2 : st ≤ 11) (hc1 : 1 ≤ c) (hc2 : c ≤ 12) (hG : mb_Gr n a1) (H : ∀ (r : Int32) (b1 : Nat → Int32), mb_Gr n b1 → post r (nI n, f_w, f_i, f_o, f_mi, f_mo, f_sz, f_ns, f_cl, f_cs, f_ex, f_bv, f_bt, b1, a2, a3, a4, a5, a6, a7, a8, a9, a10, a11, a12, a13, a14, a15, a16, a17)) : wpX_chain post (nI n, f_w, f_i, f_o, f_mi, f_mo, f_sz, f_ns, f_cl, f_cs, f_ex, f_bv, f_bt, a1, a2, a3, a4, a5, a6, a7, a8, a9, a10, a11, a12, a13, a14, a15, a16, a17) (nI u) (nI st) (nI c) := by
  unfold wpX_chain
  refine mb_isV hn hu (br_f (by decide) (pk_lt st 1 (fun z => absurd z (by omega)) (fun _ => pk_le st 11 (fun _ => pk_lt c 1 (fun z => absurd z (by omega)) (fun _ => pk_le c 12 (fun _ => ?_) (fun z => absurd z (by omega)))) (fun z => absurd z (by omega)))))
  refine pk_loop (σ := Nat × (Nat → Int32)) (fun k i s => wX_chain_44 post (nI st) (nI c) k (nI s.1) (nI i) (nI n) f_w f_i f_o f_mi f_mo f_sz f_ns f_cl f_cs f_ex f_bv f_bt s.2 a2 a3 a4 a5 a6 a7 a8 a9 a10 a11 a12 a13 a14 a15 a16 a17) (fun i s => s.1 < n ∧ mb_Gr n s.2) c 0 (u, a1) (by omega) ⟨hu, hG⟩ ?_ ?_
  · intro k s h
    exact pk_le c c (fun _ => mb_ch93 hn (fun r => H r s.2 h.2)) (fun z => absurd z (by omega))
  · intro k i s hi h hs
    obtain ⟨h1, h2⟩ := h
    have hm : (s.1 + st) % n < n := Nat.mod_lt _ hn0
    refine pk_le c i (fun z => absurd z (by omega)) (fun _ => ⟨nI_ne0 hn0 (by omega), nm_r (e' := nI ((s.1 + st) % n)) (by rw [nI_add, pk_rem (by omega) hn0 (by omega)]) (pk_eq ((s.1 + st) % n) s.1 (fun e => nm_r (nI_1 i) ?_) (fun e => ?_))⟩)
    · exact hs ((s.1 + st) % n, s.2) ⟨hm, h2⟩
    · exact mb_setEdge hn h1 hm (fun q => e q.symm) h2 (fun b1 hb => nm_r (nI_1 i) (hs ((s.1 + st) % n, b1) ⟨hm, hb⟩))
theorem mb_weigh {post : Int32 → St2 → Prop} {n v q : Nat} {w : Nat → Nat} (hn : n ≤ 12) (hv : v < n) (hq : q ≤ 30) (hw : ∀ u, u < 12 → a2 u = nI (w u) ∧ w u ≤ 30) (H : ∀ (r : Int32) (b2 : Nat → Int32) (w' : Nat → Nat), (∀ u, u < 12 → b2 u = nI (w' u) ∧ w' u ≤ 30) → post r (nI n, f_w, f_i, f_o, f_mi, f_mo, f_sz, f_ns, f_cl, f_cs, f_ex, f_bv, f_bt, a1, b2, a3, a4, a5, a6, a7, a8, a9, a10, a11, a12, a13, a14, a15, a16, a17)) : wpX_weigh post (nI n, f_w, f_i, f_o, f_mi, f_mo, f_sz, f_ns, f_cl, f_cs, f_ex, f_bv, f_bt, a1, a2, a3, a4, a5, a6, a7, a8, a9, a10, a11, a12, a13, a14, a15, a16, a17) (nI v) (nI q) := by
  unfold wpX_weigh
  refine mb_isV hn hv (br_f (by decide) (pk_lt q 0 (fun z => absurd z (by omega)) (fun _ => pk_le q 30 (fun _ => mb_ld v (by omega) (mb_st v (by omega) (H _ _ (fun u => if u = v then q else w u) (fun u hu => ?_)))) (fun z => absurd z (by omega)))))
  show upd a2 v (nI q) u = nI (if u = v then q else w u) ∧ (if u = v then q else w u) ≤ 30
  by_cases e : u = v
  · rw [if_pos e, e, pk_us]
    exact ⟨rfl, hq⟩
  · rw [if_neg e, pk_un e]
    exact hw u hu
theorem mb_force {post : Int32 → St2 → Prop} {n v q : Nat} (hn : n ≤ 12) (hv : v < n) (hq : q ≤ 2) (hf : mb_Ff n f_i f_o) (H : ∀ (r fi fo : Int32), mb_Ff n fi fo → post r (nI n, f_w, fi, fo, f_mi, f_mo, f_sz, f_ns, f_cl, f_cs, f_ex, f_bv, f_bt, a1, a2, a3, a4, a5, a6, a7, a8, a9, a10, a11, a12, a13, a14, a15, a16, a17)) : wpX_force post (nI n, f_w, f_i, f_o, f_mi, f_mo, f_sz, f_ns, f_cl, f_cs, f_ex, f_bv, f_bt, a1, a2, a3, a4, a5, a6, a7, a8, a9, a10, a11, a12, a13, a14, a15, a16, a17) (nI v) (nI q) := by
  have c1 : mb_Ff n (f_i ||| mb_bit v) (f_o &&& (mb_bit v ^^^ (-1))) := by
    intro b hb h
    rw [mb_F1 _ _ _ (by omega) hb] at h
    rw [mb_F0 _ _ _ (by omega) hb]
    by_cases e : b = v
    · rw [if_pos e]
      exact ⟨by omega, rfl⟩
    · rw [if_neg e] at h ⊢
      exact hf b hb h
  have c2 : mb_Ff n (f_i &&& (mb_bit v ^^^ (-1))) (f_o ||| mb_bit v) := by
    intro b hb h
    rw [mb_F0 _ _ _ (by omega) hb] at h
    rw [mb_F1 _ _ _ (by omega) hb]
    by_cases e : b = v
    · rw [if_pos e] at h
      exact absurd h (by decide)
    · rw [if_neg e] at h ⊢
      exact hf b hb h
  have c0 : mb_Ff n (f_i &&& (mb_bit v ^^^ (-1))) (f_o &&& (mb_bit v ^^^ (-1))) := by
    intro b hb h
    rw [mb_F0 _ _ _ (by omega) hb] at h ⊢
    by_cases e : b = v
    · rw [if_pos e] at h
      exact absurd h (by decide)
    · rw [if_neg e] at h ⊢
      exact hf b hb h
  have B : ∀ z : Int32, wX_force_57 post (nI q) (mb_bit v) z (nI n) f_w f_i f_o f_mi f_mo f_sz f_ns f_cl f_cs f_ex f_bv f_bt a1 a2 a3 a4 a5 a6 a7 a8 a9 a10 a11 a12 a13 a14 a15 a16 a17 := fun z =>
    pk_eq q 1 (fun e => pk_eq q 2 (fun e2 => absurd e2 (by omega)) (fun e2 => nm_e (H _ _ _ c1))) (fun e => pk_eq q 2 (fun e2 => nm_e (H _ _ _ c2)) (fun e2 => nm_e (H _ _ _ c0)))
  have A : ∀ z : Int32, wX_force_40 post (nI q) (mb_bit v) z (nI n) f_w f_i f_o f_mi f_mo f_sz f_ns f_cl f_cs f_ex f_bv f_bt a1 a2 a3 a4 a5 a6 a7 a8 a9 a10 a11 a12 a13 a14 a15 a16 a17 := fun z => br_c (fun _ => B z) (fun _ => B 2)
  unfold wpX_force
  exact mb_isV hn hv (br_f (by decide) (pk_lt q 0 (fun z => absurd z (by omega)) (fun _ => pk_le q 2 (fun _ => nm_r (e' := mb_bit v) rfl (br_c (fun _ => A 0) (fun _ => A 1))) (fun z => absurd z (by omega)))))
theorem mb_turn {post : St2 → Prop} {n wd : Nat} {w : Nat → Nat} {p2 p3 p4 : Int32} (hG : mb_G n wd w f_i f_o a1 a2) (H : ∀ (fi fo : Int32) (b1 b2 : Nat → Int32) (w' : Nat → Nat), mb_G n wd w' fi fo b1 b2 → post (nI n, nI wd, fi, fo, f_mi, f_mo, f_sz, f_ns, f_cl, f_cs, f_ex, f_bv, f_bt, b1, b2, a3, a4, a5, a6, a7, a8, a9, a10, a11, a12, a13, a14, a15, a16, a17)) : wpL_turn post (nI n, nI wd, f_i, f_o, f_mi, f_mo, f_sz, f_ns, f_cl, f_cs, f_ex, f_bv, f_bt, a1, a2, a3, a4, a5, a6, a7, a8, a9, a10, a11, a12, a13, a14, a15, a16, a17) (nI n) p2 p3 p4 := by
  obtain ⟨hn0, hn, hw1, hw2, ha, hg1, hg2, hf⟩ := hG
  have hGr : mb_Gr n a1 := ⟨hg1, hg2⟩
  have hF : mb_Ff n f_i f_o := hf
  have hE : ∀ b1 : Nat → Int32, mb_Gr n b1 → mb_G n wd w f_i f_o b1 a2 := fun b1 h => mb_G_of hn0 hn hw1 hw2 ha h hF
  have rm : ∀ (x : Int32) (d : Nat), 0 < d → d ≤ 31 → ∀ (m : Int32) (k : Nat), k ≤ 5 → m.toBitVec.toNat = 2 ^ k - 1 → ∃ j, j < d ∧ (x &&& m) - (x &&& m) / nI d * nI d = nI j := by
    intro x d h1 h2 m k hk hm
    obtain ⟨j, hj, ej⟩ := pk_andE x k hm
    have hp : 2 ^ k ≤ 2 ^ 5 := Nat.pow_le_pow_right (by omega) hk
    refine ⟨j % d, Nat.mod_lt _ h1, ?_⟩
    rw [ej, pk_rem (by omega) h1 (by omega)]
  obtain ⟨u, hu, eu⟩ := rm p3 n (by omega) (by omega) 15 4 (by omega) (by decide)
  obtain ⟨v, hv, ev⟩ := rm (p3 >>> ((4 : Int32) &&& 31)) n (by omega) (by omega) 15 4 (by omega) (by decide)
  obtain ⟨s, hs, es⟩ := rm p4 11 (by omega) (by omega) 15 4 (by omega) (by decide)
  obtain ⟨c, hc, ec⟩ := rm (p4 >>> ((4 : Int32) &&& 31)) 12 (by omega) (by omega) 15 4 (by omega) (by decide)
  obtain ⟨q, hq, eq⟩ := rm p4 31 (by omega) (by omega) 31 5 (by omega) (by decide)
  obtain ⟨h, hh, eh⟩ := rm p4 3 (by omega) (by omega) 3 2 (by omega) (by decide)
  have es' : 1 + ((p4 &&& 15) - (p4 &&& 15) / 11 * 11) = nI (1 + s) := by
    have e : (p4 &&& 15) - (p4 &&& 15) / 11 * 11 = nI s := es
    rw [e]
    show nI 1 + nI s = _
    rw [nI_add]
  have ec' : 1 + (((p4 >>> ((4 : Int32) &&& 31)) &&& 15) - ((p4 >>> ((4 : Int32) &&& 31)) &&& 15) / 12 * 12) = nI (1 + c) := by
    have e : ((p4 >>> ((4 : Int32) &&& 31)) &&& 15) - ((p4 >>> ((4 : Int32) &&& 31)) &&& 15) / 12 * 12 = nI c := ec
    rw [e]
    show nI 1 + nI c = _
    rw [nI_add]
  have eq' : (p4 &&& 31) - (p4 &&& 31) / 31 * 31 = nI q := eq
  have eh' : (p4 &&& 3) - (p4 &&& 3) / 3 * 3 = nI h := eh
  have hn1 : ¬ nI n = 0 := nI_ne0 (by omega) (by omega)
  unfold wpL_turn
  refine ⟨hn1, nm_r eu ⟨hn1, nm_r ev ?_⟩⟩
  rw [es', ec', eq', eh']
  refine br_c (fun _ => br_c (fun _ => ?_) (fun _ => br_c (fun _ => ⟨by decide, by decide, ?_⟩) (fun _ => br_c (fun _ => ⟨by decide, ?_⟩) (fun _ => ⟨by decide, ?_⟩)))) (fun _ => ?_)
  · exact mb_edge hn hu hv hGr (fun r b1 hb => H _ _ _ _ _ (hE b1 hb))
  · exact mb_chain (by omega) hn hu (by omega) (by omega) (by omega) (by omega) hGr (fun r b1 hb => H _ _ _ _ _ (hE b1 hb))
  · exact mb_force hn hu (by omega) hF (fun r fi fo hb => H _ _ _ _ _ (mb_G_of hn0 hn hw1 hw2 ha hGr hb))
  · exact mb_weigh hn hu (by omega) ha (fun r b2 w' hb => H _ _ _ _ _ (mb_G_of hn0 hn hw1 hw2 hb hGr hF))
  · exact mb_edge hn hu hv hGr (fun r b1 hb => H _ _ _ _ _ (hE b1 hb))
end
end
section
/-! the law's checks -/
theorem mb_nz {x : Int32} (h : ¬ x = 0) : ∃ b, b < 32 ∧ mb_t x b = true := by
  apply Classical.byContradiction
  intro c
  apply h
  apply mb_ext
  intro i hi
  rw [mb_0]
  cases e : mb_t x i
  · rfl
  · exact absurd ⟨i, hi, e⟩ c
theorem mb_poss1 {n wd : Nat} {w g : Nat → Nat} {fi fo : Int32} {a1 a2 : Nat → Int32} (hG : mb_G n wd w fi fo a1 a2) (h : ∀ v, v < n → mb_t fi v = true → a1 v &&& fi = 0) : ∃ x, mb_D a1 fi fo g n 0 (mb_fu n) x := by
  obtain ⟨hn0, hn, hw1, hw2, ha, hg1, hg2, hf⟩ := hG
  refine mb_D_ex hn (fun p q hp hq h1 h2 => ?_) (fun p hp h1 => (hf p (by omega) h1).2) 0 (by omega) (mb_fu n) (fun p _ hp _ => ?_)
  · have e := congrArg (fun y => mb_t y q) (h p hp h1)
    have e' : mb_t (a1 p &&& fi) q = mb_t 0 q := e
    rw [mb_and, mb_0, h2, Bool.and_true] at e'
    exact e'
  · rw [mb_tfu (by omega) (by omega)]
    exact decide_eq_true hp
theorem mb_poss0 {n wd v : Nat} {w g : Nat → Nat} {fi fo : Int32} {a1 a2 : Nat → Int32} (hG : mb_G n wd w fi fo a1 a2) (hv : v < n) (h1 : mb_t fi v = true) (h2 : ¬ a1 v &&& fi = 0) : ∀ x, ¬ mb_D a1 fi fo g n 0 (mb_fu n) x := by
  obtain ⟨hn0, hn, hw1, hw2, ha, hg1, hg2, hf⟩ := hG
  obtain ⟨q, hq, e⟩ := mb_nz h2
  rw [mb_and] at e
  have e' : mb_t (a1 v) q = true ∧ mb_t fi q = true := by simpa using e
  have hqn := (hf q hq e'.2).1
  intro x
  rcases Nat.lt_trichotomy v q with c | c | c
  · exact mb_D_two hn c hqn h1 e'.2 e'.1 0 (by omega) (by omega) _ x
  · rw [← c, hg2 v hv] at e'
    exact absurd e'.1 (by decide)
  · rw [hg1 v q hv hqn] at e'
    exact mb_D_two hn c hv e'.2 h1 e'.1 0 (by omega) (by omega) _ x
theorem mb_Bw_one {a1 : Nat → Int32} {mi mo : Int32} {g : Nat → Nat} {n : Nat} {r r' : Int32} (h : mb_Bw a1 mi mo g n r) (h' : mb_Bw a1 mi mo g n r') : r' = r := by
  have l1 := mb_Bw_le h h' (fun x hx => hx)
  have l2 := mb_Bw_le h' h (fun x hx => hx)
  exact Int32.toInt_inj.mp (by omega)
section
variable {f_n f_w f_i f_o f_mi f_mo f_sz f_ns f_cl f_cs f_ex f_bv f_bt : Int32} {a1 a2 a3 a4 a5 a6 a7 a8 a9 a10 a11 a12 a13 a14 a15 a16 a17 : Nat → Int32}
theorem mb_h138 {post : Int32 → St2 → Prop} {n wd : Nat} {w : Nat → Nat} (hG : mb_G n wd w f_i f_o a1 a2) (H : ∀ (x_mi x_mo x_sz x_ns x_cl x_cs x_ex x_bv x_bt : Int32) (b3 b4 b5 b6 b7 b8 b9 b10 b11 b12 b13 b14 b15 b16 b17 : Nat → Int32), post 1 (nI n, nI wd, f_i, f_o, x_mi, x_mo, x_sz, x_ns, x_cl, x_cs, x_ex, x_bv, x_bt, a1, a2, b3, b4, b5, b6, b7, b8, b9, b10, b11, b12, b13, b14, b15, b16, b17)) : wL_holds_138 post (nI n) (nI n) (nI wd) f_i f_o f_mi f_mo f_sz f_ns f_cl f_cs f_ex f_bv f_bt a1 a2 a3 a4 a5 a6 a7 a8 a9 a10 a11 a12 a13 a14 a15 a16 a17 := by
  have hn := hG.2.1
  unfold wL_holds_138
  refine mb_leastCover hG (fun X x_mi x_mo x_sz x_ns x_cl x_cs x_ex x_bv x_bt b3 b4 b5 b6 b7 b8 b9 b10 b11 b12 b13 b14 b15 b16 b17 hA => ?_)
  refine mb_alpha hG (fun X' x_mi x_mo x_sz x_ns x_cl x_cs x_ex x_bv x_bt b3 b4 b5 b6 b7 b8 b9 b10 b11 b12 b13 b14 b15 b16 b17 hA' => ?_)
  refine mb_size ?_
  have e : X' = X := by
    have l1 := hA.2.2 X' hA'.2.1
    have l2 := hA'.2.2 X hA.2.1
    omega
  subst e
  refine br_t ?_ (H _ _ _ _ _ _ _ _ _ _ _ _ _ _ _ _ _ _ _ _ _ _ _ _)
  rw [nI_add, mb_cover hn hA.1]
theorem mb_h127 {post : Int32 → St2 → Prop} {n wd : Nat} {w : Nat → Nat} {x2 x4 : Int32} (hG : mb_G n wd w f_i f_o a1 a2) (h : x2 = 0 → x4 = 0) (H : ∀ (x_mi x_mo x_sz x_ns x_cl x_cs x_ex x_bv x_bt : Int32) (b3 b4 b5 b6 b7 b8 b9 b10 b11 b12 b13 b14 b15 b16 b17 : Nat → Int32), post 1 (nI n, nI wd, f_i, f_o, x_mi, x_mo, x_sz, x_ns, x_cl, x_cs, x_ex, x_bv, x_bt, a1, a2, b3, b4, b5, b6, b7, b8, b9, b10, b11, b12, b13, b14, b15, b16, b17)) : wL_holds_127 post (nI n) x2 x4 (nI n) (nI wd) f_i f_o f_mi f_mo f_sz f_ns f_cl f_cs f_ex f_bv f_bt a1 a2 a3 a4 a5 a6 a7 a8 a9 a10 a11 a12 a13 a14 a15 a16 a17 :=
  br_c (fun z => br_t (h z) (mb_h138 hG H)) (fun _ => mb_h138 hG H)
theorem mb_bestSets {post : Int32 → St2 → Prop} {n wd : Nat} {w : Nat → Nat} {r : Int32} (hG : mb_G n wd w f_i f_o a1 a2) (hr : mb_Bw a1 f_i f_o (mb_g w) n r) (H0 : ∀ (x_mi x_mo x_sz x_ns x_cl x_cs x_ex x_bv x_bt : Int32) (b3 b4 b5 b6 b7 b8 b9 b10 b11 b12 b13 b14 b15 b16 b17 : Nat → Int32), r = -1 → post 0 (nI n, nI wd, f_i, f_o, x_mi, x_mo, x_sz, x_ns, x_cl, x_cs, x_ex, x_bv, x_bt, a1, a2, b3, b4, b5, b6, b7, b8, b9, b10, b11, b12, b13, b14, b15, b16, b17)) (H1 : ∀ (X : Nat) (x_mi x_mo x_sz x_ns x_cl x_cs x_ex x_bv x_bt : Int32) (b3 b4 b5 b6 b7 b8 b9 b10 b11 b12 b13 b14 b15 b16 b17 : Nat → Int32), r = nI (X / 4096) → X ≤ 131072 * 12 → mb_D a1 f_i f_o (mb_g w) n 0 (mb_fu n) X → post (nI (mb_L a1 f_i f_o w n 0 (mb_fu n) 0 (X / 4096))) (nI n, nI wd, f_i, f_o, x_mi, x_mo, x_sz, x_ns, x_cl, x_cs, x_ex, x_bv, x_bt, a1, a2, b3, b4, b5, b6, b7, b8, b9, b10, b11, b12, b13, b14, b15, b16, b17)) : wpX_bestSets post (nI n, nI wd, f_i, f_o, f_mi, f_mo, f_sz, f_ns, f_cl, f_cs, f_ex, f_bv, f_bt, a1, a2, a3, a4, a5, a6, a7, a8, a9, a10, a11, a12, a13, a14, a15, a16, a17) := by
  unfold wpX_bestSets
  refine mb_best hG (fun r' x_mi x_mo x_sz x_ns x_cl x_cs x_ex x_bv x_bt b3 b4 b5 b6 b7 b8 b9 b10 b11 b12 b13 b14 b15 b16 b17 hr' => ?_)
  have e := mb_Bw_one hr hr'
  subst e
  rcases hr with ⟨e, _⟩ | ⟨X, e, hX, hD, _⟩
  · subst e
    exact br_f (by decide) (H0 _ _ _ _ _ _ _ _ _ _ _ _ _ _ _ _ _ _ _ _ _ _ _ _ rfl)
  · subst e
    exact br_t (nI_pos' (by omega)) (mb_atLeast hG (by omega) (fun x_mi x_mo x_sz x_ns x_cl x_cs x_ex x_bv x_bt b3 b4 b5 b6 b7 b8 b9 b10 b11 b12 b13 b14 b15 b16 b17 => H1 X _ _ _ _ _ _ _ _ _ _ _ _ _ _ _ _ _ _ _ _ _ _ _ _ rfl hX hD))
theorem mb_h49 {post : Int32 → St2 → Prop} {n wd : Nat} {w : Nat → Nat} {x2 r : Int32} (hG : mb_G n wd w f_i f_o a1 a2) (hr : mb_Bw a1 f_i f_o (mb_g w) n r) (hx : x2 = 0 → r = -1) (hx1 : r = -1 → x2 = 0) (H : ∀ (x_mi x_mo x_sz x_ns x_cl x_cs x_ex x_bv x_bt : Int32) (b3 b4 b5 b6 b7 b8 b9 b10 b11 b12 b13 b14 b15 b16 b17 : Nat → Int32), post 1 (nI n, nI wd, f_i, f_o, x_mi, x_mo, x_sz, x_ns, x_cl, x_cs, x_ex, x_bv, x_bt, a1, a2, b3, b4, b5, b6, b7, b8, b9, b10, b11, b12, b13, b14, b15, b16, b17)) :
    ∀ (d v : Nat) (x_mi x_mo x_sz x_ns x_cl x_cs x_ex x_bv x_bt : Int32) (b3 b4 b5 b6 b7 b8 b9 b10 b11 b12 b13 b14 b15 b16 b17 : Nat → Int32), v + d = n → wL_holds_49 post (nI n) x2 r (d + 1) (nI v) (nI n) (nI wd) f_i f_o x_mi x_mo x_sz x_ns x_cl x_cs x_ex x_bv x_bt a1 a2 b3 b4 b5 b6 b7 b8 b9 b10 b11 b12 b13 b14 b15 b16 b17 := by
  have hn := hG.2.1
  intro d
  induction d with
  | zero =>
    intro v x_mi x_mo x_sz x_ns x_cl x_cs x_ex x_bv x_bt b3 b4 b5 b6 b7 b8 b9 b10 b11 b12 b13 b14 b15 b16 b17 hv
    have ev : v = n := by omega
    subst ev
    refine pk_le v v (fun _ => ?_) (fun z => absurd z (by omega))
    refine mb_bestSets hG hr (fun x_mi x_mo x_sz x_ns x_cl x_cs x_ex x_bv x_bt b3 b4 b5 b6 b7 b8 b9 b10 b11 b12 b13 b14 b15 b16 b17 e => ?_) (fun X x_mi x_mo x_sz x_ns x_cl x_cs x_ex x_bv x_bt b3 b4 b5 b6 b7 b8 b9 b10 b11 b12 b13 b14 b15 b16 b17 e hX hD => ?_)
    · exact br_t (hx1 e) (mb_h127 hG (fun _ => rfl) H)
    · subst e
      have hne : ¬ x2 = 0 := by
        intro z
        have q := congrArg Int32.toInt (hx z)
        rw [nI_toInt (by omega), mb_m1T] at q
        omega
      refine br_f hne (mb_atLeast hG (by omega) (fun x_mi x_mo x_sz x_ns x_cl x_cs x_ex x_bv x_bt b3 b4 b5 b6 b7 b8 b9 b10 b11 b12 b13 b14 b15 b16 b17 => br_t rfl ?_))
      have h1 := mb_L_pos (mi := f_i) (mo := f_o) (a1 := a1) hn (fun u _ => rfl) 0 (by omega) (mb_fu v) X 0 (X / 4096) hD (by omega)
      have h2 := mb_L_le (a1 := a1) (mi := f_i) (mo := f_o) (w := w) (n := v) 0 (by omega) (mb_fu v) 0 (X / 4096)
      have h3 : 2 ^ (v - 0) ≤ 2 ^ 12 := Nat.pow_le_pow_right (by omega) (by omega)
      exact pk_lt (mb_L a1 f_i f_o w v 0 (mb_fu v) 0 (X / 4096)) 1 (fun z => absurd z (by omega)) (fun _ => mb_h127 hG (fun z => absurd z hne) H)
  | succ d ih =>
    intro v x_mi x_mo x_sz x_ns x_cl x_cs x_ex x_bv x_bt b3 b4 b5 b6 b7 b8 b9 b10 b11 b12 b13 b14 b15 b16 b17 hv
    refine pk_le n v (fun z => absurd z (by omega)) (fun _ => ?_)
    refine mb_bestWith hG (by omega) (fun r1 x_mi x_mo x_sz x_ns x_cl x_cs x_ex x_bv x_bt b3 b4 b5 b6 b7 b8 b9 b10 b11 b12 b13 b14 b15 b16 b17 h1 => ?_)
    refine mb_bestWithout hG (by omega) (fun r2 x_mi x_mo x_sz x_ns x_cl x_cs x_ex x_bv x_bt b3 b4 b5 b6 b7 b8 b9 b10 b11 b12 b13 b14 b15 b16 b17 h2 => ?_)
    have key := mb_Bw_max hn (by omega) hr h1 h2
    refine br_c (fun z => ?_) (fun z => ?_)
    · exact br_t (key.1 z) (nm_r (nI_1 v) (ih (v + 1) _ _ _ _ _ _ _ _ _ _ _ _ _ _ _ _ _ _ _ _ _ _ _ _ (by omega)))
    · exact br_t (key.2 z) (nm_r (nI_1 v) (ih (v + 1) _ _ _ _ _ _ _ _ _ _ _ _ _ _ _ _ _ _ _ _ _ _ _ _ (by omega)))
theorem mb_h28 {post : Int32 → St2 → Prop} {n wd : Nat} {w : Nat → Nat} {x2 r : Int32} (hG : mb_G n wd w f_i f_o a1 a2) (hr : mb_Bw a1 f_i f_o (mb_g w) n r) (hx : x2 = 0 → r = -1) (hx1 : r = -1 → x2 = 0) (H : ∀ (x_mi x_mo x_sz x_ns x_cl x_cs x_ex x_bv x_bt : Int32) (b3 b4 b5 b6 b7 b8 b9 b10 b11 b12 b13 b14 b15 b16 b17 : Nat → Int32), post 1 (nI n, nI wd, f_i, f_o, x_mi, x_mo, x_sz, x_ns, x_cl, x_cs, x_ex, x_bv, x_bt, a1, a2, b3, b4, b5, b6, b7, b8, b9, b10, b11, b12, b13, b14, b15, b16, b17)) : wL_holds_28 post (nI n) x2 r x2 (nI n) (nI wd) f_i f_o f_mi f_mo f_sz f_ns f_cl f_cs f_ex f_bv f_bt a1 a2 a3 a4 a5 a6 a7 a8 a9 a10 a11 a12 a13 a14 a15 a16 a17 := by
  unfold wL_holds_28
  refine br_t rfl (mb_allowed hG (fun x_mi x_mo x_sz x_ns x_cl x_cs x_ex x_bv x_bt b3 b4 b5 b6 b7 b8 b9 b10 b11 b12 b13 b14 b15 b16 b17 => ?_))
  refine mb_atLeast (b := 0) hG (by omega) (fun x_mi x_mo x_sz x_ns x_cl x_cs x_ex x_bv x_bt b3 b4 b5 b6 b7 b8 b9 b10 b11 b12 b13 b14 b15 b16 b17 => br_t rfl ⟨n + 1, ?_⟩)
  exact mb_h49 hG hr hx hx1 H n 0 _ _ _ _ _ _ _ _ _ _ _ _ _ _ _ _ _ _ _ _ _ _ _ _ (by omega)
theorem mb_holds {post : Int32 → St2 → Prop} {n wd : Nat} {w : Nat → Nat} (hG : mb_G n wd w f_i f_o a1 a2) (H : ∀ (x_mi x_mo x_sz x_ns x_cl x_cs x_ex x_bv x_bt : Int32) (b3 b4 b5 b6 b7 b8 b9 b10 b11 b12 b13 b14 b15 b16 b17 : Nat → Int32), post 1 (nI n, nI wd, f_i, f_o, x_mi, x_mo, x_sz, x_ns, x_cl, x_cs, x_ex, x_bv, x_bt, a1, a2, b3, b4, b5, b6, b7, b8, b9, b10, b11, b12, b13, b14, b15, b16, b17)) : wpL_holds post (nI n, nI wd, f_i, f_o, f_mi, f_mo, f_sz, f_ns, f_cl, f_cs, f_ex, f_bv, f_bt, a1, a2, a3, a4, a5, a6, a7, a8, a9, a10, a11, a12, a13, a14, a15, a16, a17) (nI n) := by
  have hn := hG.2.1
  unfold wpL_holds
  refine mb_possible hn (fun h => br_t rfl ?_) (fun v hv h1 h2 => br_f (by decide) ?_)
  · obtain ⟨x, hx⟩ := mb_poss1 (g := mb_g w) hG h
    unfold wL_holds_13
    refine mb_best hG (fun r x_mi x_mo x_sz x_ns x_cl x_cs x_ex x_bv x_bt b3 b4 b5 b6 b7 b8 b9 b10 b11 b12 b13 b14 b15 b16 b17 hr => ?_)
    rcases hr with ⟨_, e⟩ | ⟨X, e, hX, hD, hm⟩
    · exact absurd hx (e x)
    · have hne : ¬ r = -1 := by
        intro z
        have q := congrArg Int32.toInt z
        rw [e, nI_toInt (by omega), mb_m1T] at q
        omega
      refine br_f ?_ (mb_h28 hG (Or.inr ⟨X, e, hX, hD, hm⟩) (fun z => absurd z (by decide)) (fun z => absurd z hne) H)
      rw [e]
      exact nI_pos (by omega)
  · have hx := mb_poss0 (g := mb_g w) hG hv h1 h2
    unfold wL_holds_13
    refine mb_best hG (fun r x_mi x_mo x_sz x_ns x_cl x_cs x_ex x_bv x_bt b3 b4 b5 b6 b7 b8 b9 b10 b11 b12 b13 b14 b15 b16 b17 hr => ?_)
    rcases hr with ⟨e, e2⟩ | ⟨X, e, hX, hD, hm⟩
    · refine br_t ?_ (mb_h28 hG (Or.inl ⟨e, e2⟩) (fun _ => e) (fun _ => rfl) H)
      rw [e]
      decide
    · exact absurd hD (hx X)
end
end
section
/-! the law -/
section
variable {f_n f_w f_i f_o f_mi f_mo f_sz f_ns f_cl f_cs f_ex f_bv f_bt : Int32} {a1 a2 a3 a4 a5 a6 a7 a8 a9 a10 a11 a12 a13 a14 a15 a16 a17 : Nat → Int32}
theorem mb_i204 {post : St2 → Prop} {mc ms kc ks : Nat} (H : ∀ b2 : Nat → Int32, (∀ u, u < 12 → b2 u = nI 1) → post (f_n, f_w, f_i, f_o, f_mi, f_mo, f_sz, f_ns, f_cl, f_cs, f_ex, f_bv, f_bt, a1, b2, a3, a4, a5, a6, a7, a8, a9, a10, a11, a12, a13, a14, a15, a16, a17)) : ∃ k, wX_init_204 post mc ms kc ks f_n f_w f_i f_o f_mi f_mo f_sz f_ns f_cl f_cs f_ex f_bv f_bt k 0 a1 a2 a3 a4 a5 a6 a7 a8 a9 a10 a11 a12 a13 a14 a15 a16 a17 := by
  refine pk_loop (fun k i s => wX_init_204 post mc ms kc ks f_n f_w f_i f_o f_mi f_mo f_sz f_ns f_cl f_cs f_ex f_bv f_bt k (nI i) a1 s a3 a4 a5 a6 a7 a8 a9 a10 a11 a12 a13 a14 a15 a16 a17) (fun i s => ∀ u, u < i → s u = nI 1) 12 0 a2 (by omega) (fun j hj => absurd hj (by omega)) ?_ ?_
  · intro k s h
    exact pk_le 12 12 (fun _ => H s h) (fun z => absurd z (by omega))
  · intro k i s hi h hs
    refine pk_le 12 i (fun z => absurd z (by omega)) (fun _ => mb_stx (x' := nI 1) i (by omega) rfl (nm_r (nI_1 i) (hs _ ?_)))
    intro u hu
    by_cases e : u = i
    · rw [e, pk_us]
    · rw [pk_un e]
      exact h u (by omega)
end
theorem mb_init {post : St2 → Prop} {n q : Nat} (hn0 : 2 ≤ n) (hn : n ≤ 12) (hq : q < 32) (H : ∀ (wd : Nat) (b2 : Nat → Int32), mb_G n wd (fun _ => 1) 0 0 (fun _ => 0) b2 → post (nI n, nI wd, 0, 0, 0, 0, 0, 0, 0, 0, 0, 0, 0, fun _ => 0, b2, fun _ => 0, fun _ => 0, fun _ => 0, fun _ => 0, fun _ => 0, fun _ => 0, fun _ => 0, fun _ => 0, fun _ => 0, fun _ => 0, fun _ => 0, fun _ => 0, fun _ => 0, fun _ => 0, fun _ => 0)) :
    wpX_init post 17 1649 (0, 0, 0, 0, 0, 0, 0, 0, 0, 0, 0, 0, 0) (nI n) (nI q) := by
  have hG : ∀ (wd : Nat) (b2 : Nat → Int32), 1 ≤ wd → wd ≤ 16 → (∀ u, u < 12 → b2 u = nI 1) → mb_G n wd (fun _ => 1) 0 0 (fun _ => 0) b2 := fun wd b2 h1 h2 h3 =>
    mb_G_of hn0 hn h1 h2 (fun u hu => ⟨h3 u hu, by omega⟩) ⟨fun u v _ _ => by rw [mb_0, mb_0], fun u _ => mb_0 u⟩ (fun b _ h => absurd h (by rw [mb_0]; decide))
  unfold wpX_init
  refine ⟨by decide, by decide, by decide, by decide, by decide, by decide, by decide, by decide, by decide, by decide, by decide, by decide, by decide, by decide, by decide, by decide, by decide, by decide, by decide, by decide, by decide, by decide, by decide, by decide, by decide, by decide, by decide, by decide, by decide, by decide, by decide, by decide, by decide, by decide, ?_⟩
  refine pk_le 2 n (fun _ => pk_le n 12 (fun _ => pk_le 1 q (fun h1 => pk_le q 16 (fun h2 => ?_) (fun h2 => ?_)) (fun h1 => pk_le 1 16 (fun h2 => ?_) (fun h2 => absurd h2 (by omega)))) (fun z => absurd z (by omega))) (fun z => absurd z (by omega))
  · exact mb_i204 (fun b2 hb => H q b2 (hG q b2 h1 h2 hb))
  · exact mb_i204 (fun b2 hb => H 16 b2 (hG 16 b2 (by omega) (by omega) hb))
  · exact mb_i204 (fun b2 hb => H 1 b2 (hG 1 b2 (by omega) (by omega) hb))
theorem mb_cell {post : Int32 → Prop} {L k : Nat} {xs : Nat → Int32} (hL : L ≤ 260) (hk : k ≤ 1000) (H : ∀ r, post r) : wpL_cell post L xs () (nI k) :=
  pk_le L k (fun _ => H _) (fun z => ⟨pk_in k L z, H _⟩)
theorem mb_law36 {L n wd kc ks : Nat} {xs : Nat → Int32} (hL : L ≤ 260) :
    ∀ (d k : Nat) (fi fo : Int32) (c1 c2 : Nat → Int32) (w : Nat → Nat) (x_mi x_mo x_sz x_ns x_cl x_cs x_ex x_bv x_bt : Int32) (b3 b4 b5 b6 b7 b8 b9 b10 b11 b12 b13 b14 b15 b16 b17 : Nat → Int32), L ≤ k + 2 * d → k ≤ 2 + L → mb_G n wd w fi fo c1 c2 → wL_law_36 (fun r => r = 1) L xs (nI n) kc ks (d + 1) (nI k) (nI n) (nI wd) fi fo x_mi x_mo x_sz x_ns x_cl x_cs x_ex x_bv x_bt c1 c2 b3 b4 b5 b6 b7 b8 b9 b10 b11 b12 b13 b14 b15 b16 b17 := by
  intro d
  induction d with
  | zero =>
    intro k fi fo c1 c2 w x_mi x_mo x_sz x_ns x_cl x_cs x_ex x_bv x_bt b3 b4 b5 b6 b7 b8 b9 b10 b11 b12 b13 b14 b15 b16 b17 h1 h2 hG
    exact pk_le L k (fun _ => mb_holds hG (fun x_mi x_mo x_sz x_ns x_cl x_cs x_ex x_bv x_bt b3 b4 b5 b6 b7 b8 b9 b10 b11 b12 b13 b14 b15 b16 b17 => rfl)) (fun z => absurd z (by omega))
  | succ d ih =>
    intro k fi fo c1 c2 w x_mi x_mo x_sz x_ns x_cl x_cs x_ex x_bv x_bt b3 b4 b5 b6 b7 b8 b9 b10 b11 b12 b13 b14 b15 b16 b17 h1 h2 hG
    refine pk_le L k (fun _ => mb_holds hG (fun x_mi x_mo x_sz x_ns x_cl x_cs x_ex x_bv x_bt b3 b4 b5 b6 b7 b8 b9 b10 b11 b12 b13 b14 b15 b16 b17 => rfl)) (fun z => ?_)
    refine mb_cell hL (by omega) (fun r1 => ?_)
    rw [nI_1]
    refine mb_cell hL (by omega) (fun r2 => ?_)
    refine mb_turn hG (fun fi' fo' d1 d2 w' hG' => ?_)
    have e2 : nI k + 2 = nI (k + 2) := nI_add k 2
    refine br_c (fun _ => mb_holds hG' (fun x_mi x_mo x_sz x_ns x_cl x_cs x_ex x_bv x_bt b3 b4 b5 b6 b7 b8 b9 b10 b11 b12 b13 b14 b15 b16 b17 => br_f (by decide) (nm_r e2 ?_))) (fun _ => nm_r e2 ?_)
    · exact ih (k + 2) fi' fo' d1 d2 w' _ _ _ _ _ _ _ _ _ _ _ _ _ _ _ _ _ _ _ _ _ _ _ _ (by omega) (by omega) hG'
    · exact ih (k + 2) fi' fo' d1 d2 w' _ _ _ _ _ _ _ _ _ _ _ _ _ _ _ _ _ _ _ _ _ _ _ _ (by omega) (by omega) hG'
theorem i_vc (xs : Nat → Int32) (L : Nat) (hL : L ≤ 260) : wpL_law (fun r => r = 1) L xs := by
  unfold wpL_law
  refine mb_cell (k := 0) hL (by omega) (fun r1 => ⟨by decide, ?_⟩)
  obtain ⟨j, hj, ej⟩ := pk_andE r1 (m := 2147483647) 31 (by decide)
  have hm : j % 11 < 11 := Nat.mod_lt _ (by omega)
  have e : 2 + ((r1 &&& 2147483647) - (r1 &&& 2147483647) / 11 * 11) = nI (2 + j % 11) := by
    rw [ej]
    have e1 : nI j - nI j / 11 * 11 = nI (j % 11) := pk_rem (a := j) (d := 11) hj (by omega) (by omega)
    rw [e1]
    exact nI_add 2 (j % 11)
  refine nm_r e (mb_cell (k := 1) hL (by omega) (fun r2 => ?_))
  obtain ⟨q, hq, eq⟩ := pk_andE r2 (m := 31) 5 (by decide)
  refine nm_r eq ⟨17, 1649, by omega, by omega, ?_⟩
  refine mb_init (by omega) (by omega) hq (fun wd b2 hG => ⟨L + 1, ?_⟩)
  exact mb_law36 hL L 2 0 0 (fun _ => 0) b2 (fun _ => 1) _ _ _ _ _ _ _ _ _ _ _ _ _ _ _ _ _ _ _ _ _ _ _ _ (by omega) (by omega) hG
end
