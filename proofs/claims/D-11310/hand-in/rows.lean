section
/-! ===== 01: bits of Int64 sets, counts, byte codes: no program in sight ===== -/
/-- a set of lines, bit by bit -/
def la_has (x : Int64) (f : Nat → Bool) : Prop := ∀ k, k < 64 → x.toBitVec.getLsbD k = f k
theorem la_c : ∀ k, k < 64 → (((nI k).toInt64 &&& 63).toBitVec.smod 64).toNat = k := by decide +kernel
theorem la_bel : ∀ e, e < 64 → ∀ k, k < 64 → (((1 : Int64) <<< ((nI e).toInt64 &&& 63)) - 1).toBitVec.getLsbD k = decide (k < e) := by decide +kernel
theorem la_bit : ∀ e, e < 64 → ∀ k, k < 64 → ((1 : Int64) <<< ((nI e).toInt64 &&& 63)).toBitVec.getLsbD k = decide (k = e) := by decide +kernel
theorem la_m1 : ∀ k, k < 64 → (-1 : Int64).toBitVec.getLsbD k = true := by decide +kernel
theorem la_z : ∀ k, k < 64 → (0 : Int64).toBitVec.getLsbD k = false := by decide +kernel
theorem la_one : ∀ k, k < 64 → (1 : Int64).toBitVec.getLsbD k = decide (k = 0) := by decide +kernel
theorem la_has_0 : la_has 0 (fun _ => false) := la_z
theorem la_has_congr {x : Int64} {f g : Nat → Bool} (h : la_has x f) (e : ∀ k, k < 64 → f k = g k) : la_has x g := fun k hk => (h k hk).trans (e k hk)
theorem la_has_bit {e : Nat} (he : e < 64) : la_has ((1 : Int64) <<< ((nI e).toInt64 &&& 63)) (fun k => decide (k = e)) := la_bit e he
theorem la_has_bel {e : Nat} (he : e < 64) : la_has (((1 : Int64) <<< ((nI e).toInt64 &&& 63)) - 1) (fun k => decide (k < e)) := la_bel e he
theorem la_has_or {x y : Int64} {f g : Nat → Bool} (hx : la_has x f) (hy : la_has y g) : la_has (x ||| y) (fun k => f k || g k) := by
  intro k hk
  rw [Int64.toBitVec_or, BitVec.getLsbD_or, hx k hk, hy k hk]
theorem la_has_and {x y : Int64} {f g : Nat → Bool} (hx : la_has x f) (hy : la_has y g) : la_has (x &&& y) (fun k => f k && g k) := by
  intro k hk
  rw [Int64.toBitVec_and, BitVec.getLsbD_and, hx k hk, hy k hk]
theorem la_has_not {x : Int64} {f : Nat → Bool} (hx : la_has x f) : la_has (x ^^^ (-1)) (fun k => !f k) := by
  intro k hk
  rw [Int64.toBitVec_xor, BitVec.getLsbD_xor, hx k hk, la_m1 k hk, Bool.xor_true]
theorem la_ext {x y : Int64} (h : ∀ k, k < 64 → x.toBitVec.getLsbD k = y.toBitVec.getLsbD k) : x = y := Int64.toBitVec_inj.mp (BitVec.eq_of_getLsbD_eq (fun i hi => h i hi))
theorem la_has_z {x : Int64} {f : Nat → Bool} (hx : la_has x f) : x = 0 ↔ ∀ k, k < 64 → f k = false := by
  constructor
  · intro e k hk
    rw [← hx k hk, e]
    exact la_z k hk
  · intro h
    exact la_ext (fun k hk => by rw [hx k hk, h k hk, la_z k hk])
theorem la_shr0 {x : Int64} {k : Nat} (hk : k < 64) : (x >>> ((nI k).toInt64 &&& 63)).toBitVec.getLsbD 0 = x.toBitVec.getLsbD k := by
  rw [Int64.toBitVec_shiftRight]
  show (x.toBitVec.sshiftRight (((nI k).toInt64 &&& 63).toBitVec.smod 64).toNat).getLsbD 0 = _
  rw [la_c k hk, BitVec.getLsbD_sshiftRight]
  simp [hk]
theorem la_and1 (y : Int32) : y &&& 1 = if y.toBitVec.getLsbD 0 = true then 1 else 0 := by
  rw [pk_and y 1 (by decide)]
  show nI (y.toBitVec.toNat % 2) = if y.toBitVec.toNat.testBit 0 = true then 1 else 0
  rw [Nat.testBit_zero]
  rcases Nat.mod_two_eq_zero_or_one y.toBitVec.toNat with h | h
  · rw [h]; rfl
  · rw [h]; rfl
theorem la_narrow0 (y : Int64) : y.toInt32.toBitVec.getLsbD 0 = y.toBitVec.getLsbD 0 := by
  rw [Int64.toBitVec_toInt32, BitVec.getLsbD_signExtend]
  simp
/-- the bit that 'ones' adds -/
theorem la_ones1 {x : Int64} {f : Nat → Bool} (h : la_has x f) {k : Nat} (hk : k < 64) : ((x >>> ((nI k).toInt64 &&& 63)).toInt32 &&& 1) = nI (if f k = true then 1 else 0) := by
  rw [la_and1, la_narrow0, la_shr0 hk, h k hk]
  by_cases e : f k = true
  · rw [if_pos e, if_pos e]; rfl
  · rw [if_neg e, if_neg e]; rfl
/-- the bit that 'lowest' asks for -/
theorem la_low1 {x : Int64} {f : Nat → Bool} (h : la_has x f) {k : Nat} (hk : k < 64) : ((x >>> ((nI k).toInt64 &&& 63)) &&& 1) = 0 ↔ f k = false := by
  constructor
  · intro e
    have t := la_z 0 (by omega)
    rw [← e, Int64.toBitVec_and, BitVec.getLsbD_and, la_shr0 hk, h k hk, la_one 0 (by omega)] at t
    simpa using t
  · intro e
    apply la_ext
    intro i hi
    rw [Int64.toBitVec_and, BitVec.getLsbD_and, la_one i hi, la_z i hi]
    by_cases z : i = 0
    · rw [z, la_shr0 hk, h k hk, e]; rfl
    · rw [decide_eq_false z, Bool.and_false]
/-- how many of the first n -/
def la_cnt (f : Nat → Bool) : Nat → Nat
  | 0 => 0
  | n + 1 => la_cnt f n + (if f n = true then 1 else 0)
theorem la_cnt_le (f : Nat → Bool) (n : Nat) : la_cnt f n ≤ n := by
  induction n with
  | zero => exact Nat.le_refl 0
  | succ n ih =>
    show la_cnt f n + (if f n = true then 1 else 0) ≤ n + 1
    split <;> omega
theorem la_cnt_congr {f g : Nat → Bool} {n : Nat} (h : ∀ k, k < n → f k = g k) : la_cnt f n = la_cnt g n := by
  induction n with
  | zero => rfl
  | succ n ih =>
    show la_cnt f n + (if f n = true then 1 else 0) = la_cnt g n + (if g n = true then 1 else 0)
    rw [ih (fun k hk => h k (by omega)), h n (by omega)]
theorem la_cnt_cut {f : Nat → Bool} {n m : Nat} (hm : n ≤ m) (h : ∀ k, n ≤ k → f k = false) : la_cnt f m = la_cnt f n := by
  induction m with
  | zero => rw [show n = 0 by omega]
  | succ m ih =>
    by_cases e : n = m + 1
    · rw [e]
    · show la_cnt f m + (if f m = true then 1 else 0) = la_cnt f n
      rw [ih (by omega), h m (by omega)]
      rfl
theorem la_cnt_pos {f : Nat → Bool} {n : Nat} : 0 < la_cnt f n ↔ ∃ k, k < n ∧ f k = true := by
  induction n with
  | zero => exact ⟨fun h => absurd h (Nat.lt_irrefl 0), fun ⟨k, h, _⟩ => absurd h (Nat.not_lt_zero k)⟩
  | succ n ih =>
    show 0 < la_cnt f n + (if f n = true then 1 else 0) ↔ _
    constructor
    · intro h
      by_cases e : f n = true
      · exact ⟨n, by omega, e⟩
      · rw [if_neg e] at h
        obtain ⟨k, hk, hf⟩ := ih.mp h
        exact ⟨k, by omega, hf⟩
    · intro ⟨k, hk, hf⟩
      by_cases e : k = n
      · rw [← e, if_pos hf]; omega
      · have := ih.mpr ⟨k, by omega, hf⟩
        omega
theorem la_cnt_two {f g : Nat → Bool} {n : Nat} (h : ∀ k, k < n → f k = !g k) : la_cnt f n + la_cnt g n = n := by
  induction n with
  | zero => rfl
  | succ n ih =>
    have i := ih (fun k hk => h k (by omega))
    have z := h n (by omega)
    show la_cnt f n + (if f n = true then 1 else 0) + (la_cnt g n + (if g n = true then 1 else 0)) = n + 1
    rw [z]
    cases g n
    · simp; omega
    · simp; omega
/-- the last number of a kind before a line -/
def la_prev (sh f : Nat → Nat) (s : Nat) : Nat → Nat
  | 0 => 0
  | k + 1 => if sh k = s then f k else la_prev sh f s k
theorem la_prev_t {sh f : Nat → Nat} {s k : Nat} (h : sh k = s) : la_prev sh f s (k + 1) = f k := if_pos h
theorem la_prev_f {sh f : Nat → Nat} {s k : Nat} (h : ¬ sh k = s) : la_prev sh f s (k + 1) = la_prev sh f s k := if_neg h
theorem la_prev_lt {sh f : Nat → Nat} {s k M : Nat} (hM : 0 < M) (h : ∀ j, j < k → f j < M) : la_prev sh f s k < M := by
  induction k with
  | zero => exact hM
  | succ k ih =>
    by_cases e : sh k = s
    · rw [la_prev_t e]; exact h k (by omega)
    · rw [la_prev_f e]; exact ih (fun j hj => h j (by omega))
theorem la_prev_congr {sh sh' f : Nat → Nat} {s k : Nat} (h : ∀ j, j < k → sh j = sh' j) : la_prev sh f s k = la_prev sh' f s k := by
  induction k with
  | zero => rfl
  | succ k ih =>
    show (if sh k = s then f k else la_prev sh f s k) = (if sh' k = s then f k else la_prev sh' f s k)
    rw [h k (by omega), ih (fun j hj => h j (by omega))]
theorem la_prev_none {sh f : Nat → Nat} {s k : Nat} (h : ∀ j, j < k → ¬ sh j = s) : la_prev sh f s k = 0 := by
  induction k with
  | zero => rfl
  | succ k ih => rw [la_prev_f (h k (by omega))]; exact ih (fun j hj => h j (by omega))
/-- the difference that a code stands for -/
def la_val (c : Nat) : Int32 := if c % 2 = 0 then nI (c / 2) else -(nI ((c + 1) / 2))
/-- the bytes from P on hold the difference d, and end at P' -/
def la_dec (m : Nat → Int32) (P : Nat) (d : Int32) (P' : Nat) : Prop := ∃ c : Nat, c < 1024 ∧ d = la_val c ∧ ((c < 128 ∧ P' = P + 1 ∧ m P &&& 255 = nI c) ∨ (128 ≤ c ∧ P' = P + 2 ∧ m P &&& 255 = nI (c % 128 + 128) ∧ m (P + 1) &&& 255 = nI (c / 128)))
theorem la_dec_le {m : Nat → Int32} {P P' : Nat} {d : Int32} (h : la_dec m P d P') : P < P' ∧ P' ≤ P + 2 := by
  obtain ⟨c, _, _, h⟩ := h
  rcases h with ⟨_, h, _⟩ | ⟨_, h, _, _⟩ <;> omega
theorem la_dec_keep {m m' : Nat → Int32} {P P' : Nat} {d : Int32} (h : la_dec m P d P') (e : ∀ j, j < P' → m' j = m j) : la_dec m' P d P' := by
  obtain ⟨c, hc, hd, h⟩ := h
  refine ⟨c, hc, hd, ?_⟩
  rcases h with ⟨a, b, z⟩ | ⟨a, b, z, y⟩
  · exact Or.inl ⟨a, b, by rw [e P (by omega)]; exact z⟩
  · exact Or.inr ⟨a, b, by rw [e P (by omega)]; exact z, by rw [e (P + 1) (by omega)]; exact y⟩
theorem la_or7 : ∀ c, c < 1024 → (nI (c % 128 + 128) &&& 127) ||| (nI (c / 128) <<< ((7 : Int32) &&& 31)) = nI c := by decide +kernel
theorem la_and1c : ∀ c, c < 1024 → ((nI c &&& 1) = 0 ↔ c % 2 = 0) := by decide +kernel
theorem la_half : ∀ c, c < 1024 → nI c >>> ((1 : Int32) &&& 31) = nI (c / 2) := by decide +kernel
theorem la_half1 : ∀ c, c < 1024 → (nI c + 1) >>> ((1 : Int32) &&& 31) = nI ((c + 1) / 2) := by decide +kernel
theorem la_by1 : ∀ c, c < 1024 → ((nI c &&& 127) ||| 128).toInt8.toInt32 &&& 255 = nI (c % 128 + 128) := by decide +kernel
theorem la_by2 : ∀ c, c < 1024 → (nI c >>> ((7 : Int32) &&& 31)).toInt8.toInt32 &&& 255 = nI (c / 128) := by decide +kernel
theorem la_by0 : ∀ c, c < 128 → (nI c).toInt8.toInt32 &&& 255 = nI c := by decide +kernel
theorem la_neg {a b : Nat} (h : a < b) : nI a - nI b = -(nI (b - a)) := by
  have e : nI b = nI a + nI (b - a) := by rw [nI_add]; congr 1; omega
  rw [e]
  grind
/-- what a difference's code is -/
theorem la_code {a b : Nat} (h1 : b ≤ a) : la_val (2 * (a - b)) = nI a - nI b := by
  unfold la_val
  rw [if_pos (by omega), pk_sub h1]
  congr 1
  omega
theorem la_codeN {a b : Nat} (h1 : a < b) : la_val (2 * (b - a) - 1) = nI a - nI b := by
  unfold la_val
  rw [if_neg (by omega), la_neg h1]
  congr 2
  omega
theorem la_ix {s j : Nat} : (8 : Int32) * nI s + nI j = nI (8 * s + j) := by
  rw [show (8 : Int32) = nI 8 from rfl, pk_mul, nI_add]
theorem la_ix0 {s : Nat} : (8 : Int32) * nI s + 0 = nI (8 * s) := la_ix (j := 0)
/-- folds over the lines of a kind: least, most, sum, how many different -/
def la_lo (e : Nat → Bool) (p : Nat → Nat) : Nat → Int32
  | 0 => 1000
  | k + 1 => if e k = true then (if la_lo e p k ≤ nI (p k) then la_lo e p k else nI (p k)) else la_lo e p k
def la_hi (e : Nat → Bool) (p : Nat → Nat) : Nat → Int32
  | 0 => -1
  | k + 1 => if e k = true then (if nI (p k) ≤ la_hi e p k then la_hi e p k else nI (p k)) else la_hi e p k
def la_sum (e : Nat → Bool) (p : Nat → Nat) : Nat → Int32
  | 0 => 0
  | k + 1 => if e k = true then la_sum e p k + nI (p k) else la_sum e p k
/-- is p k new among the first k -/
def la_new (e : Nat → Bool) (p : Nat → Nat) (v : Nat) : Nat → Bool
  | 0 => true
  | k + 1 => la_new e p v k && !(e k && decide (p k = v))
def la_dif (e : Nat → Bool) (p : Nat → Nat) : Nat → Nat
  | 0 => 0
  | k + 1 => if e k = true then (if la_new e p (p k) k = true then la_dif e p k + 1 else la_dif e p k) else la_dif e p k
theorem la_new_iff {e : Nat → Bool} {p : Nat → Nat} {v k : Nat} : la_new e p v k = true ↔ ∀ j, j < k → ¬ (e j = true ∧ p j = v) := by
  induction k with
  | zero => exact ⟨fun _ j hj => absurd hj (Nat.not_lt_zero j), fun _ => rfl⟩
  | succ k ih =>
    show (la_new e p v k && !(e k && decide (p k = v))) = true ↔ _
    rw [Bool.and_eq_true, ih]
    constructor
    · intro ⟨h1, h2⟩ j hj hh
      by_cases z : j = k
      · rw [z] at hh
        rw [hh.1, decide_eq_true hh.2] at h2
        exact absurd h2 (by decide)
      · exact h1 j (by omega) hh
    · intro h
      refine ⟨fun j hj => h j (by omega), ?_⟩
      have t := h k (by omega)
      by_cases z : e k = true
      · rw [z, decide_eq_false (fun q => t ⟨z, q⟩)]; rfl
      · rw [Bool.eq_false_iff.mpr z]; rfl
theorem la_dif_le (e : Nat → Bool) (p : Nat → Nat) (n : Nat) : la_dif e p n ≤ n := by
  induction n with
  | zero => exact Nat.le_refl 0
  | succ n ih =>
    show (if e n = true then (if la_new e p (p n) n = true then la_dif e p n + 1 else la_dif e p n) else la_dif e p n) ≤ n + 1
    split
    · split <;> omega
    · omega
theorem la_lo_congr {e e' : Nat → Bool} {p : Nat → Nat} {n : Nat} (h : ∀ k, k < n → e k = e' k) : la_lo e p n = la_lo e' p n := by
  induction n with
  | zero => rfl
  | succ n ih =>
    show (if e n = true then (if la_lo e p n ≤ nI (p n) then la_lo e p n else nI (p n)) else la_lo e p n) = (if e' n = true then (if la_lo e' p n ≤ nI (p n) then la_lo e' p n else nI (p n)) else la_lo e' p n)
    rw [h n (by omega), ih (fun k hk => h k (by omega))]
theorem la_hi_congr {e e' : Nat → Bool} {p : Nat → Nat} {n : Nat} (h : ∀ k, k < n → e k = e' k) : la_hi e p n = la_hi e' p n := by
  induction n with
  | zero => rfl
  | succ n ih =>
    show (if e n = true then (if nI (p n) ≤ la_hi e p n then la_hi e p n else nI (p n)) else la_hi e p n) = (if e' n = true then (if nI (p n) ≤ la_hi e' p n then la_hi e' p n else nI (p n)) else la_hi e' p n)
    rw [h n (by omega), ih (fun k hk => h k (by omega))]
theorem la_sum_congr {e e' : Nat → Bool} {p : Nat → Nat} {n : Nat} (h : ∀ k, k < n → e k = e' k) : la_sum e p n = la_sum e' p n := by
  induction n with
  | zero => rfl
  | succ n ih =>
    show (if e n = true then la_sum e p n + nI (p n) else la_sum e p n) = (if e' n = true then la_sum e' p n + nI (p n) else la_sum e' p n)
    rw [h n (by omega), ih (fun k hk => h k (by omega))]
theorem la_new_congr {e e' : Nat → Bool} {p : Nat → Nat} {v n : Nat} (h : ∀ k, k < n → e k = e' k) : la_new e p v n = la_new e' p v n := by
  induction n with
  | zero => rfl
  | succ n ih =>
    show (la_new e p v n && !(e n && decide (p n = v))) = (la_new e' p v n && !(e' n && decide (p n = v)))
    rw [h n (by omega), ih (fun k hk => h k (by omega))]
theorem la_dif_congr {e e' : Nat → Bool} {p : Nat → Nat} {n : Nat} (h : ∀ k, k < n → e k = e' k) : la_dif e p n = la_dif e' p n := by
  induction n with
  | zero => rfl
  | succ n ih =>
    show (if e n = true then (if la_new e p (p n) n = true then la_dif e p n + 1 else la_dif e p n) else la_dif e p n) = (if e' n = true then (if la_new e' p (p n) n = true then la_dif e' p n + 1 else la_dif e' p n) else la_dif e' p n)
    rw [h n (by omega), ih (fun k hk => h k (by omega)), la_new_congr (fun k hk => h k (by omega))]
end
section
/-! ===== 02: the small methods, in any state ===== -/
theorem la_isNum1 {post : Int32 → Prop} {n : Nat} (h1 : 1000 ≤ n) (h2 : n < 2000) (H : post 1) : wpX_isNumber post () (nI n) :=
  pk_lt n 1000 (fun z => absurd z (by omega)) (fun _ => pk_le 2000 n (fun z => absurd z (by omega)) (fun _ => H))
theorem la_isNum0 {post : Int32 → Prop} {n : Nat} (h : n < 1000 ∨ 2000 ≤ n) (hn : n < 2 ^ 31) (H : post 0) : wpX_isNumber post () (nI n) :=
  pk_lt n 1000 (fun _ => H) (fun z => pk_le 2000 n (fun _ => H) (fun y => absurd h (by omega)))
theorem la_isItem {post : Int32 → Prop} {n : Nat} (h : n < 24 ∨ (1000 ≤ n ∧ n < 2000)) (H : post 1) : wpX_isItem post () (nI n) :=
  br_f (nI_pos (by omega)) (pk_lt n 24 (fun _ => H) (fun z => by
    unfold wX_isItem_10
    exact la_isNum1 (by omega) (by omega) (br_f (by decide) H)))
theorem la_isItem0 {post : Int32 → Prop} {n : Nat} (h : 2000 ≤ n) (hn : n < 2 ^ 31) (H : post 0) : wpX_isItem post () (nI n) :=
  br_f (nI_pos (by omega)) (pk_lt n 24 (fun z => absurd z (by omega)) (fun z => by
    unfold wX_isItem_10
    exact la_isNum0 (by omega) (by omega) (br_t rfl H)))
theorem la_item {post : Int32 → St2 → Prop} {pc ln ss nd ft : Int32} {fi : Int64} {fr : Int32} {a1 a2 a3 a4 a5 a6 a7 a8 : Nat → Int32} {a9 : Nat → Int64} {a10 : Nat → Int32} {a11 : Nat → Int64} {a12 a13 a14 a15 a16 a17 a18 a19 a20 : Nat → Int32} {d x : Nat} (hd : d < 8) (hx : x < 24 ∨ (1000 ≤ x ∧ x < 2000)) (H : post (nI (d + 1)) (nI (d + 1), pc, ln, ss, nd, ft, fi, fr, upd a1 d (nI x), a2, a3, a4, a5, a6, a7, a8, a9, a10, a11, a12, a13, a14, a15, a16, a17, a18, a19, a20)) : wpX_item post (nI d, pc, ln, ss, nd, ft, fi, fr, a1, a2, a3, a4, a5, a6, a7, a8, a9, a10, a11, a12, a13, a14, a15, a16, a17, a18, a19, a20) (nI x) := by
  unfold wpX_item
  dsimp only
  exact la_isItem hx (br_f (by decide) (pk_lt d 8 (fun _ => ⟨pk_in d 8 hd, nm_r (e' := upd a1 d (nI x)) (by rw [nI_clamp (by omega)]) (nm_r (nI_1 d) H)⟩) (fun z => absurd z (by omega))))
theorem la_isPart {post : Int32 → Prop} {n : Nat} (h : n < 24 ∨ (2000 ≤ n ∧ n ≤ 2002) ∨ (3000 ≤ n ∧ n < 4000)) (H : post 1) : wpX_isPart post () (nI n) := by
  unfold wpX_isPart
  by_cases c : n < 24
  · exact la_isItem (Or.inl c) (br_f (by decide) H)
  · refine la_isItem0 (by omega) (by omega) (br_t rfl (pk_lt n 2000 (fun z => absurd z (by omega)) (fun _ => pk_le n 2002 (fun _ => H) (fun z => ?_))))
    exact pk_lt n 3000 (fun y => absurd y (by omega)) (fun _ => pk_le 4000 n (fun y => absurd y (by omega)) (fun _ => H))
theorem la_part {post : Int32 → St2 → Prop} {dc ln ss nd ft : Int32} {fi : Int64} {fr : Int32} {a1 a2 a3 a4 a5 a6 a7 a8 : Nat → Int32} {a9 : Nat → Int64} {a10 : Nat → Int32} {a11 : Nat → Int64} {a12 a13 a14 a15 a16 a17 a18 a19 a20 : Nat → Int32} {d x : Nat} (hd : d < 8) (hx : x < 24 ∨ (2000 ≤ x ∧ x ≤ 2002) ∨ (3000 ≤ x ∧ x < 4000)) (H : post (nI (d + 1)) (dc, nI (d + 1), ln, ss, nd, 0, fi, fr, a1, upd a2 d (nI x), a3, a4, a5, a6, a7, a8, a9, a10, a11, a12, a13, a14, a15, a16, a17, a18, a19, a20)) : wpX_part post (dc, nI d, ln, ss, nd, ft, fi, fr, a1, a2, a3, a4, a5, a6, a7, a8, a9, a10, a11, a12, a13, a14, a15, a16, a17, a18, a19, a20) (nI x) := by
  unfold wpX_part
  dsimp only
  exact la_isPart hx (br_f (by decide) (pk_lt d 8 (fun _ => ⟨pk_in d 8 hd, nm_r (e' := upd a2 d (nI x)) (by rw [nI_clamp (by omega)]) (nm_r (nI_1 d) H)⟩) (fun z => absurd z (by omega))))
theorem la_newNode {post : Int32 → St2 → Prop} {dc pc ln ss ft : Int32} {fi : Int64} {fr : Int32} {a1 a2 a3 a4 a5 a6 a7 a8 : Nat → Int32} {a9 : Nat → Int64} {a10 : Nat → Int32} {a11 : Nat → Int64} {a12 a13 a14 a15 a16 a17 a18 a19 a20 : Nat → Int32} {n : Nat} (hn : n < 484) {x : Int32} (H : post (nI n) (dc, pc, ln, ss, nI (n + 1), ft, fi, fr, a1, a2, a3, a4, a5, a6, a7, a8, a9, a10, a11, upd a12 n x, upd a13 n (-1), upd a14 n (-1), upd a15 n (-1), a16, a17, a18, a19, a20)) : wpX_newNode post (dc, pc, ln, ss, nI n, ft, fi, fr, a1, a2, a3, a4, a5, a6, a7, a8, a9, a10, a11, a12, a13, a14, a15, a16, a17, a18, a19, a20) x := by
  have c : (nI n).toNatClampNeg = n := nI_clamp (by omega)
  exact ⟨pk_in n 484 hn, nm_r (e' := upd a12 n x) (by rw [c]) ⟨pk_in n 484 hn, nm_r (e' := upd a13 n (-1)) (by rw [c]) ⟨pk_in n 484 hn, nm_r (e' := upd a14 n (-1)) (by rw [c]) ⟨pk_in n 484 hn, nm_r (e' := upd a15 n (-1)) (by rw [c]) (nm_r (nI_1 n) (by rw [nI_pred]; exact H))⟩⟩⟩⟩
theorem la_ones {post : Int32 → Prop} {x : Int64} {f : Nat → Bool} (h : la_has x f) (H : post (nI (la_cnt f 60))) : wpX_ones post () x :=
  pk_loop (σ := Unit) (fun n i _ => wX_ones_4 post x n (nI (la_cnt f i)) (nI i)) (fun _ _ => True) 60 0 () (by omega) trivial
    (fun n _ _ => pk_le 60 60 (fun _ => H) (fun z => absurd z (by omega)))
    (fun n i _ hi _ hw => pk_le 60 i (fun z => absurd z (by omega)) (fun _ => nm_r (e' := nI (la_cnt f (i + 1))) (by rw [la_ones1 h (by omega), nI_add]; rfl) (nm_r (nI_1 i) (hw () trivial))))
theorem la_low {post : Int32 → Prop} {x : Int64} {f : Nat → Bool} (h : la_has x f) {m : Nat} (hm : m ≤ 60) (h0 : ∀ k, k < m → f k = false) (h1 : m < 60 → f m = true) (H : post (nI m)) : wpX_lowest post () x :=
  pk_loop (σ := Unit) (fun n i _ => wX_lowest_2 post x n (nI i)) (fun _ _ => True) m 0 () (by omega) trivial
    (fun n _ _ => pk_le 60 m (fun _ => H) (fun z => br_f (fun y => absurd ((la_low1 h (by omega)).mp y) (by rw [h1 z]; decide)) H))
    (fun n i _ hi _ hw => pk_le 60 i (fun z => absurd z (by omega)) (fun _ => br_t ((la_low1 h (by omega)).mpr (h0 i hi)) (nm_r (nI_1 i) (hw () trivial))))
theorem la_below {post : Int64 → Prop} {e : Nat} (he : e < 64) (H : ∀ x, la_has x (fun k => decide (k < e)) → post x) : wpX_below post () (nI e) := H _ (la_has_bel he)
theorem la_cbl {post : Int32 → Prop} {X : Int32} {dc pc ln ss nd ft : Int32} {fi : Int64} {fr : Int32} {a1 a2 a3 a4 a5 a6 a7 a8 : Nat → Int32} {a9 : Nat → Int64} {a10 : Nat → Int32} {a11 : Nat → Int64} {a12 a13 a14 a15 a16 a17 a18 a19 a20 : Nat → Int32} {N r : Nat} (hN : N ≤ 60) (h1 : ∀ k, k < r → ¬ X ≤ a3 k) (h2 : ∀ k, r ≤ k → k < N → X ≤ a3 k) (H : post (nI r)) : ∀ (m lo hi : Nat), hi - lo ≤ m → lo ≤ r → r ≤ hi → hi ≤ N → wX_countBelow_7 post X dc pc ln ss nd ft fi fr a1 a2 a3 a4 a5 a6 a7 a8 a9 a10 a11 a12 a13 a14 a15 a16 a17 a18 a19 a20 (m + 1) (nI lo) (nI hi) := by
  intro m
  induction m with
  | zero =>
    intro lo hi h a b c
    exact pk_le hi lo (fun _ => by rw [show lo = r by omega]; exact H) (fun z => absurd z (by omega))
  | succ m ih =>
    intro lo hi h a b c
    refine pk_le hi lo (fun _ => by rw [show lo = r by omega]; exact H) (fun z => nm_r (e' := nI ((lo + hi) / 2)) (by rw [nI_add, pk_shrN (by omega) _ 1 (by decide)]) ⟨pk_in ((lo + hi) / 2) 60 (by omega), ?_⟩)
    rw [nI_clamp (show (lo + hi) / 2 < 2 ^ 31 by omega)]
    refine br_c (fun g => ih lo _ (by omega) a ?_ (by omega)) (fun g => nm_r (nI_1 _) (ih _ hi (by omega) ?_ b c))
    · rcases Nat.lt_or_ge ((lo + hi) / 2) r with y | y
      · exact absurd g (h1 _ y)
      · exact y
    · rcases Nat.lt_or_ge ((lo + hi) / 2) r with y | y
      · exact y
      · exact absurd (h2 _ y (by omega)) g
theorem la_cb {post : Int32 → Prop} {X : Int32} {dc pc ss nd ft : Int32} {fi : Int64} {fr : Int32} {a1 a2 a3 a4 a5 a6 a7 a8 : Nat → Int32} {a9 : Nat → Int64} {a10 : Nat → Int32} {a11 : Nat → Int64} {a12 a13 a14 a15 a16 a17 a18 a19 a20 : Nat → Int32} {N r : Nat} (hN : N ≤ 60) (hr : r ≤ N) (h1 : ∀ k, k < r → ¬ X ≤ a3 k) (h2 : ∀ k, r ≤ k → k < N → X ≤ a3 k) (H : post (nI r)) : wpX_countBelow post (dc, pc, nI N, ss, nd, ft, fi, fr, a1, a2, a3, a4, a5, a6, a7, a8, a9, a10, a11, a12, a13, a14, a15, a16, a17, a18, a19, a20) X :=
  ⟨N + 1, la_cbl hN h1 h2 H N 0 N (by omega) (by omega) hr (Nat.le_refl N)⟩
theorem la_cu1 {post : Int32 → Prop} {n : Nat} {dc pc ss nd ft : Int32} {fi : Int64} {fr : Int32} {a1 a2 a3 a4 a5 a6 a7 a8 : Nat → Int32} {a9 : Nat → Int64} {a10 : Nat → Int32} {a11 : Nat → Int64} {a12 a13 a14 a15 a16 a17 a18 a19 a20 : Nat → Int32} {N r : Nat} (hn : n < 1000) (hN : N ≤ 60) (hr : r ≤ N) (h1 : ∀ k, k < r → ¬ nI (n + 1) ≤ a3 k) (h2 : ∀ k, r ≤ k → k < N → nI (n + 1) ≤ a3 k) (H : post (nI r)) : wpX_countUpTo post (dc, pc, nI N, ss, nd, ft, fi, fr, a1, a2, a3, a4, a5, a6, a7, a8, a9, a10, a11, a12, a13, a14, a15, a16, a17, a18, a19, a20) (nI n) :=
  pk_lt n 1000 (fun _ => by rw [nI_1]; exact la_cb hN hr h1 h2 H) (fun z => absurd z (by omega))
theorem la_cu2 {post : Int32 → Prop} {n : Nat} {dc pc ss nd ft : Int32} {fi : Int64} {fr : Int32} {a1 a2 a3 a4 a5 a6 a7 a8 : Nat → Int32} {a9 : Nat → Int64} {a10 : Nat → Int32} {a11 : Nat → Int64} {a12 a13 a14 a15 a16 a17 a18 a19 a20 : Nat → Int32} {N : Nat} (hn : 1000 ≤ n) (hn2 : n < 2 ^ 31) (H : post (nI N)) : wpX_countUpTo post (dc, pc, nI N, ss, nd, ft, fi, fr, a1, a2, a3, a4, a5, a6, a7, a8, a9, a10, a11, a12, a13, a14, a15, a16, a17, a18, a19, a20) (nI n) :=
  pk_lt n 1000 (fun z => absurd z (by omega)) (fun _ => H)
theorem la_t63 {post : Int32 → St2 → Prop} {dc pc ln ss nd ft : Int32} {fi : Int64} {fr : Int32} {a1 a2 a3 a4 a5 a6 a7 a8 : Nat → Int32} {a9 : Nat → Int64} {a10 : Nat → Int32} {a11 : Nat → Int64} {a12 a13 a14 a15 a16 a17 a18 a19 a20 : Nat → Int32} {c : Nat} (hc : c < 1024) (H : post (la_val c) (dc, pc, ln, ss, nd, ft, fi, fr, a1, a2, a3, a4, a5, a6, a7, a8, a9, a10, a11, a12, a13, a14, a15, a16, a17, a18, a19, a20)) : wX_takeNumber_63 post (nI c) dc pc ln ss nd ft fi fr a1 a2 a3 a4 a5 a6 a7 a8 a9 a10 a11 a12 a13 a14 a15 a16 a17 a18 a19 a20 := by
  unfold la_val at H
  by_cases e : c % 2 = 0
  · rw [if_pos e] at H
    refine br_t ((la_and1c c hc).mpr e) ?_
    rw [la_half c hc]
    exact H
  · rw [if_neg e] at H
    refine br_f (fun z => e ((la_and1c c hc).mp z)) ?_
    rw [la_half1 c hc]
    exact H
theorem la_take {post : Int32 → St2 → Prop} {dc pc ln ss nd ft : Int32} {fi : Int64} {a1 a2 a3 a4 a5 a6 a7 a8 : Nat → Int32} {a9 : Nat → Int64} {a10 : Nat → Int32} {a11 : Nat → Int64} {a12 a13 a14 a15 a16 a17 a18 a19 a20 : Nat → Int32} {P P' : Nat} {d : Int32} (h : la_dec a6 P d P') (hP : P + 2 ≤ 960) (H : post d (dc, pc, ln, ss, nd, ft, fi, nI P', a1, a2, a3, a4, a5, a6, a7, a8, a9, a10, a11, a12, a13, a14, a15, a16, a17, a18, a19, a20)) : wpX_takeNumber post (dc, pc, ln, ss, nd, ft, fi, nI P, a1, a2, a3, a4, a5, a6, a7, a8, a9, a10, a11, a12, a13, a14, a15, a16, a17, a18, a19, a20) := by
  obtain ⟨c, hc, hd, h⟩ := h
  subst hd
  rcases h with ⟨h1, h2, h3⟩ | ⟨h1, h2, h3, h4⟩
  · subst h2
    exact ⟨pk_in P 960 (by omega), nm_r (e' := nI c) (by rw [nI_clamp (by omega), h3]) (nm_r (nI_1 P) (pk_lt c 128 (fun _ => la_t63 hc H) (fun z => absurd z (by omega))))⟩
  · subst h2
    exact ⟨pk_in P 960 (by omega), nm_r (e' := nI (c % 128 + 128)) (by rw [nI_clamp (by omega), h3]) (nm_r (nI_1 P) (pk_lt (c % 128 + 128) 128 (fun z => absurd z (by omega)) (fun _ => ⟨pk_in (P + 1) 960 (by omega), nm_r (e' := nI c) (by rw [nI_clamp (by omega), h4, la_or7 c hc]) (nm_r (nI_1 (P + 1)) (la_t63 hc H))⟩)))⟩
theorem la_br16 {post : Int32 → St2 → Prop} {dc pc ln ss nd ft : Int32} {fi : Int64} {fr : Int32} {a1 a2 a3 a4 a5 a6 a7 a8 : Nat → Int32} {a9 : Nat → Int64} {a10 : Nat → Int32} {a11 : Nat → Int64} {a12 a13 a14 a15 a16 a17 a18 a19 a20 : Nat → Int32} {P c : Nat} (hc : c < 1024) (hP : P + 2 ≤ 960) (H : ∀ m P', la_dec m P (la_val c) P' → (∀ j, j < P → m j = a6 j) → post (nI P') (dc, pc, ln, ss, nd, ft, fi, fr, a1, a2, a3, a4, a5, m, a7, a8, a9, a10, a11, a12, a13, a14, a15, a16, a17, a18, a19, a20)) : wX_bringNumber_16 post (nI P) (nI c) dc pc ln ss nd ft fi fr a1 a2 a3 a4 a5 a6 a7 a8 a9 a10 a11 a12 a13 a14 a15 a16 a17 a18 a19 a20 := by
  refine pk_le 128 c (fun z => ⟨pk_in P 960 (by omega), nm_r (e' := upd a6 P (((nI c &&& 127) ||| 128).toInt8.toInt32)) (by rw [nI_clamp (by omega)]) ⟨pk_in (P + 1) 960 (by omega) (nI_1 P), nm_r (e' := upd (upd a6 P (((nI c &&& 127) ||| 128).toInt8.toInt32)) (P + 1) ((nI c >>> ((7 : Int32) &&& 31)).toInt8.toInt32)) (by rw [nI_1, nI_clamp (by omega)]) ?_⟩⟩) (fun z => ⟨pk_in P 960 (by omega), nm_r (e' := upd a6 P (nI c).toInt8.toInt32) (by rw [nI_clamp (by omega)]) ?_⟩)
  · rw [show nI P + 2 = nI (P + 2) from nI_add P 2]
    refine H _ (P + 2) ⟨c, hc, rfl, Or.inr ⟨z, rfl, ?_, ?_⟩⟩ ?_
    · rw [pk_un (by omega), pk_us, la_by1 c hc]
    · rw [pk_us, la_by2 c hc]
    · intro j hj
      rw [pk_un (by omega), pk_un (by omega)]
  · rw [nI_1]
    refine H _ (P + 1) ⟨c, hc, rfl, Or.inl ⟨z, rfl, ?_⟩⟩ ?_
    · rw [pk_us, la_by0 c z]
    · intro j hj
      rw [pk_un (by omega)]
theorem la_bring {post : Int32 → St2 → Prop} {dc pc ln ss nd ft : Int32} {fi : Int64} {fr : Int32} {a1 a2 a3 a4 a5 a6 a7 a8 : Nat → Int32} {a9 : Nat → Int64} {a10 : Nat → Int32} {a11 : Nat → Int64} {a12 a13 a14 a15 a16 a17 a18 a19 a20 : Nat → Int32} {P a b : Nat} (ha : a < 512) (hb : b < 512) (hP : P + 2 ≤ 960) (H : ∀ m P', la_dec m P (nI a - nI b) P' → (∀ j, j < P → m j = a6 j) → post (nI P') (dc, pc, ln, ss, nd, ft, fi, fr, a1, a2, a3, a4, a5, m, a7, a8, a9, a10, a11, a12, a13, a14, a15, a16, a17, a18, a19, a20)) : wpX_bringNumber post (dc, pc, ln, ss, nd, ft, fi, fr, a1, a2, a3, a4, a5, a6, a7, a8, a9, a10, a11, a12, a13, a14, a15, a16, a17, a18, a19, a20) (nI P) (nI a - nI b) := by
  rcases Nat.lt_or_ge a b with h | h
  · rw [← la_codeN h] at H
    rw [la_neg h]
    refine br_f (fun z => ?_) ?_
    · have t : (-(nI (b - a))) < 0 := by rw [← la_neg h]; exact pk_sneg (by omega) h
      have t1 := Int32.lt_iff_toInt_lt.mp t
      have t2 := Int32.le_iff_toInt_le.mp z
      omega
    · rw [show (-2 : Int32) * -(nI (b - a)) - 1 = nI (2 * (b - a) - 1) from by
        rw [← pk_sub (show 1 ≤ 2 * (b - a) by omega), ← pk_mul]
        rw [show nI 2 = 2 from rfl, show nI 1 = 1 from rfl]
        grind]
      exact la_br16 (by omega) hP H
  · rw [← la_code h] at H
    rw [pk_sub h]
    refine br_t (nI_pos' (by omega)) ?_
    rw [show (2 : Int32) * nI (a - b) = nI (2 * (a - b)) from pk_mul 2 (a - b)]
    exact la_br16 (by omega) hP H
theorem la_isLine {post : Int32 → Prop} {dc pc ss nd ft : Int32} {fi : Int64} {fr : Int32} {a1 a2 a3 a4 a5 a6 a7 a8 : Nat → Int32} {a9 : Nat → Int64} {a10 : Nat → Int32} {a11 : Nat → Int64} {a12 a13 a14 a15 a16 a17 a18 a19 a20 : Nat → Int32} {N k : Nat} (hN : N < 2 ^ 31) (hk : k < N) (H : post 1) : wpX_isLine post (dc, pc, nI N, ss, nd, ft, fi, fr, a1, a2, a3, a4, a5, a6, a7, a8, a9, a10, a11, a12, a13, a14, a15, a16, a17, a18, a19, a20) (nI k) :=
  br_f (nI_pos (by omega)) (pk_le N k (fun z => absurd z (by omega)) (fun _ => H))
theorem la_cln {post : St2 → Prop} {dc pc ln ss nd ft : Int32} {fi : Int64} {fr : Int32} {a1 a2 a3 a4 a5 a6 a7 a8 : Nat → Int32} {a9 : Nat → Int64} {a10 : Nat → Int32} {a11 : Nat → Int64} {a12 a13 a14 a15 a16 a17 a18 a19 a20 : Nat → Int32} (H : ∀ m, (∀ k, k < 8 → m k = 0) → post (dc, pc, ln, ss, nd, ft, fi, fr, a1, a2, a3, a4, a5, a6, a7, a8, a9, a10, a11, a12, a13, a14, a15, a16, m, a18, a19, a20)) : wpX_clearNumbers post (dc, pc, ln, ss, nd, ft, fi, fr, a1, a2, a3, a4, a5, a6, a7, a8, a9, a10, a11, a12, a13, a14, a15, a16, a17, a18, a19, a20) :=
  pk_loop (fun n i s => wX_clearNumbers_2 post dc pc ln ss nd ft fi fr n (nI i) a1 a2 a3 a4 a5 a6 a7 a8 a9 a10 a11 a12 a13 a14 a15 a16 s a18 a19 a20) (fun i s => ∀ k, k < i → s k = 0) 8 0 a17 (by omega) (fun k hk => absurd hk (by omega))
    (fun n s h => pk_le 8 8 (fun _ => H s h) (fun z => absurd z (by omega)))
    (fun n i s hi h hw => pk_le 8 i (fun z => absurd z (by omega)) (fun _ => ⟨pk_in i 8 hi, nm_r (e' := upd s i 0) (by rw [nI_clamp (by omega)]) (nm_r (nI_1 i) (hw _ (lt_s (fun k hk => by rw [pk_un (by omega)]; exact h k hk) pk_us)))⟩))
end
section
/-! ===== 03: the picture of a state, and reading lines ===== -/
def la_top : Nat → Int32
  | 0 => -1
  | s + 1 => nI (1 + 3 * s)
/-- the tree of S shapes: three nodes a shape below the root, the newest first -/
def la_tree (S : Nat) (sw : Nat → Nat) (a12 a13 a14 a15 : Nat → Int32) : Prop := a13 0 = la_top S ∧ ∀ s, s < S → a12 (1 + 3 * s) = nI (sw s) ∧ a14 (1 + 3 * s) = la_top s ∧ a13 (1 + 3 * s) = nI (2 + 3 * s) ∧ a12 (2 + 3 * s) = 1000 ∧ a13 (2 + 3 * s) = nI (3 + 3 * s) ∧ a12 (3 + 3 * s) = 1000 ∧ a15 (3 + 3 * s) = nI s
/-- N lines of S shapes: words w, numbers p and q, times t; sh: the shape of a line, sw: the word of a shape, B: where a line's bytes begin -/
def la_core (N S : Nat) (w p q t sh sw B : Nat → Nat) (a3 a4 a5 a6 a7 a8 : Nat → Int32) (a9 : Nat → Int64) (a10 : Nat → Int32) (a11 : Nat → Int64) (a12 a13 a14 a15 : Nat → Int32) : Prop :=
  (∀ k, k < N → a3 k = nI (t k)) ∧
  (∀ k, k < N → sh k < S ∧ sw (sh k) = w k ∧ a4 k = nI (sh k)) ∧
  (B 0 = 0 ∧ ∀ k, k ≤ N → a5 k = nI (B k)) ∧
  (∀ k, k < N → ∃ P, la_dec a6 (B k) (nI (p k) - nI (la_prev sh p (sh k) k)) P ∧ la_dec a6 P (nI (q k) - nI (la_prev sh q (sh k) k)) (B (k + 1))) ∧
  (∀ s, s < S → sw s < 24 ∧ a7 s = 3 ∧ a8 (8 * s) = nI (sw s) ∧ a8 (8 * s + 1) = 1000 ∧ a8 (8 * s + 2) = 1000) ∧
  (∀ s, s < S → la_has (a9 s) (fun k => decide (k < N ∧ sh k = s))) ∧
  (∀ s, s < S → a10 (8 * s + 1) = nI (la_prev sh p s N) ∧ a10 (8 * s + 2) = nI (la_prev sh q s N)) ∧
  (∀ x, x < 24 → la_has (a11 x) (fun k => decide (k < N ∧ w k = x))) ∧
  (∀ i j, i < S → j < S → sw i = sw j → i = j) ∧
  la_tree S sw a12 a13 a14 a15
theorem la_Ble {N : Nat} {B : Nat → Nat} {a6 : Nat → Int32} {d1 d2 : Nat → Int32} (h0 : B 0 = 0) (h : ∀ k, k < N → ∃ P, la_dec a6 (B k) (d1 k) P ∧ la_dec a6 P (d2 k) (B (k + 1))) : ∀ k, k ≤ N → B k ≤ 4 * k := by
  intro k
  induction k with
  | zero => intro _; omega
  | succ k ih =>
    intro hk
    obtain ⟨P, x, y⟩ := h k (by omega)
    have i := ih (by omega)
    have u := la_dec_le x
    have v := la_dec_le y
    omega
theorem la_Bmono {N : Nat} {B : Nat → Nat} {a6 : Nat → Int32} {d1 d2 : Nat → Int32} (h : ∀ k, k < N → ∃ P, la_dec a6 (B k) (d1 k) P ∧ la_dec a6 P (d2 k) (B (k + 1))) : ∀ m k, k + m ≤ N → B k ≤ B (k + m) := by
  intro m
  induction m with
  | zero => intro k _; exact Nat.le_refl _
  | succ m ih =>
    intro k hk
    have i := ih k (by omega)
    obtain ⟨P, x, y⟩ := h (k + m) (by omega)
    have u := la_dec_le x
    have v := la_dec_le y
    have e : B (k + (m + 1)) = B (k + m + 1) := rfl
    omega
theorem la_addsub (x y : Int32) : x + (y - x) = y := by grind
theorem la_nw {n : Nat} (h : n < 24) : ¬ nI n = 1000 := fun z => absurd ((nI_eq (b := 1000) (by omega) (by omega)).mp z) (by omega)
theorem la_addLine {post : St2 → Prop} {dc pc ln ss nd ft : Int32} {fi : Int64} {fr : Int32} {a1 a2 a3 a4 a5 a6 a7 a8 : Nat → Int32} {a9 : Nat → Int64} {a10 : Nat → Int32} {a11 : Nat → Int64} {a12 a13 a14 a15 a16 a17 a18 a19 a20 : Nat → Int32} {N S l s : Nat} {w p q t sh sw B : Nat → Nat} (hN : N ≤ 32) (hS : S ≤ 2) (h : la_core N S w p q t sh sw B a3 a4 a5 a6 a7 a8 a9 a10 a11 a12 a13 a14 a15) (hl : l < N) (hs : sh l = s) (e1 : a17 1 = nI (la_prev sh p s l)) (e2 : a17 2 = nI (la_prev sh q s l)) (H : ∀ f m, m 1 = nI (p l) → m 2 = nI (q l) → post (dc, pc, ln, ss, nd, ft, fi, f, a1, a2, a3, a4, a5, a6, a7, a8, a9, a10, a11, a12, a13, a14, a15, a16, m, a18, a19, a20)) : wpX_addLine post (dc, pc, ln, ss, nd, ft, fi, fr, a1, a2, a3, a4, a5, a6, a7, a8, a9, a10, a11, a12, a13, a14, a15, a16, a17, a18, a19, a20) (nI l) (nI s) := by
  obtain ⟨c3, c4, c5, c6, c8, c9, c10, c11, ci, ct⟩ := h
  obtain ⟨hs', _, _⟩ := c4 l hl
  rw [hs] at hs'
  obtain ⟨P, d1, d2⟩ := c6 l hl
  rw [hs] at d1 d2
  obtain ⟨w24, e7, e80, e81, e82⟩ := c8 s hs'
  have b := la_Ble c5.1 c6 l (by omega)
  have b1 := la_dec_le d1
  have b2 := la_dec_le d2
  have cs : (nI s).toNatClampNeg = s := nI_clamp (by omega)
  refine ⟨pk_in l 61 (by omega), nm_r (e' := nI (B l)) (by rw [nI_clamp (by omega)]; exact c5.2 l (by omega)) ⟨4, ?_⟩⟩
  refine ⟨pk_in s 60 (by omega), br_f (by rw [cs, e7]; decide) ⟨pk_in (8 * s) 480 (by omega) la_ix0, br_f (by rw [la_ix0, nI_clamp (by omega), e80]; exact la_nw w24) (nm_r (e' := nI 1) (by decide) ?_)⟩⟩
  refine ⟨pk_in s 60 (by omega), br_f (by rw [cs, e7]; decide) ⟨pk_in (8 * s + 1) 480 (by omega) la_ix, br_t (by rw [la_ix, nI_clamp (by omega)]; exact e81) ⟨pk_in 1 8 (by omega), la_take d1 (by omega) ⟨pk_in 1 8 (by omega), nm_r (e' := upd a17 1 (nI (p l))) (by rw [nI_clamp (show 1 < 2 ^ 31 by omega), e1, la_addsub]) (nm_r (e' := nI 2) (by decide) ?_)⟩⟩⟩⟩
  refine ⟨pk_in s 60 (by omega), br_f (by rw [cs, e7]; decide) ⟨pk_in (8 * s + 2) 480 (by omega) la_ix, br_t (by rw [la_ix, nI_clamp (by omega)]; exact e82) ⟨pk_in 2 8 (by omega), la_take d2 (by omega) ⟨pk_in 2 8 (by omega), nm_r (e' := upd (upd a17 1 (nI (p l))) 2 (nI (q l))) (by rw [nI_clamp (show 2 < 2 ^ 31 by omega), pk_un (by omega), e2, la_addsub]) (nm_r (e' := nI 3) (by decide) ?_)⟩⟩⟩⟩
  exact ⟨pk_in s 60 (by omega), br_t (by rw [cs, e7]; decide) (H _ _ (by rw [pk_un (by omega), pk_us]) pk_us)⟩
/-- what the fields 'read' hold after a line was read -/
def la_rd (m : Nat → Int32) (x y z : Nat) : Prop := m 0 = nI x ∧ m 1 = nI (1000 + y) ∧ m 2 = nI (1000 + z)
theorem la_rl59 {post : St2 → Prop} {dc pc ln ss nd ft : Int32} {fi : Int64} {fr : Int32} {a1 a2 a3 a4 a5 a6 a7 a8 : Nat → Int32} {a9 : Nat → Int64} {a10 : Nat → Int32} {a11 : Nat → Int64} {a12 a13 a14 a15 a16 a17 a18 a19 a20 : Nat → Int32} {s x y z : Nat} (hs : s < 2) (w24 : x < 24) (e7 : a7 s = 3) (e80 : a8 (8 * s) = nI x) (e81 : a8 (8 * s + 1) = 1000) (e82 : a8 (8 * s + 2) = 1000) (n1 : a17 1 = nI y) (n2 : a17 2 = nI z) (H : ∀ m, la_rd m x y z → post (dc, pc, ln, ss, nd, ft, fi, fr, a1, a2, a3, a4, a5, a6, a7, a8, a9, a10, a11, a12, a13, a14, a15, m, a17, a18, a19, a20)) : ∃ fu, wX_readLine_59 post (nI s) dc pc ln ss nd ft fi fr fu 0 a1 a2 a3 a4 a5 a6 a7 a8 a9 a10 a11 a12 a13 a14 a15 a16 a17 a18 a19 a20 := by
  have cs : (nI s).toNatClampNeg = s := nI_clamp (by omega)
  refine ⟨4, ?_⟩
  refine ⟨pk_in s 60 (by omega), br_f (by rw [cs, e7]; decide) ⟨pk_in (8 * s) 480 (by omega) la_ix0, nm_r (e' := nI x) (by rw [la_ix0, nI_clamp (by omega), e80]) (br_f (la_nw w24) ⟨pk_in 0 8 (by omega), nm_r (e' := upd a16 0 (nI x)) rfl (nm_r (e' := nI 1) (by decide) ?_)⟩)⟩⟩
  refine ⟨pk_in s 60 (by omega), br_f (by rw [cs, e7]; decide) ⟨pk_in (8 * s + 1) 480 (by omega) la_ix, nm_r (e' := 1000) (by rw [la_ix, nI_clamp (by omega), e81]) (br_t rfl ⟨pk_in 1 8 (by omega), pk_in 1 8 (by omega), nm_r (e' := upd (upd a16 0 (nI x)) 1 (nI (1000 + y))) (by rw [nI_clamp (show 1 < 2 ^ 31 by omega), n1, show (1000 : Int32) = nI 1000 from rfl, nI_add]) (nm_r (e' := nI 2) (by decide) ?_)⟩)⟩⟩
  refine ⟨pk_in s 60 (by omega), br_f (by rw [cs, e7]; decide) ⟨pk_in (8 * s + 2) 480 (by omega) la_ix, nm_r (e' := 1000) (by rw [la_ix, nI_clamp (by omega), e82]) (br_t rfl ⟨pk_in 2 8 (by omega), pk_in 2 8 (by omega), nm_r (e' := upd (upd (upd a16 0 (nI x)) 1 (nI (1000 + y))) 2 (nI (1000 + z))) (by rw [nI_clamp (show 2 < 2 ^ 31 by omega), n2, show (1000 : Int32) = nI 1000 from rfl, nI_add]) (nm_r (e' := nI 3) (by decide) ?_)⟩)⟩⟩
  exact ⟨pk_in s 60 (by omega), br_t (by rw [cs, e7]; decide) (H _ ⟨by rw [pk_un (by omega), pk_un (by omega), pk_us], by rw [pk_un (by omega), pk_us], pk_us⟩)⟩
theorem la_rl30 {post : St2 → Prop} {dc pc ln ss nd ft : Int32} {fi : Int64} {a1 a2 a3 a4 a5 a6 a7 a8 : Nat → Int32} {a9 : Nat → Int64} {a10 : Nat → Int32} {a11 : Nat → Int64} {a12 a13 a14 a15 a16 a18 a19 a20 : Nat → Int32} {N S l s : Nat} {w p q t sh sw B : Nat → Nat} (hN : N ≤ 32) (hS : S ≤ 2) (h : la_core N S w p q t sh sw B a3 a4 a5 a6 a7 a8 a9 a10 a11 a12 a13 a14 a15) (hl : l < N) (hs : sh l = s) (H : ∀ f m17 m, la_rd m (w l) (p l) (q l) → post (dc, pc, ln, ss, nd, ft, fi, f, a1, a2, a3, a4, a5, a6, a7, a8, a9, a10, a11, a12, a13, a14, a15, m, m17, a18, a19, a20)) : ∀ (m k : Nat) (fr : Int32) (a17 : Nat → Int32), k + m = l + 1 → a17 1 = nI (la_prev sh p s k) → a17 2 = nI (la_prev sh q s k) → wX_readLine_30 post (nI l) (nI s) (m + 1) (nI k) dc pc ln ss nd ft fi fr a1 a2 a3 a4 a5 a6 a7 a8 a9 a10 a11 a12 a13 a14 a15 a16 a17 a18 a19 a20 := by
  intro m
  induction m with
  | zero =>
    intro k fr a17 hk e1 e2
    obtain ⟨c3, c4, c5, c6, c8, c9, c10, c11, ci, ct⟩ := h
    obtain ⟨hs', hw, _⟩ := c4 l hl
    rw [hs] at hs' hw
    obtain ⟨w24, e7, e80, e81, e82⟩ := c8 s hs'
    have kl : k = l + 1 := by omega
    rw [kl, la_prev_t hs] at e1 e2
    rw [hw] at e80 w24
    exact pk_lt l k (fun _ => la_rl59 (by omega) w24 e7 e80 e81 e82 e1 e2 (fun m hm => H _ _ m hm)) (fun z => absurd z (by omega))
  | succ m ih =>
    intro k fr a17 hk e1 e2
    have hc := h
    obtain ⟨c3, c4, c5, c6, c8, c9, c10, c11, ci, ct⟩ := h
    obtain ⟨hs', hw, h4⟩ := c4 k (by omega)
    refine pk_lt l k (fun z => absurd z (by omega)) (fun _ => ⟨pk_in k 60 (by omega), ?_⟩)
    rw [nI_clamp (show k < 2 ^ 31 by omega), h4]
    have hsl := (c4 l hl).1
    rw [hs] at hsl
    refine pk_eq (sh k) s (fun z => ?_) (fun z => nm_r (nI_1 k) (ih (k + 1) fr a17 (by omega) (by rw [la_prev_f z]; exact e1) (by rw [la_prev_f z]; exact e2)))
    exact la_addLine hN hS hc (by omega) z e1 e2 (fun f m' g1 g2 => nm_r (nI_1 k) (ih (k + 1) f m' (by omega) (by rw [la_prev_t z]; exact g1) (by rw [la_prev_t z]; exact g2)))
theorem la_readLine {post : St2 → Prop} {dc pc ln ss nd ft : Int32} {fi : Int64} {fr : Int32} {a1 a2 a3 a4 a5 a6 a7 a8 : Nat → Int32} {a9 : Nat → Int64} {a10 : Nat → Int32} {a11 : Nat → Int64} {a12 a13 a14 a15 a16 a17 a18 a19 a20 : Nat → Int32} {N S l : Nat} {w p q t sh sw B : Nat → Nat} (hN : N ≤ 32) (hS : S ≤ 2) (h : la_core N S w p q t sh sw B a3 a4 a5 a6 a7 a8 a9 a10 a11 a12 a13 a14 a15) (hl : l < N) (H : ∀ f m17 m, la_rd m (w l) (p l) (q l) → post (dc, pc, ln, ss, nd, ft, fi, f, a1, a2, a3, a4, a5, a6, a7, a8, a9, a10, a11, a12, a13, a14, a15, m, m17, a18, a19, a20)) : wpX_readLine post (dc, pc, ln, ss, nd, ft, fi, fr, a1, a2, a3, a4, a5, a6, a7, a8, a9, a10, a11, a12, a13, a14, a15, a16, a17, a18, a19, a20) (nI l) := by
  refine ⟨pk_in l 60 (by omega), nm_r (e' := nI (sh l)) (by rw [nI_clamp (by omega)]; exact (h.2.1 l hl).2.2) ?_⟩
  exact pk_loop (fun n i s => wX_readLine_9 post (nI l) (nI (sh l)) dc pc ln ss nd ft fi fr n (nI i) a1 a2 a3 a4 a5 a6 a7 a8 a9 a10 a11 a12 a13 a14 a15 a16 s a18 a19 a20) (fun i s => ∀ k, k < i → s k = 0) 8 0 a17 (by omega) (fun k hk => absurd hk (by omega))
    (fun n s g => pk_le 8 8 (fun _ => ⟨l + 1 + 1, la_rl30 hN hS h hl rfl H (l + 1) 0 fr s (by omega) (g 1 (by omega)) (g 2 (by omega))⟩) (fun z => absurd z (by omega)))
    (fun n i s hi g hw => pk_le 8 i (fun z => absurd z (by omega)) (fun _ => ⟨pk_in i 8 hi, nm_r (e' := upd s i 0) (by rw [nI_clamp (by omega)]) (nm_r (nI_1 i) (hw _ (lt_s (fun k hk => by rw [pk_un (by omega)]; exact g k hk) pk_us)))⟩))
end
section
/-! ===== 04: columns (least, most, sum, how many different), digest ===== -/
/-- which lines are of shape s -/
def la_of (sh : Nat → Nat) (s : Nat) : Nat → Bool := fun k => decide (sh k = s)
theorem la_of_t {sh : Nat → Nat} {s k : Nat} (h : sh k = s) : la_of sh s k = true := decide_eq_true h
theorem la_of_f {sh : Nat → Nat} {s k : Nat} (h : ¬ sh k = s) : ¬ la_of sh s k = true := by
  unfold la_of
  rw [decide_eq_false h]
  decide
theorem la_t67 {post : Int32 → St2 → Prop} {J : Int32 → Int32 → Int32 → Int32 → Int32 → Int32 → Int32 → Int32 → Int32 → Int32 → Int64 → Int32 → (Nat → Int32) → (Nat → Int32) → (Nat → Int32) → (Nat → Int32) → (Nat → Int32) → (Nat → Int32) → (Nat → Int32) → (Nat → Int32) → (Nat → Int64) → (Nat → Int32) → (Nat → Int64) → (Nat → Int32) → (Nat → Int32) → (Nat → Int32) → (Nat → Int32) → (Nat → Int32) → (Nat → Int32) → (Nat → Int32) → (Nat → Int32) → (Nat → Int32) → Prop} {dc pc ln ss nd ft : Int32} {fi : Int64} {fr : Int32} {a1 a2 a3 a4 a5 a6 a7 a8 : Nat → Int32} {a9 : Nat → Int64} {a10 : Nat → Int32} {a11 : Nat → Int64} {a12 a13 a14 a15 a16 a17 a18 a19 a20 : Nat → Int32} {x1 x3 x5 x6 z0 v : Int32} {k : Nat} (hv : a17 1 = v) (H : J z0 (if v ≤ x5 then x5 else v) (x6 + v) (nI (k + 1)) dc pc ln ss nd ft fi fr a1 a2 a3 a4 a5 a6 a7 a8 a9 a10 a11 a12 a13 a14 a15 a16 a17 a18 a19 a20) : wX_totalIn_67 post J x1 (nI 1) x3 x5 x6 (nI k) z0 dc pc ln ss nd ft fi fr a1 a2 a3 a4 a5 a6 a7 a8 a9 a10 a11 a12 a13 a14 a15 a16 a17 a18 a19 a20 := by
  have c1 : (nI 1).toNatClampNeg = 1 := nI_clamp (by omega)
  refine ⟨pk_in 1 8 (by omega), ?_⟩
  rw [c1, hv]
  refine br_c (fun g => ?_) (fun g => ⟨pk_in 1 8 (by omega), ?_⟩)
  · rw [if_pos g] at H
    exact ⟨pk_in 1 8 (by omega), nm_r (by rw [c1, hv]) (nm_r (nI_1 k) H)⟩
  · rw [if_neg g] at H
    exact ⟨pk_in 1 8 (by omega), nm_r (by rw [c1, hv]) (nm_r (nI_1 k) H)⟩
theorem la_t18 {post : Int32 → St2 → Prop} {dc pc ss nd ft : Int32} {fi : Int64} {a1 a2 a3 a4 a5 a6 a7 a8 : Nat → Int32} {a9 : Nat → Int64} {a10 : Nat → Int32} {a11 : Nat → Int64} {a12 a13 a14 a15 a16 a18 a19 a20 : Nat → Int32} {N S s : Nat} {w p q t sh sw B : Nat → Nat} {x3 r : Int32} (hN : N ≤ 32) (hS : S ≤ 2) (h : la_core N S w p q t sh sw B a3 a4 a5 a6 a7 a8 a9 a10 a11 a12 a13 a14 a15) (hs : s < S) (hr : r = if x3 = 0 then la_lo (la_of sh s) p N else if x3 = 1 then la_hi (la_of sh s) p N else la_sum (la_of sh s) p N) (H : ∀ f m, post r (dc, pc, nI N, ss, nd, ft, fi, f, a1, a2, a3, a4, a5, a6, a7, a8, a9, a10, a11, a12, a13, a14, a15, a16, m, a18, a19, a20)) : ∀ (m k : Nat) (fr : Int32) (a17 : Nat → Int32), k + m = N → a17 1 = nI (la_prev sh p s k) → a17 2 = nI (la_prev sh q s k) → wX_totalIn_18 post (nI s) (nI 1) x3 (m + 1) (la_lo (la_of sh s) p k) (la_hi (la_of sh s) p k) (la_sum (la_of sh s) p k) (nI k) dc pc (nI N) ss nd ft fi fr a1 a2 a3 a4 a5 a6 a7 a8 a9 a10 a11 a12 a13 a14 a15 a16 a17 a18 a19 a20 := by
  intro m
  induction m with
  | zero =>
    intro k fr a17 hk e1 e2
    have kN : k = N := by omega
    subst kN
    refine pk_le k k (fun _ => ?_) (fun z => absurd z (by omega))
    refine br_c (fun g => ?_) (fun g => br_c (fun g2 => ?_) (fun g2 => ?_))
    · rw [if_pos g] at hr
      rw [← hr]; exact H _ _
    · rw [if_neg g, if_pos g2] at hr
      rw [← hr]; exact H _ _
    · rw [if_neg g, if_neg g2] at hr
      rw [← hr]; exact H _ _
  | succ m ih =>
    intro k fr a17 hk e1 e2
    have hc := h
    obtain ⟨c3, c4, c5, c6, c8, c9, c10, c11, ci, ct⟩ := h
    obtain ⟨hs', hw, h4⟩ := c4 k (by omega)
    refine pk_le N k (fun z => absurd z (by omega)) (fun _ => ⟨pk_in k 60 (by omega), ?_⟩)
    rw [nI_clamp (show k < 2 ^ 31 by omega), h4]
    refine pk_eq (sh k) s (fun z => ?_) (fun z => nm_r (nI_1 k) ?_)
    · refine la_addLine hN hS hc (by omega) z e1 e2 (fun f m' g1 g2 => ?_)
      have I := ih (k + 1) f m' (by omega) (by rw [la_prev_t z]; exact g1) (by rw [la_prev_t z]; exact g2)
      rw [show la_lo (la_of sh s) p (k + 1) = if la_lo (la_of sh s) p k ≤ nI (p k) then la_lo (la_of sh s) p k else nI (p k) from if_pos (la_of_t z), show la_hi (la_of sh s) p (k + 1) = if nI (p k) ≤ la_hi (la_of sh s) p k then la_hi (la_of sh s) p k else nI (p k) from if_pos (la_of_t z), show la_sum (la_of sh s) p (k + 1) = la_sum (la_of sh s) p k + nI (p k) from if_pos (la_of_t z)] at I
      refine ⟨pk_in 1 8 (by omega), ?_⟩
      rw [nI_clamp (show 1 < 2 ^ 31 by omega), g1]
      refine br_c (fun g => ?_) (fun g => ⟨pk_in 1 8 (by omega), ?_⟩)
      · rw [if_pos g] at I
        exact la_t67 g1 I
      · rw [if_neg g] at I
        exact la_t67 g1 I
    · have I := ih (k + 1) fr a17 (by omega) (by rw [la_prev_f z]; exact e1) (by rw [la_prev_f z]; exact e2)
      rw [show la_lo (la_of sh s) p (k + 1) = la_lo (la_of sh s) p k from if_neg (la_of_f z), show la_hi (la_of sh s) p (k + 1) = la_hi (la_of sh s) p k from if_neg (la_of_f z), show la_sum (la_of sh s) p (k + 1) = la_sum (la_of sh s) p k from if_neg (la_of_f z)] at I
      exact I
theorem la_total {post : Int32 → St2 → Prop} {dc pc ss nd ft : Int32} {fi : Int64} {fr : Int32} {a1 a2 a3 a4 a5 a6 a7 a8 : Nat → Int32} {a9 : Nat → Int64} {a10 : Nat → Int32} {a11 : Nat → Int64} {a12 a13 a14 a15 a16 a17 a18 a19 a20 : Nat → Int32} {N S s : Nat} {w p q t sh sw B : Nat → Nat} {x3 r : Int32} (hN : N ≤ 32) (hS : S ≤ 2) (h : la_core N S w p q t sh sw B a3 a4 a5 a6 a7 a8 a9 a10 a11 a12 a13 a14 a15) (hs : s < S) (hr : r = if x3 = 0 then la_lo (la_of sh s) p N else if x3 = 1 then la_hi (la_of sh s) p N else la_sum (la_of sh s) p N) (H : ∀ f m, post r (dc, pc, nI N, ss, nd, ft, fi, f, a1, a2, a3, a4, a5, a6, a7, a8, a9, a10, a11, a12, a13, a14, a15, a16, m, a18, a19, a20)) : wpX_totalIn post (dc, pc, nI N, ss, nd, ft, fi, fr, a1, a2, a3, a4, a5, a6, a7, a8, a9, a10, a11, a12, a13, a14, a15, a16, a17, a18, a19, a20) (nI s) (nI 1) x3 := by
  unfold wpX_totalIn
  dsimp only
  exact la_cln (fun m g => ⟨N + 1, la_t18 hN hS h hs hr H N 0 fr m (by omega) (g 1 (by omega)) (g 2 (by omega))⟩)
/-- the first n places hold rising numbers -/
def la_srt (n : Nat) (r : Nat → Nat) (m : Nat → Int32) : Prop := (∀ j, j < n → m j = nI (r j) ∧ r j < 512) ∧ ∀ i j, i < j → j < n → r i < r j
theorem la_i44 {post : Int32 → St2 → Prop} {dc pc ln ss nd ft : Int32} {fi : Int64} {fr : Int32} {a1 a2 a3 a4 a5 a6 a7 a8 : Nat → Int32} {a9 : Nat → Int64} {a10 : Nat → Int32} {a11 : Nat → Int64} {a12 a13 a14 a15 a16 a17 a19 a20 : Nat → Int32} {n k x : Nat} {A : Nat → Int32} (hn : n ≤ 32) (hk : k ≤ n) (H : ∀ m, (∀ j, j < k → m j = A j) → m k = nI x → (∀ j, k < j → j ≤ n → m j = A (j - 1)) → post (nI (n + 1)) (dc, pc, ln, ss, nd, ft, fi, fr, a1, a2, a3, a4, a5, a6, a7, a8, a9, a10, a11, a12, a13, a14, a15, a16, a17, m, a19, a20)) : ∀ (d i : Nat) (a18 : Nat → Int32), i = k + d → i ≤ n → (∀ j, j < i → a18 j = A j) → (∀ j, i < j → j ≤ n → a18 j = A (j - 1)) → wX_insert_44 post (nI n) (nI x) (nI k) dc pc ln ss nd ft fi fr (d + 1) (nI i) a1 a2 a3 a4 a5 a6 a7 a8 a9 a10 a11 a12 a13 a14 a15 a16 a17 a18 a19 a20 := by
  intro d
  induction d with
  | zero =>
    intro i a18 hi hin h1 h2
    refine pk_le i k (fun _ => ⟨pk_in k 480 (by omega), nm_r (e' := upd a18 k (nI x)) (by rw [nI_clamp (by omega)]) ?_⟩) (fun z => absurd z (by omega))
    rw [nI_1]
    exact H _ (fun j hj => by rw [pk_un (by omega)]; exact h1 j (by omega)) pk_us (fun j hj hj2 => by rw [pk_un (by omega)]; exact h2 j (by omega) hj2)
  | succ d ih =>
    intro i a18 hi hin h1 h2
    obtain ⟨i', rfl⟩ : ∃ i', i = i' + 1 := ⟨k + d, by omega⟩
    refine pk_le (i' + 1) k (fun z => absurd z (by omega)) (fun _ => ⟨pk_in i' 480 (by omega) (nI_pred i'), pk_in (i' + 1) 480 (by omega), nm_r (e' := upd a18 (i' + 1) (a18 i')) (by rw [nI_pred, nI_clamp (by omega), nI_clamp (by omega)]) (nm_r (pk_m1 i') (ih i' _ (by omega) (by omega) (fun j hj => by rw [pk_un (by omega)]; exact h1 j (by omega)) (fun j hj hj2 => ?_)))⟩)
    by_cases e : j = i' + 1
    · rw [e, pk_us]; exact h1 i' (by omega)
    · rw [pk_un e]; exact h2 j (by omega) hj2
theorem la_i2 {post : Int32 → St2 → Prop} {dc pc ln ss nd ft : Int32} {fi : Int64} {fr : Int32} {a1 a2 a3 a4 a5 a6 a7 a8 : Nat → Int32} {a9 : Nat → Int64} {a10 : Nat → Int32} {a11 : Nat → Int64} {a12 a13 a14 a15 a16 a17 a18 a19 a20 : Nat → Int32} {n x k : Nat} {r : Nat → Nat} (hn : n ≤ 32) (hx : x < 512) (hr : la_srt n r a18) (hk : k ≤ n) (h1 : ∀ j, j < k → r j < x) (h2 : ∀ j, k ≤ j → j < n → x ≤ r j) (H : wX_insert_24 post (nI n) (nI x) (nI k) dc pc ln ss nd ft fi fr a1 a2 a3 a4 a5 a6 a7 a8 a9 a10 a11 a12 a13 a14 a15 a16 a17 a18 a19 a20) : ∀ (d i : Nat), i = k + d → i ≤ n → wX_insert_2 post (nI n) (nI x) dc pc ln ss nd ft fi fr a1 a2 a3 a4 a5 a6 a7 a8 a9 a10 a11 a12 a13 a14 a15 a16 a17 a18 a19 a20 (d + 1) (nI i) := by
  intro d
  induction d with
  | zero =>
    intro i hi hin
    rw [show i = k by omega]
    by_cases e : k = 0
    · exact br_t (by rw [e]; decide) H
    · obtain ⟨k', rfl⟩ : ∃ k', k = k' + 1 := ⟨k - 1, by omega⟩
      refine br_f (nI_nle (by omega) (by omega)) ⟨pk_in k' 480 (by omega) (nI_pred k'), br_t ?_ H⟩
      rw [nI_pred, nI_clamp (by omega), (hr.1 k' (by omega)).1]
      exact nI_lt (h1 k' (by omega)) (by omega)
  | succ d ih =>
    intro i hi hin
    obtain ⟨i', rfl⟩ : ∃ i', i = i' + 1 := ⟨k + d, by omega⟩
    have b := (hr.1 i' (by omega)).2
    refine br_f (nI_nle (by omega) (by omega)) ⟨pk_in i' 480 (by omega) (nI_pred i'), br_f ?_ (nm_r (pk_m1 i') (ih i' (by omega) (by omega)))⟩
    rw [nI_pred, nI_clamp (by omega), (hr.1 i' (by omega)).1]
    exact nI_nlt (h2 i' (by omega) (by omega)) (by omega)
/-- where x belongs in a rising row -/
theorem la_pos {n : Nat} {r : Nat → Nat} (h : ∀ i j, i < j → j < n → r i < r j) (x : Nat) : ∃ k, k ≤ n ∧ (∀ j, j < k → r j < x) ∧ ∀ j, k ≤ j → j < n → x ≤ r j := by
  induction n with
  | zero => exact ⟨0, by omega, fun j hj => absurd hj (by omega), fun j _ hj => absurd hj (by omega)⟩
  | succ n ih =>
    obtain ⟨k, hk, h1, h2⟩ := ih (fun i j a b => h i j a (by omega))
    by_cases e : k = n
    · by_cases g : r n < x
      · exact ⟨n + 1, by omega, fun j hj => by
          by_cases z : j = n
          · rw [z]; exact g
          · exact h1 j (by omega), fun j a b => absurd a (by omega)⟩
      · exact ⟨n, by omega, fun j hj => h1 j (by omega), fun j a b => by rw [show j = n by omega]; omega⟩
    · refine ⟨k, by omega, h1, fun j a b => ?_⟩
      by_cases z : j = n
      · have u := h2 k (by omega) (by omega)
        have v := h k n (by omega) (by omega)
        rw [z]; omega
      · exact h2 j a (by omega)
theorem la_ins_srt {n k x : Nat} {r : Nat → Nat} {A m : Nat → Int32} (hx : x < 512) (hr : la_srt n r A) (hk : k ≤ n) (h1 : ∀ j, j < k → r j < x) (h2 : ∀ j, k ≤ j → j < n → x < r j) (m1 : ∀ j, j < k → m j = A j) (m2 : m k = nI x) (m3 : ∀ j, k < j → j ≤ n → m j = A (j - 1)) : ∃ r', la_srt (n + 1) r' m ∧ ∀ y, (∃ j, j < n + 1 ∧ r' j = y) ↔ (y = x ∨ ∃ j, j < n ∧ r j = y) := by
  refine ⟨fun j => if j < k then r j else if j = k then x else r (j - 1), ⟨fun j hj => ?_, fun i j hij hj => ?_⟩, fun y => ⟨?_, ?_⟩⟩
  · dsimp only
    by_cases a : j < k
    · rw [if_pos a, m1 j a]; exact hr.1 j (by omega)
    · rw [if_neg a]
      by_cases b : j = k
      · rw [if_pos b, b, m2]; exact ⟨rfl, hx⟩
      · rw [if_neg b, m3 j (by omega) (by omega)]; exact hr.1 (j - 1) (by omega)
  · dsimp only
    by_cases a : j < k
    · rw [if_pos a, if_pos (show i < k by omega)]; exact hr.2 i j hij (by omega)
    · rw [if_neg a]
      by_cases b : j = k
      · rw [if_pos b, if_pos (show i < k by omega)]; exact h1 i (by omega)
      · rw [if_neg b]
        by_cases c : i < k
        · rw [if_pos c]
          have u := h1 i c
          have v := h2 (j - 1) (by omega) (by omega)
          omega
        · rw [if_neg c]
          by_cases d : i = k
          · rw [if_pos d]; exact h2 (j - 1) (by omega) (by omega)
          · rw [if_neg d]; exact hr.2 (i - 1) (j - 1) (by omega) (by omega)
  · intro ⟨j, hj, e⟩
    dsimp only at e
    by_cases a : j < k
    · rw [if_pos a] at e; exact Or.inr ⟨j, by omega, e⟩
    · rw [if_neg a] at e
      by_cases b : j = k
      · rw [if_pos b] at e; exact Or.inl e.symm
      · rw [if_neg b] at e; exact Or.inr ⟨j - 1, by omega, e⟩
  · intro h
    rcases h with e | ⟨j, hj, e⟩
    · refine ⟨k, by omega, ?_⟩
      dsimp only
      rw [if_neg (by omega), if_pos rfl, e]
    · by_cases a : j < k
      · refine ⟨j, by omega, ?_⟩
        dsimp only
        rw [if_pos a, e]
      · refine ⟨j + 1, by omega, ?_⟩
        dsimp only
        rw [if_neg (by omega), if_neg (by omega), Nat.add_sub_cancel, e]
theorem la_insert {post : Int32 → St2 → Prop} {dc pc ln ss nd ft : Int32} {fi : Int64} {fr : Int32} {a1 a2 a3 a4 a5 a6 a7 a8 : Nat → Int32} {a9 : Nat → Int64} {a10 : Nat → Int32} {a11 : Nat → Int64} {a12 a13 a14 a15 a16 a17 a18 a19 a20 : Nat → Int32} {n x : Nat} {r : Nat → Nat} (hn : n ≤ 32) (hx : x < 512) (hr : la_srt n r a18) (H0 : (∃ j, j < n ∧ r j = x) → post (nI n) (dc, pc, ln, ss, nd, ft, fi, fr, a1, a2, a3, a4, a5, a6, a7, a8, a9, a10, a11, a12, a13, a14, a15, a16, a17, a18, a19, a20)) (H1 : (¬ ∃ j, j < n ∧ r j = x) → ∀ m r', la_srt (n + 1) r' m → (∀ y, (∃ j, j < n + 1 ∧ r' j = y) ↔ (y = x ∨ ∃ j, j < n ∧ r j = y)) → post (nI (n + 1)) (dc, pc, ln, ss, nd, ft, fi, fr, a1, a2, a3, a4, a5, a6, a7, a8, a9, a10, a11, a12, a13, a14, a15, a16, a17, m, a19, a20)) : wpX_insert post (dc, pc, ln, ss, nd, ft, fi, fr, a1, a2, a3, a4, a5, a6, a7, a8, a9, a10, a11, a12, a13, a14, a15, a16, a17, a18, a19, a20) (nI n) (nI x) := by
  obtain ⟨k, hk, h1, h2⟩ := la_pos hr.2 x
  refine ⟨n - k + 1, la_i2 hn hx hr hk h1 h2 ?_ (n - k) n (by omega) (Nat.le_refl n)⟩
  by_cases e : ∃ j, j < n ∧ r j = x
  · have kn : k < n ∧ r k = x := by
      obtain ⟨j, hj, ej⟩ := e
      rcases Nat.lt_or_ge j k with z | z
      · have := h1 j z; omega
      · have kl : k < n := by omega
        refine ⟨kl, ?_⟩
        have u := h2 k (Nat.le_refl k) kl
        by_cases y : j = k
        · rw [← y]; exact ej
        · have v := hr.2 k j (by omega) hj; omega
    refine pk_le n k (fun z => absurd z (by omega)) (fun _ => ⟨pk_in k 480 (by omega), br_t ?_ (H0 e)⟩)
    rw [nI_clamp (by omega), (hr.1 k kn.1).1, kn.2]
  · have h2' : ∀ j, k ≤ j → j < n → x < r j := fun j a b => by
      have u := h2 j a b
      rcases Nat.lt_or_ge x (r j) with z | z
      · exact z
      · exact absurd ⟨j, b, by omega⟩ e
    have L : ∃ fu, wX_insert_44 post (nI n) (nI x) (nI k) dc pc ln ss nd ft fi fr fu (nI n) a1 a2 a3 a4 a5 a6 a7 a8 a9 a10 a11 a12 a13 a14 a15 a16 a17 a18 a19 a20 := ⟨n - k + 1, la_i44 (A := a18) hn hk (fun m m1 m2 m3 => by
      obtain ⟨r', g1, g2⟩ := la_ins_srt hx hr hk h1 h2' m1 m2 m3
      exact H1 e m r' g1 g2) (n - k) n a18 (by omega) (Nat.le_refl n) (fun j _ => rfl) (fun j a b => absurd a (by omega))⟩
    refine pk_le n k (fun z => L) (fun z => ⟨pk_in k 480 (by omega), br_f ?_ L⟩)
    rw [nI_clamp (by omega), (hr.1 k z).1]
    have u := h2' k (Nat.le_refl k) z
    have v := (hr.1 k z).2
    exact fun y => absurd ((nI_eq (by omega) (by omega)).mp y) (by omega)
theorem la_d9 {post : Int32 → St2 → Prop} {dc pc ss nd ft : Int32} {fi : Int64} {a1 a2 a3 a4 a5 a6 a7 a8 : Nat → Int32} {a9 : Nat → Int64} {a10 : Nat → Int32} {a11 : Nat → Int64} {a12 a13 a14 a15 a16 a19 a20 : Nat → Int32} {N S s : Nat} {w p q t sh sw B : Nat → Nat} (hN : N ≤ 32) (hS : S ≤ 2) (h : la_core N S w p q t sh sw B a3 a4 a5 a6 a7 a8 a9 a10 a11 a12 a13 a14 a15) (hp : ∀ k, p k < 512) (hs : s < S) (H : ∀ f m m', post (nI (la_dif (la_of sh s) p N)) (dc, pc, nI N, ss, nd, ft, fi, f, a1, a2, a3, a4, a5, a6, a7, a8, a9, a10, a11, a12, a13, a14, a15, a16, m, m', a19, a20)) : ∀ (m k : Nat) (fr : Int32) (a17 a18 : Nat → Int32) (r : Nat → Nat), k + m = N → a17 1 = nI (la_prev sh p s k) → a17 2 = nI (la_prev sh q s k) → la_srt (la_dif (la_of sh s) p k) r a18 → (∀ y, (∃ j, j < la_dif (la_of sh s) p k ∧ r j = y) ↔ ∃ j, j < k ∧ la_of sh s j = true ∧ p j = y) → wX_differentIn_9 post (nI s) (nI 1) (m + 1) (nI (la_dif (la_of sh s) p k)) (nI k) dc pc (nI N) ss nd ft fi fr a1 a2 a3 a4 a5 a6 a7 a8 a9 a10 a11 a12 a13 a14 a15 a16 a17 a18 a19 a20 := by
  intro m
  induction m with
  | zero =>
    intro k fr a17 a18 r hk e1 e2 hr hy
    have kN : k = N := by omega
    subst kN
    exact pk_le k k (fun _ => H _ _ _) (fun z => absurd z (by omega))
  | succ m ih =>
    intro k fr a17 a18 r hk e1 e2 hr hy
    have hc := h
    obtain ⟨c3, c4, c5, c6, c8, c9, c10, c11, ci, ct⟩ := h
    obtain ⟨hs', hw, h4⟩ := c4 k (by omega)
    have dl := la_dif_le (la_of sh s) p k
    refine pk_le N k (fun z => absurd z (by omega)) (fun _ => ⟨pk_in k 60 (by omega), ?_⟩)
    rw [nI_clamp (show k < 2 ^ 31 by omega), h4]
    refine pk_eq (sh k) s (fun z => ?_) (fun z => nm_r (nI_1 k) ?_)
    · refine la_addLine hN hS hc (by omega) z e1 e2 (fun f m' g1 g2 => ?_)
      refine ⟨pk_in 1 8 (by omega), ?_⟩
      rw [nI_clamp (show 1 < 2 ^ 31 by omega), g1]
      have D : la_dif (la_of sh s) p (k + 1) = if la_new (la_of sh s) p (p k) k = true then la_dif (la_of sh s) p k + 1 else la_dif (la_of sh s) p k := if_pos (la_of_t z)
      refine la_insert (by omega) (hp k) hr (fun g => nm_r (nI_1 k) ?_) (fun g m2 r' g3 g4 => nm_r (nI_1 k) ?_)
      · have nn : ¬ la_new (la_of sh s) p (p k) k = true := fun y => by
          obtain ⟨j, hj, hj2, hj3⟩ := (hy (p k)).mp g
          exact la_new_iff.mp y j hj ⟨hj2, hj3⟩
        have I := ih (k + 1) f m' a18 r (by omega) (by rw [la_prev_t z]; exact g1) (by rw [la_prev_t z]; exact g2)
        rw [D, if_neg nn] at I
        refine I hr (fun y => ?_)
        rw [hy y]
        constructor
        · intro ⟨j, hj, a⟩
          exact ⟨j, by omega, a⟩
        · intro ⟨j, hj, a, b⟩
          by_cases jk : j = k
          · rw [jk] at b
            rw [← b]
            exact (hy (p k)).mp g
          · exact ⟨j, by omega, a, b⟩
      · have nn : la_new (la_of sh s) p (p k) k = true := la_new_iff.mpr (fun j hj hh => g ((hy (p k)).mpr ⟨j, hj, hh⟩))
        have I := ih (k + 1) f m' m2 r' (by omega) (by rw [la_prev_t z]; exact g1) (by rw [la_prev_t z]; exact g2)
        rw [D, if_pos nn] at I
        refine I g3 (fun y => ?_)
        rw [g4 y, hy y]
        constructor
        · intro a
          rcases a with a | ⟨j, hj, a⟩
          · exact ⟨k, by omega, la_of_t z, a.symm⟩
          · exact ⟨j, by omega, a⟩
        · intro ⟨j, hj, a, b⟩
          by_cases jk : j = k
          · rw [jk] at b
            exact Or.inl b.symm
          · exact Or.inr ⟨j, by omega, a, b⟩
    · have D : la_dif (la_of sh s) p (k + 1) = la_dif (la_of sh s) p k := if_neg (la_of_f z)
      have I := ih (k + 1) fr a17 a18 r (by omega) (by rw [la_prev_f z]; exact e1) (by rw [la_prev_f z]; exact e2)
      rw [D] at I
      refine I hr (fun y => ?_)
      rw [hy y]
      constructor
      · intro ⟨j, hj, a⟩
        exact ⟨j, by omega, a⟩
      · intro ⟨j, hj, a, b⟩
        by_cases jk : j = k
        · rw [jk] at a
          exact absurd a (la_of_f z)
        · exact ⟨j, by omega, a, b⟩
theorem la_different {post : Int32 → St2 → Prop} {dc pc ss nd ft : Int32} {fi : Int64} {fr : Int32} {a1 a2 a3 a4 a5 a6 a7 a8 : Nat → Int32} {a9 : Nat → Int64} {a10 : Nat → Int32} {a11 : Nat → Int64} {a12 a13 a14 a15 a16 a17 a18 a19 a20 : Nat → Int32} {N S s : Nat} {w p q t sh sw B : Nat → Nat} (hN : N ≤ 32) (hS : S ≤ 2) (h : la_core N S w p q t sh sw B a3 a4 a5 a6 a7 a8 a9 a10 a11 a12 a13 a14 a15) (hp : ∀ k, p k < 512) (hs : s < S) (H : ∀ f m m', post (nI (la_dif (la_of sh s) p N)) (dc, pc, nI N, ss, nd, ft, fi, f, a1, a2, a3, a4, a5, a6, a7, a8, a9, a10, a11, a12, a13, a14, a15, a16, m, m', a19, a20)) : wpX_differentIn post (dc, pc, nI N, ss, nd, ft, fi, fr, a1, a2, a3, a4, a5, a6, a7, a8, a9, a10, a11, a12, a13, a14, a15, a16, a17, a18, a19, a20) (nI s) (nI 1) := by
  unfold wpX_differentIn
  dsimp only
  exact la_cln (fun m g => ⟨N + 1, la_d9 hN hS h hp hs H N 0 fr m a18 (fun _ => 0) (by omega) (g 1 (by omega)) (g 2 (by omega)) ⟨fun j hj => absurd hj (Nat.not_lt_zero j), fun i j _ hj => absurd hj (Nat.not_lt_zero j)⟩ (fun y => ⟨fun ⟨j, hj, _⟩ => absurd hj (Nat.not_lt_zero j), fun ⟨j, hj, _⟩ => absurd hj (Nat.not_lt_zero j)⟩)⟩)
/-- column 1 of a line's shape: least, most, sum -/
theorem la_colT {post : Int32 → St2 → Prop} {dc pc ss nd ft : Int32} {fi : Int64} {fr : Int32} {a1 a2 a3 a4 a5 a6 a7 a8 : Nat → Int32} {a9 : Nat → Int64} {a10 : Nat → Int32} {a11 : Nat → Int64} {a12 a13 a14 a15 a16 a17 a18 a19 a20 : Nat → Int32} {N S l x3 : Nat} {w p q t sh sw B : Nat → Nat} {r : Int32} (hN : N ≤ 32) (hS : S ≤ 2) (h : la_core N S w p q t sh sw B a3 a4 a5 a6 a7 a8 a9 a10 a11 a12 a13 a14 a15) (hl : l < N) (hx : x3 < 3) (hr : r = if nI x3 = 0 then la_lo (la_of sh (sh l)) p N else if nI x3 = 1 then la_hi (la_of sh (sh l)) p N else la_sum (la_of sh (sh l)) p N) (H : ∀ f m, post r (dc, pc, nI N, ss, nd, ft, fi, f, a1, a2, a3, a4, a5, a6, a7, a8, a9, a10, a11, a12, a13, a14, a15, a16, m, a18, a19, a20)) : wpX_column post (dc, pc, nI N, ss, nd, ft, fi, fr, a1, a2, a3, a4, a5, a6, a7, a8, a9, a10, a11, a12, a13, a14, a15, a16, a17, a18, a19, a20) (nI l) (nI 1) (nI x3) := by
  have hc := h
  obtain ⟨c3, c4, c5, c6, c8, c9, c10, c11, ci, ct⟩ := h
  obtain ⟨hs', hw, h4⟩ := c4 l hl
  obtain ⟨w24, e7, e80, e81, e82⟩ := c8 (sh l) hs'
  unfold wpX_column
  dsimp only
  refine la_isLine (by omega) hl (br_f (by decide) (br_f (nI_pos (by omega)) (pk_le x3 3 (fun _ => ⟨pk_in l 60 (by omega), nm_r (e' := nI (sh l)) (by rw [nI_clamp (by omega), h4]) (br_f (by decide) ⟨pk_in (sh l) 60 (by omega), br_f (by rw [nI_clamp (by omega), e7]; decide) ⟨pk_in (8 * sh l + 1) 480 (by omega) la_ix, br_t (by rw [la_ix, nI_clamp (by omega), e81]) (pk_eq x3 3 (fun z => absurd z (by omega)) (fun _ => ?_))⟩⟩)⟩) (fun z => absurd z (by omega)))))
  exact la_total hN hS hc hs' hr (fun f m => H f m)
theorem la_colD {post : Int32 → St2 → Prop} {dc pc ss nd ft : Int32} {fi : Int64} {fr : Int32} {a1 a2 a3 a4 a5 a6 a7 a8 : Nat → Int32} {a9 : Nat → Int64} {a10 : Nat → Int32} {a11 : Nat → Int64} {a12 a13 a14 a15 a16 a17 a18 a19 a20 : Nat → Int32} {N S l : Nat} {w p q t sh sw B : Nat → Nat} (hN : N ≤ 32) (hS : S ≤ 2) (h : la_core N S w p q t sh sw B a3 a4 a5 a6 a7 a8 a9 a10 a11 a12 a13 a14 a15) (hp : ∀ k, p k < 512) (hl : l < N) (H : ∀ f m m', post (nI (la_dif (la_of sh (sh l)) p N)) (dc, pc, nI N, ss, nd, ft, fi, f, a1, a2, a3, a4, a5, a6, a7, a8, a9, a10, a11, a12, a13, a14, a15, a16, m, m', a19, a20)) : wpX_column post (dc, pc, nI N, ss, nd, ft, fi, fr, a1, a2, a3, a4, a5, a6, a7, a8, a9, a10, a11, a12, a13, a14, a15, a16, a17, a18, a19, a20) (nI l) (nI 1) (nI 3) := by
  have hc := h
  obtain ⟨c3, c4, c5, c6, c8, c9, c10, c11, ci, ct⟩ := h
  obtain ⟨hs', hw, h4⟩ := c4 l hl
  obtain ⟨w24, e7, e80, e81, e82⟩ := c8 (sh l) hs'
  unfold wpX_column
  dsimp only
  refine la_isLine (by omega) hl (br_f (by decide) (br_f (nI_pos (by omega)) (pk_le 3 3 (fun _ => ⟨pk_in l 60 (by omega), nm_r (e' := nI (sh l)) (by rw [nI_clamp (by omega), h4]) (br_f (by decide) ⟨pk_in (sh l) 60 (by omega), br_f (by rw [nI_clamp (by omega), e7]; decide) ⟨pk_in (8 * sh l + 1) 480 (by omega) la_ix, br_t (by rw [la_ix, nI_clamp (by omega), e81]) (pk_eq 3 3 (fun _ => ?_) (fun z => absurd rfl z))⟩⟩)⟩) (fun z => absurd z (by omega)))))
  exact la_different hN hS hc hp hs' (fun f m m' => H f m m')
theorem la_col0 {post : Int32 → St2 → Prop} {dc pc ss nd ft : Int32} {fi : Int64} {fr : Int32} {a1 a2 a3 a4 a5 a6 a7 a8 : Nat → Int32} {a9 : Nat → Int64} {a10 : Nat → Int32} {a11 : Nat → Int64} {a12 a13 a14 a15 a16 a17 a18 a19 a20 : Nat → Int32} {N S l : Nat} {w p q t sh sw B : Nat → Nat} (hN : N ≤ 32) (hS : S ≤ 2) (h : la_core N S w p q t sh sw B a3 a4 a5 a6 a7 a8 a9 a10 a11 a12 a13 a14 a15) (hl : l < N) (H : post (-2) (dc, pc, nI N, ss, nd, ft, fi, fr, a1, a2, a3, a4, a5, a6, a7, a8, a9, a10, a11, a12, a13, a14, a15, a16, a17, a18, a19, a20)) : wpX_column post (dc, pc, nI N, ss, nd, ft, fi, fr, a1, a2, a3, a4, a5, a6, a7, a8, a9, a10, a11, a12, a13, a14, a15, a16, a17, a18, a19, a20) (nI l) 0 0 := by
  obtain ⟨c3, c4, c5, c6, c8, c9, c10, c11, ci, ct⟩ := h
  obtain ⟨hs', hw, h4⟩ := c4 l hl
  obtain ⟨w24, e7, e80, e81, e82⟩ := c8 (sh l) hs'
  unfold wpX_column
  dsimp only
  exact la_isLine (by omega) hl (br_f (by decide) (br_f (by decide) (br_t (by decide) ⟨pk_in l 60 (by omega), nm_r (e' := nI (sh l)) (by rw [nI_clamp (by omega), h4]) (br_f (by decide) ⟨pk_in (sh l) 60 (by omega), br_f (by rw [nI_clamp (by omega), e7]; decide) ⟨pk_in (8 * sh l) 480 (by omega) la_ix0, br_f (by rw [la_ix0, nI_clamp (by omega), e80]; exact la_nw w24) H⟩⟩)⟩)))
theorem la_col3 {post : Int32 → St2 → Prop} {dc pc ss nd ft : Int32} {fi : Int64} {fr : Int32} {a1 a2 a3 a4 a5 a6 a7 a8 : Nat → Int32} {a9 : Nat → Int64} {a10 : Nat → Int32} {a11 : Nat → Int64} {a12 a13 a14 a15 a16 a17 a18 a19 a20 : Nat → Int32} {N S l : Nat} {w p q t sh sw B : Nat → Nat} (hN : N ≤ 32) (hS : S ≤ 2) (h : la_core N S w p q t sh sw B a3 a4 a5 a6 a7 a8 a9 a10 a11 a12 a13 a14 a15) (hl : l < N) (H : post (-2) (dc, pc, nI N, ss, nd, ft, fi, fr, a1, a2, a3, a4, a5, a6, a7, a8, a9, a10, a11, a12, a13, a14, a15, a16, a17, a18, a19, a20)) : wpX_column post (dc, pc, nI N, ss, nd, ft, fi, fr, a1, a2, a3, a4, a5, a6, a7, a8, a9, a10, a11, a12, a13, a14, a15, a16, a17, a18, a19, a20) (nI l) 3 0 := by
  obtain ⟨c3, c4, c5, c6, c8, c9, c10, c11, ci, ct⟩ := h
  obtain ⟨hs', hw, h4⟩ := c4 l hl
  obtain ⟨w24, e7, e80, e81, e82⟩ := c8 (sh l) hs'
  unfold wpX_column
  dsimp only
  exact la_isLine (by omega) hl (br_f (by decide) (br_f (by decide) (br_t (by decide) ⟨pk_in l 60 (by omega), nm_r (e' := nI (sh l)) (by rw [nI_clamp (by omega), h4]) (br_f (by decide) ⟨pk_in (sh l) 60 (by omega), br_t (by rw [nI_clamp (by omega), e7]; decide) H⟩)⟩)))
theorem la_dg4 {post : Int32 → St2 → Prop} {dc pc ss nd ft : Int32} {fi : Int64} {a1 a2 a3 a4 a5 a6 a7 a8 : Nat → Int32} {a9 : Nat → Int64} {a10 : Nat → Int32} {a11 : Nat → Int64} {a12 a13 a14 a15 a18 a19 a20 : Nat → Int32} {N S : Nat} {w p q t sh sw B : Nat → Nat} (hN : N ≤ 32) (hS : S ≤ 2) (h : la_core N S w p q t sh sw B a3 a4 a5 a6 a7 a8 a9 a10 a11 a12 a13 a14 a15) (H : ∀ r f m m', post r (dc, pc, nI N, ss, nd, ft, fi, f, a1, a2, a3, a4, a5, a6, a7, a8, a9, a10, a11, a12, a13, a14, a15, m, m', a18, a19, a20)) : ∀ (m k : Nat) (r fr : Int32) (a16 a17 : Nat → Int32), k + m = N → wX_digest_4 post (m + 1) r (nI k) dc pc (nI N) ss nd ft fi fr a1 a2 a3 a4 a5 a6 a7 a8 a9 a10 a11 a12 a13 a14 a15 a16 a17 a18 a19 a20 := by
  intro m
  induction m with
  | zero =>
    intro k r fr a16 a17 hk
    exact pk_le N k (fun _ => H _ _ _ _) (fun z => absurd z (by omega))
  | succ m ih =>
    intro k r fr a16 a17 hk
    have hc := h
    obtain ⟨c3, c4, c5, c6, c8, c9, c10, c11, ci, ct⟩ := h
    obtain ⟨hs', hw, h4⟩ := c4 k (by omega)
    obtain ⟨w24, e7, e80, e81, e82⟩ := c8 (sh k) hs'
    refine pk_le N k (fun z => absurd z (by omega)) (fun _ => la_readLine hN hS hc (by omega) (fun f m17 m16 hm => ⟨pk_in k 60 (by omega), nm_e ⟨4, ?_⟩⟩))
    have cs : (nI (sh k)).toNatClampNeg = sh k := nI_clamp (by omega)
    have ck : (nI k).toNatClampNeg = k := nI_clamp (by omega)
    refine ⟨pk_in k 60 (by omega), pk_in (sh k) 60 (by omega) (by rw [ck, h4]), br_f (by rw [ck, h4, cs, e7]; decide) ⟨pk_in 0 8 (by omega), nm_e (nm_r (e' := nI 1) (by decide) ?_)⟩⟩
    refine ⟨pk_in k 60 (by omega), pk_in (sh k) 60 (by omega) (by rw [ck, h4]), br_f (by rw [ck, h4, cs, e7]; decide) ⟨pk_in 1 8 (by omega), nm_e (nm_r (e' := nI 2) (by decide) ?_)⟩⟩
    refine ⟨pk_in k 60 (by omega), pk_in (sh k) 60 (by omega) (by rw [ck, h4]), br_f (by rw [ck, h4, cs, e7]; decide) ⟨pk_in 2 8 (by omega), nm_e (nm_r (e' := nI 3) (by decide) ?_)⟩⟩
    exact ⟨pk_in k 60 (by omega), pk_in (sh k) 60 (by omega) (by rw [ck, h4]), br_t (by rw [ck, h4, cs, e7]; decide) (nm_e (nm_r (nI_1 k) (ih (k + 1) _ f m16 m17 (by omega))))⟩
theorem la_digest {post : Int32 → St2 → Prop} {dc pc ss nd ft : Int32} {fi : Int64} {fr : Int32} {a1 a2 a3 a4 a5 a6 a7 a8 : Nat → Int32} {a9 : Nat → Int64} {a10 : Nat → Int32} {a11 : Nat → Int64} {a12 a13 a14 a15 a16 a17 a18 a19 a20 : Nat → Int32} {N S : Nat} {w p q t sh sw B : Nat → Nat} (hN : N ≤ 32) (hS : S ≤ 2) (h : la_core N S w p q t sh sw B a3 a4 a5 a6 a7 a8 a9 a10 a11 a12 a13 a14 a15) (H : ∀ r f m m', (N = 0 → r = 0) → post r (dc, pc, nI N, ss, nd, ft, fi, f, a1, a2, a3, a4, a5, a6, a7, a8, a9, a10, a11, a12, a13, a14, a15, m, m', a18, a19, a20)) : wpX_digest post (dc, pc, nI N, ss, nd, ft, fi, fr, a1, a2, a3, a4, a5, a6, a7, a8, a9, a10, a11, a12, a13, a14, a15, a16, a17, a18, a19, a20) := by
  by_cases e : N = 0
  · subst e
    exact ⟨1, br_t (by decide) (H 0 fr a16 a17 (fun _ => rfl))⟩
  · exact ⟨N + 1, la_dg4 hN hS h (fun r f m m' => H r f m m' (fun z => absurd z e)) N 0 0 fr a16 a17 (by omega)⟩
end
section
/-! ===== 05: sets of lines: having, members, group, largest; times: burst, between ===== -/
theorem la_cntN {N : Nat} (hN : N ≤ 60) (f : Nat → Nat) (x : Nat) : la_cnt (fun k => decide (k < N ∧ f k = x)) 60 = la_cnt (la_of f x) N := by
  rw [la_cnt_cut hN (fun k hk => decide_eq_false (fun z => absurd z.1 (by omega)))]
  exact la_cnt_congr (fun k hk => decide_eq_decide.mpr ⟨fun z => z.2, fun z => ⟨hk, z⟩⟩)
theorem la_having {post : Int32 → St2 → Prop} {dc pc ln ss nd ft : Int32} {fi : Int64} {fr : Int32} {a1 a2 a3 a4 a5 a6 a7 a8 : Nat → Int32} {a9 : Nat → Int64} {a10 : Nat → Int32} {a11 : Nat → Int64} {a12 a13 a14 a15 a16 a17 a18 a19 a20 : Nat → Int32} {x : Nat} {f : Nat → Bool} (hx : x < 24) (h : la_has (a11 x) f) (H : post (nI (la_cnt f 60)) (dc, pc, ln, ss, nd, ft, fi, fr, a1, a2, a3, a4, a5, a6, a7, a8, a9, a10, a11, a12, a13, a14, a15, a16, a17, a18, a19, a20)) : wpX_having post (dc, pc, ln, ss, nd, ft, fi, fr, a1, a2, a3, a4, a5, a6, a7, a8, a9, a10, a11, a12, a13, a14, a15, a16, a17, a18, a19, a20) (nI x) := by
  unfold wpX_having
  dsimp only
  exact la_isItem (Or.inl hx) (br_f (by decide) (la_isNum0 (Or.inl (by omega)) (by omega) (br_t rfl ⟨pk_in x 24 hx, by rw [nI_clamp (by omega)]; exact la_ones h H⟩)))
theorem la_members {post : Int32 → Prop} {dc pc ss nd ft : Int32} {fi : Int64} {fr : Int32} {a1 a2 a3 a4 a5 a6 a7 a8 : Nat → Int32} {a9 : Nat → Int64} {a10 : Nat → Int32} {a11 : Nat → Int64} {a12 a13 a14 a15 a16 a17 a18 a19 a20 : Nat → Int32} {N S l : Nat} {w p q t sh sw B : Nat → Nat} (hN : N ≤ 32) (hS : S ≤ 2) (h : la_core N S w p q t sh sw B a3 a4 a5 a6 a7 a8 a9 a10 a11 a12 a13 a14 a15) (hl : l < N) (H : post (nI (la_cnt (la_of sh (sh l)) N))) : wpX_members post (dc, pc, nI N, ss, nd, ft, fi, fr, a1, a2, a3, a4, a5, a6, a7, a8, a9, a10, a11, a12, a13, a14, a15, a16, a17, a18, a19, a20) (nI l) := by
  obtain ⟨c3, c4, c5, c6, c8, c9, c10, c11, ci, ct⟩ := h
  obtain ⟨hs', hw, h4⟩ := c4 l hl
  have cl : (nI l).toNatClampNeg = l := nI_clamp (by omega)
  unfold wpX_members
  dsimp only
  exact la_isLine (by omega) hl (br_f (by decide) ⟨pk_in l 60 (by omega), pk_in (sh l) 60 (by omega) (by rw [cl, h4]), by
    rw [cl, h4, nI_clamp (by omega)]
    exact la_ones (c9 (sh l) hs') (by rw [la_cntN (by omega)]; exact H)⟩)
/-- f is the first line of shape s -/
def la_fst (N : Nat) (sh : Nat → Nat) (s f : Nat) : Prop := f < N ∧ sh f = s ∧ ∀ j, j < f → ¬ sh j = s
theorem la_firstOf {post : Int32 → Prop} {dc pc ln ss nd ft : Int32} {fi : Int64} {fr : Int32} {a1 a2 a3 a4 a5 a6 a7 a8 : Nat → Int32} {a9 : Nat → Int64} {a10 : Nat → Int32} {a11 : Nat → Int64} {a12 a13 a14 a15 a16 a17 a18 a19 a20 : Nat → Int32} {N S s f : Nat} {w p q t sh sw B : Nat → Nat} (hN : N ≤ 32) (hS : S ≤ 2) (h : la_core N S w p q t sh sw B a3 a4 a5 a6 a7 a8 a9 a10 a11 a12 a13 a14 a15) (hs : s < S) (hf : la_fst N sh s f) (H : post (nI f)) : wpX_firstOf post (dc, pc, ln, ss, nd, ft, fi, fr, a1, a2, a3, a4, a5, a6, a7, a8, a9, a10, a11, a12, a13, a14, a15, a16, a17, a18, a19, a20) (nI s) := by
  obtain ⟨c3, c4, c5, c6, c8, c9, c10, c11, ci, ct⟩ := h
  obtain ⟨f1, f2, f3⟩ := hf
  refine ⟨pk_in s 60 (by omega), ?_⟩
  rw [nI_clamp (by omega)]
  exact la_low (c9 s hs) (m := f) (by omega) (fun k hk => decide_eq_false (fun z => f3 k hk z.2)) (fun _ => decide_eq_true ⟨f1, f2⟩) H
theorem la_group {post : Int32 → Prop} {dc pc ss nd ft : Int32} {fi : Int64} {fr : Int32} {a1 a2 a3 a4 a5 a6 a7 a8 : Nat → Int32} {a9 : Nat → Int64} {a10 : Nat → Int32} {a11 : Nat → Int64} {a12 a13 a14 a15 a16 a17 a18 a19 a20 : Nat → Int32} {N S l f : Nat} {w p q t sh sw B : Nat → Nat} (hN : N ≤ 32) (hS : S ≤ 2) (h : la_core N S w p q t sh sw B a3 a4 a5 a6 a7 a8 a9 a10 a11 a12 a13 a14 a15) (hl : l < N) (hf : la_fst N sh (sh l) f) (H : post (nI f)) : wpX_group post (dc, pc, nI N, ss, nd, ft, fi, fr, a1, a2, a3, a4, a5, a6, a7, a8, a9, a10, a11, a12, a13, a14, a15, a16, a17, a18, a19, a20) (nI l) := by
  have hc := h
  obtain ⟨c3, c4, c5, c6, c8, c9, c10, c11, ci, ct⟩ := h
  obtain ⟨hs', hw, h4⟩ := c4 l hl
  unfold wpX_group
  dsimp only
  exact la_isLine (by omega) hl (br_f (by decide) ⟨pk_in l 60 (by omega), by
    rw [nI_clamp (show l < 2 ^ 31 by omega), h4]
    exact la_firstOf hN hS hc hs' hf H⟩)
def la_dl (own c i s : Nat) : Nat := if own < c ∨ (c = own ∧ i < s) then 1 else 0
theorem la_rkS {post : Int32 → Prop} {dc pc ln nd ft : Int32} {fi : Int64} {fr : Int32} {a1 a2 a3 a4 a5 a6 a7 a8 : Nat → Int32} {a9 : Nat → Int64} {a10 : Nat → Int32} {a11 : Nat → Int64} {a12 a13 a14 a15 a16 a17 a18 a19 a20 : Nat → Int32} {own c i s r n : Nat} {f : Nat → Bool} (hi : i < 2) (hs : s < 2) (ho : own ≤ 60) (h9 : la_has (a9 i) f) (hc : la_cnt f 60 = c) (K : wX_rankOf_15 post (nI s) (nI own) dc pc ln (nI 2) nd ft fi fr a1 a2 a3 a4 a5 a6 a7 a8 a9 a10 a11 a12 a13 a14 a15 a16 a17 a18 a19 a20 n (nI (r + la_dl own c i s)) (nI (i + 1))) : wX_rankOf_15 post (nI s) (nI own) dc pc ln (nI 2) nd ft fi fr a1 a2 a3 a4 a5 a6 a7 a8 a9 a10 a11 a12 a13 a14 a15 a16 a17 a18 a19 a20 (n + 1) (nI r) (nI i) := by
  have c60 : c ≤ 60 := by rw [← hc]; exact la_cnt_le f 60
  unfold la_dl at K
  refine pk_le 2 i (fun z => absurd z (by omega)) (fun _ => ⟨pk_in i 60 (by omega), ?_⟩)
  rw [nI_clamp (show i < 2 ^ 31 by omega)]
  refine la_ones h9 ?_
  rw [hc]
  refine pk_lt own c (fun z => ?_) (fun z => pk_eq c own (fun y => pk_le s i (fun x => ?_) (fun x => ?_)) (fun y => ?_))
  · rw [if_pos (Or.inl z)] at K
    exact nm_r (nI_add r 1) (nm_r (nI_1 i) K)
  · rw [if_neg (by omega)] at K
    exact nm_r (nI_add r 0) (nm_r (nI_1 i) K)
  · rw [if_pos (Or.inr ⟨y, x⟩)] at K
    exact nm_r (nI_add r 1) (nm_r (nI_1 i) K)
  · rw [if_neg (by omega)] at K
    exact nm_r (nI_add r 0) (nm_r (nI_1 i) K)
theorem la_rank {post : Int32 → Prop} {dc pc ln nd ft : Int32} {fi : Int64} {fr : Int32} {a1 a2 a3 a4 a5 a6 a7 a8 : Nat → Int32} {a9 : Nat → Int64} {a10 : Nat → Int32} {a11 : Nat → Int64} {a12 a13 a14 a15 a16 a17 a18 a19 a20 : Nat → Int32} {N s own : Nat} {w p q t sh sw B : Nat → Nat} (hN : N ≤ 32) (h : la_core N 2 w p q t sh sw B a3 a4 a5 a6 a7 a8 a9 a10 a11 a12 a13 a14 a15) (hs : s < 2) (ho : own = la_cnt (la_of sh s) N) (H : post (nI (0 + la_dl own (la_cnt (la_of sh 0) N) 0 s + la_dl own (la_cnt (la_of sh 1) N) 1 s))) : wpX_rankOf post (dc, pc, ln, nI 2, nd, ft, fi, fr, a1, a2, a3, a4, a5, a6, a7, a8, a9, a10, a11, a12, a13, a14, a15, a16, a17, a18, a19, a20) (nI s) := by
  obtain ⟨c3, c4, c5, c6, c8, c9, c10, c11, ci, ct⟩ := h
  have o60 : own ≤ 60 := by
    have := la_cnt_le (la_of sh s) N
    omega
  refine ⟨pk_in s 60 (by omega), ?_⟩
  rw [nI_clamp (show s < 2 ^ 31 by omega)]
  refine la_ones (c9 s hs) ?_
  rw [la_cntN (by omega), ← ho]
  refine ⟨3, ?_⟩
  refine la_rkS (i := 0) (r := 0) (by omega) hs o60 (c9 0 (by omega)) (la_cntN (by omega) sh 0) ?_
  refine la_rkS (i := 1) (by omega) hs o60 (c9 1 (by omega)) (la_cntN (by omega) sh 1) ?_
  exact pk_le 2 2 (fun _ => H) (fun z => absurd z (by omega))
theorem la_largest {post : Int32 → Prop} {dc pc ln nd ft : Int32} {fi : Int64} {fr : Int32} {a1 a2 a3 a4 a5 a6 a7 a8 : Nat → Int32} {a9 : Nat → Int64} {a10 : Nat → Int32} {a11 : Nat → Int64} {a12 a13 a14 a15 a16 a17 a18 a19 a20 : Nat → Int32} {N k f0 f1 c0 c1 : Nat} {r : Int32} {w p q t sh sw B : Nat → Nat} (hN : N ≤ 32) (h : la_core N 2 w p q t sh sw B a3 a4 a5 a6 a7 a8 a9 a10 a11 a12 a13 a14 a15) (hk : k ≤ 2) (h0 : la_fst N sh 0 f0) (h1 : la_fst N sh 1 f1) (e0 : c0 = la_cnt (la_of sh 0) N) (e1 : c1 = la_cnt (la_of sh 1) N) (hr : r = if k = 0 then (if c1 ≤ c0 then nI f0 else nI f1) else if k = 1 then (if c1 ≤ c0 then nI f1 else nI f0) else -2) (H : post r) : wpX_largest post (dc, pc, ln, nI 2, nd, ft, fi, fr, a1, a2, a3, a4, a5, a6, a7, a8, a9, a10, a11, a12, a13, a14, a15, a16, a17, a18, a19, a20) (nI k) := by
  refine ⟨3, ?_⟩
  refine pk_le 2 0 (fun z => absurd z (by omega)) (fun _ => ?_)
  refine la_rank (s := 0) hN h (by omega) e0 ?_
  rw [← e0, ← e1]
  have d0 : 0 + la_dl c0 c0 0 0 + la_dl c0 c1 1 0 = if c1 ≤ c0 then 0 else 1 := by
    unfold la_dl
    rw [if_neg (by omega)]
    by_cases z : c1 ≤ c0
    · rw [if_pos z, if_neg (by omega)]
    · rw [if_neg z, if_pos (by omega)]
  have d1 : 0 + la_dl c1 c0 0 1 + la_dl c1 c1 1 1 = if c1 ≤ c0 then 1 else 0 := by
    unfold la_dl
    rw [if_neg (show ¬ (c1 < c1 ∨ (c1 = c1 ∧ 1 < 1)) by omega)]
    by_cases z : c1 ≤ c0
    · rw [if_pos z, if_pos (by omega)]
    · rw [if_neg z, if_neg (by omega)]
  rw [d0]
  have g : ∀ a : Nat, a ≤ 1 → a = (if c1 ≤ c0 then 0 else 1) → ((nI a = nI k → wpX_firstOf (fun r => post r) (dc, pc, ln, nI 2, nd, ft, fi, fr, a1, a2, a3, a4, a5, a6, a7, a8, a9, a10, a11, a12, a13, a14, a15, a16, a17, a18, a19, a20) 0) ∧ (¬ nI a = nI k → ∀ x : Int32, x = 0 + 1 → wX_largest_2 post (nI k) dc pc ln (nI 2) nd ft fi fr a1 a2 a3 a4 a5 a6 a7 a8 a9 a10 a11 a12 a13 a14 a15 a16 a17 a18 a19 a20 2 x)) := by
    intro a ha ea
    refine pk_eq a k (fun z => la_firstOf (s := 0) hN (Nat.le_refl 2) h (by omega) h0 ?_) (fun z => nm_r (e' := nI 1) (by decide) (pk_le 2 1 (fun y => absurd y (by omega)) (fun _ => la_rank (s := 1) hN h (by omega) e1 ?_)))
    · have er : r = nI f0 := by
        rw [hr]
        by_cases c : c1 ≤ c0
        · rw [if_pos c] at ea
          rw [if_pos (by omega), if_pos c]
        · rw [if_neg c] at ea
          rw [if_neg (by omega), if_pos (by omega), if_neg c]
      rw [← er]; exact H
    · rw [← e0, ← e1, d1]
      have g2 : ∀ b : Nat, b ≤ 1 → b = (if c1 ≤ c0 then 1 else 0) → ((nI b = nI k → wpX_firstOf (fun r => post r) (dc, pc, ln, nI 2, nd, ft, fi, fr, a1, a2, a3, a4, a5, a6, a7, a8, a9, a10, a11, a12, a13, a14, a15, a16, a17, a18, a19, a20) (nI 1)) ∧ (¬ nI b = nI k → ∀ x : Int32, x = nI 1 + 1 → wX_largest_2 post (nI k) dc pc ln (nI 2) nd ft fi fr a1 a2 a3 a4 a5 a6 a7 a8 a9 a10 a11 a12 a13 a14 a15 a16 a17 a18 a19 a20 1 x)) := by
        intro b hb eb
        refine pk_eq b k (fun y => la_firstOf (s := 1) hN (Nat.le_refl 2) h (by omega) h1 ?_) (fun y => nm_r (e' := nI 2) (by decide) (pk_le 2 2 (fun _ => ?_) (fun x => absurd x (by omega))))
        · have er : r = nI f1 := by
            rw [hr]
            by_cases c : c1 ≤ c0
            · rw [if_pos c] at ea eb
              rw [if_neg (by omega), if_pos (by omega), if_pos c]
            · rw [if_neg c] at ea eb
              rw [if_pos (by omega), if_neg c]
          rw [← er]; exact H
        · have er : r = -2 := by
            rw [hr]
            by_cases c : c1 ≤ c0
            · rw [if_pos c] at ea eb
              rw [if_neg (by omega), if_neg (by omega)]
            · rw [if_neg c] at ea eb
              rw [if_neg (by omega), if_neg (by omega)]
          rw [← er]; exact H
      exact g2 _ (by split <;> omega) rfl
  exact g _ (by split <;> omega) rfl
theorem la_b23 {post : Int32 → Prop} {J : Int32 → Int32 → Int32 → Prop} {dc pc ss nd ft : Int32} {fi : Int64} {fr : Int32} {a1 a2 a3 a4 a5 a6 a7 a8 : Nat → Int32} {a9 : Nat → Int64} {a10 : Nat → Int32} {a11 : Nat → Int64} {a12 a13 a14 a15 a16 a17 a18 a19 a20 : Nat → Int32} {N b c E W : Nat} {x2 : Int32} (hN : N ≤ 32) (hb : b < N) (hE : E = min N (b + c)) (hc : ∀ e b, b ≤ e → e < N → (¬ (nI W ≤ a3 e - a3 b) ↔ e - b < c)) (K : wX_burst_55 post J (nI W) x2 (nI E) (nI b) dc pc (nI N) ss nd ft fi fr a1 a2 a3 a4 a5 a6 a7 a8 a9 a10 a11 a12 a13 a14 a15 a16 a17 a18 a19 a20) : ∀ (d e : Nat), e + d = E → b ≤ e → wX_burst_23 post J (nI W) x2 (nI b) dc pc (nI N) ss nd ft fi fr a1 a2 a3 a4 a5 a6 a7 a8 a9 a10 a11 a12 a13 a14 a15 a16 a17 a18 a19 a20 (d + 1) (nI e) := by
  have cb : (nI b).toNatClampNeg = b := nI_clamp (by omega)
  intro d
  induction d with
  | zero =>
    intro e he hbe
    rw [show e = E by omega]
    refine pk_le N E (fun _ => K) (fun z => ⟨pk_in E 60 (by omega), pk_in b 60 (by omega), ?_⟩)
    rw [cb, nI_clamp (show E < 2 ^ 31 by omega)]
    refine br_c (fun _ => K) (fun g => ?_)
    have := (hc E b (by omega) z).mp g
    omega
  | succ d ih =>
    intro e he hbe
    refine pk_le N e (fun z => absurd z (by omega)) (fun z => ⟨pk_in e 60 (by omega), pk_in b 60 (by omega), ?_⟩)
    rw [cb, nI_clamp (show e < 2 ^ 31 by omega)]
    exact br_f ((hc e b hbe z).mpr (by omega)) (nm_r (nI_1 e) (ih (e + 1) (by omega) (by omega)))
theorem la_b14 {post : Int32 → Prop} {dc pc ss nd ft : Int32} {fi : Int64} {fr : Int32} {a1 a2 a3 a4 a5 a6 a7 a8 : Nat → Int32} {a9 : Nat → Int64} {a10 : Nat → Int32} {a11 : Nat → Int64} {a12 a13 a14 a15 a16 a17 a18 a19 a20 : Nat → Int32} {N c W : Nat} (hN : N ≤ 32) (hc1 : 1 ≤ c) (hc : ∀ e b, b ≤ e → e < N → (¬ (nI W ≤ a3 e - a3 b) ↔ e - b < c)) (H : post (nI (min N c))) : ∀ (m b mo e : Nat), b + m = N → mo = (if b = 0 then 0 else min N c) → e = (if b = 0 then 0 else min N (b - 1 + c)) → wX_burst_14 post (nI W) dc pc (nI N) ss nd ft fi fr a1 a2 a3 a4 a5 a6 a7 a8 a9 a10 a11 a12 a13 a14 a15 a16 a17 a18 a19 a20 (m + 1) (nI mo) (nI e) (nI b) := by
  intro m
  induction m with
  | zero =>
    intro b mo e hb hm he
    have em : mo = min N c := by
      rw [hm]
      split <;> omega
    exact pk_le N b (fun _ => by rw [em]; exact H) (fun z => absurd z (by omega))
  | succ m ih =>
    intro b mo e hb hm he
    have he1 : b ≤ e ∧ e ≤ min N (b + c) := by
      rw [he]
      split <;> omega
    refine pk_le N b (fun z => absurd z (by omega)) (fun _ => ⟨min N (b + c) - e + 1, la_b23 (E := min N (b + c)) hN (by omega) rfl hc ?_ _ e (by omega) he1.1⟩)
    have I := ih (b + 1) (min N c) (min N (b + c)) (by omega) (by rw [if_neg (by omega)]) (by rw [if_neg (by omega), Nat.add_sub_cancel])
    have hm1 : mo ≤ 32 := by
      rw [hm]
      split <;> omega
    unfold wX_burst_55
    rw [pk_sub (show b ≤ min N (b + c) by omega)]
    refine pk_le (min N (b + c) - b) mo (fun z => ?_) (fun z => ?_)
    · have em : mo = min N c := by
        rw [hm] at z ⊢
        split at z
        · omega
        · rw [if_neg (by assumption)]
      rw [em]
      exact nm_r (nI_1 b) I
    · have em : min N (b + c) - b = min N c := by
        rw [hm] at z
        split at z
        · omega
        · omega
      rw [em]
      exact nm_r (e' := nI (min N c)) rfl (nm_r (nI_1 b) I)
theorem la_burst {post : Int32 → Prop} {dc pc ss nd ft : Int32} {fi : Int64} {fr : Int32} {a1 a2 a3 a4 a5 a6 a7 a8 : Nat → Int32} {a9 : Nat → Int64} {a10 : Nat → Int32} {a11 : Nat → Int64} {a12 a13 a14 a15 a16 a17 a18 a19 a20 : Nat → Int32} {N c W : Nat} (hN : N ≤ 32) (hW : 1 ≤ W) (hW2 : W < 2 ^ 31) (hc1 : 1 ≤ c) (hc : ∀ e b, b ≤ e → e < N → (¬ (nI W ≤ a3 e - a3 b) ↔ e - b < c)) (H : post (nI (min N c))) : wpX_burst post (dc, pc, nI N, ss, nd, ft, fi, fr, a1, a2, a3, a4, a5, a6, a7, a8, a9, a10, a11, a12, a13, a14, a15, a16, a17, a18, a19, a20) (nI W) :=
  pk_le 1 W (fun _ => ⟨N + 1, la_b14 hN hc1 hc H N 0 0 0 (by omega) rfl rfl⟩) (fun z => absurd z (by omega))
/-- between: all the lines -/
theorem la_between {post : Int32 → Prop} {dc pc ss nd ft : Int32} {fi : Int64} {fr : Int32} {a1 a2 a3 a4 a5 a6 a7 a8 : Nat → Int32} {a9 : Nat → Int64} {a10 : Nat → Int32} {a11 : Nat → Int64} {a12 a13 a14 a15 a16 a17 a18 a19 a20 : Nat → Int32} {N T : Nat} {X : Int32} (hN : N ≤ 32) (hT : T < 1000) (h1 : ∀ k, k < N → X ≤ a3 k) (h2 : ∀ k, k < N → ¬ nI (T + 1) ≤ a3 k) (H : post (nI N)) : wpX_between post (dc, pc, nI N, ss, nd, ft, fi, fr, a1, a2, a3, a4, a5, a6, a7, a8, a9, a10, a11, a12, a13, a14, a15, a16, a17, a18, a19, a20) X (nI T) := by
  unfold wpX_between
  dsimp only
  refine la_cb (r := 0) (by omega) (by omega) (fun k hk => absurd hk (Nat.not_lt_zero k)) (fun k _ hk => h1 k hk) ?_
  refine la_cu1 (r := N) hT (by omega) (Nat.le_refl N) h2 (fun k a b => absurd a (by omega)) ?_
  refine pk_le N 0 (fun z => ?_) (fun z => ?_)
  · rw [show N = 0 by omega] at H
    exact H
  · rw [pk_sub (Nat.zero_le N)]
    exact H
end
section
/-! ===== 06: patterns: overGaps, takes, after, shapeMayFit, lineFits, fit ===== -/
theorem la_og1 {post : Int32 → Prop} {dc ln ss nd ft : Int32} {fi : Int64} {fr : Int32} {a1 a2 a3 a4 a5 a6 a7 a8 : Nat → Int32} {a9 : Nat → Int64} {a10 : Nat → Int32} {a11 : Nat → Int64} {a12 a13 a14 a15 a16 a17 a18 a19 a20 : Nat → Int32} {n k m : Nat} {z z' : Int32} (hn : n ≤ 8) (hk : k < n) (hz : z' = if ((z >>> (nI k &&& 31)) &&& 1) = 1 ∧ a2 k = 2002 then z ||| ((1 : Int32) <<< (nI (k + 1) &&& 31)) else z ||| 0) (K : wX_overGaps_4 post dc (nI n) ln ss nd ft fi fr a1 a2 a3 a4 a5 a6 a7 a8 a9 a10 a11 a12 a13 a14 a15 a16 a17 a18 a19 a20 m z' (nI (k + 1))) : wX_overGaps_4 post dc (nI n) ln ss nd ft fi fr a1 a2 a3 a4 a5 a6 a7 a8 a9 a10 a11 a12 a13 a14 a15 a16 a17 a18 a19 a20 (m + 1) z (nI k) := by
  refine pk_le n k (fun y => absurd y (by omega)) (fun _ => br_c (fun g => ⟨pk_in k 8 (by omega), ?_⟩) (fun g => ?_))
  · rw [nI_clamp (show k < 2 ^ 31 by omega)]
    refine br_c (fun y => ?_) (fun y => ?_)
    · rw [if_pos ⟨g, y⟩] at hz
      exact nm_r (by rw [nI_1]; exact hz.symm) (nm_r (nI_1 k) K)
    · rw [if_neg (fun u => y u.2)] at hz
      exact nm_r hz.symm (nm_r (nI_1 k) K)
  · rw [if_neg (fun u => g u.1)] at hz
    exact nm_r hz.symm (nm_r (nI_1 k) K)
theorem la_ogE {post : Int32 → Prop} {dc ln ss nd ft : Int32} {fi : Int64} {fr : Int32} {a1 a2 a3 a4 a5 a6 a7 a8 : Nat → Int32} {a9 : Nat → Int64} {a10 : Nat → Int32} {a11 : Nat → Int64} {a12 a13 a14 a15 a16 a17 a18 a19 a20 : Nat → Int32} {n m : Nat} {z : Int32} (hn : n ≤ 8) (H : post z) : wX_overGaps_4 post dc (nI n) ln ss nd ft fi fr a1 a2 a3 a4 a5 a6 a7 a8 a9 a10 a11 a12 a13 a14 a15 a16 a17 a18 a19 a20 (m + 1) z (nI n) :=
  pk_le n n (fun _ => H) (fun y => absurd y (by omega))
theorem la_af0 {post : Int32 → Prop} {dc ln ss nd ft : Int32} {fi : Int64} {fr : Int32} {a1 a2 a3 a4 a5 a6 a7 a8 : Nat → Int32} {a9 : Nat → Int64} {a10 : Nat → Int32} {a11 : Nat → Int64} {a12 a13 a14 a15 a16 a17 a18 a19 a20 : Nat → Int32} {n k m : Nat} {x1 x2 x3 z : Int32} (hn : n ≤ 8) (hk : k < n) (hb : ¬ ((x1 >>> (nI k &&& 31)) &&& 1) = 1) (K : wX_after_6 post x1 x2 x3 dc (nI n) ln ss nd ft fi fr a1 a2 a3 a4 a5 a6 a7 a8 a9 a10 a11 a12 a13 a14 a15 a16 a17 a18 a19 a20 m z (nI (k + 1))) : wX_after_6 post x1 x2 x3 dc (nI n) ln ss nd ft fi fr a1 a2 a3 a4 a5 a6 a7 a8 a9 a10 a11 a12 a13 a14 a15 a16 a17 a18 a19 a20 (m + 1) z (nI k) :=
  pk_le n k (fun y => absurd y (by omega)) (fun _ => br_f hb (nm_r (nI_1 k) K))
theorem la_afG {post : Int32 → Prop} {dc ln ss nd ft : Int32} {fi : Int64} {fr : Int32} {a1 a2 a3 a4 a5 a6 a7 a8 : Nat → Int32} {a9 : Nat → Int64} {a10 : Nat → Int32} {a11 : Nat → Int64} {a12 a13 a14 a15 a16 a17 a18 a19 a20 : Nat → Int32} {n k m : Nat} {x1 x2 x3 z z' : Int32} (hn : n ≤ 8) (hk : k < n) (hb : ((x1 >>> (nI k &&& 31)) &&& 1) = 1) (hg : a2 k = 2002) (hz : z ||| ((1 : Int32) <<< (nI k &&& 31)) = z') (K : wX_after_6 post x1 x2 x3 dc (nI n) ln ss nd ft fi fr a1 a2 a3 a4 a5 a6 a7 a8 a9 a10 a11 a12 a13 a14 a15 a16 a17 a18 a19 a20 m z' (nI (k + 1))) : wX_after_6 post x1 x2 x3 dc (nI n) ln ss nd ft fi fr a1 a2 a3 a4 a5 a6 a7 a8 a9 a10 a11 a12 a13 a14 a15 a16 a17 a18 a19 a20 (m + 1) z (nI k) :=
  pk_le n k (fun y => absurd y (by omega)) (fun _ => br_t hb ⟨pk_in k 8 (by omega), br_t (by rw [nI_clamp (by omega)]; exact hg) (nm_r hz (nm_r (nI_1 k) K))⟩)
theorem la_afT {post : Int32 → Prop} {dc ln ss nd ft : Int32} {fi : Int64} {fr : Int32} {a1 a2 a3 a4 a5 a6 a7 a8 : Nat → Int32} {a9 : Nat → Int64} {a10 : Nat → Int32} {a11 : Nat → Int64} {a12 a13 a14 a15 a16 a17 a18 a19 a20 : Nat → Int32} {n k m : Nat} {b : Bool} {x1 x2 x3 z z' : Int32} (hn : n ≤ 8) (hk : k < n) (hb : ((x1 >>> (nI k &&& 31)) &&& 1) = 1) (hg : ¬ a2 k = 2002) (ht : ∀ po : Int32 → Prop, po (if b = true then 1 else 0) → wpX_takes po () (a2 k) x2 x3) (hz : z' = if b = true then z ||| ((1 : Int32) <<< (nI (k + 1) &&& 31)) else z ||| 0) (K : wX_after_6 post x1 x2 x3 dc (nI n) ln ss nd ft fi fr a1 a2 a3 a4 a5 a6 a7 a8 a9 a10 a11 a12 a13 a14 a15 a16 a17 a18 a19 a20 m z' (nI (k + 1))) : wX_after_6 post x1 x2 x3 dc (nI n) ln ss nd ft fi fr a1 a2 a3 a4 a5 a6 a7 a8 a9 a10 a11 a12 a13 a14 a15 a16 a17 a18 a19 a20 (m + 1) z (nI k) := by
  have ck : (nI k).toNatClampNeg = k := nI_clamp (by omega)
  refine pk_le n k (fun y => absurd y (by omega)) (fun _ => br_t hb ⟨pk_in k 8 (by omega), br_f (by rw [ck]; exact hg) ⟨pk_in k 8 (by omega), ?_⟩⟩)
  rw [ck]
  refine ht _ ?_
  cases b
  · exact br_t rfl (nm_r hz.symm (nm_r (nI_1 k) K))
  · exact br_f (by decide) (nm_r (by rw [nI_1]; exact hz.symm) (nm_r (nI_1 k) K))
theorem la_afE {post : Int32 → Prop} {dc ln ss nd ft : Int32} {fi : Int64} {fr : Int32} {a1 a2 a3 a4 a5 a6 a7 a8 : Nat → Int32} {a9 : Nat → Int64} {a10 : Nat → Int32} {a11 : Nat → Int64} {a12 a13 a14 a15 a16 a17 a18 a19 a20 : Nat → Int32} {n m : Nat} {x1 x2 x3 z : Int32} (hn : n ≤ 8) (H : wpX_overGaps (fun r => post r) (dc, nI n, ln, ss, nd, ft, fi, fr, a1, a2, a3, a4, a5, a6, a7, a8, a9, a10, a11, a12, a13, a14, a15, a16, a17, a18, a19, a20) z) : wX_after_6 post x1 x2 x3 dc (nI n) ln ss nd ft fi fr a1 a2 a3 a4 a5 a6 a7 a8 a9 a10 a11 a12 a13 a14 a15 a16 a17 a18 a19 a20 (m + 1) z (nI n) :=
  pk_le n n (fun _ => H) (fun y => absurd y (by omega))
/-! what a part takes -/
theorem la_tkAny {x2 x3 : Int32} (po : Int32 → Prop) (H : po (if true = true then 1 else 0)) : wpX_takes po () 2000 x2 x3 := br_t rfl H
theorem la_tkBlank {n : Nat} (h1 : 1000 ≤ n) (h2 : n < 2 ^ 31) {x2 : Int32} (po : Int32 → Prop) (H : po (if true = true then 1 else 0)) : wpX_takes po () (nI n) x2 1 :=
  br_c (fun _ => H) (fun _ => br_f (by decide) (pk_lt n 1000 (fun z => absurd z (by omega)) (fun _ => H)))
theorem la_tkWord {n x : Nat} (h1 : n < 24) (h2 : x < 24) (po : Int32 → Prop) (H : po (if decide (x = n) = true then 1 else 0)) : wpX_takes po () (nI n) (nI x) 0 := by
  refine pk_eq n 2000 (fun z => absurd z (by omega)) (fun _ => br_t rfl (pk_le 2000 n (fun z => absurd z (by omega)) (fun _ => pk_eq n x (fun z => ?_) (fun z => ?_))))
  · rw [if_pos (decide_eq_true z.symm)] at H
    exact H
  · rw [if_neg (by rw [decide_eq_false (fun y => z y.symm)]; decide)] at H
    exact H
theorem la_tkAbove {v p : Nat} (h1 : v < 256) (h2 : p < 512) (po : Int32 → Prop) (H : po (if decide (v < p) = true then 1 else 0)) : wpX_takes po () (nI (3000 + v)) (nI (1000 + p)) 0 := by
  refine pk_eq (3000 + v) 2000 (fun z => absurd z (by omega)) (fun _ => br_t rfl (pk_le 2000 (3000 + v) (fun _ => la_isNum1 (by omega) (by omega) (br_f (by decide) (pk_eq (3000 + v) 2001 (fun z => absurd z (by omega)) (fun _ => ?_)))) (fun z => absurd z (by omega))))
  rw [show nI (1000 + p) - 1000 = nI p from by rw [show (1000 : Int32) = nI 1000 from rfl, pk_sub (by omega), Nat.add_sub_cancel_left], show nI (3000 + v) - 3000 = nI v from by rw [show (3000 : Int32) = nI 3000 from rfl, pk_sub (by omega), Nat.add_sub_cancel_left]]
  refine pk_le p v (fun z => ?_) (fun z => ?_)
  · rw [if_neg (by rw [decide_eq_false (by omega)]; decide)] at H
    exact H
  · rw [if_pos (decide_eq_true z)] at H
    exact H
theorem la_tkNum {q : Nat} (h2 : q < 512) (po : Int32 → Prop) (H : po (if true = true then 1 else 0)) : wpX_takes po () 2001 (nI (1000 + q)) 0 :=
  pk_eq 2001 2000 (fun z => absurd z (by omega)) (fun _ => br_t rfl (pk_le 2000 2001 (fun _ => la_isNum1 (by omega) (by omega) (br_f (by decide) (br_t rfl H))) (fun z => absurd z (by omega))))
/-! the first pattern: a word, a gap -/
def la_pt1 (a : Nat) (m : Nat → Int32) : Prop := a < 24 ∧ m 0 = nI a ∧ m 1 = 2002
theorem la_nG {a : Nat} (h : a < 24) : ¬ nI a = 2002 := fun z => absurd ((nI_eq (b := 2002) (by omega) (by omega)).mp z) (by omega)
theorem la_og_10 {post : Int32 → Prop} {dc ln ss nd ft : Int32} {fi : Int64} {fr : Int32} {a1 a2 a3 a4 a5 a6 a7 a8 : Nat → Int32} {a9 : Nat → Int64} {a10 : Nat → Int32} {a11 : Nat → Int64} {a12 a13 a14 a15 a16 a17 a18 a19 a20 : Nat → Int32} {a : Nat} (h : la_pt1 a a2) (H : post 0) : wpX_overGaps post (dc, nI 2, ln, ss, nd, ft, fi, fr, a1, a2, a3, a4, a5, a6, a7, a8, a9, a10, a11, a12, a13, a14, a15, a16, a17, a18, a19, a20) 0 :=
  ⟨3, la_og1 (n := 2) (k := 0) (z' := 0) (by omega) (by omega) (by rw [if_neg (fun z => absurd z.1 (by decide))]; decide) (la_og1 (k := 1) (z' := 0) (by omega) (by omega) (by rw [if_neg (fun z => absurd z.1 (by decide))]; decide) (la_ogE (by omega) H))⟩
theorem la_og_11 {post : Int32 → Prop} {dc ln ss nd ft : Int32} {fi : Int64} {fr : Int32} {a1 a2 a3 a4 a5 a6 a7 a8 : Nat → Int32} {a9 : Nat → Int64} {a10 : Nat → Int32} {a11 : Nat → Int64} {a12 a13 a14 a15 a16 a17 a18 a19 a20 : Nat → Int32} {a : Nat} (h : la_pt1 a a2) (H : post 1) : wpX_overGaps post (dc, nI 2, ln, ss, nd, ft, fi, fr, a1, a2, a3, a4, a5, a6, a7, a8, a9, a10, a11, a12, a13, a14, a15, a16, a17, a18, a19, a20) 1 :=
  ⟨3, la_og1 (n := 2) (k := 0) (z' := 1) (by omega) (by omega) (by rw [if_neg (fun z => absurd z.2 (by rw [h.2.1]; exact la_nG h.1))]; decide) (la_og1 (k := 1) (z' := 1) (by omega) (by omega) (by rw [if_neg (fun z => absurd z.1 (by decide))]; decide) (la_ogE (by omega) H))⟩
theorem la_og_12 {post : Int32 → Prop} {dc ln ss nd ft : Int32} {fi : Int64} {fr : Int32} {a1 a2 a3 a4 a5 a6 a7 a8 : Nat → Int32} {a9 : Nat → Int64} {a10 : Nat → Int32} {a11 : Nat → Int64} {a12 a13 a14 a15 a16 a17 a18 a19 a20 : Nat → Int32} {a : Nat} (h : la_pt1 a a2) (H : post 6) : wpX_overGaps post (dc, nI 2, ln, ss, nd, ft, fi, fr, a1, a2, a3, a4, a5, a6, a7, a8, a9, a10, a11, a12, a13, a14, a15, a16, a17, a18, a19, a20) 2 :=
  ⟨3, la_og1 (n := 2) (k := 0) (z' := 2) (by omega) (by omega) (by rw [if_neg (fun z => absurd z.1 (by decide))]; decide) (la_og1 (k := 1) (z' := 6) (by omega) (by omega) (by rw [if_pos ⟨by decide, h.2.2⟩]; decide) (la_ogE (by omega) H))⟩
theorem la_af_11 {post : Int32 → Prop} {dc ln ss nd ft : Int32} {fi : Int64} {fr : Int32} {a1 a2 a3 a4 a5 a6 a7 a8 : Nat → Int32} {a9 : Nat → Int64} {a10 : Nat → Int32} {a11 : Nat → Int64} {a12 a13 a14 a15 a16 a17 a18 a19 a20 : Nat → Int32} {a x : Nat} (h : la_pt1 a a2) (hx : x < 24) (H : post (if x = a then 6 else 0)) : wpX_after post (dc, nI 2, ln, ss, nd, ft, fi, fr, a1, a2, a3, a4, a5, a6, a7, a8, a9, a10, a11, a12, a13, a14, a15, a16, a17, a18, a19, a20) 1 (nI x) 0 := by
  by_cases e : x = a
  · rw [if_pos e] at H
    exact ⟨3, la_afT (n := 2) (k := 0) (b := true) (z' := 2) (by omega) (by omega) (by decide) (by rw [h.2.1]; exact la_nG h.1) (fun po hp => by rw [h.2.1]; exact la_tkWord h.1 hx po (by rw [decide_eq_true e]; exact hp)) (by decide) (la_af0 (k := 1) (by omega) (by omega) (by decide) (la_afE (by omega) (la_og_12 h H)))⟩
  · rw [if_neg e] at H
    exact ⟨3, la_afT (n := 2) (k := 0) (b := false) (z' := 0) (by omega) (by omega) (by decide) (by rw [h.2.1]; exact la_nG h.1) (fun po hp => by rw [h.2.1]; exact la_tkWord h.1 hx po (by rw [decide_eq_false e]; exact hp)) (by decide) (la_af0 (k := 1) (by omega) (by omega) (by decide) (la_afE (by omega) (la_og_10 h H)))⟩
theorem la_af_10 {post : Int32 → Prop} {dc ln ss nd ft : Int32} {fi : Int64} {fr : Int32} {a1 a2 a3 a4 a5 a6 a7 a8 : Nat → Int32} {a9 : Nat → Int64} {a10 : Nat → Int32} {a11 : Nat → Int64} {a12 a13 a14 a15 a16 a17 a18 a19 a20 : Nat → Int32} {a : Nat} {x2 x3 : Int32} (h : la_pt1 a a2) (H : post 0) : wpX_after post (dc, nI 2, ln, ss, nd, ft, fi, fr, a1, a2, a3, a4, a5, a6, a7, a8, a9, a10, a11, a12, a13, a14, a15, a16, a17, a18, a19, a20) 0 x2 x3 :=
  ⟨3, la_af0 (n := 2) (k := 0) (by omega) (by omega) (by decide) (la_af0 (k := 1) (by omega) (by omega) (by decide) (la_afE (by omega) (la_og_10 h H)))⟩
theorem la_af_16 {post : Int32 → Prop} {dc ln ss nd ft : Int32} {fi : Int64} {fr : Int32} {a1 a2 a3 a4 a5 a6 a7 a8 : Nat → Int32} {a9 : Nat → Int64} {a10 : Nat → Int32} {a11 : Nat → Int64} {a12 a13 a14 a15 a16 a17 a18 a19 a20 : Nat → Int32} {a : Nat} {x2 x3 : Int32} (h : la_pt1 a a2) (H : post 6) : wpX_after post (dc, nI 2, ln, ss, nd, ft, fi, fr, a1, a2, a3, a4, a5, a6, a7, a8, a9, a10, a11, a12, a13, a14, a15, a16, a17, a18, a19, a20) 6 x2 x3 :=
  ⟨3, la_af0 (n := 2) (k := 0) (by omega) (by omega) (by decide) (la_afG (k := 1) (z' := 2) (by omega) (by omega) (by decide) h.2.2 (by decide) (la_afE (by omega) (la_og_12 h H)))⟩
/-! the second pattern: any, above v, any number -/
def la_pt2 (v : Nat) (m : Nat → Int32) : Prop := v < 256 ∧ m 0 = 2000 ∧ m 1 = nI (3000 + v) ∧ m 2 = 2001
theorem la_nG2 {v : Nat} (h : v < 256) : ¬ nI (3000 + v) = 2002 := fun z => absurd ((nI_eq (b := 2002) (by omega) (by omega)).mp z) (by omega)
theorem la_og_2 {post : Int32 → Prop} {dc ln ss nd ft : Int32} {fi : Int64} {fr : Int32} {a1 a2 a3 a4 a5 a6 a7 a8 : Nat → Int32} {a9 : Nat → Int64} {a10 : Nat → Int32} {a11 : Nat → Int64} {a12 a13 a14 a15 a16 a17 a18 a19 a20 : Nat → Int32} {v : Nat} {z : Int32} (hz : z ||| 0 = z) (h : la_pt2 v a2) (H : post z) : wpX_overGaps post (dc, nI 3, ln, ss, nd, ft, fi, fr, a1, a2, a3, a4, a5, a6, a7, a8, a9, a10, a11, a12, a13, a14, a15, a16, a17, a18, a19, a20) z :=
  ⟨4, la_og1 (n := 3) (k := 0) (z' := z) (by omega) (by omega) (by rw [if_neg (fun y => absurd y.2 (by rw [h.2.1]; decide))]; exact hz.symm) (la_og1 (k := 1) (z' := z) (by omega) (by omega) (by rw [if_neg (fun y => absurd y.2 (by rw [h.2.2.1]; exact la_nG2 h.1))]; exact hz.symm) (la_og1 (k := 2) (z' := z) (by omega) (by omega) (by rw [if_neg (fun y => absurd y.2 (by rw [h.2.2.2]; decide))]; exact hz.symm) (la_ogE (by omega) H)))⟩
theorem la_af_20 {post : Int32 → Prop} {dc ln ss nd ft : Int32} {fi : Int64} {fr : Int32} {a1 a2 a3 a4 a5 a6 a7 a8 : Nat → Int32} {a9 : Nat → Int64} {a10 : Nat → Int32} {a11 : Nat → Int64} {a12 a13 a14 a15 a16 a17 a18 a19 a20 : Nat → Int32} {v : Nat} {x2 x3 : Int32} (h : la_pt2 v a2) (H : post 0) : wpX_after post (dc, nI 3, ln, ss, nd, ft, fi, fr, a1, a2, a3, a4, a5, a6, a7, a8, a9, a10, a11, a12, a13, a14, a15, a16, a17, a18, a19, a20) 0 x2 x3 :=
  ⟨4, la_af0 (n := 3) (k := 0) (by omega) (by omega) (by decide) (la_af0 (k := 1) (by omega) (by omega) (by decide) (la_af0 (k := 2) (by omega) (by omega) (by decide) (la_afE (by omega) (la_og_2 (by decide) h H))))⟩
theorem la_af_21 {post : Int32 → Prop} {dc ln ss nd ft : Int32} {fi : Int64} {fr : Int32} {a1 a2 a3 a4 a5 a6 a7 a8 : Nat → Int32} {a9 : Nat → Int64} {a10 : Nat → Int32} {a11 : Nat → Int64} {a12 a13 a14 a15 a16 a17 a18 a19 a20 : Nat → Int32} {v : Nat} {x2 x3 : Int32} (h : la_pt2 v a2) (H : post 2) : wpX_after post (dc, nI 3, ln, ss, nd, ft, fi, fr, a1, a2, a3, a4, a5, a6, a7, a8, a9, a10, a11, a12, a13, a14, a15, a16, a17, a18, a19, a20) 1 x2 x3 :=
  ⟨4, la_afT (n := 3) (k := 0) (b := true) (z' := 2) (by omega) (by omega) (by decide) (by rw [h.2.1]; decide) (fun po hp => by rw [h.2.1]; exact la_tkAny po hp) (by decide) (la_af0 (k := 1) (by omega) (by omega) (by decide) (la_af0 (k := 2) (by omega) (by omega) (by decide) (la_afE (by omega) (la_og_2 (by decide) h H))))⟩
theorem la_af_22 {post : Int32 → Prop} {dc ln ss nd ft : Int32} {fi : Int64} {fr : Int32} {a1 a2 a3 a4 a5 a6 a7 a8 : Nat → Int32} {a9 : Nat → Int64} {a10 : Nat → Int32} {a11 : Nat → Int64} {a12 a13 a14 a15 a16 a17 a18 a19 a20 : Nat → Int32} {v : Nat} {b : Bool} {x2 x3 : Int32} (h : la_pt2 v a2) (ht : ∀ po : Int32 → Prop, po (if b = true then 1 else 0) → wpX_takes po () (nI (3000 + v)) x2 x3) (H : post (if b = true then 4 else 0)) : wpX_after post (dc, nI 3, ln, ss, nd, ft, fi, fr, a1, a2, a3, a4, a5, a6, a7, a8, a9, a10, a11, a12, a13, a14, a15, a16, a17, a18, a19, a20) 2 x2 x3 :=
  ⟨4, la_af0 (n := 3) (k := 0) (by omega) (by omega) (by decide) (la_afT (k := 1) (b := b) (z' := if b = true then 4 else 0) (by omega) (by omega) (by decide) (by rw [h.2.2.1]; exact la_nG2 h.1) (fun po hp => by rw [h.2.2.1]; exact ht po hp) (by cases b <;> decide) (la_af0 (k := 2) (by omega) (by omega) (by decide) (la_afE (by omega) (la_og_2 (by cases b <;> decide) h H))))⟩
theorem la_af_24 {post : Int32 → Prop} {dc ln ss nd ft : Int32} {fi : Int64} {fr : Int32} {a1 a2 a3 a4 a5 a6 a7 a8 : Nat → Int32} {a9 : Nat → Int64} {a10 : Nat → Int32} {a11 : Nat → Int64} {a12 a13 a14 a15 a16 a17 a18 a19 a20 : Nat → Int32} {v : Nat} {x2 x3 : Int32} (h : la_pt2 v a2) (ht : ∀ po : Int32 → Prop, po (if true = true then 1 else 0) → wpX_takes po () 2001 x2 x3) (H : post 8) : wpX_after post (dc, nI 3, ln, ss, nd, ft, fi, fr, a1, a2, a3, a4, a5, a6, a7, a8, a9, a10, a11, a12, a13, a14, a15, a16, a17, a18, a19, a20) 4 x2 x3 :=
  ⟨4, la_af0 (n := 3) (k := 0) (by omega) (by omega) (by decide) (la_af0 (k := 1) (by omega) (by omega) (by decide) (la_afT (k := 2) (b := true) (z' := 8) (by omega) (by omega) (by decide) (by rw [h.2.2.2]; decide) (fun po hp => by rw [h.2.2.2]; exact ht po hp) (by decide) (la_afE (by omega) (la_og_2 (by decide) h H))))⟩
/-! a shape, a line against a pattern, by the sets in between -/
theorem la_smf {post : Int32 → Prop} {dc pc ln ss nd ft : Int32} {fi : Int64} {fr : Int32} {a1 a2 a3 a4 a5 a6 a7 a8 : Nat → Int32} {a9 : Nat → Int64} {a10 : Nat → Int32} {a11 : Nat → Int64} {a12 a13 a14 a15 a16 a17 a18 a19 a20 : Nat → Int32} {s x : Nat} {g0 g1 g2 g3 : Int32} (hs : s < 2) (w24 : x < 24) (e7 : a7 s = 3) (e80 : a8 (8 * s) = nI x) (e81 : a8 (8 * s + 1) = 1000) (e82 : a8 (8 * s + 2) = 1000) (o : ∀ po : Int32 → Prop, po g0 → wpX_overGaps po (dc, pc, ln, ss, nd, ft, fi, fr, a1, a2, a3, a4, a5, a6, a7, a8, a9, a10, a11, a12, a13, a14, a15, a16, a17, a18, a19, a20) 1) (s1 : ∀ po : Int32 → Prop, po g1 → wpX_after po (dc, pc, ln, ss, nd, ft, fi, fr, a1, a2, a3, a4, a5, a6, a7, a8, a9, a10, a11, a12, a13, a14, a15, a16, a17, a18, a19, a20) g0 (nI x) 0) (s2 : ∀ po : Int32 → Prop, po g2 → wpX_after po (dc, pc, ln, ss, nd, ft, fi, fr, a1, a2, a3, a4, a5, a6, a7, a8, a9, a10, a11, a12, a13, a14, a15, a16, a17, a18, a19, a20) g1 1000 1) (s3 : ∀ po : Int32 → Prop, po g3 → wpX_after po (dc, pc, ln, ss, nd, ft, fi, fr, a1, a2, a3, a4, a5, a6, a7, a8, a9, a10, a11, a12, a13, a14, a15, a16, a17, a18, a19, a20) g2 1000 1) (H : post (if ((g3 >>> (pc &&& 31)) &&& 1) = 1 then 1 else 0)) : wpX_shapeMayFit post (dc, pc, ln, ss, nd, ft, fi, fr, a1, a2, a3, a4, a5, a6, a7, a8, a9, a10, a11, a12, a13, a14, a15, a16, a17, a18, a19, a20) (nI s) := by
  have cs : (nI s).toNatClampNeg = s := nI_clamp (by omega)
  unfold wpX_shapeMayFit
  dsimp only
  refine o _ ⟨4, ?_⟩
  refine ⟨pk_in s 60 (by omega), br_f (by rw [cs, e7]; decide) ⟨pk_in (8 * s) 480 (by omega) la_ix0, nm_r (e' := nI x) (by rw [la_ix0, nI_clamp (by omega), e80]) (br_f (la_nw w24) (s1 _ (nm_r (e' := nI 1) (by decide) ?_)))⟩⟩
  refine ⟨pk_in s 60 (by omega), br_f (by rw [cs, e7]; decide) ⟨pk_in (8 * s + 1) 480 (by omega) la_ix, nm_r (e' := 1000) (by rw [la_ix, nI_clamp (by omega), e81]) (br_t rfl (s2 _ (nm_r (e' := nI 2) (by decide) ?_)))⟩⟩
  refine ⟨pk_in s 60 (by omega), br_f (by rw [cs, e7]; decide) ⟨pk_in (8 * s + 2) 480 (by omega) la_ix, nm_r (e' := 1000) (by rw [la_ix, nI_clamp (by omega), e82]) (br_t rfl (s3 _ (nm_r (e' := nI 3) (by decide) ?_)))⟩⟩
  refine ⟨pk_in s 60 (by omega), br_t (by rw [cs, e7]; decide) (br_c (fun g => ?_) (fun g => ?_))⟩
  · rw [if_pos g] at H
    exact H
  · rw [if_neg g] at H
    exact H
theorem la_lf {post : Int32 → Prop} {dc pc ln ss nd ft : Int32} {fi : Int64} {fr : Int32} {a1 a2 a3 a4 a5 a6 a7 a8 : Nat → Int32} {a9 : Nat → Int64} {a10 : Nat → Int32} {a11 : Nat → Int64} {a12 a13 a14 a15 a16 a17 a18 a19 a20 : Nat → Int32} {s x y z : Nat} {g0 g1 g2 g3 : Int32} (hs : s < 2) (w24 : x < 24) (e7 : a7 s = 3) (e80 : a8 (8 * s) = nI x) (e81 : a8 (8 * s + 1) = 1000) (e82 : a8 (8 * s + 2) = 1000) (n1 : a17 1 = nI y) (n2 : a17 2 = nI z) (o : ∀ po : Int32 → Prop, po g0 → wpX_overGaps po (dc, pc, ln, ss, nd, ft, fi, fr, a1, a2, a3, a4, a5, a6, a7, a8, a9, a10, a11, a12, a13, a14, a15, a16, a17, a18, a19, a20) 1) (s1 : ∀ po : Int32 → Prop, po g1 → wpX_after po (dc, pc, ln, ss, nd, ft, fi, fr, a1, a2, a3, a4, a5, a6, a7, a8, a9, a10, a11, a12, a13, a14, a15, a16, a17, a18, a19, a20) g0 (nI x) 0) (s2 : ∀ po : Int32 → Prop, po g2 → wpX_after po (dc, pc, ln, ss, nd, ft, fi, fr, a1, a2, a3, a4, a5, a6, a7, a8, a9, a10, a11, a12, a13, a14, a15, a16, a17, a18, a19, a20) g1 (nI (1000 + y)) 0) (s3 : ∀ po : Int32 → Prop, po g3 → wpX_after po (dc, pc, ln, ss, nd, ft, fi, fr, a1, a2, a3, a4, a5, a6, a7, a8, a9, a10, a11, a12, a13, a14, a15, a16, a17, a18, a19, a20) g2 (nI (1000 + z)) 0) (H : post (if ((g3 >>> (pc &&& 31)) &&& 1) = 1 then 1 else 0)) : wpX_lineFits post (dc, pc, ln, ss, nd, ft, fi, fr, a1, a2, a3, a4, a5, a6, a7, a8, a9, a10, a11, a12, a13, a14, a15, a16, a17, a18, a19, a20) (nI s) := by
  have cs : (nI s).toNatClampNeg = s := nI_clamp (by omega)
  unfold wpX_lineFits
  dsimp only
  refine o _ ⟨4, ?_⟩
  refine ⟨pk_in s 60 (by omega), br_f (by rw [cs, e7]; decide) ⟨pk_in (8 * s) 480 (by omega) la_ix0, nm_r (e' := nI x) (by rw [la_ix0, nI_clamp (by omega), e80]) (br_f (la_nw w24) (s1 _ (nm_r (e' := nI 1) (by decide) ?_)))⟩⟩
  refine ⟨pk_in s 60 (by omega), br_f (by rw [cs, e7]; decide) ⟨pk_in (8 * s + 1) 480 (by omega) la_ix, nm_r (e' := 1000) (by rw [la_ix, nI_clamp (by omega), e81]) (br_t rfl ⟨pk_in 1 8 (by omega), ?_⟩)⟩⟩
  rw [show (1000 : Int32) + a17 (nI 1).toNatClampNeg = nI (1000 + y) from by rw [nI_clamp (by omega), n1, show (1000 : Int32) = nI 1000 from rfl, nI_add]]
  refine s2 _ (nm_r (e' := nI 2) (by decide) ?_)
  refine ⟨pk_in s 60 (by omega), br_f (by rw [cs, e7]; decide) ⟨pk_in (8 * s + 2) 480 (by omega) la_ix, nm_r (e' := 1000) (by rw [la_ix, nI_clamp (by omega), e82]) (br_t rfl ⟨pk_in 2 8 (by omega), ?_⟩)⟩⟩
  rw [show (1000 : Int32) + a17 (nI 2).toNatClampNeg = nI (1000 + z) from by rw [nI_clamp (by omega), n2, show (1000 : Int32) = nI 1000 from rfl, nI_add]]
  refine s3 _ (nm_r (e' := nI 3) (by decide) ?_)
  refine ⟨pk_in s 60 (by omega), br_t (by rw [cs, e7]; decide) (br_c (fun g => ?_) (fun g => ?_))⟩
  · rw [if_pos g] at H
    exact H
  · rw [if_neg g] at H
    exact H
/-! fit, the first pattern -/
theorem la_nn1 {post : Int32 → Prop} {dc ln ss nd ft : Int32} {fi : Int64} {fr : Int32} {a1 a2 a3 a4 a5 a6 a7 a8 : Nat → Int32} {a9 : Nat → Int64} {a10 : Nat → Int32} {a11 : Nat → Int64} {a12 a13 a14 a15 a16 a17 a18 a19 a20 : Nat → Int32} {a : Nat} (h : la_pt1 a a2) (H : post 0) : wpX_namesNumbers post (dc, nI 2, ln, ss, nd, ft, fi, fr, a1, a2, a3, a4, a5, a6, a7, a8, a9, a10, a11, a12, a13, a14, a15, a16, a17, a18, a19, a20) := by
  refine ⟨3, ?_⟩
  refine pk_le 2 0 (fun z => absurd z (by omega)) (fun _ => ⟨pk_in 0 8 (by omega), ?_⟩)
  rw [show a2 (0 : Int32).toNatClampNeg = nI a from h.2.1]
  refine la_isNum0 (Or.inl (by have := h.1; omega)) (by have := h.1; omega) (br_t rfl ⟨pk_in 0 8 (by omega), pk_lt a 3000 (fun _ => nm_r (e' := nI 1) (by decide) ?_) (fun z => absurd z (by have := h.1; omega)) rfl rfl (by have := h.1; omega)⟩)
  refine pk_le 2 1 (fun z => absurd z (by omega)) (fun _ => ⟨pk_in 1 8 (by omega), ?_⟩)
  rw [show a2 (nI 1).toNatClampNeg = nI 2002 from by rw [nI_clamp (by omega)]; exact h.2.2]
  refine la_isNum0 (Or.inr (by omega)) (by omega) (br_t rfl ⟨pk_in 1 8 (by omega), pk_lt 2002 3000 (fun _ => nm_r (e' := nI 2) (by decide) ?_) (fun z => absurd z (by omega))⟩)
  exact pk_le 2 2 (fun _ => H) (fun z => absurd z (by omega))
theorem la_f33a {post : St2 → Prop} {dc nd fr : Int32} {a1 a2 a3 a4 a5 a6 a7 a8 : Nat → Int32} {a9 : Nat → Int64} {a10 : Nat → Int32} {a11 : Nat → Int64} {a12 a13 a14 a15 a16 a17 a18 a19 a20 : Nat → Int32} {N S a : Nat} {w p q t sh sw B : Nat → Nat} (hN : N ≤ 32) (hS : S ≤ 2) (h : la_core N S w p q t sh sw B a3 a4 a5 a6 a7 a8 a9 a10 a11 a12 a13 a14 a15) (h2 : la_pt1 a a2) (H : ∀ fi, la_has fi (fun j => decide (j < N) && la_of w a j) → post (dc, nI 2, nI N, nI S, nd, 1, fi, fr, a1, a2, a3, a4, a5, a6, a7, a8, a9, a10, a11, a12, a13, a14, a15, a16, a17, a18, a19, a20)) : ∀ (m k : Nat) (fi : Int64), k + m = S → la_has fi (fun j => decide (j < N ∧ sh j < k ∧ w j = a)) → wX_fit_33 post 1 (m + 1) (nI k) dc (nI 2) (nI N) (nI S) nd 1 fi fr a1 a2 a3 a4 a5 a6 a7 a8 a9 a10 a11 a12 a13 a14 a15 a16 a17 a18 a19 a20 := by
  intro m
  induction m with
  | zero =>
    intro k fi hk hf
    refine pk_le S k (fun _ => H fi (la_has_congr hf (fun j _ => ?_))) (fun z => absurd z (by omega))
    by_cases c : j < N
    · have u := (h.2.1 j c).1
      rw [decide_eq_true c, Bool.true_and]
      exact decide_eq_decide.mpr ⟨fun z => z.2.2, fun z => ⟨c, by omega, z⟩⟩
    · rw [decide_eq_false c, Bool.false_and]
      exact decide_eq_false (fun z => c z.1)
  | succ m ih =>
    intro k fi hk hf
    have hc := h
    obtain ⟨c3, c4, c5, c6, c8, c9, c10, c11, ci, ct⟩ := h
    obtain ⟨w24, e7, e80, e81, e82⟩ := c8 k (by omega)
    refine pk_le S k (fun z => absurd z (by omega)) (fun _ => br_f (by decide) ?_)
    by_cases e : sw k = a
    · refine la_smf (g0 := 1) (g1 := 6) (g2 := 6) (g3 := 6) (by omega) w24 e7 e80 e81 e82 (fun po hp => la_og_11 h2 hp) (fun po hp => la_af_11 h2 w24 (by rw [if_pos e]; exact hp)) (fun po hp => la_af_16 h2 hp) (fun po hp => la_af_16 h2 hp) ?_
      rw [if_pos (by decide)]
      refine br_f (by decide) (br_f (by decide) ⟨pk_in k 60 (by omega), nm_r (e' := fi ||| a9 k) (by rw [nI_clamp (by omega)]) (nm_r (nI_1 k) (ih (k + 1) _ (by omega) ?_))⟩)
      refine la_has_congr (la_has_or hf (c9 k (by omega))) (fun j _ => ?_)
      rw [← Bool.decide_or]
      refine decide_eq_decide.mpr ⟨fun z => ?_, fun z => ?_⟩
      · rcases z with z | z
        · exact ⟨z.1, by omega, z.2.2⟩
        · exact ⟨z.1, by omega, by rw [← (c4 j z.1).2.1, z.2]; exact e⟩
      · by_cases y : sh j = k
        · exact Or.inr ⟨z.1, y⟩
        · exact Or.inl ⟨z.1, by omega, z.2.2⟩
    · refine la_smf (g0 := 1) (g1 := 0) (g2 := 0) (g3 := 0) (by omega) w24 e7 e80 e81 e82 (fun po hp => la_og_11 h2 hp) (fun po hp => la_af_11 h2 w24 (by rw [if_neg e]; exact hp)) (fun po hp => la_af_10 h2 hp) (fun po hp => la_af_10 h2 hp) ?_
      rw [if_neg (by decide)]
      refine br_t rfl (nm_r (nI_1 k) (ih (k + 1) _ (by omega) ?_))
      refine la_has_congr hf (fun j _ => decide_eq_decide.mpr ⟨fun z => ⟨z.1, by omega, z.2.2⟩, fun z => ⟨z.1, ?_, z.2.2⟩⟩)
      have u : sh j ≠ k := fun y => e (by rw [← y, (c4 j z.1).2.1]; exact z.2.2)
      omega
theorem la_fit1 {post : St2 → Prop} {dc nd : Int32} {fi : Int64} {fr : Int32} {a1 a2 a3 a4 a5 a6 a7 a8 : Nat → Int32} {a9 : Nat → Int64} {a10 : Nat → Int32} {a11 : Nat → Int64} {a12 a13 a14 a15 a16 a17 a18 a19 a20 : Nat → Int32} {N S a : Nat} {w p q t sh sw B : Nat → Nat} (hN : N ≤ 32) (hS : S ≤ 2) (h : la_core N S w p q t sh sw B a3 a4 a5 a6 a7 a8 a9 a10 a11 a12 a13 a14 a15) (h2 : la_pt1 a a2) (H : ∀ fi, la_has fi (fun j => decide (j < N) && la_of w a j) → post (dc, nI 2, nI N, nI S, nd, 1, fi, fr, a1, a2, a3, a4, a5, a6, a7, a8, a9, a10, a11, a12, a13, a14, a15, a16, a17, a18, a19, a20)) : wpX_fit post (dc, nI 2, nI N, nI S, nd, 0, fi, fr, a1, a2, a3, a4, a5, a6, a7, a8, a9, a10, a11, a12, a13, a14, a15, a16, a17, a18, a19, a20) :=
  br_t rfl (la_nn1 h2 (br_t rfl ⟨S + 1, la_f33a hN hS h h2 H S 0 0 (by omega) (la_has_congr la_has_0 (fun j _ => (decide_eq_false (fun z => absurd z.2.1 (Nat.not_lt_zero _))).symm))⟩))
theorem la_fitD {post : St2 → Prop} {dc pc ln ss nd : Int32} {fi : Int64} {fr : Int32} {a1 a2 a3 a4 a5 a6 a7 a8 : Nat → Int32} {a9 : Nat → Int64} {a10 : Nat → Int32} {a11 : Nat → Int64} {a12 a13 a14 a15 a16 a17 a18 a19 a20 : Nat → Int32} (H : post (dc, pc, ln, ss, nd, 1, fi, fr, a1, a2, a3, a4, a5, a6, a7, a8, a9, a10, a11, a12, a13, a14, a15, a16, a17, a18, a19, a20)) : wpX_fit post (dc, pc, ln, ss, nd, 1, fi, fr, a1, a2, a3, a4, a5, a6, a7, a8, a9, a10, a11, a12, a13, a14, a15, a16, a17, a18, a19, a20) := br_f (by decide) H
/-! fit, the second pattern -/
theorem la_nn2 {post : Int32 → Prop} {dc ln ss nd ft : Int32} {fi : Int64} {fr : Int32} {a1 a2 a3 a4 a5 a6 a7 a8 : Nat → Int32} {a9 : Nat → Int64} {a10 : Nat → Int32} {a11 : Nat → Int64} {a12 a13 a14 a15 a16 a17 a18 a19 a20 : Nat → Int32} {v : Nat} (h : la_pt2 v a2) (H : post 1) : wpX_namesNumbers post (dc, nI 3, ln, ss, nd, ft, fi, fr, a1, a2, a3, a4, a5, a6, a7, a8, a9, a10, a11, a12, a13, a14, a15, a16, a17, a18, a19, a20) := by
  have hv := h.1
  refine ⟨3, ?_⟩
  refine pk_le 3 0 (fun z => absurd z (by omega)) (fun _ => ⟨pk_in 0 8 (by omega), ?_⟩)
  rw [show a2 (0 : Int32).toNatClampNeg = nI 2000 from h.2.1]
  refine la_isNum0 (Or.inr (by omega)) (by omega) (br_t rfl ⟨pk_in 0 8 (by omega), pk_lt 2000 3000 (fun _ => nm_r (e' := nI 1) (by decide) ?_) (fun z => absurd z (by omega))⟩)
  refine pk_le 3 1 (fun z => absurd z (by omega)) (fun _ => ⟨pk_in 1 8 (by omega), ?_⟩)
  rw [show a2 (nI 1).toNatClampNeg = nI (3000 + v) from by rw [nI_clamp (by omega)]; exact h.2.2.1]
  exact la_isNum0 (Or.inr (by omega)) (by omega) (br_t rfl ⟨pk_in 1 8 (by omega), pk_lt (3000 + v) 3000 (fun z => absurd z (by omega)) (fun _ => H)⟩)
theorem la_l9 {post : Int64 → St2 → Prop} {dc ss nd ft : Int32} {fi : Int64} {a1 a2 a3 a4 a5 a6 a7 a8 : Nat → Int32} {a9 : Nat → Int64} {a10 : Nat → Int32} {a11 : Nat → Int64} {a12 a13 a14 a15 a16 a18 a19 a20 : Nat → Int32} {N S s v : Nat} {w p q t sh sw B : Nat → Nat} (hN : N ≤ 32) (hS : S ≤ 2) (h : la_core N S w p q t sh sw B a3 a4 a5 a6 a7 a8 a9 a10 a11 a12 a13 a14 a15) (hp : ∀ k, p k < 512) (hq : ∀ k, q k < 256) (h2 : la_pt2 v a2) (hs : s < S) (H : ∀ x f m, la_has x (fun j => decide (j < N ∧ sh j = s ∧ v < p j)) → post x (dc, nI 3, nI N, ss, nd, ft, fi, f, a1, a2, a3, a4, a5, a6, a7, a8, a9, a10, a11, a12, a13, a14, a15, a16, m, a18, a19, a20)) : ∀ (m k : Nat) (x : Int64) (fr : Int32) (a17 : Nat → Int32), k + m = N → la_has x (fun j => decide (j < k ∧ sh j = s ∧ v < p j)) → a17 1 = nI (la_prev sh p s k) → a17 2 = nI (la_prev sh q s k) → wX_linesThatFit_9 post (nI s) (m + 1) x (nI k) dc (nI 3) (nI N) ss nd ft fi fr a1 a2 a3 a4 a5 a6 a7 a8 a9 a10 a11 a12 a13 a14 a15 a16 a17 a18 a19 a20 := by
  intro m
  induction m with
  | zero =>
    intro k x fr a17 hk hx e1 e2
    have kN : k = N := by omega
    subst kN
    exact pk_le k k (fun _ => H _ _ _ hx) (fun z => absurd z (by omega))
  | succ m ih =>
    intro k x fr a17 hk hx e1 e2
    have hc := h
    obtain ⟨c3, c4, c5, c6, c8, c9, c10, c11, ci, ct⟩ := h
    obtain ⟨hs', hw, h4⟩ := c4 k (by omega)
    obtain ⟨w24, e7, e80, e81, e82⟩ := c8 s hs
    refine pk_le N k (fun z => absurd z (by omega)) (fun _ => ⟨pk_in k 60 (by omega), ?_⟩)
    rw [nI_clamp (show k < 2 ^ 31 by omega), h4]
    refine pk_eq (sh k) s (fun z => ?_) (fun z => nm_r (nI_1 k) ?_)
    · refine la_addLine hN hS hc (by omega) z e1 e2 (fun f m' g1 g2 => ?_)
      have I := fun y hy => ih (k + 1) y f m' (by omega) hy (by rw [la_prev_t z]; exact g1) (by rw [la_prev_t z]; exact g2)
      by_cases e : v < p k
      · refine la_lf (g0 := 1) (g1 := 2) (g2 := 4) (g3 := 8) (by omega) w24 e7 e80 e81 e82 g1 g2 (fun po hp' => la_og_2 (by decide) h2 hp') (fun po hp' => la_af_21 h2 hp') (fun po hp' => la_af_22 (b := true) h2 (fun po2 hp2 => la_tkAbove h2.1 (hp k) po2 (by rw [decide_eq_true e]; exact hp2)) hp') (fun po hp' => la_af_24 h2 (fun po2 hp2 => la_tkNum (by have := hq k; omega) po2 hp2) hp') ?_
        rw [if_pos (by decide)]
        refine br_f (by decide) (nm_e (nm_r (nI_1 k) (I _ ?_)))
        refine la_has_congr (la_has_or hx (la_has_bit (show k < 64 by omega))) (fun j _ => ?_)
        rw [← Bool.decide_or]
        refine decide_eq_decide.mpr ⟨fun y => ?_, fun y => ?_⟩
        · rcases y with y | y
          · exact ⟨by omega, y.2⟩
          · rw [y]; exact ⟨by omega, z, e⟩
        · by_cases u : j = k
          · exact Or.inr u
          · exact Or.inl ⟨by omega, y.2⟩
      · refine la_lf (g0 := 1) (g1 := 2) (g2 := 0) (g3 := 0) (by omega) w24 e7 e80 e81 e82 g1 g2 (fun po hp' => la_og_2 (by decide) h2 hp') (fun po hp' => la_af_21 h2 hp') (fun po hp' => la_af_22 (b := false) h2 (fun po2 hp2 => la_tkAbove h2.1 (hp k) po2 (by rw [decide_eq_false e]; exact hp2)) hp') (fun po hp' => la_af_20 h2 hp') ?_
        rw [if_neg (by decide)]
        refine br_t rfl (nm_e (nm_r (nI_1 k) (I _ ?_)))
        refine la_has_congr (la_has_or hx la_has_0) (fun j _ => ?_)
        rw [Bool.or_false]
        refine decide_eq_decide.mpr ⟨fun y => ⟨by omega, y.2⟩, fun y => ⟨?_, y.2⟩⟩
        have u : j ≠ k := fun u => e (by rw [← u]; exact y.2.2)
        omega
    · refine ih (k + 1) x fr a17 (by omega) (la_has_congr hx (fun j _ => decide_eq_decide.mpr ⟨fun y => ⟨by omega, y.2⟩, fun y => ⟨?_, y.2⟩⟩)) (by rw [la_prev_f z]; exact e1) (by rw [la_prev_f z]; exact e2)
      have u : j ≠ k := fun u => z (by rw [← u]; exact y.2.1)
      omega
theorem la_ltf {post : Int64 → St2 → Prop} {dc ss nd ft : Int32} {fi : Int64} {fr : Int32} {a1 a2 a3 a4 a5 a6 a7 a8 : Nat → Int32} {a9 : Nat → Int64} {a10 : Nat → Int32} {a11 : Nat → Int64} {a12 a13 a14 a15 a16 a17 a18 a19 a20 : Nat → Int32} {N S s v : Nat} {w p q t sh sw B : Nat → Nat} (hN : N ≤ 32) (hS : S ≤ 2) (h : la_core N S w p q t sh sw B a3 a4 a5 a6 a7 a8 a9 a10 a11 a12 a13 a14 a15) (hp : ∀ k, p k < 512) (hq : ∀ k, q k < 256) (h2 : la_pt2 v a2) (hs : s < S) (H : ∀ x f m, la_has x (fun j => decide (j < N ∧ sh j = s ∧ v < p j)) → post x (dc, nI 3, nI N, ss, nd, ft, fi, f, a1, a2, a3, a4, a5, a6, a7, a8, a9, a10, a11, a12, a13, a14, a15, a16, m, a18, a19, a20)) : wpX_linesThatFit post (dc, nI 3, nI N, ss, nd, ft, fi, fr, a1, a2, a3, a4, a5, a6, a7, a8, a9, a10, a11, a12, a13, a14, a15, a16, a17, a18, a19, a20) (nI s) := by
  unfold wpX_linesThatFit
  dsimp only
  exact la_cln (fun m g => ⟨N + 1, la_l9 hN hS h hp hq h2 hs H N 0 0 fr m (by omega) (la_has_congr la_has_0 (fun j _ => (decide_eq_false (fun z => absurd z.1 (Nat.not_lt_zero _))).symm)) (g 1 (by omega)) (g 2 (by omega))⟩)
theorem la_f33b {post : St2 → Prop} {dc nd : Int32} {a1 a2 a3 a4 a5 a6 a7 a8 : Nat → Int32} {a9 : Nat → Int64} {a10 : Nat → Int32} {a11 : Nat → Int64} {a12 a13 a14 a15 a16 a18 a19 a20 : Nat → Int32} {N S v : Nat} {w p q t sh sw B : Nat → Nat} (hN : N ≤ 32) (hS : S ≤ 2) (h : la_core N S w p q t sh sw B a3 a4 a5 a6 a7 a8 a9 a10 a11 a12 a13 a14 a15) (hp : ∀ k, p k < 512) (hq : ∀ k, q k < 256) (h2 : la_pt2 v a2) (H : ∀ fi fr a17, la_has fi (fun j => decide (j < N) && decide (v < p j)) → post (dc, nI 3, nI N, nI S, nd, 1, fi, fr, a1, a2, a3, a4, a5, a6, a7, a8, a9, a10, a11, a12, a13, a14, a15, a16, a17, a18, a19, a20)) : ∀ (m k : Nat) (fi : Int64) (fr : Int32) (a17 : Nat → Int32), k + m = S → la_has fi (fun j => decide (j < N ∧ sh j < k ∧ v < p j)) → wX_fit_33 post 0 (m + 1) (nI k) dc (nI 3) (nI N) (nI S) nd 1 fi fr a1 a2 a3 a4 a5 a6 a7 a8 a9 a10 a11 a12 a13 a14 a15 a16 a17 a18 a19 a20 := by
  intro m
  induction m with
  | zero =>
    intro k fi fr a17 hk hf
    refine pk_le S k (fun _ => H fi fr a17 (la_has_congr hf (fun j _ => ?_))) (fun z => absurd z (by omega))
    by_cases c : j < N
    · have u := (h.2.1 j c).1
      rw [decide_eq_true c, Bool.true_and]
      exact decide_eq_decide.mpr ⟨fun z => z.2.2, fun z => ⟨c, by omega, z⟩⟩
    · rw [decide_eq_false c, Bool.false_and]
      exact decide_eq_false (fun z => c z.1)
  | succ m ih =>
    intro k fi fr a17 hk hf
    have hc := h
    obtain ⟨c3, c4, c5, c6, c8, c9, c10, c11, ci, ct⟩ := h
    obtain ⟨w24, e7, e80, e81, e82⟩ := c8 k (by omega)
    refine pk_le S k (fun z => absurd z (by omega)) (fun _ => br_f (by decide) ?_)
    refine la_smf (g0 := 1) (g1 := 2) (g2 := 4) (g3 := 8) (by omega) w24 e7 e80 e81 e82 (fun po hp' => la_og_2 (by decide) h2 hp') (fun po hp' => la_af_21 h2 hp') (fun po hp' => la_af_22 (b := true) h2 (fun po2 hp2 => la_tkBlank (by omega) (by have := h2.1; omega) po2 hp2) hp') (fun po hp' => la_af_24 h2 (fun po2 hp2 => la_tkBlank (n := 2001) (by omega) (by omega) po2 hp2) hp') ?_
    rw [if_pos (by decide)]
    refine br_f (by decide) (br_t rfl (la_ltf hN hS hc hp hq h2 (by omega) (fun x f m' hx => nm_e (nm_r (nI_1 k) (ih (k + 1) _ f m' (by omega) ?_)))))
    refine la_has_congr (la_has_or hf hx) (fun j _ => ?_)
    rw [← Bool.decide_or]
    refine decide_eq_decide.mpr ⟨fun z => ?_, fun z => ?_⟩
    · rcases z with z | z
      · exact ⟨z.1, by omega, z.2.2⟩
      · exact ⟨z.1, by omega, z.2.2⟩
    · by_cases y : sh j = k
      · exact Or.inr ⟨z.1, y, z.2.2⟩
      · exact Or.inl ⟨z.1, by omega, z.2.2⟩
theorem la_fit2 {post : St2 → Prop} {dc nd : Int32} {fi : Int64} {fr : Int32} {a1 a2 a3 a4 a5 a6 a7 a8 : Nat → Int32} {a9 : Nat → Int64} {a10 : Nat → Int32} {a11 : Nat → Int64} {a12 a13 a14 a15 a16 a17 a18 a19 a20 : Nat → Int32} {N S v : Nat} {w p q t sh sw B : Nat → Nat} (hN : N ≤ 32) (hS : S ≤ 2) (h : la_core N S w p q t sh sw B a3 a4 a5 a6 a7 a8 a9 a10 a11 a12 a13 a14 a15) (hp : ∀ k, p k < 512) (hq : ∀ k, q k < 256) (h2 : la_pt2 v a2) (H : ∀ fi fr a17, la_has fi (fun j => decide (j < N) && decide (v < p j)) → post (dc, nI 3, nI N, nI S, nd, 1, fi, fr, a1, a2, a3, a4, a5, a6, a7, a8, a9, a10, a11, a12, a13, a14, a15, a16, a17, a18, a19, a20)) : wpX_fit post (dc, nI 3, nI N, nI S, nd, 0, fi, fr, a1, a2, a3, a4, a5, a6, a7, a8, a9, a10, a11, a12, a13, a14, a15, a16, a17, a18, a19, a20) :=
  br_t rfl (la_nn2 h2 (br_f (by decide) ⟨S + 1, la_f33b hN hS h hp hq h2 H S 0 0 fr a17 (by omega) (la_has_congr la_has_0 (fun j _ => (decide_eq_false (fun z => absurd z.2.1 (Nat.not_lt_zero _))).symm))⟩))
end
section
/-! ===== 07: fitting, next, fittingGroups ===== -/
theorem la_cntF {N : Nat} (hN : N ≤ 60) (g : Nat → Bool) : la_cnt (fun k => ((decide (k < N) && g k) && decide (k < N)) && !decide (k < 0)) 60 = la_cnt g N := by
  rw [la_cnt_cut hN (fun k hk => by rw [decide_eq_false (show ¬ k < N by omega)]; rfl)]
  exact la_cnt_congr (fun k hk => by rw [decide_eq_true hk, decide_eq_false (Nat.not_lt_zero k)]; cases g k <;> rfl)
theorem la_fitting {post : Int32 → St2 → Prop} {dc pc ss nd : Int32} {fi : Int64} {fr : Int32} {a1 a2 a3 a4 a5 a6 a7 a8 : Nat → Int32} {a9 : Nat → Int64} {a10 : Nat → Int32} {a11 : Nat → Int64} {a12 a13 a14 a15 a16 a17 a18 a19 a20 : Nat → Int32} {N T : Nat} {X : Int32} {g : Nat → Bool} (hN : N ≤ 32) (hX : ∀ k, k < N → X ≤ a3 k) (hT : 1000 ≤ T) (hT2 : T < 2 ^ 31) (hfit : ∀ po : St2 → Prop, (∀ fi fr a17, la_has fi (fun j => decide (j < N) && g j) → po (dc, pc, nI N, ss, nd, 1, fi, fr, a1, a2, a3, a4, a5, a6, a7, a8, a9, a10, a11, a12, a13, a14, a15, a16, a17, a18, a19, a20)) → wpX_fit po (dc, pc, nI N, ss, nd, 0, fi, fr, a1, a2, a3, a4, a5, a6, a7, a8, a9, a10, a11, a12, a13, a14, a15, a16, a17, a18, a19, a20)) (H : ∀ fi fr a17, la_has fi (fun j => decide (j < N) && g j) → post (nI (la_cnt g N)) (dc, pc, nI N, ss, nd, 1, fi, fr, a1, a2, a3, a4, a5, a6, a7, a8, a9, a10, a11, a12, a13, a14, a15, a16, a17, a18, a19, a20)) : wpX_fitting post (dc, pc, nI N, ss, nd, 0, fi, fr, a1, a2, a3, a4, a5, a6, a7, a8, a9, a10, a11, a12, a13, a14, a15, a16, a17, a18, a19, a20) X (nI T) := by
  unfold wpX_fitting
  dsimp only
  refine hfit _ (fun fi fr a17 hf => ?_)
  refine la_cb (r := 0) (by omega) (by omega) (fun k hk => absurd hk (Nat.not_lt_zero k)) (fun k _ hk => hX k hk) ?_
  refine la_cu2 hT hT2 ?_
  refine pk_le N 0 (fun z => ?_) (fun z => la_below (by omega) (fun x1 h1 => la_below (e := 0) (by omega) (fun x2 h2 => la_ones (la_has_and (la_has_and hf h1) (la_has_not h2)) ?_)))
  · have e : la_cnt g N = 0 := by
      have := la_cnt_le g N
      omega
    have u := H fi fr a17 hf
    rw [e] at u
    exact u
  · rw [la_cntF (by omega)]
    exact H fi fr a17 hf
theorem la_next1 {post : Int32 → St2 → Prop} {dc pc ss nd : Int32} {fi : Int64} {fr : Int32} {a1 a2 a3 a4 a5 a6 a7 a8 : Nat → Int32} {a9 : Nat → Int64} {a10 : Nat → Int32} {a11 : Nat → Int64} {a12 a13 a14 a15 a16 a17 a18 a19 a20 : Nat → Int32} {N f : Nat} {g : Nat → Bool} (hN : N ≤ 32) (hf : la_has fi (fun j => decide (j < N) && g j)) (h1 : f < N) (h2 : g f = true) (h3 : ∀ j, j < f → g j = false) (H : post (nI f) (dc, pc, nI N, ss, nd, 1, fi, fr, a1, a2, a3, a4, a5, a6, a7, a8, a9, a10, a11, a12, a13, a14, a15, a16, a17, a18, a19, a20)) : wpX_next post (dc, pc, nI N, ss, nd, 1, fi, fr, a1, a2, a3, a4, a5, a6, a7, a8, a9, a10, a11, a12, a13, a14, a15, a16, a17, a18, a19, a20) (-7) := by
  unfold wpX_next
  dsimp only
  refine la_fitD (br_f (by decide) ?_)
  unfold wX_next_26
  refine la_below (e := 0) (by omega) (fun x hx => la_low (m := f) (la_has_and hf (la_has_not hx)) (by omega) (fun k hk => ?_) (fun _ => ?_) ?_)
  · rw [h3 k hk, Bool.and_false, Bool.false_and]
  · rw [h2, decide_eq_true h1, decide_eq_false (Nat.not_lt_zero f)]; rfl
  · exact pk_le N f (fun z => absurd z (by omega)) (fun _ => H)
theorem la_next0 {post : Int32 → St2 → Prop} {dc pc ss nd : Int32} {fi : Int64} {fr : Int32} {a1 a2 a3 a4 a5 a6 a7 a8 : Nat → Int32} {a9 : Nat → Int64} {a10 : Nat → Int32} {a11 : Nat → Int64} {a12 a13 a14 a15 a16 a17 a18 a19 a20 : Nat → Int32} {N : Nat} {g : Nat → Bool} (hN : N ≤ 32) (hf : la_has fi (fun j => decide (j < N) && g j)) (h3 : ∀ j, j < N → g j = false) (H : post (-2) (dc, pc, nI N, ss, nd, 1, fi, fr, a1, a2, a3, a4, a5, a6, a7, a8, a9, a10, a11, a12, a13, a14, a15, a16, a17, a18, a19, a20)) : wpX_next post (dc, pc, nI N, ss, nd, 1, fi, fr, a1, a2, a3, a4, a5, a6, a7, a8, a9, a10, a11, a12, a13, a14, a15, a16, a17, a18, a19, a20) (-7) := by
  unfold wpX_next
  dsimp only
  refine la_fitD (br_f (by decide) ?_)
  unfold wX_next_26
  refine la_below (e := 0) (by omega) (fun x hx => la_low (m := 60) (la_has_and hf (la_has_not hx)) (by omega) (fun k hk => ?_) (fun z => absurd z (by omega)) ?_)
  · by_cases c : k < N
    · rw [h3 k c, Bool.and_false, Bool.false_and]
    · rw [decide_eq_false c, Bool.false_and, Bool.false_and]
  · exact pk_le N 60 (fun _ => H) (fun z => absurd z (by omega))
theorem la_fg8 {post : Int32 → St2 → Prop} {dc pc ln nd ft : Int32} {fi : Int64} {fr : Int32} {a1 a2 a3 a4 a5 a6 a7 a8 : Nat → Int32} {a9 : Nat → Int64} {a10 : Nat → Int32} {a11 : Nat → Int64} {a12 a13 a14 a15 a16 a17 a18 a19 a20 : Nat → Int32} {N S a : Nat} {w p q t sh sw B : Nat → Nat} (hN : N ≤ 32) (hS : S ≤ 2) (h : la_core N S w p q t sh sw B a3 a4 a5 a6 a7 a8 a9 a10 a11 a12 a13 a14 a15) (hi : ∀ s, s < S → ∃ k, k < N ∧ sh k = s) (hf : la_has fi (fun j => decide (j < N) && la_of w a j)) (H : post (nI (la_cnt (la_of sw a) S)) (dc, pc, ln, nI S, nd, ft, fi, fr, a1, a2, a3, a4, a5, a6, a7, a8, a9, a10, a11, a12, a13, a14, a15, a16, a17, a18, a19, a20)) : ∀ (m k : Nat), k + m = S → wX_fittingGroups_8 post dc pc ln (nI S) nd ft fi fr a1 a2 a3 a4 a5 a6 a7 a8 a9 a10 a11 a12 a13 a14 a15 a16 a17 a18 a19 a20 (m + 1) (nI (la_cnt (la_of sw a) k)) (nI k) := by
  intro m
  induction m with
  | zero =>
    intro k hk
    have kS : k = S := by omega
    subst kS
    exact pk_le k k (fun _ => H) (fun z => absurd z (by omega))
  | succ m ih =>
    intro k hk
    obtain ⟨c3, c4, c5, c6, c8, c9, c10, c11, ci, ct⟩ := h
    refine pk_le S k (fun z => absurd z (by omega)) (fun _ => ⟨pk_in k 60 (by omega), ?_⟩)
    rw [nI_clamp (show k < 2 ^ 31 by omega)]
    have I := ih (k + 1) (by omega)
    rw [show la_cnt (la_of sw a) (k + 1) = la_cnt (la_of sw a) k + (if la_of sw a k = true then 1 else 0) from rfl] at I
    refine ek_if (la_has_z (la_has_and hf (c9 k (by omega)))) (fun z => ?_) (fun z => ?_)
    · have e : ¬ sw k = a := fun e => by
        obtain ⟨j, hj, ej⟩ := hi k (by omega)
        have u := z j (by omega)
        rw [decide_eq_true hj, la_of_t (show w j = a by rw [← (c4 j hj).2.1, ej]; exact e), decide_eq_true (show j < N ∧ sh j = k from ⟨hj, ej⟩)] at u
        exact absurd u (by decide)
      rw [if_neg (la_of_f e)] at I
      exact nm_r (nI_add _ 0) (nm_r (nI_1 k) I)
    · have e : sw k = a := by
        refine Classical.byContradiction (fun e => z (fun j hj => ?_))
        by_cases c : j < N ∧ sh j = k
        · rw [decide_eq_true c, Bool.and_true]
          have u : ¬ w j = a := fun u => e (by rw [← c.2, (c4 j c.1).2.1]; exact u)
          rw [Bool.eq_false_iff.mpr (la_of_f u), Bool.and_false]
        · rw [decide_eq_false c, Bool.and_false]
      rw [if_pos (la_of_t e)] at I
      exact nm_r (nI_add _ 1) (nm_r (nI_1 k) I)
theorem la_fittingGroups {post : Int32 → St2 → Prop} {dc pc ln nd : Int32} {fi : Int64} {fr : Int32} {a1 a2 a3 a4 a5 a6 a7 a8 : Nat → Int32} {a9 : Nat → Int64} {a10 : Nat → Int32} {a11 : Nat → Int64} {a12 a13 a14 a15 a16 a17 a18 a19 a20 : Nat → Int32} {N S a : Nat} {w p q t sh sw B : Nat → Nat} (hN : N ≤ 32) (hS : S ≤ 2) (h : la_core N S w p q t sh sw B a3 a4 a5 a6 a7 a8 a9 a10 a11 a12 a13 a14 a15) (hi : ∀ s, s < S → ∃ k, k < N ∧ sh k = s) (hf : la_has fi (fun j => decide (j < N) && la_of w a j)) (H : post (nI (la_cnt (la_of sw a) S)) (dc, pc, ln, nI S, nd, 1, fi, fr, a1, a2, a3, a4, a5, a6, a7, a8, a9, a10, a11, a12, a13, a14, a15, a16, a17, a18, a19, a20)) : wpX_fittingGroups post (dc, pc, ln, nI S, nd, 1, fi, fr, a1, a2, a3, a4, a5, a6, a7, a8, a9, a10, a11, a12, a13, a14, a15, a16, a17, a18, a19, a20) := by
  unfold wpX_fittingGroups
  dsimp only
  exact la_fitD ⟨S + 1, la_fg8 hN hS h hi hf H S 0 (by omega)⟩
end
section
/-! ===== 08: writing: stepTo, shapeOfDraft, writeDraft ===== -/
theorem la_blankW {post : Int32 → Prop} {n : Nat} (h : n < 24) (H : post (nI n)) : wpX_blanked post () (nI n) := by
  unfold wpX_blanked
  exact la_isNum0 (Or.inl (by omega)) (by omega) (br_t rfl H)
theorem la_blankN {post : Int32 → Prop} {n : Nat} (h : 1000 ≤ n) (h2 : n < 2000) (H : post 1000) : wpX_blanked post () (nI n) := by
  unfold wpX_blanked
  exact la_isNum1 h h2 (br_f (by decide) H)
/-- the arrays after a node n was made below the node c -/
def la_grown (n c : Nat) (x : Int32) (a12 a13 a14 a15 b12 b13 b14 b15 : Nat → Int32) : Prop :=
  ((∀ j, j ≠ n → b12 j = a12 j) ∧ b12 n = x) ∧ ((∀ j, j ≠ n → j ≠ c → b13 j = a13 j) ∧ b13 c = nI n ∧ b13 n = -1) ∧ ((∀ j, j ≠ n → b14 j = a14 j) ∧ b14 n = a13 c) ∧ ((∀ j, j ≠ n → b15 j = a15 j) ∧ b15 n = -1)
theorem la_s31 {post : Int32 → St2 → Prop} {dc pc ln ss ft : Int32} {fi : Int64} {fr : Int32} {a1 a2 a3 a4 a5 a6 a7 a8 : Nat → Int32} {a9 : Nat → Int64} {a10 : Nat → Int32} {a11 : Nat → Int64} {a12 a13 a14 a15 a16 a17 a18 a19 a20 : Nat → Int32} {n c : Nat} {x : Int32} (hn : n < 484) (hc : c < n) (H : ∀ b12 b13 b14 b15, la_grown n c x a12 a13 a14 a15 b12 b13 b14 b15 → post (nI n) (dc, pc, ln, ss, nI (n + 1), ft, fi, fr, a1, a2, a3, a4, a5, a6, a7, a8, a9, a10, a11, b12, b13, b14, b15, a16, a17, a18, a19, a20)) : wX_stepTo_31 post (nI c) x (-1) dc pc ln ss (nI n) ft fi fr a1 a2 a3 a4 a5 a6 a7 a8 a9 a10 a11 a12 a13 a14 a15 a16 a17 a18 a19 a20 := by
  have cn : (nI n).toNatClampNeg = n := nI_clamp (by omega)
  have cc : (nI c).toNatClampNeg = c := nI_clamp (by omega)
  refine br_f (by decide) (la_newNode hn ⟨pk_in c 484 (by omega), pk_in n 484 hn, nm_r (e' := upd (upd a14 n (-1)) n (a13 c)) (by rw [cn, cc, pk_un (show c ≠ n by omega)]) ⟨pk_in c 484 (by omega), nm_r (e' := upd (upd a13 n (-1)) c (nI n)) (by rw [cc]) (H _ _ _ _ ⟨⟨fun j hj => pk_un hj, pk_us⟩, ⟨fun j hj hj2 => by rw [pk_un hj2, pk_un hj], pk_us, by rw [pk_un (show n ≠ c by omega), pk_us]⟩, ⟨fun j hj => by rw [pk_un hj, pk_un hj], pk_us⟩, ⟨fun j hj => pk_un hj, pk_us⟩⟩)⟩⟩)
theorem la_stepNew {post : Int32 → St2 → Prop} {dc pc ln ss ft : Int32} {fi : Int64} {fr : Int32} {a1 a2 a3 a4 a5 a6 a7 a8 : Nat → Int32} {a9 : Nat → Int64} {a10 : Nat → Int32} {a11 : Nat → Int64} {a12 a13 a14 a15 a16 a17 a18 a19 a20 : Nat → Int32} {n c : Nat} {x : Int32} (hn : n < 484) (hc : c < n) (h13 : a13 c = -1) (H : ∀ b12 b13 b14 b15, la_grown n c x a12 a13 a14 a15 b12 b13 b14 b15 → post (nI n) (dc, pc, ln, ss, nI (n + 1), ft, fi, fr, a1, a2, a3, a4, a5, a6, a7, a8, a9, a10, a11, b12, b13, b14, b15, a16, a17, a18, a19, a20)) : wpX_stepTo post (dc, pc, ln, ss, nI n, ft, fi, fr, a1, a2, a3, a4, a5, a6, a7, a8, a9, a10, a11, a12, a13, a14, a15, a16, a17, a18, a19, a20) (nI c) x :=
  ⟨pk_in c 484 (by omega), nm_r (e' := -1) (by rw [nI_clamp (by omega), h13]) ⟨1, br_t (by decide) (la_s31 hn hc H)⟩⟩
theorem la_stepOld {post : Int32 → St2 → Prop} {dc pc ln ss nd ft : Int32} {fi : Int64} {fr : Int32} {a1 a2 a3 a4 a5 a6 a7 a8 : Nat → Int32} {a9 : Nat → Int64} {a10 : Nat → Int32} {a11 : Nat → Int64} {a12 a13 a14 a15 a16 a17 a18 a19 a20 : Nat → Int32} {c m : Nat} {x : Int32} (hc : c < 484) (hm : m < 484) (h13 : a13 c = nI m) (h12 : a12 m = x) (H : post (nI m) (dc, pc, ln, ss, nd, ft, fi, fr, a1, a2, a3, a4, a5, a6, a7, a8, a9, a10, a11, a12, a13, a14, a15, a16, a17, a18, a19, a20)) : wpX_stepTo post (dc, pc, ln, ss, nd, ft, fi, fr, a1, a2, a3, a4, a5, a6, a7, a8, a9, a10, a11, a12, a13, a14, a15, a16, a17, a18, a19, a20) (nI c) x :=
  ⟨pk_in c 484 hc, nm_r (e' := nI m) (by rw [nI_clamp (by omega), h13]) ⟨1, br_f (nI_pos (by omega)) ⟨pk_in m 484 hm, br_t (by rw [nI_clamp (by omega), h12]) (br_t (nI_pos' (by omega)) H)⟩⟩⟩
theorem la_srchF {post : Int32 → St2 → Prop} {dc pc ln ss nd ft : Int32} {fi : Int64} {fr : Int32} {a1 a2 a3 a4 a5 a6 a7 a8 : Nat → Int32} {a9 : Nat → Int64} {a10 : Nat → Int32} {a11 : Nat → Int64} {a12 a13 a14 a15 a16 a17 a18 a19 a20 : Nat → Int32} {S j x : Nat} {sw : Nat → Nat} (hS : S ≤ 2) (h24 : ∀ s, s < S → sw s < 24) (hi : ∀ i k, i < S → k < S → sw i = sw k → i = k) (ht : la_tree S sw a12 a13 a14 a15) (hj : j < S) (hx : sw j = x) (H : post (nI (1 + 3 * j)) (dc, pc, ln, ss, nd, ft, fi, fr, a1, a2, a3, a4, a5, a6, a7, a8, a9, a10, a11, a12, a13, a14, a15, a16, a17, a18, a19, a20)) : ∀ s, j < s → s ≤ S → wX_stepTo_7 post 0 (nI x) dc pc ln ss nd ft fi fr a1 a2 a3 a4 a5 a6 a7 a8 a9 a10 a11 a12 a13 a14 a15 a16 a17 a18 a19 a20 (s + 1) (la_top s) := by
  intro s
  induction s with
  | zero => intro h; omega
  | succ s ih =>
    intro h1 h2
    obtain ⟨t1, t2, t3, t4, t5, t6, t7⟩ := ht.2 s (by omega)
    have c1 : (nI (1 + 3 * s)).toNatClampNeg = 1 + 3 * s := nI_clamp (by omega)
    rw [show la_top (s + 1) = nI (1 + 3 * s) from rfl]
    have b := h24 s (by omega)
    have b2 := h24 j hj
    refine br_f (nI_pos (show 1 + 3 * s < 2 ^ 31 by omega)) ⟨pk_in (1 + 3 * s) 484 (by omega), ?_⟩
    rw [c1, t1]
    refine pk_eq (sw s) x (fun z => ?_) (fun z => ⟨pk_in (1 + 3 * s) 484 (by omega), nm_r (e' := la_top s) t2 (ih ?_ (by omega))⟩)
    · have e : s = j := hi s j (by omega) hj (by omega)
      rw [← e] at H
      exact br_t (nI_pos' (show 1 + 3 * s < 2 ^ 31 by omega)) H
    · have e : s ≠ j := fun e => z (by rw [e]; exact hx)
      omega
theorem la_srchN {post : Int32 → St2 → Prop} {dc pc ln ss nd ft : Int32} {fi : Int64} {fr : Int32} {a1 a2 a3 a4 a5 a6 a7 a8 : Nat → Int32} {a9 : Nat → Int64} {a10 : Nat → Int32} {a11 : Nat → Int64} {a12 a13 a14 a15 a16 a17 a18 a19 a20 : Nat → Int32} {S x : Nat} {sw : Nat → Nat} (hS : S ≤ 2) (h24 : ∀ s, s < S → sw s < 24) (ht : la_tree S sw a12 a13 a14 a15) (hx : x < 24) (hn : ∀ s, s < S → ¬ sw s = x) (H : wX_stepTo_31 post 0 (nI x) (-1) dc pc ln ss nd ft fi fr a1 a2 a3 a4 a5 a6 a7 a8 a9 a10 a11 a12 a13 a14 a15 a16 a17 a18 a19 a20) : ∀ s, s ≤ S → wX_stepTo_7 post 0 (nI x) dc pc ln ss nd ft fi fr a1 a2 a3 a4 a5 a6 a7 a8 a9 a10 a11 a12 a13 a14 a15 a16 a17 a18 a19 a20 (s + 1) (la_top s) := by
  intro s
  induction s with
  | zero => intro _; exact br_t (by decide) H
  | succ s ih =>
    intro h2
    obtain ⟨t1, t2, t3, t4, t5, t6, t7⟩ := ht.2 s (by omega)
    have c1 : (nI (1 + 3 * s)).toNatClampNeg = 1 + 3 * s := nI_clamp (by omega)
    rw [show la_top (s + 1) = nI (1 + 3 * s) from rfl]
    have b := h24 s (by omega)
    refine br_f (nI_pos (show 1 + 3 * s < 2 ^ 31 by omega)) ⟨pk_in (1 + 3 * s) 484 (by omega), ?_⟩
    rw [c1, t1]
    exact pk_eq (sw s) x (fun z => absurd z (hn s (by omega))) (fun z => ⟨pk_in (1 + 3 * s) 484 (by omega), nm_r (e' := la_top s) t2 (ih (by omega))⟩)
/-- the shape of the draft is there -/
theorem la_sodF {post : Int32 → St2 → Prop} {pc ln ss nd ft : Int32} {fi : Int64} {fr : Int32} {a1 a2 a3 a4 a5 a6 a7 a8 : Nat → Int32} {a9 : Nat → Int64} {a10 : Nat → Int32} {a11 : Nat → Int64} {a12 a13 a14 a15 a16 a17 a18 a19 a20 : Nat → Int32} {N S j x y z : Nat} {w p q t sh sw B : Nat → Nat} (hS : S ≤ 2) (h : la_core N S w p q t sh sw B a3 a4 a5 a6 a7 a8 a9 a10 a11 a12 a13 a14 a15) (hr : la_rd a1 x y z) (hy : y < 512) (hz : z < 512) (hj : j < S) (hx : sw j = x) (H : post (nI j) (nI 3, pc, ln, ss, nd, ft, fi, fr, a1, a2, a3, a4, a5, a6, a7, a8, a9, a10, a11, a12, a13, a14, a15, a16, a17, a18, a19, a20)) : wpX_shapeOfDraft post (nI 3, pc, ln, ss, nd, ft, fi, fr, a1, a2, a3, a4, a5, a6, a7, a8, a9, a10, a11, a12, a13, a14, a15, a16, a17, a18, a19, a20) := by
  obtain ⟨c3, c4, c5, c6, c8, c9, c10, c11, ci, ct⟩ := h
  have x24 : x < 24 := by rw [← hx]; exact (c8 j hj).1
  obtain ⟨t1, t2, t3, t4, t5, t6, t7⟩ := ct.2 j hj
  refine ⟨4, ?_⟩
  refine pk_le 3 0 (fun u => absurd u (by omega)) (fun _ => ⟨pk_in 0 8 (by omega), ?_⟩)
  rw [show a1 (0 : Int32).toNatClampNeg = nI x from hr.1]
  refine la_blankW x24 ⟨pk_in 0 484 (by omega), nm_r (e' := la_top S) ct.1 ⟨S + 1, la_srchF hS (fun s hs => (c8 s hs).1) ci ct hj hx (nm_r (e' := nI 1) (by decide) ?_) S hj (Nat.le_refl S)⟩⟩
  refine pk_le 3 1 (fun u => absurd u (by omega)) (fun _ => ⟨pk_in 1 8 (by omega), ?_⟩)
  rw [show a1 (nI 1).toNatClampNeg = nI (1000 + y) from by rw [nI_clamp (by omega)]; exact hr.2.1]
  refine la_blankN (by omega) (by omega) (la_stepOld (m := 2 + 3 * j) (by omega) (by omega) t3 t4 (nm_r (e' := nI 2) (by decide) ?_))
  refine pk_le 3 2 (fun u => absurd u (by omega)) (fun _ => ⟨pk_in 2 8 (by omega), ?_⟩)
  rw [show a1 (nI 2).toNatClampNeg = nI (1000 + z) from by rw [nI_clamp (by omega)]; exact hr.2.2]
  refine la_blankN (by omega) (by omega) (la_stepOld (m := 3 + 3 * j) (by omega) (by omega) t5 t6 (nm_r (e' := nI 3) (by decide) ?_))
  refine pk_le 3 3 (fun _ => ⟨pk_in (3 + 3 * j) 484 (by omega), ?_⟩) (fun u => absurd u (by omega))
  rw [nI_clamp (show 3 + 3 * j < 2 ^ 31 by omega), t7]
  exact br_t (nI_pos' (by omega)) ⟨pk_in (3 + 3 * j) 484 (by omega), H⟩
/-- the tree with one more shape -/
theorem la_tree_add {S x : Nat} {sw : Nat → Nat} {a12 a13 a14 a15 b12 b13 b14 b15 c12 c13 c14 c15 d12 d13 d14 d15 : Nat → Int32} (h : la_tree S sw a12 a13 a14 a15) (g1 : la_grown (1 + 3 * S) 0 (nI x) a12 a13 a14 a15 b12 b13 b14 b15) (g2 : la_grown (2 + 3 * S) (1 + 3 * S) 1000 b12 b13 b14 b15 c12 c13 c14 c15) (g3 : la_grown (3 + 3 * S) (2 + 3 * S) 1000 c12 c13 c14 c15 d12 d13 d14 d15) : la_tree (S + 1) (fun s => if s = S then x else sw s) d12 d13 d14 (upd d15 (3 + 3 * S) (nI S)) := by
  obtain ⟨⟨p1, p2⟩, ⟨p3, p4, p5⟩, ⟨p6, p7⟩, ⟨p8, p9⟩⟩ := g1
  obtain ⟨⟨q1, q2⟩, ⟨q3, q4, q5⟩, ⟨q6, q7⟩, ⟨q8, q9⟩⟩ := g2
  obtain ⟨⟨r1, r2⟩, ⟨r3, r4, r5⟩, ⟨r6, r7⟩, ⟨r8, r9⟩⟩ := g3
  refine ⟨?_, fun s hs => ?_⟩
  · rw [r3 0 (by omega) (by omega), q3 0 (by omega) (by omega), p4]
    rfl
  · dsimp only
    by_cases e : s = S
    · subst e
      rw [if_pos rfl]
      refine ⟨?_, ?_, ?_, ?_, ?_, ?_, ?_⟩
      · rw [r1 _ (by omega), q1 _ (by omega), p2]
      · rw [r6 _ (by omega), q6 _ (by omega), p7, h.1]
      · rw [r3 _ (by omega) (by omega), q4]
      · rw [r1 _ (by omega), q2]
      · exact r4
      · exact r2
      · exact pk_us
    · rw [if_neg e]
      obtain ⟨t1, t2, t3, t4, t5, t6, t7⟩ := h.2 s (by omega)
      refine ⟨?_, ?_, ?_, ?_, ?_, ?_, ?_⟩
      · rw [r1 _ (by omega), q1 _ (by omega), p1 _ (by omega), t1]
      · rw [r6 _ (by omega), q6 _ (by omega), p6 _ (by omega), t2]
      · rw [r3 _ (by omega) (by omega), q3 _ (by omega) (by omega), p3 _ (by omega) (by omega), t3]
      · rw [r1 _ (by omega), q1 _ (by omega), p1 _ (by omega), t4]
      · rw [r3 _ (by omega) (by omega), q3 _ (by omega) (by omega), p3 _ (by omega) (by omega), t5]
      · rw [r1 _ (by omega), q1 _ (by omega), p1 _ (by omega), t6]
      · rw [pk_un (by omega), r8 _ (by omega), q8 _ (by omega), p8 _ (by omega), t7]
/-- one more shape, without lines yet -/
theorem la_core_shape {N S x : Nat} {w p q t sh sw B : Nat → Nat} {a3 a4 a5 a6 a7 a8 : Nat → Int32} {a9 : Nat → Int64} {a10 : Nat → Int32} {a11 : Nat → Int64} {a12 a13 a14 a15 b12 b13 b14 b15 : Nat → Int32} (h : la_core N S w p q t sh sw B a3 a4 a5 a6 a7 a8 a9 a10 a11 a12 a13 a14 a15) (hx : x < 24) (hn : ∀ s, s < S → ¬ sw s = x) (ht : la_tree (S + 1) (fun s => if s = S then x else sw s) b12 b13 b14 b15) :
    la_core N (S + 1) w p q t sh (fun s => if s = S then x else sw s) B a3 a4 a5 a6 (upd a7 S (nI 3)) (upd (upd (upd a8 (8 * S) (nI x)) (8 * S + 1) 1000) (8 * S + 2) 1000) (vp_updL a9 S 0) (upd (upd (upd a10 (8 * S) 0) (8 * S + 1) 0) (8 * S + 2) 0) a11 b12 b13 b14 b15 := by
  obtain ⟨c3, c4, c5, c6, c8, c9, c10, c11, ci, ct⟩ := h
  refine ⟨c3, fun k hk => ?_, c5, c6, fun s hs => ?_, fun s hs => ?_, fun s hs => ?_, c11, fun i j hi hj e => ?_, ht⟩
  · obtain ⟨u1, u2, u3⟩ := c4 k hk
    refine ⟨by omega, ?_, u3⟩
    dsimp only
    rw [if_neg (by omega), u2]
  · dsimp only
    by_cases e : s = S
    · subst e
      rw [if_pos rfl]
      exact ⟨hx, pk_us, by rw [pk_un (by omega), pk_un (by omega), pk_us], by rw [pk_un (by omega), pk_us], pk_us⟩
    · rw [if_neg e]
      obtain ⟨u1, u2, u3, u4, u5⟩ := c8 s (by omega)
      exact ⟨u1, by rw [pk_un e, u2], by rw [pk_un (by omega), pk_un (by omega), pk_un (by omega), u3], by rw [pk_un (by omega), pk_un (by omega), pk_un (by omega), u4], by rw [pk_un (by omega), pk_un (by omega), pk_un (by omega), u5]⟩
  · by_cases e : s = S
    · subst e
      rw [pk_uLs]
      exact la_has_congr la_has_0 (fun k _ => (decide_eq_false (fun z => by have := (c4 k z.1).1; omega)).symm)
    · rw [pk_uLn e]
      exact c9 s (by omega)
  · by_cases e : s = S
    · subst e
      have n0 : ∀ j, j < N → ¬ sh j = s := fun j hj z => by have := (c4 j hj).1; omega
      rw [la_prev_none n0, la_prev_none n0]
      exact ⟨by rw [pk_un (by omega), pk_us]; rfl, by rw [pk_us]; rfl⟩
    · obtain ⟨u1, u2⟩ := c10 s (by omega)
      exact ⟨by rw [pk_un (by omega), pk_un (by omega), pk_un (by omega), u1], by rw [pk_un (by omega), pk_un (by omega), pk_un (by omega), u2]⟩
  · dsimp only at e
    by_cases ei : i = S
    · by_cases ej : j = S
      · omega
      · rw [if_pos ei, if_neg ej] at e
        exact absurd e.symm (hn j (by omega))
    · by_cases ej : j = S
      · rw [if_neg ei, if_pos ej] at e
        exact absurd e (hn i (by omega))
      · rw [if_neg ei, if_neg ej] at e
        exact ci i j (by omega) (by omega) e
theorem la_sodN {post : Int32 → St2 → Prop} {pc ln ft : Int32} {fi : Int64} {fr : Int32} {a1 a2 a3 a4 a5 a6 a7 a8 : Nat → Int32} {a9 : Nat → Int64} {a10 : Nat → Int32} {a11 : Nat → Int64} {a12 a13 a14 a15 a16 a17 a18 a19 a20 : Nat → Int32} {N S x y z : Nat} {w p q t sh sw B : Nat → Nat} (hS : S < 2) (h : la_core N S w p q t sh sw B a3 a4 a5 a6 a7 a8 a9 a10 a11 a12 a13 a14 a15) (hr : la_rd a1 x y z) (hx : x < 24) (hy : y < 512) (hz : z < 512) (hn : ∀ s, s < S → ¬ sw s = x) (H : ∀ a7 a8 a9 a10 a12 a13 a14 a15, la_core N (S + 1) w p q t sh (fun s => if s = S then x else sw s) B a3 a4 a5 a6 a7 a8 a9 a10 a11 a12 a13 a14 a15 → post (nI S) (nI 3, pc, ln, nI (S + 1), nI (1 + 3 * (S + 1)), ft, fi, fr, a1, a2, a3, a4, a5, a6, a7, a8, a9, a10, a11, a12, a13, a14, a15, a16, a17, a18, a19, a20)) : wpX_shapeOfDraft post (nI 3, pc, ln, nI S, nI (1 + 3 * S), ft, fi, fr, a1, a2, a3, a4, a5, a6, a7, a8, a9, a10, a11, a12, a13, a14, a15, a16, a17, a18, a19, a20) := by
  have hc := h
  obtain ⟨c3, c4, c5, c6, c8, c9, c10, c11, ci, ct⟩ := h
  have r0 : a1 (0 : Int32).toNatClampNeg = nI x := hr.1
  have r1 : a1 (nI 1).toNatClampNeg = nI (1000 + y) := by rw [nI_clamp (by omega)]; exact hr.2.1
  have r2 : a1 (nI 2).toNatClampNeg = nI (1000 + z) := by rw [nI_clamp (by omega)]; exact hr.2.2
  refine ⟨4, ?_⟩
  refine pk_le 3 0 (fun u => absurd u (by omega)) (fun _ => ⟨pk_in 0 8 (by omega), ?_⟩)
  rw [r0]
  refine la_blankW hx ⟨pk_in 0 484 (by omega), nm_r (e' := la_top S) ct.1 ⟨S + 1, la_srchN (by omega) (fun s hs => (c8 s hs).1) ct hx hn (la_s31 (n := 1 + 3 * S) (c := 0) (by omega) (by omega) (fun b12 b13 b14 b15 g1 => nm_r (e' := nI 1) (by decide) ?_)) S (Nat.le_refl S)⟩⟩
  refine pk_le 3 1 (fun u => absurd u (by omega)) (fun _ => ⟨pk_in 1 8 (by omega), ?_⟩)
  rw [r1]
  refine la_blankN (by omega) (by omega) ?_
  rw [show 1 + 3 * S + 1 = 2 + 3 * S by omega]
  refine la_stepNew (n := 2 + 3 * S) (c := 1 + 3 * S) (by omega) (by omega) g1.2.1.2.2 (fun c12 c13 c14 c15 g2 => nm_r (e' := nI 2) (by decide) ?_)
  refine pk_le 3 2 (fun u => absurd u (by omega)) (fun _ => ⟨pk_in 2 8 (by omega), ?_⟩)
  rw [r2]
  refine la_blankN (by omega) (by omega) ?_
  rw [show 2 + 3 * S + 1 = 3 + 3 * S by omega]
  refine la_stepNew (n := 3 + 3 * S) (c := 2 + 3 * S) (by omega) (by omega) g2.2.1.2.2 (fun d12 d13 d14 d15 g3 => nm_r (e' := nI 3) (by decide) ?_)
  have cn : (nI (3 + 3 * S)).toNatClampNeg = 3 + 3 * S := nI_clamp (by omega)
  have cS : (nI S).toNatClampNeg = S := nI_clamp (by omega)
  refine pk_le 3 3 (fun _ => ⟨pk_in (3 + 3 * S) 484 (by omega), br_f (by rw [cn, g3.2.2.2.2]; decide) ⟨pk_in (3 + 3 * S) 484 (by omega), nm_r (e' := upd d15 (3 + 3 * S) (nI S)) (by rw [cn]) ⟨pk_in S 60 (by omega), nm_r (e' := upd a7 S (nI 3)) (by rw [cS]) ⟨pk_in S 60 (by omega), nm_r (e' := vp_updL a9 S 0) (by rw [cS]) ⟨4, ?_⟩⟩⟩⟩⟩) (fun u => absurd u (by omega))
  refine pk_le 3 0 (fun u => absurd u (by omega)) (fun _ => ⟨pk_in 0 8 (by omega), ?_⟩)
  rw [r0]
  refine la_blankW hx ⟨pk_in (8 * S) 480 (by omega) la_ix0, nm_r (e' := upd a8 (8 * S) (nI x)) (by rw [la_ix0, nI_clamp (by omega)]) ⟨pk_in (8 * S) 480 (by omega) la_ix0, nm_r (e' := upd a10 (8 * S) 0) (by rw [la_ix0, nI_clamp (by omega)]) (nm_r (e' := nI 1) (by decide) ?_)⟩⟩
  refine pk_le 3 1 (fun u => absurd u (by omega)) (fun _ => ⟨pk_in 1 8 (by omega), ?_⟩)
  rw [r1]
  refine la_blankN (by omega) (by omega) ⟨pk_in (8 * S + 1) 480 (by omega) la_ix, nm_r (e' := upd (upd a8 (8 * S) (nI x)) (8 * S + 1) 1000) (by rw [la_ix, nI_clamp (by omega)]) ⟨pk_in (8 * S + 1) 480 (by omega) la_ix, nm_r (e' := upd (upd a10 (8 * S) 0) (8 * S + 1) 0) (by rw [la_ix, nI_clamp (by omega)]) (nm_r (e' := nI 2) (by decide) ?_)⟩⟩
  refine pk_le 3 2 (fun u => absurd u (by omega)) (fun _ => ⟨pk_in 2 8 (by omega), ?_⟩)
  rw [r2]
  refine la_blankN (by omega) (by omega) ⟨pk_in (8 * S + 2) 480 (by omega) la_ix, nm_r (e' := upd (upd (upd a8 (8 * S) (nI x)) (8 * S + 1) 1000) (8 * S + 2) 1000) (by rw [la_ix, nI_clamp (by omega)]) ⟨pk_in (8 * S + 2) 480 (by omega) la_ix, nm_r (e' := upd (upd (upd a10 (8 * S) 0) (8 * S + 1) 0) (8 * S + 2) 0) (by rw [la_ix, nI_clamp (by omega)]) (nm_r (e' := nI 3) (by decide) ?_)⟩⟩
  refine pk_le 3 3 (fun _ => nm_r (nI_1 S) ⟨pk_in (3 + 3 * S) 484 (by omega), ?_⟩) (fun u => absurd u (by omega))
  rw [cn, pk_us, show 3 + 3 * S + 1 = 1 + 3 * (S + 1) by omega]
  exact H _ _ _ _ _ _ _ _ (la_core_shape hc hx hn (la_tree_add ct g1 g2 g3))
/-- one more line, of the shape j -/
theorem la_core_add {N S j : Nat} {w p q t sh sw B : Nat → Nat} {a3 a4 a5 a6 a7 a8 : Nat → Int32} {a9 : Nat → Int64} {a10 : Nat → Int32} {a11 : Nat → Int64} {a12 a13 a14 a15 m1 m2 : Nat → Int32} {P1 P2 : Nat} (hN : N < 32) (h : la_core N S w p q t sh sw B a3 a4 a5 a6 a7 a8 a9 a10 a11 a12 a13 a14 a15) (hj : j < S) (hw : sw j = w N) (d1 : la_dec m1 (B N) (nI (p N) - nI (la_prev sh p j N)) P1) (f1 : ∀ i, i < B N → m1 i = a6 i) (d2 : la_dec m2 P1 (nI (q N) - nI (la_prev sh q j N)) P2) (f2 : ∀ i, i < P1 → m2 i = m1 i) :
    la_core (N + 1) S w p q t (fun k => if k = N then j else sh k) sw (fun k => if k = N + 1 then P2 else B k) (upd a3 N (nI (t N))) (upd a4 N (nI j)) (upd a5 (N + 1) (nI P2)) m2 a7 a8 (vp_updL a9 j (a9 j ||| ((1 : Int64) <<< ((nI N).toInt64 &&& 63)))) (upd (upd a10 (8 * j + 1) (nI (p N))) (8 * j + 2) (nI (q N))) (vp_updL a11 (w N) (a11 (w N) ||| ((1 : Int64) <<< ((nI N).toInt64 &&& 63)))) a12 a13 a14 a15 := by
  obtain ⟨c3, c4, c5, c6, c8, c9, c10, c11, ci, ct⟩ := h
  have sN : ∀ k, k < N → (if k = N then j else sh k) = sh k := fun k hk => if_neg (by omega)
  have pv : ∀ (f : Nat → Nat) (s k : Nat), k ≤ N → la_prev (fun k => if k = N then j else sh k) f s k = la_prev sh f s k := fun f s k hk => la_prev_congr (fun i hi => sN i (by omega))
  have b1 := la_dec_le d1
  have b2 := la_dec_le d2
  refine ⟨fun k hk => ?_, fun k hk => ?_, ⟨?_, fun k hk => ?_⟩, fun k hk => ?_, c8, fun s hs => ?_, fun s hs => ?_, fun x hx => ?_, ci, ct⟩
  · by_cases e : k = N
    · rw [e, pk_us]
    · rw [pk_un e]; exact c3 k (by omega)
  · dsimp only
    by_cases e : k = N
    · rw [if_pos e, e, pk_us]
      exact ⟨hj, hw, rfl⟩
    · rw [if_neg e, pk_un e]
      exact c4 k (by omega)
  · show (if 0 = N + 1 then P2 else B 0) = 0
    rw [if_neg (by omega)]
    exact c5.1
  · show upd a5 (N + 1) (nI P2) k = nI (if k = N + 1 then P2 else B k)
    by_cases e : k = N + 1
    · rw [if_pos e, e, pk_us]
    · rw [if_neg e, pk_un e]
      exact c5.2 k (by omega)
  · dsimp only
    rw [pv p _ k (by omega), pv q _ k (by omega), if_neg (show ¬ k = N + 1 by omega)]
    by_cases e : k = N
    · subst e
      rw [if_pos rfl, if_pos rfl]
      exact ⟨P1, la_dec_keep d1 f2, d2⟩
    · rw [sN k (by omega), if_neg (by omega)]
      obtain ⟨P, x1, x2⟩ := c6 k (by omega)
      have y1 := la_dec_le x1
      have y2 := la_dec_le x2
      have y3 := la_Bmono c6 (N - (k + 1)) (k + 1) (by omega)
      rw [show k + 1 + (N - (k + 1)) = N by omega] at y3
      have F : ∀ i, i < B (k + 1) → m2 i = a6 i := fun i hi => by rw [f2 i (by omega), f1 i (by omega)]
      exact ⟨P, la_dec_keep x1 (fun i hi => F i (by omega)), la_dec_keep x2 F⟩
  · dsimp only
    by_cases e : s = j
    · subst e
      rw [pk_uLs]
      refine la_has_congr (la_has_or (c9 s hs) (la_has_bit (show N < 64 by omega))) (fun k _ => ?_)
      rw [← Bool.decide_or]
      refine decide_eq_decide.mpr ⟨fun z => ?_, fun z => ?_⟩
      · rcases z with z | z
        · exact ⟨by omega, by rw [sN k z.1]; exact z.2⟩
        · exact ⟨by omega, if_pos z⟩
      · by_cases u : k = N
        · exact Or.inr u
        · have v := z.2
          rw [if_neg u] at v
          exact Or.inl ⟨by omega, v⟩
    · rw [pk_uLn e]
      refine la_has_congr (c9 s hs) (fun k _ => decide_eq_decide.mpr ⟨fun z => ⟨by omega, by rw [sN k z.1]; exact z.2⟩, fun z => ?_⟩)
      have v := z.2
      by_cases u : k = N
      · rw [if_pos u] at v
        exact absurd v.symm e
      · rw [if_neg u] at v
        exact ⟨by omega, v⟩
  · by_cases e : s = j
    · subst e
      rw [la_prev_t (k := N) (show (if N = N then s else sh N) = s from if_pos rfl), la_prev_t (k := N) (show (if N = N then s else sh N) = s from if_pos rfl)]
      exact ⟨by rw [pk_un (by omega), pk_us], pk_us⟩
    · have n0 : ¬ (if N = N then j else sh N) = s := by
        rw [if_pos rfl]
        exact fun z => e z.symm
      rw [la_prev_f (k := N) n0, la_prev_f (k := N) n0, pv p s N (Nat.le_refl N), pv q s N (Nat.le_refl N)]
      obtain ⟨u1, u2⟩ := c10 s hs
      exact ⟨by rw [pk_un (by omega), pk_un (by omega), u1], by rw [pk_un (by omega), pk_un (by omega), u2]⟩
  · by_cases e : x = w N
    · rw [e, pk_uLs]
      rw [e] at hx
      refine la_has_congr (la_has_or (c11 (w N) hx) (la_has_bit (show N < 64 by omega))) (fun k _ => ?_)
      rw [← Bool.decide_or]
      refine decide_eq_decide.mpr ⟨fun z => ?_, fun z => ?_⟩
      · rcases z with z | z
        · exact ⟨by omega, z.2⟩
        · exact ⟨by omega, by rw [z]⟩
      · by_cases u : k = N
        · exact Or.inr u
        · exact Or.inl ⟨by omega, z.2⟩
    · rw [pk_uLn e]
      refine la_has_congr (c11 x hx) (fun k _ => decide_eq_decide.mpr ⟨fun z => ⟨by omega, z.2⟩, fun z => ⟨?_, z.2⟩⟩)
      have u : k ≠ N := fun u => e (by rw [← u]; exact z.2.symm)
      omega
/-- writing the draft, its shape being there -/
theorem la_wd21 {post : Int32 → St2 → Prop} {pc ss nd ft : Int32} {fi : Int64} {fr : Int32} {a1 a2 a3 a4 a5 a6 a7 a8 : Nat → Int32} {a9 : Nat → Int64} {a10 : Nat → Int32} {a11 : Nat → Int64} {a12 a13 a14 a15 a16 a17 a18 a19 a20 : Nat → Int32} {N S j : Nat} {w p q t sh sw B : Nat → Nat} (hN : N < 32) (hS : S ≤ 2) (h : la_core N S w p q t sh sw B a3 a4 a5 a6 a7 a8 a9 a10 a11 a12 a13 a14 a15) (hr : la_rd a1 (w N) (p N) (q N)) (hp : ∀ k, p k < 512) (hq : ∀ k, q k < 256) (hj : j < S) (hw : sw j = w N) (H : ∀ P2 a3 a4 a5 a6 a9 a10 a11, la_core (N + 1) S w p q t (fun k => if k = N then j else sh k) sw (fun k => if k = N + 1 then P2 else B k) a3 a4 a5 a6 a7 a8 a9 a10 a11 a12 a13 a14 a15 → post (nI N) (nI 3, pc, nI (N + 1), ss, nd, 0, fi, fr, a1, a2, a3, a4, a5, a6, a7, a8, a9, a10, a11, a12, a13, a14, a15, a16, a17, a18, a19, a20)) : ∃ fu, wX_writeDraft_21 post (nI (t N)) (nI N) (nI j) fu (nI (B N)) 0 (nI 3) pc (nI N) ss nd ft fi fr a1 a2 a3 a4 a5 a6 a7 a8 a9 a10 a11 a12 a13 a14 a15 a16 a17 a18 a19 a20 := by
  have hc := h
  obtain ⟨c3, c4, c5, c6, c8, c9, c10, c11, ci, ct⟩ := h
  have w24 : w N < 24 := by rw [← hw]; exact (c8 j hj).1
  have hpN := hp N
  have hqN := hq N
  have bN := la_Ble c5.1 c6 N (Nat.le_refl N)
  have r0 : a1 (0 : Int32).toNatClampNeg = nI (w N) := hr.1
  have r1 : a1 (nI 1).toNatClampNeg = nI (1000 + p N) := by rw [nI_clamp (by omega)]; exact hr.2.1
  have r2 : a1 (nI 2).toNatClampNeg = nI (1000 + q N) := by rw [nI_clamp (by omega)]; exact hr.2.2
  have cw : (nI (w N)).toNatClampNeg = w N := nI_clamp (by omega)
  have cj : (nI j).toNatClampNeg = j := nI_clamp (by omega)
  have cN : (nI N).toNatClampNeg = N := nI_clamp (by omega)
  have x1 : ((8 : Int32) * nI j + nI 1) = nI (8 * j + 1) := la_ix
  have x2 : ((8 : Int32) * nI j + nI 2) = nI (8 * j + 2) := la_ix
  have k1 : (nI (8 * j + 1)).toNatClampNeg = 8 * j + 1 := nI_clamp (by omega)
  have k2 : (nI (8 * j + 2)).toNatClampNeg = 8 * j + 2 := nI_clamp (by omega)
  have m1000 : ∀ v, nI (1000 + v) - 1000 = nI v := fun v => by rw [show (1000 : Int32) = nI 1000 from rfl, pk_sub (by omega), Nat.add_sub_cancel_left]
  have pl : la_prev sh p j N < 512 := la_prev_lt (by omega) (fun k _ => hp k)
  have ql : la_prev sh q j N < 512 := la_prev_lt (by omega) (fun k _ => by have := hq k; omega)
  refine ⟨4, ?_⟩
  refine pk_le 3 0 (fun u => absurd u (by omega)) (fun _ => ⟨pk_in 0 8 (by omega), ?_⟩)
  rw [r0]
  refine la_isNum0 (Or.inl (by omega)) (by omega) (br_t rfl ⟨pk_in 0 8 (by omega), pk_in (w N) 24 w24, pk_in (w N) 24 w24, nm_r (e' := vp_updL a11 (w N) (a11 (w N) ||| ((1 : Int64) <<< ((nI N).toInt64 &&& 63)))) (by rw [cw]) (nm_r (e' := nI 1) (by decide) ?_)⟩)
  refine pk_le 3 1 (fun u => absurd u (by omega)) (fun _ => ⟨pk_in 1 8 (by omega), ?_⟩)
  rw [r1]
  refine la_isNum1 (by omega) (by omega) (br_f (by decide) (nm_r x1 ⟨pk_in 1 8 (by omega), pk_in (8 * j + 1) 480 (by omega), ?_⟩))
  rw [m1000, k1, (c10 j hj).1]
  refine la_bring hpN pl (by omega) (fun m1 P1 d1 f1 => ⟨pk_in 1 8 (by omega), pk_in (8 * j + 1) 480 (by omega), nm_r (e' := upd a10 (8 * j + 1) (nI (p N))) (by rw [r1, m1000]) (nm_r (e' := nI 2) (by decide) ?_)⟩)
  have b1 := la_dec_le d1
  refine pk_le 3 2 (fun u => absurd u (by omega)) (fun _ => ⟨pk_in 2 8 (by omega), ?_⟩)
  rw [r2]
  refine la_isNum1 (by omega) (by omega) (br_f (by decide) (nm_r x2 ⟨pk_in 2 8 (by omega), pk_in (8 * j + 2) 480 (by omega), ?_⟩))
  rw [m1000, k2, pk_un (show 8 * j + 2 ≠ 8 * j + 1 by omega), (c10 j hj).2]
  refine la_bring (by omega) ql (by omega) (fun m2 P2 d2 f2 => ⟨pk_in 2 8 (by omega), pk_in (8 * j + 2) 480 (by omega), nm_r (e' := upd (upd a10 (8 * j + 1) (nI (p N))) (8 * j + 2) (nI (q N))) (by rw [r2, m1000]) (nm_r (e' := nI 3) (by decide) ?_)⟩)
  refine pk_le 3 3 (fun _ => ⟨pk_in (N + 1) 61 (by omega) (nI_1 N), nm_r (e' := upd a5 (N + 1) (nI P2)) (by rw [nI_1, nI_clamp (by omega)]) ⟨pk_in N 60 (by omega), nm_r (e' := upd a3 N (nI (t N))) (by rw [cN]) ⟨pk_in N 60 (by omega), nm_r (e' := upd a4 N (nI j)) (by rw [cN]) ⟨pk_in j 60 (by omega), pk_in j 60 (by omega), nm_r (e' := vp_updL a9 j (a9 j ||| ((1 : Int64) <<< ((nI N).toInt64 &&& 63)))) (by rw [cj]) (nm_r (nI_1 N) ?_)⟩⟩⟩⟩) (fun u => absurd u (by omega))
  exact H P2 _ _ _ _ _ _ _ (la_core_add hN hc hj hw d1 f1 d2 f2)
/-- the whole picture: every shape has lines, the first shape the first line -/
def la_st (N S : Nat) (w p q t sh sw B : Nat → Nat) (a3 a4 a5 a6 a7 a8 : Nat → Int32) (a9 : Nat → Int64) (a10 : Nat → Int32) (a11 : Nat → Int64) (a12 a13 a14 a15 : Nat → Int32) : Prop :=
  N ≤ 32 ∧ S ≤ 2 ∧ la_core N S w p q t sh sw B a3 a4 a5 a6 a7 a8 a9 a10 a11 a12 a13 a14 a15 ∧ (∀ s, s < S → ∃ k, k < N ∧ sh k = s) ∧ (0 < N → sh 0 = 0)
/-- what the law writes: two words, numbers of nine and eight bits -/
def la_dat (a b : Nat) (w p q : Nat → Nat) : Prop := a < 24 ∧ b < 24 ∧ ¬ a = b ∧ (∀ k, w k = a ∨ w k = b) ∧ (∀ k, p k < 512) ∧ ∀ k, q k < 256
theorem la_writeDraft {post : Int32 → St2 → Prop} {pc ft : Int32} {fi : Int64} {fr : Int32} {a1 a2 a3 a4 a5 a6 a7 a8 : Nat → Int32} {a9 : Nat → Int64} {a10 : Nat → Int32} {a11 : Nat → Int64} {a12 a13 a14 a15 a16 a17 a18 a19 a20 : Nat → Int32} {N S a b : Nat} {w p q t sh sw B : Nat → Nat} (hN : N < 32) (hd : la_dat a b w p q) (h : la_st N S w p q t sh sw B a3 a4 a5 a6 a7 a8 a9 a10 a11 a12 a13 a14 a15) (hr : la_rd a1 (w N) (p N) (q N)) (H : ∀ S' sh' sw' B' a3 a4 a5 a6 a7 a8 a9 a10 a11 a12 a13 a14 a15, la_st (N + 1) S' w p q t sh' sw' B' a3 a4 a5 a6 a7 a8 a9 a10 a11 a12 a13 a14 a15 → post (nI N) (nI 3, pc, nI (N + 1), nI S', nI (1 + 3 * S'), 0, fi, fr, a1, a2, a3, a4, a5, a6, a7, a8, a9, a10, a11, a12, a13, a14, a15, a16, a17, a18, a19, a20)) : wpX_writeDraft post (nI 3, pc, nI N, nI S, nI (1 + 3 * S), ft, fi, fr, a1, a2, a3, a4, a5, a6, a7, a8, a9, a10, a11, a12, a13, a14, a15, a16, a17, a18, a19, a20) (nI (t N)) := by
  obtain ⟨ha, hb, hab, hw, hp, hq⟩ := hd
  obtain ⟨_, hS, hc, hi, h0⟩ := h
  have w24 : w N < 24 := by rcases hw N with z | z <;> omega
  have cN : (nI N).toNatClampNeg = N := nI_clamp (by omega)
  have fin : ∀ (S' j : Nat) (sw' : Nat → Nat) a3 a4 a5 a6 a7 a8 a9 a10 a11 a12 a13 a14 a15 P2, S' ≤ 2 → j < S' → (∀ s, s < S' → s ≠ j → ∃ k, k < N ∧ sh k = s) → la_core (N + 1) S' w p q t (fun k => if k = N then j else sh k) sw' (fun k => if k = N + 1 then P2 else B k) a3 a4 a5 a6 a7 a8 a9 a10 a11 a12 a13 a14 a15 → post (nI N) (nI 3, pc, nI (N + 1), nI S', nI (1 + 3 * S'), 0, fi, fr, a1, a2, a3, a4, a5, a6, a7, a8, a9, a10, a11, a12, a13, a14, a15, a16, a17, a18, a19, a20) := by
    intro S' j sw' a3 a4 a5 a6 a7 a8 a9 a10 a11 a12 a13 a14 a15 P2 hS' hj hin hcore
    refine H S' _ sw' _ a3 a4 a5 a6 a7 a8 a9 a10 a11 a12 a13 a14 a15 ⟨by omega, hS', hcore, fun s hs => ?_, fun _ => ?_⟩
    · by_cases e : s = j
      · exact ⟨N, by omega, by rw [if_pos rfl]; exact e.symm⟩
      · obtain ⟨k, hk, ek⟩ := hin s hs e
        exact ⟨k, by omega, by rw [if_neg (by omega)]; exact ek⟩
    · show (if 0 = N then j else sh 0) = 0
      by_cases e : 0 = N
      · rw [if_pos e]
        refine Classical.byContradiction (fun z => ?_)
        obtain ⟨k, hk, _⟩ := hin 0 (by omega) (fun y => z y.symm)
        omega
      · rw [if_neg e]
        exact h0 (by omega)
  unfold wpX_writeDraft
  dsimp only
  by_cases e : ∃ j, j < S ∧ sw j = w N
  · obtain ⟨j, hj, ej⟩ := e
    refine la_sodF hS hc hr (hp N) (by have := hq N; omega) hj ej ⟨pk_in N 61 (by omega), nm_r (e' := nI (B N)) (by rw [cN]; exact hc.2.2.1.2 N (Nat.le_refl N)) ?_⟩
    exact la_wd21 hN hS hc hr hp hq hj ej (fun P2 a3 a4 a5 a6 a9 a10 a11 g => fin S j sw a3 a4 a5 a6 a7 a8 a9 a10 a11 a12 a13 a14 a15 P2 hS hj (fun s hs _ => hi s hs) g)
  · have S2 : S < 2 := by
      refine Classical.byContradiction (fun z => ?_)
      have ws : ∀ s, s < S → (sw s = a ∨ sw s = b) := fun s hs => by
        obtain ⟨k, hk, ek⟩ := hi s hs
        rw [← ek, (hc.2.1 k hk).2.1]
        exact hw k
      have i01 := hc.2.2.2.2.2.2.2.2.1 0 1 (by omega) (by omega)
      have n0 : ¬ sw 0 = w N := fun y => e ⟨0, by omega, y⟩
      have n1 : ¬ sw 1 = w N := fun y => e ⟨1, by omega, y⟩
      rcases hw N with u | u <;> rcases ws 0 (by omega) with v | v <;> rcases ws 1 (by omega) with y | y <;> omega
    refine la_sodN S2 hc hr w24 (hp N) (by have := hq N; omega) (fun s hs y => e ⟨s, hs, y⟩) (fun a7 a8 a9 a10 a12 a13 a14 a15 g => ⟨pk_in N 61 (by omega), nm_r (e' := nI (B N)) (by rw [cN]; exact hc.2.2.1.2 N (Nat.le_refl N)) ?_⟩)
    exact la_wd21 hN (by omega) g hr hp hq (show S < S + 1 by omega) (if_pos rfl) (fun P2 a3 a4 a5 a6 a9 a10 a11 g => fin (S + 1) S _ a3 a4 a5 a6 a7 a8 a9 a10 a11 a12 a13 a14 a15 P2 (by omega) (by omega) (fun s hs y => hi s (by omega)) g)
end
section
/-! ===== 09: empty, the constructor, write, expire ===== -/
theorem la_empty {post : St2 → Prop} {dc pc ln ss nd ft : Int32} {fi : Int64} {fr : Int32} {a1 a2 a3 a4 a5 a6 a7 a8 : Nat → Int32} {a9 : Nat → Int64} {a10 : Nat → Int32} {a11 : Nat → Int64} {a12 a13 a14 a15 a16 a17 a18 a19 a20 : Nat → Int32} (H : ∀ b5 b11 b12 b13 b14 b15, (∀ w p q t sh sw : Nat → Nat, la_st 0 0 w p q t sh sw (fun _ => 0) a3 a4 b5 a6 a7 a8 a9 a10 b11 b12 b13 b14 b15) → post (dc, pc, nI 0, nI 0, nI (1 + 3 * 0), 0, fi, fr, a1, a2, a3, a4, b5, a6, a7, a8, a9, a10, b11, b12, b13, b14, b15, a16, a17, a18, a19, a20)) : wpX_empty post (dc, pc, ln, ss, nd, ft, fi, fr, a1, a2, a3, a4, a5, a6, a7, a8, a9, a10, a11, a12, a13, a14, a15, a16, a17, a18, a19, a20) := by
  unfold wpX_empty
  dsimp only
  refine nm_e (la_newNode (n := 0) (by omega) ?_)
  exact pk_loop (fun n i s => wX_empty_30 post dc pc 0 0 (nI (0 + 1)) ft fi fr n (nI i) a1 a2 a3 a4 (upd a5 0 0) a6 a7 a8 a9 a10 s (upd a12 0 (-1)) (upd a13 0 (-1)) (upd a14 0 (-1)) (upd a15 0 (-1)) a16 a17 a18 a19 a20) (fun i s => ∀ k, k < i → s k = 0) 24 0 a11 (by omega) (fun k hk => absurd hk (by omega))
    (fun n s h => pk_le 24 24 (fun _ => H _ s _ _ _ _ (fun w p q t sh sw => ⟨by omega, by omega, ⟨fun k hk => absurd hk (Nat.not_lt_zero k), fun k hk => absurd hk (Nat.not_lt_zero k), ⟨rfl, fun k hk => by rw [show k = 0 by omega]; exact pk_us⟩, fun k hk => absurd hk (Nat.not_lt_zero k), fun k hk => absurd hk (Nat.not_lt_zero k), fun k hk => absurd hk (Nat.not_lt_zero k), fun k hk => absurd hk (Nat.not_lt_zero k), fun x hx => by
      rw [h x hx]
      exact la_has_congr la_has_0 (fun k _ => (decide_eq_false (fun z => absurd z.1 (Nat.not_lt_zero k))).symm), fun i j hi => absurd hi (Nat.not_lt_zero i), ⟨pk_us, fun k hk => absurd hk (Nat.not_lt_zero k)⟩⟩, fun k hk => absurd hk (Nat.not_lt_zero k), fun z => absurd z (Nat.lt_irrefl 0)⟩)) (fun z => absurd z (by omega)))
    (fun n i s hi h hw => pk_le 24 i (fun z => absurd z (by omega)) (fun _ => ⟨pk_in i 24 hi, nm_r (e' := vp_updL s i 0) (by rw [nI_clamp (by omega)]) (nm_r (nI_1 i) (hw _ (lt_s (fun k hk => by rw [pk_uLn (by omega)]; exact h k hk) pk_uLs)))⟩))
theorem la_init {post : St2 → Prop} {mc ms : Nat} (h1 : 20 ≤ mc) (h2 : 4813 ≤ ms) (H : ∀ a1 a2 a3 a4 a5 a6 a7 a8 a9 a10 a11 a12 a13 a14 a15 a16 a17 a18 a19 a20, (∀ w p q t sh sw : Nat → Nat, la_st 0 0 w p q t sh sw (fun _ => 0) a3 a4 a5 a6 a7 a8 a9 a10 a11 a12 a13 a14 a15) → post (nI 0, 0, nI 0, nI 0, nI (1 + 3 * 0), 0, 0, 0, a1, a2, a3, a4, a5, a6, a7, a8, a9, a10, a11, a12, a13, a14, a15, a16, a17, a18, a19, a20)) : wpX_init post mc ms (0, 0, 0, 0, 0, 0, 0, 0) := by
  unfold wpX_init
  dsimp only
  refine ⟨by omega, by omega, by omega, by omega, by omega, by omega, by omega, by omega, by omega, by omega, by omega, by omega, by omega, by omega, by omega, by omega, by omega, by omega, by omega, by omega, by omega, by omega, by omega, by omega, by omega, by omega, by omega, by omega, by omega, by omega, by omega, by omega, by omega, by omega, by omega, by omega, by omega, by omega, by omega, by omega, ?_⟩
  exact la_empty (fun b5 b11 b12 b13 b14 b15 h => H _ _ _ _ _ _ _ _ _ _ _ _ _ _ _ _ _ _ _ _ h)
theorem la_write {post : Int32 → St2 → Prop} {pc ft : Int32} {fi : Int64} {fr : Int32} {a1 a2 a3 a4 a5 a6 a7 a8 : Nat → Int32} {a9 : Nat → Int64} {a10 : Nat → Int32} {a11 : Nat → Int64} {a12 a13 a14 a15 a16 a17 a18 a19 a20 : Nat → Int32} {N S a b : Nat} {w p q t sh sw B : Nat → Nat} (hN : N < 32) (hd : la_dat a b w p q) (h : la_st N S w p q t sh sw B a3 a4 a5 a6 a7 a8 a9 a10 a11 a12 a13 a14 a15) (hr : la_rd a1 (w N) (p N) (q N)) (ht : ∀ k, k < N → t k ≤ t N) (ht2 : t N ≤ 1000) (H : ∀ S' sh' sw' B' a3 a4 a5 a6 a7 a8 a9 a10 a11 a12 a13 a14 a15, la_st (N + 1) S' w p q t sh' sw' B' a3 a4 a5 a6 a7 a8 a9 a10 a11 a12 a13 a14 a15 → post (nI N) (nI 0, pc, nI (N + 1), nI S', nI (1 + 3 * S'), 0, fi, fr, a1, a2, a3, a4, a5, a6, a7, a8, a9, a10, a11, a12, a13, a14, a15, a16, a17, a18, a19, a20)) : wpX_write post (nI 3, pc, nI N, nI S, nI (1 + 3 * S), ft, fi, fr, a1, a2, a3, a4, a5, a6, a7, a8, a9, a10, a11, a12, a13, a14, a15, a16, a17, a18, a19, a20) (nI (t N)) := by
  have c3 := h.2.2.1.1
  have W : wX_write_35 post (nI (t N)) (nI 3) pc (nI N) (nI S) (nI (1 + 3 * S)) ft fi fr a1 a2 a3 a4 a5 a6 a7 a8 a9 a10 a11 a12 a13 a14 a15 a16 a17 a18 a19 a20 := by
    unfold wX_write_35
    refine br_f (by decide) (pk_lt N 60 (fun _ => ?_) (fun z => absurd z (by omega)))
    exact la_writeDraft hN hd h hr (fun S' sh' sw' B' a3 a4 a5 a6 a7 a8 a9 a10 a11 a12 a13 a14 a15 g => H S' sh' sw' B' a3 a4 a5 a6 a7 a8 a9 a10 a11 a12 a13 a14 a15 g)
  refine br_f (nI_pos (by omega)) (pk_lt 1000 (t N) (fun z => absurd z (by omega)) (fun _ => pk_le N 0 (fun _ => W) (fun z => ?_)))
  obtain ⟨N', rfl⟩ : ∃ N', N = N' + 1 := ⟨N - 1, by omega⟩
  refine ⟨pk_in N' 60 (by omega) (nI_pred N'), br_t ?_ W⟩
  rw [nI_pred, nI_clamp (by omega), c3 N' (by omega)]
  have u := ht N' (by omega)
  exact nI_le u (by omega)
theorem la_keepD {post : St2 → Prop} {pc ln ss nd ft : Int32} {fi : Int64} {fr : Int32} {a1 a2 a3 a4 a5 a6 a7 a8 : Nat → Int32} {a9 : Nat → Int64} {a10 : Nat → Int32} {a11 : Nat → Int64} {a12 a13 a14 a15 a16 a17 a18 a19 a20 : Nat → Int32} (H : post (0, pc, ln, ss, nd, ft, fi, fr, a1, a2, a3, a4, a5, a6, a7, a8, a9, a10, a11, a12, a13, a14, a15, a16, upd a17 0 0, a18, a19, a20)) : wpX_keepDraft post (0, pc, ln, ss, nd, ft, fi, fr, a1, a2, a3, a4, a5, a6, a7, a8, a9, a10, a11, a12, a13, a14, a15, a16, a17, a18, a19, a20) := nm_e ⟨1, br_t (by decide) H⟩
theorem la_bringD {post : St2 → Prop} {dc pc ln ss nd ft : Int32} {fi : Int64} {fr : Int32} {a1 a2 a3 a4 a5 a6 a7 a8 : Nat → Int32} {a9 : Nat → Int64} {a10 : Nat → Int32} {a11 : Nat → Int64} {a12 a13 a14 a15 a16 a17 a18 a19 a20 : Nat → Int32} (h : a17 0 = 0) (H : post (0, pc, ln, ss, nd, ft, fi, fr, a1, a2, a3, a4, a5, a6, a7, a8, a9, a10, a11, a12, a13, a14, a15, a16, a17, a18, a19, a20)) : wpX_bringDraft post (dc, pc, ln, ss, nd, ft, fi, fr, a1, a2, a3, a4, a5, a6, a7, a8, a9, a10, a11, a12, a13, a14, a15, a16, a17, a18, a19, a20) := nm_r (e' := 0) h ⟨1, br_t (by decide) H⟩
/-- the lines that are kept meanwhile -/
def la_rest (K : Nat) (w p q t : Nat → Nat) (a18 a19 a20 : Nat → Int32) : Prop := ∀ j, j < K → a19 j = nI 3 ∧ a20 j = nI (t j) ∧ a18 (8 * j) = nI (w j) ∧ a18 (8 * j + 1) = nI (1000 + p j) ∧ a18 (8 * j + 2) = nI (1000 + q j)
theorem la_e131 {post : Int32 → St2 → Prop} {pc : Int32} {fi : Int64} {fr : Int32} {a2 a16 a17 a18 a19 a20 : Nat → Int32} {g K a b : Nat} {w p q t : Nat → Nat} (hK : K ≤ 32) (hd : la_dat a b w p q) (hrest : la_rest K w p q t a18 a19 a20) (h17 : a17 0 = 0) (H : ∀ S sh sw B ft a1 a3 a4 a5 a6 a7 a8 a9 a10 a11 a12 a13 a14 a15, la_st K S w p q t sh sw B a3 a4 a5 a6 a7 a8 a9 a10 a11 a12 a13 a14 a15 → post (nI g) (0, pc, nI K, nI S, nI (1 + 3 * S), ft, fi, fr, a1, a2, a3, a4, a5, a6, a7, a8, a9, a10, a11, a12, a13, a14, a15, a16, a17, a18, a19, a20)) : ∀ (m k S : Nat) (sh sw B : Nat → Nat) (dc ft : Int32) (a1 a3 a4 a5 a6 a7 a8 : Nat → Int32) (a9 : Nat → Int64) (a10 : Nat → Int32) (a11 : Nat → Int64) (a12 a13 a14 a15 : Nat → Int32), k + m = K → la_st k S w p q t sh sw B a3 a4 a5 a6 a7 a8 a9 a10 a11 a12 a13 a14 a15 → wX_expire_131 post (nI g) (nI K) (m + 1) (nI k) dc pc (nI k) (nI S) (nI (1 + 3 * S)) ft fi fr a1 a2 a3 a4 a5 a6 a7 a8 a9 a10 a11 a12 a13 a14 a15 a16 a17 a18 a19 a20 := by
  intro m
  induction m with
  | zero =>
    intro k S sh sw B dc ft a1 a3 a4 a5 a6 a7 a8 a9 a10 a11 a12 a13 a14 a15 hk hst
    have kK : k = K := by omega
    subst kK
    exact pk_le k k (fun _ => la_bringD h17 (H S sh sw B ft a1 a3 a4 a5 a6 a7 a8 a9 a10 a11 a12 a13 a14 a15 hst)) (fun z => absurd z (by omega))
  | succ m ih =>
    intro k S sh sw B dc ft a1 a3 a4 a5 a6 a7 a8 a9 a10 a11 a12 a13 a14 a15 hk hst
    obtain ⟨e19, e20, e0, e1, e2⟩ := hrest k (by omega)
    have ck : (nI k).toNatClampNeg = k := nI_clamp (by omega)
    refine pk_le K k (fun z => absurd z (by omega)) (fun _ => ⟨pk_in k 60 (by omega), nm_r (e' := nI 3) (by rw [ck, e19]) ⟨4, ?_⟩⟩)
    refine pk_le 3 0 (fun z => absurd z (by omega)) (fun _ => ⟨pk_in (8 * k) 480 (by omega) la_ix0, pk_in 0 8 (by omega), nm_r (e' := upd a1 0 (nI (w k))) (by rw [la_ix0, nI_clamp (by omega), e0]; rfl) (nm_r (e' := nI 1) (by decide) ?_)⟩)
    refine pk_le 3 1 (fun z => absurd z (by omega)) (fun _ => ⟨pk_in (8 * k + 1) 480 (by omega) la_ix, pk_in 1 8 (by omega), nm_r (e' := upd (upd a1 0 (nI (w k))) 1 (nI (1000 + p k))) (by rw [la_ix, nI_clamp (show 8 * k + 1 < 2 ^ 31 by omega), nI_clamp (show 1 < 2 ^ 31 by omega), e1]) (nm_r (e' := nI 2) (by decide) ?_)⟩)
    refine pk_le 3 2 (fun z => absurd z (by omega)) (fun _ => ⟨pk_in (8 * k + 2) 480 (by omega) la_ix, pk_in 2 8 (by omega), nm_r (e' := upd (upd (upd a1 0 (nI (w k))) 1 (nI (1000 + p k))) 2 (nI (1000 + q k))) (by rw [la_ix, nI_clamp (show 8 * k + 2 < 2 ^ 31 by omega), nI_clamp (show 2 < 2 ^ 31 by omega), e2]) (nm_r (e' := nI 3) (by decide) ?_)⟩)
    refine pk_le 3 3 (fun _ => ⟨pk_in k 60 (by omega), ?_⟩) (fun z => absurd z (by omega))
    rw [ck, e20]
    exact la_writeDraft (by omega) hd hst ⟨by rw [pk_un (by omega), pk_un (by omega), pk_us], by rw [pk_un (by omega), pk_us], pk_us⟩ (fun S' sh' sw' B' a3 a4 a5 a6 a7 a8 a9 a10 a11 a12 a13 a14 a15 g => nm_r (nI_1 k) (ih (k + 1) S' sh' sw' B' _ _ _ a3 a4 a5 a6 a7 a8 a9 a10 a11 a12 a13 a14 a15 (by omega) g))
theorem la_e22 {post : Int32 → St2 → Prop} {pc ss nd ft : Int32} {fi : Int64} {a1 a2 a3 a4 a5 a6 a7 a8 : Nat → Int32} {a9 : Nat → Int64} {a10 : Nat → Int32} {a11 : Nat → Int64} {a12 a13 a14 a15 : Nat → Int32} {N S g K a b : Nat} {w p q t sh sw B : Nat → Nat} (hd : la_dat a b w p q) (h : la_st N S w p q t sh sw B a3 a4 a5 a6 a7 a8 a9 a10 a11 a12 a13 a14 a15) (hK : g + K = N) (H : ∀ S sh sw B ss nd ft fr a1 a3 a4 a5 a6 a7 a8 a9 a10 a11 a12 a13 a14 a15 a16 a17 a18 a19 a20, la_st K S (fun k => w (g + k)) (fun k => p (g + k)) (fun k => q (g + k)) (fun k => t (g + k)) sh sw B a3 a4 a5 a6 a7 a8 a9 a10 a11 a12 a13 a14 a15 → ss = nI S → post (nI g) (0, pc, nI K, ss, nd, ft, fi, fr, a1, a2, a3, a4, a5, a6, a7, a8, a9, a10, a11, a12, a13, a14, a15, a16, a17, a18, a19, a20)) : ∀ (m k : Nat) (fr : Int32) (a16 a17 a18 a19 a20 : Nat → Int32), k + m = K → la_rest k (fun k => w (g + k)) (fun k => p (g + k)) (fun k => q (g + k)) (fun k => t (g + k)) a18 a19 a20 → wX_expire_22 post (nI g) (nI K) (m + 1) (nI k) 0 pc (nI N) ss nd ft fi fr a1 a2 a3 a4 a5 a6 a7 a8 a9 a10 a11 a12 a13 a14 a15 a16 a17 a18 a19 a20 := by
  have hdd : la_dat a b (fun k => w (g + k)) (fun k => p (g + k)) (fun k => q (g + k)) := ⟨hd.1, hd.2.1, hd.2.2.1, fun k => hd.2.2.2.1 (g + k), fun k => hd.2.2.2.2.1 (g + k), fun k => hd.2.2.2.2.2 (g + k)⟩
  obtain ⟨hN, hS, hc, _, _⟩ := h
  intro m
  induction m with
  | zero =>
    intro k fr a16 a17 a18 a19 a20 hk hrest
    have kK : k = K := by omega
    subst kK
    refine pk_le k k (fun _ => la_keepD (la_empty (fun b5 b11 b12 b13 b14 b15 g0 => ⟨k + 1, ?_⟩))) (fun z => absurd z (by omega))
    exact la_e131 (by omega) hdd hrest pk_us (fun S sh sw B ft a1 a3 a4 a5 a6 a7 a8 a9 a10 a11 a12 a13 a14 a15 hst => H S sh sw B _ _ ft _ a1 a3 a4 a5 a6 a7 a8 a9 a10 a11 a12 a13 a14 a15 _ _ _ _ _ hst rfl) k 0 0 (fun _ => 0) (fun _ => 0) (fun _ => 0) _ _ _ _ _ _ _ _ _ _ _ _ _ _ _ _ (by omega) (g0 _ _ _ _ _ _)
  | succ m ih =>
    intro k fr a16 a17 a18 a19 a20 hk hrest
    have ck : (nI k).toNatClampNeg = k := nI_clamp (by omega)
    have cg : (nI (g + k)).toNatClampNeg = g + k := nI_clamp (by omega)
    obtain ⟨s1, s2, h4⟩ := hc.2.1 (g + k) (by omega)
    obtain ⟨w24, e7, e80, e81, e82⟩ := hc.2.2.2.2.1 (sh (g + k)) s1
    have cs : (nI (sh (g + k))).toNatClampNeg = sh (g + k) := nI_clamp (by omega)
    have e3 := hc.1 (g + k) (by omega)
    refine pk_le K k (fun z => absurd z (by omega)) (fun _ => ?_)
    rw [nI_add]
    refine la_readLine hN hS hc (by omega) (fun f m17 m16 hm => ⟨pk_in (g + k) 60 (by omega), pk_in (sh (g + k)) 60 (by omega) (by rw [cg, h4]), pk_in k 60 (by omega), nm_r (e' := upd a19 k (nI 3)) (by rw [ck, cg, h4, cs, e7]; rfl) ⟨pk_in (g + k) 60 (by omega), pk_in k 60 (by omega), nm_r (e' := upd a20 k (nI (t (g + k)))) (by rw [ck, cg, e3]) ⟨4, ?_⟩⟩⟩)
    have u19 : upd a19 k (nI 3) (nI k).toNatClampNeg = nI 3 := by rw [ck, pk_us]
    refine ⟨pk_in k 60 (by omega), br_f (by rw [u19]; decide) ⟨pk_in 0 8 (by omega), pk_in (8 * k) 480 (by omega) la_ix0, nm_r (e' := upd a18 (8 * k) (nI (w (g + k)))) (by rw [la_ix0, nI_clamp (show 8 * k < 2 ^ 31 by omega), show m16 (0 : Int32).toNatClampNeg = nI (w (g + k)) from hm.1]) (nm_r (e' := nI 1) (by decide) ?_)⟩⟩
    refine ⟨pk_in k 60 (by omega), br_f (by rw [u19]; decide) ⟨pk_in 1 8 (by omega), pk_in (8 * k + 1) 480 (by omega) la_ix, nm_r (e' := upd (upd a18 (8 * k) (nI (w (g + k)))) (8 * k + 1) (nI (1000 + p (g + k)))) (by rw [la_ix, nI_clamp (show 8 * k + 1 < 2 ^ 31 by omega), nI_clamp (show 1 < 2 ^ 31 by omega), hm.2.1]) (nm_r (e' := nI 2) (by decide) ?_)⟩⟩
    refine ⟨pk_in k 60 (by omega), br_f (by rw [u19]; decide) ⟨pk_in 2 8 (by omega), pk_in (8 * k + 2) 480 (by omega) la_ix, nm_r (e' := upd (upd (upd a18 (8 * k) (nI (w (g + k)))) (8 * k + 1) (nI (1000 + p (g + k)))) (8 * k + 2) (nI (1000 + q (g + k)))) (by rw [la_ix, nI_clamp (show 8 * k + 2 < 2 ^ 31 by omega), nI_clamp (show 2 < 2 ^ 31 by omega), hm.2.2]) (nm_r (e' := nI 3) (by decide) ?_)⟩⟩
    refine ⟨pk_in k 60 (by omega), br_t (by rw [u19]; decide) (nm_r (nI_1 k) (ih (k + 1) f m16 m17 _ _ _ (by omega) (fun j hj => ?_)))⟩
    by_cases e : j = k
    · subst e
      exact ⟨pk_us, pk_us, by rw [pk_un (by omega), pk_un (by omega), pk_us], by rw [pk_un (by omega), pk_us], pk_us⟩
    · obtain ⟨y1, y2, y3, y4, y5⟩ := hrest j (by omega)
      exact ⟨by rw [pk_un e]; exact y1, by rw [pk_un e]; exact y2, by rw [pk_un (by omega), pk_un (by omega), pk_un (by omega)]; exact y3, by rw [pk_un (by omega), pk_un (by omega), pk_un (by omega)]; exact y4, by rw [pk_un (by omega), pk_un (by omega), pk_un (by omega)]; exact y5⟩
theorem la_expire0 {post : Int32 → St2 → Prop} {dc pc ss nd ft : Int32} {fi : Int64} {fr : Int32} {a1 a2 a3 a4 a5 a6 a7 a8 : Nat → Int32} {a9 : Nat → Int64} {a10 : Nat → Int32} {a11 : Nat → Int64} {a12 a13 a14 a15 a16 a17 a18 a19 a20 : Nat → Int32} {N : Nat} {X : Int32} (hN : N ≤ 32) (h : ∀ k, k < N → X ≤ a3 k) (H : post 0 (dc, pc, nI N, ss, nd, ft, fi, fr, a1, a2, a3, a4, a5, a6, a7, a8, a9, a10, a11, a12, a13, a14, a15, a16, a17, a18, a19, a20)) : wpX_expire post (dc, pc, nI N, ss, nd, ft, fi, fr, a1, a2, a3, a4, a5, a6, a7, a8, a9, a10, a11, a12, a13, a14, a15, a16, a17, a18, a19, a20) X := by
  unfold wpX_expire
  dsimp only
  exact la_cb (r := 0) (by omega) (by omega) (fun k hk => absurd hk (Nat.not_lt_zero k)) (fun k _ hk => h k hk) (br_t rfl H)
theorem la_expire {post : Int32 → St2 → Prop} {pc ss nd ft : Int32} {fi : Int64} {fr : Int32} {a1 a2 a3 a4 a5 a6 a7 a8 : Nat → Int32} {a9 : Nat → Int64} {a10 : Nat → Int32} {a11 : Nat → Int64} {a12 a13 a14 a15 a16 a17 a18 a19 a20 : Nat → Int32} {N S g a b : Nat} {w p q t sh sw B : Nat → Nat} {X : Int32} (hd : la_dat a b w p q) (h : la_st N S w p q t sh sw B a3 a4 a5 a6 a7 a8 a9 a10 a11 a12 a13 a14 a15) (hg : 0 < g) (hgN : g ≤ N) (h1 : ∀ k, k < g → ¬ X ≤ a3 k) (h2 : ∀ k, g ≤ k → k < N → X ≤ a3 k) (H : ∀ S sh sw B ss nd ft fr a1 a3 a4 a5 a6 a7 a8 a9 a10 a11 a12 a13 a14 a15 a16 a17 a18 a19 a20, la_st (N - g) S (fun k => w (g + k)) (fun k => p (g + k)) (fun k => q (g + k)) (fun k => t (g + k)) sh sw B a3 a4 a5 a6 a7 a8 a9 a10 a11 a12 a13 a14 a15 → ss = nI S → post (nI g) (0, pc, nI (N - g), ss, nd, ft, fi, fr, a1, a2, a3, a4, a5, a6, a7, a8, a9, a10, a11, a12, a13, a14, a15, a16, a17, a18, a19, a20)) : wpX_expire post (0, pc, nI N, ss, nd, ft, fi, fr, a1, a2, a3, a4, a5, a6, a7, a8, a9, a10, a11, a12, a13, a14, a15, a16, a17, a18, a19, a20) X := by
  have hN := h.1
  unfold wpX_expire
  dsimp only
  refine la_cb (r := g) (by omega) hgN h1 h2 (br_f (nI_ne0 hg (by omega)) (nm_r (pk_sub hgN) ⟨N - g + 1, ?_⟩))
  exact la_e22 hd h (by omega) H (N - g) 0 fr a16 a17 a18 a19 a20 (by omega) (fun j hj => absurd hj (Nat.not_lt_zero j))
end
section
/-! ===== 10: what the law counts, against the picture: no program in sight ===== -/
/-- the first line of a kind, -1 if there is none -/
def la_ff (e : Nat → Bool) : Nat → Int32
  | 0 => -1
  | k + 1 => if e k = true then (if 0 ≤ la_ff e k then la_ff e k else nI k) else la_ff e k
theorem la_ff_spec (e : Nat → Bool) (n : Nat) (hn : n < 2 ^ 31) : ((∀ k, k < n → e k = false) ∧ la_ff e n = -1) ∨ ∃ f, f < n ∧ e f = true ∧ (∀ j, j < f → e j = false) ∧ la_ff e n = nI f := by
  induction n with
  | zero => exact Or.inl ⟨fun k hk => absurd hk (Nat.not_lt_zero k), rfl⟩
  | succ n ih =>
    rcases ih (by omega) with ⟨h1, h2⟩ | ⟨f, h1, h2, h3, h4⟩
    · by_cases z : e n = true
      · refine Or.inr ⟨n, by omega, z, h1, ?_⟩
        show (if e n = true then (if 0 ≤ la_ff e n then la_ff e n else nI n) else la_ff e n) = nI n
        rw [if_pos z, h2, if_neg (by decide)]
      · refine Or.inl ⟨fun k hk => ?_, ?_⟩
        · by_cases y : k = n
          · rw [y]; exact Bool.eq_false_iff.mpr z
          · exact h1 k (by omega)
        · show (if e n = true then (if 0 ≤ la_ff e n then la_ff e n else nI n) else la_ff e n) = -1
          rw [if_neg z, h2]
    · refine Or.inr ⟨f, by omega, h2, h3, ?_⟩
      show (if e n = true then (if 0 ≤ la_ff e n then la_ff e n else nI n) else la_ff e n) = nI f
      by_cases z : e n = true
      · rw [if_pos z, h4, if_pos (nI_pos' (by omega))]
      · rw [if_neg z, h4]
theorem la_of_false {f : Nat → Nat} {x k : Nat} : la_of f x k = false ↔ ¬ f k = x := decide_eq_false_iff_not
theorem la_of_true {f : Nat → Nat} {x k : Nat} : la_of f x k = true ↔ f k = x := decide_eq_true_iff
theorem la_cnt_of {N : Nat} {w : Nat → Nat} {x : Nat} : 0 < la_cnt (la_of w x) N ↔ ∃ k, k < N ∧ w k = x := by
  rw [la_cnt_pos]
  exact ⟨fun ⟨k, h1, h2⟩ => ⟨k, h1, la_of_true.mp h2⟩, fun ⟨k, h1, h2⟩ => ⟨k, h1, la_of_true.mpr h2⟩⟩
/-- the shapes of the picture, without its arrays -/
def la_shp (N S : Nat) (w sh sw : Nat → Nat) : Prop := N ≤ 32 ∧ S ≤ 2 ∧ (∀ k, k < N → sh k < S ∧ sw (sh k) = w k) ∧ (∀ i j, i < S → j < S → sw i = sw j → i = j) ∧ (∀ s, s < S → ∃ k, k < N ∧ sh k = s) ∧ (0 < N → sh 0 = 0)
theorem la_st_shp {N S : Nat} {w p q t sh sw B : Nat → Nat} {a3 a4 a5 a6 a7 a8 : Nat → Int32} {a9 : Nat → Int64} {a10 : Nat → Int32} {a11 : Nat → Int64} {a12 a13 a14 a15 : Nat → Int32} (h : la_st N S w p q t sh sw B a3 a4 a5 a6 a7 a8 a9 a10 a11 a12 a13 a14 a15) : la_shp N S w sh sw := by
  obtain ⟨h1, h2, ⟨c3, c4, c5, c6, c8, c9, c10, c11, ci, ct⟩, h4, h5⟩ := h
  exact ⟨h1, h2, fun k hk => ⟨(c4 k hk).1, (c4 k hk).2.1⟩, ci, h4, h5⟩
theorem la_shape_of {N S f A : Nat} {w sh sw : Nat → Nat} (h : la_shp N S w sh sw) (hf : f < N) (hw : w f = A) : ∀ k, k < N → la_of sh (sh f) k = la_of w A k := by
  obtain ⟨h1, h2, h3, h4, h5, h6⟩ := h
  intro k hk
  have a := h3 k hk
  have b := h3 f hf
  refine decide_eq_decide.mpr ⟨fun z => ?_, fun z => ?_⟩
  · rw [← a.2, z, b.2]; exact hw
  · exact h4 _ _ a.1 b.1 (by rw [a.2, b.2, z, hw])
theorem la_groupsN {N S a b : Nat} {w p q sh sw : Nat → Nat} (h : la_shp N S w sh sw) (hd : la_dat a b w p q) : S = (if 0 < la_cnt (la_of w a) N then 1 else 0) + (if 0 < la_cnt (la_of w b) N then 1 else 0) := by
  obtain ⟨h1, h2, h3, h4, h5, h6⟩ := h
  obtain ⟨d1, d2, d3, d4, d5, d6⟩ := hd
  have ws : ∀ s, s < S → ∃ k, k < N ∧ sh k = s ∧ w k = sw s := fun s hs => by
    obtain ⟨k, hk, ek⟩ := h5 s hs
    exact ⟨k, hk, ek, by rw [← ek]; exact (h3 k hk).2.symm⟩
  rcases (show S = 0 ∨ S = 1 ∨ S = 2 by omega) with e | e | e
  · have n : ∀ x, ¬ 0 < la_cnt (la_of w x) N := fun x z => by
      obtain ⟨k, hk, _⟩ := la_cnt_of.mp z
      have := (h3 k hk).1
      omega
    rw [if_neg (n a), if_neg (n b)]
    exact e
  · obtain ⟨k, hk, ek, wk⟩ := ws 0 (by omega)
    have all : ∀ j, j < N → w j = w k := fun j hj => by
      have u := h3 j hj
      rw [wk, ← u.2]
      congr 1
      omega
    rcases d4 k with z | z
    · rw [if_pos (la_cnt_of.mpr ⟨k, hk, z⟩), if_neg (fun y => by
        obtain ⟨j, hj, ej⟩ := la_cnt_of.mp y
        have := all j hj
        omega)]
      exact e
    · rw [if_pos (la_cnt_of.mpr ⟨k, hk, z⟩), if_neg (fun y => by
        obtain ⟨j, hj, ej⟩ := la_cnt_of.mp y
        have := all j hj
        omega)]
      exact e
  · obtain ⟨k, hk, ek, wk⟩ := ws 0 (by omega)
    obtain ⟨j, hj, ej, wj⟩ := ws 1 (by omega)
    have i01 := h4 0 1 (by omega) (by omega)
    rcases d4 k with z | z <;> rcases d4 j with y | y
    · omega
    · rw [if_pos (la_cnt_of.mpr ⟨k, hk, z⟩), if_pos (la_cnt_of.mpr ⟨j, hj, y⟩)]
      exact e
    · rw [if_pos (la_cnt_of.mpr ⟨j, hj, y⟩), if_pos (la_cnt_of.mpr ⟨k, hk, z⟩)]
      exact e
    · omega
theorem la_fgN {N S a b : Nat} {w p q sh sw : Nat → Nat} (h : la_shp N S w sh sw) (hd : la_dat a b w p q) : la_cnt (la_of sw a) S = if 0 < la_cnt (la_of w a) N then 1 else 0 := by
  obtain ⟨h1, h2, h3, h4, h5, h6⟩ := h
  have c : ∀ s, la_cnt (la_of sw a) (s + 1) = la_cnt (la_of sw a) s + (if sw s = a then 1 else 0) := fun s => by
    show la_cnt (la_of sw a) s + (if la_of sw a s = true then 1 else 0) = _
    by_cases z : sw s = a
    · rw [if_pos z, if_pos (la_of_true.mpr z)]
    · rw [if_neg z, if_neg (la_of_f z)]
  have c0 : la_cnt (la_of sw a) 0 = 0 := rfl
  have ex : (∃ s, s < S ∧ sw s = a) ↔ 0 < la_cnt (la_of w a) N := by
    rw [la_cnt_of]
    constructor
    · intro ⟨s, hs, es⟩
      obtain ⟨k, hk, ek⟩ := h5 s hs
      exact ⟨k, hk, by rw [← (h3 k hk).2, ek]; exact es⟩
    · intro ⟨k, hk, ek⟩
      exact ⟨sh k, (h3 k hk).1, by rw [(h3 k hk).2]; exact ek⟩
  by_cases z : 0 < la_cnt (la_of w a) N
  · rw [if_pos z]
    obtain ⟨s, hs, es⟩ := ex.mpr z
    rcases (show S = 0 ∨ S = 1 ∨ S = 2 by omega) with e | e | e
    · omega
    · rw [e, c 0, c0, show (0 : Nat) = s by omega, if_pos es]
      omega
    · have i01 := h4 0 1 (by omega) (by omega)
      rw [e, c 1, c 0, c0]
      rcases (show s = 0 ∨ s = 1 by omega) with y | y
      · rw [y] at es
        rw [if_pos es, if_neg (fun u => by have := i01 (by omega); omega)]
      · rw [y] at es
        rw [if_pos es, if_neg (fun u => by have := i01 (by omega); omega)]
  · rw [if_neg z]
    have n : ∀ s, s < S → ¬ sw s = a := fun s hs es => z (ex.mp ⟨s, hs, es⟩)
    rcases (show S = 0 ∨ S = 1 ∨ S = 2 by omega) with e | e | e
    · rw [e]; exact c0
    · rw [e, c 0, c0, if_neg (n 0 (by omega))]
    · rw [e, c 1, c 0, c0, if_neg (n 0 (by omega)), if_neg (n 1 (by omega))]
/-- words a and b are the two kinds -/
theorem la_other {a b : Nat} {w p q : Nat → Nat} (hd : la_dat a b w p q) (k : Nat) : la_of w b k = !la_of w a k := by
  obtain ⟨d1, d2, d3, d4, d5, d6⟩ := hd
  rcases d4 k with z | z
  · rw [la_of_true.mpr z, la_of_false.mpr (by omega)]; rfl
  · rw [la_of_true.mpr z, la_of_false.mpr (by omega)]; rfl
/-- the largest group: what the law says of it -/
theorem la_large {N a b f : Nat} {w p q sh sw : Nat → Nat} (h : la_shp N 2 w sh sw) (hd : la_dat a b w p q) (hf : f < N) (hw : w f = a) (hm : ∀ j, j < f → ¬ w j = a) :
    ∃ f1, la_fst N sh 0 0 ∧ la_fst N sh 1 f1 ∧ 0 < f1 ∧
      ((f = 0 ∧ la_cnt (la_of w a) N = la_cnt (la_of sh 0) N ∧ la_cnt (la_of w b) N = la_cnt (la_of sh 1) N) ∨ (f = f1 ∧ la_cnt (la_of w a) N = la_cnt (la_of sh 1) N ∧ la_cnt (la_of w b) N = la_cnt (la_of sh 0) N)) := by
  have hc := h
  obtain ⟨h1, h2, h3, h4, h5, h6⟩ := h
  have s0 := h6 (by omega)
  obtain ⟨f1, ⟨g1, g2⟩, g3⟩ := pk_least (fun k => k < N ∧ sh k = 1) (h5 1 (by omega))
  have p1 : 0 < f1 := by
    rcases Nat.lt_or_ge 0 f1 with z | z
    · exact z
    · rw [show f1 = 0 by omega, s0] at g2
      omega
  have F1 : la_fst N sh 1 f1 := ⟨g1, g2, fun j hj z => g3 j hj ⟨by omega, z⟩⟩
  have wb : w f1 = a ∨ w f1 = b := hd.2.2.2.1 f1
  have w0 : w 0 = a ∨ w 0 = b := hd.2.2.2.1 0
  have ne : ¬ w 0 = w f1 := fun z => by
    have u := h3 0 (by omega)
    have v := h3 f1 g1
    have := h4 _ _ u.1 v.1 (by rw [u.2, v.2]; exact z)
    rw [s0, g2] at this
    omega
  refine ⟨f1, ⟨by omega, s0, fun j hj => absurd hj (Nat.not_lt_zero j)⟩, F1, p1, ?_⟩
  rcases w0 with z | z
  · left
    have f0 : f = 0 := by
      rcases Nat.lt_or_ge 0 f with y | y
      · exact absurd z (hm 0 y)
      · omega
    refine ⟨f0, ?_, ?_⟩
    · have e := la_shape_of hc (show 0 < N by omega) z
      rw [s0] at e
      exact (la_cnt_congr e).symm
    · have e := la_shape_of hc g1 (show w f1 = b by rcases wb with y | y <;> omega)
      rw [g2] at e
      exact (la_cnt_congr e).symm
  · right
    have wa : w f1 = a := by rcases wb with y | y <;> omega
    have sf : sh f = 1 := by
      have e := la_shape_of hc g1 wa f hf
      rw [la_of_true.mpr hw, g2] at e
      exact la_of_true.mp e
    have ff : f = f1 := by
      rcases Nat.lt_trichotomy f f1 with y | y | y
      · exact absurd ⟨hf, sf⟩ (g3 f y)
      · exact y
      · exact absurd wa (hm f1 y)
    refine ⟨ff, ?_, ?_⟩
    · have e := la_shape_of hc g1 wa
      rw [g2] at e
      exact (la_cnt_congr e).symm
    · have e := la_shape_of hc (show 0 < N by omega) z
      rw [s0] at e
      exact (la_cnt_congr e).symm
/-- times that rise by steps: what a span holds -/
theorem la_span {g e b St W c : Nat} {x y : Int32} (hx : x = nI ((g + e) * St)) (hy : y = nI ((g + b) * St)) (hb : b ≤ e) (he : (g + e) * St < 2 ^ 30) (hW : 1 ≤ W) (hW2 : W < 2 ^ 31) (hc : (St = 0 ∧ e < c) ∨ (0 < St ∧ c = (W - 1) / St + 1)) : ¬ (nI W ≤ x - y) ↔ e - b < c := by
  have le : (g + b) * St ≤ (g + e) * St := Nat.mul_le_mul_right St (by omega)
  have d : (g + e) * St - (g + b) * St = (e - b) * St := by
    rw [← Nat.sub_mul]
    congr 1
    omega
  rw [hx, hy, pk_sub le, d, nI_leI hW2 (by omega)]
  rcases hc with ⟨s0, h⟩ | ⟨s1, h⟩
  · rw [s0, Nat.mul_zero]
    omega
  · rw [h, Nat.lt_succ_iff, Nat.le_div_iff_mul_le s1]
    omega
end
section
/-! ===== 11: the law, from the end of a round backwards ===== -/
/-- the law's bits against the lines that are left -/
def la_lw (x0 x2 : Int32) (a St g N : Nat) (w p t : Nat → Nat) : Prop := ∀ k, k < N → (((x2 >>> (nI (g + k) &&& 31)) &&& 1) = 0 ↔ w k = a) ∧ ((x0 >>> ((nI (g + k) - nI (g + k) / 20 * 20) &&& 31)) &&& 511) = nI (p k) ∧ t k = (g + k) * St
/-- the end of a round -/
def la_end (post : Int32 → St0 → Prop) (mc ms : Nat) (J : Int32 → Int32 → (Int32) → (Int32) → (Int32) → (Int32) → (Int32) → (Int32) → (Int64) → (Int32) → (Nat → Int32) → (Nat → Int32) → (Nat → Int32) → (Nat → Int32) → (Nat → Int32) → (Nat → Int32) → (Nat → Int32) → (Nat → Int32) → (Nat → Int64) → (Nat → Int32) → (Nat → Int64) → (Nat → Int32) → (Nat → Int32) → (Nat → Int32) → (Nat → Int32) → (Nat → Int32) → (Nat → Int32) → (Nat → Int32) → (Nat → Int32) → (Nat → Int32) → Prop) (x0 x2 : Int32) (M A Bn St g : Nat) (x10 : Int32) (kc ks : Nat) (dc pc ln ss nd ft : Int32) (fi : Int64) (fr : Int32) (a1 a2 a3 a4 a5 a6 a7 a8 : Nat → Int32) (a9 : Nat → Int64) (a10 : Nat → Int32) (a11 : Nat → Int64) (a12 a13 a14 a15 a16 a17 a18 a19 a20 : Nat → Int32) : Prop :=
  ∀ x22 : Int32, x22 = ((x2 >>> ((13 : Int32) &&& 31)) &&& 31) * nI St → ((x10 = 0 → ((nI St = 0 → wL_lawOf_983 post mc ms J x0 x2 (nI M) (nI A) (nI Bn) (nI St) x10 x22 0 kc ks dc pc ln ss nd ft fi fr a1 a2 a3 a4 a5 a6 a7 a8 a9 a10 a11 a12 a13 a14 a15 a16 a17 a18 a19 a20) ∧ (¬ nI St = 0 → wL_lawOf_983 post mc ms J x0 x2 (nI M) (nI A) (nI Bn) (nI St) x10 x22 ((x2 >>> ((13 : Int32) &&& 31)) &&& 31) kc ks dc pc ln ss nd ft fi fr a1 a2 a3 a4 a5 a6 a7 a8 a9 a10 a11 a12 a13 a14 a15 a16 a17 a18 a19 a20))) ∧ (¬ x10 = 0 → ∀ x10' : Int32, x10' = x10 + 1 → J (nI g) x10' dc pc ln ss nd ft fi fr a1 a2 a3 a4 a5 a6 a7 a8 a9 a10 a11 a12 a13 a14 a15 a16 a17 a18 a19 a20))
theorem la_tb {x0 x2 : Int32} {A St g N M : Nat} {w p t : Nat → Nat} (hM : M ≤ 32) (hg : g + N = M) (hSt : St ≤ 7) (hl : la_lw x0 x2 A St g N w p t) {k : Nat} (hk : k < N) : t k ≤ 217 ∧ St * g ≤ t k ∧ t k ≤ St * (M - 1) ∧ St * (M - 1) ≤ 217 := by
  have e := (hl k hk).2.2
  have a1 : (g + k) * St ≤ (M - 1) * St := Nat.mul_le_mul_right St (by omega)
  have a2 : g * St ≤ (g + k) * St := Nat.mul_le_mul_right St (by omega)
  have a3 : (M - 1) * St ≤ 31 * 7 := Nat.mul_le_mul (by omega) hSt
  rw [Nat.mul_comm St g, Nat.mul_comm St (M - 1)]
  omega
theorem la_895 {post : Int32 → St0 → Prop} {mc ms : Nat} {J : Int32 → Int32 → (Int32) → (Int32) → (Int32) → (Int32) → (Int32) → (Int32) → (Int64) → (Int32) → (Nat → Int32) → (Nat → Int32) → (Nat → Int32) → (Nat → Int32) → (Nat → Int32) → (Nat → Int32) → (Nat → Int32) → (Nat → Int32) → (Nat → Int64) → (Nat → Int32) → (Nat → Int64) → (Nat → Int32) → (Nat → Int32) → (Nat → Int32) → (Nat → Int32) → (Nat → Int32) → (Nat → Int32) → (Nat → Int32) → (Nat → Int32) → (Nat → Int32) → Prop} {x0 x2 x10 : Int32} {M A Bn St g N S kc ks : Nat} {w p q t sh sw B : Nat → Nat} {dc nd : Int32} {fi : Int64} {fr : Int32} {a1 a2 a3 a4 a5 a6 a7 a8 : Nat → Int32} {a9 : Nat → Int64} {a10 : Nat → Int32} {a11 : Nat → Int64} {a12 a13 a14 a15 a16 a17 a18 a19 a20 : Nat → Int32} {v Wd c mn : Nat} (hM1 : 1 ≤ M) (hM : M ≤ 32) (hg : g + N = M) (hSt : St ≤ 7) (hd : la_dat A Bn w p q) (hl : la_lw x0 x2 A St g N w p t) (h : la_st N S w p q t sh sw B a3 a4 a5 a6 a7 a8 a9 a10 a11 a12 a13 a14 a15) (HE : ∀ pc ft fi fr a2 a17 a18, la_end post mc ms J x0 x2 M A Bn St g x10 kc ks dc pc (nI N) (nI S) nd ft fi fr a1 a2 a3 a4 a5 a6 a7 a8 a9 a10 a11 a12 a13 a14 a15 a16 a17 a18 a19 a20) (h2 : la_pt2 v a2) (hW : 1 ≤ Wd) (hW2 : Wd ≤ 32) (hc : (St = 0 ∧ c = N + 1) ∨ (0 < St ∧ c = (Wd - 1) / St + 1)) (hmn : mn = min N c) : wL_lawOf_895 post mc ms J x0 x2 (nI M) (nI A) (nI Bn) (nI St) (nI g) x10 (nI (la_cnt (fun k => decide (v < p k)) N)) (nI Wd) (nI mn) kc ks dc (nI 3) (nI N) (nI S) nd 0 fi fr a1 a2 a3 a4 a5 a6 a7 a8 a9 a10 a11 a12 a13 a14 a15 a16 a17 a18 a19 a20 := by
  obtain ⟨hN, hS, hc0, hi, h0⟩ := h
  have c3 := hc0.1
  have tb := fun k hk => la_tb hM hg hSt hl (k := k) hk
  have c1 : 1 ≤ c := by
    rcases hc with z | z
    · omega
    · rw [z.2]; exact Nat.le_add_left 1 _
  have T217 : St * (M - 1) ≤ 7 * 31 := Nat.mul_le_mul hSt (by omega)
  unfold wL_lawOf_895
  refine la_fitting (T := 1000) (X := 0) (g := fun j => decide (v < p j)) hN (fun k hk => by rw [c3 k hk]; exact nI_pos' (by have := tb k hk; omega)) (by omega) (by omega) (fun po hp => la_fit2 hN hS hc0 hd.2.2.2.2.1 hd.2.2.2.2.2 h2 hp) (fun fi fr a17 hf => br_t rfl ?_)
  refine la_burst (c := c) hN hW (by omega) c1 (fun e b hbe he => ?_) ?_
  · have u := tb e he
    have ue := (hl e he).2.2
    exact la_span (g := g) (e := e) (b := b) (St := St) (by rw [c3 e he, ue]) (by rw [c3 b (by omega), (hl b (by omega)).2.2]) hbe (by omega) hW (by omega) (by omega)
  · rw [← hmn]
    refine br_t rfl ?_
    rw [pk_mul St g, show nI M - 1 = nI (M - 1) from pk_sub (b := 1) hM1, pk_mul St (M - 1)]
    refine la_between hN (by omega) (fun k hk => ?_) (fun k hk => ?_) (br_t ?_ ?_)
    · rw [c3 k hk]
      have := tb k hk
      exact nI_le this.2.1 (by omega)
    · rw [c3 k hk]
      have := tb k hk
      exact nI_ge (by omega) (by omega)
    · rw [pk_sub (show g ≤ M by omega), show M - g = N by omega]
    · exact HE _ _ _ _ _ _ _
theorem la_873 {post : Int32 → St0 → Prop} {mc ms : Nat} {J : Int32 → Int32 → (Int32) → (Int32) → (Int32) → (Int32) → (Int32) → (Int32) → (Int64) → (Int32) → (Nat → Int32) → (Nat → Int32) → (Nat → Int32) → (Nat → Int32) → (Nat → Int32) → (Nat → Int32) → (Nat → Int32) → (Nat → Int32) → (Nat → Int64) → (Nat → Int32) → (Nat → Int64) → (Nat → Int32) → (Nat → Int32) → (Nat → Int32) → (Nat → Int32) → (Nat → Int32) → (Nat → Int32) → (Nat → Int32) → (Nat → Int32) → (Nat → Int32) → Prop} {x0 x2 x10 : Int32} {M A Bn St g N S kc ks : Nat} {w p q t sh sw B : Nat → Nat} {dc nd : Int32} {fi : Int64} {fr : Int32} {a1 a2 a3 a4 a5 a6 a7 a8 : Nat → Int32} {a9 : Nat → Int64} {a10 : Nat → Int32} {a11 : Nat → Int64} {a12 a13 a14 a15 a16 a17 a18 a19 a20 : Nat → Int32} {v Wd C : Nat} (hM1 : 1 ≤ M) (hM : M ≤ 32) (hg : g + N = M) (hSt : St ≤ 7) (hd : la_dat A Bn w p q) (hl : la_lw x0 x2 A St g N w p t) (h : la_st N S w p q t sh sw B a3 a4 a5 a6 a7 a8 a9 a10 a11 a12 a13 a14 a15) (HE : ∀ pc ft fi fr a2 a17 a18, la_end post mc ms J x0 x2 M A Bn St g x10 kc ks dc pc (nI N) (nI S) nd ft fi fr a1 a2 a3 a4 a5 a6 a7 a8 a9 a10 a11 a12 a13 a14 a15 a16 a17 a18 a19 a20) (h2 : la_pt2 v a2) (hW : 1 ≤ Wd) (hW2 : Wd ≤ 32) (hC : (St = 0 ∧ C = N) ∨ (0 < St ∧ C = (Wd - 1) / St + 1)) : wL_lawOf_873 post mc ms J x0 x2 (nI M) (nI A) (nI Bn) (nI St) (nI g) x10 (nI (la_cnt (fun k => decide (v < p k)) N)) (nI Wd) (nI C) kc ks dc (nI 3) (nI N) (nI S) nd 0 fi fr a1 a2 a3 a4 a5 a6 a7 a8 a9 a10 a11 a12 a13 a14 a15 a16 a17 a18 a19 a20 := by
  have hN := h.1
  have dv : (Wd - 1) / St ≤ Wd - 1 := Nat.div_le_self _ _
  unfold wL_lawOf_873
  rw [pk_sub (show g ≤ M by omega), show M - g = N by omega]
  rcases hC with ⟨s0, hC⟩ | ⟨s1, hC⟩
  · exact pk_le C N (fun z => la_895 (c := N + 1) hM1 hM hg hSt hd hl h HE h2 hW hW2 (Or.inl ⟨s0, rfl⟩) (by omega)) (fun z => absurd z (by omega))
  · exact pk_le C N (fun z => la_895 (c := C) hM1 hM hg hSt hd hl h HE h2 hW hW2 (Or.inr ⟨s1, hC⟩) (by omega)) (fun z => la_895 (c := C) hM1 hM hg hSt hd hl h HE h2 hW hW2 (Or.inr ⟨s1, hC⟩) (by omega))
theorem la_797 {post : Int32 → St0 → Prop} {mc ms : Nat} {J : Int32 → Int32 → (Int32) → (Int32) → (Int32) → (Int32) → (Int32) → (Int32) → (Int64) → (Int32) → (Nat → Int32) → (Nat → Int32) → (Nat → Int32) → (Nat → Int32) → (Nat → Int32) → (Nat → Int32) → (Nat → Int32) → (Nat → Int32) → (Nat → Int64) → (Nat → Int32) → (Nat → Int64) → (Nat → Int32) → (Nat → Int32) → (Nat → Int32) → (Nat → Int32) → (Nat → Int32) → (Nat → Int32) → (Nat → Int32) → (Nat → Int32) → (Nat → Int32) → Prop} {x0 x2 x10 : Int32} {M A Bn St g N S kc ks : Nat} {w p q t sh sw B : Nat → Nat} {dc nd : Int32} {fi : Int64} {fr : Int32} {a1 a2 a3 a4 a5 a6 a7 a8 : Nat → Int32} {a9 : Nat → Int64} {a10 : Nat → Int32} {a11 : Nat → Int64} {a12 a13 a14 a15 a16 a17 a18 a19 a20 : Nat → Int32} {v : Nat} (hM1 : 1 ≤ M) (hM : M ≤ 32) (hg : g + N = M) (hSt : St ≤ 7) (hd : la_dat A Bn w p q) (hl : la_lw x0 x2 A St g N w p t) (h : la_st N S w p q t sh sw B a3 a4 a5 a6 a7 a8 a9 a10 a11 a12 a13 a14 a15) (HE : ∀ pc ft fi fr a2 a17 a18, la_end post mc ms J x0 x2 M A Bn St g x10 kc ks dc pc (nI N) (nI S) nd ft fi fr a1 a2 a3 a4 a5 a6 a7 a8 a9 a10 a11 a12 a13 a14 a15 a16 a17 a18 a19 a20) (h2 : la_pt2 v a2) (hv : x0 &&& 255 = nI v) : ∀ m k, k + m = N → wL_lawOf_797 post mc ms J x0 x2 (nI M) (nI A) (nI Bn) (nI St) (nI g) x10 kc ks dc (nI 3) (nI N) (nI S) nd 0 fi fr a1 a2 a3 a4 a5 a6 a7 a8 a9 a10 a11 a12 a13 a14 a15 a16 a17 a18 a19 a20 (m + 1) (nI (la_cnt (fun k => decide (v < p k)) k)) (nI (g + k)) := by
  have hN := h.1
  intro m
  induction m with
  | zero =>
    intro k hk
    have kN : k = N := by omega
    subst kN
    obtain ⟨j, hj, ej⟩ := pk_andE (x2 >>> ((8 : Int32) &&& 31)) 5 (m := 31) (by decide)
    refine pk_le M (g + k) (fun _ => nm_r (e' := nI (1 + j)) (by rw [ej]; exact nI_add 1 j) (pk_eq St 0 (fun z => ?_) (fun z => ⟨nI_ne0 (by omega) (by omega), ?_⟩))) (fun z => absurd z (by omega))
    · rw [pk_sub (show g ≤ M by omega), show M - g = k by omega]
      exact la_873 hM1 hM hg hSt hd hl h HE h2 (by omega) (by omega) (Or.inl ⟨z, rfl⟩)
    · have dv : j / St ≤ j := Nat.div_le_self _ _
      rw [show nI (1 + j) - 1 = nI j from by rw [show (1 : Int32) = nI 1 from rfl, pk_sub (by omega), Nat.add_sub_cancel_left], pk_div (by omega) (by omega) (by omega), nI_1]
      exact la_873 hM1 hM hg hSt hd hl h HE h2 (by omega) (by omega) (Or.inr ⟨by omega, by rw [Nat.add_sub_cancel_left]⟩)
  | succ m ih =>
    intro k hk
    have I := ih (k + 1) (by omega)
    rw [show la_cnt (fun k => decide (v < p k)) (k + 1) = la_cnt (fun k => decide (v < p k)) k + (if decide (v < p k) = true then 1 else 0) from rfl] at I
    refine pk_le M (g + k) (fun z => absurd z (by omega)) (fun _ => ⟨by decide, ?_⟩)
    rw [(hl k (by omega)).2.1, hv]
    have pk := hd.2.2.2.2.1 k
    have hv2 := h2.1
    refine pk_le (p k) v (fun z => nm_r (nI_1 (g + k)) ?_) (fun z => nm_r (nI_1 _) (nm_r (nI_1 (g + k)) ?_))
    · rw [if_neg (by rw [decide_eq_false (by omega)]; decide)] at I
      exact I
    · rw [if_pos (decide_eq_true z)] at I
      exact I
theorem la_blank {post : Int32 → St2 → Prop} {dc pc ln ss nd ft : Int32} {fi : Int64} {fr : Int32} {a1 a2 a3 a4 a5 a6 a7 a8 : Nat → Int32} {a9 : Nat → Int64} {a10 : Nat → Int32} {a11 : Nat → Int64} {a12 a13 a14 a15 a16 a17 a18 a19 a20 : Nat → Int32} (H : post pc (dc, 0, ln, ss, nd, 0, fi, fr, a1, a2, a3, a4, a5, a6, a7, a8, a9, a10, a11, a12, a13, a14, a15, a16, a17, a18, a19, a20)) : wpX_blank post (dc, pc, ln, ss, nd, ft, fi, fr, a1, a2, a3, a4, a5, a6, a7, a8, a9, a10, a11, a12, a13, a14, a15, a16, a17, a18, a19, a20) := H
theorem la_746 {post : Int32 → St0 → Prop} {mc ms : Nat} {J : Int32 → Int32 → (Int32) → (Int32) → (Int32) → (Int32) → (Int32) → (Int32) → (Int64) → (Int32) → (Nat → Int32) → (Nat → Int32) → (Nat → Int32) → (Nat → Int32) → (Nat → Int32) → (Nat → Int32) → (Nat → Int32) → (Nat → Int32) → (Nat → Int64) → (Nat → Int32) → (Nat → Int64) → (Nat → Int32) → (Nat → Int32) → (Nat → Int32) → (Nat → Int32) → (Nat → Int32) → (Nat → Int32) → (Nat → Int32) → (Nat → Int32) → (Nat → Int32) → Prop} {x0 x2 x10 : Int32} {M A Bn St g N S kc ks : Nat} {w p q t sh sw B : Nat → Nat} {dc pc nd ft : Int32} {fi : Int64} {fr : Int32} {a1 a2 a3 a4 a5 a6 a7 a8 : Nat → Int32} {a9 : Nat → Int64} {a10 : Nat → Int32} {a11 : Nat → Int64} {a12 a13 a14 a15 a16 a17 a18 a19 a20 : Nat → Int32} {z : Int32} (hM1 : 1 ≤ M) (hM : M ≤ 32) (hg : g + N = M) (hSt : St ≤ 7) (hd : la_dat A Bn w p q) (hl : la_lw x0 x2 A St g N w p t) (h : la_st N S w p q t sh sw B a3 a4 a5 a6 a7 a8 a9 a10 a11 a12 a13 a14 a15) (HE : ∀ pc ft fi fr a2 a17 a18, la_end post mc ms J x0 x2 M A Bn St g x10 kc ks dc pc (nI N) (nI S) nd ft fi fr a1 a2 a3 a4 a5 a6 a7 a8 a9 a10 a11 a12 a13 a14 a15 a16 a17 a18 a19 a20) : wL_lawOf_746 post mc ms J x0 x2 (nI M) (nI A) (nI Bn) (nI St) (nI g) x10 z z kc ks dc pc (nI N) (nI S) nd ft fi fr a1 a2 a3 a4 a5 a6 a7 a8 a9 a10 a11 a12 a13 a14 a15 a16 a17 a18 a19 a20 := by
  obtain ⟨v, hv, ev⟩ := pk_andE x0 8 (m := 255) (by decide)
  unfold wL_lawOf_746
  refine br_t rfl (la_blank (la_part (d := 0) (x := 2000) (by omega) (by omega) ?_))
  rw [show (3000 : Int32) + (x0 &&& 255) = nI (3000 + v) from by rw [ev]; exact nI_add 3000 v]
  refine la_part (d := 1) (x := 3000 + v) (by omega) (by omega) (la_part (d := 2) (x := 2001) (by omega) (by omega) ⟨N + 1, ?_⟩)
  exact la_797 hM1 hM hg hSt hd hl h HE (v := v) ⟨hv, by rw [pk_un (by omega), pk_un (by omega), pk_us]; rfl, by rw [pk_un (by omega), pk_us], by rw [pk_us]; rfl⟩ ev N 0 (by omega)
theorem la_728 {post : Int32 → St0 → Prop} {mc ms : Nat} {J : Int32 → Int32 → (Int32) → (Int32) → (Int32) → (Int32) → (Int32) → (Int32) → (Int64) → (Int32) → (Nat → Int32) → (Nat → Int32) → (Nat → Int32) → (Nat → Int32) → (Nat → Int32) → (Nat → Int32) → (Nat → Int32) → (Nat → Int32) → (Nat → Int64) → (Nat → Int32) → (Nat → Int64) → (Nat → Int32) → (Nat → Int32) → (Nat → Int32) → (Nat → Int32) → (Nat → Int32) → (Nat → Int32) → (Nat → Int32) → (Nat → Int32) → (Nat → Int32) → Prop} {x0 x2 x10 : Int32} {M A Bn St g N S kc ks : Nat} {w p q t sh sw B : Nat → Nat} {dc pc nd : Int32} {fi : Int64} {fr : Int32} {a1 a2 a3 a4 a5 a6 a7 a8 : Nat → Int32} {a9 : Nat → Int64} {a10 : Nat → Int32} {a11 : Nat → Int64} {a12 a13 a14 a15 a16 a17 a18 a19 a20 : Nat → Int32} {z : Int32} (hM1 : 1 ≤ M) (hM : M ≤ 32) (hg : g + N = M) (hSt : St ≤ 7) (hd : la_dat A Bn w p q) (hl : la_lw x0 x2 A St g N w p t) (h : la_st N S w p q t sh sw B a3 a4 a5 a6 a7 a8 a9 a10 a11 a12 a13 a14 a15) (HE : ∀ pc ft fi fr a2 a17 a18, la_end post mc ms J x0 x2 M A Bn St g x10 kc ks dc pc (nI N) (nI S) nd ft fi fr a1 a2 a3 a4 a5 a6 a7 a8 a9 a10 a11 a12 a13 a14 a15 a16 a17 a18 a19 a20) (hf : la_has fi (fun j => decide (j < N) && la_of w A j)) : wL_lawOf_728 post mc ms J x0 x2 (nI M) (nI A) (nI Bn) (nI St) (nI g) x10 (nI (la_cnt (la_of w A) N)) z z kc ks dc pc (nI N) (nI S) nd 1 fi fr a1 a2 a3 a4 a5 a6 a7 a8 a9 a10 a11 a12 a13 a14 a15 a16 a17 a18 a19 a20 := by
  have hsp := la_st_shp h
  have hst := h
  obtain ⟨hN, hS, hc0, hi, h0⟩ := h
  have cl := la_cnt_le (la_of w A) N
  unfold wL_lawOf_728
  refine br_t rfl (la_fittingGroups hN hS hc0 hi hf ?_)
  rw [la_fgN hsp hd]
  refine pk_le (la_cnt (la_of w A) N) 0 (fun y => ?_) (fun y => ?_)
  · rw [if_neg (by omega)]
    exact la_746 hM1 hM hg hSt hd hl hst HE
  · rw [if_pos (by omega)]
    exact la_746 hM1 hM hg hSt hd hl hst HE
theorem la_671 {post : Int32 → St0 → Prop} {mc ms : Nat} {J : Int32 → Int32 → (Int32) → (Int32) → (Int32) → (Int32) → (Int32) → (Int32) → (Int64) → (Int32) → (Nat → Int32) → (Nat → Int32) → (Nat → Int32) → (Nat → Int32) → (Nat → Int32) → (Nat → Int32) → (Nat → Int32) → (Nat → Int32) → (Nat → Int64) → (Nat → Int32) → (Nat → Int64) → (Nat → Int32) → (Nat → Int32) → (Nat → Int32) → (Nat → Int32) → (Nat → Int32) → (Nat → Int32) → (Nat → Int32) → (Nat → Int32) → (Nat → Int32) → Prop} {x0 x2 x10 : Int32} {M A Bn St g N S kc ks : Nat} {w p q t sh sw B : Nat → Nat} {dc pc nd ft : Int32} {fi : Int64} {fr : Int32} {a1 a2 a3 a4 a5 a6 a7 a8 : Nat → Int32} {a9 : Nat → Int64} {a10 : Nat → Int32} {a11 : Nat → Int64} {a12 a13 a14 a15 a16 a17 a18 a19 a20 : Nat → Int32} (hM1 : 1 ≤ M) (hM : M ≤ 32) (hg : g + N = M) (hSt : St ≤ 7) (hd : la_dat A Bn w p q) (hl : la_lw x0 x2 A St g N w p t) (h : la_st N S w p q t sh sw B a3 a4 a5 a6 a7 a8 a9 a10 a11 a12 a13 a14 a15) (HE : ∀ pc ft fi fr a2 a17 a18, la_end post mc ms J x0 x2 M A Bn St g x10 kc ks dc pc (nI N) (nI S) nd ft fi fr a1 a2 a3 a4 a5 a6 a7 a8 a9 a10 a11 a12 a13 a14 a15 a16 a17 a18 a19 a20) : wL_lawOf_671 post mc ms J x0 x2 (nI M) (nI A) (nI Bn) (nI St) (nI g) x10 (la_ff (la_of w A) N) (nI (la_cnt (la_of w A) N)) kc ks dc pc (nI N) (nI S) nd ft fi fr a1 a2 a3 a4 a5 a6 a7 a8 a9 a10 a11 a12 a13 a14 a15 a16 a17 a18 a19 a20 := by
  have hst := h
  obtain ⟨hN, hS, hc0, hi, h0⟩ := h
  have c3 := hc0.1
  have cl := la_cnt_le (la_of w A) N
  have tb := fun k hk => la_tb hM hg hSt hl (k := k) hk
  unfold wL_lawOf_671
  refine la_blank (la_part (d := 0) (x := A) (by omega) (Or.inl hd.1) (la_part (d := 1) (x := 2002) (by omega) (by omega) ?_))
  have P1 : la_pt1 A (upd (upd a2 0 (nI A)) 1 (nI 2002)) := ⟨hd.1, by rw [pk_un (by omega), pk_us], by rw [pk_us]; rfl⟩
  refine la_fitting (T := 2000) (X := -5) (g := la_of w A) hN (fun k hk => ?_) (by omega) (by omega) (fun po hp => la_fit1 hN hS hc0 P1 (fun fi hf => hp fi fr a17 hf)) (fun fi fr a17 hf => br_t rfl ?_)
  · rw [c3 k hk]
    have := tb k hk
    rw [Int32.le_iff_toInt_le, nI_toInt (by omega)]
    have e : (-5 : Int32).toInt = -5 := by decide
    omega
  · rcases la_ff_spec (la_of w A) N (by omega) with ⟨f1, f2⟩ | ⟨f, f1, f2, f3, f4⟩
    · have c0 : la_cnt (la_of w A) N = 0 := by
        rcases Nat.eq_zero_or_pos (la_cnt (la_of w A) N) with z | z
        · exact z
        · obtain ⟨k, hk, ek⟩ := la_cnt_pos.mp z
          rw [f1 k hk] at ek
          exact absurd ek (by decide)
      refine la_next0 hN hf f1 (pk_le (la_cnt (la_of w A) N) 0 (fun _ => ?_) (fun y => absurd y (by omega)))
      exact la_728 hM1 hM hg hSt hd hl hst HE hf
    · have c0 : 0 < la_cnt (la_of w A) N := la_cnt_pos.mpr ⟨f, f1, f2⟩
      rw [f4]
      refine la_next1 hN hf f1 f2 f3 (pk_le (la_cnt (la_of w A) N) 0 (fun y => absurd y (by omega)) (fun _ => ?_))
      exact la_728 hM1 hM hg hSt hd hl hst HE hf
end
section
/-! ===== 12: the law: the checks of a round, the counting loops ===== -/
theorem la_630 {post : Int32 → St0 → Prop} {mc ms : Nat} {J : Int32 → Int32 → (Int32) → (Int32) → (Int32) → (Int32) → (Int32) → (Int32) → (Int64) → (Int32) → (Nat → Int32) → (Nat → Int32) → (Nat → Int32) → (Nat → Int32) → (Nat → Int32) → (Nat → Int32) → (Nat → Int32) → (Nat → Int32) → (Nat → Int64) → (Nat → Int32) → (Nat → Int64) → (Nat → Int32) → (Nat → Int32) → (Nat → Int32) → (Nat → Int32) → (Nat → Int32) → (Nat → Int32) → (Nat → Int32) → (Nat → Int32) → (Nat → Int32) → Prop} {x0 x2 x10 : Int32} {M A Bn St g N S kc ks : Nat} {w p q t sh sw B : Nat → Nat} {dc pc nd ft : Int32} {fi : Int64} {fr : Int32} {a1 a2 a3 a4 a5 a6 a7 a8 : Nat → Int32} {a9 : Nat → Int64} {a10 : Nat → Int32} {a11 : Nat → Int64} {a12 a13 a14 a15 a16 a17 a18 a19 a20 : Nat → Int32} {l0 l1 : Nat} {z : Int32} (hM1 : 1 ≤ M) (hM : M ≤ 32) (hg : g + N = M) (hSt : St ≤ 7) (hd : la_dat A Bn w p q) (hl : la_lw x0 x2 A St g N w p t) (h : la_st N S w p q t sh sw B a3 a4 a5 a6 a7 a8 a9 a10 a11 a12 a13 a14 a15) (HE : ∀ pc ft fi fr a2 a17 a18, la_end post mc ms J x0 x2 M A Bn St g x10 kc ks dc pc (nI N) (nI S) nd ft fi fr a1 a2 a3 a4 a5 a6 a7 a8 a9 a10 a11 a12 a13 a14 a15 a16 a17 a18 a19 a20) (i0 : l0 < N) (i1 : l1 < N) (hm : la_cnt (la_of sh (sh l1)) N ≤ la_cnt (la_of sh (sh l0)) N) (L0 : ∀ po : Int32 → Prop, po (nI l0) → wpX_largest po (dc, pc, nI N, nI S, nd, ft, fi, fr, a1, a2, a3, a4, a5, a6, a7, a8, a9, a10, a11, a12, a13, a14, a15, a16, a17, a18, a19, a20) (nI 0)) (L1 : ∀ po : Int32 → Prop, po (nI l1) → wpX_largest po (dc, pc, nI N, nI S, nd, ft, fi, fr, a1, a2, a3, a4, a5, a6, a7, a8, a9, a10, a11, a12, a13, a14, a15, a16, a17, a18, a19, a20) (nI 1)) (L2 : ∀ po : Int32 → Prop, po (-2) → wpX_largest po (dc, pc, nI N, nI S, nd, ft, fi, fr, a1, a2, a3, a4, a5, a6, a7, a8, a9, a10, a11, a12, a13, a14, a15, a16, a17, a18, a19, a20) (nI 2)) : wL_lawOf_630 post mc ms J x0 x2 (nI M) (nI A) (nI Bn) (nI St) (nI g) x10 (la_ff (la_of w A) N) (nI (la_cnt (la_of w A) N)) z z kc ks dc pc (nI N) (nI S) nd ft fi fr a1 a2 a3 a4 a5 a6 a7 a8 a9 a10 a11 a12 a13 a14 a15 a16 a17 a18 a19 a20 := by
  have hst := h
  obtain ⟨hN, hS, hc0, hi, h0⟩ := h
  have b0 := la_cnt_le (la_of sh (sh l0)) N
  unfold wL_lawOf_630
  refine br_t rfl (L0 _ (la_members hN hS hc0 i0 (L1 _ (la_members hN hS hc0 i1 (br_f (nI_nlt hm (by omega)) (L2 _ (br_t rfl ?_)))))))
  exact la_671 hM1 hM hg hSt hd hl hst HE
theorem la_579 {post : Int32 → St0 → Prop} {mc ms : Nat} {J : Int32 → Int32 → (Int32) → (Int32) → (Int32) → (Int32) → (Int32) → (Int32) → (Int64) → (Int32) → (Nat → Int32) → (Nat → Int32) → (Nat → Int32) → (Nat → Int32) → (Nat → Int32) → (Nat → Int32) → (Nat → Int32) → (Nat → Int32) → (Nat → Int64) → (Nat → Int32) → (Nat → Int64) → (Nat → Int32) → (Nat → Int32) → (Nat → Int32) → (Nat → Int32) → (Nat → Int32) → (Nat → Int32) → (Nat → Int32) → (Nat → Int32) → (Nat → Int32) → Prop} {x0 x2 x10 : Int32} {M A Bn St g N S kc ks : Nat} {w p q t sh sw B : Nat → Nat} {dc pc nd ft : Int32} {fi : Int64} {fr : Int32} {a1 a2 a3 a4 a5 a6 a7 a8 : Nat → Int32} {a9 : Nat → Int64} {a10 : Nat → Int32} {a11 : Nat → Int64} {a12 a13 a14 a15 a16 a17 a18 a19 a20 : Nat → Int32} (hM1 : 1 ≤ M) (hM : M ≤ 32) (hg : g + N = M) (hSt : St ≤ 7) (hd : la_dat A Bn w p q) (hl : la_lw x0 x2 A St g N w p t) (h : la_st N S w p q t sh sw B a3 a4 a5 a6 a7 a8 a9 a10 a11 a12 a13 a14 a15) (HE : ∀ pc ft fi fr a2 a17 a18, la_end post mc ms J x0 x2 M A Bn St g x10 kc ks dc pc (nI N) (nI S) nd ft fi fr a1 a2 a3 a4 a5 a6 a7 a8 a9 a10 a11 a12 a13 a14 a15 a16 a17 a18 a19 a20) : wL_lawOf_579 post mc ms J x0 x2 (nI M) (nI A) (nI Bn) (nI St) (nI g) x10 (la_ff (la_of w A) N) (nI (la_cnt (la_of w A) N)) (nI (la_cnt (la_of w Bn) N)) (nI S) kc ks dc pc (nI N) (nI S) nd ft fi fr a1 a2 a3 a4 a5 a6 a7 a8 a9 a10 a11 a12 a13 a14 a15 a16 a17 a18 a19 a20 := by
  have hst := h
  have hsp := la_st_shp h
  have gr := la_groupsN hsp hd
  have ca := la_cnt_le (la_of w A) N
  have cb := la_cnt_le (la_of w Bn) N
  obtain ⟨hN, hS, hc0, hi, h0⟩ := h
  unfold wL_lawOf_579
  refine pk_eq S 2 (fun y => ?_) (fun _ => la_671 hM1 hM hg hSt hd hl hst HE)
  subst y
  have pa : 0 < la_cnt (la_of w A) N := by
    rcases Nat.eq_zero_or_pos (la_cnt (la_of w A) N) with z | z
    · rw [if_neg (by omega)] at gr
      split at gr <;> omega
    · exact z
  rcases la_ff_spec (la_of w A) N (by omega) with ⟨f1, f2⟩ | ⟨f, f1, f2, f3, f4⟩
  · obtain ⟨k, hk, ek⟩ := la_cnt_pos.mp pa
    rw [f1 k hk] at ek
    exact absurd ek (by decide)
  · obtain ⟨g1, F0, F1, gp, hcase⟩ := la_large hsp hd f1 (la_of_true.mp f2) (fun j hj => la_of_false.mp (f3 j hj))
    have e0 : la_of sh (sh 0) = la_of sh 0 := by rw [F0.2.1]
    have e1 : la_of sh (sh g1) = la_of sh 1 := by rw [F1.2.1]
    generalize hc00 : la_cnt (la_of sh 0) N = c0 at hcase
    generalize hc11 : la_cnt (la_of sh 1) N = c1 at hcase
    obtain ⟨l0, l1, i0, i1, hm, q0, q1, q2, q3⟩ : ∃ l0 l1 : Nat, l0 < N ∧ l1 < N ∧ la_cnt (la_of sh (sh l1)) N ≤ la_cnt (la_of sh (sh l0)) N ∧ (nI l0 = if c1 ≤ c0 then nI 0 else nI g1) ∧ (nI l1 = if c1 ≤ c0 then nI g1 else nI 0) ∧ (c0 < c1 → l0 = g1) ∧ (c1 ≤ c0 → l0 = 0) := by
      by_cases cc : c1 ≤ c0
      · exact ⟨0, g1, F0.1, F1.1, by rw [e0, e1, hc00, hc11]; exact cc, by rw [if_pos cc], by rw [if_pos cc], fun y => absurd y (by omega), fun _ => rfl⟩
      · exact ⟨g1, 0, F1.1, F0.1, by rw [e0, e1, hc00, hc11]; omega, by rw [if_neg cc], by rw [if_neg cc], fun _ => rfl, fun y => absurd y cc⟩
    have L0 : ∀ po : Int32 → Prop, po (nI l0) → wpX_largest po (dc, pc, nI N, nI 2, nd, ft, fi, fr, a1, a2, a3, a4, a5, a6, a7, a8, a9, a10, a11, a12, a13, a14, a15, a16, a17, a18, a19, a20) (nI 0) := fun po hp => la_largest (k := 0) hN hc0 (by omega) F0 F1 hc00.symm hc11.symm (by rw [if_pos rfl]; exact q0) hp
    have L1 : ∀ po : Int32 → Prop, po (nI l1) → wpX_largest po (dc, pc, nI N, nI 2, nd, ft, fi, fr, a1, a2, a3, a4, a5, a6, a7, a8, a9, a10, a11, a12, a13, a14, a15, a16, a17, a18, a19, a20) (nI 1) := fun po hp => la_largest (k := 1) hN hc0 (by omega) F0 F1 hc00.symm hc11.symm (by rw [if_neg (by omega), if_pos rfl]; exact q1) hp
    have L2 : ∀ po : Int32 → Prop, po (-2) → wpX_largest po (dc, pc, nI N, nI 2, nd, ft, fi, fr, a1, a2, a3, a4, a5, a6, a7, a8, a9, a10, a11, a12, a13, a14, a15, a16, a17, a18, a19, a20) (nI 2) := fun po hp => la_largest (k := 2) hN hc0 (by omega) F0 F1 hc00.symm hc11.symm (by rw [if_neg (by omega), if_neg (by omega)]) hp
    have E : ∀ z : Int32, wL_lawOf_630 post mc ms J x0 x2 (nI M) (nI A) (nI Bn) (nI St) (nI g) x10 (la_ff (la_of w A) N) (nI (la_cnt (la_of w A) N)) z z kc ks dc pc (nI N) (nI 2) nd ft fi fr a1 a2 a3 a4 a5 a6 a7 a8 a9 a10 a11 a12 a13 a14 a15 a16 a17 a18 a19 a20 := fun z => la_630 hM1 hM hg hSt hd hl hst HE i0 i1 hm L0 L1 L2
    have W610 : f = l0 → wL_lawOf_610 post mc ms J x0 x2 (nI M) (nI A) (nI Bn) (nI St) (nI g) x10 (la_ff (la_of w A) N) (nI (la_cnt (la_of w A) N)) (nI l0) kc ks dc pc (nI N) (nI 2) nd ft fi fr a1 a2 a3 a4 a5 a6 a7 a8 a9 a10 a11 a12 a13 a14 a15 a16 a17 a18 a19 a20 := fun y => by
      unfold wL_lawOf_610
      rw [show nI l0 = la_ff (la_of w A) N by rw [f4, y]]
      exact E _
    have W615 : (¬ f = 0 → l0 = 0) → wL_lawOf_615 post mc ms J x0 x2 (nI M) (nI A) (nI Bn) (nI St) (nI g) x10 (la_ff (la_of w A) N) (nI (la_cnt (la_of w A) N)) (nI l0) kc ks dc pc (nI N) (nI 2) nd ft fi fr a1 a2 a3 a4 a5 a6 a7 a8 a9 a10 a11 a12 a13 a14 a15 a16 a17 a18 a19 a20 := fun y => by
      unfold wL_lawOf_615
      refine br_c (fun _ => L0 _ (E _)) (fun u => ?_)
      have v : l0 = 0 := y (fun u' => u (by rw [f4, u']; rfl))
      rw [v]
      exact E 0
    refine L0 _ (pk_lt (la_cnt (la_of w Bn) N) (la_cnt (la_of w A) N) (fun y => W610 ?_) (fun y => pk_eq (la_cnt (la_of w A) N) (la_cnt (la_of w Bn) N) (fun u => br_c (fun v => W610 ?_) (fun v => W615 (fun _ => ?_))) (fun u => W615 (fun v => ?_))))
    · rcases hcase with ⟨a1, a2, a3⟩ | ⟨a1, a2, a3⟩
      · rw [a1, q3 (by omega)]
      · rw [a1, q2 (by omega)]
    · have v' : f = 0 := by
        rw [f4] at v
        exact (nI_eq (b := 0) (by omega) (by omega)).mp v
      rcases hcase with ⟨a1, a2, a3⟩ | ⟨a1, a2, a3⟩
      · rw [a1, q3 (by omega)]
      · omega
    · rcases hcase with ⟨a1, a2, a3⟩ | ⟨a1, a2, a3⟩
      · exact q3 (by omega)
      · exact q3 (by omega)
    · rcases hcase with ⟨a1, a2, a3⟩ | ⟨a1, a2, a3⟩
      · exact absurd a1 v
      · exact q3 (by omega)
theorem la_lines {post : Int32 → Prop} {dc pc ln ss nd ft : Int32} {fi : Int64} {fr : Int32} {a1 a2 a3 a4 a5 a6 a7 a8 : Nat → Int32} {a9 : Nat → Int64} {a10 : Nat → Int32} {a11 : Nat → Int64} {a12 a13 a14 a15 a16 a17 a18 a19 a20 : Nat → Int32} (H : post ln) : wpX_lines post (dc, pc, ln, ss, nd, ft, fi, fr, a1, a2, a3, a4, a5, a6, a7, a8, a9, a10, a11, a12, a13, a14, a15, a16, a17, a18, a19, a20) := H
theorem la_groupsW {post : Int32 → Prop} {dc pc ln ss nd ft : Int32} {fi : Int64} {fr : Int32} {a1 a2 a3 a4 a5 a6 a7 a8 : Nat → Int32} {a9 : Nat → Int64} {a10 : Nat → Int32} {a11 : Nat → Int64} {a12 a13 a14 a15 a16 a17 a18 a19 a20 : Nat → Int32} (H : post ss) : wpX_groups post (dc, pc, ln, ss, nd, ft, fi, fr, a1, a2, a3, a4, a5, a6, a7, a8, a9, a10, a11, a12, a13, a14, a15, a16, a17, a18, a19, a20) := H
theorem la_412 {post : Int32 → St0 → Prop} {mc ms : Nat} {J : Int32 → Int32 → (Int32) → (Int32) → (Int32) → (Int32) → (Int32) → (Int32) → (Int64) → (Int32) → (Nat → Int32) → (Nat → Int32) → (Nat → Int32) → (Nat → Int32) → (Nat → Int32) → (Nat → Int32) → (Nat → Int32) → (Nat → Int32) → (Nat → Int64) → (Nat → Int32) → (Nat → Int64) → (Nat → Int32) → (Nat → Int32) → (Nat → Int32) → (Nat → Int32) → (Nat → Int32) → (Nat → Int32) → (Nat → Int32) → (Nat → Int32) → (Nat → Int32) → Prop} {x0 x2 x10 : Int32} {M A Bn St g N S kc ks : Nat} {w p q t sh sw B : Nat → Nat} {dc pc nd ft : Int32} {fi : Int64} {fr : Int32} {a1 a2 a3 a4 a5 a6 a7 a8 : Nat → Int32} {a9 : Nat → Int64} {a10 : Nat → Int32} {a11 : Nat → Int64} {a12 a13 a14 a15 a16 a17 a18 a19 a20 : Nat → Int32} {d0 d1 : Nat} (hM1 : 1 ≤ M) (hM : M ≤ 32) (hg : g + N = M) (hSt : St ≤ 7) (hd : la_dat A Bn w p q) (hl : la_lw x0 x2 A St g N w p t) (h : la_st N S w p q t sh sw B a3 a4 a5 a6 a7 a8 a9 a10 a11 a12 a13 a14 a15) (HE : ∀ pc ft fi fr a2 a17 a18, la_end post mc ms J x0 x2 M A Bn St g x10 kc ks dc pc (nI N) (nI S) nd ft fi fr a1 a2 a3 a4 a5 a6 a7 a8 a9 a10 a11 a12 a13 a14 a15 a16 a17 a18 a19 a20) (hz : S = d1 + d0) : wL_lawOf_412 post mc ms J x0 x2 (nI M) (nI A) (nI Bn) (nI St) (nI g) x10 (la_ff (la_of w A) N) (nI (la_cnt (la_of w A) N)) (la_lo (la_of w A) p N) (la_hi (la_of w A) p N) (la_sum (la_of w A) p N) (nI (la_cnt (la_of w Bn) N)) (nI (la_dif (la_of w A) p N)) (nI d0) (nI d1) kc ks dc pc (nI N) (nI S) nd ft fi fr a1 a2 a3 a4 a5 a6 a7 a8 a9 a10 a11 a12 a13 a14 a15 a16 a17 a18 a19 a20 := by
  have hst := h
  have hsp := la_st_shp h
  have ca := la_cnt_le (la_of w A) N
  obtain ⟨hN, hS, hc0, hi, h0⟩ := h
  have c11 := hc0.2.2.2.2.2.2.2.1
  unfold wL_lawOf_412
  refine nm_r (e' := nI S) (by rw [nI_add, hz]) (la_lines (br_t (by rw [pk_sub (show g ≤ M by omega), show M - g = N by omega]) (la_groupsW (br_t rfl (la_having hd.1 (c11 A hd.1) ?_)))))
  rw [la_cntN (by omega)]
  refine br_t rfl (la_having hd.2.1 (c11 Bn hd.2.1) ?_)
  rw [la_cntN (by omega)]
  refine br_t rfl (pk_le (la_cnt (la_of w A) N) 0 (fun _ => la_579 hM1 hM hg hSt hd hl hst HE) (fun y => ?_))
  rcases la_ff_spec (la_of w A) N (by omega) with ⟨f1, f2⟩ | ⟨f, f1, f2, f3, f4⟩
  · obtain ⟨k, hk, ek⟩ := la_cnt_pos.mp y
    rw [f1 k hk] at ek
    exact absurd ek (by decide)
  · have so := la_shape_of hsp f1 (la_of_true.mp f2)
    have E : ∀ pc ft fi fr a2 a17 a18, wL_lawOf_579 post mc ms J x0 x2 (nI M) (nI A) (nI Bn) (nI St) (nI g) x10 (la_ff (la_of w A) N) (nI (la_cnt (la_of w A) N)) (nI (la_cnt (la_of w Bn) N)) (nI S) kc ks dc pc (nI N) (nI S) nd ft fi fr a1 a2 a3 a4 a5 a6 a7 a8 a9 a10 a11 a12 a13 a14 a15 a16 a17 a18 a19 a20 := fun pc ft fi fr a2 a17 a18 => la_579 hM1 hM hg hSt hd hl hst HE
    rw [f4] at E ⊢
    refine la_group hN hS hc0 f1 ⟨f1, rfl, fun j hj z => ?_⟩ (br_t rfl (la_members hN hS hc0 f1 (br_t (by rw [la_cnt_congr so]) ?_)))
    · have u := so j (by omega)
      rw [la_of_true.mpr z, f3 j hj] at u
      exact absurd u (by decide)
    refine la_colT (x3 := 0) hN hS hc0 f1 (by omega) (if_pos rfl).symm (fun fr1 b1 => br_t (la_lo_congr so) ?_)
    refine la_colT (x3 := 1) hN hS hc0 f1 (by omega) (by rw [if_neg (by decide), if_pos (by decide)]) (fun fr2 b2 => br_t (la_hi_congr so) ?_)
    refine la_colT (x3 := 2) hN hS hc0 f1 (by omega) (by rw [if_neg (by decide), if_neg (by decide)]) (fun fr3 b3 => br_t (la_sum_congr so) ?_)
    refine la_colD hN hS hc0 hd.2.2.2.2.1 f1 (fun fr4 b4 b5 => br_t (by rw [la_dif_congr so]) ?_)
    exact la_col0 hN hS hc0 f1 (br_t rfl (la_col3 hN hS hc0 f1 (br_t rfl (E _ _ _ _ _ _ _))))
theorem la_402 {post : Int32 → St0 → Prop} {mc ms : Nat} {J : Int32 → Int32 → (Int32) → (Int32) → (Int32) → (Int32) → (Int32) → (Int32) → (Int64) → (Int32) → (Nat → Int32) → (Nat → Int32) → (Nat → Int32) → (Nat → Int32) → (Nat → Int32) → (Nat → Int32) → (Nat → Int32) → (Nat → Int32) → (Nat → Int64) → (Nat → Int32) → (Nat → Int64) → (Nat → Int32) → (Nat → Int32) → (Nat → Int32) → (Nat → Int32) → (Nat → Int32) → (Nat → Int32) → (Nat → Int32) → (Nat → Int32) → (Nat → Int32) → Prop} {x0 x2 x10 : Int32} {M A Bn St g N S kc ks : Nat} {w p q t sh sw B : Nat → Nat} {dc pc nd ft : Int32} {fi : Int64} {fr : Int32} {a1 a2 a3 a4 a5 a6 a7 a8 : Nat → Int32} {a9 : Nat → Int64} {a10 : Nat → Int32} {a11 : Nat → Int64} {a12 a13 a14 a15 a16 a17 a18 a19 a20 : Nat → Int32} {d1 : Nat} (hM1 : 1 ≤ M) (hM : M ≤ 32) (hg : g + N = M) (hSt : St ≤ 7) (hd : la_dat A Bn w p q) (hl : la_lw x0 x2 A St g N w p t) (h : la_st N S w p q t sh sw B a3 a4 a5 a6 a7 a8 a9 a10 a11 a12 a13 a14 a15) (HE : ∀ pc ft fi fr a2 a17 a18, la_end post mc ms J x0 x2 M A Bn St g x10 kc ks dc pc (nI N) (nI S) nd ft fi fr a1 a2 a3 a4 a5 a6 a7 a8 a9 a10 a11 a12 a13 a14 a15 a16 a17 a18 a19 a20) (hz : d1 = if 0 < la_cnt (la_of w A) N then 1 else 0) : wL_lawOf_402 post mc ms J x0 x2 (nI M) (nI A) (nI Bn) (nI St) (nI g) x10 (la_ff (la_of w A) N) (nI (la_cnt (la_of w A) N)) (la_lo (la_of w A) p N) (la_hi (la_of w A) p N) (la_sum (la_of w A) p N) (nI (la_cnt (la_of w Bn) N)) (nI (la_dif (la_of w A) p N)) (nI d1) kc ks dc pc (nI N) (nI S) nd ft fi fr a1 a2 a3 a4 a5 a6 a7 a8 a9 a10 a11 a12 a13 a14 a15 a16 a17 a18 a19 a20 := by
  have gr := la_groupsN (la_st_shp h) hd
  have cb := la_cnt_le (la_of w Bn) N
  have hN := h.1
  unfold wL_lawOf_402
  refine pk_le (la_cnt (la_of w Bn) N) 0 (fun y => ?_) (fun y => ?_)
  · rw [← hz, if_neg (by omega)] at gr
    exact la_412 (d0 := 0) hM1 hM hg hSt hd hl h HE gr
  · rw [← hz, if_pos (by omega)] at gr
    exact la_412 (d0 := 1) hM1 hM hg hSt hd hl h HE gr
end
section
/-! ===== 13: the law: the counting loop, the rounds ===== -/
theorem la_320 {post : Int32 → St0 → Prop} {mc ms : Nat} {J : Int32 → Int32 → (Int32) → (Int32) → (Int32) → (Int32) → (Int32) → (Int32) → (Int64) → (Int32) → (Nat → Int32) → (Nat → Int32) → (Nat → Int32) → (Nat → Int32) → (Nat → Int32) → (Nat → Int32) → (Nat → Int32) → (Nat → Int32) → (Nat → Int64) → (Nat → Int32) → (Nat → Int64) → (Nat → Int32) → (Nat → Int32) → (Nat → Int32) → (Nat → Int32) → (Nat → Int32) → (Nat → Int32) → (Nat → Int32) → (Nat → Int32) → (Nat → Int32) → Prop} {J2 : Int32 → Int32 → Int32 → Int32 → Int32 → Int32 → Int32 → Int32 → Prop} {x0 x2 x10 x11 x12 x13 x14 x15 x16 : Int32} {M A Bn St g N kc ks k d : Nat} {w p t : Nat → Nat} {dc pc ln ss nd ft : Int32} {fi : Int64} {fr : Int32} {a1 a2 a3 a4 a5 a6 a7 a8 : Nat → Int32} {a9 : Nat → Int64} {a10 : Nat → Int32} {a11 : Nat → Int64} {a12 a13 a14 a15 a16 a17 a18 a19 a20 : Nat → Int32} (hg : g + N ≤ 32) (hl : la_lw x0 x2 A St g N w p t) (hp : ∀ k, p k < 512) (hk : k < N) (K : J2 x11 x12 x13 x14 x15 x16 (nI (if la_new (la_of w A) p (p k) k = true then d + 1 else d)) (nI (g + (k + 1)))) : ∀ m j, j + m = k → wL_lawOf_320 post mc ms J J2 x0 x2 (nI M) (nI A) (nI Bn) (nI St) (nI g) x10 x11 x12 x13 x14 x15 x16 (nI d) (nI (g + k)) (nI (p k)) kc ks dc pc ln ss nd ft fi fr a1 a2 a3 a4 a5 a6 a7 a8 a9 a10 a11 a12 a13 a14 a15 a16 a17 a18 a19 a20 (m + 1) (nI (if la_new (la_of w A) p (p k) j = true then 1 else 0)) (nI (g + j)) := by
  intro m
  induction m with
  | zero =>
    intro j hj
    have e : j = k := by omega
    subst e
    refine pk_le (g + j) (g + j) (fun _ => ?_) (fun z => absurd z (by omega))
    by_cases hn : la_new (la_of w A) p (p j) j = true
    · rw [if_pos hn] at K ⊢
      exact br_f (by decide) (nm_r (nI_1 d) (nm_r (nI_1 (g + j)) K))
    · rw [if_neg hn] at K ⊢
      exact br_t rfl (nm_r (nI_1 (g + j)) K)
  | succ m ih =>
    intro j hj
    have I := ih (j + 1) (by omega)
    rw [show la_new (la_of w A) p (p k) (j + 1) = (la_new (la_of w A) p (p k) j && !(la_of w A j && decide (p j = p k))) from rfl] at I
    refine pk_le (g + k) (g + j) (fun z => absurd z (by omega)) (fun _ => ?_)
    by_cases hn : la_new (la_of w A) p (p k) j = true
    · rw [if_pos hn]
      rw [hn, Bool.true_and] at I
      refine br_f (by decide) (ek_if (hl j (by omega)).1 (fun z => ⟨by decide, ?_⟩) (fun z => nm_r (nI_1 (g + j)) ?_))
      · rw [(hl j (by omega)).2.1]
        rw [la_of_true.mpr z, Bool.true_and] at I
        have u := hp j
        have v := hp k
        refine pk_eq (p j) (p k) (fun y => nm_r (nI_1 (g + j)) ?_) (fun y => nm_r (nI_1 (g + j)) ?_)
        · rw [decide_eq_true y] at I
          exact I
        · rw [decide_eq_false y] at I
          exact I
      · rw [la_of_false.mpr z, Bool.false_and] at I
        exact I
    · rw [if_neg hn]
      rw [Bool.eq_false_iff.mpr hn, Bool.false_and] at I
      exact br_t rfl (nm_r (nI_1 (g + j)) I)
theorem la_256 {post : Int32 → St0 → Prop} {mc ms : Nat} {J : Int32 → Int32 → (Int32) → (Int32) → (Int32) → (Int32) → (Int32) → (Int32) → (Int64) → (Int32) → (Nat → Int32) → (Nat → Int32) → (Nat → Int32) → (Nat → Int32) → (Nat → Int32) → (Nat → Int32) → (Nat → Int32) → (Nat → Int32) → (Nat → Int64) → (Nat → Int32) → (Nat → Int64) → (Nat → Int32) → (Nat → Int32) → (Nat → Int32) → (Nat → Int32) → (Nat → Int32) → (Nat → Int32) → (Nat → Int32) → (Nat → Int32) → (Nat → Int32) → Prop} {J2 : Int32 → Int32 → Int32 → Int32 → Int32 → Int32 → Int32 → Int32 → Prop} {x0 x2 x10 ff lo hi sm x16 : Int32} {M A Bn St g N kc ks k c d : Nat} {w p t : Nat → Nat} {dc pc ln ss nd ft : Int32} {fi : Int64} {fr : Int32} {a1 a2 a3 a4 a5 a6 a7 a8 : Nat → Int32} {a9 : Nat → Int64} {a10 : Nat → Int32} {a11 : Nat → Int64} {a12 a13 a14 a15 a16 a17 a18 a19 a20 : Nat → Int32} (hg : g + N ≤ 32) (hl : la_lw x0 x2 A St g N w p t) (hp : ∀ k, p k < 512) (hk : k < N) (K : J2 ff (nI (c + 1)) (if lo ≤ nI (p k) then lo else nI (p k)) (if nI (p k) ≤ hi then hi else nI (p k)) (sm + nI (p k)) x16 (nI (if la_new (la_of w A) p (p k) k = true then d + 1 else d)) (nI (g + (k + 1)))) : wL_lawOf_256 post mc ms J J2 x0 x2 (nI M) (nI A) (nI Bn) (nI St) (nI g) x10 (nI c) lo hi sm x16 (nI d) (nI (g + k)) ff kc ks dc pc ln ss nd ft fi fr a1 a2 a3 a4 a5 a6 a7 a8 a9 a10 a11 a12 a13 a14 a15 a16 a17 a18 a19 a20 := by
  unfold wL_lawOf_256
  refine ⟨by decide, nm_r (hl k hk).2.1 (nm_r (nI_1 c) (br_c (fun z => ?_) (fun z => ?_)))⟩
  · rw [if_pos z] at K
    unfold wL_lawOf_288
    refine br_c (fun y => ?_) (fun y => ?_)
    · rw [if_pos y] at K
      unfold wL_lawOf_304
      exact nm_e ⟨k + 1, la_320 hg hl hp hk K k 0 (by omega)⟩
    · rw [if_neg y] at K
      unfold wL_lawOf_304
      exact nm_e ⟨k + 1, la_320 hg hl hp hk K k 0 (by omega)⟩
  · rw [if_neg z] at K
    unfold wL_lawOf_288
    refine br_c (fun y => ?_) (fun y => ?_)
    · rw [if_pos y] at K
      unfold wL_lawOf_304
      exact nm_e ⟨k + 1, la_320 hg hl hp hk K k 0 (by omega)⟩
    · rw [if_neg y] at K
      unfold wL_lawOf_304
      exact nm_e ⟨k + 1, la_320 hg hl hp hk K k 0 (by omega)⟩
theorem la_207 {post : Int32 → St0 → Prop} {mc ms : Nat} {J : Int32 → Int32 → (Int32) → (Int32) → (Int32) → (Int32) → (Int32) → (Int32) → (Int64) → (Int32) → (Nat → Int32) → (Nat → Int32) → (Nat → Int32) → (Nat → Int32) → (Nat → Int32) → (Nat → Int32) → (Nat → Int32) → (Nat → Int32) → (Nat → Int64) → (Nat → Int32) → (Nat → Int64) → (Nat → Int32) → (Nat → Int32) → (Nat → Int32) → (Nat → Int32) → (Nat → Int32) → (Nat → Int32) → (Nat → Int32) → (Nat → Int32) → (Nat → Int32) → Prop} {x0 x2 x10 : Int32} {M A Bn St g N S kc ks : Nat} {w p q t sh sw B : Nat → Nat} {dc pc nd ft : Int32} {fi : Int64} {fr : Int32} {a1 a2 a3 a4 a5 a6 a7 a8 : Nat → Int32} {a9 : Nat → Int64} {a10 : Nat → Int32} {a11 : Nat → Int64} {a12 a13 a14 a15 a16 a17 a18 a19 a20 : Nat → Int32} (hM1 : 1 ≤ M) (hM : M ≤ 32) (hg : g + N = M) (hSt : St ≤ 7) (hd : la_dat A Bn w p q) (hl : la_lw x0 x2 A St g N w p t) (h : la_st N S w p q t sh sw B a3 a4 a5 a6 a7 a8 a9 a10 a11 a12 a13 a14 a15) (HE : ∀ pc ft fi fr a2 a17 a18, la_end post mc ms J x0 x2 M A Bn St g x10 kc ks dc pc (nI N) (nI S) nd ft fi fr a1 a2 a3 a4 a5 a6 a7 a8 a9 a10 a11 a12 a13 a14 a15 a16 a17 a18 a19 a20) : ∀ m k, k + m = N → wL_lawOf_207 post mc ms J x0 x2 (nI M) (nI A) (nI Bn) (nI St) (nI g) x10 kc ks dc pc (nI N) (nI S) nd ft fi fr a1 a2 a3 a4 a5 a6 a7 a8 a9 a10 a11 a12 a13 a14 a15 a16 a17 a18 a19 a20 (m + 1) (la_ff (la_of w A) k) (nI (la_cnt (la_of w A) k)) (la_lo (la_of w A) p k) (la_hi (la_of w A) p k) (la_sum (la_of w A) p k) (nI (la_cnt (la_of w Bn) k)) (nI (la_dif (la_of w A) p k)) (nI (g + k)) := by
  have hN := h.1
  intro m
  induction m with
  | zero =>
    intro k hk
    have kN : k = N := by omega
    subst kN
    have ca := la_cnt_le (la_of w A) k
    refine pk_le M (g + k) (fun _ => pk_le (la_cnt (la_of w A) k) 0 (fun y => ?_) (fun y => ?_)) (fun z => absurd z (by omega))
    · exact la_402 (d1 := 0) hM1 hM hg hSt hd hl h HE (by rw [if_neg (by omega)])
    · exact la_402 (d1 := 1) hM1 hM hg hSt hd hl h HE (by rw [if_pos (by omega)])
  | succ m ih =>
    intro k hk
    have I := ih (k + 1) (by omega)
    have hp := hd.2.2.2.2.1
    rw [show la_cnt (la_of w A) (k + 1) = la_cnt (la_of w A) k + (if la_of w A k = true then 1 else 0) from rfl, show la_cnt (la_of w Bn) (k + 1) = la_cnt (la_of w Bn) k + (if la_of w Bn k = true then 1 else 0) from rfl] at I
    have ob := la_other hd k
    refine pk_le M (g + k) (fun z => absurd z (by omega)) (fun _ => ek_if (hl k (by omega)).1 (fun z => ?_) (fun z => ?_))
    · have ea := la_of_true.mpr z
      rw [ea] at ob
      rw [if_pos ea, ob, if_neg (by decide), show la_ff (la_of w A) (k + 1) = (if 0 ≤ la_ff (la_of w A) k then la_ff (la_of w A) k else nI k) from if_pos ea, show la_lo (la_of w A) p (k + 1) = if la_lo (la_of w A) p k ≤ nI (p k) then la_lo (la_of w A) p k else nI (p k) from if_pos ea, show la_hi (la_of w A) p (k + 1) = if nI (p k) ≤ la_hi (la_of w A) p k then la_hi (la_of w A) p k else nI (p k) from if_pos ea, show la_sum (la_of w A) p (k + 1) = la_sum (la_of w A) p k + nI (p k) from if_pos ea, show la_dif (la_of w A) p (k + 1) = if la_new (la_of w A) p (p k) k = true then la_dif (la_of w A) p k + 1 else la_dif (la_of w A) p k from if_pos ea] at I
      unfold wL_lawOf_228
      refine br_t rfl (br_c (fun y => ?_) (fun y => ?_))
      · rw [if_pos y] at I
        exact la_256 (by omega) hl hp (by omega) I
      · rw [if_neg y] at I
        rw [pk_sub (show g ≤ g + k by omega), Nat.add_sub_cancel_left]
        exact la_256 (by omega) hl hp (by omega) I
    · have ea := la_of_false.mpr z
      rw [ea] at ob
      have na : ¬ la_of w A k = true := la_of_f z
      rw [if_neg na, ob, if_pos (by decide), show la_ff (la_of w A) (k + 1) = la_ff (la_of w A) k from if_neg na, show la_lo (la_of w A) p (k + 1) = la_lo (la_of w A) p k from if_neg na, show la_hi (la_of w A) p (k + 1) = la_hi (la_of w A) p k from if_neg na, show la_sum (la_of w A) p (k + 1) = la_sum (la_of w A) p k from if_neg na, show la_dif (la_of w A) p (k + 1) = la_dif (la_of w A) p k from if_neg na] at I
      unfold wL_lawOf_228
      exact br_f (by decide) (nm_r (nI_1 _) (nm_r (nI_1 (g + k)) I))
theorem la_999 {post : Int32 → St0 → Prop} {mc ms : Nat} {J : Int32 → Int32 → (Int32) → (Int32) → (Int32) → (Int32) → (Int32) → (Int32) → (Int64) → (Int32) → (Nat → Int32) → (Nat → Int32) → (Nat → Int32) → (Nat → Int32) → (Nat → Int32) → (Nat → Int32) → (Nat → Int32) → (Nat → Int32) → (Nat → Int64) → (Nat → Int32) → (Nat → Int64) → (Nat → Int32) → (Nat → Int32) → (Nat → Int32) → (Nat → Int32) → (Nat → Int32) → (Nat → Int32) → (Nat → Int32) → (Nat → Int32) → (Nat → Int32) → Prop} {x0 x2 : Int32} {M A Bn St S G X kc ks : Nat} {w p q t sh sw B : Nat → Nat} {pc nd ft : Int32} {fi : Int64} {fr : Int32} {a1 a2 a3 a4 a5 a6 a7 a8 : Nat → Int32} {a9 : Nat → Int64} {a10 : Nat → Int32} {a11 : Nat → Int64} {a12 a13 a14 a15 a16 a17 a18 a19 a20 : Nat → Int32} (hM : M ≤ 32) (hSt : St ≤ 7) (hd : la_dat A Bn w p q) (hl : la_lw x0 x2 A St 0 M w p t) (h : la_st M S w p q t sh sw B a3 a4 a5 a6 a7 a8 a9 a10 a11 a12 a13 a14 a15) (hG : G ≤ M) (hX : X < 2 ^ 31) (h1 : ∀ k, k < G → t k < X) (h2 : ∀ k, G ≤ k → k < M → X ≤ t k) (HJ : ∀ S w p q t sh sw B dc pc nd ft fi fr a1 a2 a3 a4 a5 a6 a7 a8 a9 a10 a11 a12 a13 a14 a15 a16 a17 a18 a19 a20, la_dat A Bn w p q → la_lw x0 x2 A St G (M - G) w p t → la_st (M - G) S w p q t sh sw B a3 a4 a5 a6 a7 a8 a9 a10 a11 a12 a13 a14 a15 → J (nI G) (nI 1) dc pc (nI (M - G)) (nI S) nd ft fi fr a1 a2 a3 a4 a5 a6 a7 a8 a9 a10 a11 a12 a13 a14 a15 a16 a17 a18 a19 a20) : wL_lawOf_999 post mc ms J x0 x2 (nI M) (nI A) (nI Bn) (nI St) 0 (nI X) (nI G) kc ks 0 pc (nI M) (nI S) nd ft fi fr a1 a2 a3 a4 a5 a6 a7 a8 a9 a10 a11 a12 a13 a14 a15 a16 a17 a18 a19 a20 := by
  have c3 := h.2.2.1.1
  have tb : ∀ k, k < M → t k ≤ 217 := fun k hk => (la_tb hM (Nat.zero_add M) hSt hl hk).1
  unfold wL_lawOf_999
  by_cases e : G = 0
  · subst e
    have hx : ∀ k, k < M → nI X ≤ a3 k := fun k hk => by
      rw [c3 k hk]
      have := tb k hk
      exact nI_le (h2 k (by omega) hk) (by omega)
    exact la_expire0 h.1 hx (br_t rfl (la_expire0 h.1 hx (br_t rfl (nm_r (e' := nI 1) (by decide) (HJ S w p q t sh sw B _ _ _ _ _ _ _ _ _ _ _ _ _ _ _ _ _ _ _ _ _ _ _ _ _ _ hd hl h)))))
  · refine la_expire hd h (by omega) hG (fun k hk => ?_) (fun k hk hk2 => ?_) (fun S sh sw B ss nd ft fr a1 a3 a4 a5 a6 a7 a8 a9 a10 a11 a12 a13 a14 a15 a16 a17 a18 a19 a20 h' es => ?_)
    · rw [c3 k (by omega)]
      exact nI_ge (h1 k hk) hX
    · rw [c3 k hk2]
      have := tb k hk2
      exact nI_le (h2 k hk hk2) (by omega)
    · subst es
      have hx : ∀ k, k < M - G → nI X ≤ a3 k := fun k hk => by
        rw [h'.2.2.1.1 k hk]
        show nI X ≤ nI (t (G + k))
        have := tb (G + k) (by omega)
        exact nI_le (h2 (G + k) (by omega) (by omega)) (by omega)
      refine br_t rfl (la_expire0 h'.1 hx (br_t rfl (nm_r (e' := nI 1) (by decide) (HJ S _ _ _ _ sh sw B _ _ _ _ _ _ _ _ _ _ _ _ _ _ _ _ _ _ _ _ _ _ _ _ _ _ ⟨hd.1, hd.2.1, hd.2.2.1, fun k => hd.2.2.2.1 (G + k), fun k => hd.2.2.2.2.1 (G + k), fun k => hd.2.2.2.2.2 (G + k)⟩ (fun k hk => ?_) h'))))
      have u := hl (G + k) (by omega)
      rw [Nat.zero_add] at u
      exact u
theorem la_end0 {post : Int32 → St0 → Prop} {mc ms : Nat} {J : Int32 → Int32 → (Int32) → (Int32) → (Int32) → (Int32) → (Int32) → (Int32) → (Int64) → (Int32) → (Nat → Int32) → (Nat → Int32) → (Nat → Int32) → (Nat → Int32) → (Nat → Int32) → (Nat → Int32) → (Nat → Int32) → (Nat → Int32) → (Nat → Int64) → (Nat → Int32) → (Nat → Int64) → (Nat → Int32) → (Nat → Int32) → (Nat → Int32) → (Nat → Int32) → (Nat → Int32) → (Nat → Int32) → (Nat → Int32) → (Nat → Int32) → (Nat → Int32) → Prop} {x0 x2 : Int32} {M A Bn St S kc ks : Nat} {w p q t sh sw B : Nat → Nat} {pc nd ft : Int32} {fi : Int64} {fr : Int32} {a1 a2 a3 a4 a5 a6 a7 a8 : Nat → Int32} {a9 : Nat → Int64} {a10 : Nat → Int32} {a11 : Nat → Int64} {a12 a13 a14 a15 a16 a17 a18 a19 a20 : Nat → Int32} (hM : M ≤ 32) (hSt : St ≤ 7) (hd : la_dat A Bn w p q) (hl : la_lw x0 x2 A St 0 M w p t) (h : la_st M S w p q t sh sw B a3 a4 a5 a6 a7 a8 a9 a10 a11 a12 a13 a14 a15) (HJ : ∀ G, G ≤ M → ∀ S w p q t sh sw B dc pc nd ft fi fr a1 a2 a3 a4 a5 a6 a7 a8 a9 a10 a11 a12 a13 a14 a15 a16 a17 a18 a19 a20, la_dat A Bn w p q → la_lw x0 x2 A St G (M - G) w p t → la_st (M - G) S w p q t sh sw B a3 a4 a5 a6 a7 a8 a9 a10 a11 a12 a13 a14 a15 → J (nI G) (nI 1) dc pc (nI (M - G)) (nI S) nd ft fi fr a1 a2 a3 a4 a5 a6 a7 a8 a9 a10 a11 a12 a13 a14 a15 a16 a17 a18 a19 a20) : la_end post mc ms J x0 x2 M A Bn St 0 0 kc ks 0 pc (nI M) (nI S) nd ft fi fr a1 a2 a3 a4 a5 a6 a7 a8 a9 a10 a11 a12 a13 a14 a15 a16 a17 a18 a19 a20 := by
  intro x22 ex
  obtain ⟨qq, hq, eq⟩ := pk_andE (x2 >>> ((13 : Int32) &&& 31)) 5 (m := 31) (by decide)
  rw [eq, pk_mul] at ex
  subst ex
  have tq : ∀ k, k < M → t k = k * St := fun k hk => by
    have u := (hl k hk).2.2
    rw [Nat.zero_add] at u
    exact u
  have Xb : qq * St ≤ 32 * 7 := Nat.mul_le_mul (by omega) hSt
  refine br_t rfl (pk_eq St 0 (fun z => ?_) (fun z => ?_))
  · unfold wL_lawOf_983
    refine br_t (nI_pos' (by omega)) ?_
    exact la_999 (G := 0) hM hSt hd hl h (Nat.zero_le M) (by omega) (fun k hk => absurd hk (Nat.not_lt_zero k)) (fun k _ hk => by rw [z, Nat.mul_zero]; exact Nat.zero_le _) (HJ 0 (Nat.zero_le M))
  · rw [eq]
    unfold wL_lawOf_983
    refine pk_le qq M (fun y => ?_) (fun y => ?_)
    · exact la_999 (G := qq) hM hSt hd hl h y (by omega) (fun k hk => by rw [tq k (by omega)]; exact Nat.mul_lt_mul_of_pos_right hk (by omega)) (fun k hk hk2 => by rw [tq k hk2]; exact Nat.mul_le_mul_right St hk) (HJ qq y)
    · exact la_999 (G := M) hM hSt hd hl h (Nat.le_refl M) (by omega) (fun k hk => by rw [tq k hk]; exact Nat.mul_lt_mul_of_pos_right (by omega) (by omega)) (fun k hk hk2 => absurd hk (by omega)) (HJ M (Nat.le_refl M))
/-- after the last round -/
theorem la_r2 {post : Int32 → St0 → Prop} {mc ms : Nat} {x0 x2 x5 x6 x7 x8 x9 : Int32} {N S kc ks n : Nat} {w p q t sh sw B : Nat → Nat} {dc pc nd ft : Int32} {fi : Int64} {fr : Int32} {a1 a2 a3 a4 a5 a6 a7 a8 : Nat → Int32} {a9 : Nat → Int64} {a10 : Nat → Int32} {a11 : Nat → Int64} {a12 a13 a14 a15 a16 a17 a18 a19 a20 : Nat → Int32} (h : la_st N S w p q t sh sw B a3 a4 a5 a6 a7 a8 a9 a10 a11 a12 a13 a14 a15) (H : post 1 ()) : wL_lawOf_174 post mc ms x0 x2 x5 x6 x7 x8 kc ks (n + 1) x9 (nI 2) dc pc (nI N) (nI S) nd ft fi fr a1 a2 a3 a4 a5 a6 a7 a8 a9 a10 a11 a12 a13 a14 a15 a16 a17 a18 a19 a20 := by
  have hN := h.1
  refine br_t (by decide) (la_digest h.1 h.2.1 h.2.2.1 (fun r f m m' hr => br_c (fun z => la_lines (pk_le N 0 (fun y => ?_) (fun _ => H))) (fun _ => H)))
  rw [hr (by omega)] at z
  exact absurd z (by decide)
theorem la_r1 {post : Int32 → St0 → Prop} {mc ms : Nat} {x0 x2 : Int32} {M A Bn St g S kc ks n : Nat} {w p q t sh sw B : Nat → Nat} {dc pc nd ft : Int32} {fi : Int64} {fr : Int32} {a1 a2 a3 a4 a5 a6 a7 a8 : Nat → Int32} {a9 : Nat → Int64} {a10 : Nat → Int32} {a11 : Nat → Int64} {a12 a13 a14 a15 a16 a17 a18 a19 a20 : Nat → Int32} (hM1 : 1 ≤ M) (hM : M ≤ 32) (hg : g ≤ M) (hSt : St ≤ 7) (hd : la_dat A Bn w p q) (hl : la_lw x0 x2 A St g (M - g) w p t) (h : la_st (M - g) S w p q t sh sw B a3 a4 a5 a6 a7 a8 a9 a10 a11 a12 a13 a14 a15) (H : post 1 ()) : wL_lawOf_174 post mc ms x0 x2 (nI M) (nI A) (nI Bn) (nI St) kc ks (n + 1 + 1) (nI g) (nI 1) dc pc (nI (M - g)) (nI S) nd ft fi fr a1 a2 a3 a4 a5 a6 a7 a8 a9 a10 a11 a12 a13 a14 a15 a16 a17 a18 a19 a20 := by
  refine br_f (by decide) ⟨M - g + 1, la_207 (x10 := nI 1) hM1 hM (show g + (M - g) = M by omega) hSt hd hl h (fun pc ft fi fr a2 a17 a18 => ?_) (M - g) 0 (Nat.zero_add _)⟩
  intro x22 _
  exact br_f (by decide) (nm_r (e' := nI 2) (by decide) (la_r2 h H))
theorem la_r0 {post : Int32 → St0 → Prop} {mc ms : Nat} {x0 x2 : Int32} {M A Bn St S kc ks n : Nat} {w p q t sh sw B : Nat → Nat} {pc nd ft : Int32} {fi : Int64} {fr : Int32} {a1 a2 a3 a4 a5 a6 a7 a8 : Nat → Int32} {a9 : Nat → Int64} {a10 : Nat → Int32} {a11 : Nat → Int64} {a12 a13 a14 a15 a16 a17 a18 a19 a20 : Nat → Int32} (hM1 : 1 ≤ M) (hM : M ≤ 32) (hSt : St ≤ 7) (hd : la_dat A Bn w p q) (hl : la_lw x0 x2 A St 0 M w p t) (h : la_st M S w p q t sh sw B a3 a4 a5 a6 a7 a8 a9 a10 a11 a12 a13 a14 a15) (H : post 1 ()) : wL_lawOf_174 post mc ms x0 x2 (nI M) (nI A) (nI Bn) (nI St) kc ks (n + 1 + 1 + 1) 0 0 0 pc (nI M) (nI S) nd ft fi fr a1 a2 a3 a4 a5 a6 a7 a8 a9 a10 a11 a12 a13 a14 a15 a16 a17 a18 a19 a20 := by
  refine br_f (by decide) ⟨M + 1, la_207 (x10 := 0) (g := 0) hM1 hM (Nat.zero_add M) hSt hd hl h (fun pc ft fi fr a2 a17 a18 => ?_) M 0 (Nat.zero_add _)⟩
  exact la_end0 hM hSt hd hl h (fun G hG S w p q t sh sw B dc pc nd ft fi fr a1 a2 a3 a4 a5 a6 a7 a8 a9 a10 a11 a12 a13 a14 a15 a16 a17 a18 a19 a20 hd hl h => la_r1 hM1 hM hG hSt hd hl h H)
end
section
/-! ===== 14: the writing loop, the law, what is owed ===== -/
theorem la_62 {post : Int32 → St0 → Prop} {mc ms : Nat} {x0 x1 x2 : Int32} {M A Bn St kc ks : Nat} {w p q : Nat → Nat} (hM1 : 1 ≤ M) (hM : M ≤ 32) (hSt : St ≤ 7) (hd : la_dat A Bn w p q) (hO : ∀ i, i < 32 → (((x2 >>> (nI i &&& 31)) &&& 1) = 0 ↔ w i = A)) (hP : ∀ i, i < 32 → ((x0 >>> ((nI i - nI i / 20 * 20) &&& 31)) &&& 511) = nI (p i)) (hQ : ∀ i, i < 32 → ((x1 + (nI i * 37)) &&& 255) = nI (q i)) (H : post 1 ()) : ∀ (m k S : Nat) (sh sw B : Nat → Nat) (pc ft : Int32) (fi : Int64) (fr : Int32) (a1 a2 a3 a4 a5 a6 a7 a8 : Nat → Int32) (a9 : Nat → Int64) (a10 : Nat → Int32) (a11 : Nat → Int64) (a12 a13 a14 a15 a16 a17 a18 a19 a20 : Nat → Int32), k + m = M → la_st k S w p q (fun i => i * St) sh sw B a3 a4 a5 a6 a7 a8 a9 a10 a11 a12 a13 a14 a15 → wL_lawOf_62 post mc ms x0 x1 x2 (nI M) (nI A) (nI Bn) (nI St) kc ks (m + 1) (nI k) (nI 0) pc (nI k) (nI S) (nI (1 + 3 * S)) ft fi fr a1 a2 a3 a4 a5 a6 a7 a8 a9 a10 a11 a12 a13 a14 a15 a16 a17 a18 a19 a20 := by
  intro m
  induction m with
  | zero =>
    intro k S sh sw B pc ft fi fr a1 a2 a3 a4 a5 a6 a7 a8 a9 a10 a11 a12 a13 a14 a15 a16 a17 a18 a19 a20 hk h
    have kM : k = M := by omega
    subst kM
    refine pk_le k k (fun _ => ⟨0 + 1 + 1 + 1, la_r0 hM1 hM hSt hd (fun i hi => ?_) h H⟩) (fun z => absurd z (by omega))
    rw [Nat.zero_add]
    exact ⟨hO i (by omega), hP i (by omega), rfl⟩
  | succ m ih =>
    intro k S sh sw B pc ft fi fr a1 a2 a3 a4 a5 a6 a7 a8 a9 a10 a11 a12 a13 a14 a15 a16 a17 a18 a19 a20 hk h
    have hpk := hd.2.2.2.2.1 k
    have hqk := hd.2.2.2.2.2 k
    have hwk : w k < 24 := by
      have := hd.1
      have := hd.2.1
      rcases hd.2.2.2.1 k with z | z <;> omega
    have tk : k * St ≤ 31 * 7 := Nat.mul_le_mul (by omega) hSt
    have W : wL_lawOf_99 post mc ms (wL_lawOf_62 post mc ms x0 x1 x2 (nI M) (nI A) (nI Bn) (nI St) kc ks (m + 1)) x0 x1 x2 (nI M) (nI A) (nI Bn) (nI St) (nI k) (nI (w k)) kc ks (nI 0) pc (nI k) (nI S) (nI (1 + 3 * S)) ft fi fr a1 a2 a3 a4 a5 a6 a7 a8 a9 a10 a11 a12 a13 a14 a15 a16 a17 a18 a19 a20 := by
      unfold wL_lawOf_99
      rw [hP k (by omega), hQ k (by omega), pk_mul, show (1000 : Int32) + nI (p k) = nI (1000 + p k) from nI_add 1000 (p k), show (1000 : Int32) + nI (q k) = nI (1000 + q k) from nI_add 1000 (q k)]
      refine la_item (d := 0) (by omega) (Or.inl hwk) ⟨by decide, la_item (d := 1) (by omega) (Or.inr (by omega)) (la_item (d := 2) (by omega) (Or.inr (by omega)) ?_)⟩
      exact la_write (N := k) (t := fun i => i * St) (by omega) hd h ⟨by rw [pk_un (by omega), pk_un (by omega), pk_us], by rw [pk_un (by omega), pk_us], pk_us⟩ (fun j hj => Nat.mul_le_mul_right St (by omega)) (by show k * St ≤ 1000; omega) (fun S' sh' sw' B' a3 a4 a5 a6 a7 a8 a9 a10 a11 a12 a13 a14 a15 g => br_t rfl (nm_r (nI_1 k) (ih (k + 1) S' sh' sw' B' _ _ _ _ _ _ a3 a4 a5 a6 a7 a8 a9 a10 a11 a12 a13 a14 a15 _ _ _ _ _ (by omega) g)))
    refine pk_le M k (fun z => absurd z (by omega)) (fun _ => ek_if (hO k (by omega)) (fun z => ?_) (fun z => ?_))
    · unfold wL_lawOf_83
      rw [z] at W
      exact br_t rfl W
    · have z2 : w k = Bn := by
        rcases hd.2.2.2.1 k with y | y
        · exact absurd y z
        · exact y
      unfold wL_lawOf_83
      rw [z2] at W
      exact br_f (by decide) W
theorem la_lawOf {post : Int32 → St0 → Prop} {mc ms : Nat} {p0 p1 p2 p3 : Int32} (h1 : 21 ≤ mc) (h2 : 4841 ≤ ms) (H : post 1 ()) : wpL_lawOf post mc ms () p0 p1 p2 p3 := by
  obtain ⟨j1, l1, e1⟩ := pk_andE p3 5 (m := 31) (by decide)
  obtain ⟨j2, l2, e2⟩ := pk_andE (p3 >>> ((5 : Int32) &&& 31)) 8 (m := 255) (by decide)
  obtain ⟨j3, l3, e3⟩ := pk_andE (p3 >>> ((13 : Int32) &&& 31)) 8 (m := 255) (by decide)
  obtain ⟨j4, l4, e4⟩ := pk_andE (p3 >>> ((21 : Int32) &&& 31)) 3 (m := 7) (by decide)
  have r3 : nI j3 - nI j3 / 23 * 23 = nI (j3 % 23) := pk_rem (d := 23) (by omega) (by omega) (by omega)
  unfold wpL_lawOf
  refine ⟨by omega, by omega, 20, 4813, by omega, by omega, la_init (by omega) (by omega) (fun a1 a2 a3 a4 a5 a6 a7 a8 a9 a10 a11 a12 a13 a14 a15 a16 a17 a18 a19 a20 h => ?_)⟩
  refine nm_r (e' := nI (1 + j1)) (by rw [e1]; exact nI_add 1 j1) ⟨by decide, nm_r (e' := nI (j2 % 24)) (by rw [e2]; exact pk_rem (d := 24) (by omega) (by omega) (by omega)) ⟨by decide, by decide, nm_r (e' := nI ((j2 % 24 + 1 + j3 % 23) % 24)) (by rw [e3, r3, nI_1, nI_add]; exact pk_rem (d := 24) (by omega) (by omega) (by omega)) (nm_r e4 ⟨1 + j1 + 1, ?_⟩)⟩⟩
  exact la_62 (w := fun i => if ((p2 >>> (nI i &&& 31)) &&& 1) = 0 then j2 % 24 else (j2 % 24 + 1 + j3 % 23) % 24) (p := fun i => (p0 >>> ((nI i - nI i / 20 * 20) &&& 31)).toBitVec.toNat % 512) (q := fun i => (p1 + (nI i * 37)).toBitVec.toNat % 256) (by omega) (by omega) (by omega)
    ⟨by omega, by omega, by omega, fun k => by
      dsimp only
      split
      · exact Or.inl rfl
      · exact Or.inr rfl, fun k => Nat.mod_lt _ (by omega), fun k => Nat.mod_lt _ (by omega)⟩
    (fun i hi => by
      constructor
      · intro z
        rw [if_pos z]
      · intro z
        by_cases y : ((p2 >>> (nI i &&& 31)) &&& 1) = 0
        · exact y
        · rw [if_neg y] at z
          omega)
    (fun i hi => pk_and _ 9 (by decide)) (fun i hi => pk_and _ 8 (by decide)) H (1 + j1) 0 0 (fun _ => 0) (fun _ => 0) (fun _ => 0) _ _ _ _ _ _ _ _ _ _ _ _ _ _ _ _ _ _ _ _ _ _ _ _ (Nat.zero_add _) (h _ _ _ _ _ _)
theorem la_cell {post : Int32 → Prop} {L : Nat} {xs : Nat → Int32} {i : Nat} (hL : L ≤ 4) (hi : i < 4) (H : ∀ r, post r) : wpL_cellAt post L xs () (nI i) :=
  pk_le L i (fun _ => H _) (fun z => ⟨pk_in i L z, H _⟩)
theorem i_vc (xs : Nat → Int32) (L : Nat) (hL : L ≤ 4) : wpL_law (fun r => r = 1) L xs := by
  unfold wpL_law
  exact la_cell (i := 0) hL (by omega) (fun r1 => la_cell (i := 1) hL (by omega) (fun r2 => la_cell (i := 2) hL (by omega) (fun r3 => la_cell (i := 3) hL (by omega) (fun r4 => ⟨2146, 34320, by omega, by omega, la_lawOf (by omega) (by omega) rfl⟩))))
end
