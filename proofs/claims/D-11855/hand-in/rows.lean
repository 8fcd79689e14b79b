section
/-! bits of an Int32 (began as the family 'bt' of BITS.to-paste, names changed) -/
def rt_bt (x : Int32) (i : Nat) : Bool := x.toBitVec.getLsbD i
theorem rt_ext {x y : Int32} (h : ∀ i, i < 32 → rt_bt x i = rt_bt y i) : x = y := Int32.toBitVec_inj.mp (BitVec.eq_of_getLsbD_eq (fun i hi => h i hi))
theorem rt_or (x y : Int32) (i : Nat) : rt_bt (x ||| y) i = (rt_bt x i || rt_bt y i) := by unfold rt_bt; rw [Int32.toBitVec_or, BitVec.getLsbD_or]
theorem rt_and (x y : Int32) (i : Nat) : rt_bt (x &&& y) i = (rt_bt x i && rt_bt y i) := by unfold rt_bt; rw [Int32.toBitVec_and, BitVec.getLsbD_and]
theorem rt_big {x : Int32} {i : Nat} (h : 32 ≤ i) : rt_bt x i = false := BitVec.getLsbD_of_ge _ _ h
theorem rt_0 (i : Nat) : rt_bt 0 i = false := BitVec.getLsbD_zero
theorem rt_1 : ∀ i, i < 32 → rt_bt 1 i = decide (i = 0) := by decide +kernel
theorem rt_sl : ∀ n, n < 32 → ((nI n &&& 31).toBitVec.smod 32).toNat = n := by decide +kernel
theorem rt_sshr (n : Nat) (hn : n < 32) (x : Int32) {i : Nat} (hi : i < 32) : rt_bt (x >>> (nI n &&& 31)) i = if n + i < 32 then rt_bt x (n + i) else rt_bt x 31 := by
  unfold rt_bt
  rw [Int32.toBitVec_shiftRight]
  show (x.toBitVec.sshiftRight ((nI n &&& 31).toBitVec.smod 32).toNat).getLsbD i = _
  rw [rt_sl n hn, BitVec.getLsbD_sshiftRight, BitVec.msb_eq_getLsbD_last]
  simp [hi]
/-- one bit read: shift and mask -/
theorem rt_test (x : Int32) {k : Nat} (hk : k < 32) : ((x >>> (nI k &&& 31)) &&& 1) = if rt_bt x k = true then 1 else 0 := by
  apply rt_ext
  intro i hi
  rw [rt_and, rt_1 i hi, rt_sshr k hk x hi]
  by_cases h : i = 0
  · subst h
    rw [if_pos (by omega)]
    show (rt_bt x k && decide (0 = 0)) = rt_bt (if rt_bt x k = true then 1 else 0) 0
    cases rt_bt x k
    · decide
    · decide
  · rw [decide_eq_false h, Bool.and_false]
    cases rt_bt x k
    · exact (rt_0 i).symm
    · show false = rt_bt 1 i
      rw [rt_1 i hi, decide_eq_false h]
theorem rt_s1 : ∀ k, k < 32 → ∀ i, i < 32 → rt_bt ((1 : Int32) <<< (nI k &&& 31)) i = decide (i = k) := by decide +kernel
theorem rt_s2 : ∀ k, k < 2 → ∀ i, i < 32 → rt_bt ((2 : Int32) <<< (nI k &&& 31)) i = decide (i = 1 + k) := by decide +kernel
theorem rt_s8 : ∀ k, k < 4 → ∀ i, i < 32 → rt_bt ((8 : Int32) <<< (nI k &&& 31)) i = decide (i = 3 + k) := by decide +kernel
theorem rt_s128 : ∀ k, k < 8 → ∀ i, i < 32 → rt_bt ((128 : Int32) <<< (nI k &&& 31)) i = decide (i = 7 + k) := by decide +kernel
theorem rt_msk : ∀ m, m < 6 → ∀ i, i < 32 → rt_bt (((1 : Int32) <<< ((((1 : Int32) <<< (nI m &&& 31)) - 1) &&& 31)) - 1) i = decide (i < 2 ^ m - 1) := by decide +kernel
theorem rt_32767 : ∀ i, i < 32 → rt_bt 32767 i = decide (i < 2 ^ 4 - 1) := by decide +kernel
theorem rt_p1 : ∀ i, i < 9 → (((1 : Int32) <<< ((nI i + 1) &&& 31)) - 1) = nI (2 ^ (i + 1) - 1) := by decide +kernel
/-- the place of a beginning in its node -/
def rt_pl (a b : Nat) : Nat := if b < 4 then 2 ^ b - 1 + a / 2 ^ (8 - b) else 2 ^ (b - 4) - 1 + a % 16 / 2 ^ (8 - b)
theorem rt_plT : ∀ b, b < 4 → ∀ a, a < 256 → (((1 : Int32) <<< (nI b &&& 31)) - 1) + (nI a >>> ((8 - nI b) &&& 31)) = nI (rt_pl a b) := by decide +kernel
theorem rt_plL : ∀ b, b < 5 → ∀ a, a < 256 → (((1 : Int32) <<< (nI b &&& 31)) - 1) + ((nI a &&& 15) >>> ((4 - nI b) &&& 31)) = nI (rt_pl a (b + 4)) := by decide +kernel
theorem rt_sh4 {a : Nat} (h : a < 256) : nI a >>> ((4 : Int32) &&& 31) = nI (a / 16) := pk_shrN (by omega) _ 4 (by decide)
/-- the first address of the b bits' beginning of p -/
def rt_pf (p b : Nat) : Nat := p / 2 ^ (8 - b) * 2 ^ (8 - b)
theorem rt_pfI : ∀ b, b < 9 → ∀ p, p < 256 → nI p &&& ((65280 : Int32) >>> (nI b &&& 31)) = nI (rt_pf p b) := by decide +kernel
theorem rt_pfZ : ∀ b, b < 9 → ∀ p, p < 256 → nI (rt_pf p b) &&& ((255 : Int32) >>> (nI b &&& 31)) = 0 := by decide +kernel
theorem rt_pfL : ∀ b, b < 9 → ∀ p, p < 256 → nI (rt_pf p b) ||| ((255 : Int32) >>> (nI b &&& 31)) = nI (rt_pf p b + 2 ^ (8 - b) - 1) := by decide +kernel
theorem rt_byte : ∀ h, h < 100 → (nI h).toInt8.toInt32 = nI h := by decide +kernel
theorem rt_256 : ∀ b, b < 9 → (256 : Int32) >>> (nI b &&& 31) = nI (2 ^ (8 - b)) := by decide +kernel
/-- nine cases -/
theorem rt_c9 {b : Nat} (h : b < 9) : b = 0 ∨ b = 1 ∨ b = 2 ∨ b = 3 ∨ b = 4 ∨ b = 5 ∨ b = 6 ∨ b = 7 ∨ b = 8 := by omega
/-- a place lies in its row -/
theorem rt_plt {a b : Nat} (ha : a < 256) (hb : b < 4) : 2 ^ b - 1 ≤ rt_pl a b ∧ rt_pl a b < 2 ^ (b + 1) - 1 := by
  have h : b = 0 ∨ b = 1 ∨ b = 2 ∨ b = 3 := by omega
  unfold rt_pl
  rcases h with rfl | rfl | rfl | rfl <;> simp <;> omega
theorem rt_pll {a b : Nat} (hb : b < 5) : 2 ^ b - 1 ≤ rt_pl a (b + 4) ∧ rt_pl a (b + 4) < 2 ^ (b + 1) - 1 := by
  have h : b = 0 ∨ b = 1 ∨ b = 2 ∨ b = 3 ∨ b = 4 := by omega
  unfold rt_pl
  rcases h with rfl | rfl | rfl | rfl | rfl <;> simp <;> omega
theorem rt_pl31 {a b : Nat} (ha : a < 256) (hb : b < 9) : rt_pl a b < 31 ∧ (b < 4 → rt_pl a b < 15) := by
  unfold rt_pl
  rcases rt_c9 hb with rfl | rfl | rfl | rfl | rfl | rfl | rfl | rfl | rfl <;> simp <;> omega
/-- the same beginning has the same place -/
theorem rt_pl_eq {a c b : Nat} (hb : b < 9) (h : a / 2 ^ (8 - b) = c / 2 ^ (8 - b)) : rt_pl a b = rt_pl c b ∧ (4 ≤ b → a / 16 = c / 16) := by
  unfold rt_pl
  revert h
  rcases rt_c9 hb with rfl | rfl | rfl | rfl | rfl | rfl | rfl | rfl | rfl <;> simp <;> omega
/-- a place tells its beginning: the top node -/
theorem rt_pl_top {a c b d : Nat} (ha : a < 256) (hc : c < 256) (hb : b < 4) (hd : d < 4) (h : rt_pl a b = rt_pl c d) : b = d ∧ a / 2 ^ (8 - d) = c / 2 ^ (8 - d) := by
  have h1 : b = 0 ∨ b = 1 ∨ b = 2 ∨ b = 3 := by omega
  have h2 : d = 0 ∨ d = 1 ∨ d = 2 ∨ d = 3 := by omega
  unfold rt_pl at h
  revert h
  rcases h1 with rfl | rfl | rfl | rfl <;> rcases h2 with rfl | rfl | rfl | rfl <;> simp <;> omega
/-- a place tells its beginning: a low node -/
theorem rt_pl_low {a c b d : Nat} (hb : b < 5) (hd : d < 5) (hn : a / 16 = c / 16) (h : rt_pl a (b + 4) = rt_pl c (d + 4)) : b = d ∧ a / 2 ^ (8 - (d + 4)) = c / 2 ^ (8 - (d + 4)) := by
  have h1 : b = 0 ∨ b = 1 ∨ b = 2 ∨ b = 3 ∨ b = 4 := by omega
  have h2 : d = 0 ∨ d = 1 ∨ d = 2 ∨ d = 3 ∨ d = 4 := by omega
  unfold rt_pl at h
  revert h
  rcases h1 with rfl | rfl | rfl | rfl | rfl <;> rcases h2 with rfl | rfl | rfl | rfl | rfl <;> simp <;> omega
theorem rt_pf_lt {p b : Nat} (hp : p < 256) (hb : b < 9) : rt_pf p b + 2 ^ (8 - b) ≤ 256 := by
  unfold rt_pf
  rcases rt_c9 hb with rfl | rfl | rfl | rfl | rfl | rfl | rfl | rfl | rfl <;> simp <;> omega
end
section
/-! the greatest place below n where f holds, what g says there, how many there are -/
def rt_mx (f : Nat → Bool) : Nat → Int32
  | 0 => -1
  | n + 1 => if f n = true then nI n else rt_mx f n
def rt_gm (f : Nat → Bool) (g : Nat → Int32) : Nat → Int32
  | 0 => -1
  | n + 1 => if f n = true then g n else rt_gm f g n
def rt_cnt (f : Nat → Bool) : Nat → Nat
  | 0 => 0
  | n + 1 => rt_cnt f n + (if f n = true then 1 else 0)
theorem rt_cases (f : Nat → Bool) (g : Nat → Int32) (n : Nat) : (∃ b, b < n ∧ f b = true ∧ (∀ j, b < j → j < n → f j = false) ∧ rt_mx f n = nI b ∧ rt_gm f g n = g b) ∨ ((∀ j, j < n → f j = false) ∧ rt_mx f n = -1 ∧ rt_gm f g n = -1) := by
  induction n with
  | zero => exact Or.inr ⟨fun j hj => absurd hj (by omega), rfl, rfl⟩
  | succ n ih =>
    cases hf : f n with
    | true => exact Or.inl ⟨n, by omega, hf, fun j h1 h2 => absurd h1 (by omega), by rw [rt_mx, if_pos hf], by rw [rt_gm, if_pos hf]⟩
    | false =>
      have hn : ¬ f n = true := by rw [hf]; decide
      have e1 : rt_mx f (n + 1) = rt_mx f n := by rw [rt_mx, if_neg hn]
      have e2 : rt_gm f g (n + 1) = rt_gm f g n := by rw [rt_gm, if_neg hn]
      rw [e1, e2]
      rcases ih with ⟨b, h1, h2, h3, h4, h5⟩ | ⟨h1, h2, h3⟩
      · refine Or.inl ⟨b, by omega, h2, fun j hj hk => ?_, h4, h5⟩
        by_cases e : j = n
        · rw [e]; exact hf
        · exact h3 j hj (by omega)
      · refine Or.inr ⟨fun j hj => ?_, h2, h3⟩
        by_cases e : j = n
        · rw [e]; exact hf
        · exact h1 j (by omega)
theorem rt_mx_at {f : Nat → Bool} {n b : Nat} (h1 : b < n) (h2 : f b = true) (h3 : ∀ j, b < j → j < n → f j = false) : rt_mx f n = nI b := by
  rcases rt_cases f (fun _ => 0) n with ⟨c, k1, k2, k3, k4, _⟩ | ⟨k1, _, _⟩
  · rw [k4]
    rcases Nat.lt_trichotomy b c with z | z | z
    · have := h3 c z k1
      rw [k2] at this
      exact absurd this (by decide)
    · rw [z]
    · have := k3 b z h1
      rw [h2] at this
      exact absurd this (by decide)
  · have := k1 b h1
    rw [h2] at this
    exact absurd this (by decide)
theorem rt_mx_no {f : Nat → Bool} {n : Nat} (h : ∀ j, j < n → f j = false) : rt_mx f n = -1 := by
  rcases rt_cases f (fun _ => 0) n with ⟨c, k1, k2, k3, k4, _⟩ | ⟨_, k2, _⟩
  · have := h c k1
    rw [k2] at this
    exact absurd this (by decide)
  · exact k2
theorem rt_mx_congr {f g : Nat → Bool} {n : Nat} (h : ∀ j, j < n → f j = g j) : rt_mx f n = rt_mx g n := by
  induction n with
  | zero => rfl
  | succ n ih => rw [rt_mx, rt_mx, h n (by omega), ih (fun j hj => h j (by omega))]
theorem rt_gm_congr {f g : Nat → Bool} {u v : Nat → Int32} {n : Nat} (h : ∀ j, j < n → f j = g j) (h2 : ∀ j, j < n → g j = true → u j = v j) : rt_gm f u n = rt_gm g v n := by
  induction n with
  | zero => rfl
  | succ n ih =>
    rw [rt_gm, rt_gm, h n (by omega), ih (fun j hj => h j (by omega)) (fun j hj => h2 j (by omega))]
    by_cases e : g n = true
    · rw [if_pos e, if_pos e, h2 n (by omega) e]
    · rw [if_neg e, if_neg e]
theorem rt_cnt_congr {f g : Nat → Bool} {n : Nat} (h : ∀ j, j < n → f j = g j) : rt_cnt f n = rt_cnt g n := by
  induction n with
  | zero => rfl
  | succ n ih => rw [rt_cnt, rt_cnt, h n (by omega), ih (fun j hj => h j (by omega))]
theorem rt_mx_skip {f : Nat → Bool} {n m : Nat} (h : ∀ j, j < m → f (j + n) = false) : rt_mx f (m + n) = rt_mx f n := by
  induction m with
  | zero => rw [Nat.zero_add]
  | succ m ih =>
    rw [show m + 1 + n = (m + n) + 1 by omega, rt_mx, h m (by omega), if_neg (by decide)]
    exact ih (fun j hj => h j (by omega))
theorem rt_cnt_le (f : Nat → Bool) (n : Nat) : rt_cnt f n ≤ n := by
  induction n with
  | zero => exact Nat.le_refl 0
  | succ n ih =>
    rw [rt_cnt]
    split <;> omega
theorem rt_cnt_skip {f : Nat → Bool} {m : Nat} (k : Nat) (h : ∀ i, m ≤ i → i < m + k → f i = false) : rt_cnt f (m + k) = rt_cnt f m := by
  induction k with
  | zero => rfl
  | succ k ih =>
    rw [← Nat.add_assoc, rt_cnt, h (m + k) (by omega) (by omega), if_neg (by decide), Nat.add_zero, ih (fun i h1 h2 => h i h1 (by omega))]
theorem rt_cnt_one {f : Nat → Bool} {m p k : Nat} (h : ∀ i, m ≤ i → i < m + k → i ≠ p → f i = false) (hp : m ≤ p) (hq : p < m + k) : rt_cnt f (m + k) = rt_cnt f m + (if f p = true then 1 else 0) := by
  have e1 : rt_cnt f (m + (p - m)) = rt_cnt f m := rt_cnt_skip (p - m) (fun i h1 h2 => h i h1 (by omega) (by omega))
  have e2 : rt_cnt f (p + 1 + (m + k - (p + 1))) = rt_cnt f (p + 1) := rt_cnt_skip _ (fun i h1 h2 => h i (by omega) (by omega) (by omega))
  rw [show m + k = p + 1 + (m + k - (p + 1)) by omega, e2, rt_cnt]
  rw [show m + (p - m) = p by omega] at e1
  rw [e1]
theorem rt_cnt_add (f : Nat → Bool) (n m : Nat) : rt_cnt f (m + n) = rt_cnt f n + rt_cnt (fun b => f (b + n)) m := by
  induction m with
  | zero => rw [Nat.zero_add]; rfl
  | succ m ih =>
    rw [show m + 1 + n = (m + n) + 1 by omega, rt_cnt, rt_cnt, ih, Nat.add_assoc]
/-- one more: the count of a set to which b is added -/
theorem rt_cnt_put {f g : Nat → Bool} {b n : Nat} (hb : b < n) (h : ∀ j, j < n → g j = (f j || decide (j = b))) : rt_cnt g n = rt_cnt f n + (if f b = true then 0 else 1) := by
  have low : ∀ k, k ≤ b → rt_cnt g k = rt_cnt f k := by
    intro k hk
    refine rt_cnt_congr (fun j hj => ?_)
    rw [h j (by omega), decide_eq_false (by omega), Bool.or_false]
  have high : ∀ k, b + 1 + k ≤ n → rt_cnt g (b + 1 + k) = rt_cnt f (b + 1 + k) + (if f b = true then 0 else 1) := by
    intro k
    induction k with
    | zero =>
      intro _
      show rt_cnt g (b + 1) = rt_cnt f (b + 1) + _
      rw [rt_cnt, rt_cnt, low b (Nat.le_refl b), h b hb, decide_eq_true (rfl : b = b), Bool.or_true, if_pos rfl]
      by_cases e : f b = true
      · rw [if_pos e, if_pos e]
      · rw [if_neg e, if_neg e]
    | succ k ih =>
      intro hk
      rw [show b + 1 + (k + 1) = (b + 1 + k) + 1 by omega, rt_cnt, rt_cnt, ih (by omega), h (b + 1 + k) (by omega), decide_eq_false (by omega), Bool.or_false]
      omega
  have := high (n - (b + 1)) (by omega)
  rw [show b + 1 + (n - (b + 1)) = n by omega] at this
  exact this
/-- all but an interval -/
theorem rt_cnt_iv {f : Nat → Bool} {n o w : Nat} (h : ∀ j, j < n → (f j = true ↔ ¬ (o ≤ j ∧ j < o + w))) (hw : o + w ≤ n) : rt_cnt f n = n - w := by
  have main : ∀ k, k ≤ n → rt_cnt f k + (min k (o + w) - min k o) = k := by
    intro k
    induction k with
    | zero => intro _; show 0 + _ = 0; omega
    | succ k ih =>
      intro hk
      have i1 := ih (by omega)
      have h1 := h k (by omega)
      rw [rt_cnt]
      by_cases e : f k = true
      · have := h1.mp e
        rw [if_pos e]
        omega
      · have : o ≤ k ∧ k < o + w := Classical.byContradiction (fun z => e (h1.mpr z))
        rw [if_neg e]
        omega
  have := main n (Nat.le_refl n)
  omega
/-! places in a set of bits: row b has one place pos b -/
theorem rt_pw {a b : Nat} (h : a ≤ b) : 2 ^ a ≤ 2 ^ b := Nat.pow_le_pow_right (by omega) h
theorem rt_ones_rows {w T : Int32} {N : Nat} {pos : Nat → Nat} (hN : N ≤ 5) (hp : ∀ b, b < N → 2 ^ b - 1 ≤ pos b ∧ pos b < 2 ^ (b + 1) - 1) (hT : ∀ i, i < 32 → (rt_bt T i = true ↔ ∃ b, b < N ∧ i = pos b)) : rt_cnt (rt_bt (w &&& T)) 31 = rt_cnt (fun b => rt_bt w (pos b)) N := by
  have h32 : ∀ b, b ≤ N → 2 ^ b ≤ 32 := fun b hb => rt_pw (b := 5) (by omega)
  have at_pos : ∀ b, b < N → rt_bt (w &&& T) (pos b) = rt_bt w (pos b) := by
    intro b hb
    have h1 := hp b hb
    have h2 := h32 (b + 1) (by omega)
    rw [rt_and, (hT (pos b) (by omega)).mpr ⟨b, hb, rfl⟩, Bool.and_true]
  have off : ∀ i, i < 32 → (∀ b, b < N → i ≠ pos b) → rt_bt (w &&& T) i = false := by
    intro i hi ho
    rw [rt_and]
    cases hh : rt_bt T i with
    | false => exact Bool.and_false _
    | true =>
      obtain ⟨b, h1, h2⟩ := (hT i hi).mp hh
      exact absurd h2 (ho b h1)
  have main : ∀ n, n ≤ N → rt_cnt (rt_bt (w &&& T)) (2 ^ n - 1) = rt_cnt (fun b => rt_bt w (pos b)) n := by
    intro n
    induction n with
    | zero => intro _; rfl
    | succ n ih =>
      intro hn
      have h1 := hp n (by omega)
      have h2 := h32 (n + 1) (by omega)
      have h3 : 2 ^ (n + 1) = 2 ^ n + 2 ^ n := by rw [Nat.pow_succ]; omega
      have h4 : 0 < 2 ^ n := Nat.two_pow_pos n
      have ho : ∀ i, 2 ^ n - 1 ≤ i → i < 2 ^ n - 1 + 2 ^ n → i ≠ pos n → rt_bt (w &&& T) i = false := by
        intro i i1 i2 i3
        refine off i (by omega) (fun b hb e => ?_)
        have h5 := hp b hb
        rcases Nat.lt_trichotomy b n with z | z | z
        · have := rt_pw (a := b + 1) (b := n) (by omega)
          omega
        · exact i3 (by rw [e, z])
        · have := rt_pw (a := n + 1) (b := b) (by omega)
          omega
      have e1 : rt_cnt (rt_bt (w &&& T)) (2 ^ n - 1 + 2 ^ n) = rt_cnt (rt_bt (w &&& T)) (2 ^ n - 1) + (if rt_bt (w &&& T) (pos n) = true then 1 else 0) := rt_cnt_one ho h1.1 (by omega)
      rw [show 2 ^ (n + 1) - 1 = (2 ^ n - 1) + 2 ^ n by omega, e1, ih (by omega), at_pos n (by omega), rt_cnt]
  have h2 := h32 N (Nat.le_refl N)
  have h4 : 0 < 2 ^ N := Nat.two_pow_pos N
  rw [← main N (Nat.le_refl N), show 31 = (2 ^ N - 1) + (32 - 2 ^ N) by omega]
  refine rt_cnt_skip _ (fun i h1 h3 => off i (by omega) (fun b hb e => ?_))
  have h5 := hp b hb
  have := rt_pw (a := b + 1) (b := N) (by omega)
  omega
end
section
/-! the small methods -/
theorem rt_isAddr {post : Int32 → Prop} {a : Nat} (ha : a < 256) (h : post 1) : wpX_isAddress post () (nI a) :=
  br_f (nI_pos (by omega)) (pk_le 256 a (fun z => absurd z (by omega)) (fun _ => h))
theorem rt_isBeg {post : Int32 → Prop} {a b : Nat} (ha : a < 256) (hb : b < 9) (hz : nI a &&& ((255 : Int32) >>> (nI b &&& 31)) = 0) (h : post 1) : wpX_isBeginning post () (nI a) (nI b) := by
  unfold wpX_isBeginning
  refine br_f (nI_pos (by omega)) (pk_lt 8 b (fun z => absurd z (by omega)) (fun _ => ?_))
  refine rt_isAddr ha ?_
  exact br_f (by decide) (br_t hz h)
theorem rt_place {post : Int32 → Prop} {a b : Nat} (ha : a < 256) (hb : b < 9) (h : post (nI (rt_pl a b))) : wpX_place post () (nI a) (nI b) := by
  unfold wpX_place
  refine pk_le 4 b (fun z => ?_) (fun z => ?_)
  · obtain ⟨c, rfl⟩ : ∃ c, b = c + 4 := ⟨b - 4, by omega⟩
    refine nm_r (e' := nI c) (by rw [show (4 : Int32) = nI 4 from rfl, pk_sub (by omega), Nat.add_sub_cancel]) ?_
    rw [rt_plL c (by omega) a ha]
    exact h
  · rw [rt_plT b z a ha]
    exact h
theorem rt_bit {x : Int32} {k : Nat} (hk : k < 32) {A B : Prop} (h1 : rt_bt x k = false → A) (h2 : rt_bt x k = true → B) : (((x >>> (nI k &&& 31)) &&& 1) = 0 → A) ∧ (¬ ((x >>> (nI k &&& 31)) &&& 1) = 0 → B) := by
  rw [rt_test x hk]
  cases hx : rt_bt x k with
  | false => exact br_t (by rw [if_neg (by decide)]) (h1 hx)
  | true => exact br_f (by rw [if_pos rfl]; decide) (h2 hx)
/-- there is a route for the b bits' beginning of a; its goal -/
def rt_hs (tb : Int32) (a2 : Nat → Int32) (a b : Nat) : Bool := if b < 4 then rt_bt tb (rt_pl a b) else rt_bt (a2 (a / 16)) (rt_pl a b)
def rt_go (a1 a3 : Nat → Int32) (a b : Nat) : Int32 := if b < 4 then a1 (rt_pl a b) else a3 (a / 16 * 31 + rt_pl a b)
theorem rt_hsT {tb : Int32} {a2 : Nat → Int32} {a b : Nat} (h : b < 4) : rt_hs tb a2 a b = rt_bt tb (rt_pl a b) := if_pos h
theorem rt_hsL {tb : Int32} {a2 : Nat → Int32} {a b : Nat} (h : 4 ≤ b) : rt_hs tb a2 a b = rt_bt (a2 (a / 16)) (rt_pl a b) := if_neg (by omega)
theorem rt_goT {a1 a3 : Nat → Int32} {a b : Nat} (h : b < 4) : rt_go a1 a3 a b = a1 (rt_pl a b) := if_pos h
theorem rt_goL {a1 a3 : Nat → Int32} {a b : Nat} (h : 4 ≤ b) : rt_go a1 a3 a b = a3 (a / 16 * 31 + rt_pl a b) := if_neg (by omega)
theorem rt_has {post : Int32 → Prop} {tb c : Int32} {a1 a2 a3 : Nat → Int32} {a b : Nat} (ha : a < 256) (hb : b < 9) (h0 : rt_hs tb a2 a b = false → post 0) (h1 : rt_hs tb a2 a b = true → post 1) : wpX_has post (tb, c, a1, a2, a3) (nI a) (nI b) := by
  have h31 := (rt_pl31 ha hb).1
  unfold wpX_has
  dsimp only
  refine rt_place ha hb ?_
  refine pk_le 4 b (fun z => ⟨pk_in (a / 16) 16 (by omega) (rt_sh4 ha), ?_⟩) (fun z => ?_)
  · rw [rt_sh4 ha, nI_clamp (show a / 16 < 2 ^ 31 by omega)]
    rw [rt_hsL z] at h0 h1
    unfold wX_has_26
    exact rt_bit (by omega) h0 h1
  · rw [rt_hsT z] at h0 h1
    unfold wX_has_26
    exact rt_bit (by omega) h0 h1
theorem rt_ix {a b : Nat} (ha : a < 256) : ((nI a >>> ((4 : Int32) &&& 31)) * 31) + nI (rt_pl a b) = nI (a / 16 * 31 + rt_pl a b) := by
  rw [rt_sh4 ha, show (31 : Int32) = nI 31 from rfl, pk_mul, nI_add]
theorem rt_goalOf {post : Int32 → Prop} {tb c : Int32} {a1 a2 a3 : Nat → Int32} {a b : Nat} (ha : a < 256) (hb : b < 9) (h : post (rt_go a1 a3 a b)) : wpX_goalOf post (tb, c, a1, a2, a3) (nI a) (nI b) := by
  have h31 := rt_pl31 ha hb
  unfold wpX_goalOf
  dsimp only
  refine rt_place ha hb ?_
  rw [rt_ix ha]
  refine pk_le 4 b (fun z => ⟨pk_in (a / 16 * 31 + rt_pl a b) 496 (by omega), ?_⟩) (fun z => ⟨pk_in (rt_pl a b) 15 (h31.2 z), ?_⟩)
  · rw [nI_clamp (by omega)]
    rw [rt_goL z] at h
    exact h
  · rw [nI_clamp (by omega)]
    rw [rt_goT z] at h
    exact h
/-! highest, bitsAt -/
theorem rt_highest {post : Int32 → Prop} {x : Int32} {k : Nat} (hk : k ≤ 30) (h1 : k = 0 ∨ rt_bt x k = true) (h2 : ∀ j, k < j → j ≤ 30 → rt_bt x j = false) (h : post (nI k)) : wpX_highest post () x := by
  have main : ∀ n i, k ≤ i → i ≤ 30 → i - k < n → wX_highest_3 post x n (nI i) := by
    intro n
    induction n with
    | zero => intro i _ _ z; exact absurd z (by omega)
    | succ n ih =>
      intro i i1 i2 i3
      refine pk_le i 0 (fun z => ?_) (fun z => rt_bit (by omega) (fun e => ?_) (fun e => ?_))
      · rw [show i = k by omega]
        exact h
      · have hne : i ≠ k := by
          intro q
          rcases h1 with q2 | q2
          · omega
          · rw [q, q2] at e
            exact absurd e (by decide)
        exact nm_r (sb_m1 z) (ih (i - 1) (by omega) (by omega) (by omega))
      · by_cases q : i = k
        · rw [q]
          exact h
        · rw [h2 i (by omega) i2] at e
          exact absurd e (by decide)
  exact ⟨31, main 31 30 hk (by omega) (by omega)⟩
theorem rt_bitsAt {post : Int32 → Prop} {k d : Nat} (hd : d ≤ 4) (h1 : 2 ^ d - 1 ≤ k) (h2 : k < 2 ^ (d + 1) - 1) (h : post (nI d)) : wpX_bitsAt post () (nI k) := by
  have h5 : 2 ^ (d + 1) ≤ 32 := rt_pw (b := 5) (by omega)
  have main : ∀ n i, i ≤ d → d - i < n → wX_bitsAt_2 post (nI k) n (nI i) := by
    intro n
    induction n with
    | zero => intro i _ z; exact absurd z (by omega)
    | succ n ih =>
      intro i i1 i2
      have h6 : 2 ^ (i + 1) ≤ 2 ^ (d + 1) := rt_pw (by omega)
      refine pk_lt k (2 ^ (i + 1) - 1) (fun z => ?_) (fun z => ?_) rfl (rt_p1 i (by omega)) (by omega) (by omega)
      · have : i = d := by
          rcases Nat.lt_or_ge i d with q | q
          · have h7 : 2 ^ (i + 1) ≤ 2 ^ d := rt_pw (by omega)
            omega
          · omega
        rw [this]
        exact h
      · have : i ≠ d := by
          intro q
          rw [q] at z
          omega
        exact nm_r (nI_1 i) (ih (i + 1) (by omega) (by omega))
  exact ⟨6, main 6 0 (by omega) (by omega)⟩
/-- the rows of a set of bits: nothing, or the highest row -/
theorem rt_hb {w T M : Int32} {N m : Nat} {pos : Nat → Nat} (hN : N ≤ 5) (hm : m ≤ N) (hp : ∀ b, b < N → 2 ^ b - 1 ≤ pos b ∧ pos b < 2 ^ (b + 1) - 1) (hT : ∀ i, i < 32 → (rt_bt T i = true ↔ ∃ b, b < N ∧ i = pos b)) (hM : ∀ i, i < 32 → rt_bt M i = decide (i < 2 ^ m - 1)) :
    ((w &&& T) &&& M = 0 ∧ ∀ b, b < m → rt_bt w (pos b) = false) ∨ (¬ (w &&& T) &&& M = 0 ∧ ∃ b, b < m ∧ rt_bt w (pos b) = true ∧ (∀ j, b < j → j < m → rt_bt w (pos j) = false) ∧ ∀ post : Int32 → Prop, post (nI b) → wpX_highest (fun r => wpX_bitsAt post () r) () ((w &&& T) &&& M)) := by
  have h32 : ∀ b, b ≤ N → 2 ^ b ≤ 32 := fun b hb => rt_pw (b := 5) (by omega)
  have on : ∀ b, b < m → rt_bt ((w &&& T) &&& M) (pos b) = rt_bt w (pos b) := by
    intro b hb
    have h1 := hp b (by omega)
    have h2 := h32 (b + 1) (by omega)
    have h3 : 2 ^ (b + 1) ≤ 2 ^ m := rt_pw (by omega)
    rw [rt_and, rt_and, (hT (pos b) (by omega)).mpr ⟨b, by omega, rfl⟩, hM (pos b) (by omega), decide_eq_true (by omega), Bool.and_true, Bool.and_true]
  have off : ∀ i, i < 32 → rt_bt ((w &&& T) &&& M) i = true → ∃ b, b < m ∧ i = pos b ∧ rt_bt w (pos b) = true := by
    intro i hi hb
    rw [rt_and, rt_and, Bool.and_eq_true, Bool.and_eq_true] at hb
    obtain ⟨⟨c1, c2⟩, c3⟩ := hb
    obtain ⟨b, e1, e2⟩ := (hT i hi).mp c2
    rw [hM i hi] at c3
    have c4 : i < 2 ^ m - 1 := of_decide_eq_true c3
    refine ⟨b, ?_, e2, by rw [← e2]; exact c1⟩
    rcases Nat.lt_or_ge b m with z | z
    · exact z
    · have := rt_pw z
      have := hp b e1
      omega
  rcases rt_cases (fun b => rt_bt w (pos b)) (fun _ => 0) m with ⟨b, k1, k2, k3, _, _⟩ | ⟨k1, _, _⟩
  · have hpb := hp b (by omega)
    have h2 := h32 (b + 1) (by omega)
    refine Or.inr ⟨?_, b, k1, k2, k3, ?_⟩
    · intro z
      have := on b k1
      rw [z, rt_0] at this
      exact absurd (this.trans k2) (by decide)
    · intro post hpost
      refine rt_highest (k := pos b) (by omega) (Or.inr ((on b k1).trans k2)) ?_ (rt_bitsAt (by omega) hpb.1 hpb.2 hpost)
      intro j j1 j2
      cases hj : rt_bt ((w &&& T) &&& M) j with
      | false => rfl
      | true =>
        obtain ⟨c, c1, c2, c3⟩ := off j (by omega) hj
        have hc := hp c (by omega)
        rcases Nat.lt_trichotomy b c with z | z | z
        · have := k3 c z c1
          exact absurd (c3.symm.trans this) (by decide)
        · rw [z] at j1
          omega
        · have := rt_pw (a := c + 1) (b := b) (by omega)
          omega
  · refine Or.inl ⟨?_, k1⟩
    apply rt_ext
    intro i hi
    rw [rt_0]
    cases hj : rt_bt ((w &&& T) &&& M) i with
    | false => rfl
    | true =>
      obtain ⟨c, c1, c2, c3⟩ := off i hi hj
      exact absurd (c3.symm.trans (k1 c c1)) (by decide)
/-! the places of an address -/
theorem rt_tpB {a : Nat} (ha : a < 256) (i : Nat) (hi : i < 32) : rt_bt (((1 ||| ((2 : Int32) <<< ((nI a >>> ((7 : Int32) &&& 31)) &&& 31))) ||| ((8 : Int32) <<< ((nI a >>> ((6 : Int32) &&& 31)) &&& 31))) ||| ((128 : Int32) <<< ((nI a >>> ((5 : Int32) &&& 31)) &&& 31))) i = true ↔ ∃ b, b < 4 ∧ i = rt_pl a b := by
  rw [pk_shrN (n := a) (by omega) ((7 : Int32) &&& 31) 7 (by decide), pk_shrN (n := a) (by omega) ((6 : Int32) &&& 31) 6 (by decide), pk_shrN (n := a) (by omega) ((5 : Int32) &&& 31) 5 (by decide)]
  rw [rt_or, rt_or, rt_or, rt_1 i hi, rt_s2 (a / 2 ^ 7) (by omega) i hi, rt_s8 (a / 2 ^ 6) (by omega) i hi, rt_s128 (a / 2 ^ 5) (by omega) i hi]
  simp only [Bool.or_eq_true, decide_eq_true_eq]
  have e0 : rt_pl a 0 = 0 := by unfold rt_pl; simp; omega
  have e1 : rt_pl a 1 = 1 + a / 2 ^ 7 := rfl
  have e2 : rt_pl a 2 = 3 + a / 2 ^ 6 := rfl
  have e3 : rt_pl a 3 = 7 + a / 2 ^ 5 := rfl
  constructor
  · rintro (((h | h) | h) | h)
    · exact ⟨0, by omega, by rw [h, e0]⟩
    · exact ⟨1, by omega, by rw [h, e1]⟩
    · exact ⟨2, by omega, by rw [h, e2]⟩
    · exact ⟨3, by omega, by rw [h, e3]⟩
  · rintro ⟨b, hb, h⟩
    have hb' : b = 0 ∨ b = 1 ∨ b = 2 ∨ b = 3 := by omega
    rcases hb' with q | q | q | q
    · rw [q, e0] at h; exact Or.inl (Or.inl (Or.inl h))
    · rw [q, e1] at h; exact Or.inl (Or.inl (Or.inr h))
    · rw [q, e2] at h; exact Or.inl (Or.inr h)
    · rw [q, e3] at h; exact Or.inr h
theorem rt_lpB {a : Nat} (ha : a < 256) (i : Nat) (hi : i < 32) : rt_bt ((((1 ||| ((2 : Int32) <<< ((nI (a % 16) >>> ((3 : Int32) &&& 31)) &&& 31))) ||| ((8 : Int32) <<< ((nI (a % 16) >>> ((2 : Int32) &&& 31)) &&& 31))) ||| ((128 : Int32) <<< ((nI (a % 16) >>> ((1 : Int32) &&& 31)) &&& 31))) ||| ((1 : Int32) <<< ((15 + nI (a % 16)) &&& 31))) i = true ↔ ∃ b, b < 5 ∧ i = rt_pl a (b + 4) := by
  rw [pk_shrN (n := a % 16) (by omega) ((3 : Int32) &&& 31) 3 (by decide), pk_shrN (n := a % 16) (by omega) ((2 : Int32) &&& 31) 2 (by decide), pk_shrN (n := a % 16) (by omega) ((1 : Int32) &&& 31) 1 (by decide), show (15 : Int32) = nI 15 from rfl, nI_add]
  rw [rt_or, rt_or, rt_or, rt_or, rt_1 i hi, rt_s2 (a % 16 / 2 ^ 3) (by omega) i hi, rt_s8 (a % 16 / 2 ^ 2) (by omega) i hi, rt_s128 (a % 16 / 2 ^ 1) (by omega) i hi, rt_s1 (15 + a % 16) (by omega) i hi]
  simp only [Bool.or_eq_true, decide_eq_true_eq]
  have e0 : rt_pl a 4 = 0 := by unfold rt_pl; simp <;> omega
  have e1 : rt_pl a 5 = 1 + a % 16 / 2 ^ 3 := rfl
  have e2 : rt_pl a 6 = 3 + a % 16 / 2 ^ 2 := rfl
  have e3 : rt_pl a 7 = 7 + a % 16 / 2 ^ 1 := rfl
  have e4 : rt_pl a 8 = 15 + a % 16 := by unfold rt_pl; simp
  constructor
  · rintro ((((h | h) | h) | h) | h)
    · exact ⟨0, by omega, by rw [h, e0]⟩
    · exact ⟨1, by omega, by rw [h, e1]⟩
    · exact ⟨2, by omega, by rw [h, e2]⟩
    · exact ⟨3, by omega, by rw [h, e3]⟩
    · exact ⟨4, by omega, by rw [h, e4]⟩
  · rintro ⟨b, hb, h⟩
    have hb' : b = 0 ∨ b = 1 ∨ b = 2 ∨ b = 3 ∨ b = 4 := by omega
    rcases hb' with q | q | q | q | q
    · rw [q, e0] at h; exact Or.inl (Or.inl (Or.inl (Or.inl h)))
    · rw [q, e1] at h; exact Or.inl (Or.inl (Or.inl (Or.inr h)))
    · rw [q, e2] at h; exact Or.inl (Or.inl (Or.inr h))
    · rw [q, e3] at h; exact Or.inl (Or.inr h)
    · rw [q, e4] at h; exact Or.inr h
theorem rt_a15 {a : Nat} (ha : a < 256) : nI a &&& 15 = nI (a % 16) := pk_andN (by omega) 4 (by decide)
end
section
/-! bitsBelow and what rests on it -/
theorem rt_86 {post : Int32 → Prop} {tb c : Int32} {a1 a2 a3 : Nat → Int32} {a m : Nat} {M T : Int32} (ha : a < 256) (hm : m ≤ 4) (hT : ∀ i, i < 32 → (rt_bt T i = true ↔ ∃ b, b < 4 ∧ i = rt_pl a b)) (hM : ∀ i, i < 32 → rt_bt M i = decide (i < 2 ^ m - 1)) (h : post (rt_mx (rt_hs tb a2 a) m)) : wX_bitsBelow_86 post M (tb &&& T) tb c a1 a2 a3 := by
  unfold wX_bitsBelow_86
  refine nm_e ?_
  rcases rt_hb (w := tb) (T := T) (M := M) (N := 4) (m := m) (pos := rt_pl a) (by omega) hm (fun b hb => rt_plt ha hb) hT hM with ⟨h1, h2⟩ | ⟨h1, b, h2, h3, h4, h5⟩
  · rw [rt_mx_no (fun j hj => by rw [rt_hsT (by omega)]; exact h2 j hj)] at h
    exact br_t h1 h
  · rw [rt_mx_at h2 (by rw [rt_hsT (by omega)]; exact h3) (fun j j1 j2 => by rw [rt_hsT (by omega)]; exact h4 j j1 j2)] at h
    exact br_f h1 (h5 _ h)
theorem rt_34 {post : Int32 → Prop} {tb c : Int32} {a1 a2 a3 : Nat → Int32} {a l m : Nat} (ha : a < 256) (hl : l ≤ 9) (hm : m = min l 4) (h : post (rt_mx (rt_hs tb a2 a) m)) : wX_bitsBelow_34 post (nI a) (nI l) 0 tb c a1 a2 a3 := by
  unfold wX_bitsBelow_34
  refine br_t rfl ?_
  unfold wpX_topPlaces
  refine nm_e ?_
  refine pk_le 4 l (fun z => ?_) (fun z => ?_)
  · exact rt_86 ha (m := 4) (by omega) (rt_tpB ha) rt_32767 (by rw [show 4 = m by omega]; exact h)
  · exact rt_86 ha (m := l) (by omega) (rt_tpB ha) (rt_msk l (by omega)) (by rw [show l = m by omega]; exact h)
theorem rt_bitsBelow {post : Int32 → Prop} {tb c : Int32} {a1 a2 a3 : Nat → Int32} {a l : Nat} (ha : a < 256) (hl : l ≤ 9) (h : post (rt_mx (rt_hs tb a2 a) l)) : wpX_bitsBelow post (tb, c, a1, a2, a3) (nI a) (nI l) := by
  unfold wpX_bitsBelow
  dsimp only
  refine pk_le l 4 (fun z => rt_34 ha hl (m := l) (by omega) h) (fun z => ⟨pk_in (a / 16) 16 (by omega) (rt_sh4 ha), ?_⟩)
  unfold wpX_lowPlaces
  refine nm_r (rt_a15 ha) ?_
  obtain ⟨m, rfl⟩ : ∃ m, l = m + 4 := ⟨l - 4, by omega⟩
  have e : nI (m + 4) - 4 = nI m := by rw [show (4 : Int32) = nI 4 from rfl, pk_sub (by omega), Nat.add_sub_cancel]
  rw [e, rt_sh4 ha, nI_clamp (show a / 16 < 2 ^ 31 by omega)]
  rcases rt_hb (w := a2 (a / 16)) (N := 5) (m := m) (pos := fun b => rt_pl a (b + 4)) (by omega) (by omega) (fun b hb => rt_pll hb) (rt_lpB ha) (rt_msk m (by omega)) with ⟨h1, h2⟩ | ⟨h1, b, h2, h3, h4, h5⟩
  · rw [h1]
    refine rt_34 ha hl (m := 4) (by omega) ?_
    rw [rt_mx_skip (fun j hj => by rw [rt_hsL (by omega)]; exact h2 j hj)] at h
    exact h
  · have hh : rt_mx (rt_hs tb a2 a) (m + 4) = nI (b + 4) := by
      refine rt_mx_at (by omega) (by rw [rt_hsL (by omega)]; exact h3) (fun j j1 j2 => ?_)
      obtain ⟨i, rfl⟩ : ∃ i, j = i + 4 := ⟨j - 4, by omega⟩
      rw [rt_hsL (by omega)]
      exact h4 i (by omega) (by omega)
    rw [hh] at h
    unfold wX_bitsBelow_34
    refine br_f h1 (h5 _ ?_)
    rw [show (4 : Int32) = nI 4 from rfl, nI_add, Nat.add_comm]
    exact h
theorem rt_goalBelow {post : Int32 → Prop} {tb c : Int32} {a1 a2 a3 : Nat → Int32} {a l : Nat} (ha : a < 256) (hl : l ≤ 9) (h : post (rt_gm (rt_hs tb a2 a) (rt_go a1 a3 a) l)) : wpX_goalBelow post (tb, c, a1, a2, a3) (nI a) (nI l) := by
  unfold wpX_goalBelow
  dsimp only
  refine rt_bitsBelow ha hl ?_
  rcases rt_cases (rt_hs tb a2 a) (rt_go a1 a3 a) l with ⟨b, k1, k2, k3, k4, k5⟩ | ⟨k1, k2, k3⟩
  · rw [k4]
    rw [k5] at h
    exact br_t (nI_pos' (by omega)) (rt_goalOf ha (by omega) h)
  · rw [k2]
    rw [k3] at h
    exact br_f (by decide) h
theorem rt_goal {post : Int32 → Prop} {tb c : Int32} {a1 a2 a3 : Nat → Int32} {a : Nat} (ha : a < 256) (h : post (rt_gm (rt_hs tb a2 a) (rt_go a1 a3 a) 9)) : wpX_goal post (tb, c, a1, a2, a3) (nI a) := by
  unfold wpX_goal
  dsimp only
  refine rt_isAddr ha ?_
  exact br_f (by decide) (rt_goalBelow (l := 9) ha (by omega) h)
theorem rt_bits {post : Int32 → Prop} {tb c : Int32} {a1 a2 a3 : Nat → Int32} {a : Nat} (ha : a < 256) (h : post (rt_mx (rt_hs tb a2 a) 9)) : wpX_bits post (tb, c, a1, a2, a3) (nI a) := by
  unfold wpX_bits
  dsimp only
  refine rt_isAddr ha ?_
  exact br_f (by decide) (rt_bitsBelow (l := 9) ha (by omega) h)
theorem rt_ones {post : Int32 → Prop} {x : Int32} (h : post (nI (rt_cnt (rt_bt x) 31))) : wpX_ones post () x := by
  refine pk_loop (σ := Unit) (fun n i _ => wX_ones_4 post x n (nI (rt_cnt (rt_bt x) i)) (nI i)) (fun _ _ => True) 31 0 () (by omega) trivial ?_ ?_
  · intro n _ _
    exact pk_le 31 31 (fun _ => h) (fun z => absurd z (by omega))
  · intro n i _ hi _ hw
    refine pk_le 31 i (fun z => absurd z (by omega)) (fun _ => ?_)
    refine nm_r (e' := nI (rt_cnt (rt_bt x) (i + 1))) ?_ (nm_r (nI_1 i) (hw () trivial))
    rw [rt_test x (by omega), rt_cnt]
    cases rt_bt x i
    · exact Int32.add_zero _
    · exact nI_1 _
theorem rt_matching {post : Int32 → Prop} {tb c : Int32} {a1 a2 a3 : Nat → Int32} {a : Nat} (ha : a < 256) (h : post (nI (rt_cnt (rt_hs tb a2 a) 9))) : wpX_matching post (tb, c, a1, a2, a3) (nI a) := by
  unfold wpX_matching
  dsimp only
  refine rt_isAddr ha ?_
  refine br_f (by decide) ?_
  unfold wpX_topPlaces
  refine nm_e ⟨pk_in (a / 16) 16 (by omega) (rt_sh4 ha), ?_⟩
  unfold wpX_lowPlaces
  refine nm_r (rt_a15 ha) (nm_e ?_)
  rw [rt_sh4 ha, nI_clamp (show a / 16 < 2 ^ 31 by omega)]
  refine rt_ones ?_
  refine rt_ones ?_
  rw [rt_ones_rows (N := 4) (pos := rt_pl a) (by omega) (fun b hb => rt_plt ha hb) (rt_tpB ha), rt_ones_rows (N := 5) (pos := fun b => rt_pl a (b + 4)) (by omega) (fun b hb => rt_pll hb) (rt_lpB ha), nI_add]
  have e1 : rt_cnt (rt_hs tb a2 a) 4 = rt_cnt (fun b => rt_bt tb (rt_pl a b)) 4 := rt_cnt_congr (fun j hj => rt_hsT hj)
  have e2 : rt_cnt (fun b => rt_hs tb a2 a (b + 4)) 5 = rt_cnt (fun b => rt_bt (a2 (a / 16)) (rt_pl a (b + 4))) 5 := rt_cnt_congr (fun j hj => rt_hsL (by omega))
  have e3 : rt_cnt (rt_hs tb a2 a) (5 + 4) = rt_cnt (rt_hs tb a2 a) 4 + rt_cnt (fun b => rt_hs tb a2 a (b + 4)) 5 := rt_cnt_add _ 4 5
  rw [e1, e2] at e3
  rw [← e3]
  exact h
/-! load, exact, idle -/
theorem rt_load {post : Int32 → Prop} {tb c : Int32} {a1 a2 a3 : Nat → Int32} {p b : Nat} (hp : p < 256) (hb : b < 9) (h0 : rt_hs tb a2 (rt_pf p b) b = false → post (-1)) (h1 : rt_hs tb a2 (rt_pf p b) b = true → post (nI (rt_cnt (fun j => decide (rt_mx (rt_hs tb a2 (rt_pf p b + j)) 9 = nI b)) (2 ^ (8 - b))))) : wpX_load post (tb, c, a1, a2, a3) (nI (rt_pf p b)) (nI b) := by
  have hf := rt_pf_lt hp hb
  have h2 : 0 < 2 ^ (8 - b) := Nat.two_pow_pos _
  unfold wpX_load
  dsimp only
  refine rt_isBeg (by omega) hb (rt_pfZ b hb p hp) ?_
  refine br_f (by decide) ?_
  refine rt_has (by omega) hb (fun e => br_t rfl (h0 e)) (fun e => br_f (by decide) ?_)
  refine nm_r (rt_pfL b hb p hp) ?_
  refine pk_loop (σ := Unit) (fun n i _ => wX_load_33 post (nI b) (nI (rt_pf p b + 2 ^ (8 - b) - 1)) tb c a1 a2 a3 n (nI (rt_cnt (fun j => decide (rt_mx (rt_hs tb a2 (rt_pf p b + j)) 9 = nI b)) i)) (nI (rt_pf p b + i))) (fun _ _ => True) (2 ^ (8 - b)) 0 () (by omega) trivial ?_ ?_
  · intro n _ _
    exact pk_lt (rt_pf p b + 2 ^ (8 - b) - 1) (rt_pf p b + 2 ^ (8 - b)) (fun _ => h1 e) (fun z => absurd z (by omega))
  · intro n i _ hi _ hw
    have hw' := hw () trivial
    refine pk_lt (rt_pf p b + 2 ^ (8 - b) - 1) (rt_pf p b + i) (fun z => absurd z (by omega)) (fun _ => ?_)
    refine rt_bitsBelow (l := 9) (by omega) (by omega) ?_
    rw [rt_cnt] at hw'
    refine br_c (fun q => ?_) (fun q => ?_)
    · rw [decide_eq_true q, if_pos rfl] at hw'
      exact nm_r (nI_1 _) (nm_r (nI_1 _) hw')
    · rw [decide_eq_false q, if_neg (by decide)] at hw'
      exact nm_r (Int32.add_zero _) (nm_r (nI_1 _) hw')
theorem rt_exact {post : Int32 → Prop} {tb c : Int32} {a1 a2 a3 : Nat → Int32} {p b : Nat} (hp : p < 256) (hb : b < 9) (h0 : rt_hs tb a2 (rt_pf p b) b = false → post (-1)) (h1 : rt_hs tb a2 (rt_pf p b) b = true → post (rt_go a1 a3 (rt_pf p b) b)) : wpX_exact post (tb, c, a1, a2, a3) (nI (rt_pf p b)) (nI b) := by
  have hf := rt_pf_lt hp hb
  have h2 : 0 < 2 ^ (8 - b) := Nat.two_pow_pos _
  unfold wpX_exact
  dsimp only
  refine rt_isBeg (by omega) hb (rt_pfZ b hb p hp) ?_
  refine br_f (by decide) ?_
  exact rt_has (by omega) hb (fun e => br_t rfl (h0 e)) (fun e => br_f (by decide) (rt_goalOf (by omega) hb (h1 e)))
theorem rt_idle {post : Int32 → Prop} {tb c : Int32} {a1 a2 a3 : Nat → Int32} {p b : Nat} (hp : p < 256) (hb : b < 9) (h0 : rt_hs tb a2 (rt_pf p b) b = false → post 0) (h1 : rt_hs tb a2 (rt_pf p b) b = true → rt_gm (rt_hs tb a2 (rt_pf p b)) (rt_go a1 a3 (rt_pf p b)) b = rt_go a1 a3 (rt_pf p b) b → post 1)
    (h2 : rt_hs tb a2 (rt_pf p b) b = true → ¬ rt_gm (rt_hs tb a2 (rt_pf p b)) (rt_go a1 a3 (rt_pf p b)) b = rt_go a1 a3 (rt_pf p b) b → ¬ nI (rt_cnt (fun j => decide (rt_mx (rt_hs tb a2 (rt_pf p b + j)) 9 = nI b)) (2 ^ (8 - b))) = 0 ∧ post 0) : wpX_idle post (tb, c, a1, a2, a3) (nI (rt_pf p b)) (nI b) := by
  have hf := rt_pf_lt hp hb
  have h3 : 0 < 2 ^ (8 - b) := Nat.two_pow_pos _
  unfold wpX_idle
  dsimp only
  refine rt_isBeg (by omega) hb (rt_pfZ b hb p hp) ?_
  refine br_f (by decide) ?_
  refine rt_has (by omega) hb (fun e => br_t rfl (h0 e)) (fun e => br_f (by decide) ?_)
  refine rt_goalBelow (by omega) (by omega) ?_
  refine rt_goalOf (by omega) hb ?_
  refine br_c (fun q => h1 e q) (fun q => ?_)
  refine rt_load hp hb (fun z => absurd (z.symm.trans e) (by decide)) (fun _ => ?_)
  exact br_f (h2 e q).1 (h2 e q).2
end
section
/-! beginnings: shorter ones follow from longer ones -/
theorem rt_pow {c b : Nat} (hc : c ≤ b) (hb : b < 9) : 2 ^ (8 - c) = 2 ^ (8 - b) * 2 ^ (b - c) := by
  rw [← Nat.pow_add, show 8 - b + (b - c) = 8 - c by omega]
theorem rt_down {a p c b : Nat} (hc : c ≤ b) (hb : b < 9) (h : a / 2 ^ (8 - b) = p / 2 ^ (8 - b)) : a / 2 ^ (8 - c) = p / 2 ^ (8 - c) := by
  rw [rt_pow hc hb, ← Nat.div_div_eq_div_mul, ← Nat.div_div_eq_div_mul, h]
theorem rt_pf_div {p c b : Nat} (hc : c ≤ b) (hb : b < 9) : rt_pf p b / 2 ^ (8 - c) = p / 2 ^ (8 - c) := by
  refine rt_down hc hb ?_
  exact Nat.mul_div_cancel _ (Nat.two_pow_pos _)
/-- the picture: G tells the goal of the b bits' beginning of p, -1 where there is none; no other beginning has a route -/
def rt_mem (G : Nat → Int32) (b : Nat) : Bool := decide (¬ G b = -1)
def rt_ok (p : Nat) (G : Nat → Int32) (tb c : Int32) (a1 a2 a3 : Nat → Int32) : Prop :=
  (∀ a b, a < 256 → b < 9 → rt_hs tb a2 a b = (decide (a / 2 ^ (8 - b) = p / 2 ^ (8 - b)) && rt_mem G b)) ∧ (∀ b, b < 9 → rt_mem G b = true → rt_go a1 a3 p b = G b) ∧ c = nI (rt_cnt (rt_mem G) 9)
theorem rt_ok0 (p : Nat) : rt_ok p (fun _ => -1) 0 0 (fun _ => 0) (fun _ => 0) (fun _ => 0) := by
  have hm : ∀ b, rt_mem (fun _ => -1) b = false := fun b => rfl
  refine ⟨fun a b _ _ => ?_, fun b _ h => absurd h (by rw [hm]; decide), rfl⟩
  rw [hm, Bool.and_false]
  unfold rt_hs
  split
  · exact rt_0 _
  · exact rt_0 _
theorem rt_put39 {post : Int32 → St2 → Prop} {tb c c1 z0 c' : Int32} {a1 a2 a3 : Nat → Int32} {p b h : Nat} (hp : p < 256) (hb : b < 9) (hh : h < 100) (hc : c1 + z0 = c')
    (H : ∀ tb' a1' a2' a3', (∀ a d, a < 256 → d < 9 → rt_hs tb' a2' a d = (rt_hs tb a2 a d || decide (d = b ∧ a / 2 ^ (8 - b) = p / 2 ^ (8 - b)))) → rt_go a1' a3' p b = nI h → (∀ d, d < 9 → d ≠ b → rt_go a1' a3' p d = rt_go a1 a3 p d) → post 1 (tb', c', a1', a2', a3')) :
    wX_put_39 post (nI (rt_pf p b)) (nI b) (nI h) z0 c1 tb c a1 a2 a3 := by
  have hf := rt_pf_lt hp hb
  have h2 : 0 < 2 ^ (8 - b) := Nat.two_pow_pos _
  obtain ⟨e1, e2⟩ := rt_pl_eq hb (rt_pf_div (p := p) (Nat.le_refl b) hb)
  have h31 := rt_pl31 hp hb
  unfold wX_put_39
  refine nm_r hc ?_
  refine rt_place (by omega) hb ?_
  rw [e1, rt_byte h hh]
  refine pk_le 4 b (fun z => ?_) (fun z => ?_)
  · refine nm_r (e' := nI (p / 16)) (by rw [rt_sh4 (by omega), e2 z]) ?_
    have e3 : nI (p / 16) * 31 + nI (rt_pl p b) = nI (p / 16 * 31 + rt_pl p b) := by rw [show (31 : Int32) = nI 31 from rfl, pk_mul, nI_add]
    rw [e3, nI_clamp (show p / 16 < 2 ^ 31 by omega), nI_clamp (show p / 16 * 31 + rt_pl p b < 2 ^ 31 by omega)]
    refine ⟨pk_in (p / 16) 16 (by omega), pk_in (p / 16) 16 (by omega), nm_e ⟨pk_in (p / 16 * 31 + rt_pl p b) 496 (by omega), nm_e (H _ _ _ _ ?_ ?_ ?_)⟩⟩
    · intro a d ha hd
      rcases Nat.lt_or_ge d 4 with q | q
      · rw [rt_hsT q, rt_hsT q, decide_eq_false (by omega), Bool.or_false]
      · rw [rt_hsL q, rt_hsL q]
        by_cases n : a / 16 = p / 16
        · rw [n, pk_us, rt_or, rt_s1 (rt_pl p b) (by omega) (rt_pl a d) (by have := (rt_pl31 ha hd).1; omega)]
          congr 1
          apply decide_eq_decide.mpr
          obtain ⟨d', rfl⟩ : ∃ d', d = d' + 4 := ⟨d - 4, by omega⟩
          obtain ⟨b', rfl⟩ : ∃ b', b = b' + 4 := ⟨b - 4, by omega⟩
          constructor
          · intro g
            have := rt_pl_low (by omega) (by omega) n g
            exact ⟨by omega, this.2⟩
          · rintro ⟨g1, g2⟩
            rw [g1]
            exact (rt_pl_eq hb g2).1
        · rw [pk_un n, decide_eq_false, Bool.or_false]
          rintro ⟨_, g⟩
          exact n ((rt_pl_eq hb g).2 z)
    · rw [rt_goL z, pk_us]
    · intro d hd hne
      rcases Nat.lt_or_ge d 4 with q | q
      · rw [rt_goT q, rt_goT q]
      · rw [rt_goL q, rt_goL q, pk_un]
        intro g
        obtain ⟨d', rfl⟩ : ∃ d', d = d' + 4 := ⟨d - 4, by omega⟩
        obtain ⟨b', rfl⟩ : ∃ b', b = b' + 4 := ⟨b - 4, by omega⟩
        have := rt_pl_low (a := p) (c := p) (b := d') (d := b') (by omega) (by omega) rfl (by omega)
        omega
  · rw [nI_clamp (show rt_pl p b < 2 ^ 31 by omega)]
    refine nm_e ⟨pk_in (rt_pl p b) 15 (h31.2 z), nm_e (H _ _ _ _ ?_ ?_ ?_)⟩
    · intro a d ha hd
      rcases Nat.lt_or_ge d 4 with q | q
      · rw [rt_hsT q, rt_hsT q, rt_or, rt_s1 (rt_pl p b) (by omega) (rt_pl a d) (by have := (rt_pl31 ha hd).1; omega)]
        congr 1
        apply decide_eq_decide.mpr
        constructor
        · intro g
          exact rt_pl_top ha hp q z g
        · rintro ⟨g1, g2⟩
          rw [g1]
          exact (rt_pl_eq hb g2).1
      · rw [rt_hsL q, rt_hsL q, decide_eq_false (by omega), Bool.or_false]
    · rw [rt_goT z, pk_us]
    · intro d hd hne
      rcases Nat.lt_or_ge d 4 with q | q
      · rw [rt_goT q, rt_goT q, pk_un]
        intro g
        exact hne (rt_pl_top hp hp q z g).1
      · rw [rt_goL q, rt_goL q]
theorem rt_nI_ne {h : Nat} (hh : h < 100) : ¬ nI h = -1 := by
  intro e
  have h1 : ¬ nI h < 0 := nI_pos (by omega)
  rw [e] at h1
  exact h1 (by decide)
theorem rt_put {post : Int32 → St2 → Prop} {tb c : Int32} {a1 a2 a3 : Nat → Int32} {p b h : Nat} {G : Nat → Int32} (hp : p < 256) (hb : b < 9) (hh : h < 100) (ok : rt_ok p G tb c a1 a2 a3)
    (H : ∀ tb' c' a1' a2' a3', rt_ok p (upd G b (nI h)) tb' c' a1' a2' a3' → post 1 (tb', c', a1', a2', a3')) : wpX_put post (tb, c, a1, a2, a3) (nI (rt_pf p b)) (nI b) (nI h) := by
  have hf := rt_pf_lt hp hb
  have h2 : 0 < 2 ^ (8 - b) := Nat.two_pow_pos _
  obtain ⟨k1, k2, k3⟩ := ok
  have hm : ∀ j, rt_mem (upd G b (nI h)) j = (rt_mem G j || decide (j = b)) := by
    intro j
    unfold rt_mem
    by_cases e : j = b
    · rw [e, pk_us, decide_eq_true (rt_nI_ne hh), decide_eq_true (rfl : b = b), Bool.or_true]
    · rw [pk_un e, decide_eq_false e, Bool.or_false]
  have hc := rt_cnt_put (f := rt_mem G) (g := rt_mem (upd G b (nI h))) hb (fun j _ => hm j)
  have hs : rt_hs tb a2 (rt_pf p b) b = rt_mem G b := by
    rw [k1 _ b (by omega) hb, decide_eq_true (rt_pf_div (Nat.le_refl b) hb), Bool.true_and]
  have last : ∀ z0 : Int32, c + z0 = nI (rt_cnt (rt_mem (upd G b (nI h))) 9) → wX_put_39 post (nI (rt_pf p b)) (nI b) (nI h) z0 c tb c a1 a2 a3 := by
    intro z0 hz
    refine rt_put39 hp hb hh hz (fun tb' a1' a2' a3' g1 g2 g3 => H _ _ _ _ _ ⟨fun a d ha hd => ?_, fun d hd hd2 => ?_, rfl⟩)
    · rw [g1 a d ha hd, k1 a d ha hd, hm d]
      by_cases e : d = b
      · rw [e]
        cases rt_mem G b <;> simp
      · rw [decide_eq_false e, decide_eq_false (show ¬ (d = b ∧ a / 2 ^ (8 - b) = p / 2 ^ (8 - b)) from fun q => e q.1), Bool.or_false, Bool.or_false]
    · by_cases e : d = b
      · rw [e, pk_us, g2]
      · rw [pk_un e, g3 d hd e]
        rw [hm d, decide_eq_false e, Bool.or_false] at hd2
        exact k2 d hd hd2
  unfold wpX_put
  dsimp only
  refine rt_isBeg (by omega) hb (rt_pfZ b hb p hp) ?_
  refine br_f (by decide) (br_f (nI_pos (by omega)) (pk_le h 99 (fun _ => ?_) (fun z => absurd z (by omega))))
  rw [hs.symm] at hc
  refine rt_has (by omega) hb (fun e => br_t rfl (last 1 ?_)) (fun e => br_f (by decide) (last 0 ?_))
  · rw [hc, e, if_neg (by decide), k3, nI_1]
  · rw [hc, e, if_pos rfl, k3, Nat.add_zero]
    exact Int32.add_zero _
end
section
/-! the law's own helpers -/
theorem rt_nextU {post : Int32 → Prop} {b r b0 b1 b2 : Nat} (hb : b < 9) (h0 : b0 < 9) (h1 : b1 < 9) (h2 : b2 < 9) (hr : b < r) (hr9 : r ≤ 9) (hin : r < 9 → r = b0 ∨ r = b1 ∨ r = b2) (hout : ∀ j, b < j → j < r → ¬ (j = b0 ∨ j = b1 ∨ j = b2)) (h : post (nI r)) : wpL_next post () (nI b) (nI b0) (nI b1) (nI b2) 1 := by
  unfold wpL_next
  refine nm_r (nI_1 b) ?_
  have main : ∃ n, (fun n i (_ : Unit) => wL_next_9 post (nI b0) (nI b1) (nI b2) 1 n (nI (min (b + 1 + i) r)) (nI i)) n 0 () := by
    refine pk_loop (σ := Unit) (fun n i _ => wL_next_9 post (nI b0) (nI b1) (nI b2) 1 n (nI (min (b + 1 + i) r)) (nI i)) (fun _ _ => True) 9 0 () (by omega) trivial ?_ ?_
    · intro n _ _
      refine pk_le 9 9 (fun _ => ?_) (fun z => absurd z (by omega))
      rw [show min (b + 1 + 9) r = r by omega]
      exact h
    · intro n i _ hi _ hw
      have hw' : wL_next_9 post (nI b0) (nI b1) (nI b2) 1 n (nI (min (b + 1 + (i + 1)) r)) (nI (i + 1)) := hw () trivial
      show wL_next_9 post (nI b0) (nI b1) (nI b2) 1 (n + 1) (nI (min (b + 1 + i) r)) (nI i)
      refine pk_le 9 i (fun z => absurd z (by omega)) (fun _ => br_f (nI_pos (by omega)) ?_)
      rcases Nat.lt_or_ge (b + 1 + i) r with q | q
      · have ho := hout (b + 1 + i) (by omega) q
        rw [show min (b + 1 + (i + 1)) r = b + 1 + i + 1 by omega] at hw'
        rw [show min (b + 1 + i) r = b + 1 + i by omega]
        exact pk_lt 8 (b + 1 + i) (fun z => absurd z (by omega)) (fun _ => pk_eq (b + 1 + i) b0 (fun z => absurd (Or.inl z) ho) (fun _ => pk_eq (b + 1 + i) b1 (fun z => absurd (Or.inr (Or.inl z)) ho) (fun _ => pk_eq (b + 1 + i) b2 (fun z => absurd (Or.inr (Or.inr z)) ho) (fun _ => nm_r (nI_1 _) (nm_r (nI_1 i) hw')))))
      · rw [show min (b + 1 + (i + 1)) r = r by omega] at hw'
        rw [show min (b + 1 + i) r = r by omega]
        exact pk_lt 8 r (fun z => nm_r (Int32.add_zero _) (nm_r (nI_1 i) hw')) (fun z => pk_eq r b0 (fun _ => nm_r (Int32.add_zero _) (nm_r (nI_1 i) hw')) (fun y0 => pk_eq r b1 (fun _ => nm_r (Int32.add_zero _) (nm_r (nI_1 i) hw')) (fun y1 => pk_eq r b2 (fun _ => nm_r (Int32.add_zero _) (nm_r (nI_1 i) hw')) (fun y2 => absurd (hin (by omega)) (by omega)))))
  have e : min (b + 1 + 0) r = b + 1 := by omega
  dsimp only at main
  rw [e] at main
  exact main
theorem rt_nextD {post : Int32 → Prop} {b b0 b1 b2 : Nat} {f : Nat → Bool} (hb : b < 9) (h0 : b0 < 9) (h1 : b1 < 9) (h2 : b2 < 9) (hf : ∀ j, j < 9 → (f j = true ↔ j = b0 ∨ j = b1 ∨ j = b2)) (h : post (rt_mx f b)) : wpL_next post () (nI b) (nI b0) (nI b1) (nI b2) (-1) := by
  unfold wpL_next
  refine nm_e ?_
  have key : ∀ t, t ≤ b → (0 < t → t - 1 = b0 ∨ t - 1 = b1 ∨ t - 1 = b2) → (∀ j, t ≤ j → j < b → ¬ (j = b0 ∨ j = b1 ∨ j = b2)) → post (nI t + (-1)) → ∃ n, wL_next_9 post (nI b0) (nI b1) (nI b2) (-1) n (nI b + (-1)) 0 := by
    intro t ht hin hout hpost
    have main : ∃ n, (fun n i (_ : Unit) => wL_next_9 post (nI b0) (nI b1) (nI b2) (-1) n (nI (max (b - i) t) + (-1)) (nI i)) n 0 () := by
      refine pk_loop (σ := Unit) (fun n i _ => wL_next_9 post (nI b0) (nI b1) (nI b2) (-1) n (nI (max (b - i) t) + (-1)) (nI i)) (fun _ _ => True) 9 0 () (by omega) trivial ?_ ?_
      · intro n _ _
        refine pk_le 9 9 (fun _ => ?_) (fun z => absurd z (by omega))
        rw [show max (b - 9) t = t by omega]
        exact hpost
      · intro n i _ hi _ hw
        have hw' : wL_next_9 post (nI b0) (nI b1) (nI b2) (-1) n (nI (max (b - (i + 1)) t) + (-1)) (nI (i + 1)) := hw () trivial
        show wL_next_9 post (nI b0) (nI b1) (nI b2) (-1) (n + 1) (nI (max (b - i) t) + (-1)) (nI i)
        refine pk_le 9 i (fun z => absurd z (by omega)) (fun _ => ?_)
        rcases Nat.lt_or_ge t (b - i) with q | q
        · obtain ⟨u, hu⟩ : ∃ u, b - i = u + 1 := ⟨b - i - 1, by omega⟩
          have ho := hout u (by omega) (by omega)
          rw [show max (b - (i + 1)) t = u by omega] at hw'
          rw [show max (b - i) t = u + 1 by omega, pk_m1]
          refine br_f (nI_pos (by omega)) ?_
          exact pk_lt 8 u (fun z => absurd z (by omega)) (fun _ => pk_eq u b0 (fun z => absurd (Or.inl z) ho) (fun _ => pk_eq u b1 (fun z => absurd (Or.inr (Or.inl z)) ho) (fun _ => pk_eq u b2 (fun z => absurd (Or.inr (Or.inr z)) ho) (fun _ => nm_e (nm_r (nI_1 i) hw')))))
        · rw [show max (b - (i + 1)) t = t by omega] at hw'
          rw [show max (b - i) t = t by omega]
          rcases Nat.eq_zero_or_pos t with s | s
          · rw [s] at hw' ⊢
            exact br_t (by decide) (nm_r (Int32.add_zero _) (nm_r (nI_1 i) hw'))
          · obtain ⟨u, rfl⟩ : ∃ u, t = u + 1 := ⟨t - 1, by omega⟩
            rw [pk_m1] at hw' ⊢
            have hi2 := hin s
            rw [Nat.add_sub_cancel] at hi2
            refine br_f (nI_pos (by omega)) ?_
            exact pk_lt 8 u (fun z => absurd z (by omega)) (fun z => pk_eq u b0 (fun _ => nm_r (Int32.add_zero _) (nm_r (nI_1 i) hw')) (fun y0 => pk_eq u b1 (fun _ => nm_r (Int32.add_zero _) (nm_r (nI_1 i) hw')) (fun y1 => pk_eq u b2 (fun _ => nm_r (Int32.add_zero _) (nm_r (nI_1 i) hw')) (fun y2 => absurd hi2 (by omega)))))
    have e : max (b - 0) t = b := by omega
    dsimp only at main
    rw [e] at main
    exact main
  rcases rt_cases f (fun _ => 0) b with ⟨s, k1, k2, k3, k4, _⟩ | ⟨k1, k2, _⟩
  · rw [k4] at h
    refine key (s + 1) (by omega) (fun _ => (hf s (by omega)).mp k2) (fun j j1 j2 => ?_) (by rw [pk_m1]; exact h)
    intro z
    exact absurd ((k3 j (by omega) j2).symm.trans ((hf j (by omega)).mpr z)) (by decide)
  · rw [k2] at h
    refine key 0 (by omega) (fun z => absurd z (by omega)) (fun j j1 j2 => ?_) (by exact h)
    intro z
    exact absurd ((k1 j j2).symm.trans ((hf j (by omega)).mpr z)) (by decide)
/-- the bits that two addresses share -/
theorem rt_shared {p q s : Nat} (hp : p < 256) (hq : q < 256) (hs : s ≤ 8) (h1 : ∀ j, j < s → p / 2 ^ (7 - j) % 2 = q / 2 ^ (7 - j) % 2) (h2 : s < 8 → ¬ p / 2 ^ (7 - s) % 2 = q / 2 ^ (7 - s) % 2) : ∀ b, b < 9 → (b ≤ s ↔ q / 2 ^ (8 - b) = p / 2 ^ (8 - b)) := by
  have up : ∀ b, b ≤ s → q / 2 ^ (8 - b) = p / 2 ^ (8 - b) := by
    intro b
    induction b with
    | zero => intro _; show q / 256 = p / 256; omega
    | succ b ih =>
      intro hb
      have i1 := ih (by omega)
      have i2 := h1 b (by omega)
      rw [show 2 ^ (8 - b) = 2 ^ (7 - b) * 2 by rw [← Nat.pow_succ, show (7 - b).succ = 8 - b by omega], ← Nat.div_div_eq_div_mul, ← Nat.div_div_eq_div_mul] at i1
      rw [show 8 - (b + 1) = 7 - b by omega]
      omega
  intro b hb
  refine ⟨up b, fun e => ?_⟩
  rcases Nat.lt_or_ge s b with z | z
  · have := rt_down (c := s + 1) (by omega) hb e
    rw [show 8 - (s + 1) = 7 - s by omega] at this
    exact absurd (by rw [this]) (h2 (by omega))
  · exact z
/-- the law's turn behind the calls -/
theorem rt_434A {post : Int32 → St0 → Prop} {mc ms : Nat} {J : Int32 → Int32 → Int32 → Int32 → Int32 → Prop} {x9 x10 x11 x12 x13 x14 x15 x16 x17 x18 x19 x20 x21 x22 x23 : Int32} {kc ks : Nat} {tb c : Int32} {a1 a2 a3 : Nat → Int32} (h : J x18 x19 x20 x21 (x22 + 1)) : wL_lawOf_434 post mc ms J x9 x10 x11 x12 x13 x14 x15 x16 x17 x18 x19 x20 x21 x22 x23 0 0 0 kc ks tb c a1 a2 a3 := by
  unfold wL_lawOf_434
  refine br_t rfl (br_t rfl ?_)
  unfold wL_lawOf_451
  refine nm_r (Int32.add_zero _) (br_t rfl ?_)
  unfold wL_lawOf_472 wL_lawOf_473
  refine nm_r (Int32.add_zero _) (br_t rfl ?_)
  unfold wL_lawOf_493 wL_lawOf_495
  exact br_t rfl (nm_e h)
theorem rt_434B {post : Int32 → St0 → Prop} {mc ms : Nat} {J : Int32 → Int32 → Int32 → Int32 → Int32 → Prop} {x9 x10 x11 x12 x13 x14 x15 x16 x18 x19 x20 x21 x23 z : Int32} {s b kc ks : Nat} {tb c : Int32} {a1 a2 a3 : Nat → Int32} (hs : s ≤ 8) (hb : b < 9) (h1 : s < b → J x18 x19 x20 (x21 + 1) (nI b + 1)) (h2 : b ≤ s → J (nI b) x23 (x20 + 1) (x21 + 1) (nI b + 1)) : wL_lawOf_434 post mc ms J x9 x10 x11 x12 x13 x14 x15 x16 (nI s) x18 x19 x20 x21 (nI b) x23 1 z z kc ks tb c a1 a2 a3 := by
  have n1 : ¬ (1 : Int32) = 0 := by decide
  unfold wL_lawOf_434
  refine br_t rfl (br_f n1 ?_)
  unfold wL_lawOf_451
  refine nm_e (br_f n1 (pk_lt s b (fun q => ?_) (fun q => ?_)))
  · unfold wL_lawOf_472 wL_lawOf_473
    refine nm_r (Int32.add_zero _) (br_f n1 (br_t (nI_lt q (by omega)) ?_))
    unfold wL_lawOf_493 wL_lawOf_495
    exact br_f n1 (br_t (nI_lt q (by omega)) (nm_e (h1 q)))
  · unfold wL_lawOf_473
    refine nm_e (br_f n1 (br_f (nI_nlt q (by omega)) ?_))
    unfold wL_lawOf_495
    exact br_f n1 (br_f (nI_nlt q (by omega)) (nm_e (h2 q)))
end
section
/-! how many addresses a route of the picture takes -/
theorem rt_div {x d k : Nat} (hd : 0 < d) : x / d = k ↔ k * d ≤ x ∧ x < k * d + d := by
  constructor
  · intro e
    have h1 := Nat.div_add_mod x d
    have h2 := Nat.mod_lt x hd
    rw [e, Nat.mul_comm] at h1
    omega
  · rintro ⟨h1, h2⟩
    exact Nat.div_eq_of_lt_le h1 (by rw [Nat.add_mul, Nat.one_mul]; exact h2)
theorem rt_loadN {p b r : Nat} {G : Nat → Int32} {tb c : Int32} {a1 a2 a3 : Nat → Int32} (hp : p < 256) (hb : b < 9) (ok : rt_ok p G tb c a1 a2 a3) (hm : rt_mem G b = true) (hr : b < r) (hr9 : r ≤ 9) (hin : r < 9 → rt_mem G r = true) (hout : ∀ j, b < j → j < r → rt_mem G j = false) :
    rt_cnt (fun j => decide (rt_mx (rt_hs tb a2 (rt_pf p b + j)) 9 = nI b)) (2 ^ (8 - b)) = 2 ^ (8 - b) - (if r < 9 then 2 ^ (8 - r) else 0) := by
  obtain ⟨k1, _, _⟩ := ok
  have hf := rt_pf_lt hp hb
  have h2 : 0 < 2 ^ (8 - b) := Nat.two_pow_pos _
  have hφ : ∀ j, j < 2 ^ (8 - b) → ((fun j => decide (rt_mx (rt_hs tb a2 (rt_pf p b + j)) 9 = nI b)) j = true ↔ ¬ (r < 9 ∧ (rt_pf p b + j) / 2 ^ (8 - r) = p / 2 ^ (8 - r))) := by
    intro j hj
    show decide (rt_mx (rt_hs tb a2 (rt_pf p b + j)) 9 = nI b) = true ↔ _
    rw [decide_eq_true_eq]
    have ha : rt_pf p b + j < 256 := by omega
    have hab : (rt_pf p b + j) / 2 ^ (8 - b) = p / 2 ^ (8 - b) := (rt_div h2).mpr ⟨Nat.le_add_right _ _, Nat.add_lt_add_left hj _⟩
    have hsb : rt_hs tb a2 (rt_pf p b + j) b = true := by rw [k1 _ b ha hb, hm, decide_eq_true hab, Bool.and_true]
    constructor
    · rintro e ⟨q1, q2⟩
      have hsr : rt_hs tb a2 (rt_pf p b + j) r = true := by rw [k1 _ r ha q1, hin q1, decide_eq_true q2, Bool.and_true]
      rcases rt_cases (rt_hs tb a2 (rt_pf p b + j)) (fun _ => 0) 9 with ⟨d, d1, d2, d3, d4, _⟩ | ⟨d1, _, _⟩
      · rw [d4] at e
        have e' := (nI_eq (by omega) (by omega)).mp e
        exact absurd ((d3 r (by omega) q1).symm.trans hsr) (by decide)
      · exact absurd ((d1 r q1).symm.trans hsr) (by decide)
    · intro no
      refine rt_mx_at hb hsb (fun i i1 i2 => ?_)
      rw [k1 _ i ha i2]
      rcases Nat.lt_or_ge i r with z | z
      · rw [hout i i1 z, Bool.and_false]
      · rw [decide_eq_false, Bool.false_and]
        intro q
        exact no ⟨by omega, rt_down z i2 q⟩
  rcases Nat.lt_or_ge r 9 with z | z
  · rw [if_pos z]
    have h3 : 0 < 2 ^ (8 - r) := Nat.two_pow_pos _
    have f1 := (rt_div h2).mp (rt_pf_div (p := p) (Nat.le_of_lt hr) z)
    have f2 : (rt_pf p r + 2 ^ (8 - r) - 1) / 2 ^ (8 - r) = p / 2 ^ (8 - r) := (rt_div h3).mpr ⟨show rt_pf p r ≤ _ by omega, show _ < rt_pf p r + _ by omega⟩
    have f3 := (rt_div h2).mp (rt_down (Nat.le_of_lt hr) z f2)
    have f4 : p / 2 ^ (8 - b) * 2 ^ (8 - b) = rt_pf p b := rfl
    rw [f4] at f1 f3
    refine rt_cnt_iv (o := rt_pf p r - rt_pf p b) (fun j hj => ?_) (by omega)
    rw [hφ j hj, rt_div h3]
    have f5 : p / 2 ^ (8 - r) * 2 ^ (8 - r) = rt_pf p r := rfl
    rw [f5]
    omega
  · rw [if_neg (by omega)]
    refine rt_cnt_iv (o := 0) (w := 0) (fun j hj => ?_) (by omega)
    rw [hφ j hj]
    omega
/-- one turn of the law's loop, behind the two helpers -/
theorem rt_320 {post : Int32 → St0 → Prop} {mc ms : Nat} {J : Int32 → Int32 → Int32 → Int32 → Int32 → Prop} {x10 x11 x12 x13 x14 x15 x16 x18 x19 x20 x21 U : Int32} {p s b r kc ks : Nat} {G : Nat → Int32} {tb c : Int32} {a1 a2 a3 : Nat → Int32} (hp : p < 256) (hb : b < 9) (hs : s ≤ 8) (ok : rt_ok p G tb c a1 a2 a3) (hr : b < r) (hr9 : r ≤ 9) (hin : r < 9 → rt_mem G r = true) (hout : ∀ j, b < j → j < r → rt_mem G j = false) (hU : U = rt_gm (rt_mem G) G b)
    (hA : rt_mem G b = false → J x18 x19 x20 x21 (nI b + 1)) (hB : rt_mem G b = true → s < b → J x18 x19 x20 (x21 + 1) (nI b + 1)) (hC : rt_mem G b = true → b ≤ s → J (nI b) (G b) (x20 + 1) (x21 + 1) (nI b + 1)) :
    wL_lawOf_320 post mc ms J (nI p) x10 x11 x12 x13 x14 x15 x16 (nI s) x18 x19 x20 x21 (nI b) (G b) (nI r) U kc ks tb c a1 a2 a3 := by
  have n1 : ¬ (1 : Int32) = 0 := by decide
  have hf := rt_pf_lt hp hb
  have h2 : 0 < 2 ^ (8 - b) := Nat.two_pow_pos _
  have k1 := ok.1
  have k2 := ok.2.1
  have hs0 : ∀ d, d ≤ b → rt_hs tb a2 (rt_pf p b) d = rt_mem G d := by
    intro d hd
    rw [k1 _ d (by omega) (by omega), decide_eq_true (rt_pf_div hd hb), Bool.true_and]
  have hgo : ∀ d, d ≤ b → rt_mem G d = true → rt_go a1 a3 (rt_pf p b) d = G d := by
    intro d hd hm
    rw [← k2 d (by omega) hm]
    obtain ⟨e1, e2⟩ := rt_pl_eq (b := d) (by omega) (rt_pf_div (p := p) hd hb)
    rcases Nat.lt_or_ge d 4 with z | z
    · rw [rt_goT z, rt_goT z, e1]
    · rw [rt_goL z, rt_goL z, e1, e2 z]
  have hgm : rt_gm (rt_hs tb a2 (rt_pf p b)) (rt_go a1 a3 (rt_pf p b)) b = U := by
    rw [hU]
    exact rt_gm_congr (fun j hj => hs0 j (by omega)) (fun j hj hm => hgo j (by omega) hm)
  have hsb := hs0 b (Nat.le_refl b)
  unfold wL_lawOf_320
  cases hm : rt_mem G b with
  | false =>
    rw [hm] at hsb
    have hG : G b = -1 := Classical.byContradiction (fun z => absurd (hm.symm.trans (decide_eq_true z)) (by decide))
    refine br_t hG ?_
    unfold wL_lawOf_333
    refine br_t rfl ?_
    unfold wL_lawOf_368
    refine nm_r (rt_pfI b hb p hp) ?_
    refine rt_load hp hb (fun _ => br_t rfl ?_) (fun e => absurd (hsb.symm.trans e) (by decide))
    refine rt_exact hp hb (fun _ => br_t hG.symm ?_) (fun e => absurd (hsb.symm.trans e) (by decide))
    refine rt_idle hp hb (fun _ => br_t rfl ?_) (fun e => absurd (hsb.symm.trans e) (by decide)) (fun e => absurd (hsb.symm.trans e) (by decide))
    unfold wL_lawOf_433
    exact rt_434A (hA hm)
  | true =>
    rw [hm] at hsb
    have hG : ¬ G b = -1 := of_decide_eq_true hm
    have hg := hgo b (Nat.le_refl b) hm
    have hl := rt_loadN hp hb ok hm hr hr9 hin hout
    have hw : (if r < 9 then 2 ^ (8 - r) else 0) < 2 ^ (8 - b) := by
      rcases Nat.lt_or_ge r 9 with z | z
      · rw [if_pos z]
        exact Nat.pow_lt_pow_right (by omega) (by omega)
      · rw [if_neg (by omega)]
        exact h2
    have hw2 : 2 ^ (8 - b) ≤ 256 := by omega
    refine br_f hG ?_
    have key : ∀ z0 z1 : Int32, z1 - z0 = nI (2 ^ (8 - b) - (if r < 9 then 2 ^ (8 - r) else 0)) → wL_lawOf_367 post mc ms J (nI p) x10 x11 x12 x13 x14 x15 x16 (nI s) x18 x19 x20 x21 (nI b) (G b) U 1 z0 z1 kc ks tb c a1 a2 a3 := by
      intro z0 z1 hz
      unfold wL_lawOf_367
      rw [hz]
      unfold wL_lawOf_368
      refine nm_r (rt_pfI b hb p hp) ?_
      refine rt_load hp hb (fun e => absurd (e.symm.trans hsb) (by decide)) (fun _ => br_t (by rw [hl]) ?_)
      refine rt_exact hp hb (fun e => absurd (e.symm.trans hsb) (by decide)) (fun _ => br_t hg ?_)
      refine rt_idle hp hb (fun e => absurd (e.symm.trans hsb) (by decide)) (fun _ q => br_f n1 (br_t ?_ (rt_434B hs hb (hB hm) (hC hm)))) (fun _ q => ⟨?_, br_f n1 (br_f ?_ ?_)⟩)
      · rw [hgm, hg] at q
        exact q.symm
      · rw [hl]
        exact nI_ne0 (by omega) (by omega)
      · rw [hgm, hg] at q
        exact fun e => q e.symm
      · unfold wL_lawOf_433
        exact rt_434B hs hb (hB hm) (hC hm)
    unfold wL_lawOf_333
    refine br_f n1 ?_
    refine pk_lt 8 r (fun z => key _ _ ?_) (fun z => key _ _ ?_)
    · rw [rt_256 b hb, if_neg (by omega)]
      exact Int32.sub_zero _
    · have hlt : r < 9 := by omega
      rw [if_pos hlt] at hw ⊢
      rw [rt_256 b hb, rt_256 r hlt, pk_sub (by omega)]
end
section
/-! the law's loop over the bits -/
def rt_G3 (b0 b1 b2 h0 h1 h2 : Nat) : Nat → Int32 := upd (upd (upd (fun _ => -1) b0 (nI h0)) b1 (nI h1)) b2 (nI h2)
theorem rt_G2v {b0 b1 b2 h0 h1 h2 : Nat} : rt_G3 b0 b1 b2 h0 h1 h2 b2 = nI h2 := pk_us
theorem rt_G1v {b b0 b1 b2 h0 h1 h2 : Nat} (n2 : b ≠ b2) (e : b = b1) : rt_G3 b0 b1 b2 h0 h1 h2 b = nI h1 := by
  unfold rt_G3
  rw [pk_un n2, e, pk_us]
theorem rt_G0v {b b0 b1 b2 h0 h1 h2 : Nat} (n2 : b ≠ b2) (n1 : b ≠ b1) (e : b = b0) : rt_G3 b0 b1 b2 h0 h1 h2 b = nI h0 := by
  unfold rt_G3
  rw [pk_un n2, pk_un n1, e, pk_us]
theorem rt_Gnv {b b0 b1 b2 h0 h1 h2 : Nat} (n2 : b ≠ b2) (n1 : b ≠ b1) (n0 : b ≠ b0) : rt_G3 b0 b1 b2 h0 h1 h2 b = -1 := by
  unfold rt_G3
  rw [pk_un n2, pk_un n1, pk_un n0]
theorem rt_Gmem {b0 b1 b2 h0 h1 h2 : Nat} (k0 : h0 < 100) (k1 : h1 < 100) (k2 : h2 < 100) (j : Nat) : rt_mem (rt_G3 b0 b1 b2 h0 h1 h2) j = true ↔ j = b0 ∨ j = b1 ∨ j = b2 := by
  unfold rt_mem
  rw [decide_eq_true_eq]
  by_cases e2 : j = b2
  · rw [e2, rt_G2v]
    exact ⟨fun _ => Or.inr (Or.inr rfl), fun _ => rt_nI_ne k2⟩
  · by_cases e1 : j = b1
    · rw [rt_G1v e2 e1]
      exact ⟨fun _ => Or.inr (Or.inl e1), fun _ => rt_nI_ne k1⟩
    · by_cases e0 : j = b0
      · rw [rt_G0v e2 e1 e0]
        exact ⟨fun _ => Or.inl e0, fun _ => rt_nI_ne k0⟩
      · rw [rt_Gnv e2 e1 e0]
        exact ⟨fun z => absurd rfl z, fun z => by omega⟩
/-- a cascade over b2, b1, b0: the value of the picture -/
theorem rt_pick {A : Int32 → Prop} {b b0 b1 b2 h0 h1 h2 : Nat} (hb : b < 9) (l0 : b0 < 9) (l1 : b1 < 9) (l2 : b2 < 9) (H : A (rt_G3 b0 b1 b2 h0 h1 h2 b)) : (nI b = nI b2 → A (nI h2)) ∧ (¬ nI b = nI b2 → (nI b = nI b1 → A (nI h1)) ∧ (¬ nI b = nI b1 → (nI b = nI b0 → A (nI h0)) ∧ (¬ nI b = nI b0 → A (-1)))) := by
  refine pk_eq b b2 (fun e => ?_) (fun n2 => pk_eq b b1 (fun e => ?_) (fun n1 => pk_eq b b0 (fun e => ?_) (fun n0 => ?_)))
  · rw [e, rt_G2v] at H
    exact H
  · rw [rt_G1v n2 e] at H
    exact H
  · rw [rt_G0v n2 n1 e] at H
    exact H
  · rw [rt_Gnv n2 n1 n0] at H
    exact H
theorem rt_253 {post : Int32 → St0 → Prop} {mc ms : Nat} {J : Int32 → Int32 → Int32 → Int32 → Int32 → Prop} {x16 x18 x19 x20 x21 : Int32} {p s b b0 b1 b2 h0 h1 h2 kc ks : Nat} {tb c : Int32} {a1 a2 a3 : Nat → Int32} (hp : p < 256) (hb : b < 9) (l0 : b0 < 9) (l1 : b1 < 9) (l2 : b2 < 9) (k0 : h0 < 100) (k1 : h1 < 100) (k2 : h2 < 100) (hs : s ≤ 8) (ok : rt_ok p (rt_G3 b0 b1 b2 h0 h1 h2) tb c a1 a2 a3)
    (hA : rt_mem (rt_G3 b0 b1 b2 h0 h1 h2) b = false → J x18 x19 x20 x21 (nI b + 1)) (hB : rt_mem (rt_G3 b0 b1 b2 h0 h1 h2) b = true → s < b → J x18 x19 x20 (x21 + 1) (nI b + 1)) (hC : rt_mem (rt_G3 b0 b1 b2 h0 h1 h2) b = true → b ≤ s → J (nI b) (rt_G3 b0 b1 b2 h0 h1 h2 b) (x20 + 1) (x21 + 1) (nI b + 1)) :
    wL_lawOf_253 post mc ms J (nI p) (nI b0) (nI b1) (nI b2) (nI h0) (nI h1) (nI h2) x16 (nI s) x18 x19 x20 x21 (nI b) (rt_G3 b0 b1 b2 h0 h1 h2 b) kc ks tb c a1 a2 a3 := by
  have hM := rt_Gmem (b0 := b0) (b1 := b1) (b2 := b2) k0 k1 k2
  obtain ⟨r, ⟨r1, r2, r3⟩, r4⟩ := pk_least (fun k => b < k ∧ k ≤ 9 ∧ (k < 9 → rt_mem (rt_G3 b0 b1 b2 h0 h1 h2) k = true)) ⟨9, hb, Nat.le_refl 9, fun z => absurd z (by omega)⟩
  have hout : ∀ j, b < j → j < r → rt_mem (rt_G3 b0 b1 b2 h0 h1 h2) j = false := by
    intro j j1 j2
    cases hj : rt_mem (rt_G3 b0 b1 b2 h0 h1 h2) j with
    | false => rfl
    | true => exact absurd ⟨j1, by omega, fun _ => hj⟩ (r4 j j2)
  have turn : ∀ U, U = rt_gm (rt_mem (rt_G3 b0 b1 b2 h0 h1 h2)) (rt_G3 b0 b1 b2 h0 h1 h2) b → wL_lawOf_320 post mc ms J (nI p) (nI b0) (nI b1) (nI b2) (nI h0) (nI h1) (nI h2) x16 (nI s) x18 x19 x20 x21 (nI b) (rt_G3 b0 b1 b2 h0 h1 h2 b) (nI r) U kc ks tb c a1 a2 a3 := fun U hU => rt_320 hp hb hs ok r1 r2 r3 hout hU hA hB hC
  unfold wL_lawOf_253
  refine rt_nextU hb l0 l1 l2 r1 r2 (fun z => (hM r).mp (r3 z)) (fun j j1 j2 z => absurd ((hout j j1 j2).symm.trans ((hM j).mpr z)) (by decide)) ?_
  refine rt_nextD (f := rt_mem (rt_G3 b0 b1 b2 h0 h1 h2)) hb l0 l1 l2 (fun j _ => hM j) ?_
  rcases rt_cases (rt_mem (rt_G3 b0 b1 b2 h0 h1 h2)) (rt_G3 b0 b1 b2 h0 h1 h2) b with ⟨d, d1, d2, d3, d4, d5⟩ | ⟨d1, d2, d3⟩
  · rw [d4]
    exact rt_pick (A := fun U => wL_lawOf_320 post mc ms J (nI p) (nI b0) (nI b1) (nI b2) (nI h0) (nI h1) (nI h2) x16 (nI s) x18 x19 x20 x21 (nI b) (rt_G3 b0 b1 b2 h0 h1 h2 b) (nI r) U kc ks tb c a1 a2 a3) (by omega) l0 l1 l2 (turn _ d5.symm)
  · rw [d2]
    have ne : ∀ k, k < 9 → ¬ (-1 : Int32) = nI k := fun k hk e => rt_nI_ne (h := k) (by omega) e.symm
    exact br_f (ne b2 l2) (br_f (ne b1 l1) (br_f (ne b0 l0) (turn _ d3.symm)))
theorem rt_209 {post : Int32 → St0 → Prop} {mc ms : Nat} {p q s b0 b1 b2 h0 h1 h2 kc ks : Nat} {tb c : Int32} {a1 a2 a3 : Nat → Int32} (hp : p < 256) (hq : q < 256) (l0 : b0 < 9) (l1 : b1 < 9) (l2 : b2 < 9) (k0 : h0 < 100) (k1 : h1 < 100) (k2 : h2 < 100) (hs : s ≤ 8) (hsh : ∀ b, b < 9 → (b ≤ s ↔ q / 2 ^ (8 - b) = p / 2 ^ (8 - b))) (ok : rt_ok p (rt_G3 b0 b1 b2 h0 h1 h2) tb c a1 a2 a3) (H : post 1 ()) :
    ∃ n, wL_lawOf_209 post mc ms (nI p) (nI b0) (nI b1) (nI b2) (nI h0) (nI h1) (nI h2) (nI q) (nI s) kc ks tb c a1 a2 a3 n (-1) (-1) 0 0 0 := by
  have o1 := ok.1
  have o2 := ok.2.1
  have o3 := ok.2.2
  refine pk_loop (σ := Unit) (fun n i _ => wL_lawOf_209 post mc ms (nI p) (nI b0) (nI b1) (nI b2) (nI h0) (nI h1) (nI h2) (nI q) (nI s) kc ks tb c a1 a2 a3 n (rt_mx (rt_hs tb a2 q) i) (rt_gm (rt_hs tb a2 q) (rt_G3 b0 b1 b2 h0 h1 h2) i) (nI (rt_cnt (rt_hs tb a2 q) i)) (nI (rt_cnt (rt_mem (rt_G3 b0 b1 b2 h0 h1 h2)) i)) (nI i)) (fun _ _ => True) 9 0 () (by omega) trivial ?_ ?_
  · intro n _ _
    refine pk_lt 8 9 (fun _ => ?_) (fun z => absurd z (by omega))
    unfold wpX_routes
    dsimp only
    refine br_t o3 ?_
    refine rt_goal hq (br_t ?_ ?_)
    · refine rt_gm_congr (fun j _ => rfl) (fun j hj hm => ?_)
      rw [o1 q j hq hj, Bool.and_eq_true] at hm
      obtain ⟨m1, m2⟩ := hm
      rw [← o2 j hj m2]
      obtain ⟨e1, e2⟩ := rt_pl_eq (b := j) hj (of_decide_eq_true m1)
      rcases Nat.lt_or_ge j 4 with z | z
      · rw [rt_goT z, rt_goT z, e1]
      · rw [rt_goL z, rt_goL z, e1, e2 z]
    · refine rt_bits hq (br_t rfl ?_)
      refine rt_matching hq (br_t rfl ?_)
      refine rt_matching hp (br_t ?_ H)
      refine congrArg nI (rt_cnt_congr (fun j hj => ?_))
      rw [o1 p j hp hj, decide_eq_true (rfl : p / 2 ^ (8 - j) = p / 2 ^ (8 - j)), Bool.true_and]
  · intro n i _ hi _ hw
    have hw' : wL_lawOf_209 post mc ms (nI p) (nI b0) (nI b1) (nI b2) (nI h0) (nI h1) (nI h2) (nI q) (nI s) kc ks tb c a1 a2 a3 n (rt_mx (rt_hs tb a2 q) (i + 1)) (rt_gm (rt_hs tb a2 q) (rt_G3 b0 b1 b2 h0 h1 h2) (i + 1)) (nI (rt_cnt (rt_hs tb a2 q) (i + 1))) (nI (rt_cnt (rt_mem (rt_G3 b0 b1 b2 h0 h1 h2)) (i + 1))) (nI (i + 1)) := hw () trivial
    rw [rt_mx, rt_gm, rt_cnt, rt_cnt, ← nI_1 i] at hw'
    refine pk_lt 8 i (fun z => absurd z (by omega)) (fun _ => ?_)
    refine rt_pick (A := fun z => wL_lawOf_253 post mc ms (wL_lawOf_209 post mc ms (nI p) (nI b0) (nI b1) (nI b2) (nI h0) (nI h1) (nI h2) (nI q) (nI s) kc ks tb c a1 a2 a3 n) (nI p) (nI b0) (nI b1) (nI b2) (nI h0) (nI h1) (nI h2) (nI q) (nI s) _ _ _ _ (nI i) z kc ks tb c a1 a2 a3) hi l0 l1 l2 ?_
    have hsi := o1 q i hq hi
    refine rt_253 hp hi l0 l1 l2 k0 k1 k2 hs ok (fun m => ?_) (fun m z => ?_) (fun m z => ?_)
    · rw [m, Bool.and_false] at hsi
      rw [hsi, m, if_neg (by decide), if_neg (by decide), if_neg (by decide)] at hw'
      exact hw'
    · rw [m, Bool.and_true, decide_eq_false (fun e => absurd ((hsh i hi).mpr e) (by omega))] at hsi
      rw [hsi, m, if_neg (by decide), if_neg (by decide), if_neg (by decide), if_pos rfl, ← nI_1] at hw'
      exact hw'
    · rw [m, Bool.and_true, decide_eq_true ((hsh i hi).mp z)] at hsi
      rw [hsi, m, if_pos rfl, if_pos rfl, if_pos rfl, ← nI_1, ← nI_1] at hw'
      exact hw'
/-- the law's loop over the shared bits -/
theorem rt_151 {post : Int32 → St0 → Prop} {mc ms : Nat} {x10 x11 x12 x13 x14 x15 : Int32} {p q kc ks : Nat} {tb c : Int32} {a1 a2 a3 : Nat → Int32} (hp : p < 256) (hq : q < 256)
    (H : ∀ s, s ≤ 8 → (∀ b, b < 9 → (b ≤ s ↔ q / 2 ^ (8 - b) = p / 2 ^ (8 - b))) → ∃ n, wL_lawOf_209 post mc ms (nI p) x10 x11 x12 x13 x14 x15 (nI q) (nI s) kc ks tb c a1 a2 a3 n (-1) (-1) 0 0 0) :
    ∃ n, wL_lawOf_151 post mc ms (nI p) x10 x11 x12 x13 x14 x15 (nI q) kc ks tb c a1 a2 a3 n 8 7 := by
  have main : wL_lawOf_151 post mc ms (nI p) x10 x11 x12 x13 x14 x15 (nI q) kc ks tb c a1 a2 a3 9 (nI 8) (nI 8 + (-1)) := by
    refine pk_loopD (fun n i s => wL_lawOf_151 post mc ms (nI p) x10 x11 x12 x13 x14 x15 (nI q) kc ks tb c a1 a2 a3 n (nI s) (nI i + (-1))) (fun i s => s ≤ 8 ∧ i ≤ s ∧ (∀ j, i ≤ j → j < s → p / 2 ^ (7 - j) % 2 = q / 2 ^ (7 - j) % 2) ∧ (s < 8 → ¬ p / 2 ^ (7 - s) % 2 = q / 2 ^ (7 - s) % 2)) ?_ ?_ 8 8 ⟨by omega, by omega, fun j j1 j2 => absurd j1 (by omega), fun z => absurd z (by omega)⟩
    · rintro n s ⟨s1, s2, s3, s4⟩
      exact br_t (by decide) (H s s1 (rt_shared hp hq s1 (fun j hj => s3 j (by omega) hj) s4))
    · rintro n i s ⟨s1, s2, s3, s4⟩ hw
      have hw' : ∀ s', s' ≤ 8 ∧ i ≤ s' ∧ (∀ j, i ≤ j → j < s' → p / 2 ^ (7 - j) % 2 = q / 2 ^ (7 - j) % 2) ∧ (s' < 8 → ¬ p / 2 ^ (7 - s') % 2 = q / 2 ^ (7 - s') % 2) → wL_lawOf_151 post mc ms (nI p) x10 x11 x12 x13 x14 x15 (nI q) kc ks tb c a1 a2 a3 n (nI s') (nI i + (-1)) := hw
      show wL_lawOf_151 post mc ms (nI p) x10 x11 x12 x13 x14 x15 (nI q) kc ks tb c a1 a2 a3 (n + 1) (nI s) (nI (i + 1) + (-1))
      rw [pk_m1]
      have ev : ∀ a, a < 256 → (nI a >>> ((7 - nI i) &&& 31)) &&& 1 = nI (a / 2 ^ (7 - i) % 2) := by
        intro a ha
        have hd : a / 2 ^ (7 - i) ≤ a := Nat.div_le_self _ _
        rw [show (7 : Int32) = nI 7 from rfl, pk_sub (by omega), pk_shrN (by omega) _ (7 - i) (rt_sl _ (by omega)), pk_andN (by omega) 1 (by decide)]
      refine br_f (nI_pos (by omega)) ?_
      refine pk_eq (p / 2 ^ (7 - i) % 2) (q / 2 ^ (7 - i) % 2) (fun e => nm_e (hw' s ⟨s1, by omega, fun j j1 j2 => ?_, s4⟩)) (fun e => nm_e (hw' i ⟨by omega, by omega, fun j j1 j2 => absurd j1 (by omega), fun _ => e⟩)) (ev p hp) (ev q hq) (by omega) (by omega)
      by_cases y : j = i
      · rw [y]
        exact e
      · exact s3 j (by omega) j2
  have e7 : nI 8 + (-1) = 7 := by decide
  rw [e7] at main
  exact ⟨9, main⟩
end
section
theorem rt_rem (x : Int32) {d : Nat} (h0 : 0 < d) (hd : d < 2 ^ 31) : ∃ k, k < d ∧ (x &&& 2147483647) - (x &&& 2147483647) / nI d * nI d = nI k := by
  obtain ⟨j, j1, j2⟩ := pk_andE x (m := 2147483647) 31 (by decide)
  rw [j2, pk_rem j1 h0 hd]
  exact ⟨j % d, Nat.mod_lt _ h0, rfl⟩
theorem rt_lawOf {post : Int32 → St0 → Prop} (H : post 1 ()) (p0 p1 p2 p3 p4 p5 p6 p7 : Int32) : wpL_lawOf post 82 1312 () p0 p1 p2 p3 p4 p5 p6 p7 := by
  obtain ⟨p, hp, ep⟩ := pk_andE p0 (m := 255) 8 (by decide)
  obtain ⟨q, hq, eq⟩ := pk_andE p7 (m := 255) 8 (by decide)
  obtain ⟨b0, l0, e0⟩ := rt_rem p1 (d := 9) (by omega) (by omega)
  obtain ⟨b1, l1, e1⟩ := rt_rem p2 (d := 9) (by omega) (by omega)
  obtain ⟨b2, l2, e2⟩ := rt_rem p3 (d := 9) (by omega) (by omega)
  obtain ⟨h0, k0, f0⟩ := rt_rem p4 (d := 100) (by omega) (by omega)
  obtain ⟨h1, k1, f1⟩ := rt_rem p5 (d := 100) (by omega) (by omega)
  obtain ⟨h2, k2, f2⟩ := rt_rem p6 (d := 100) (by omega) (by omega)
  have n9 : ¬ (9 : Int32) = 0 := by decide
  have n100 : ¬ (100 : Int32) = 0 := by decide
  unfold wpL_lawOf
  refine ⟨by omega, by omega, 3, 527, by omega, by omega, ?_⟩
  unfold wpX_init
  dsimp only
  refine ⟨by omega, by omega, by omega, by omega, by omega, by omega, ?_⟩
  refine nm_r ep ⟨n9, nm_r e0 ⟨n9, nm_r e1 ⟨n9, nm_r e2 ⟨n100, nm_r f0 ⟨n100, nm_r f1 ⟨n100, nm_r f2 ?_⟩⟩⟩⟩⟩⟩
  rw [rt_pfI b0 l0 p hp, rt_pfI b1 l1 p hp, rt_pfI b2 l2 p hp]
  refine rt_put hp l0 k0 (rt_ok0 p) (fun t1 c1 u1 v1 w1 o1 => ?_)
  dsimp only
  refine br_f (by decide) ?_
  refine rt_put hp l1 k1 o1 (fun t2 c2 u2 v2 w2 o2 => ?_)
  dsimp only
  refine br_f (by decide) ?_
  refine rt_put hp l2 k2 o2 (fun t3 c3 u3 v3 w3 o3 => ?_)
  dsimp only
  refine br_f (by decide) (nm_r eq ?_)
  exact rt_151 hp hq (fun s hs hsh => rt_209 hp hq l0 l1 l2 k0 k1 k2 hs hsh o3 H)
theorem rt_cell {post : Int32 → Prop} {L : Nat} {xs : Nat → Int32} (hL : L ≤ 8) {k : Nat} (hk : k < 8) (h : ∀ x, post x) : wpL_cellAt post L xs () (nI k) :=
  pk_le L k (fun _ => h 0) (fun z => ⟨pk_in k L z, h _⟩)
theorem i_vc (xs : Nat → Int32) (L : Nat) (hL : L ≤ 8) : wpL_law (fun r => r = 1) L xs := by
  unfold wpL_law
  refine rt_cell hL (k := 0) (by omega) (fun r1 => ?_)
  refine rt_cell hL (k := 1) (by omega) (fun r2 => ?_)
  refine rt_cell hL (k := 2) (by omega) (fun r3 => ?_)
  refine rt_cell hL (k := 3) (by omega) (fun r4 => ?_)
  refine rt_cell hL (k := 4) (by omega) (fun r5 => ?_)
  refine rt_cell hL (k := 5) (by omega) (fun r6 => ?_)
  refine rt_cell hL (k := 6) (by omega) (fun r7 => ?_)
  refine rt_cell hL (k := 7) (by omega) (fun r8 => ?_)
  exact ⟨82, 1312, by omega, by omega, rt_lawOf rfl r1 r2 r3 r4 r5 r6 r7 r8⟩
end
