section
/-- how many of the first i places have p -/
def yc_ct (p : Nat → Bool) : Nat → Nat
  | 0 => 0
  | i + 1 => yc_ct p i + (if p i then 1 else 0)
theorem yc_0 (p : Nat → Bool) : yc_ct p 0 = 0 := rfl
theorem yc_s (p : Nat → Bool) (i : Nat) : yc_ct p (i + 1) = yc_ct p i + (if p i then 1 else 0) := rfl
theorem yc_t {p : Nat → Bool} {i : Nat} (h : p i = true) : yc_ct p (i + 1) = yc_ct p i + 1 := by rw [yc_s, if_pos h]
theorem yc_f {p : Nat → Bool} {i : Nat} (h : p i = false) : yc_ct p (i + 1) = yc_ct p i := by rw [yc_s, h]; rfl
theorem yc_le (p : Nat → Bool) (i : Nat) : yc_ct p i ≤ i := by
  induction i with
  | zero => exact Nat.le_refl 0
  | succ i ih => rw [yc_s]; split <;> omega
theorem yc_mono {p : Nat → Bool} {i j : Nat} (h : i ≤ j) : yc_ct p i ≤ yc_ct p j := by
  induction j with
  | zero => rw [show i = 0 by omega]; exact Nat.le_refl _
  | succ j ih =>
    by_cases e : i = j + 1
    · rw [e]; exact Nat.le_refl _
    · have := ih (by omega)
      rw [yc_s]; omega
theorem yc_lt {p : Nat → Bool} {i j : Nat} (h : i < j) (hp : p i = true) : yc_ct p i < yc_ct p j := by
  have h1 := yc_t hp
  have h2 : yc_ct p (i + 1) ≤ yc_ct p j := yc_mono h
  omega
theorem yc_step {p : Nat → Bool} {i j : Nat} (h : i ≤ j) : yc_ct p j ≤ yc_ct p i + (j - i) := by
  induction j with
  | zero => rw [show i = 0 by omega]; omega
  | succ j ih =>
    by_cases e : i = j + 1
    · rw [e]; omega
    · have := ih (by omega)
      rw [yc_s]; split <;> omega
theorem yc_congr {p q : Nat → Bool} {i : Nat} (h : ∀ j, j < i → p j = q j) : yc_ct p i = yc_ct q i := by
  induction i with
  | zero => rfl
  | succ i ih => rw [yc_s, yc_s, ih (fun j hj => h j (by omega)), h i (by omega)]
theorem yc_not (p : Nat → Bool) (i : Nat) : yc_ct p i + yc_ct (fun j => !p j) i = i := by
  induction i with
  | zero => rfl
  | succ i ih =>
    rw [yc_s, yc_s]
    cases e : p i <;> simp <;> omega
theorem yc_and (p q : Nat → Bool) (i : Nat) : yc_ct p i = yc_ct (fun j => p j && q j) i + yc_ct (fun j => p j && !q j) i := by
  induction i with
  | zero => rfl
  | succ i ih =>
    rw [yc_s, yc_s, yc_s, ih]
    cases e : p i <;> cases e2 : q i <;> simp <;> omega
/-- two that exclude each other -/
theorem yc_or {p q r : Nat → Bool} {i : Nat} (h : ∀ j, j < i → r j = (p j || q j)) (h2 : ∀ j, j < i → p j = true → q j = false) : yc_ct r i = yc_ct p i + yc_ct q i := by
  induction i with
  | zero => rfl
  | succ i ih =>
    have h3 := ih (fun j hj => h j (by omega)) (fun j hj => h2 j (by omega))
    rw [yc_s, yc_s, yc_s, h3, h i (by omega)]
    cases e : p i
    · cases e2 : q i <;> simp <;> omega
    · rw [h2 i (by omega) e]; simp; omega
theorem yc_imp {p q : Nat → Bool} {i : Nat} (h : ∀ j, j < i → p j = true → q j = true) : yc_ct p i ≤ yc_ct q i := by
  induction i with
  | zero => exact Nat.le_refl _
  | succ i ih =>
    have h3 := ih (fun j hj => h j (by omega))
    rw [yc_s, yc_s]
    cases e : p i
    · simp; omega
    · rw [h i (by omega) e]; simp; omega
theorem yc_find {p : Nat → Bool} {n k : Nat} (h : k < yc_ct p n) : ∃ q, q < n ∧ p q = true ∧ yc_ct p q = k := by
  induction n with
  | zero => exact absurd h (by rw [yc_0]; omega)
  | succ n ih =>
    by_cases e : k < yc_ct p n
    · obtain ⟨q, h1, h2, h3⟩ := ih e
      exact ⟨q, by omega, h2, h3⟩
    · rw [yc_s] at h
      cases hp : p n
      · rw [hp] at h
        exact absurd h (by simp; omega)
      · rw [hp] at h
        exact ⟨n, by omega, hp, by simp at h; omega⟩
theorem yc_inj {p : Nat → Bool} {i j : Nat} (hi : p i = true) (hj : p j = true) (h : yc_ct p i = yc_ct p j) : i = j := by
  rcases Nat.lt_trichotomy i j with e | e | e
  · have := yc_lt e hi; omega
  · exact e
  · have := yc_lt e hj; omega
theorem yc_add (p : Nat → Bool) (a b : Nat) : yc_ct p (a + b) = yc_ct p a + yc_ct (fun j => p (a + j)) b := by
  induction b with
  | zero => rfl
  | succ b ih => rw [← Nat.add_assoc, yc_s, yc_s, ih]; omega
theorem yc_allf {p : Nat → Bool} {a b : Nat} (h : a ≤ b) (hp : ∀ j, a ≤ j → j < b → p j = false) : yc_ct p b = yc_ct p a := by
  induction b with
  | zero => rw [show a = 0 by omega]
  | succ b ih =>
    by_cases e : a = b + 1
    · rw [e]
    · rw [yc_f (hp b (by omega) (by omega)), ih (by omega) (fun j h1 h2 => hp j h1 (by omega))]
theorem yc_allt {p : Nat → Bool} {a b : Nat} (h : a ≤ b) (hp : ∀ j, a ≤ j → j < b → p j = true) : yc_ct p b = yc_ct p a + (b - a) := by
  induction b with
  | zero => rw [show a = 0 by omega]; omega
  | succ b ih =>
    by_cases e : a = b + 1
    · rw [e]; omega
    · rw [yc_t (hp b (by omega) (by omega)), ih (by omega) (fun j h1 h2 => hp j h1 (by omega))]; omega
theorem yc_zero {p : Nat → Bool} {a : Nat} (h : yc_ct p a = 0) {j : Nat} (hj : j < a) : p j = false := by
  cases e : p j
  · rfl
  · have := yc_lt hj e; omega
theorem yc_pos {p : Nat → Bool} {a j : Nat} (hj : j < a) (hp : p j = true) : 0 < yc_ct p a := by
  have := yc_lt hj hp; omega
/-- the least place from which on p is not, by halving -/
theorem yc_half (W : Nat → Nat → Nat → Prop) (T H : Nat) (hT : T ≤ H)
    (hx : ∀ n, W (n + 1) T T)
    (hs : ∀ n lo hi, lo ≤ T → T ≤ hi → hi ≤ H → lo < hi → (∀ lo' hi', lo' ≤ T → T ≤ hi' → hi' ≤ hi → lo ≤ lo' → hi' - lo' < hi - lo → W n lo' hi') → W (n + 1) lo hi) : ∃ n, W n 0 H := by
  refine lp2 W (fun lo hi => lo ≤ T ∧ T ≤ hi ∧ hi ≤ H) (fun lo hi => hi - lo) ?_ 0 H ⟨Nat.zero_le T, hT, Nat.le_refl H⟩
  intro n a b h hk
  by_cases e : a < b
  · exact hs n a b h.1 h.2.1 h.2.2 e (fun lo' hi' g1 g2 g4 _ g3 => hk lo' hi' ⟨g1, g2, Nat.le_trans g4 h.2.2⟩ g3)
  · have ea : a = T := by omega
    have eb : b = T := by omega
    rw [ea, eb]
    exact hx n
/-- letters: how often c stands before i -/
def yc_r (s : Nat → Nat) (c i : Nat) : Nat := yc_ct (fun j => decide (s j = c)) i
/-- letters below c before i -/
def yc_b (s : Nat → Nat) (c i : Nat) : Nat := yc_ct (fun j => decide (s j < c)) i
theorem yc_r_t {s : Nat → Nat} {c i : Nat} (h : s i = c) : yc_r s c (i + 1) = yc_r s c i + 1 := yc_t (decide_eq_true h)
theorem yc_r_f {s : Nat → Nat} {c i : Nat} (h : s i ≠ c) : yc_r s c (i + 1) = yc_r s c i := yc_f (decide_eq_false h)
theorem yc_r_le (s : Nat → Nat) (c i : Nat) : yc_r s c i ≤ i := yc_le _ i
theorem yc_r_mono {s : Nat → Nat} {c i j : Nat} (h : i ≤ j) : yc_r s c i ≤ yc_r s c j := yc_mono h
theorem yc_r_lt {s : Nat → Nat} {c i j : Nat} (h : i < j) (hp : s i = c) : yc_r s c i < yc_r s c j := yc_lt h (decide_eq_true hp)
theorem yc_r_find {s : Nat → Nat} {c n k : Nat} (h : k < yc_r s c n) : ∃ q, q < n ∧ s q = c ∧ yc_r s c q = k := by
  obtain ⟨q, h1, h2, h3⟩ := yc_find h
  exact ⟨q, h1, of_decide_eq_true h2, h3⟩
theorem yc_b_s (s : Nat → Nat) (c i : Nat) : yc_b s (c + 1) i = yc_b s c i + yc_r s c i := by
  refine yc_or (fun j _ => ?_) (fun j _ h => ?_)
  · rw [Bool.eq_iff_iff]; simp; omega
  · have := of_decide_eq_true h
    exact decide_eq_false (by omega)
theorem yc_b_0 (s : Nat → Nat) (i : Nat) : yc_b s 0 i = 0 := by
  have := yc_allf (p := fun j => decide (s j < 0)) (Nat.zero_le i) (fun j _ _ => decide_eq_false (by omega))
  exact this
theorem yc_b_8 {s : Nat → Nat} {n i : Nat} (h : ∀ j, j < n → s j < 8) (hi : i ≤ n) : yc_b s 8 i = i := by
  have := yc_allt (p := fun j => decide (s j < 8)) (Nat.zero_le i) (fun j _ g => decide_eq_true (h j (by omega)))
  rw [yc_0] at this
  show yc_ct _ i = i
  omega
theorem yc_b_mono {s : Nat → Nat} {c i j : Nat} (h : i ≤ j) : yc_b s c i ≤ yc_b s c j := yc_mono h
theorem yc_b_monoc {s : Nat → Nat} {c d i : Nat} (h : c ≤ d) : yc_b s c i ≤ yc_b s d i := yc_imp (fun j _ g => decide_eq_true (by have := of_decide_eq_true g; omega))
end
section
/-! Int32 by its bits (rows of kit/laws/BITS.to-paste, renamed) -/
def yi_bt (x : Int32) (i : Nat) : Bool := x.toBitVec.getLsbD i
theorem yi_or (x y : Int32) (i : Nat) : yi_bt (x ||| y) i = (yi_bt x i || yi_bt y i) := by unfold yi_bt; rw [Int32.toBitVec_or, BitVec.getLsbD_or]
theorem yi_0 (i : Nat) : yi_bt 0 i = false := BitVec.getLsbD_zero
theorem yi_sl : ∀ n, n < 32 → ((nI n &&& 31).toBitVec.smod 32).toNat = n := by decide +kernel
theorem yi_su : ∀ n, n < 32 → (((nI n).toUInt32 &&& Int32.toUInt32 31).toBitVec % 32).toNat = n := by decide +kernel
theorem yi_ushr (n : Nat) (hn : n < 32) (x : Int32) (i : Nat) : yi_bt ((x.toUInt32 >>> ((nI n).toUInt32 &&& Int32.toUInt32 31)).toInt32) i = yi_bt x (n + i) := by
  show (x.toUInt32 >>> ((nI n).toUInt32 &&& Int32.toUInt32 31)).toBitVec.getLsbD i = x.toUInt32.toBitVec.getLsbD (n + i)
  rw [UInt32.toBitVec_shiftRight]
  show (x.toUInt32.toBitVec >>> (((nI n).toUInt32 &&& Int32.toUInt32 31).toBitVec % 32).toNat).getLsbD i = _
  rw [yi_su n hn, BitVec.getLsbD_ushiftRight]
theorem yi_and (a b : Nat) : nI a &&& nI b = nI (a &&& b) := by
  apply Int32.toBitVec_inj.1
  show BitVec.ofNat 32 a &&& BitVec.ofNat 32 b = BitVec.ofNat 32 (a &&& b)
  apply BitVec.eq_of_getLsbD_eq
  intro i hi
  simp [hi]
theorem yi_orN (a b : Nat) : nI a ||| nI b = nI (a ||| b) := by
  apply Int32.toBitVec_inj.1
  show BitVec.ofNat 32 a ||| BitVec.ofNat 32 b = BitVec.ofNat 32 (a ||| b)
  apply BitVec.eq_of_getLsbD_eq
  intro i hi
  simp [hi]
/-! powers and masks -/
theorem yi_pw : ∀ k, k < 31 → (1 : Int32) <<< (nI k &&& 31) = nI (2 ^ k) := by decide +kernel
theorem yi_msk : ∀ k, k < 31 → ((1 : Int32) <<< (nI k &&& 31)) - 1 = nI (2 ^ k - 1) := by decide +kernel
theorem yi_31 {p : Nat} (h : p < 2 ^ 32) : nI p &&& 31 = nI (p % 32) := pk_andN h 5 (by decide)
theorem yi_7 {p : Nat} (h : p < 2 ^ 32) : nI p &&& 7 = nI (p % 8) := pk_andN h 3 (by decide)
theorem yi_1 {p : Nat} (h : p < 2 ^ 32) : nI p &&& 1 = nI (p % 2) := pk_andN h 1 (by decide)
theorem yi_24 : ∀ p, p < 256 → nI p &&& 24 = nI (p / 8 % 4 * 8) := by decide +kernel
theorem yi_shr5 {p : Nat} (h : p < 2 ^ 31) : nI p >>> ((5 : Int32) &&& 31) = nI (p / 32) := pk_shrN h _ 5 (by decide)
theorem yi_shr3 {p : Nat} (h : p < 2 ^ 31) : nI p >>> ((3 : Int32) &&& 31) = nI (p / 8) := pk_shrN h _ 3 (by decide)
theorem yi_shrk {p k : Nat} (h : p < 2 ^ 31) (hk : k < 32) : nI p >>> (nI k &&& 31) = nI (p / 2 ^ k) := pk_shrN h _ k (yi_sl k hk)
theorem yi_shlk {p k : Nat} (hk : k < 32) (h : p * 2 ^ k < 2 ^ 32) : nI p <<< (nI k &&& 31) = nI (p * 2 ^ k) := pk_shlN _ k (yi_sl k hk) h
theorem yi_pwb : ∀ k, k < 32 → ∀ j, j < 32 → yi_bt ((1 : Int32) <<< (nI k &&& 31)) j = decide (j = k) := by decide +kernel
/-- a bit is set -/
theorem yi_set (w : Int32) {p j : Nat} (hp : p < 2 ^ 32) (hj : j < 32) : yi_bt (w ||| ((1 : Int32) <<< ((nI p &&& 31) &&& 31))) j = (yi_bt w j || decide (j = p % 32)) := by
  rw [yi_or, yi_31 hp, yi_pwb _ (by omega) j hj]
/-- a stretch of bits as a number -/
theorem yi_part (w : Int32) (sh k : Nat) (hs : sh < 32) (hk : k < 31) : ∃ v, v < 2 ^ k ∧ (w.toUInt32 >>> ((nI sh).toUInt32 &&& Int32.toUInt32 31)).toInt32 &&& nI (2 ^ k - 1) = nI v ∧ ∀ j, v.testBit j = (decide (j < k) && yi_bt w (sh + j)) := by
  have h1 : 2 ^ k - 1 < 2 ^ 32 := by
    have := Nat.pow_lt_pow_right (a := 2) (by omega) (show k < 32 by omega)
    omega
  refine ⟨_, Nat.mod_lt _ (Nat.two_pow_pos k), pk_and _ k (pk_tn h1), fun j => ?_⟩
  rw [Nat.testBit_mod_two_pow]
  exact congrArg (decide (j < k) && ·) (yi_ushr sh hs w j)
theorem yi_bit (w : Int32) {k : Nat} (hk : k < 32) : ((w.toUInt32 >>> ((nI k).toUInt32 &&& Int32.toUInt32 31)).toInt32 &&& 1) = 0 ↔ yi_bt w k = false := by
  obtain ⟨v, h1, h2, h3⟩ := yi_part w k 1 hk (by omega)
  have h2' : (w.toUInt32 >>> ((nI k).toUInt32 &&& Int32.toUInt32 31)).toInt32 &&& 1 = nI v := h2
  rw [h2', ← nI_0, nI_eq (by omega) (by omega)]
  have h4 := h3 0
  rw [Nat.add_zero] at h4
  have : v = 0 ∨ v = 1 := by omega
  rcases this with e | e
  · subst e; simp at h4; simp [h4]
  · subst e; simp at h4; simp [h4]
/-! narrowing -/
theorem yi_n8 : ∀ v, v < 128 → (nI v).toInt8.toInt32 = nI v := by decide +kernel
theorem yi_n16 : ∀ v, v < 1024 → (nI v).toInt16.toInt32 = nI v := by decide +kernel
theorem yi_v8 {v : Nat} (h : v < 128) : vp_nar .byte (nI v) = nI v := by rw [vp_nar_byte, yi_n8 v h]
theorem yi_v16 {v : Nat} (h : v < 1024) : vp_nar .short (nI v) = nI v := by rw [vp_nar_short, yi_n16 v h]
theorem yi_m16 : (-1 : Int32).toInt16.toInt32 = -1 := by decide
/-! how many ones a byte has -/
def yi_pop (v : Nat) : Nat := yc_ct (fun j => v.testBit j) 8
theorem yi_pops : ∀ v, v < 256 → 0 < v → v &&& (v - 1) < v ∧ yi_pop v = yi_pop (v &&& (v - 1)) + 1 := by decide +kernel
theorem yi_ones4 {post : Int32 → Prop} : ∀ v, v < 256 → ∀ k, post (nI (k + yi_pop v)) → ∃ n, wX_onesIn_4 post n (nI k) (nI v) := by
  intro v
  induction v using Nat.strongRecOn with
  | ind v ih =>
    intro hv k hp
    by_cases e : v = 0
    · subst e
      exact ⟨1, br_t rfl hp⟩
    · obtain ⟨h1, h2⟩ := yi_pops v hv (by omega)
      obtain ⟨n, hn⟩ := ih _ h1 (by omega) (k + 1) (by rw [h2] at hp; rw [show k + 1 + yi_pop (v &&& (v - 1)) = k + (yi_pop (v &&& (v - 1)) + 1) by omega]; exact hp)
      refine ⟨n + 1, br_f (nI_ne0 (by omega) (by omega)) (nm_r (nI_1 k) (nm_r (e' := nI (v &&& (v - 1))) ?_ hn))⟩
      have e3 : nI v - 1 = nI (v - 1) := pk_sub (b := 1) (by omega)
      rw [e3, yi_and]
theorem yi_ones {post : Int32 → Prop} {x : Int32} (v : Nat) (hx : x = nI v) (hv : v < 256) (H : post (nI (yi_pop v))) : wpX_onesIn post () x := by
  subst hx
  exact yi_ones4 v hv 0 (by rw [Nat.zero_add]; exact H)
theorem yi_pop_le (v : Nat) : yi_pop v ≤ 8 := yc_le _ 8
theorem yi_popk {v k : Nat} {f : Nat → Bool} (hk : k ≤ 8) (h : ∀ j, v.testBit j = (decide (j < k) && f j)) : yi_pop v = yc_ct f k := by
  unfold yi_pop
  rw [yc_allf hk (fun j h1 h2 => by rw [h j, decide_eq_false (by omega)]; rfl)]
  exact yc_congr (fun j hj => by rw [h j, decide_eq_true hj]; rfl)
/-! digits of letters -/
def yi_dg (l c : Nat) : Nat := c / 2 ^ (2 - l) % 2
def yi_pf (l c : Nat) : Nat := c / 2 ^ (3 - l)
theorem yi_dg2 (l c : Nat) : yi_dg l c < 2 := Nat.mod_lt _ (by omega)
theorem yi_dgI : ∀ c, c < 8 → ∀ l, l < 3 → (nI c >>> ((2 - nI l) &&& 31)) &&& 1 = nI (yi_dg l c) := by decide +kernel
theorem yi_pfI : ∀ c, c < 8 → ∀ l, l < 3 → nI c >>> ((3 - nI l) &&& 31) = nI (yi_pf l c) := by decide +kernel
theorem yi_pfs : ∀ c, c < 8 → ∀ l, l < 3 → yi_pf (l + 1) c = 2 * yi_pf l c + yi_dg l c := by decide +kernel
theorem yi_pf0 : ∀ c, c < 8 → yi_pf 0 c = 0 := by decide +kernel
theorem yi_pf3 (c : Nat) : yi_pf 3 c = c := by unfold yi_pf; simp
theorem yi_pfl : ∀ c, c < 8 → ∀ l, l < 4 → yi_pf l c < 2 ^ l := by decide +kernel
theorem yi_digit {post : Int32 → Prop} {x y : Int32} (c l : Nat) (hc : c < 8) (hl : l < 3) (hx : x = nI c) (hy : y = nI l) (H : post (nI (yi_dg l c))) : wpX_digitOf post () x y := by
  subst hx hy
  show post ((nI c >>> ((2 - nI l) &&& 31)) &&& 1)
  rw [yi_dgI c hc l hl]
  exact H
end
section
/-! rows of bits -/
def yr_row (a : Nat → Int32) (r p : Nat) : Bool := yi_bt (a (r * 7 + p / 32)) (p % 32)
theorem yr_ix {r p : Nat} (hp : p < 2 ^ 31) : (nI r * 7) + (nI p >>> ((5 : Int32) &&& 31)) = nI (r * 7 + p / 32) := by
  rw [yi_shr5 hp]
  show nI r * nI 7 + _ = _
  rw [pk_mul, nI_add]
theorem yr_set {fn fk fr fd fs : Int32} {a1 a2 a3 a4 a5 a6 a7 a8 a9 a10 a11 a12 a13 a14 a15 a16 a17 a18 a19 a20 a21 a22 a23 a24 a25 a26 a27 : Nat → Int32} {post : St2 → Prop} {x y : Int32} (r p : Nat) (hr : r < 21) (hp : p < 224) (hx : x = nI r) (hy : y = nI p)
    (H : ∀ b, (∀ r' p', r' < 21 → p' < 224 → yr_row b r' p' = (yr_row a5 r' p' || decide (r' = r ∧ p' = p))) → post (fn, fk, fr, fd, fs, a1, a2, a3, a4, b, a6, a7, a8, a9, a10, a11, a12, a13, a14, a15, a16, a17, a18, a19, a20, a21, a22, a23, a24, a25, a26, a27)) : wpX_setBit post (fn, fk, fr, fd, fs, a1, a2, a3, a4, a5, a6, a7, a8, a9, a10, a11, a12, a13, a14, a15, a16, a17, a18, a19, a20, a21, a22, a23, a24, a25, a26, a27) x y := by
  subst hx hy
  have e := yr_ix (r := r) (p := p) (by omega)
  refine ⟨pk_in _ 147 (by omega) e, pk_in _ 147 (by omega) e, nm_e (H _ ?_)⟩
  intro r' p' hr' hp'
  rw [e, nI_clamp (by omega)]
  unfold yr_row
  by_cases h : r' * 7 + p' / 32 = r * 7 + p / 32
  · rw [h, pk_us, yi_set _ (by omega) (by omega)]
    exact congrArg (yi_bt (a5 (r * 7 + p / 32)) (p' % 32) || ·) (decide_eq_decide.mpr (by omega))
  · rw [pk_un h, decide_eq_false (by intro ⟨e1, e2⟩; subst e1 e2; exact h rfl), Bool.or_false]
theorem yr_bit {fn fk fr fd fs : Int32} {a1 a2 a3 a4 a5 a6 a7 a8 a9 a10 a11 a12 a13 a14 a15 a16 a17 a18 a19 a20 a21 a22 a23 a24 a25 a26 a27 : Nat → Int32} {post : Int32 → Prop} {x y : Int32} (r p : Nat) (hr : r < 21) (hp : p < 224) (hx : x = nI r) (hy : y = nI p)
    (H : post (if yr_row a5 r p then 1 else 0)) : wpX_bitAt post (fn, fk, fr, fd, fs, a1, a2, a3, a4, a5, a6, a7, a8, a9, a10, a11, a12, a13, a14, a15, a16, a17, a18, a19, a20, a21, a22, a23, a24, a25, a26, a27) x y := by
  subst hx hy
  have e := yr_ix (r := r) (p := p) (by omega)
  refine ⟨pk_in _ 147 (by omega) e, ?_⟩
  rw [e, nI_clamp (by omega), yi_31 (by omega)]
  refine ek_if (yi_bit _ (by omega)) (fun h => ?_) (fun h => ?_)
  · have h' : yr_row a5 r p = false := h
    rw [h'] at H; exact H
  · have h' : yr_row a5 r p = true := by
      cases hh : yr_row a5 r p
      · exact absurd hh h
      · rfl
    rw [h'] at H; exact H
/-- what the sums hold -/
def yr_g6 (a : Nat → Int32) (k : Nat) : Int32 := nI (yc_ct (yr_row a (k / 8)) (32 * (k % 8)))
def yr_g7 (a : Nat → Int32) (k : Nat) : Int32 := nI (yc_ct (yr_row a (k / 28)) (32 * (k % 28 / 4) + 8 * (k % 4)) - yc_ct (yr_row a (k / 28)) (32 * (k % 28 / 4)))
def yr_sum (a5 a6 a7 : Nat → Int32) : Prop := (∀ k, k < 168 → a6 k = yr_g6 a5 k) ∧ (∀ k, k < 588 → a7 k = yr_g7 a5 k)
theorem yr_seg (a : Nat → Int32) (r w b k : Nat) (h : 8 * b + k ≤ 32) : yc_ct (yr_row a r) (32 * w + 8 * b + k) = yc_ct (yr_row a r) (32 * w + 8 * b) + yc_ct (fun j => yi_bt (a (r * 7 + w)) (8 * b + j)) k := by
  rw [yc_add]
  refine congrArg _ (yc_congr (fun j hj => ?_))
  show yi_bt (a (r * 7 + (32 * w + 8 * b + j) / 32)) ((32 * w + 8 * b + j) % 32) = _
  rw [show (32 * w + 8 * b + j) / 32 = w by omega, show (32 * w + 8 * b + j) % 32 = 8 * b + j by omega]
theorem yr_ones {fn fk fr fd fs : Int32} {a1 a2 a3 a4 a5 a6 a7 a8 a9 a10 a11 a12 a13 a14 a15 a16 a17 a18 a19 a20 a21 a22 a23 a24 a25 a26 a27 : Nat → Int32} {post : Int32 → Prop} {x y : Int32} (hs : yr_sum a5 a6 a7) (r i : Nat) (hr : r < 21) (hi : i < 224) (hx : x = nI r) (hy : y = nI i)
    (H : post (nI (yc_ct (yr_row a5 r) i))) : wpX_onesBefore post (fn, fk, fr, fd, fs, a1, a2, a3, a4, a5, a6, a7, a8, a9, a10, a11, a12, a13, a14, a15, a16, a17, a18, a19, a20, a21, a22, a23, a24, a25, a26, a27) x y := by
  subst hx hy
  obtain ⟨s1, s2⟩ := hs
  have key : ∀ v, v < 256 → yi_pop v = yc_ct (fun j => yi_bt (a5 (r * 7 + i / 32)) (8 * (i / 8 % 4) + j)) (i % 8) → ∀ z, z = nI v → wX_onesBefore_37 post (nI r) (nI i) z fn fk fr fd fs a1 a2 a3 a4 a5 a6 a7 a8 a9 a10 a11 a12 a13 a14 a15 a16 a17 a18 a19 a20 a21 a22 a23 a24 a25 a26 a27 := by
    intro v hv e z hz
    have e1 : (nI r * 8) + (nI i >>> ((5 : Int32) &&& 31)) = nI (r * 8 + i / 32) := by
      rw [yi_shr5 (by omega)]
      show nI r * nI 8 + _ = _
      rw [pk_mul, nI_add]
    have e2 : (nI r * 28) + (nI i >>> ((3 : Int32) &&& 31)) = nI (r * 28 + i / 8) := by
      rw [yi_shr3 (by omega)]
      show nI r * nI 28 + _ = _
      rw [pk_mul, nI_add]
    refine ⟨pk_in _ 168 (by omega) e1, pk_in _ 588 (by omega) e2, yi_ones v hz hv ?_⟩
    rw [e1, e2, nI_clamp (by omega), nI_clamp (by omega), s1 _ (by omega), s2 _ (by omega)]
    unfold yr_g6 yr_g7
    rw [nI_add, nI_add, show (r * 8 + i / 32) / 8 = r by omega, show (r * 8 + i / 32) % 8 = i / 32 by omega, show (r * 28 + i / 8) / 28 = r by omega, show (r * 28 + i / 8) % 28 / 4 = i / 32 by omega, show (r * 28 + i / 8) % 4 = i / 8 % 4 by omega]
    have q := yr_seg a5 r (i / 32) (i / 8 % 4) (i % 8) (by omega)
    rw [show 32 * (i / 32) + 8 * (i / 8 % 4) + i % 8 = i by omega, ← e] at q
    have m1 : yc_ct (yr_row a5 r) (32 * (i / 32)) ≤ yc_ct (yr_row a5 r) (32 * (i / 32) + 8 * (i / 8 % 4)) := yc_mono (by omega)
    rw [q] at H
    rw [show ∀ A B C : Nat, A ≤ B → A + (B - A) + C = B + C from fun A B C h => by omega]
    · exact H
    · exact m1
  refine nm_r (yi_7 (by omega)) ?_
  refine pk_eq (i % 8) 0 (fun h => key 0 (by omega) (by rw [h]; rfl) 0 rfl) (fun h => ⟨pk_in _ 147 (by omega) (yr_ix (by omega)), ?_⟩)
  rw [yr_ix (by omega), nI_clamp (by omega), yi_24 _ (by omega), yi_msk _ (by omega)]
  obtain ⟨v, v1, v2, v3⟩ := yi_part (a5 (r * 7 + i / 32)) (i / 8 % 4 * 8) (i % 8) (by omega) (by omega)
  refine key v ?_ ?_ _ v2
  · have : 2 ^ (i % 8) ≤ 2 ^ 8 := Nat.pow_le_pow_right (by omega) (by omega)
    omega
  · rw [Nat.mul_comm 8]
    exact yi_popk (by omega) v3
theorem yr_zeros {fn fk fr fd fs : Int32} {a1 a2 a3 a4 a5 a6 a7 a8 a9 a10 a11 a12 a13 a14 a15 a16 a17 a18 a19 a20 a21 a22 a23 a24 a25 a26 a27 : Nat → Int32} {post : Int32 → Prop} {x y : Int32} (hs : yr_sum a5 a6 a7) (r i : Nat) (hr : r < 21) (hi : i < 224) (hx : x = nI r) (hy : y = nI i)
    (H : post (nI (yc_ct (fun j => !yr_row a5 r j) i))) : wpX_zerosBefore post (fn, fk, fr, fd, fs, a1, a2, a3, a4, a5, a6, a7, a8, a9, a10, a11, a12, a13, a14, a15, a16, a17, a18, a19, a20, a21, a22, a23, a24, a25, a26, a27) x y := by
  refine yr_ones hs r i hr hi hx hy ?_
  subst hy
  have q := yc_not (yr_row a5 r) i
  rw [pk_sub (yc_le _ i), show i - yc_ct (yr_row a5 r) i = yc_ct (fun j => !yr_row a5 r j) i by omega]
  exact H
/-! the sums of a row -/
theorem yr_sum29 {fn fk fr fd fs : Int32} {a1 a2 a3 a4 a5 a6 a7 a8 a9 a10 a11 a12 a13 a14 a15 a16 a17 a18 a19 a20 a21 a22 a23 a24 a25 a26 a27 : Nat → Int32} {post : St2 → Prop} {J : Int32 → Int32 → (Nat → Int32) → (Nat → Int32) → (Nat → Int32) → (Nat → Int32) → (Nat → Int32) → (Nat → Int32) → (Nat → Int32) → (Nat → Int32) → (Nat → Int32) → (Nat → Int32) → (Nat → Int32) → (Nat → Int32) → (Nat → Int32) → (Nat → Int32) → (Nat → Int32) → (Nat → Int32) → (Nat → Int32) → (Nat → Int32) → (Nat → Int32) → (Nat → Int32) → (Nat → Int32) → (Nat → Int32) → (Nat → Int32) → (Nat → Int32) → (Nat → Int32) → (Nat → Int32) → (Nat → Int32) →  Prop} {x2 : Int32} (r w : Nat) (hr : r < 21) (hw : w < 7)
    (h7 : ∀ k, k < r * 28 + 4 * w → a7 k = yr_g7 a5 k)
    (H : ∀ b7, (∀ k, k < r * 28 + 4 * (w + 1) → b7 k = yr_g7 a5 k) → J (x2 + nI (yc_ct (yr_row a5 r) (32 * (w + 1)) - yc_ct (yr_row a5 r) (32 * w))) (nI (w + 1)) a1 a2 a3 a4 a5 a6 b7 a8 a9 a10 a11 a12 a13 a14 a15 a16 a17 a18 a19 a20 a21 a22 a23 a24 a25 a26 a27) :
    ∃ n, wX_sumRow_29 post J (nI r) x2 (nI w) fn fk fr fd fs n 0 0 a1 a2 a3 a4 a5 a6 a7 a8 a9 a10 a11 a12 a13 a14 a15 a16 a17 a18 a19 a20 a21 a22 a23 a24 a25 a26 a27 := by
  have q := pk_loop (fun n b (s : Nat → Int32) => wX_sumRow_29 post J (nI r) x2 (nI w) fn fk fr fd fs n (nI (yc_ct (yr_row a5 r) (32 * w + 8 * b) - yc_ct (yr_row a5 r) (32 * w))) (nI b) a1 a2 a3 a4 a5 a6 s a8 a9 a10 a11 a12 a13 a14 a15 a16 a17 a18 a19 a20 a21 a22 a23 a24 a25 a26 a27) (fun b s => ∀ k, k < r * 28 + 4 * w + b → s k = yr_g7 a5 k) 4 0 a7 (by omega) h7 ?_ ?_
  · obtain ⟨n, hn⟩ := q
    refine ⟨n, ?_⟩
    have hn' : wX_sumRow_29 post J (nI r) x2 (nI w) fn fk fr fd fs n (nI (yc_ct (yr_row a5 r) (32 * w) - yc_ct (yr_row a5 r) (32 * w))) (nI 0) a1 a2 a3 a4 a5 a6 a7 a8 a9 a10 a11 a12 a13 a14 a15 a16 a17 a18 a19 a20 a21 a22 a23 a24 a25 a26 a27 := hn
    rw [Nat.sub_self] at hn'
    exact hn'
  · intro n s h
    exact pk_le 4 4 (fun _ => nm_e (nm_r (nI_1 w) (H s h))) (fun z => absurd z (by omega))
  · intro n b s hb h hk
    have e1 : (nI r * 28) + (4 * nI w) + nI b = nI (r * 28 + 4 * w + b) := by
      show (nI r * nI 28) + (nI 4 * nI w) + nI b = _
      rw [pk_mul, pk_mul, nI_add, nI_add]
    have e2 : (nI r * 7) + nI w = nI (r * 7 + w) := by
      show nI r * nI 7 + nI w = _
      rw [pk_mul, nI_add]
    have e3 : (8 : Int32) * nI b = nI (8 * b) := pk_mul 8 b
    have m1 : yc_ct (yr_row a5 r) (32 * w) ≤ yc_ct (yr_row a5 r) (32 * w + 8 * b) := yc_mono (by omega)
    have m2 : yc_ct (yr_row a5 r) (32 * w + 8 * b) ≤ yc_ct (yr_row a5 r) (32 * w) + (32 * w + 8 * b - 32 * w) := yc_step (by omega)
    refine pk_le 4 b (fun z => absurd z (by omega)) (fun _ => ⟨pk_in _ 588 (by omega) e1, nm_e ⟨pk_in _ 147 (by omega) e2, ?_⟩⟩)
    rw [e1, e2, e3, nI_clamp (by omega), nI_clamp (by omega)]
    obtain ⟨v, v1, v2, v3⟩ := yi_part (a5 (r * 7 + w)) (8 * b) 8 (by omega) (by omega)
    refine yi_ones v v2 v1 (nm_r (nI_add _ _) (nm_r (nI_1 b) ?_))
    have s1 := yr_seg a5 r w b 8 (by omega)
    rw [← yi_popk (by omega) v3] at s1
    have k1 := hk (upd s (r * 28 + 4 * w + b) (nI (yc_ct (yr_row a5 r) (32 * w + 8 * b) - yc_ct (yr_row a5 r) (32 * w))).toInt8.toInt32) ?_
    · rw [show 32 * w + 8 * (b + 1) = 32 * w + 8 * b + 8 by omega, s1] at k1
      rw [show ∀ A B C : Nat, A ≤ B → B - A + C = B + C - A from fun A B C h => by omega]
      · exact k1
      · exact m1
    · intro k hk'
      by_cases e : k = r * 28 + 4 * w + b
      · rw [e, pk_us, yi_n8 _ (by omega)]
        unfold yr_g7
        rw [show (r * 28 + 4 * w + b) / 28 = r by omega, show (r * 28 + 4 * w + b) % 28 / 4 = w by omega, show (r * 28 + 4 * w + b) % 4 = b by omega]
      · rw [pk_un e]
        exact h k (by omega)
theorem yr_sumRow {fn fk fr fd fs : Int32} {a1 a2 a3 a4 a5 a6 a7 a8 a9 a10 a11 a12 a13 a14 a15 a16 a17 a18 a19 a20 a21 a22 a23 a24 a25 a26 a27 : Nat → Int32} {post : St2 → Prop} {x : Int32} (r : Nat) (hr : r < 21) (hx : x = nI r)
    (h6 : ∀ k, k < r * 8 → a6 k = yr_g6 a5 k) (h7 : ∀ k, k < r * 28 → a7 k = yr_g7 a5 k)
    (H : ∀ b6 b7, (∀ k, k < (r + 1) * 8 → b6 k = yr_g6 a5 k) → (∀ k, k < (r + 1) * 28 → b7 k = yr_g7 a5 k) → post (fn, fk, fr, fd, fs, a1, a2, a3, a4, a5, b6, b7, a8, a9, a10, a11, a12, a13, a14, a15, a16, a17, a18, a19, a20, a21, a22, a23, a24, a25, a26, a27)) : wpX_sumRow post (fn, fk, fr, fd, fs, a1, a2, a3, a4, a5, a6, a7, a8, a9, a10, a11, a12, a13, a14, a15, a16, a17, a18, a19, a20, a21, a22, a23, a24, a25, a26, a27) x := by
  subst hx
  have q := pk_loop (fun n w (s : (Nat → Int32) × (Nat → Int32)) => wX_sumRow_4 post (nI r) fn fk fr fd fs n (nI (yc_ct (yr_row a5 r) (32 * w))) (nI w) a1 a2 a3 a4 a5 s.1 s.2 a8 a9 a10 a11 a12 a13 a14 a15 a16 a17 a18 a19 a20 a21 a22 a23 a24 a25 a26 a27) (fun w s => (∀ k, k < r * 8 + w → s.1 k = yr_g6 a5 k) ∧ (∀ k, k < r * 28 + 4 * w → s.2 k = yr_g7 a5 k)) 7 0 (a6, a7) (by omega) ⟨h6, h7⟩ ?_ ?_
  · obtain ⟨n, hn⟩ := q
    exact ⟨n, hn⟩
  · intro n s h
    have e1 : (nI r * 8) + 7 = nI (r * 8 + 7) := by
      show nI r * nI 8 + nI 7 = _
      rw [pk_mul, nI_add]
    have b1 : yc_ct (yr_row a5 r) (32 * 7) ≤ 32 * 7 := yc_le _ _
    refine pk_le 7 7 (fun _ => ⟨pk_in _ 168 (by omega) e1, nm_e (H _ _ ?_ (fun k hk => h.2 k (by omega)))⟩) (fun z => absurd z (by omega))
    intro k hk
    rw [e1, nI_clamp (by omega)]
    by_cases e : k = r * 8 + 7
    · rw [e, pk_us, yi_n16 _ (by omega)]
      unfold yr_g6
      rw [show (r * 8 + 7) / 8 = r by omega, show (r * 8 + 7) % 8 = 7 by omega]
    · rw [pk_un e]
      exact h.1 k (by omega)
  · intro n w s hw h hk
    have e1 : (nI r * 8) + nI w = nI (r * 8 + w) := by
      show nI r * nI 8 + nI w = _
      rw [pk_mul, nI_add]
    have b1 : yc_ct (yr_row a5 r) (32 * w) ≤ 32 * w := yc_le _ _
    have m1 : yc_ct (yr_row a5 r) (32 * w) ≤ yc_ct (yr_row a5 r) (32 * (w + 1)) := yc_mono (by omega)
    refine pk_le 7 w (fun z => absurd z (by omega)) (fun _ => ⟨pk_in _ 168 (by omega) e1, nm_e ?_⟩)
    rw [e1, nI_clamp (by omega)]
    refine yr_sum29 r w hr hw h.2 (fun b7 hb => ?_)
    have k1 := hk (upd s.1 (r * 8 + w) (nI (yc_ct (yr_row a5 r) (32 * w))).toInt16.toInt32, b7) ⟨?_, fun k hk' => hb k (by omega)⟩
    · rw [nI_add, show ∀ A B : Nat, A ≤ B → A + (B - A) = B from fun A B h => by omega]
      · exact k1
      · exact m1
    · intro k hk'
      show upd s.1 (r * 8 + w) _ k = _
      by_cases e : k = r * 8 + w
      · rw [e, pk_us, yi_n16 _ (by omega)]
        unfold yr_g6
        rw [show (r * 8 + w) / 8 = r by omega, show (r * 8 + w) % 8 = w by omega]
      · rw [pk_un e]
        exact h.1 k (by omega)
/-! the place of a bit -/
theorem yr_place {fn fk fr fd fs : Int32} {a1 a2 a3 a4 a5 a6 a7 a8 a9 a10 a11 a12 a13 a14 a15 a16 a17 a18 a19 a20 a21 a22 a23 a24 a25 a26 a27 : Nat → Int32} {post : Int32 → Prop} {x y z : Int32} (hs : yr_sum a5 a6 a7) (r n k q : Nat) (o : Bool) (hn : n ≤ 200) (hr : r < 21) (hq : q < n) (hf : fn = nI n) (hx : x = nI r) (hy : y = if o then 1 else 0) (hz : z = nI k)
    (hb : yr_row a5 r q = o) (hk : yc_ct (fun j => yr_row a5 r j == o) q = k) (H : post (nI q)) : wpX_placeOfBit post (fn, fk, fr, fd, fs, a1, a2, a3, a4, a5, a6, a7, a8, a9, a10, a11, a12, a13, a14, a15, a16, a17, a18, a19, a20, a21, a22, a23, a24, a25, a26, a27) x y z := by
  subst hf hx hz
  have hkn : k ≤ q := by rw [← hk]; exact yc_le _ _
  have q0 := yc_half (fun n' lo hi => wX_placeOfBit_9 post (nI r) y (nI k) (nI n) fk fr fd fs a1 a2 a3 a4 a5 a6 a7 a8 a9 a10 a11 a12 a13 a14 a15 a16 a17 a18 a19 a20 a21 a22 a23 a24 a25 a26 a27 n' (nI lo) (nI hi)) q n (by omega) ?_ ?_
  · obtain ⟨n', hn'⟩ := q0
    exact ⟨n', hn'⟩
  · intro n'
    exact pk_le q q (fun _ => H) (fun z => absurd z (by omega))
  · intro n' lo hj h1 h2' hh hlt hw'
    · refine pk_le hj lo (fun z => absurd z (by omega)) (fun _ => ⟨by decide, ?_⟩)
      have e1 : (nI lo + nI hj) / 2 = nI ((lo + hj) / 2) := by
        rw [nI_add]
        exact pk_div (d := 2) (by omega) (by omega) (by omega)
      refine nm_r e1 ?_
      have hm1 : lo ≤ (lo + hj) / 2 := by omega
      have hm2 : (lo + hj) / 2 < hj := by omega
      generalize (lo + hj) / 2 = md at *
      have key : ∀ v, v = nI (yc_ct (fun j => yr_row a5 r j == o) (md + 1)) → wX_placeOfBit_50 post (wX_placeOfBit_9 post (nI r) y (nI k) (nI n) fk fr fd fs a1 a2 a3 a4 a5 a6 a7 a8 a9 a10 a11 a12 a13 a14 a15 a16 a17 a18 a19 a20 a21 a22 a23 a24 a25 a26 a27 n') (nI r) y (nI k) (nI lo) (nI hj) (nI md) v (nI n) fk fr fd fs a1 a2 a3 a4 a5 a6 a7 a8 a9 a10 a11 a12 a13 a14 a15 a16 a17 a18 a19 a20 a21 a22 a23 a24 a25 a26 a27 := by
        intro v hv
        have b1 : yc_ct (fun j => yr_row a5 r j == o) (md + 1) ≤ md + 1 := yc_le _ _
        refine pk_lt k (yc_ct (fun j => yr_row a5 r j == o) (md + 1)) (fun z => ?_) (fun z => ?_) rfl hv
        · have hq2 : q ≤ md := by
            rcases Nat.lt_or_ge md q with g | g
            · have : yc_ct (fun j => yr_row a5 r j == o) (md + 1) ≤ yc_ct (fun j => yr_row a5 r j == o) q := yc_mono g
              omega
            · exact g
          exact br_t rfl (br_t rfl (hw' lo md h1 hq2 (by omega) (by omega) (by omega)))
        · have hq2 : md < q := by
            rcases Nat.lt_or_ge md q with g | g
            · exact g
            · have : yc_ct (fun j => yr_row a5 r j == o) q < yc_ct (fun j => yr_row a5 r j == o) (md + 1) := yc_lt (by omega) (by rw [hb]; exact beq_self_eq_true o)
              omega
          refine br_f (by decide) (br_f (by decide) ?_)
          rw [nI_1]
          exact hw' (md + 1) hj hq2 h2' (by omega) (by omega) (by omega)
      cases o
      · refine br_t hy (yr_zeros hs r (md + 1) hr (by omega) rfl (nI_1 md) (key _ ?_))
        refine congrArg nI (yc_congr (fun j _ => ?_))
        cases yr_row a5 r j <;> rfl
      · refine br_f (by rw [hy]; decide) (yr_ones hs r (md + 1) hr (by omega) rfl (nI_1 md) (key _ ?_))
        refine congrArg nI (yc_congr (fun j _ => ?_))
        cases yr_row a5 r j <;> rfl
end
section
/-! engine 0: on every level the letters stand in the order of their first digits -/
def yt_lt (s : Nat → Nat) (l p i : Nat) : Nat := yc_ct (fun j => decide (yi_pf l (s j) < p)) i
def yt_eq (s : Nat → Nat) (l p i : Nat) : Nat := yc_ct (fun j => decide (yi_pf l (s j) = p)) i
def yt_e1 (s : Nat → Nat) (l p i : Nat) : Nat := yc_ct (fun j => decide (yi_pf l (s j) = p) && decide (yi_dg l (s j) = 1)) i
def yt_e0 (s : Nat → Nat) (l p i : Nat) : Nat := yc_ct (fun j => decide (yi_pf l (s j) = p) && !decide (yi_dg l (s j) = 1)) i
def yt_l1 (s : Nat → Nat) (l p i : Nat) : Nat := yc_ct (fun j => decide (yi_pf l (s j) < p) && decide (yi_dg l (s j) = 1)) i
/-- where place j of the list stands on level l -/
def yt_pos (s : Nat → Nat) (n l j : Nat) : Nat := yt_lt s l (yi_pf l (s j)) n + yt_eq s l (yi_pf l (s j)) j
theorem yt_eq01 (s : Nat → Nat) (l p i : Nat) : yt_eq s l p i = yt_e1 s l p i + yt_e0 s l p i := yc_and _ _ i
theorem yt_lts (s : Nat → Nat) (l p i : Nat) : yt_lt s l (p + 1) i = yt_lt s l p i + yt_eq s l p i := by
  refine yc_or (fun j _ => ?_) (fun j _ h => ?_)
  · rw [Bool.eq_iff_iff]; simp; omega
  · have := of_decide_eq_true h
    exact decide_eq_false (by omega)
theorem yt_l1s (s : Nat → Nat) (l p i : Nat) : yt_l1 s l (p + 1) i = yt_l1 s l p i + yt_e1 s l p i := by
  refine yc_or (fun j _ => ?_) (fun j _ h => ?_)
  · rw [Bool.eq_iff_iff]; simp; omega
  · have h2 : (decide (yi_pf l (s j) < p) && decide (yi_dg l (s j) = 1)) = true := h
    rw [Bool.and_eq_true, decide_eq_true_eq, decide_eq_true_eq] at h2
    show (decide (yi_pf l (s j) = p) && decide (yi_dg l (s j) = 1)) = false
    rw [decide_eq_false (show ¬ yi_pf l (s j) = p by omega)]
    rfl
theorem yt_lt0 (s : Nat → Nat) (l i : Nat) : yt_lt s l 0 i = 0 := by
  have := yc_allf (p := fun j => decide (yi_pf l (s j) < 0)) (Nat.zero_le i) (fun j _ _ => decide_eq_false (by omega))
  exact this
theorem yt_l10 (s : Nat → Nat) (l i : Nat) : yt_l1 s l 0 i = 0 := by
  have := yc_allf (p := fun j => decide (yi_pf l (s j) < 0) && decide (yi_dg l (s j) = 1)) (Nat.zero_le i) (fun j _ _ => by rw [decide_eq_false (show ¬ yi_pf l (s j) < 0 by omega)]; rfl)
  exact this
theorem yt_le (s : Nat → Nat) {n l p i : Nat} (hi : i ≤ n) : yt_lt s l p n + yt_eq s l p i ≤ n := by
  have h1 : yt_eq s l p i ≤ yt_eq s l p n := yc_mono hi
  have h2 := yt_lts s l p n
  have h3 : yt_lt s l (p + 1) n ≤ n := yc_le _ _
  omega
/-- from a level to the next -/
theorem yt_n0 {s : Nat → Nat} {n l p i : Nat} (hs : ∀ j, j < n → s j < 8) (hl : l < 3) (hi : i ≤ n) : yt_eq s (l + 1) (2 * p) i = yt_e0 s l p i := by
  refine yc_congr (fun j hj => ?_)
  have h1 := yi_pfs (s j) (hs j (by omega)) l hl
  have h2 := yi_dg2 l (s j)
  rw [Bool.eq_iff_iff]; simp; omega
theorem yt_n1 {s : Nat → Nat} {n l p i : Nat} (hs : ∀ j, j < n → s j < 8) (hl : l < 3) (hi : i ≤ n) : yt_eq s (l + 1) (2 * p + 1) i = yt_e1 s l p i := by
  refine yc_congr (fun j hj => ?_)
  have h1 := yi_pfs (s j) (hs j (by omega)) l hl
  have h2 := yi_dg2 l (s j)
  rw [Bool.eq_iff_iff]; simp; omega
theorem yt_nl {s : Nat → Nat} {n l p i : Nat} (hs : ∀ j, j < n → s j < 8) (hl : l < 3) (hi : i ≤ n) : yt_lt s (l + 1) (2 * p) i = yt_lt s l p i := by
  refine yc_congr (fun j hj => ?_)
  have h1 := yi_pfs (s j) (hs j (by omega)) l hl
  have h2 := yi_dg2 l (s j)
  rw [Bool.eq_iff_iff]; simp; omega
theorem yt_top {s : Nat → Nat} {n i : Nat} (hs : ∀ j, j < n → s j < 8) (hi : i ≤ n) : yt_eq s 0 0 i = i := by
  have := yc_allt (p := fun j => decide (yi_pf 0 (s j) = 0)) (Nat.zero_le i) (fun j _ g => decide_eq_true (yi_pf0 _ (hs j (by omega))))
  rw [yc_0] at this
  show yc_ct _ i = i
  omega
theorem yt_last (s : Nat → Nat) (c i : Nat) : yt_eq s 3 c i = yc_r s c i := yc_congr (fun j _ => by rw [yi_pf3])
theorem yt_lastl (s : Nat → Nat) (c i : Nat) : yt_lt s 3 c i = yc_b s c i := yc_congr (fun j _ => by rw [yi_pf3])
/-- the rows hold the digits -/
def yt_ok (a : Nat → Int32) (s : Nat → Nat) (n l : Nat) : Prop := ∀ j, j < n → yr_row a l (yt_pos s n l j) = decide (yi_dg l (s j) = 1)
theorem yt_cnt {a : Nat → Int32} {s : Nat → Nat} {n l : Nat} (h : yt_ok a s n l) (p : Nat) : ∀ i, i ≤ n → yc_ct (yr_row a l) (yt_lt s l p n + yt_eq s l p i) = yt_l1 s l p n + yt_e1 s l p i := by
  induction p with
  | zero =>
    intro i
    induction i with
    | zero => intro _; rw [yt_lt0, yt_l10]; rfl
    | succ i ih =>
      intro hi
      have ih' := ih (by omega)
      by_cases e : yi_pf l (s i) = 0
      · have h1 : yt_eq s l 0 (i + 1) = yt_eq s l 0 i + 1 := yc_t (decide_eq_true e)
        have h2 := h i (by omega)
        unfold yt_pos at h2
        rw [e] at h2
        rw [h1, ← Nat.add_assoc, yc_s, h2, ih']
        show _ = _ + (yt_e1 s l 0 i + (if (decide (yi_pf l (s i) = 0) && decide (yi_dg l (s i) = 1)) then 1 else 0))
        rw [decide_eq_true e, Bool.true_and]
        omega
      · have h1 : yt_eq s l 0 (i + 1) = yt_eq s l 0 i := yc_f (decide_eq_false e)
        have h2 : yt_e1 s l 0 (i + 1) = yt_e1 s l 0 i := yc_f (p := fun j => decide (yi_pf l (s j) = 0) && decide (yi_dg l (s j) = 1)) (by show (decide (yi_pf l (s i) = 0) && _) = false; rw [decide_eq_false e]; rfl)
        rw [h1, h2, ih']
  | succ p ihp =>
    intro i
    induction i with
    | zero => intro _; rw [yt_lts, yt_l1s, ← ihp n (Nat.le_refl n)]; rfl
    | succ i ih =>
      intro hi
      have ih' := ih (by omega)
      by_cases e : yi_pf l (s i) = p + 1
      · have h1 : yt_eq s l (p + 1) (i + 1) = yt_eq s l (p + 1) i + 1 := yc_t (decide_eq_true e)
        have h2 := h i (by omega)
        unfold yt_pos at h2
        rw [e] at h2
        rw [h1, ← Nat.add_assoc, yc_s, h2, ih']
        show _ = _ + (yt_e1 s l (p + 1) i + (if (decide (yi_pf l (s i) = p + 1) && decide (yi_dg l (s i) = 1)) then 1 else 0))
        rw [decide_eq_true e, Bool.true_and]
        omega
      · have h1 : yt_eq s l (p + 1) (i + 1) = yt_eq s l (p + 1) i := yc_f (decide_eq_false e)
        have h2 : yt_e1 s l (p + 1) (i + 1) = yt_e1 s l (p + 1) i := yc_f (p := fun j => decide (yi_pf l (s j) = p + 1) && decide (yi_dg l (s j) = 1)) (by show (decide (yi_pf l (s i) = p + 1) && _) = false; rw [decide_eq_false e]; rfl)
        rw [h1, h2, ih']
/-- zeros before a place, less those before the stretch -/
theorem yt_zero {a : Nat → Int32} {s : Nat → Nat} {n l : Nat} (h : yt_ok a s n l) (p i : Nat) (hi : i ≤ n) : yc_ct (fun j => !yr_row a l j) (yt_lt s l p n + yt_eq s l p i) = yc_ct (fun j => !yr_row a l j) (yt_lt s l p n) + yt_e0 s l p i := by
  have h1 := yc_not (yr_row a l) (yt_lt s l p n + yt_eq s l p i)
  have h2 := yc_not (yr_row a l) (yt_lt s l p n)
  have h3 := yt_cnt h p i hi
  have h4 : yc_ct (yr_row a l) (yt_lt s l p n) = yt_l1 s l p n := yt_cnt h p 0 (Nat.zero_le n)
  have h5 := yt_eq01 s l p i
  omega
theorem yt_step {fn fk fr fd fs : Int32} {a1 a2 a3 a4 a5 a6 a7 a8 a9 a10 a11 a12 a13 a14 a15 a16 a17 a18 a19 a20 a21 a22 a23 a24 a25 a26 a27 : Nat → Int32} {K : Int32 → Int32 → Prop} {s : Nat → Nat} {n l p i : Nat} {x3 x4 x5 x7 : Int32} (hn : n ≤ 200) (hS : yr_sum a5 a6 a7) (h : yt_ok a5 s n l) (hl : l < 3) (hi : i ≤ n)
    (h3 : x3 = nI (yt_lt s l p n)) (h4 : x4 = nI (yt_lt s l p n + yt_eq s l p n)) (h5 : x5 = nI (yt_eq s l p i)) (h7 : x7 = nI l)
    (H : K (nI (yt_e0 s l p n)) (nI (yt_e0 s l p i))) :
    wpX_zerosBefore (fun r3 => wpX_zerosBefore (fun r4 => ∀ x9, x9 = r4 - r3 → wpX_zerosBefore (fun r6 => ∀ x10, x10 = r6 - r3 → K x9 x10) (fn, fk, fr, fd, fs, a1, a2, a3, a4, a5, a6, a7, a8, a9, a10, a11, a12, a13, a14, a15, a16, a17, a18, a19, a20, a21, a22, a23, a24, a25, a26, a27) x7 (x3 + x5)) (fn, fk, fr, fd, fs, a1, a2, a3, a4, a5, a6, a7, a8, a9, a10, a11, a12, a13, a14, a15, a16, a17, a18, a19, a20, a21, a22, a23, a24, a25, a26, a27) x7 x4) (fn, fk, fr, fd, fs, a1, a2, a3, a4, a5, a6, a7, a8, a9, a10, a11, a12, a13, a14, a15, a16, a17, a18, a19, a20, a21, a22, a23, a24, a25, a26, a27) x7 x3 := by
  subst h3 h4 h5 h7
  have b1 := yt_le s (l := l) (p := p) (Nat.le_refl n)
  have b2 := yt_le s (l := l) (p := p) hi
  refine yr_zeros hS l _ (by omega) (by omega) rfl rfl (yr_zeros hS l _ (by omega) (by omega) rfl rfl ?_)
  rw [yt_zero h p n (Nat.le_refl n), pk_sub (by omega), Nat.add_sub_cancel_left]
  refine nm_e (yr_zeros hS l _ (by omega) (show yt_lt s l p n + yt_eq s l p i < 224 by omega) rfl (nI_add _ _) ?_)
  rw [yt_zero h p i hi, pk_sub (by omega), Nat.add_sub_cancel_left]
  exact nm_e H
theorem yt_0p (l : Nat) : (0 : Int32) + nI l = nI l := by
  show nI 0 + nI l = nI l
  rw [nI_add, Nat.zero_add]
/-- down one level along the digits of c -/
theorem yt_c1 {s : Nat → Nat} {n l c i : Nat} (hs : ∀ j, j < n → s j < 8) (hl : l < 3) (hi : i ≤ n) (hc : c < 8) (e : yi_dg l c = 1) :
    yt_lt s (l + 1) (yi_pf (l + 1) c) n = yt_lt s l (yi_pf l c) n + yt_e0 s l (yi_pf l c) n ∧
    yt_lt s (l + 1) (yi_pf (l + 1) c) n + yt_eq s (l + 1) (yi_pf (l + 1) c) n = yt_lt s l (yi_pf l c) n + yt_eq s l (yi_pf l c) n ∧
    yt_eq s (l + 1) (yi_pf (l + 1) c) i = yt_eq s l (yi_pf l c) i - yt_e0 s l (yi_pf l c) i ∧ yt_e0 s l (yi_pf l c) i ≤ yt_eq s l (yi_pf l c) i ∧
    yt_lt s (l + 1) (yi_pf (l + 1) c) i = yt_lt s l (yi_pf l c) i + yt_e0 s l (yi_pf l c) i := by
  have e01 := yt_eq01 s l (yi_pf l c) i
  have e01n := yt_eq01 s l (yi_pf l c) n
  have m0 := yt_lts s (l + 1) (2 * yi_pf l c) n
  have m0i := yt_lts s (l + 1) (2 * yi_pf l c) i
  have n0 := yt_n0 (p := yi_pf l c) hs hl (Nat.le_refl n)
  have n1 := yt_n1 (p := yi_pf l c) hs hl (Nat.le_refl n)
  have n0i := yt_n0 (p := yi_pf l c) hs hl hi
  have n1i := yt_n1 (p := yi_pf l c) hs hl hi
  have nl := yt_nl (p := yi_pf l c) hs hl (Nat.le_refl n)
  have nli := yt_nl (p := yi_pf l c) hs hl hi
  rw [yi_pfs c hc l hl, e]
  exact ⟨by omega, by omega, by omega, by omega, by omega⟩
theorem yt_c0 {s : Nat → Nat} {n l c i : Nat} (hs : ∀ j, j < n → s j < 8) (hl : l < 3) (hi : i ≤ n) (hc : c < 8) (e : yi_dg l c = 0) :
    yt_lt s (l + 1) (yi_pf (l + 1) c) n = yt_lt s l (yi_pf l c) n ∧
    yt_lt s (l + 1) (yi_pf (l + 1) c) n + yt_eq s (l + 1) (yi_pf (l + 1) c) n = yt_lt s l (yi_pf l c) n + yt_e0 s l (yi_pf l c) n ∧
    yt_eq s (l + 1) (yi_pf (l + 1) c) i = yt_e0 s l (yi_pf l c) i ∧
    yt_lt s (l + 1) (yi_pf (l + 1) c) i = yt_lt s l (yi_pf l c) i := by
  have n0 := yt_n0 (p := yi_pf l c) hs hl (Nat.le_refl n)
  have n0i := yt_n0 (p := yi_pf l c) hs hl hi
  have nl := yt_nl (p := yi_pf l c) hs hl (Nat.le_refl n)
  have nli := yt_nl (p := yi_pf l c) hs hl hi
  rw [yi_pfs c hc l hl, e]
  simp only [Nat.add_zero]
  exact ⟨by omega, by omega, by omega, by omega⟩
theorem yt_dg01 (l c : Nat) (h : ¬ yi_dg l c = 1) : yi_dg l c = 0 := by
  have := yi_dg2 l c
  omega
/-- what the engine needs: sums, rows, letters -/
def yt_all (a5 : Nat → Int32) (s : Nat → Nat) (n : Nat) : Prop := ∀ l, l < 3 → yt_ok a5 s n l
theorem yt_rank {fn fk fr fd fs : Int32} {a1 a2 a3 a4 a5 a6 a7 a8 a9 a10 a11 a12 a13 a14 a15 a16 a17 a18 a19 a20 a21 a22 a23 a24 a25 a26 a27 : Nat → Int32} {post : Int32 → Prop} {s : Nat → Nat} {n c i : Nat} {x y : Int32} (hn : n ≤ 200) (hf : fn = nI n) (hs : ∀ j, j < n → s j < 8) (hS : yr_sum a5 a6 a7) (h : yt_all a5 s n) (hc : c < 8) (hi : i ≤ n) (hx : x = nI c) (hy : y = nI i)
    (H : post (nI (yc_r s c i))) : wpX_rankInTree post (fn, fk, fr, fd, fs, a1, a2, a3, a4, a5, a6, a7, a8, a9, a10, a11, a12, a13, a14, a15, a16, a17, a18, a19, a20, a21, a22, a23, a24, a25, a26, a27) x y := by
  subst hf hx hy
  have q := pk_loop (σ := Unit) (fun k l _ => wX_rankInTree_14 post (nI c) (nI n) fk fr fd fs a1 a2 a3 a4 a5 a6 a7 a8 a9 a10 a11 a12 a13 a14 a15 a16 a17 a18 a19 a20 a21 a22 a23 a24 a25 a26 a27 k (nI (yt_lt s l (yi_pf l c) n)) (nI (yt_lt s l (yi_pf l c) n + yt_eq s l (yi_pf l c) n)) (nI (yt_eq s l (yi_pf l c) i)) (nI l)) (fun _ _ => True) 3 0 () (by omega) trivial ?_ ?_
  · obtain ⟨k, hk⟩ := q
    have hk' : wX_rankInTree_14 post (nI c) (nI n) fk fr fd fs a1 a2 a3 a4 a5 a6 a7 a8 a9 a10 a11 a12 a13 a14 a15 a16 a17 a18 a19 a20 a21 a22 a23 a24 a25 a26 a27 k (nI (yt_lt s 0 (yi_pf 0 c) n)) (nI (yt_lt s 0 (yi_pf 0 c) n + yt_eq s 0 (yi_pf 0 c) n)) (nI (yt_eq s 0 (yi_pf 0 c) i)) (nI 0) := hk
    rw [yi_pf0 c hc, yt_lt0, Nat.zero_add, yt_top hs (Nat.le_refl n), yt_top hs hi] at hk'
    exact ⟨k, hk'⟩
  · intro k _ _
    refine pk_le 3 3 (fun _ => ?_) (fun z => absurd z (by omega))
    show post (nI (yt_eq s 3 (yi_pf 3 c) i))
    rw [yi_pf3, yt_last]; exact H
  · intro k l _ hl _ hk
    have hk' := hk () trivial
    refine pk_le 3 l (fun z => absurd z (by omega)) (fun _ => nm_r (yt_0p l) ?_)
    refine yt_step (p := yi_pf l c) hn hS (h l hl) hl hi rfl rfl rfl rfl ?_
    refine yi_digit c l hc hl rfl rfl ?_
    have hd2 := yi_dg2 l c
    refine pk_eq (yi_dg l c) 1 (fun e => ?_) (fun e => ?_)
    · obtain ⟨g1, g2, g3, g4, _⟩ := yt_c1 hs hl hi hc e
      refine br_f (by decide) (br_f (by decide) (br_f (by decide) (nm_r (nI_1 l) ?_)))
      rw [pk_sub g4, nI_add]
      rw [g2, g1, g3] at hk'
      exact hk'
    · obtain ⟨g1, g2, g3, _⟩ := yt_c0 hs hl hi hc (yt_dg01 l c e)
      rw [g2, g1, g3] at hk'
      refine br_t rfl (br_t rfl (br_t rfl (nm_r (nI_add _ _) (nm_r (nI_1 l) hk'))))
theorem yt_below {fn fk fr fd fs : Int32} {a1 a2 a3 a4 a5 a6 a7 a8 a9 a10 a11 a12 a13 a14 a15 a16 a17 a18 a19 a20 a21 a22 a23 a24 a25 a26 a27 : Nat → Int32} {post : Int32 → Prop} {s : Nat → Nat} {n c i : Nat} {x y : Int32} (hn : n ≤ 200) (hf : fn = nI n) (hs : ∀ j, j < n → s j < 8) (hS : yr_sum a5 a6 a7) (h : yt_all a5 s n) (hc : c < 8) (hi : i ≤ n) (hx : x = nI c) (hy : y = nI i)
    (H : post (nI (yc_b s c i))) : wpX_belowInTree post (fn, fk, fr, fd, fs, a1, a2, a3, a4, a5, a6, a7, a8, a9, a10, a11, a12, a13, a14, a15, a16, a17, a18, a19, a20, a21, a22, a23, a24, a25, a26, a27) x y := by
  subst hf hx hy
  have q := pk_loop (σ := Unit) (fun k l _ => wX_belowInTree_17 post (nI c) (nI n) fk fr fd fs a1 a2 a3 a4 a5 a6 a7 a8 a9 a10 a11 a12 a13 a14 a15 a16 a17 a18 a19 a20 a21 a22 a23 a24 a25 a26 a27 k (nI (yt_lt s l (yi_pf l c) n)) (nI (yt_lt s l (yi_pf l c) n + yt_eq s l (yi_pf l c) n)) (nI (yt_eq s l (yi_pf l c) i)) (nI (yt_lt s l (yi_pf l c) i)) (nI l)) (fun _ _ => True) 3 0 () (by omega) trivial ?_ ?_
  · obtain ⟨k, hk⟩ := q
    have hk' : wX_belowInTree_17 post (nI c) (nI n) fk fr fd fs a1 a2 a3 a4 a5 a6 a7 a8 a9 a10 a11 a12 a13 a14 a15 a16 a17 a18 a19 a20 a21 a22 a23 a24 a25 a26 a27 k (nI (yt_lt s 0 (yi_pf 0 c) n)) (nI (yt_lt s 0 (yi_pf 0 c) n + yt_eq s 0 (yi_pf 0 c) n)) (nI (yt_eq s 0 (yi_pf 0 c) i)) (nI (yt_lt s 0 (yi_pf 0 c) i)) (nI 0) := hk
    rw [yi_pf0 c hc, yt_lt0, yt_lt0, Nat.zero_add, yt_top hs (Nat.le_refl n), yt_top hs hi] at hk'
    exact ⟨k, hk'⟩
  · intro k _ _
    refine pk_le 3 3 (fun _ => ?_) (fun z => absurd z (by omega))
    show post (nI (yt_lt s 3 (yi_pf 3 c) i))
    rw [yi_pf3, yt_lastl]; exact H
  · intro k l _ hl _ hk
    have hk' := hk () trivial
    refine pk_le 3 l (fun z => absurd z (by omega)) (fun _ => nm_r (yt_0p l) ?_)
    refine yt_step (p := yi_pf l c) hn hS (h l hl) hl hi rfl rfl rfl rfl ?_
    refine yi_digit c l hc hl rfl rfl ?_
    have hd2 := yi_dg2 l c
    refine pk_eq (yi_dg l c) 1 (fun e => ?_) (fun e => ?_)
    · obtain ⟨g1, g2, g3, g4, g5⟩ := yt_c1 hs hl hi hc e
      refine br_f (by decide) (nm_r (nI_add _ _) (br_f (by decide) (br_f (by decide) (br_f (by decide) (nm_r (nI_1 l) ?_)))))
      rw [pk_sub g4, nI_add]
      rw [g2, g1, g3, g5] at hk'
      exact hk'
    · obtain ⟨g1, g2, g3, g5⟩ := yt_c0 hs hl hi hc (yt_dg01 l c e)
      rw [g2, g1, g3, g5] at hk'
      refine br_t rfl (nm_r (nI_add _ 0) (br_t rfl (br_t rfl (br_t rfl (nm_r (nI_add _ _) (nm_r (nI_1 l) hk'))))))
theorem yt_at {fn fk fr fd fs : Int32} {a1 a2 a3 a4 a5 a6 a7 a8 a9 a10 a11 a12 a13 a14 a15 a16 a17 a18 a19 a20 a21 a22 a23 a24 a25 a26 a27 : Nat → Int32} {post : Int32 → Prop} {s : Nat → Nat} {n i : Nat} {y : Int32} (hn : n ≤ 200) (hf : fn = nI n) (hs : ∀ j, j < n → s j < 8) (hS : yr_sum a5 a6 a7) (h : yt_all a5 s n) (hi : i < n) (hy : y = nI i)
    (H : post (nI (s i))) : wpX_atInTree post (fn, fk, fr, fd, fs, a1, a2, a3, a4, a5, a6, a7, a8, a9, a10, a11, a12, a13, a14, a15, a16, a17, a18, a19, a20, a21, a22, a23, a24, a25, a26, a27) y := by
  subst hf hy
  have hc := hs i hi
  have hi' : i ≤ n := by omega
  have q := pk_loop (σ := Unit) (fun k l _ => wX_atInTree_16 post (nI n) fk fr fd fs a1 a2 a3 a4 a5 a6 a7 a8 a9 a10 a11 a12 a13 a14 a15 a16 a17 a18 a19 a20 a21 a22 a23 a24 a25 a26 a27 k (nI (yi_pf l (s i))) (nI (yt_lt s l (yi_pf l (s i)) n)) (nI (yt_lt s l (yi_pf l (s i)) n + yt_eq s l (yi_pf l (s i)) n)) (nI (yt_eq s l (yi_pf l (s i)) i)) (nI l)) (fun _ _ => True) 3 0 () (by omega) trivial ?_ ?_
  · obtain ⟨k, hk⟩ := q
    have hk' : wX_atInTree_16 post (nI n) fk fr fd fs a1 a2 a3 a4 a5 a6 a7 a8 a9 a10 a11 a12 a13 a14 a15 a16 a17 a18 a19 a20 a21 a22 a23 a24 a25 a26 a27 k (nI (yi_pf 0 (s i))) (nI (yt_lt s 0 (yi_pf 0 (s i)) n)) (nI (yt_lt s 0 (yi_pf 0 (s i)) n + yt_eq s 0 (yi_pf 0 (s i)) n)) (nI (yt_eq s 0 (yi_pf 0 (s i)) i)) (nI 0) := hk
    rw [yi_pf0 (s i) hc, yt_lt0, Nat.zero_add, yt_top hs (Nat.le_refl n), yt_top hs hi'] at hk'
    exact ⟨k, hk'⟩
  · intro k _ _
    refine pk_le 3 3 (fun _ => ?_) (fun z => absurd z (by omega))
    show post (nI (yi_pf 3 (s i)))
    rw [yi_pf3]; exact H
  · intro k l _ hl _ hk
    have hk' := hk () trivial
    have b2 := yt_le s (l := l) (p := yi_pf l (s i)) hi'
    refine pk_le 3 l (fun z => absurd z (by omega)) (fun _ => nm_r (yt_0p l) ?_)
    refine yt_step (p := yi_pf l (s i)) hn hS (h l hl) hl hi' rfl rfl rfl rfl ?_
    refine yr_bit l (yt_lt s l (yi_pf l (s i)) n + yt_eq s l (yi_pf l (s i)) i) (by omega) (by omega) rfl (nI_add _ _) ?_
    have hb : yr_row a5 l (yt_lt s l (yi_pf l (s i)) n + yt_eq s l (yi_pf l (s i)) i) = decide (yi_dg l (s i) = 1) := h l hl i hi
    have e2 : (2 : Int32) * nI (yi_pf l (s i)) = nI (2 * yi_pf l (s i)) := pk_mul 2 _
    have e3 := yi_pfs (s i) hc l hl
    rw [hb, e2]
    by_cases e : yi_dg l (s i) = 1
    · obtain ⟨g1, g2, g3, g4, _⟩ := yt_c1 hs hl hi' hc e
      rw [decide_eq_true e]
      refine br_f (by decide) (nm_r (nI_1 _) (br_f (by decide) (br_f (by decide) (br_f (by decide) (nm_r (nI_1 l) ?_)))))
      rw [pk_sub g4, nI_add]
      rw [g2, g1, g3, e3, e] at hk'
      exact hk'
    · obtain ⟨g1, g2, g3, _⟩ := yt_c0 hs hl hi' hc (yt_dg01 l (s i) e)
      rw [decide_eq_false e]
      rw [g2, g1, g3, e3, yt_dg01 l (s i) e] at hk'
      refine br_t rfl (nm_r (nI_add _ 0) (br_t rfl (br_t rfl (br_t rfl (nm_r (nI_add _ _) (nm_r (nI_1 l) hk'))))))
end
section
/-! packing the tree -/
/-- letters as they stand in the array -/
def ys_let (a1 : Nat → Int32) (s : Nat → Nat) (n : Nat) : Prop := ∀ j, j < n → a1 j = nI (s j) ∧ s j < 8
/-- on level l all of first digits below p, and of p those before i, are written -/
def yt_done (a : Nat → Int32) (s : Nat → Nat) (n l p i : Nat) : Prop :=
  (∀ j, j < n → (yi_pf l (s j) < p ∨ (yi_pf l (s j) = p ∧ j < i)) → yr_row a l (yt_pos s n l j) = decide (yi_dg l (s j) = 1)) ∧
  (∀ x, yt_lt s l p n + yt_eq s l p i ≤ x → x < 224 → yr_row a l x = false)
theorem yt_posl {s : Nat → Nat} {n l p i j : Nat} (hj : j < n) (h : yi_pf l (s j) < p ∨ (yi_pf l (s j) = p ∧ j < i)) : yt_pos s n l j < yt_lt s l p n + yt_eq s l p i := by
  unfold yt_pos
  rcases h with h | ⟨h, h2⟩
  · have h1 : yt_eq s l (yi_pf l (s j)) j < yt_eq s l (yi_pf l (s j)) n := yc_lt hj (decide_eq_true rfl)
    have h2 := yt_lts s l (yi_pf l (s j)) n
    have h3 : yt_lt s l (yi_pf l (s j) + 1) n ≤ yt_lt s l p n := yc_imp (fun k _ g => decide_eq_true (by have := of_decide_eq_true g; omega))
    omega
  · have h1 : yt_eq s l (yi_pf l (s j)) j < yt_eq s l (yi_pf l (s j)) i := yc_lt h2 (decide_eq_true rfl)
    rw [h] at h1 ⊢
    omega
theorem yt_21 {fn fk fr fd fs : Int32} {a1 a2 a3 a4 a5 a6 a7 a8 a9 a10 a11 a12 a13 a14 a15 a16 a17 a18 a19 a20 a21 a22 a23 a24 a25 a26 a27 : Nat → Int32} {post : St2 → Prop} {J2 : Int32 → Int32 → Int32 → Int32 → Int32 → Int32 → (Nat → Int32) → (Nat → Int32) → (Nat → Int32) → (Nat → Int32) → (Nat → Int32) → (Nat → Int32) → (Nat → Int32) → (Nat → Int32) → (Nat → Int32) → (Nat → Int32) → (Nat → Int32) → (Nat → Int32) → (Nat → Int32) → (Nat → Int32) → (Nat → Int32) → (Nat → Int32) → (Nat → Int32) → (Nat → Int32) → (Nat → Int32) → (Nat → Int32) → (Nat → Int32) → (Nat → Int32) → (Nat → Int32) → (Nat → Int32) → (Nat → Int32) → (Nat → Int32) → (Nat → Int32) →  Prop} {J11 : Int32 → Int32 → Int32 → Int32 → Int32 → Int32 → Int32 → (Nat → Int32) → (Nat → Int32) → (Nat → Int32) → (Nat → Int32) → (Nat → Int32) → (Nat → Int32) → (Nat → Int32) → (Nat → Int32) → (Nat → Int32) → (Nat → Int32) → (Nat → Int32) → (Nat → Int32) → (Nat → Int32) → (Nat → Int32) → (Nat → Int32) → (Nat → Int32) → (Nat → Int32) → (Nat → Int32) → (Nat → Int32) → (Nat → Int32) → (Nat → Int32) → (Nat → Int32) → (Nat → Int32) → (Nat → Int32) → (Nat → Int32) → (Nat → Int32) → (Nat → Int32) →  Prop} {s : Nat → Nat} {n l p : Nat} (hn : n ≤ 200) (hs : ys_let a1 s n) (hl : l < 3) (hp : p < 2 ^ l) (hf : fn = nI n)
    (hd : yt_done a5 s n l p 0)
    (H : ∀ b, yt_done b s n l p n → (∀ r x, r < 21 → x < 224 → r ≠ l → yr_row b r x = yr_row a5 r x) → J11 (nI (yt_lt s l p n + yt_eq s l p n)) (nI (p + 1)) (nI n) fk fr fd fs a1 a2 a3 a4 b a6 a7 a8 a9 a10 a11 a12 a13 a14 a15 a16 a17 a18 a19 a20 a21 a22 a23 a24 a25 a26 a27) :
    ∃ k, wX_packTree_21 post J2 J11 (nI l) (nI p) k (nI (yt_lt s l p n)) 0 fn fk fr fd fs a1 a2 a3 a4 a5 a6 a7 a8 a9 a10 a11 a12 a13 a14 a15 a16 a17 a18 a19 a20 a21 a22 a23 a24 a25 a26 a27 := by
  subst hf
  have hp8 : p < 8 := by
    have : 2 ^ l ≤ 2 ^ 2 := Nat.pow_le_pow_right (by omega) (by omega)
    omega
  have q := pk_loop (fun k i (b : Nat → Int32) => wX_packTree_21 post J2 J11 (nI l) (nI p) k (nI (yt_lt s l p n + yt_eq s l p i)) (nI i) (nI n) fk fr fd fs a1 a2 a3 a4 b a6 a7 a8 a9 a10 a11 a12 a13 a14 a15 a16 a17 a18 a19 a20 a21 a22 a23 a24 a25 a26 a27) (fun i b => yt_done b s n l p i ∧ ∀ r x, r < 21 → x < 224 → r ≠ l → yr_row b r x = yr_row a5 r x) n 0 a5 (by omega) ⟨hd, fun _ _ _ _ _ => rfl⟩ ?_ ?_
  · obtain ⟨k, hk⟩ := q
    exact ⟨k, hk⟩
  · intro k b h
    exact pk_le n n (fun _ => nm_r (nI_1 p) (H b h.1 h.2)) (fun z => absurd z (by omega))
  · intro k i b hi h hk
    obtain ⟨⟨h1, h2⟩, h3⟩ := h
    obtain ⟨s1, s2⟩ := hs i hi
    have bd := yt_le s (l := l) (p := p) (show i ≤ n by omega)
    have hpf : yi_pf l (s i) < 8 := by
      have := yi_pfl (s i) s2 l (by omega)
      have : 2 ^ l ≤ 2 ^ 2 := Nat.pow_le_pow_right (by omega) (by omega)
      omega
    refine pk_le n i (fun z => absurd z (by omega)) (fun _ => ⟨pk_in i 200 (by omega), ?_⟩)
    rw [nI_clamp (by omega), s1, yi_pfI _ s2 l hl]
    refine pk_eq (yi_pf l (s i)) p (fun e => ⟨pk_in i 200 (by omega), yi_digit (s i) l s2 hl rfl rfl ?_⟩) (fun e => nm_r (nI_1 i) ?_)
    · have e1 : yt_eq s l p (i + 1) = yt_eq s l p i + 1 := yc_t (decide_eq_true e)
      have hpos : yt_pos s n l i = yt_lt s l p n + yt_eq s l p i := by unfold yt_pos; rw [e]
      refine pk_eq (yi_dg l (s i)) 1 (fun g => ?_) (fun g => nm_r (nI_1 _) (nm_r (nI_1 i) ?_)) rfl rfl (by have := yi_dg2 l (s i); omega)
      · refine yr_set l (yt_lt s l p n + yt_eq s l p i) (by omega) (by omega) (yt_0p l) rfl (fun b' hb' => nm_r (nI_1 _) (nm_r (nI_1 i) ?_))
        have k1 := hk b' ⟨⟨fun j hj hc => ?_, fun x hx1 hx2 => ?_⟩, fun r x hr hx hne => ?_⟩
        · have k2 : wX_packTree_21 post J2 J11 (nI l) (nI p) k (nI (yt_lt s l p n + yt_eq s l p (i + 1))) (nI (i + 1)) (nI n) fk fr fd fs a1 a2 a3 a4 b' a6 a7 a8 a9 a10 a11 a12 a13 a14 a15 a16 a17 a18 a19 a20 a21 a22 a23 a24 a25 a26 a27 := k1
          rw [e1] at k2
          exact k2
        · have hle := yt_le s (l := l) (p := yi_pf l (s j)) (show j ≤ n by omega)
          have hle2 : yt_pos s n l j < 224 := by unfold yt_pos; omega
          rw [hb' l _ (by omega) hle2]
          by_cases ej : j = i
          · subst ej
            rw [hpos, decide_eq_true (show l = l ∧ yt_lt s l p n + yt_eq s l p j = yt_lt s l p n + yt_eq s l p j from ⟨rfl, rfl⟩), decide_eq_true g, Bool.or_true]
          · have hc' : yi_pf l (s j) < p ∨ (yi_pf l (s j) = p ∧ j < i) := by omega
            have := yt_posl hj hc'
            rw [h1 j hj hc', decide_eq_false (show ¬ (l = l ∧ yt_pos s n l j = yt_lt s l p n + yt_eq s l p i) by omega), Bool.or_false]
        · rw [e1] at hx1
          rw [hb' l x (by omega) hx2, h2 x (by omega) hx2, decide_eq_false (show ¬ (l = l ∧ x = yt_lt s l p n + yt_eq s l p i) by omega)]
          rfl
        · rw [hb' r x hr hx, h3 r x hr hx hne, decide_eq_false (fun z => hne z.1), Bool.or_false]
      · have k1 := hk b ⟨⟨fun j hj hc => ?_, fun x hx1 hx2 => ?_⟩, h3⟩
        · have k2 : wX_packTree_21 post J2 J11 (nI l) (nI p) k (nI (yt_lt s l p n + yt_eq s l p (i + 1))) (nI (i + 1)) (nI n) fk fr fd fs a1 a2 a3 a4 b a6 a7 a8 a9 a10 a11 a12 a13 a14 a15 a16 a17 a18 a19 a20 a21 a22 a23 a24 a25 a26 a27 := k1
          rw [e1] at k2
          exact k2
        · by_cases ej : j = i
          · subst ej
            rw [hpos, h2 _ (Nat.le_refl _) (by omega), decide_eq_false g]
          · exact h1 j hj (by omega)
        · rw [e1] at hx1
          exact h2 x (by omega) hx2
    · have e1 : yt_eq s l p (i + 1) = yt_eq s l p i := yc_f (decide_eq_false e)
      have k1 := hk b ⟨⟨fun j hj hc => ?_, fun x hx1 hx2 => ?_⟩, h3⟩
      · have k2 : wX_packTree_21 post J2 J11 (nI l) (nI p) k (nI (yt_lt s l p n + yt_eq s l p (i + 1))) (nI (i + 1)) (nI n) fk fr fd fs a1 a2 a3 a4 b a6 a7 a8 a9 a10 a11 a12 a13 a14 a15 a16 a17 a18 a19 a20 a21 a22 a23 a24 a25 a26 a27 := k1
        rw [e1] at k2
        exact k2
      · by_cases ej : j = i
        · subst ej
          exact h1 j hj (Or.inl (by omega))
        · exact h1 j hj (by omega)
      · rw [e1] at hx1
        exact h2 x hx1 hx2
theorem yt_11 {fn fk fr fd fs : Int32} {a1 a2 a3 a4 a5 a6 a7 a8 a9 a10 a11 a12 a13 a14 a15 a16 a17 a18 a19 a20 a21 a22 a23 a24 a25 a26 a27 : Nat → Int32} {post : St2 → Prop} {J2 : Int32 → Int32 → Int32 → Int32 → Int32 → Int32 → (Nat → Int32) → (Nat → Int32) → (Nat → Int32) → (Nat → Int32) → (Nat → Int32) → (Nat → Int32) → (Nat → Int32) → (Nat → Int32) → (Nat → Int32) → (Nat → Int32) → (Nat → Int32) → (Nat → Int32) → (Nat → Int32) → (Nat → Int32) → (Nat → Int32) → (Nat → Int32) → (Nat → Int32) → (Nat → Int32) → (Nat → Int32) → (Nat → Int32) → (Nat → Int32) → (Nat → Int32) → (Nat → Int32) → (Nat → Int32) → (Nat → Int32) → (Nat → Int32) → (Nat → Int32) →  Prop} {s : Nat → Nat} {n l : Nat} (hn : n ≤ 200) (hs : ys_let a1 s n) (hl : l < 3) (hf : fn = nI n)
    (h0 : ∀ x, x < 224 → yr_row a5 l x = false)
    (H : ∀ b, yt_ok b s n l → (∀ r x, r < 21 → x < 224 → r ≠ l → yr_row b r x = yr_row a5 r x) → J2 (nI (l + 1)) (nI n) fk fr fd fs a1 a2 a3 a4 b a6 a7 a8 a9 a10 a11 a12 a13 a14 a15 a16 a17 a18 a19 a20 a21 a22 a23 a24 a25 a26 a27) :
    ∃ k, wX_packTree_11 post J2 (nI l) k 0 0 fn fk fr fd fs a1 a2 a3 a4 a5 a6 a7 a8 a9 a10 a11 a12 a13 a14 a15 a16 a17 a18 a19 a20 a21 a22 a23 a24 a25 a26 a27 := by
  subst hf
  have hpw : 2 ^ l ≤ 2 ^ 2 := Nat.pow_le_pow_right (by omega) (by omega)
  have q := pk_loop (fun k p (b : Nat → Int32) => wX_packTree_11 post J2 (nI l) k (nI (yt_lt s l p n)) (nI p) (nI n) fk fr fd fs a1 a2 a3 a4 b a6 a7 a8 a9 a10 a11 a12 a13 a14 a15 a16 a17 a18 a19 a20 a21 a22 a23 a24 a25 a26 a27) (fun p b => yt_done b s n l p 0 ∧ ∀ r x, r < 21 → x < 224 → r ≠ l → yr_row b r x = yr_row a5 r x) (2 ^ l) 0 a5 (Nat.zero_le _) ⟨⟨fun j hj hc => by omega, fun x _ hx => h0 x hx⟩, fun _ _ _ _ _ => rfl⟩ ?_ ?_
  · obtain ⟨k, hk⟩ := q
    have hk' : wX_packTree_11 post J2 (nI l) k (nI (yt_lt s l 0 n)) (nI 0) (nI n) fk fr fd fs a1 a2 a3 a4 a5 a6 a7 a8 a9 a10 a11 a12 a13 a14 a15 a16 a17 a18 a19 a20 a21 a22 a23 a24 a25 a26 a27 := hk
    rw [yt_lt0] at hk'
    exact ⟨k, hk'⟩
  · intro k b h
    refine pk_le (2 ^ l) (2 ^ l) (fun _ => nm_r (nI_1 l) (H b (fun j hj => ?_) h.2)) (fun z => absurd z (by omega)) (yi_pw l (by omega))
    have := yi_pfl (s j) (hs j hj).2 l (by omega)
    exact h.1.1 j hj (Or.inl this)
  · intro k p b hp h hk
    refine pk_le (2 ^ l) p (fun z => absurd z (by omega)) (fun _ => ?_) (yi_pw l (by omega))
    refine yt_21 hn hs hl hp rfl h.1 (fun b' d' f' => ?_)
    have k1 := hk b' ⟨⟨fun j hj hc => ?_, fun x hx1 hx2 => ?_⟩, fun r x hr hx hne => by rw [f' r x hr hx hne, h.2 r x hr hx hne]⟩
    · have k2 : wX_packTree_11 post J2 (nI l) k (nI (yt_lt s l (p + 1) n)) (nI (p + 1)) (nI n) fk fr fd fs a1 a2 a3 a4 b' a6 a7 a8 a9 a10 a11 a12 a13 a14 a15 a16 a17 a18 a19 a20 a21 a22 a23 a24 a25 a26 a27 := k1
      rw [yt_lts] at k2
      exact k2
    · exact d'.1 j hj (by omega)
    · refine d'.2 x ?_ hx2
      rw [yt_lts] at hx1
      have : yt_eq s l (p + 1) 0 = 0 := rfl
      omega
theorem yt_pack {fn fk fr fd fs : Int32} {a1 a2 a3 a4 a5 a6 a7 a8 a9 a10 a11 a12 a13 a14 a15 a16 a17 a18 a19 a20 a21 a22 a23 a24 a25 a26 a27 : Nat → Int32} {post : St2 → Prop} {s : Nat → Nat} {n : Nat} (hn : n ≤ 200) (hs : ys_let a1 s n) (hf : fn = nI n)
    (h0 : ∀ r x, r < 21 → x < 224 → yr_row a5 r x = false)
    (H : ∀ b, yt_all b s n → (∀ r x, 3 ≤ r → r < 21 → x < 224 → yr_row b r x = false) → post (nI n, fk, fr, fd, fs, a1, a2, a3, a4, b, a6, a7, a8, a9, a10, a11, a12, a13, a14, a15, a16, a17, a18, a19, a20, a21, a22, a23, a24, a25, a26, a27)) : wpX_packTree post (fn, fk, fr, fd, fs, a1, a2, a3, a4, a5, a6, a7, a8, a9, a10, a11, a12, a13, a14, a15, a16, a17, a18, a19, a20, a21, a22, a23, a24, a25, a26, a27) := by
  subst hf
  have q := pk_loop (fun k l (b : Nat → Int32) => wX_packTree_2 post k (nI l) (nI n) fk fr fd fs a1 a2 a3 a4 b a6 a7 a8 a9 a10 a11 a12 a13 a14 a15 a16 a17 a18 a19 a20 a21 a22 a23 a24 a25 a26 a27) (fun l b => (∀ l', l' < l → yt_ok b s n l') ∧ ∀ r x, l ≤ r → r < 21 → x < 224 → yr_row b r x = false) 3 0 a5 (by omega) ⟨fun l' z => absurd z (by omega), fun r x _ hr hx => h0 r x hr hx⟩ ?_ ?_
  · obtain ⟨k, hk⟩ := q
    exact ⟨k, hk⟩
  · intro k b h
    exact pk_le 3 3 (fun _ => H b h.1 h.2) (fun z => absurd z (by omega))
  · intro k l b hl h hk
    refine pk_le 3 l (fun z => absurd z (by omega)) (fun _ => ?_)
    refine yt_11 hn hs hl rfl (fun x hx => h.2 l x (by omega) (by omega) hx) (fun b' o' f' => hk b' ⟨fun l' hl' => ?_, fun r x h1 hr hx => ?_⟩)
    · by_cases e : l' = l
      · rw [e]; exact o'
      · intro j hj
        have hle := yt_le s (l := l') (p := yi_pf l' (s j)) (show j ≤ n by omega)
        have hle2 : yt_pos s n l' j < 224 := by unfold yt_pos; omega
        rw [f' l' _ (by omega) hle2 e]
        exact h.1 l' (by omega) j hj
    · rw [f' r x hr hx (by omega)]
      exact h.2 r x (by omega) hr hx
end
section
/-! engine 1: on every level those with a 0 go before those with a 1 -/
def ym_on (t : Nat → Nat → Nat) (l : Nat) (j : Nat) : Bool := decide (yi_dg l (t l j) = 1)
def ym_o (t : Nat → Nat → Nat) (l i : Nat) : Nat := yc_ct (ym_on t l) i
def ym_z (t : Nat → Nat → Nat) (n l : Nat) : Nat := n - ym_o t l n
/-- where a place goes: b = 1 among the ones, else among the zeros -/
def ym_d (t : Nat → Nat → Nat) (n l b i : Nat) : Nat := if b = 1 then ym_z t n l + ym_o t l i else i - ym_o t l i
/-- level l holds what goes to level l + 1 -/
def ym_st (t : Nat → Nat → Nat) (n l : Nat) : Prop := ∀ j, j < n → t l j < 8 ∧ t (l + 1) (ym_d t n l (yi_dg l (t l j)) j) = t l j
def ym_ok (a5 a8 : Nat → Int32) (s : Nat → Nat) (n : Nat) (t : Nat → Nat → Nat) : Prop :=
  (∀ j, j < n → t 0 j = s j) ∧ ∀ l, l < 3 → a8 l = nI (ym_z t n l) ∧ ym_st t n l ∧ ∀ j, j < n → yr_row a5 (3 + l) j = ym_on t l j
theorem ym_ole (t : Nat → Nat → Nat) (l i : Nat) : ym_o t l i ≤ i := yc_le _ _
theorem ym_omono {t : Nat → Nat → Nat} {l i j : Nat} (h : i ≤ j) : ym_o t l i ≤ ym_o t l j := yc_mono h
theorem ym_onot (t : Nat → Nat → Nat) (l i : Nat) : yc_ct (fun j => !ym_on t l j) i = i - ym_o t l i := by
  have := yc_not (ym_on t l) i
  have h2 : ym_o t l i = yc_ct (ym_on t l) i := rfl
  omega
theorem ym_zmono {t : Nat → Nat → Nat} {l i j : Nat} (h : i ≤ j) : i - ym_o t l i ≤ j - ym_o t l j := by
  rw [← ym_onot, ← ym_onot]; exact yc_mono h
theorem ym_dle {t : Nat → Nat → Nat} {n l b i : Nat} (h : i ≤ n) : ym_d t n l b i ≤ n := by
  have h1 := ym_omono (t := t) (l := l) h
  have h2 := ym_ole t l n
  unfold ym_d ym_z
  split <;> omega
theorem ym_dmono {t : Nat → Nat → Nat} {n l b i j : Nat} (h : i ≤ j) : ym_d t n l b i ≤ ym_d t n l b j := by
  have h1 := ym_omono (t := t) (l := l) h
  have h2 := ym_zmono (t := t) (l := l) h
  unfold ym_d
  split <;> omega
/-- of its own kind a place goes below the end of the list -/
theorem ym_dlt {t : Nat → Nat → Nat} {n l i : Nat} (h : i < n) : ym_d t n l (yi_dg l (t l i)) i < n := by
  have h2 := ym_ole t l n
  by_cases e : yi_dg l (t l i) = 1
  · have h3 : ym_o t l i < ym_o t l n := yc_lt h (decide_eq_true e)
    unfold ym_d ym_z
    rw [if_pos e]; omega
  · unfold ym_d
    rw [if_neg e]
    omega
theorem ym_q0 {t : Nat → Nat → Nat} {n l : Nat} (h : ym_st t n l) (Q : Nat → Bool) (i : Nat) (hi : i ≤ n) : yc_ct (fun j => Q (t (l + 1) j)) (i - ym_o t l i) = yc_ct (fun j => Q (t l j) && !ym_on t l j) i := by
  induction i with
  | zero => rw [show ym_o t l 0 = 0 from rfl]; rfl
  | succ i ih =>
    have ih' := ih (by omega)
    have h1 := ym_ole t l i
    have hd := (h i (by omega)).2
    cases e : ym_on t l i
    · have e' : ¬ yi_dg l (t l i) = 1 := of_decide_eq_false e
      have h2 : ym_o t l (i + 1) = ym_o t l i := yc_f e
      unfold ym_d at hd
      rw [if_neg e'] at hd
      rw [h2, show i + 1 - ym_o t l i = i - ym_o t l i + 1 by omega, yc_s, yc_s, ih', hd, e]
      simp
    · have h2 : ym_o t l (i + 1) = ym_o t l i + 1 := yc_t e
      rw [h2, show i + 1 - (ym_o t l i + 1) = i - ym_o t l i by omega, yc_s, ih', e]
      simp
theorem ym_q1 {t : Nat → Nat → Nat} {n l : Nat} (h : ym_st t n l) (Q : Nat → Bool) (i : Nat) (hi : i ≤ n) : yc_ct (fun j => Q (t (l + 1) j)) (ym_z t n l + ym_o t l i) = yc_ct (fun j => Q (t (l + 1) j)) (ym_z t n l) + yc_ct (fun j => Q (t l j) && ym_on t l j) i := by
  induction i with
  | zero => rw [show ym_o t l 0 = 0 from rfl]; rfl
  | succ i ih =>
    have ih' := ih (by omega)
    have hd := (h i (by omega)).2
    cases e : ym_on t l i
    · have h2 : ym_o t l (i + 1) = ym_o t l i := yc_f e
      rw [h2, yc_s, ih', e]
      simp
    · have e' : yi_dg l (t l i) = 1 := of_decide_eq_true e
      have h2 : ym_o t l (i + 1) = ym_o t l i + 1 := yc_t e
      unfold ym_d at hd
      rw [if_pos e'] at hd
      rw [h2, ← Nat.add_assoc, yc_s, yc_s, ih', hd, e]
      simp
      omega
/-- a stretch of level l holds of the list's stretch those with the first digits p -/
def ym_iv (t : Nat → Nat → Nat) (s : Nat → Nat) (n l p i j f g : Nat) : Prop :=
  f ≤ g ∧ g ≤ n ∧ ∀ Q : Nat → Bool, yc_ct (fun x => Q (t l x)) g + yc_ct (fun x => Q (s x) && decide (yi_pf l (s x) = p)) i = yc_ct (fun x => Q (t l x)) f + yc_ct (fun x => Q (s x) && decide (yi_pf l (s x) = p)) j
theorem ym_iv0 {t : Nat → Nat → Nat} {s : Nat → Nat} {n i j : Nat} (hs : ∀ k, k < n → s k < 8) (h0 : ∀ k, k < n → t 0 k = s k) (hij : i ≤ j) (hj : j ≤ n) : ym_iv t s n 0 0 i j i j := by
  refine ⟨hij, hj, fun Q => ?_⟩
  have key : ∀ m, m ≤ n → yc_ct (fun x => Q (t 0 x)) m = yc_ct (fun x => Q (s x) && decide (yi_pf 0 (s x) = 0)) m := fun m hm => yc_congr (fun x hx => by
    rw [h0 x (by omega), decide_eq_true (yi_pf0 _ (hs x (by omega))), Bool.and_true])
  rw [key i (by omega), key j hj]
  omega
theorem ym_ivs {t : Nat → Nat → Nat} {s : Nat → Nat} {n l p i j f g b : Nat} (hs : ∀ k, k < n → s k < 8) (hl : l < 3) (hst : ym_st t n l) (hi : i ≤ n) (hj : j ≤ n) (hb : b < 2) (h : ym_iv t s n l p i j f g) :
    ym_iv t s n (l + 1) (2 * p + b) i j (ym_d t n l b f) (ym_d t n l b g) := by
  obtain ⟨h1, h2, h3⟩ := h
  refine ⟨ym_dmono h1, ym_dle h2, fun Q => ?_⟩
  have k1 := h3 (fun c => Q c && decide (yi_dg l c = b))
  have e1 : ∀ m, m ≤ n → yc_ct (fun x => Q (s x) && decide (yi_pf (l + 1) (s x) = 2 * p + b)) m = yc_ct (fun x => (Q (s x) && decide (yi_dg l (s x) = b)) && decide (yi_pf l (s x) = p)) m := fun m hm => yc_congr (fun x hx => by
    have a1 := yi_pfs (s x) (hs x (by omega)) l hl
    have a2 := yi_dg2 l (s x)
    have k : decide (yi_pf (l + 1) (s x) = 2 * p + b) = (decide (yi_dg l (s x) = b) && decide (yi_pf l (s x) = p)) := by rw [Bool.eq_iff_iff]; simp; omega
    rw [k, Bool.and_assoc])
  rw [e1 i hi, e1 j hj]
  have hb' : b = 0 ∨ b = 1 := by omega
  rcases hb' with hb' | hb'
  · subst hb'
    have e2 : ∀ m, yc_ct (fun x => Q (t l x) && decide (yi_dg l (t l x) = 0)) m = yc_ct (fun x => Q (t l x) && !ym_on t l x) m := fun m => yc_congr (fun x hx => by
      have a2 := yi_dg2 l (t l x)
      unfold ym_on
      rw [Bool.eq_iff_iff]; simp; omega)
    unfold ym_d
    rw [if_neg (by omega), if_neg (by omega), ym_q0 hst Q f (by omega), ym_q0 hst Q g h2, ← e2, ← e2]
    exact k1
  · subst hb'
    have e2 : ∀ m, yc_ct (fun x => Q (t l x) && decide (yi_dg l (t l x) = 1)) m = yc_ct (fun x => Q (t l x) && ym_on t l x) m := fun m => yc_congr (fun x hx => rfl)
    unfold ym_d
    rw [if_pos rfl, if_pos rfl, ym_q1 hst Q f (by omega), ym_q1 hst Q g h2, ← e2, ← e2]
    have k1' : yc_ct (fun x => Q (t l x) && decide (yi_dg l (t l x) = 1)) g + yc_ct (fun x => (Q (s x) && decide (yi_dg l (s x) = 1)) && decide (yi_pf l (s x) = p)) i = yc_ct (fun x => Q (t l x) && decide (yi_dg l (t l x) = 1)) f + yc_ct (fun x => (Q (s x) && decide (yi_dg l (s x) = 1)) && decide (yi_pf l (s x) = p)) j := k1
    omega
/-- how long the stretch is -/
theorem ym_len {t : Nat → Nat → Nat} {s : Nat → Nat} {n l p i j f g : Nat} (h : ym_iv t s n l p i j f g) : g + yt_eq s l p i = f + yt_eq s l p j := by
  have k := h.2.2 (fun _ => true)
  have e : ∀ m, yc_ct (fun _ => true) m = m := fun m => by
    have := yc_allt (p := fun _ => true) (Nat.zero_le m) (fun _ _ _ => rfl)
    rw [yc_0] at this; omega
  have e2 : ∀ m, yc_ct (fun x => true && decide (yi_pf l (s x) = p)) m = yt_eq s l p m := fun m => yc_congr (fun x _ => Bool.true_and _)
  have k' : yc_ct (fun _ => true) g + yc_ct (fun x => true && decide (yi_pf l (s x) = p)) i = yc_ct (fun _ => true) f + yc_ct (fun x => true && decide (yi_pf l (s x) = p)) j := k
  rw [e, e, e2, e2] at k'
  exact k'
/-- down along the digits of c -/
def ym_P (t : Nat → Nat → Nat) (n c q : Nat) : Nat → Nat
  | 0 => q
  | l + 1 => ym_d t n l (yi_dg l c) (ym_P t n c q l)
theorem ym_Ple {t : Nat → Nat → Nat} {n c q : Nat} (h : q ≤ n) (l : Nat) : ym_P t n c q l ≤ n := by
  induction l with
  | zero => exact h
  | succ l ih => exact ym_dle ih
theorem ym_Piv {a5 a8 : Nat → Int32} {t : Nat → Nat → Nat} {s : Nat → Nat} {n c i j : Nat} (hs : ∀ k, k < n → s k < 8) (h : ym_ok a5 a8 s n t) (hc : c < 8) (hij : i ≤ j) (hj : j ≤ n) (l : Nat) (hl : l ≤ 3) : ym_iv t s n l (yi_pf l c) i j (ym_P t n c i l) (ym_P t n c j l) := by
  induction l with
  | zero =>
    rw [yi_pf0 c hc]
    exact ym_iv0 hs h.1 hij hj
  | succ l ih =>
    rw [yi_pfs c hc l (by omega)]
    exact ym_ivs hs (by omega) (h.2 l (by omega)).2.1 (by omega) hj (yi_dg2 l c) (ih (by omega))
theorem ym_Pat {a5 a8 : Nat → Int32} {t : Nat → Nat → Nat} {s : Nat → Nat} {n q : Nat} (h : ym_ok a5 a8 s n t) (hq : q < n) (l : Nat) (hl : l ≤ 3) : ym_P t n (s q) q l < n ∧ t l (ym_P t n (s q) q l) = s q := by
  induction l with
  | zero => exact ⟨hq, h.1 q hq⟩
  | succ l ih =>
    obtain ⟨h1, h2⟩ := ih (by omega)
    have h3 := ym_dlt (t := t) (l := l) h1
    have h4 := ((h.2 l (by omega)).2.1 _ h1).2
    rw [h2] at h3 h4
    exact ⟨h3, h4⟩
theorem ym_3p (l : Nat) : (3 : Int32) + nI l = nI (3 + l) := nI_add 3 l
theorem ym_ct {a5 a8 : Nat → Int32} {t : Nat → Nat → Nat} {s : Nat → Nat} {n l i : Nat} (h : ym_ok a5 a8 s n t) (hl : l < 3) (hi : i ≤ n) : yc_ct (yr_row a5 (3 + l)) i = ym_o t l i := yc_congr (fun j hj => (h.2 l hl).2.2 j (by omega))
theorem ym_down {fn fk fr fd fs : Int32} {a1 a2 a3 a4 a5 a6 a7 a8 a9 a10 a11 a12 a13 a14 a15 a16 a17 a18 a19 a20 a21 a22 a23 a24 a25 a26 a27 : Nat → Int32} {post : Int32 → Prop} {s : Nat → Nat} {t : Nat → Nat → Nat} {n l i b : Nat} {x y z : Int32} (hn : n ≤ 200) (hS : yr_sum a5 a6 a7) (h : ym_ok a5 a8 s n t) (hl : l < 3) (hi : i ≤ n) (hb : b < 2) (hx : x = nI l) (hy : y = nI i) (hz : z = nI b)
    (H : post (nI (ym_d t n l b i))) : wpX_downInMatrix post (fn, fk, fr, fd, fs, a1, a2, a3, a4, a5, a6, a7, a8, a9, a10, a11, a12, a13, a14, a15, a16, a17, a18, a19, a20, a21, a22, a23, a24, a25, a26, a27) x y z := by
  subst hx hy hz
  refine yr_ones hS (3 + l) i (by omega) (by omega) (ym_3p l) rfl ?_
  rw [ym_ct h hl hi]
  unfold ym_d at H
  refine pk_eq b 0 (fun e => ?_) (fun e => ⟨pk_in l 3 hl, ?_⟩)
  · rw [if_neg (by omega)] at H
    rw [pk_sub (ym_ole t l i)]
    exact H
  · rw [if_pos (by omega)] at H
    rw [nI_clamp (by omega), (h.2 l hl).1, nI_add]
    exact H
theorem ym_rank {fn fk fr fd fs : Int32} {a1 a2 a3 a4 a5 a6 a7 a8 a9 a10 a11 a12 a13 a14 a15 a16 a17 a18 a19 a20 a21 a22 a23 a24 a25 a26 a27 : Nat → Int32} {post : Int32 → Prop} {s : Nat → Nat} {t : Nat → Nat → Nat} {n c i : Nat} {x y : Int32} (hn : n ≤ 200) (hs : ∀ j, j < n → s j < 8) (hS : yr_sum a5 a6 a7) (h : ym_ok a5 a8 s n t) (hc : c < 8) (hi : i ≤ n) (hx : x = nI c) (hy : y = nI i)
    (H : post (nI (yc_r s c i))) : wpX_rankInMatrix post (fn, fk, fr, fd, fs, a1, a2, a3, a4, a5, a6, a7, a8, a9, a10, a11, a12, a13, a14, a15, a16, a17, a18, a19, a20, a21, a22, a23, a24, a25, a26, a27) x y := by
  subst hx hy
  have q := pk_loop (σ := Unit) (fun k l _ => wX_rankInMatrix_8 post (nI c) fn fk fr fd fs a1 a2 a3 a4 a5 a6 a7 a8 a9 a10 a11 a12 a13 a14 a15 a16 a17 a18 a19 a20 a21 a22 a23 a24 a25 a26 a27 k (nI (ym_P t n c 0 l)) (nI (ym_P t n c i l)) (nI l)) (fun _ _ => True) 3 0 () (by omega) trivial ?_ ?_
  · obtain ⟨k, hk⟩ := q
    exact ⟨k, hk⟩
  · intro k _ _
    refine pk_le 3 3 (fun _ => ?_) (fun z => absurd z (by omega))
    have e := ym_len (ym_Piv hs h hc (Nat.zero_le i) hi 3 (by omega))
    rw [yi_pf3, show yt_eq s 3 c 0 = 0 from rfl, yt_last] at e
    show post (nI (ym_P t n c i 3) - nI (ym_P t n c 0 3))
    rw [pk_sub (by omega), show ym_P t n c i 3 - ym_P t n c 0 3 = yc_r s c i by omega]
    exact H
  · intro k l _ hl _ hk
    have hk' := hk () trivial
    refine pk_le 3 l (fun z => absurd z (by omega)) (fun _ => yi_digit c l hc hl rfl rfl ?_)
    have g : ∀ z, z = nI (yi_dg l c) → wX_rankInMatrix_29 post (wX_rankInMatrix_8 post (nI c) fn fk fr fd fs a1 a2 a3 a4 a5 a6 a7 a8 a9 a10 a11 a12 a13 a14 a15 a16 a17 a18 a19 a20 a21 a22 a23 a24 a25 a26 a27 k) (nI c) (nI (ym_P t n c 0 l)) (nI (ym_P t n c i l)) (nI l) z fn fk fr fd fs a1 a2 a3 a4 a5 a6 a7 a8 a9 a10 a11 a12 a13 a14 a15 a16 a17 a18 a19 a20 a21 a22 a23 a24 a25 a26 a27 := fun z hz =>
      ym_down hn hS h hl (ym_Ple (Nat.zero_le n) l) (yi_dg2 l c) rfl rfl hz (ym_down hn hS h hl (ym_Ple hi l) (yi_dg2 l c) rfl rfl hz (nm_r (nI_1 l) hk'))
    refine pk_eq (yi_dg l c) 1 (fun e => g 1 (by rw [e]; rfl)) (fun e => g 0 (by rw [yt_dg01 l c e]; rfl)) rfl rfl (by have := yi_dg2 l c; omega)
theorem ym_at {fn fk fr fd fs : Int32} {a1 a2 a3 a4 a5 a6 a7 a8 a9 a10 a11 a12 a13 a14 a15 a16 a17 a18 a19 a20 a21 a22 a23 a24 a25 a26 a27 : Nat → Int32} {post : Int32 → Prop} {s : Nat → Nat} {t : Nat → Nat → Nat} {n i : Nat} {y : Int32} (hn : n ≤ 200) (hs : ∀ j, j < n → s j < 8) (hS : yr_sum a5 a6 a7) (h : ym_ok a5 a8 s n t) (hi : i < n) (hy : y = nI i)
    (H : post (nI (s i))) : wpX_atInMatrix post (fn, fk, fr, fd, fs, a1, a2, a3, a4, a5, a6, a7, a8, a9, a10, a11, a12, a13, a14, a15, a16, a17, a18, a19, a20, a21, a22, a23, a24, a25, a26, a27) y := by
  subst hy
  have hc := hs i hi
  have q := pk_loop (σ := Unit) (fun k l _ => wX_atInMatrix_7 post fn fk fr fd fs a1 a2 a3 a4 a5 a6 a7 a8 a9 a10 a11 a12 a13 a14 a15 a16 a17 a18 a19 a20 a21 a22 a23 a24 a25 a26 a27 k (nI (yi_pf l (s i))) (nI (ym_P t n (s i) i l)) (nI l)) (fun _ _ => True) 3 0 () (by omega) trivial ?_ ?_
  · obtain ⟨k, hk⟩ := q
    have hk' : wX_atInMatrix_7 post fn fk fr fd fs a1 a2 a3 a4 a5 a6 a7 a8 a9 a10 a11 a12 a13 a14 a15 a16 a17 a18 a19 a20 a21 a22 a23 a24 a25 a26 a27 k (nI (yi_pf 0 (s i))) (nI i) (nI 0) := hk
    rw [yi_pf0 _ hc] at hk'
    exact ⟨k, hk'⟩
  · intro k _ _
    refine pk_le 3 3 (fun _ => ?_) (fun z => absurd z (by omega))
    show post (nI (yi_pf 3 (s i)))
    rw [yi_pf3]; exact H
  · intro k l _ hl _ hk
    have hk' : wX_atInMatrix_7 post fn fk fr fd fs a1 a2 a3 a4 a5 a6 a7 a8 a9 a10 a11 a12 a13 a14 a15 a16 a17 a18 a19 a20 a21 a22 a23 a24 a25 a26 a27 k (nI (yi_pf (l + 1) (s i))) (nI (ym_d t n l (yi_dg l (s i)) (ym_P t n (s i) i l))) (nI (l + 1)) := hk () trivial
    obtain ⟨p1, p2⟩ := ym_Pat h hi l (by omega)
    refine pk_le 3 l (fun z => absurd z (by omega)) (fun _ => ?_)
    refine yr_bit (3 + l) (ym_P t n (s i) i l) (by omega) (by omega) (ym_3p l) rfl ?_
    have hb : yr_row a5 (3 + l) (ym_P t n (s i) i l) = decide (yi_dg l (s i) = 1) := by
      rw [(h.2 l hl).2.2 _ p1]
      unfold ym_on
      rw [p2]
    have e2 : (2 : Int32) * nI (yi_pf l (s i)) = nI (2 * yi_pf l (s i)) := pk_mul 2 _
    rw [hb, e2]
    rw [yi_pfs _ hc l hl] at hk'
    have co := ym_ct h hl (show ym_P t n (s i) i l ≤ n by omega)
    unfold ym_d at hk'
    by_cases e : yi_dg l (s i) = 1
    · rw [decide_eq_true e]
      rw [e, if_pos rfl] at hk'
      refine br_f (by decide) (nm_r (nI_1 _) (yr_ones hS (3 + l) (ym_P t n (s i) i l) (by omega) (by omega) (ym_3p l) rfl ?_))
      rw [co]
      refine br_f (by decide) ⟨pk_in l 3 hl, ?_⟩
      rw [nI_clamp (by omega), (h.2 l hl).1, nI_add]
      exact nm_e (nm_r (nI_1 l) hk')
    · rw [decide_eq_false e]
      rw [if_neg e, yt_dg01 l _ e] at hk'
      refine br_t rfl (nm_r (nI_add _ 0) (yr_ones hS (3 + l) (ym_P t n (s i) i l) (by omega) (by omega) (ym_3p l) rfl ?_))
      rw [co]
      exact br_t rfl (nm_r (pk_sub (ym_ole t l _)) (nm_r (nI_1 l) hk'))
end
section
theorem ym_down5 {fn fk fr fd fs : Int32} {a1 a2 a3 a4 a5 a6 a7 a8 a9 a10 a11 a12 a13 a14 a15 a16 a17 a18 a19 a20 a21 a22 a23 a24 a25 a26 a27 : Nat → Int32} {post : Int32 → Prop} {s : Nat → Nat} {t : Nat → Nat → Nat} {n c : Nat} {x2 : Int32} (hn : n ≤ 200) (hS : yr_sum a5 a6 a7) (h : ym_ok a5 a8 s n t) (hc : c < 8)
    (H : ∃ k, wX_selectInMatrix_51 post (nI c) fn fk fr fd fs a1 a2 a3 a4 a5 a6 a7 a8 a9 a10 a11 a12 a13 a14 a15 a16 a17 a18 a19 a20 a21 a22 a23 a24 a25 a26 a27 k (nI (ym_P t n c 0 3) + x2) 2) : ∃ k, wX_selectInMatrix_5 post (nI c) x2 fn fk fr fd fs a1 a2 a3 a4 a5 a6 a7 a8 a9 a10 a11 a12 a13 a14 a15 a16 a17 a18 a19 a20 a21 a22 a23 a24 a25 a26 a27 k 0 0 := by
  have q := pk_loop (σ := Unit) (fun k l _ => wX_selectInMatrix_5 post (nI c) x2 fn fk fr fd fs a1 a2 a3 a4 a5 a6 a7 a8 a9 a10 a11 a12 a13 a14 a15 a16 a17 a18 a19 a20 a21 a22 a23 a24 a25 a26 a27 k (nI (ym_P t n c 0 l)) (nI l)) (fun _ _ => True) 3 0 () (by omega) trivial ?_ ?_
  · obtain ⟨k, hk⟩ := q
    exact ⟨k, hk⟩
  · intro k _ _
    exact pk_le 3 3 (fun _ => nm_e H) (fun z => absurd z (by omega))
  · intro k l _ hl _ hk
    have hk' := hk () trivial
    refine pk_le 3 l (fun z => absurd z (by omega)) (fun _ => yi_digit c l hc hl rfl rfl ?_)
    have g : ∀ z, z = nI (yi_dg l c) → wX_selectInMatrix_26 post (wX_selectInMatrix_5 post (nI c) x2 fn fk fr fd fs a1 a2 a3 a4 a5 a6 a7 a8 a9 a10 a11 a12 a13 a14 a15 a16 a17 a18 a19 a20 a21 a22 a23 a24 a25 a26 a27 k) (nI c) x2 (nI (ym_P t n c 0 l)) (nI l) z fn fk fr fd fs a1 a2 a3 a4 a5 a6 a7 a8 a9 a10 a11 a12 a13 a14 a15 a16 a17 a18 a19 a20 a21 a22 a23 a24 a25 a26 a27 := fun z hz =>
      ym_down hn hS h hl (ym_Ple (Nat.zero_le n) l) (yi_dg2 l c) rfl rfl hz (nm_r (nI_1 l) hk')
    exact pk_eq (yi_dg l c) 1 (fun e => g 1 (by rw [e]; rfl)) (fun e => g 0 (by rw [yt_dg01 l c e]; rfl)) rfl rfl (by have := yi_dg2 l c; omega)
theorem ym_up {fn fk fr fd fs : Int32} {a1 a2 a3 a4 a5 a6 a7 a8 a9 a10 a11 a12 a13 a14 a15 a16 a17 a18 a19 a20 a21 a22 a23 a24 a25 a26 a27 : Nat → Int32} {post : Int32 → Prop} {s : Nat → Nat} {t : Nat → Nat → Nat} {n q : Nat} (hn : n ≤ 200) (hf : fn = nI n) (hs : ∀ j, j < n → s j < 8) (hS : yr_sum a5 a6 a7) (h : ym_ok a5 a8 s n t) (hq : q < n)
    (H : post (nI q)) : ∀ l, l ≤ 3 → wX_selectInMatrix_51 post (nI (s q)) fn fk fr fd fs a1 a2 a3 a4 a5 a6 a7 a8 a9 a10 a11 a12 a13 a14 a15 a16 a17 a18 a19 a20 a21 a22 a23 a24 a25 a26 a27 (l + 1) (nI (ym_P t n (s q) q l)) (nI l - 1) := by
  have hc := hs q hq
  intro l
  induction l with
  | zero =>
    intro _
    exact br_t (by decide) H
  | succ l ih =>
    intro hl
    have ih' := ih (by omega)
    obtain ⟨p1, p2⟩ := ym_Pat h hq l (by omega)
    rw [nI_pred]
    refine br_f (nI_pos (by omega)) (yi_digit (s q) l hc (by omega) rfl rfl ?_)
    have hb : yr_row a5 (3 + l) (ym_P t n (s q) q l) = decide (yi_dg l (s q) = 1) := by
      rw [(h.2 l (by omega)).2.2 _ p1]
      unfold ym_on
      rw [p2]
    have hct : ∀ o, yc_ct (fun j => yr_row a5 (3 + l) j == o) (ym_P t n (s q) q l) = yc_ct (fun j => ym_on t l j == o) (ym_P t n (s q) q l) := fun o => yc_congr (fun j hj => by rw [(h.2 l (by omega)).2.2 j (by omega)])
    have e1 : nI l + (-1) = nI l - 1 := by
      apply Int32.toBitVec_inj.1
      show (nI l).toBitVec + _ = (nI l).toBitVec - _
      rw [BitVec.sub_eq_add_neg]
      rfl
    have hz : ym_o t l (ym_P t n (s q) q l) ≤ ym_P t n (s q) q l := ym_ole _ _ _
    refine pk_eq (yi_dg l (s q)) 1 (fun e => ?_) (fun e => ?_) rfl rfl (by have := yi_dg2 l (s q); omega)
    · refine br_f (by decide) ⟨pk_in l 3 (by omega), ?_⟩
      rw [nI_clamp (by omega), (h.2 l (by omega)).1]
      show wpX_placeOfBit _ _ _ _ (nI (ym_d t n l (yi_dg l (s q)) (ym_P t n (s q) q l)) - nI (ym_z t n l))
      refine yr_place (o := true) hS (3 + l) n (ym_o t l (ym_P t n (s q) q l)) (ym_P t n (s q) q l) hn (by omega) p1 hf (ym_3p l) rfl ?_ (by rw [hb, decide_eq_true e]) ?_ (nm_r e1 ih')
      · unfold ym_d
        rw [if_pos e, pk_sub (by omega), Nat.add_sub_cancel_left]
      · rw [hct]
        exact yc_congr (fun j _ => by cases ym_on t l j <;> rfl)
    · refine br_t rfl ?_
      show wpX_placeOfBit _ _ _ _ (nI (ym_d t n l (yi_dg l (s q)) (ym_P t n (s q) q l)))
      refine yr_place (o := false) hS (3 + l) n (ym_P t n (s q) q l - ym_o t l (ym_P t n (s q) q l)) (ym_P t n (s q) q l) hn (by omega) p1 hf (ym_3p l) rfl ?_ (by rw [hb, decide_eq_false e]) ?_ (nm_r e1 ih')
      · unfold ym_d
        rw [if_neg e]
      · rw [hct, ← ym_onot]
        exact yc_congr (fun j _ => by cases ym_on t l j <;> rfl)
theorem ym_select {fn fk fr fd fs : Int32} {a1 a2 a3 a4 a5 a6 a7 a8 a9 a10 a11 a12 a13 a14 a15 a16 a17 a18 a19 a20 a21 a22 a23 a24 a25 a26 a27 : Nat → Int32} {post : Int32 → Prop} {s : Nat → Nat} {t : Nat → Nat → Nat} {n q : Nat} {x y : Int32} (hn : n ≤ 200) (hf : fn = nI n) (hs : ∀ j, j < n → s j < 8) (hS : yr_sum a5 a6 a7) (h : ym_ok a5 a8 s n t) (hq : q < n) (hx : x = nI (s q)) (hy : y = nI (yc_r s (s q) q))
    (H : post (nI q)) : wpX_selectInMatrix post (fn, fk, fr, fd, fs, a1, a2, a3, a4, a5, a6, a7, a8, a9, a10, a11, a12, a13, a14, a15, a16, a17, a18, a19, a20, a21, a22, a23, a24, a25, a26, a27) x y := by
  subst hx hy
  have e := ym_len (ym_Piv hs h (hs q hq) (Nat.zero_le q) (Nat.le_of_lt hq) 3 (by omega))
  rw [yi_pf3, show yt_eq s 3 (s q) 0 = 0 from rfl, yt_last] at e
  refine ym_down5 hn hS h (hs q hq) ⟨4, ?_⟩
  rw [nI_add, show ym_P t n (s q) 0 3 + yc_r s (s q) q = ym_P t n (s q) q 3 by omega]
  exact ym_up hn hf hs hS h hq H 3 (by omega)
theorem ym_ordered {fn fk fr fd fs : Int32} {a1 a2 a3 a4 a5 a6 a7 a8 a9 a10 a11 a12 a13 a14 a15 a16 a17 a18 a19 a20 a21 a22 a23 a24 a25 a26 a27 : Nat → Int32} {post : Int32 → Prop} {s : Nat → Nat} {t : Nat → Nat → Nat} {n i j k : Nat} {x y z : Int32} (hn : n ≤ 200) (hs : ∀ j, j < n → s j < 8) (hS : yr_sum a5 a6 a7) (h : ym_ok a5 a8 s n t) (hij : i ≤ j) (hj : j ≤ n) (hk : k < j - i) (hx : x = nI i) (hy : y = nI j) (hz : z = nI k)
    (H : ∀ r, r < 8 → yc_b s r j ≤ yc_b s r i + k → yc_b s (r + 1) i + k < yc_b s (r + 1) j → post (nI r)) : wpX_orderedInMatrix post (fn, fk, fr, fd, fs, a1, a2, a3, a4, a5, a6, a7, a8, a9, a10, a11, a12, a13, a14, a15, a16, a17, a18, a19, a20, a21, a22, a23, a24, a25, a26, a27) x y z := by
  subst hx hy hz
  have q := pk_loop (fun m l (u : Nat × Nat × Nat × Nat) => wX_orderedInMatrix_15 post fn fk fr fd fs a1 a2 a3 a4 a5 a6 a7 a8 a9 a10 a11 a12 a13 a14 a15 a16 a17 a18 a19 a20 a21 a22 a23 a24 a25 a26 a27 m (nI u.1) (nI u.2.1) (nI u.2.2.1) (nI u.2.2.2) (nI l))
    (fun l u => u.1 < 2 ^ l ∧ ym_iv t s n l u.1 i j u.2.1 u.2.2.1 ∧ u.2.2.2 < u.2.2.1 - u.2.1 ∧ u.2.2.2 + yt_lt s l u.1 j = k + yt_lt s l u.1 i) 3 0 (0, i, j, k) (by omega) ⟨show 0 < 2 ^ 0 by decide, ym_iv0 hs h.1 hij hj, hk, show k + yt_lt s 0 0 j = k + yt_lt s 0 0 i by rw [yt_lt0, yt_lt0]⟩ ?_ ?_
  · obtain ⟨m, hm⟩ := q
    exact ⟨m, hm⟩
  · intro m u hu
    obtain ⟨u1, u2, u3, u4⟩ := hu
    refine pk_le 3 3 (fun _ => ?_) (fun z => absurd z (by omega))
    have e := ym_len u2
    have e2 := yc_b_s s u.1 i
    have e3 := yc_b_s s u.1 j
    rw [yt_last, yt_last] at e
    rw [yt_lastl, yt_lastl] at u4
    have hmono : yc_r s u.1 i ≤ yc_r s u.1 j := yc_r_mono hij
    have hmono2 : yc_b s u.1 i ≤ yc_b s u.1 j := yc_b_mono hij
    exact H u.1 u1 (by omega) (by omega)
  · intro m l u hl hu hk'
    obtain ⟨u1, u2, u3, u4⟩ := hu
    obtain ⟨p, f, g, w⟩ := u
    dsimp only at u1 u2 u3 u4
    have hf : f ≤ n := Nat.le_trans u2.1 u2.2.1
    have iv0 := ym_ivs (b := 0) hs hl (h.2 l hl).2.1 (by omega) hj (by omega) u2
    have iv1 := ym_ivs (b := 1) hs hl (h.2 l hl).2.1 (by omega) hj (by omega) u2
    have l0 := ym_len iv0
    have l1 := ym_len iv1
    have ll := ym_len u2
    have n0i := yt_n0 (p := p) hs hl (show i ≤ n by omega)
    have n1i := yt_n1 (p := p) hs hl (show i ≤ n by omega)
    have n0j := yt_n0 (p := p) hs hl hj
    have n1j := yt_n1 (p := p) hs hl hj
    have nli := yt_nl (p := p) hs hl (show i ≤ n by omega)
    have nlj := yt_nl (p := p) hs hl hj
    have eqi := yt_eq01 s l p i
    have eqj := yt_eq01 s l p j
    have lsi := yt_lts s (l + 1) (2 * p) i
    have lsj := yt_lts s (l + 1) (2 * p) j
    have pw : 2 ^ (l + 1) = 2 * 2 ^ l := by rw [Nat.pow_succ, Nat.mul_comm]
    have w8 : g ≤ n := u2.2.1
    have hd0g : ym_d t n l 0 g ≤ n := iv0.2.1
    have hd0f : ym_d t n l 0 f ≤ ym_d t n l 0 g := iv0.1
    have hd1f : ym_d t n l 1 f ≤ ym_d t n l 1 g := iv1.1
    simp only [Nat.add_zero] at l0 iv0
    refine pk_le 3 l (fun z => absurd z (by omega)) (fun _ => ?_)
    refine ym_down (b := 0) hn hS h hl hf (by omega) rfl rfl rfl (ym_down (b := 0) hn hS h hl w8 (by omega) rfl rfl rfl ?_)
    dsimp only
    rw [pk_sub hd0f]
    have e2 : (2 : Int32) * nI p = nI (2 * p) := pk_mul 2 _
    refine pk_lt w (ym_d t n l 0 g - ym_d t n l 0 f) (fun c => ?_) (fun c => ?_)
    · refine br_t rfl (nm_r (e' := nI w) (pk_sub (b := 0) (Nat.zero_le w)) (br_t rfl (nm_r (e' := nI (2 * p)) (by rw [e2]; exact nI_add (2 * p) 0) (br_t rfl (br_t rfl (nm_r (nI_1 l) ?_))))))
      exact hk' (2 * p, ym_d t n l 0 f, ym_d t n l 0 g, w) ⟨by show 2 * p < _; omega, iv0, c, by show w + yt_lt s (l + 1) (2 * p) j = k + yt_lt s (l + 1) (2 * p) i; omega⟩
    · refine br_f (by decide) ?_
      rw [pk_sub hd0f]
      refine nm_r (pk_sub c) (br_f (by decide) (nm_r (e' := nI (2 * p + 1)) (by rw [e2]; exact nI_add (2 * p) 1) (br_f (by decide) (ym_down (b := 1) hn hS h hl hf (by omega) rfl rfl rfl (br_f (by decide) (ym_down (b := 1) hn hS h hl w8 (by omega) rfl rfl rfl (nm_r (nI_1 l) ?_)))))))
      refine hk' (2 * p + 1, ym_d t n l 1 f, ym_d t n l 1 g, w - (ym_d t n l 0 g - ym_d t n l 0 f)) ⟨by show 2 * p + 1 < _; omega, iv1, ?_, ?_⟩
      · show w - (ym_d t n l 0 g - ym_d t n l 0 f) < ym_d t n l 1 g - ym_d t n l 1 f
        omega
      · show w - (ym_d t n l 0 g - ym_d t n l 0 f) + yt_lt s (l + 1) (2 * p + 1) j = k + yt_lt s (l + 1) (2 * p + 1) i
        omega
end
section
/-! packing the matrix -/
theorem ym_86 {fn fk fr fd fs : Int32} {a1 a2 a3 a4 a5 a6 a7 a8 a9 a10 a11 a12 a13 a14 a15 a16 a17 a18 a19 a20 a21 a22 a23 a24 a25 a26 a27 : Nat → Int32} {post : St2 → Prop} {n : Nat} (hn : n ≤ 200) (hf : fn = nI n) (h4 : ∀ x, x < n → ∃ v, v < 8 ∧ a4 x = nI v)
    (H : ∀ b3, (∀ x, x < n → b3 x = a4 x) → post (nI n, fk, fr, fd, fs, a1, a2, b3, a4, a5, a6, a7, a8, a9, a10, a11, a12, a13, a14, a15, a16, a17, a18, a19, a20, a21, a22, a23, a24, a25, a26, a27)) : ∃ k, wX_partLevel_86 post fn fk fr fd fs k 0 a1 a2 a3 a4 a5 a6 a7 a8 a9 a10 a11 a12 a13 a14 a15 a16 a17 a18 a19 a20 a21 a22 a23 a24 a25 a26 a27 := by
  subst hf
  have q := pk_loop (fun k i (b : Nat → Int32) => wX_partLevel_86 post (nI n) fk fr fd fs k (nI i) a1 a2 b a4 a5 a6 a7 a8 a9 a10 a11 a12 a13 a14 a15 a16 a17 a18 a19 a20 a21 a22 a23 a24 a25 a26 a27) (fun i b => ∀ x, x < i → b x = a4 x) n 0 a3 (by omega) (fun x z => absurd z (by omega)) ?_ ?_
  · obtain ⟨k, hk⟩ := q
    exact ⟨k, hk⟩
  · intro k b h
    exact pk_le n n (fun _ => H b h) (fun z => absurd z (by omega))
  · intro k i b hi h hk
    refine pk_le n i (fun z => absurd z (by omega)) (fun _ => ⟨pk_in i 200 (by omega), pk_in i 200 (by omega), nm_e (nm_r (nI_1 i) (hk _ ?_))⟩)
    intro x hx
    rw [nI_clamp (by omega)]
    by_cases e : x = i
    · obtain ⟨v, v1, v2⟩ := h4 i hi
      rw [e, pk_us, v2, yi_v8 (by omega)]
    · rw [pk_un e]
      exact h x (by omega)
theorem ym_8 {fn fk fr fd fs : Int32} {a1 a2 a3 a4 a5 a6 a7 a8 a9 a10 a11 a12 a13 a14 a15 a16 a17 a18 a19 a20 a21 a22 a23 a24 a25 a26 a27 : Nat → Int32} {post : St2 → Prop} {t : Nat → Nat → Nat} {n l : Nat} {x y : Int32} (hn : n ≤ 200) (hf : fn = nI n) (hl : l < 3) (h3 : ∀ j, j < n → a3 j = nI (t l j) ∧ t l j < 8)
    (h0 : ∀ x, x < 224 → yr_row a5 (3 + l) x = false) (hx : x = nI l) (hy : y = nI (ym_z t n l))
    (H : ∀ b3 b4 b5, (∀ j, j < n → b3 (ym_d t n l (yi_dg l (t l j)) j) = nI (t l j)) → (∀ x, x < n → ∃ v, v < 8 ∧ b3 x = nI v) → (∀ j, j < n → yr_row b5 (3 + l) j = ym_on t l j) → (∀ r x, r < 21 → x < 224 → r ≠ 3 + l → yr_row b5 r x = yr_row a5 r x) → post (nI n, fk, fr, fd, fs, a1, a2, b3, b4, b5, a6, a7, a8, a9, a10, a11, a12, a13, a14, a15, a16, a17, a18, a19, a20, a21, a22, a23, a24, a25, a26, a27)) :
    wpX_partLevel post (fn, fk, fr, fd, fs, a1, a2, a3, a4, a5, a6, a7, a8, a9, a10, a11, a12, a13, a14, a15, a16, a17, a18, a19, a20, a21, a22, a23, a24, a25, a26, a27) x y := by
  subst hf hx hy
  have hon := ym_ole t l n
  have q := pk_loop (fun k i (b : (Nat → Int32) × (Nat → Int32)) => wX_partLevel_8 post (nI l) k (nI (i - ym_o t l i)) (nI (ym_z t n l + ym_o t l i)) (nI i) (nI n) fk fr fd fs a1 a2 a3 b.1 b.2 a6 a7 a8 a9 a10 a11 a12 a13 a14 a15 a16 a17 a18 a19 a20 a21 a22 a23 a24 a25 a26 a27)
    (fun i b => (∀ j, j < i → b.1 (ym_d t n l (yi_dg l (t l j)) j) = nI (t l j)) ∧ (∀ j, j < i → yr_row b.2 (3 + l) j = ym_on t l j) ∧ (∀ x, i ≤ x → x < 224 → yr_row b.2 (3 + l) x = false) ∧ (∀ r x, r < 21 → x < 224 → r ≠ 3 + l → yr_row b.2 r x = yr_row a5 r x)) n 0 (a4, a5) (by omega) ⟨fun x z => absurd z (by omega), fun x z => absurd z (by omega), fun x _ hx => h0 x hx, fun _ _ _ _ _ => rfl⟩ ?_ ?_
  · obtain ⟨k, hk⟩ := q
    exact ⟨k, hk⟩
  · intro k b h
    obtain ⟨g1, g2, g3, g4⟩ := h
    have sur : ∀ x, x < n → ∃ v, v < 8 ∧ b.1 x = nI v := by
      intro x hx
      by_cases e : x < ym_z t n l
      · have : x < yc_ct (fun j => !ym_on t l j) n := by rw [ym_onot]; exact e
        obtain ⟨j, j1, j2, j3⟩ := yc_find this
        have e1 : ¬ yi_dg l (t l j) = 1 := by
          have : ym_on t l j = false := by simpa using j2
          exact of_decide_eq_false this
        have gj := g1 j j1
        unfold ym_d at gj
        rw [if_neg e1, ← ym_onot, j3] at gj
        exact ⟨t l j, (h3 j j1).2, gj⟩
      · have : x - ym_z t n l < yc_ct (ym_on t l) n := by
          show x - ym_z t n l < ym_o t l n
          unfold ym_z at e ⊢
          omega
        obtain ⟨j, j1, j2, j3⟩ := yc_find this
        have e1 : yi_dg l (t l j) = 1 := of_decide_eq_true j2
        have gj := g1 j j1
        unfold ym_d at gj
        rw [if_pos e1, show ym_o t l j = x - ym_z t n l from j3, show ym_z t n l + (x - ym_z t n l) = x by omega] at gj
        exact ⟨t l j, (h3 j j1).2, gj⟩
    refine pk_le n n (fun _ => ym_86 hn rfl sur (fun b3 hb => H b3 b.1 b.2 (fun j hj => ?_) (fun x hx => ?_) g2 g4)) (fun z => absurd z (by omega))
    · rw [hb _ (ym_dlt hj)]
      exact g1 j hj
    · rw [hb x hx]
      exact sur x hx
  · intro k i b hi h hk
    obtain ⟨g1, g2, g3, g4⟩ := h
    obtain ⟨s1, s2⟩ := h3 i hi
    have hoi := ym_ole t l i
    have hmo := ym_omono (t := t) (l := l) (Nat.le_of_lt hi)
    have hmz := ym_zmono (t := t) (l := l) (Nat.le_of_lt hi)
    have hdi := ym_dlt (t := t) (l := l) hi
    have ez : ym_z t n l = n - ym_o t l n := rfl
    refine pk_le n i (fun z => absurd z (by omega)) (fun _ => ⟨pk_in i 200 (by omega), ?_⟩)
    rw [nI_clamp (n := i) (by omega), s1]
    refine yi_digit (t l i) l s2 hl rfl rfl ?_
    refine pk_eq (yi_dg l (t l i)) 1 (fun g => ?_) (fun g => ⟨pk_in i 200 (by omega), pk_in (i - ym_o t l i) 200 (by omega), nm_e ?_⟩) rfl rfl (by have := yi_dg2 l (t l i); omega)
    · have eo : ym_o t l (i + 1) = ym_o t l i + 1 := yc_t (decide_eq_true g)
      have hdi' : ym_d t n l (yi_dg l (t l i)) i = ym_z t n l + ym_o t l i := by unfold ym_d; rw [if_pos g]
      rw [hdi'] at hdi
      refine yr_set (3 + l) i (by omega) (by omega) (ym_3p l) rfl (fun b' hb' => ⟨pk_in i 200 (by omega), pk_in (ym_z t n l + ym_o t l i) 200 (by omega), nm_e (nm_r (nI_1 _) (nm_r (nI_1 i) ?_))⟩)
      rw [s1, nI_clamp (by omega), yi_v8 (by omega)]
      have k1 := hk (upd b.1 (ym_z t n l + ym_o t l i) (nI (t l i)), b') ⟨fun j hj => ?_, fun j hj => ?_, fun x hx1 hx2 => ?_, fun r x hr hx hne => ?_⟩
      · have k2 : wX_partLevel_8 post (nI l) k (nI (i + 1 - ym_o t l (i + 1))) (nI (ym_z t n l + ym_o t l (i + 1))) (nI (i + 1)) (nI n) fk fr fd fs a1 a2 a3 (upd b.1 (ym_z t n l + ym_o t l i) (nI (t l i))) b' a6 a7 a8 a9 a10 a11 a12 a13 a14 a15 a16 a17 a18 a19 a20 a21 a22 a23 a24 a25 a26 a27 := k1
        rw [eo, show i + 1 - (ym_o t l i + 1) = i - ym_o t l i by omega] at k2
        exact k2
      · show upd b.1 (ym_z t n l + ym_o t l i) (nI (t l i)) _ = _
        by_cases e : j = i
        · subst e
          rw [hdi', pk_us]
        · rw [pk_un, g1 j (by omega)]
          have hji : j < i := by omega
          have hoj := ym_ole t l j
          have hmj := ym_zmono (t := t) (l := l) (show j + 1 ≤ n by omega)
          unfold ym_d
          split
          · rename_i e1
            have : ym_o t l j < ym_o t l i := yc_lt hji (decide_eq_true e1)
            omega
          · rename_i e1
            have e2 : ym_o t l (j + 1) = ym_o t l j := yc_f (decide_eq_false e1)
            omega
      · show yr_row b' (3 + l) j = _
        rw [hb' (3 + l) j (by omega) (by omega)]
        by_cases e : j = i
        · subst e
          rw [decide_eq_true (show 3 + l = 3 + l ∧ j = j from ⟨rfl, rfl⟩), Bool.or_true]
          exact (decide_eq_true g).symm
        · rw [g2 j (by omega), decide_eq_false (show ¬ (3 + l = 3 + l ∧ j = i) by omega), Bool.or_false]
      · show yr_row b' (3 + l) x = _
        rw [hb' (3 + l) x (by omega) hx2, g3 x (by omega) hx2, decide_eq_false (show ¬ (3 + l = 3 + l ∧ x = i) by omega)]
        rfl
      · show yr_row b' r x = _
        rw [hb' r x hr hx, g4 r x hr hx hne, decide_eq_false (fun z => hne z.1), Bool.or_false]
    · have eo : ym_o t l (i + 1) = ym_o t l i := yc_f (decide_eq_false g)
      have hdi' : ym_d t n l (yi_dg l (t l i)) i = i - ym_o t l i := by unfold ym_d; rw [if_neg g]
      rw [nI_clamp (by omega), yi_v8 (by omega)]
      refine nm_r (nI_1 _) (nm_r (nI_1 i) ?_)
      have k1 := hk (upd b.1 (i - ym_o t l i) (nI (t l i)), b.2) ⟨fun j hj => ?_, fun j hj => ?_, fun x hx1 hx2 => g3 x (by omega) hx2, g4⟩
      · have k2 : wX_partLevel_8 post (nI l) k (nI (i + 1 - ym_o t l (i + 1))) (nI (ym_z t n l + ym_o t l (i + 1))) (nI (i + 1)) (nI n) fk fr fd fs a1 a2 a3 (upd b.1 (i - ym_o t l i) (nI (t l i))) b.2 a6 a7 a8 a9 a10 a11 a12 a13 a14 a15 a16 a17 a18 a19 a20 a21 a22 a23 a24 a25 a26 a27 := k1
        rw [eo, show i + 1 - ym_o t l i = i - ym_o t l i + 1 by omega] at k2
        exact k2
      · show upd b.1 (i - ym_o t l i) (nI (t l i)) _ = _
        by_cases e : j = i
        · subst e
          rw [hdi', pk_us]
        · rw [pk_un, g1 j (by omega)]
          have hji : j < i := by omega
          have hoj := ym_ole t l j
          have hmi := ym_zmono (t := t) (l := l) (show i + 1 ≤ n by omega)
          unfold ym_d
          split
          · omega
          · rename_i e1
            have e2 : ym_o t l (j + 1) = ym_o t l j := yc_f (decide_eq_false e1)
            have hmj := ym_zmono (t := t) (l := l) (show j + 1 ≤ i by omega)
            omega
      · show yr_row b.2 (3 + l) j = _
        by_cases e : j = i
        · subst e
          rw [g3 j (Nat.le_refl j) (by omega)]
          exact (decide_eq_false g).symm
        · exact g2 j (by omega)
theorem ym_39 {fn fk fr fd fs : Int32} {a1 a2 a3 a4 a5 a6 a7 a8 a9 a10 a11 a12 a13 a14 a15 a16 a17 a18 a19 a20 a21 a22 a23 a24 a25 a26 a27 : Nat → Int32} {post : St2 → Prop} {J : Int32 → Int32 → Int32 → Int32 → Int32 → Int32 → (Nat → Int32) → (Nat → Int32) → (Nat → Int32) → (Nat → Int32) → (Nat → Int32) → (Nat → Int32) → (Nat → Int32) → (Nat → Int32) → (Nat → Int32) → (Nat → Int32) → (Nat → Int32) → (Nat → Int32) → (Nat → Int32) → (Nat → Int32) → (Nat → Int32) → (Nat → Int32) → (Nat → Int32) → (Nat → Int32) → (Nat → Int32) → (Nat → Int32) → (Nat → Int32) → (Nat → Int32) → (Nat → Int32) → (Nat → Int32) → (Nat → Int32) → (Nat → Int32) → (Nat → Int32) →  Prop} {t : Nat → Nat → Nat} {n l : Nat} (hn : n ≤ 200) (hf : fn = nI n) (hl : l < 3) (h3 : ∀ j, j < n → a3 j = nI (t l j) ∧ t l j < 8)
    (h0 : ∀ x, x < 224 → yr_row a5 (3 + l) x = false)
    (H : ∀ b3 b4 b5, (∀ j, j < n → b3 (ym_d t n l (yi_dg l (t l j)) j) = nI (t l j)) → (∀ x, x < n → ∃ v, v < 8 ∧ b3 x = nI v) → (∀ j, j < n → yr_row b5 (3 + l) j = ym_on t l j) → (∀ r x, r < 21 → x < 224 → r ≠ 3 + l → yr_row b5 r x = yr_row a5 r x) → J (nI (l + 1)) (nI n) fk fr fd fs a1 a2 b3 b4 b5 a6 a7 (upd a8 l (nI (ym_z t n l))) a9 a10 a11 a12 a13 a14 a15 a16 a17 a18 a19 a20 a21 a22 a23 a24 a25 a26 a27) :
    ∃ k, wX_packMatrix_39 post J (nI l) fn fk fr fd fs a1 a2 a3 a4 a5 a6 a7 a8 a9 a10 a11 a12 a13 a14 a15 a16 a17 a18 a19 a20 a21 a22 a23 a24 a25 a26 a27 k 0 0 := by
  subst hf
  have q := pk_loop (σ := Unit) (fun k i _ => wX_packMatrix_39 post J (nI l) (nI n) fk fr fd fs a1 a2 a3 a4 a5 a6 a7 a8 a9 a10 a11 a12 a13 a14 a15 a16 a17 a18 a19 a20 a21 a22 a23 a24 a25 a26 a27 k (nI (i - ym_o t l i)) (nI i)) (fun _ _ => True) n 0 () (by omega) trivial ?_ ?_
  · obtain ⟨k, hk⟩ := q
    exact ⟨k, hk⟩
  · intro k _ _
    refine pk_le n n (fun _ => ⟨pk_in l 3 hl, ?_⟩) (fun z => absurd z (by omega))
    rw [nI_clamp (by omega), yi_n16 _ (by omega)]
    exact nm_e (ym_8 hn rfl hl h3 h0 rfl rfl (fun b3 b4 b5 g1 g2 g3 g4 => nm_r (nI_1 l) (H b3 b4 b5 g1 g2 g3 g4)))
  · intro k i _ hi _ hk
    have hk' : wX_packMatrix_39 post J (nI l) (nI n) fk fr fd fs a1 a2 a3 a4 a5 a6 a7 a8 a9 a10 a11 a12 a13 a14 a15 a16 a17 a18 a19 a20 a21 a22 a23 a24 a25 a26 a27 k (nI (i + 1 - ym_o t l (i + 1))) (nI (i + 1)) := hk () trivial
    have hoi := ym_ole t l i
    obtain ⟨s1, s2⟩ := h3 i hi
    refine pk_le n i (fun z => absurd z (by omega)) (fun _ => ⟨pk_in i 200 (by omega), ?_⟩)
    rw [nI_clamp (by omega), s1]
    refine yi_digit (t l i) l s2 hl rfl rfl ?_
    refine pk_eq (yi_dg l (t l i)) 0 (fun g => ?_) (fun g => ?_) rfl rfl (by have := yi_dg2 l (t l i); omega)
    · have eo : ym_o t l (i + 1) = ym_o t l i := yc_f (decide_eq_false (by omega))
      rw [eo, show i + 1 - ym_o t l i = i - ym_o t l i + 1 by omega] at hk'
      exact nm_r (nI_1 _) (nm_r (nI_1 i) hk')
    · have eo : ym_o t l (i + 1) = ym_o t l i + 1 := yc_t (decide_eq_true (by have := yi_dg2 l (t l i); omega))
      rw [eo, show i + 1 - (ym_o t l i + 1) = i - ym_o t l i by omega] at hk'
      exact nm_r (nI_add _ 0) (nm_r (nI_1 i) hk')
theorem ym_cong {t t' : Nat → Nat → Nat} {n l : Nat} (h : ∀ j, t l j = t' l j) : ym_on t l = ym_on t' l ∧ ym_z t n l = ym_z t' n l ∧ ∀ b i, ym_d t n l b i = ym_d t' n l b i := by
  have e1 : ym_on t l = ym_on t' l := by funext j; unfold ym_on; rw [h j]
  have e2 : ∀ i, ym_o t l i = ym_o t' l i := fun i => by unfold ym_o; rw [e1]
  have e3 : ym_z t n l = ym_z t' n l := by unfold ym_z; rw [e2]
  exact ⟨e1, e3, fun b i => by unfold ym_d; rw [e2, e3]⟩
/-- the matrix up to level l -/
def ym_upto (a3 a5 a8 : Nat → Int32) (s : Nat → Nat) (n l : Nat) (t : Nat → Nat → Nat) : Prop :=
  (∀ j, j < n → t 0 j = s j) ∧ (∀ j, j < n → a3 j = nI (t l j) ∧ t l j < 8) ∧ ∀ k, k < l → a8 k = nI (ym_z t n k) ∧ ym_st t n k ∧ ∀ j, j < n → yr_row a5 (3 + k) j = ym_on t k j
theorem ym_30 {fn fk fr fd fs : Int32} {a1 a2 a3 a4 a5 a6 a7 a8 a9 a10 a11 a12 a13 a14 a15 a16 a17 a18 a19 a20 a21 a22 a23 a24 a25 a26 a27 : Nat → Int32} {post : St2 → Prop} {s : Nat → Nat} {n : Nat} (hn : n ≤ 200) (hf : fn = nI n) (h3 : ∀ j, j < n → a3 j = nI (s j) ∧ s j < 8)
    (h0 : ∀ r x, 3 ≤ r → r < 21 → x < 224 → yr_row a5 r x = false)
    (H : ∀ b3 b4 b5 b8 t, ym_ok b5 b8 s n t → (∀ r x, r < 3 → x < 224 → yr_row b5 r x = yr_row a5 r x) → (∀ r x, 6 ≤ r → r < 21 → x < 224 → yr_row b5 r x = false) → post (nI n, fk, fr, fd, fs, a1, a2, b3, b4, b5, a6, a7, b8, a9, a10, a11, a12, a13, a14, a15, a16, a17, a18, a19, a20, a21, a22, a23, a24, a25, a26, a27)) :
    ∃ k, wX_packMatrix_30 post k 0 fn fk fr fd fs a1 a2 a3 a4 a5 a6 a7 a8 a9 a10 a11 a12 a13 a14 a15 a16 a17 a18 a19 a20 a21 a22 a23 a24 a25 a26 a27 := by
  subst hf
  have q := pk_loop (fun k l (b : (Nat → Int32) × (Nat → Int32) × (Nat → Int32) × (Nat → Int32)) => wX_packMatrix_30 post k (nI l) (nI n) fk fr fd fs a1 a2 b.1 b.2.1 b.2.2.1 a6 a7 b.2.2.2 a9 a10 a11 a12 a13 a14 a15 a16 a17 a18 a19 a20 a21 a22 a23 a24 a25 a26 a27)
    (fun l b => (∃ t, ym_upto b.1 b.2.2.1 b.2.2.2 s n l t) ∧ (∀ r x, r < 3 → x < 224 → yr_row b.2.2.1 r x = yr_row a5 r x) ∧ (∀ r x, 3 + l ≤ r → r < 21 → x < 224 → yr_row b.2.2.1 r x = false)) 3 0 (a3, a4, a5, a8) (by omega)
    ⟨⟨fun _ => s, fun _ _ => rfl, h3, fun k z => absurd z (by omega)⟩, fun _ _ _ _ => rfl, h0⟩ ?_ ?_
  · obtain ⟨k, hk⟩ := q
    exact ⟨k, hk⟩
  · intro k b h
    obtain ⟨⟨t, t1, t2, t3⟩, g2, g3⟩ := h
    exact pk_le 3 3 (fun _ => H b.1 b.2.1 b.2.2.1 b.2.2.2 t ⟨t1, t3⟩ g2 g3) (fun z => absurd z (by omega))
  · intro k l b hl h hk
    obtain ⟨⟨t, t1, t2, t3⟩, g2, g3⟩ := h
    refine pk_le 3 l (fun z => absurd z (by omega)) (fun _ => ?_)
    refine ym_39 hn rfl hl t2 (fun x hx => g3 (3 + l) x (by omega) (by omega) hx) (fun b3 b4 b5 p1 p2 p3 p4 => ?_)
    have hw : ∀ x, x < n → (b3 x).toNatClampNeg < 8 ∧ b3 x = nI (b3 x).toNatClampNeg := fun x hx => by
      obtain ⟨v, v1, v2⟩ := p2 x hx
      rw [v2, nI_clamp (by omega)]
      exact ⟨v1, rfl⟩
    obtain ⟨w, hw⟩ : ∃ w : Nat → Nat, ∀ x, x < n → w x < 8 ∧ b3 x = nI (w x) := ⟨fun x => (b3 x).toNatClampNeg, hw⟩
    have et : ∀ m, m ≤ l → ∀ j, (fun k x => if k ≤ l then t k x else w x : Nat → Nat → Nat) m j = t m j := fun m hm j => if_pos hm
    have ew : ∀ j, (fun k x => if k ≤ l then t k x else w x : Nat → Nat → Nat) (l + 1) j = w j := fun j => if_neg (by omega)
    generalize (fun k x => if k ≤ l then t k x else w x : Nat → Nat → Nat) = T at et ew
    refine hk (b3, b4, b5, upd b.2.2.2 l (nI (ym_z t n l))) ⟨⟨T, fun j hj => ?_, fun j hj => ?_, fun m hm => ?_⟩, fun r x hr hx => ?_, fun r x h1 hr hx => ?_⟩
    · rw [et 0 (by omega)]; exact t1 j hj
    · rw [ew j]
      exact ⟨(hw j hj).2, (hw j hj).1⟩
    · obtain ⟨c1, c2, c3⟩ := ym_cong (n := n) (et m (by omega))
      show upd b.2.2.2 l (nI (ym_z t n l)) m = _ ∧ _
      by_cases e : m = l
      · subst e
        refine ⟨by rw [pk_us, c2], fun j hj => ?_, fun j hj => by rw [c1]; exact p3 j hj⟩
        rw [et m (Nat.le_refl m), ew, c3]
        refine ⟨(t2 j hj).2, ?_⟩
        have e1 := p1 j hj
        have e2 := (hw _ (ym_dlt (t := t) (l := m) hj))
        rw [e2.2] at e1
        have := (t2 j hj).2
        exact (nI_eq (by omega) (by omega)).mp e1
      · obtain ⟨q1, q2, q3⟩ := t3 m (by omega)
        refine ⟨by rw [pk_un e, c2, q1], fun j hj => ?_, fun j hj => ?_⟩
        · rw [et m (by omega), et (m + 1) (by omega), c3]
          exact q2 j hj
        · rw [c1, ← q3 j hj]
          exact p4 (3 + m) j (by omega) (by omega) (by omega)
    · show yr_row b5 r x = _
      rw [p4 r x (by omega) hx (by omega)]
      exact g2 r x hr hx
    · show yr_row b5 r x = _
      rw [p4 r x hr hx (by omega)]
      exact g3 r x (by omega) hr hx
theorem ym_pack {fn fk fr fd fs : Int32} {a1 a2 a3 a4 a5 a6 a7 a8 a9 a10 a11 a12 a13 a14 a15 a16 a17 a18 a19 a20 a21 a22 a23 a24 a25 a26 a27 : Nat → Int32} {post : St2 → Prop} {s : Nat → Nat} {n : Nat} (hn : n ≤ 200) (hs : ys_let a1 s n) (hf : fn = nI n)
    (h0 : ∀ r x, 3 ≤ r → r < 21 → x < 224 → yr_row a5 r x = false)
    (H : ∀ b3 b4 b5 b8 t, ym_ok b5 b8 s n t → (∀ r x, r < 3 → x < 224 → yr_row b5 r x = yr_row a5 r x) → (∀ r x, 6 ≤ r → r < 21 → x < 224 → yr_row b5 r x = false) → post (nI n, fk, fr, fd, fs, a1, a2, b3, b4, b5, a6, a7, b8, a9, a10, a11, a12, a13, a14, a15, a16, a17, a18, a19, a20, a21, a22, a23, a24, a25, a26, a27)) :
    wpX_packMatrix post (fn, fk, fr, fd, fs, a1, a2, a3, a4, a5, a6, a7, a8, a9, a10, a11, a12, a13, a14, a15, a16, a17, a18, a19, a20, a21, a22, a23, a24, a25, a26, a27) := by
  subst hf
  have q := pk_loop (fun k i (b : Nat → Int32) => wX_packMatrix_2 post (nI n) fk fr fd fs k (nI i) a1 a2 b a4 a5 a6 a7 a8 a9 a10 a11 a12 a13 a14 a15 a16 a17 a18 a19 a20 a21 a22 a23 a24 a25 a26 a27) (fun i b => ∀ j, j < i → b j = nI (s j) ∧ s j < 8) n 0 a3 (by omega) (fun x z => absurd z (by omega)) ?_ ?_
  · obtain ⟨k, hk⟩ := q
    exact ⟨k, hk⟩
  · intro k b h
    exact pk_le n n (fun _ => ym_30 hn rfl h h0 H) (fun z => absurd z (by omega))
  · intro k i b hi h hk
    obtain ⟨s1, s2⟩ := hs i hi
    refine pk_le n i (fun z => absurd z (by omega)) (fun _ => ⟨pk_in i 200 (by omega), pk_in i 200 (by omega), nm_e (nm_r (nI_1 i) (hk _ ?_))⟩)
    intro j hj
    rw [nI_clamp (by omega)]
    by_cases e : j = i
    · rw [e, pk_us, s1, yi_v8 (by omega)]
      exact ⟨rfl, s2⟩
    · rw [pk_un e]
      exact h j (by omega)
end
section
/-! engine 2: a row for every letter -/
def ya_ok (a5 : Nat → Int32) (s : Nat → Nat) (n : Nat) : Prop := ∀ c, c < 8 → ∀ j, j < n → yr_row a5 (6 + c) j = decide (s j = c)
theorem ya_ct {a5 : Nat → Int32} {s : Nat → Nat} {n c i : Nat} (h : ya_ok a5 s n) (hc : c < 8) (hi : i ≤ n) : yc_ct (yr_row a5 (6 + c)) i = yc_r s c i := yc_congr (fun j hj => h c hc j (by omega))
theorem ya_6p (c : Nat) : (6 : Int32) + nI c = nI (6 + c) := nI_add 6 c
theorem ya_rank {fn fk fr fd fs : Int32} {a1 a2 a3 a4 a5 a6 a7 a8 a9 a10 a11 a12 a13 a14 a15 a16 a17 a18 a19 a20 a21 a22 a23 a24 a25 a26 a27 : Nat → Int32} {post : Int32 → Prop} {s : Nat → Nat} {n c i : Nat} {x y : Int32} (hn : n ≤ 200) (hS : yr_sum a5 a6 a7) (h : ya_ok a5 s n) (hc : c < 8) (hi : i ≤ n) (hx : x = 6 + nI c) (hy : y = nI i)
    (H : post (nI (yc_r s c i))) : wpX_onesBefore post (fn, fk, fr, fd, fs, a1, a2, a3, a4, a5, a6, a7, a8, a9, a10, a11, a12, a13, a14, a15, a16, a17, a18, a19, a20, a21, a22, a23, a24, a25, a26, a27) x y := by
  refine yr_ones hS (6 + c) i (by omega) (by omega) (by rw [hx]; exact ya_6p c) hy ?_
  rw [ya_ct h hc hi]; exact H
theorem ya_select {fn fk fr fd fs : Int32} {a1 a2 a3 a4 a5 a6 a7 a8 a9 a10 a11 a12 a13 a14 a15 a16 a17 a18 a19 a20 a21 a22 a23 a24 a25 a26 a27 : Nat → Int32} {post : Int32 → Prop} {s : Nat → Nat} {n q : Nat} {x y : Int32} (hn : n ≤ 200) (hf : fn = nI n) (hs : ∀ j, j < n → s j < 8) (hS : yr_sum a5 a6 a7) (h : ya_ok a5 s n) (hq : q < n) (hx : x = 6 + nI (s q)) (hy : y = nI (yc_r s (s q) q))
    (H : post (nI q)) : wpX_placeOfBit post (fn, fk, fr, fd, fs, a1, a2, a3, a4, a5, a6, a7, a8, a9, a10, a11, a12, a13, a14, a15, a16, a17, a18, a19, a20, a21, a22, a23, a24, a25, a26, a27) x 1 y := by
  have hc := hs q hq
  refine yr_place (o := true) hS (6 + s q) n (yc_r s (s q) q) q hn (by omega) hq hf (by rw [hx]; exact ya_6p _) rfl hy (by rw [h _ hc q hq]; exact decide_eq_true rfl) ?_ H
  rw [← ya_ct h hc (Nat.le_of_lt hq)]
  exact yc_congr (fun j _ => by cases yr_row a5 (6 + s q) j <;> rfl)
theorem ya_pack {fn fk fr fd fs : Int32} {a1 a2 a3 a4 a5 a6 a7 a8 a9 a10 a11 a12 a13 a14 a15 a16 a17 a18 a19 a20 a21 a22 a23 a24 a25 a26 a27 : Nat → Int32} {post : St2 → Prop} {s : Nat → Nat} {n : Nat} (hn : n ≤ 200) (hs : ys_let a1 s n) (hf : fn = nI n)
    (h0 : ∀ r x, 6 ≤ r → r < 21 → x < 224 → yr_row a5 r x = false)
    (H : ∀ b, ya_ok b s n → (∀ r x, r < 6 → x < 224 → yr_row b r x = yr_row a5 r x) → (∀ r x, 14 ≤ r → r < 21 → x < 224 → yr_row b r x = false) → post (nI n, fk, fr, fd, fs, a1, a2, a3, a4, b, a6, a7, a8, a9, a10, a11, a12, a13, a14, a15, a16, a17, a18, a19, a20, a21, a22, a23, a24, a25, a26, a27)) : wpX_packMaps post (fn, fk, fr, fd, fs, a1, a2, a3, a4, a5, a6, a7, a8, a9, a10, a11, a12, a13, a14, a15, a16, a17, a18, a19, a20, a21, a22, a23, a24, a25, a26, a27) := by
  subst hf
  have q := pk_loop (fun k i (b : Nat → Int32) => wX_packMaps_2 post k (nI i) (nI n) fk fr fd fs a1 a2 a3 a4 b a6 a7 a8 a9 a10 a11 a12 a13 a14 a15 a16 a17 a18 a19 a20 a21 a22 a23 a24 a25 a26 a27) (fun i b => (∀ c, c < 8 → ∀ j, j < i → yr_row b (6 + c) j = decide (s j = c)) ∧ (∀ r x, 6 ≤ r → r < 21 → (14 ≤ r ∨ i ≤ x) → x < 224 → yr_row b r x = false) ∧ (∀ r x, r < 6 → x < 224 → yr_row b r x = yr_row a5 r x)) n 0 a5 (by omega) ⟨fun c _ j z => absurd z (by omega), fun r x h1 h2 _ h4 => h0 r x h1 h2 h4, fun _ _ _ _ => rfl⟩ ?_ ?_
  · obtain ⟨k, hk⟩ := q
    exact ⟨k, hk⟩
  · intro k b h
    exact pk_le n n (fun _ => H b h.1 h.2.2 (fun r x h1 h2 h3 => h.2.1 r x (by omega) h2 (Or.inl h1) h3)) (fun z => absurd z (by omega))
  · intro k i b hi h hk
    obtain ⟨g1, g2, g3⟩ := h
    obtain ⟨s1, s2⟩ := hs i hi
    refine pk_le n i (fun z => absurd z (by omega)) (fun _ => ⟨pk_in i 200 (by omega), ?_⟩)
    rw [nI_clamp (by omega), s1]
    refine yr_set (6 + s i) i (by omega) (by omega) (ya_6p _) rfl (fun b' hb' => nm_r (nI_1 i) (hk b' ⟨fun c hc j hj => ?_, fun r x h1 h2 h3 h4 => ?_, fun r x h1 h2 => ?_⟩))
    · rw [hb' (6 + c) j (by omega) (by omega)]
      by_cases e : j = i
      · subst e
        rw [g2 (6 + c) j (by omega) (by omega) (Or.inr (Nat.le_refl j)) (by omega), Bool.false_or]
        exact decide_eq_decide.mpr (by omega)
      · rw [g1 c hc j (by omega), decide_eq_false (show ¬ (6 + c = 6 + s i ∧ j = i) by omega), Bool.or_false]
    · rw [hb' r x h2 h4, g2 r x h1 h2 (by omega) h4, decide_eq_false (show ¬ (r = 6 + s i ∧ x = i) by omega)]
      rfl
    · rw [hb' r x (by omega) h2, g3 r x h1 h2, decide_eq_false (show ¬ (r = 6 + s i ∧ x = i) by omega), Bool.or_false]
end
section
/-! engine 3: the places of each letter, low bits apart -/
def yp_hb (a : Nat → Int32) (c x : Nat) : Bool := yi_bt (a (c * 13 + x / 32)) (x % 32)
def yp_y (s : Nat → Nat) (c w i : Nat) : Nat := i / 2 ^ w + yc_r s c i
theorem yp_ix {c x : Nat} (hx : x < 2 ^ 31) : (nI c * 13) + (nI x >>> ((5 : Int32) &&& 31)) = nI (c * 13 + x / 32) := by
  rw [yi_shr5 hx]
  show nI c * nI 13 + _ = _
  rw [pk_mul, nI_add]
theorem yp_set {fn fk fr fd fs : Int32} {a1 a2 a3 a4 a5 a6 a7 a8 a9 a10 a11 a12 a13 a14 a15 a16 a17 a18 a19 a20 a21 a22 a23 a24 a25 a26 a27 : Nat → Int32} {post : St2 → Prop} {x y : Int32} (c p : Nat) (hc : c < 8) (hp : p < 416) (hx : x = nI c) (hy : y = nI p)
    (H : ∀ b, (∀ c' p', c' < 8 → p' < 416 → yp_hb b c' p' = (yp_hb a12 c' p' || decide (c' = c ∧ p' = p))) → post (fn, fk, fr, fd, fs, a1, a2, a3, a4, a5, a6, a7, a8, a9, a10, a11, b, a13, a14, a15, a16, a17, a18, a19, a20, a21, a22, a23, a24, a25, a26, a27)) : wpX_setHigh post (fn, fk, fr, fd, fs, a1, a2, a3, a4, a5, a6, a7, a8, a9, a10, a11, a12, a13, a14, a15, a16, a17, a18, a19, a20, a21, a22, a23, a24, a25, a26, a27) x y := by
  subst hx hy
  have e := yp_ix (c := c) (x := p) (by omega)
  refine ⟨pk_in _ 104 (by omega) e, pk_in _ 104 (by omega) e, nm_e (H _ ?_)⟩
  intro c' p' hc' hp'
  rw [e, nI_clamp (by omega)]
  unfold yp_hb
  by_cases h : c' * 13 + p' / 32 = c * 13 + p / 32
  · rw [h, pk_us, yi_set _ (by omega) (by omega)]
    exact congrArg (yi_bt (a12 (c * 13 + p / 32)) (p' % 32) || ·) (decide_eq_decide.mpr (by omega))
  · rw [pk_un h, decide_eq_false (by intro ⟨e1, e2⟩; subst e1 e2; exact h rfl), Bool.or_false]
theorem yp_bit {fn fk fr fd fs : Int32} {a1 a2 a3 a4 a5 a6 a7 a8 a9 a10 a11 a12 a13 a14 a15 a16 a17 a18 a19 a20 a21 a22 a23 a24 a25 a26 a27 : Nat → Int32} {post : Int32 → Prop} {x y : Int32} (c p : Nat) (hc : c < 8) (hp : p < 416) (hx : x = nI c) (hy : y = nI p)
    (H : post (if yp_hb a12 c p then 1 else 0)) : wpX_highAt post (fn, fk, fr, fd, fs, a1, a2, a3, a4, a5, a6, a7, a8, a9, a10, a11, a12, a13, a14, a15, a16, a17, a18, a19, a20, a21, a22, a23, a24, a25, a26, a27) x y := by
  subst hx hy
  have e := yp_ix (c := c) (x := p) (by omega)
  refine ⟨pk_in _ 104 (by omega) e, ?_⟩
  rw [e, nI_clamp (by omega), yi_31 (by omega)]
  refine ek_if (yi_bit _ (by omega)) (fun h => ?_) (fun h => ?_)
  · have h' : yp_hb a12 c p = false := h
    rw [h'] at H; exact H
  · have h' : yp_hb a12 c p = true := by
      cases hh : yp_hb a12 c p
      · exact absurd hh h
      · rfl
    rw [h'] at H; exact H
/-- letter c is packed with width w -/
def yp_c (a9 a10 a11 a12 : Nat → Int32) (s : Nat → Nat) (n c w : Nat) : Prop :=
  w ≤ 7 ∧ a9 c = nI w ∧ a10 c = nI (yc_b s c n) ∧ (∀ j, j < n → s j = c → a11 (yc_b s c n + yc_r s c j) = nI (j % 2 ^ w)) ∧
  (∀ x, x < 416 → (yp_hb a12 c x = true ↔ ∃ j, j < n ∧ s j = c ∧ x = yp_y s c w j))
def yp_ok (a9 a10 a11 a12 : Nat → Int32) (s : Nat → Nat) (n : Nat) : Prop := ∀ c, c < 8 → ∃ w, yp_c a9 a10 a11 a12 s n c w
theorem yp_ymono (s : Nat → Nat) (c w : Nat) {i j : Nat} (h : i ≤ j) : yp_y s c w i ≤ yp_y s c w j := by
  unfold yp_y
  have h1 : i / 2 ^ w ≤ j / 2 ^ w := Nat.div_le_div_right h
  have h2 := yc_r_mono (s := s) (c := c) h
  omega
theorem yp_ylt (s : Nat → Nat) {c : Nat} (w : Nat) {i j : Nat} (h : i < j) (hi : s i = c) : yp_y s c w i < yp_y s c w j := by
  unfold yp_y
  have h1 : i / 2 ^ w ≤ j / 2 ^ w := Nat.div_le_div_right (Nat.le_of_lt h)
  have h2 := yc_r_lt h hi
  omega
theorem yp_yle (s : Nat → Nat) (c w : Nat) (i : Nat) : yp_y s c w i ≤ i + i := by
  unfold yp_y
  have h1 : i / 2 ^ w ≤ i := Nat.div_le_self _ _
  have h2 := yc_r_le s c i
  omega
/-- ones before the place of i: as many as c stands before i -/
theorem yp_cnt {a9 a10 a11 a12 : Nat → Int32} {s : Nat → Nat} {n c w : Nat} (hn : n ≤ 200) (h : yp_c a9 a10 a11 a12 s n c w) (i : Nat) (hi : i ≤ n) : yc_ct (yp_hb a12 c) (yp_y s c w i) = yc_r s c i := by
  obtain ⟨_, _, _, _, hb⟩ := h
  induction i with
  | zero =>
    have : yp_y s c w 0 = 0 := by unfold yp_y; rw [Nat.zero_div]; rfl
    rw [this]; rfl
  | succ i ih =>
    have ih' := ih (by omega)
    have hle := yp_yle s c w (i + 1)
    have hlei := yp_yle s c w i
    have hd : (i + 1) / 2 ^ w ≤ i / 2 ^ w + 1 := by
      have : (i + 1) / 2 ^ w ≤ (i + 2 ^ w) / 2 ^ w := Nat.div_le_div_right (by have := Nat.two_pow_pos w; omega)
      rw [Nat.add_div_right _ (Nat.two_pow_pos w)] at this
      exact this
    have hm : yp_y s c w i ≤ yp_y s c w (i + 1) := yp_ymono s c w (Nat.le_succ i)
    have hf : ∀ x, yp_y s c w i ≤ x → x < yp_y s c w (i + 1) → (s i = c → x ≠ yp_y s c w i) → yp_hb a12 c x = false := by
      intro x h1 h2 h3
      cases e : yp_hb a12 c x
      · rfl
      · obtain ⟨j, j1, j2, j3⟩ := (hb x (by omega)).mp e
        rcases Nat.lt_trichotomy j i with g | g | g
        · have := yp_ylt s w g j2; omega
        · subst g; exact absurd j3 (h3 j2)
        · have := yp_ymono s c w (show i + 1 ≤ j from g); omega
    by_cases e : s i = c
    · have e1 := yc_r_t e
      have e2 : yp_hb a12 c (yp_y s c w i) = true := (hb _ (by omega)).mpr ⟨i, by omega, e, rfl⟩
      have e3 := yp_ylt s w (Nat.lt_succ_self i) e
      have e4 := yc_allf (p := yp_hb a12 c) (show yp_y s c w i + 1 ≤ yp_y s c w (i + 1) from e3) (fun x h1 h2 => hf x (by omega) h2 (fun _ => by omega))
      rw [e4, yc_t e2, e1, ih']
    · rw [yc_r_f e, ← ih']
      exact yc_allf hm (fun x h1 h2 => hf x h1 h2 (fun z => absurd z e))
theorem yp_join {q w : Nat} (hw : w ≤ 7) (hq : q < 2 ^ 8) : (nI (q / 2 ^ w) <<< (nI w &&& 31)) ||| nI (q % 2 ^ w) = nI q := by
  have h1 : q / 2 ^ w * 2 ^ w ≤ q := Nat.div_mul_le_self _ _
  rw [yi_shlk (by omega) (by omega), yi_orN, Nat.mul_comm, ← Nat.two_pow_add_eq_or_of_lt (Nat.mod_lt _ (Nat.two_pow_pos w)), Nat.div_add_mod]
theorem yp_select {fn fk fr fd fs : Int32} {a1 a2 a3 a4 a5 a6 a7 a8 a9 a10 a11 a12 a13 a14 a15 a16 a17 a18 a19 a20 a21 a22 a23 a24 a25 a26 a27 : Nat → Int32} {post : Int32 → Prop} {s : Nat → Nat} {n q : Nat} {x y : Int32} (hn : n ≤ 200) (hs : ∀ j, j < n → s j < 8) (h : yp_ok a9 a10 a11 a12 s n) (hq : q < n) (hx : x = nI (s q)) (hy : y = nI (yc_r s (s q) q))
    (H : post (nI q)) : wpX_selectInParts post (fn, fk, fr, fd, fs, a1, a2, a3, a4, a5, a6, a7, a8, a9, a10, a11, a12, a13, a14, a15, a16, a17, a18, a19, a20, a21, a22, a23, a24, a25, a26, a27) x y := by
  subst hx hy
  have hc := hs q hq
  obtain ⟨w, hw⟩ := h (s q) hc
  have hw' := hw
  obtain ⟨w1, w2, w3, w4, w5⟩ := hw'
  have ct := yp_cnt hn hw q (by omega)
  have hle := yp_yle s (s q) w q
  have hrl := yc_r_le s (s q) q
  have hrn := yc_r_lt hq (rfl : s q = s q)
  have hbn := yc_b_s s (s q) n
  have hbm : yc_b s (s q + 1) n ≤ n := yc_le _ _
  have one : yp_hb a12 (s q) (yp_y s (s q) w q) = true := (w5 _ (by omega)).mpr ⟨q, hq, rfl, rfl⟩
  have hy0 : yc_r s (s q) q ≤ yp_y s (s q) w q := Nat.le_add_left _ _
  have fin : ∀ k z4, wX_selectInParts_8 post (nI (s q)) (nI (yc_r s (s q) q)) fn fk fr fd fs a1 a2 a3 a4 a5 a6 a7 a8 a9 a10 a11 a12 a13 a14 a15 a16 a17 a18 a19 a20 a21 a22 a23 a24 a25 a26 a27 (k + 1) (nI (yp_y s (s q) w q)) z4 0 := by
    intro k z4
    have ei : a10 (s q) + nI (yc_r s (s q) q) = nI (yc_b s (s q) n + yc_r s (s q) q) := by rw [w3, nI_add]
    refine br_t rfl ⟨pk_in (s q) 8 hc, pk_in (s q) 9 (by omega), ?_⟩
    rw [nI_clamp (by omega), ei, nI_clamp (by omega), w4 q hq rfl, w2, pk_sub hy0, show yp_y s (s q) w q - yc_r s (s q) q = q / 2 ^ w from Nat.add_sub_cancel _ _, yp_join w1 (by omega)]
    exact ⟨pk_in (yc_b s (s q) n + yc_r s (s q) q) 200 (by omega), H⟩
  have q0 := pk_loop (σ := Unit) (fun k i _ => wX_selectInParts_8 post (nI (s q)) (nI (yc_r s (s q) q)) fn fk fr fd fs a1 a2 a3 a4 a5 a6 a7 a8 a9 a10 a11 a12 a13 a14 a15 a16 a17 a18 a19 a20 a21 a22 a23 a24 a25 a26 a27 (k + 1) (nI i) (nI (yc_ct (yp_hb a12 (s q)) i)) 1) (fun _ _ => True) (yp_y s (s q) w q) 0 () (by omega) trivial ?_ ?_
  · obtain ⟨k, hk⟩ := q0
    exact ⟨k + 1, hk⟩
  · intro k _ _
    refine br_f (by decide) (yp_bit (s q) (yp_y s (s q) w q) hc (by omega) rfl rfl ?_)
    rw [one, ct]
    refine br_f (by decide) (br_t rfl (br_f (by decide) (nm_e (br_t rfl (nm_r (nI_add _ 0) (fin k _))))))
  · intro k i _ hi _ hk
    have hk' := hk () trivial
    refine br_f (by decide) (yp_bit (s q) i hc (by omega) rfl rfl ?_)
    cases e : yp_hb a12 (s q) i
    · rw [yc_f e] at hk'
      exact br_t rfl (br_t rfl (nm_r (nI_add _ 0) (br_f (by decide) (nm_r (nI_1 i) hk'))))
    · rw [yc_t e] at hk'
      have hlt := yc_lt hi e
      refine br_f (by decide) (pk_eq (yc_ct (yp_hb a12 (s q)) i) (yc_r s (s q) q) (fun z => absurd z (by omega)) (fun _ => ?_))
      exact br_f (by decide) (nm_r (nI_1 _) (br_f (by decide) (nm_r (nI_1 i) hk')))
theorem yp_rank {fn fk fr fd fs : Int32} {a1 a2 a3 a4 a5 a6 a7 a8 a9 a10 a11 a12 a13 a14 a15 a16 a17 a18 a19 a20 a21 a22 a23 a24 a25 a26 a27 : Nat → Int32} {post : Int32 → Prop} {s : Nat → Nat} {n c i : Nat} {x y : Int32} (hn : n ≤ 200) (hs : ∀ j, j < n → s j < 8) (h2 : ∀ c, c < 8 → a2 c = nI (yc_r s c n)) (h : yp_ok a9 a10 a11 a12 s n) (hc : c < 8) (hi : i ≤ n) (hx : x = nI c) (hy : y = nI i)
    (H : post (nI (yc_r s c i))) : wpX_rankInParts post (fn, fk, fr, fd, fs, a1, a2, a3, a4, a5, a6, a7, a8, a9, a10, a11, a12, a13, a14, a15, a16, a17, a18, a19, a20, a21, a22, a23, a24, a25, a26, a27) x y := by
  subst hx hy
  have hrn := yc_r_le s c n
  refine ⟨pk_in c 8 hc, nm_r (e' := nI (yc_r s c n)) (by rw [nI_clamp (by omega)]; exact h2 c hc) ?_⟩
  refine yc_half (fun m lo hi => wX_rankInParts_10 post (nI c) (nI i) fn fk fr fd fs a1 a2 a3 a4 a5 a6 a7 a8 a9 a10 a11 a12 a13 a14 a15 a16 a17 a18 a19 a20 a21 a22 a23 a24 a25 a26 a27 m (nI lo) (nI hi)) (yc_r s c i) (yc_r s c n) (yc_r_mono hi) (fun m => pk_le _ _ (fun _ => H) (fun z => absurd z (by omega)) rfl rfl (by have := yc_r_le s c i; omega) (by have := yc_r_le s c i; omega)) ?_
  intro m lo hj h1 h2' h3 hlt hw
  refine pk_le hj lo (fun z => absurd z (by omega)) (fun _ => ⟨by decide, ?_⟩)
  have e1 : (nI lo + nI hj) / 2 = nI ((lo + hj) / 2) := by
    rw [nI_add]
    exact pk_div (d := 2) (by omega) (by omega) (by omega)
  refine nm_r e1 ?_
  have hm1 : lo ≤ (lo + hj) / 2 := by omega
  have hm2 : (lo + hj) / 2 < hj := by omega
  generalize (lo + hj) / 2 = md at *
  obtain ⟨q, q1, q2, q3⟩ := yc_r_find (show md < yc_r s c n by omega)
  subst q2
  refine yp_select hn hs h q1 rfl (by rw [q3]) ?_
  refine pk_le i q (fun z => ?_) (fun z => ?_)
  · have := yc_r_mono (s := s) (c := s q) z
    exact br_t rfl (br_t rfl (hw lo md h1 (by omega) (by omega) (by omega) (by omega)))
  · have := yc_r_lt z (rfl : s q = s q)
    refine br_f (by decide) (br_f (by decide) ?_)
    rw [nI_1]
    exact hw (md + 1) hj (by omega) h2' (by omega) (by omega) (by omega)
end
section
/-! packing engine 3 -/
theorem yp_84 {fn fk fr fd fs : Int32} {a1 a2 a3 a4 a5 a6 a7 a8 a9 a10 a11 a12 a13 a14 a15 a16 a17 a18 a19 a20 a21 a22 a23 a24 a25 a26 a27 : Nat → Int32} {post : St2 → Prop} {J : Int32 → Int32 → Int32 → Int32 → Int32 → Int32 → Int32 → (Nat → Int32) → (Nat → Int32) → (Nat → Int32) → (Nat → Int32) → (Nat → Int32) → (Nat → Int32) → (Nat → Int32) → (Nat → Int32) → (Nat → Int32) → (Nat → Int32) → (Nat → Int32) → (Nat → Int32) → (Nat → Int32) → (Nat → Int32) → (Nat → Int32) → (Nat → Int32) → (Nat → Int32) → (Nat → Int32) → (Nat → Int32) → (Nat → Int32) → (Nat → Int32) → (Nat → Int32) → (Nat → Int32) → (Nat → Int32) → (Nat → Int32) → (Nat → Int32) → (Nat → Int32) →  Prop} {s : Nat → Nat} {n c w : Nat} (hn : n ≤ 200) (hs : ys_let a1 s n) (hf : fn = nI n) (hc : c < 8) (hw : w ≤ 7) (h10 : a10 c = nI (yc_b s c n))
    (h0 : ∀ x, x < 416 → yp_hb a12 c x = false)
    (H : ∀ b11 b12, (∀ k, k < yc_b s c n → b11 k = a11 k) → (∀ j, j < n → s j = c → b11 (yc_b s c n + yc_r s c j) = nI (j % 2 ^ w)) → (∀ x, x < 416 → (yp_hb b12 c x = true ↔ ∃ j, j < n ∧ s j = c ∧ x = yp_y s c w j)) → (∀ c' x, c' < 8 → x < 416 → c' ≠ c → yp_hb b12 c' x = yp_hb a12 c' x) → J (nI (yc_b s (c + 1) n)) (nI (c + 1)) (nI n) fk fr fd fs a1 a2 a3 a4 a5 a6 a7 a8 a9 a10 b11 b12 a13 a14 a15 a16 a17 a18 a19 a20 a21 a22 a23 a24 a25 a26 a27) :
    ∃ k, wX_packParts_84 post J (nI c) (nI w) k (nI (yc_b s c n)) 0 fn fk fr fd fs a1 a2 a3 a4 a5 a6 a7 a8 a9 a10 a11 a12 a13 a14 a15 a16 a17 a18 a19 a20 a21 a22 a23 a24 a25 a26 a27 := by
  subst hf
  have q := pk_loop (fun k i (b : (Nat → Int32) × (Nat → Int32)) => wX_packParts_84 post J (nI c) (nI w) k (nI (yc_b s c n + yc_r s c i)) (nI i) (nI n) fk fr fd fs a1 a2 a3 a4 a5 a6 a7 a8 a9 a10 b.1 b.2 a13 a14 a15 a16 a17 a18 a19 a20 a21 a22 a23 a24 a25 a26 a27)
    (fun i b => (∀ k, k < yc_b s c n → b.1 k = a11 k) ∧ (∀ j, j < i → s j = c → b.1 (yc_b s c n + yc_r s c j) = nI (j % 2 ^ w)) ∧ (∀ x, x < 416 → (yp_hb b.2 c x = true ↔ ∃ j, j < i ∧ s j = c ∧ x = yp_y s c w j)) ∧ (∀ c' x, c' < 8 → x < 416 → c' ≠ c → yp_hb b.2 c' x = yp_hb a12 c' x)) n 0 (a11, a12) (by omega)
    ⟨fun _ _ => rfl, fun j z => absurd z (by omega), fun x hx => ⟨fun z => absurd z (by rw [h0 x hx]; decide), fun ⟨j, z, _⟩ => absurd z (by omega)⟩, fun _ _ _ _ _ => rfl⟩ ?_ ?_
  · obtain ⟨k, hk⟩ := q
    exact ⟨k, hk⟩
  · intro k b h
    obtain ⟨g1, g2, g3, g4⟩ := h
    have e := yc_b_s s c n
    refine pk_le n n (fun _ => nm_r (nI_1 c) ?_) (fun z => absurd z (by omega))
    have := H b.1 b.2 g1 g2 g3 g4
    rw [e] at this
    exact this
  · intro k i b hi h hk
    obtain ⟨g1, g2, g3, g4⟩ := h
    obtain ⟨s1, s2⟩ := hs i hi
    have hrl := yc_r_le s c i
    have hbs := yc_b_s s c n
    have hbn : yc_b s (c + 1) n ≤ n := yc_le _ _
    have hrm := yc_r_mono (s := s) (c := c) (show i ≤ n by omega)
    refine pk_le n i (fun z => absurd z (by omega)) (fun _ => ⟨pk_in i 200 (by omega), ?_⟩)
    rw [nI_clamp (by omega), s1]
    refine pk_eq (s i) c (fun e => ?_) (fun e => nm_r (nI_1 i) ?_)
    · have e1 := yc_r_t e
      have hrn := yc_r_lt hi e
      have hyl := yp_yle s c w i
      refine ⟨pk_in (yc_b s c n + yc_r s c i) 200 (by omega), ?_⟩
      have hml : i % 2 ^ w ≤ i := Nat.mod_le _ _
      have pwl : 2 ^ w ≤ 2 ^ 7 := Nat.pow_le_pow_right (by omega) hw
      have hix : yc_b s c n ≤ i / 2 ^ w + (yc_b s c n + yc_r s c i) := Nat.le_trans (Nat.le_add_right _ _) (Nat.le_add_left _ _)
      have hiy : i / 2 ^ w + (yc_b s c n + yc_r s c i) - yc_b s c n = yp_y s c w i := by
        show _ = i / 2 ^ w + yc_r s c i
        generalize i / 2 ^ w = dv
        omega
      rw [yi_msk w (by omega), pk_andN (by omega) w (pk_tn (by omega)), yi_n16 _ (by omega), nI_clamp (by omega), nI_clamp (by omega), h10, yi_shrk (by omega) (by omega), nI_add, pk_sub hix, hiy]
      refine nm_e ⟨pk_in c 9 (by omega), yp_set c (yp_y s c w i) hc (by omega) rfl rfl (fun b' hb' => nm_r (nI_1 _) (nm_r (nI_1 i) ?_))⟩
      have k1 := hk (upd b.1 (yc_b s c n + yc_r s c i) (nI (i % 2 ^ w)), b') ⟨fun m hm => ?_, fun j hj ej => ?_, fun x hx => ?_, fun c' x hc' hx hne => ?_⟩
      · have k2 : wX_packParts_84 post J (nI c) (nI w) k (nI (yc_b s c n + yc_r s c (i + 1))) (nI (i + 1)) (nI n) fk fr fd fs a1 a2 a3 a4 a5 a6 a7 a8 a9 a10 (upd b.1 (yc_b s c n + yc_r s c i) (nI (i % 2 ^ w))) b' a13 a14 a15 a16 a17 a18 a19 a20 a21 a22 a23 a24 a25 a26 a27 := k1
        rw [e1] at k2
        exact k2
      · show upd b.1 (yc_b s c n + yc_r s c i) (nI (i % 2 ^ w)) m = _
        rw [pk_un (by omega)]
        exact g1 m hm
      · show upd b.1 (yc_b s c n + yc_r s c i) (nI (i % 2 ^ w)) _ = _
        by_cases eq : j = i
        · subst eq
          rw [pk_us]
        · have := yc_r_lt (show j < i by omega) ej
          rw [pk_un (by omega)]
          exact g2 j (by omega) ej
      · show yp_hb b' c x = true ↔ _
        rw [hb' c x hc hx, Bool.or_eq_true, g3 x hx, decide_eq_true_eq]
        constructor
        · intro z
          rcases z with ⟨j, j1, j2, j3⟩ | ⟨_, z⟩
          · exact ⟨j, by omega, j2, j3⟩
          · exact ⟨i, by omega, e, z⟩
        · intro ⟨j, j1, j2, j3⟩
          by_cases eq : j = i
          · subst eq
            exact Or.inr ⟨rfl, j3⟩
          · exact Or.inl ⟨j, by omega, j2, j3⟩
      · show yp_hb b' c' x = _
        rw [hb' c' x hc' hx, g4 c' x hc' hx hne, decide_eq_false (fun z => hne z.1), Bool.or_false]
    · have e1 := yc_r_f e
      have k1 := hk b ⟨g1, fun j hj ej => g2 j (by have : j ≠ i := fun z => e (z ▸ ej); omega) ej, fun x hx => ?_, g4⟩
      · have k2 : wX_packParts_84 post J (nI c) (nI w) k (nI (yc_b s c n + yc_r s c (i + 1))) (nI (i + 1)) (nI n) fk fr fd fs a1 a2 a3 a4 a5 a6 a7 a8 a9 a10 b.1 b.2 a13 a14 a15 a16 a17 a18 a19 a20 a21 a22 a23 a24 a25 a26 a27 := k1
        rw [e1] at k2
        exact k2
      · rw [g3 x hx]
        constructor
        · intro ⟨j, j1, j2, j3⟩
          exact ⟨j, by omega, j2, j3⟩
        · intro ⟨j, j1, j2, j3⟩
          exact ⟨j, by have : j ≠ i := fun z => e (z ▸ j2); omega, j2, j3⟩
/-- how many low bits -/
theorem yp_41 {fn fk fr fd fs : Int32} {a1 a2 a3 a4 a5 a6 a7 a8 a9 a10 a11 a12 a13 a14 a15 a16 a17 a18 a19 a20 a21 a22 a23 a24 a25 a26 a27 : Nat → Int32} {post : St2 → Prop} {J : Int32 → Int32 → Int32 → Int32 → Int32 → Int32 → Int32 → (Nat → Int32) → (Nat → Int32) → (Nat → Int32) → (Nat → Int32) → (Nat → Int32) → (Nat → Int32) → (Nat → Int32) → (Nat → Int32) → (Nat → Int32) → (Nat → Int32) → (Nat → Int32) → (Nat → Int32) → (Nat → Int32) → (Nat → Int32) → (Nat → Int32) → (Nat → Int32) → (Nat → Int32) → (Nat → Int32) → (Nat → Int32) → (Nat → Int32) → (Nat → Int32) → (Nat → Int32) → (Nat → Int32) → (Nat → Int32) → (Nat → Int32) → (Nat → Int32) → (Nat → Int32) →  Prop} {x1 : Int32} {n c m : Nat} (hn : n ≤ 200) (hm : m ≤ n) (hf : fn = nI n) (hc : c < 8) (h2 : a2 c = nI m)
    (H : ∀ w, w ≤ 7 → wX_packParts_73 post J x1 (nI c) (nI w) fn fk fr fd fs a1 a2 a3 a4 a5 a6 a7 a8 a9 a10 a11 a12 a13 a14 a15 a16 a17 a18 a19 a20 a21 a22 a23 a24 a25 a26 a27) : ∃ k, wX_packParts_41 post J x1 (nI c) fn fk fr fd fs a1 a2 a3 a4 a5 a6 a7 a8 a9 a10 a11 a12 a13 a14 a15 a16 a17 a18 a19 a20 a21 a22 a23 a24 a25 a26 a27 k 0 := by
  subst hf
  have key : ∀ d w, w + d = 7 → wX_packParts_41 post J x1 (nI c) (nI n) fk fr fd fs a1 a2 a3 a4 a5 a6 a7 a8 a9 a10 a11 a12 a13 a14 a15 a16 a17 a18 a19 a20 a21 a22 a23 a24 a25 a26 a27 (d + 1) (nI w) := by
    intro d
    induction d with
    | zero =>
      intro w e
      have ew : w = 7 := by omega
      subst ew
      refine ⟨pk_in c 8 hc, ?_⟩
      rw [nI_clamp (by omega), h2]
      refine pk_le m 0 (fun _ => H 7 (by omega)) (fun z => ⟨pk_in c 8 hc, ?_⟩)
      rw [nI_1, yi_shlk (by omega) (by omega)]
      exact pk_lt n (m * 2 ^ 8) (fun _ => H 7 (by omega)) (fun z' => absurd z' (by omega))
    | succ d ih =>
      intro w e
      have ih' := ih (w + 1) (by omega)
      have pw : 2 ^ (w + 1) ≤ 2 ^ 8 := Nat.pow_le_pow_right (by omega) (by omega)
      have pm : m * 2 ^ (w + 1) ≤ 200 * 2 ^ 8 := Nat.mul_le_mul (by omega) pw
      refine ⟨pk_in c 8 hc, ?_⟩
      rw [nI_clamp (by omega), h2]
      refine pk_le m 0 (fun _ => H w (by omega)) (fun z => ⟨pk_in c 8 hc, ?_⟩)
      rw [nI_1, yi_shlk (by omega) (by omega)]
      exact pk_lt n (m * 2 ^ (w + 1)) (fun _ => H w (by omega)) (fun z' => nm_e ih')
  exact ⟨8, key 7 0 rfl⟩
theorem yp_25 {fn fk fr fd fs : Int32} {a1 a2 a3 a4 a5 a6 a7 a8 a9 a10 a11 a12 a13 a14 a15 a16 a17 a18 a19 a20 a21 a22 a23 a24 a25 a26 a27 : Nat → Int32} {post : St2 → Prop} {s : Nat → Nat} {n : Nat} (hn : n ≤ 200) (hs : ys_let a1 s n) (hf : fn = nI n) (h2 : ∀ c, c < 8 → a2 c = nI (yc_r s c n))
    (h0 : ∀ c x, c < 8 → x < 416 → yp_hb a12 c x = false)
    (H : ∀ b9 b10 b11 b12, yp_ok b9 b10 b11 b12 s n → post (nI n, fk, fr, fd, fs, a1, a2, a3, a4, a5, a6, a7, a8, b9, b10, b11, b12, a13, a14, a15, a16, a17, a18, a19, a20, a21, a22, a23, a24, a25, a26, a27)) : ∃ k, wX_packParts_25 post k 0 0 fn fk fr fd fs a1 a2 a3 a4 a5 a6 a7 a8 a9 a10 a11 a12 a13 a14 a15 a16 a17 a18 a19 a20 a21 a22 a23 a24 a25 a26 a27 := by
  subst hf
  have q := pk_loop (fun k c (b : (Nat → Int32) × (Nat → Int32) × (Nat → Int32) × (Nat → Int32)) => wX_packParts_25 post k (nI (yc_b s c n)) (nI c) (nI n) fk fr fd fs a1 a2 a3 a4 a5 a6 a7 a8 b.1 b.2.1 b.2.2.1 b.2.2.2 a13 a14 a15 a16 a17 a18 a19 a20 a21 a22 a23 a24 a25 a26 a27)
    (fun c b => (∀ c', c' < c → ∃ w, yp_c b.1 b.2.1 b.2.2.1 b.2.2.2 s n c' w) ∧ ∀ c' x, c ≤ c' → c' < 8 → x < 416 → yp_hb b.2.2.2 c' x = false) 8 0 (a9, a10, a11, a12) (by omega) ⟨fun c' z => absurd z (by omega), fun c' x _ h1 h2 => h0 c' x h1 h2⟩ ?_ ?_
  · obtain ⟨k, hk⟩ := q
    have hk' : wX_packParts_25 post k (nI (yc_b s 0 n)) (nI 0) (nI n) fk fr fd fs a1 a2 a3 a4 a5 a6 a7 a8 a9 a10 a11 a12 a13 a14 a15 a16 a17 a18 a19 a20 a21 a22 a23 a24 a25 a26 a27 := hk
    rw [yc_b_0] at hk'
    exact ⟨k, hk'⟩
  · intro k b h
    refine pk_le 8 8 (fun _ => nm_e (H _ _ _ _ (fun c hc => ?_))) (fun z => absurd z (by omega))
    obtain ⟨w, w1, w2, w3, w4, w5⟩ := h.1 c hc
    exact ⟨w, w1, w2, by rw [pk_un (by omega)]; exact w3, w4, w5⟩
  · intro k c b hc h hk
    have hbn : yc_b s c n ≤ n := yc_le _ _
    refine pk_le 8 c (fun z => absurd z (by omega)) (fun _ => ⟨pk_in c 9 (by omega), ?_⟩)
    rw [nI_clamp (by omega), yi_n16 _ (by omega)]
    refine nm_e (yp_41 hn (yc_r_le s c n) rfl hc (h2 c hc) (fun w hw => ⟨pk_in c 8 hc, ?_⟩))
    rw [nI_clamp (by omega), yi_n8 _ (by omega)]
    refine nm_e (yp_84 hn hs rfl hc hw pk_us (fun x hx => h.2 c x (Nat.le_refl c) hc hx) (fun b11 b12 p1 p2 p3 p4 => ?_))
    refine hk (upd b.1 c (nI w), upd b.2.1 c (nI (yc_b s c n)), b11, b12) ⟨fun c' hc' => ?_, fun c' x h1 h2 h3 => ?_⟩
    · by_cases e : c' = c
      · subst e
        exact ⟨w, hw, pk_us, pk_us, p2, p3⟩
      · obtain ⟨w', w1, w2, w3, w4, w5⟩ := h.1 c' (by omega)
        refine ⟨w', w1, by rw [← w2]; exact pk_un e, by rw [← w3]; exact pk_un e, fun j hj ej => ?_, fun x hx => ?_⟩
        · have hl := yc_r_lt hj ej
          have hbs := yc_b_s s c' n
          have hbm := yc_b_monoc (s := s) (i := n) (show c' + 1 ≤ c by omega)
          show b11 _ = _
          rw [p1 _ (by omega)]
          exact w4 j hj ej
        · show yp_hb b12 c' x = true ↔ _
          rw [p4 c' x (by omega) hx e]
          exact w5 x hx
    · show yp_hb b12 c' x = _
      rw [p4 c' x h2 h3 (by omega)]
      exact h.2 c' x (by omega) h2 h3
theorem yp_pack {fn fk fr fd fs : Int32} {a1 a2 a3 a4 a5 a6 a7 a8 a9 a10 a11 a12 a13 a14 a15 a16 a17 a18 a19 a20 a21 a22 a23 a24 a25 a26 a27 : Nat → Int32} {post : St2 → Prop} {s : Nat → Nat} {n : Nat} (hn : n ≤ 200) (hs : ys_let a1 s n) (hf : fn = nI n) (h2 : ∀ c, c < 8 → a2 c = nI (yc_r s c n))
    (H : ∀ b9 b10 b11 b12, yp_ok b9 b10 b11 b12 s n → post (nI n, fk, fr, fd, fs, a1, a2, a3, a4, a5, a6, a7, a8, b9, b10, b11, b12, a13, a14, a15, a16, a17, a18, a19, a20, a21, a22, a23, a24, a25, a26, a27)) : wpX_packParts post (fn, fk, fr, fd, fs, a1, a2, a3, a4, a5, a6, a7, a8, a9, a10, a11, a12, a13, a14, a15, a16, a17, a18, a19, a20, a21, a22, a23, a24, a25, a26, a27) := by
  subst hf
  have q := pk_loop (fun k i (b : Nat → Int32) => wX_packParts_2 post (nI n) fk fr fd fs k (nI i) a1 a2 a3 a4 a5 a6 a7 a8 a9 a10 a11 b a13 a14 a15 a16 a17 a18 a19 a20 a21 a22 a23 a24 a25 a26 a27) (fun i b => ∀ j, j < i → b j = 0) 104 0 a12 (by omega) (fun x z => absurd z (by omega)) ?_ ?_
  · obtain ⟨k, hk⟩ := q
    exact ⟨k, hk⟩
  · intro k b h
    refine pk_le 104 104 (fun _ => yp_25 hn hs rfl h2 (fun c x hc hx => ?_) H) (fun z => absurd z (by omega))
    unfold yp_hb
    rw [h _ (by omega)]
    exact yi_0 _
  · intro k i b hi h hk
    refine pk_le 104 i (fun z => absurd z (by omega)) (fun _ => ⟨pk_in i 104 hi, nm_e (nm_r (nI_1 i) (hk _ ?_))⟩)
    intro j hj
    rw [nI_clamp (by omega)]
    by_cases e : j = i
    · rw [e, pk_us]
    · rw [pk_un e]
      exact h j (by omega)
end
section
/-! engine 4: blocks of seven -/
def yb_C : Nat → Nat → Nat
  | _, 0 => 1
  | 0, _ + 1 => 0
  | n + 1, k + 1 => yb_C n k + yb_C n (k + 1)
def yb_ch (a16 : Nat → Int32) : Prop := ∀ i k, i < 8 → k ≤ i → a16 (i * 8 + k) = nI (yb_C i k)
def yb_wo (m left : Nat) : Nat := if left ≤ m then yb_C m left else 0
def yb_num (v : Nat) : Nat → Nat → Nat
  | 0, _ => 0
  | m + 1, left => if left = 0 then 0 else if v.testBit (6 - m) then yb_wo m left + yb_num v m (left - 1) else yb_num v m left
def yb_bits : Nat → Nat → Nat → Nat
  | 0, _, _ => 0
  | m + 1, left, rk => if left = 0 then 0 else if rk < yb_wo m left then yb_bits m left rk else 2 ^ (6 - m) + yb_bits m (left - 1) (rk - yb_wo m left)
theorem yb_inv : ∀ v, v < 128 → yb_bits 7 (yi_pop v) (yb_num v 7 (yi_pop v)) = v ∧ yb_num v 7 (yi_pop v) < 128 := by decide +kernel
theorem yb_Cle : ∀ m, m < 7 → ∀ k, k ≤ m → yb_C m k ≤ 20 := by decide +kernel
theorem yb_wole {m : Nat} (hm : m < 7) (l : Nat) : yb_wo m l ≤ 20 := by
  unfold yb_wo
  split
  · exact yb_Cle m hm l (by assumption)
  · omega
theorem yb_numw {fn fk fr fd fs : Int32} {a1 a2 a3 a4 a5 a6 a7 a8 a9 a10 a11 a12 a13 a14 a15 a16 a17 a18 a19 a20 a21 a22 a23 a24 a25 a26 a27 : Nat → Int32} {post : Int32 → Prop} (hC : yb_ch a16) (v : Nat) (hv : v < 128) : ∀ m, m ≤ 7 → ∀ acc left, left ≤ 8 → post (nI (acc + yb_num v m left)) → ∃ k, wX_numberOf_8 post (nI v) fn fk fr fd fs a1 a2 a3 a4 a5 a6 a7 a8 a9 a10 a11 a12 a13 a14 a15 a16 a17 a18 a19 a20 a21 a22 a23 a24 a25 a26 a27 k (nI acc) (nI left) (nI (7 - m)) := by
  intro m
  induction m with
  | zero =>
    intro _ acc left hl H
    exact ⟨1, pk_le 7 7 (fun _ => H) (fun z => absurd z (by omega))⟩
  | succ m ih =>
    intro hm acc left hl H
    have ih' := ih (by omega)
    have e1 : (6 : Int32) - nI (7 - (m + 1)) = nI m := by
      show nI 6 - nI (7 - (m + 1)) = nI m
      rw [pk_sub (by omega)]
      exact congrArg nI (by omega)
    have e5 : nI (7 - (m + 1)) + 1 = nI (7 - m) := by rw [nI_1]; exact congrArg nI (by omega)
    have hbit : ((nI v >>> (nI (7 - (m + 1)) &&& 31)) &&& 1) = nI ((v.testBit (6 - m)).toNat) := by
      rw [yi_shrk (by omega) (by omega), yi_1 (by have := Nat.div_le_self v (2 ^ (7 - (m + 1))); omega), show 7 - (m + 1) = 6 - m by omega]
      refine congrArg nI ?_
      rw [Nat.testBit_eq_decide_div_mod_eq]
      have := Nat.mod_two_eq_zero_or_one (v / 2 ^ (6 - m))
      rcases this with e | e <;> rw [e] <;> rfl
    unfold yb_num at H
    by_cases l0 : left = 0
    · subst l0
      rw [if_pos rfl] at H
      exact ⟨1, pk_le 7 (7 - (m + 1)) (fun z => absurd z (by omega)) (fun _ => pk_le 0 0 (fun _ => H) (fun z => absurd z (by omega)))⟩
    · rw [if_neg l0] at H
      cases hb : v.testBit (6 - m)
      · rw [hb] at H hbit
        obtain ⟨k, hk⟩ := ih' acc left hl H
        refine ⟨k + 1, pk_le 7 (7 - (m + 1)) (fun z => absurd z (by omega)) (fun _ => pk_le left 0 (fun z => absurd z (by omega)) (fun _ => nm_r e1 ?_))⟩
        rw [hbit]
        exact br_t rfl (nm_r e5 hk)
      · rw [hb] at H hbit
        obtain ⟨k, hk⟩ := ih' (acc + yb_wo m left) (left - 1) (by omega) (by rw [Nat.add_assoc]; exact H)
        have e4 : nI left + (-1) = nI (left - 1) := by
          have := pk_m1 (left - 1)
          rw [show left - 1 + 1 = left by omega] at this
          exact this
        refine ⟨k + 1, pk_le 7 (7 - (m + 1)) (fun z => absurd z (by omega)) (fun _ => pk_le left 0 (fun z => absurd z (by omega)) (fun _ => nm_r e1 ?_))⟩
        rw [hbit]
        refine br_f (by decide) ?_
        unfold yb_wo at hk
        refine pk_lt m left (fun z => ?_) (fun z => ?_)
        · rw [if_neg (by omega)] at hk
          exact nm_r (nI_add acc 0) (nm_r e4 (nm_r e5 hk))
        · rw [if_pos z] at hk
          have e6 : (nI m * 8) + nI left = nI (m * 8 + left) := by
            show nI m * nI 8 + nI left = _
            rw [pk_mul, nI_add]
          refine ⟨pk_in (m * 8 + left) 64 (by omega) e6, ?_⟩
          rw [e6, nI_clamp (by omega), hC m left (by omega) z]
          exact nm_r (nI_add _ _) (nm_r e4 (nm_r e5 hk))
theorem yb_number {fn fk fr fd fs : Int32} {a1 a2 a3 a4 a5 a6 a7 a8 a9 a10 a11 a12 a13 a14 a15 a16 a17 a18 a19 a20 a21 a22 a23 a24 a25 a26 a27 : Nat → Int32} {post : Int32 → Prop} {x y : Int32} (hC : yb_ch a16) (v l : Nat) (hv : v < 128) (hl : l ≤ 8) (hx : x = nI v) (hy : y = nI l) (H : post (nI (yb_num v 7 l))) : wpX_numberOf post (fn, fk, fr, fd, fs, a1, a2, a3, a4, a5, a6, a7, a8, a9, a10, a11, a12, a13, a14, a15, a16, a17, a18, a19, a20, a21, a22, a23, a24, a25, a26, a27) x y := by
  subst hx hy
  exact yb_numw hC v hv 7 (by omega) 0 l hl (by rw [Nat.zero_add]; exact H)
theorem yb_bitsw {fn fk fr fd fs : Int32} {a1 a2 a3 a4 a5 a6 a7 a8 a9 a10 a11 a12 a13 a14 a15 a16 a17 a18 a19 a20 a21 a22 a23 a24 a25 a26 a27 : Nat → Int32} {post : Int32 → Prop} (hC : yb_ch a16) : ∀ m, m ≤ 7 → ∀ acc left rk, acc < 2 ^ (7 - m) → left ≤ 8 → rk < 1000 → post (nI (acc + yb_bits m left rk)) → ∃ k, wX_bitsOf_11 post fn fk fr fd fs a1 a2 a3 a4 a5 a6 a7 a8 a9 a10 a11 a12 a13 a14 a15 a16 a17 a18 a19 a20 a21 a22 a23 a24 a25 a26 a27 k (nI acc) (nI left) (nI rk) (nI (7 - m)) := by
  intro m
  induction m with
  | zero =>
    intro _ acc left rk _ hl hr H
    exact ⟨1, pk_le 7 7 (fun _ => H) (fun z => absurd z (by omega))⟩
  | succ m ih =>
    intro hm acc left rk ha hl hr H
    have ih' := ih (by omega)
    have e1 : (6 : Int32) - nI (7 - (m + 1)) = nI m := by
      show nI 6 - nI (7 - (m + 1)) = nI m
      rw [pk_sub (by omega)]
      exact congrArg nI (by omega)
    have e5 : nI (7 - (m + 1)) + 1 = nI (7 - m) := by rw [nI_1]; exact congrArg nI (by omega)
    have pw : 2 ^ (7 - m) = 2 ^ (7 - (m + 1)) + 2 ^ (7 - (m + 1)) := by
      rw [show 7 - m = 7 - (m + 1) + 1 by omega, Nat.pow_succ]; omega
    have pl : 2 ^ (7 - (m + 1)) ≤ 2 ^ 7 := Nat.pow_le_pow_right (by omega) (by omega)
    unfold yb_bits at H
    by_cases l0 : left = 0
    · subst l0
      rw [if_pos rfl] at H
      exact ⟨1, pk_le 7 (7 - (m + 1)) (fun z => absurd z (by omega)) (fun _ => pk_le 0 0 (fun _ => H) (fun z => absurd z (by omega)))⟩
    · rw [if_neg l0] at H
      have hwo := yb_wole (show m < 7 by omega) left
      have key : ∃ k, ∀ z, z = nI (yb_wo m left) → wX_bitsOf_54 post (wX_bitsOf_11 post fn fk fr fd fs a1 a2 a3 a4 a5 a6 a7 a8 a9 a10 a11 a12 a13 a14 a15 a16 a17 a18 a19 a20 a21 a22 a23 a24 a25 a26 a27 k) (nI acc) (nI left) (nI rk) (nI (7 - (m + 1))) z fn fk fr fd fs a1 a2 a3 a4 a5 a6 a7 a8 a9 a10 a11 a12 a13 a14 a15 a16 a17 a18 a19 a20 a21 a22 a23 a24 a25 a26 a27 := by
        by_cases hc : rk < yb_wo m left
        · rw [if_pos hc] at H
          obtain ⟨k, hk⟩ := ih' acc left rk (by omega) hl hr H
          refine ⟨k, fun z hz => ?_⟩
          exact pk_lt rk (yb_wo m left) (fun _ => nm_r e5 hk) (fun z => absurd z (by omega)) rfl hz
        · rw [if_neg hc] at H
          obtain ⟨k, hk⟩ := ih' (acc + 2 ^ (7 - (m + 1))) (left - 1) (rk - yb_wo m left) (by omega) (by omega) (by omega) (by rw [Nat.add_assoc, show 7 - (m + 1) = 6 - m by omega]; exact H)
          have e4 : nI left + (-1) = nI (left - 1) := by
            have := pk_m1 (left - 1)
            rw [show left - 1 + 1 = left by omega] at this
            exact this
          refine ⟨k, fun z hz => ?_⟩
          subst hz
          refine pk_lt rk (yb_wo m left) (fun z => absurd z (by omega)) (fun z => nm_r (pk_sub z) (nm_r ?_ (nm_r e4 (nm_r e5 hk))))
          rw [yi_pw _ (by omega), yi_orN]
          have := Nat.two_pow_add_eq_or_of_lt ha 1
          rw [Nat.mul_one] at this
          rw [Nat.or_comm, ← this, Nat.add_comm]
      obtain ⟨k, hk⟩ := key
      refine ⟨k + 1, pk_le 7 (7 - (m + 1)) (fun z => absurd z (by omega)) (fun _ => pk_le left 0 (fun z => absurd z (by omega)) (fun _ => nm_r e1 ?_))⟩
      refine pk_lt m left (fun z => hk 0 ?_) (fun z => ?_)
      · unfold yb_wo
        rw [if_neg (by omega)]; rfl
      · have e6 : (nI m * 8) + nI left = nI (m * 8 + left) := by
          show nI m * nI 8 + nI left = _
          rw [pk_mul, nI_add]
        refine ⟨pk_in (m * 8 + left) 64 (by omega) e6, ?_⟩
        rw [e6, nI_clamp (by omega), hC m left (by omega) z]
        refine hk _ ?_
        unfold yb_wo
        rw [if_pos z]
theorem yb_bitsOf {fn fk fr fd fs : Int32} {a1 a2 a3 a4 a5 a6 a7 a8 a9 a10 a11 a12 a13 a14 a15 a16 a17 a18 a19 a20 a21 a22 a23 a24 a25 a26 a27 : Nat → Int32} {post : Int32 → Prop} {x y : Int32} (hC : yb_ch a16) (rk l : Nat) (hr : rk < 1000) (hl : l ≤ 8) (hx : x = nI rk) (hy : y = nI l) (H : post (nI (yb_bits 7 l rk))) : wpX_bitsOf post (fn, fk, fr, fd, fs, a1, a2, a3, a4, a5, a6, a7, a8, a9, a10, a11, a12, a13, a14, a15, a16, a17, a18, a19, a20, a21, a22, a23, a24, a25, a26, a27) x y := by
  subst hx hy
  exact yb_bitsw hC 7 (by omega) 0 l rk (by decide) hl hr (by rw [Nat.zero_add]; exact H)
/-- bits of a block as a number -/
def yb_v (p : Nat → Bool) : Nat → Nat
  | 0 => 0
  | i + 1 => yb_v p i + (if p i then 2 ^ i else 0)
theorem yb_vlt (p : Nat → Bool) (i : Nat) : yb_v p i < 2 ^ i := by
  induction i with
  | zero => show 0 < 2 ^ 0; decide
  | succ i ih =>
    show yb_v p i + _ < _
    rw [Nat.pow_succ]
    split <;> omega
theorem yb_vt (p : Nat → Bool) (i : Nat) : ∀ j, (yb_v p i).testBit j = (decide (j < i) && p j) := by
  induction i with
  | zero => intro j; simp [yb_v]
  | succ i ih =>
    intro j
    show (yb_v p i + _).testBit j = _
    have h1 := yb_vlt p i
    cases e : p i
    · rw [if_neg (by decide), Nat.add_zero, ih j]
      by_cases g : j = i
      · subst g; simp [e]
      · rw [show decide (j < i + 1) = decide (j < i) from decide_eq_decide.mpr (by omega)]
    · rw [if_pos rfl]
      have h2 := Nat.two_pow_add_eq_or_of_lt h1 1
      rw [Nat.mul_one] at h2
      rw [Nat.add_comm, h2, Nat.testBit_or, ih j, Nat.testBit_two_pow]
      by_cases g : j = i
      · subst g; simp [e]
      · rw [show decide (j < i + 1) = decide (j < i) from decide_eq_decide.mpr (by omega), decide_eq_false (show ¬ i = j by omega), Bool.false_or]
/-- letter c at a place of the list -/
def yb_p (s : Nat → Nat) (n c j : Nat) : Bool := decide (j < n ∧ s j = c)
def yb_bv (s : Nat → Nat) (n c b : Nat) : Nat := yb_v (fun i => yb_p s n c (b * 7 + i)) 7
theorem yb_blockBits {fn fk fr fd fs : Int32} {a1 a2 a3 a4 a5 a6 a7 a8 a9 a10 a11 a12 a13 a14 a15 a16 a17 a18 a19 a20 a21 a22 a23 a24 a25 a26 a27 : Nat → Int32} {post : Int32 → Prop} {s : Nat → Nat} {n c b : Nat} {x y : Int32} (hn : n ≤ 200) (hs : ys_let a1 s n) (hf : fn = nI n) (hc : c < 8) (hb : b < 30) (hx : x = nI c) (hy : y = nI b)
    (H : post (nI (yb_bv s n c b))) : wpX_blockBits post (fn, fk, fr, fd, fs, a1, a2, a3, a4, a5, a6, a7, a8, a9, a10, a11, a12, a13, a14, a15, a16, a17, a18, a19, a20, a21, a22, a23, a24, a25, a26, a27) x y := by
  subst hf hx hy
  have q := pk_loop (σ := Unit) (fun k i _ => wX_blockBits_5 post (nI c) (nI b) (nI n) fk fr fd fs a1 a2 a3 a4 a5 a6 a7 a8 a9 a10 a11 a12 a13 a14 a15 a16 a17 a18 a19 a20 a21 a22 a23 a24 a25 a26 a27 k (nI (yb_v (fun i => yb_p s n c (b * 7 + i)) i)) (nI i)) (fun _ _ => True) 7 0 () (by omega) trivial ?_ ?_
  · obtain ⟨k, hk⟩ := q
    exact ⟨k, hk⟩
  · intro k _ _
    exact pk_le 7 7 (fun _ => H) (fun z => absurd z (by omega))
  · intro k i _ hi _ hk
    have hk' : wX_blockBits_5 post (nI c) (nI b) (nI n) fk fr fd fs a1 a2 a3 a4 a5 a6 a7 a8 a9 a10 a11 a12 a13 a14 a15 a16 a17 a18 a19 a20 a21 a22 a23 a24 a25 a26 a27 k (nI (yb_v (fun i => yb_p s n c (b * 7 + i)) i + (if yb_p s n c (b * 7 + i) then 2 ^ i else 0))) (nI (i + 1)) := hk () trivial
    have hlt := yb_vlt (fun i => yb_p s n c (b * 7 + i)) i
    have e1 : (nI b * 7) + nI i = nI (b * 7 + i) := by
      show nI b * nI 7 + nI i = _
      rw [pk_mul, nI_add]
    have e0 : ∀ v : Nat, nI v ||| 0 = nI v := fun v => by
      show nI v ||| nI 0 = nI v
      rw [yi_orN, Nat.or_zero]
    refine pk_le 7 i (fun z => absurd z (by omega)) (fun _ => nm_r e1 ?_)
    refine pk_le n (b * 7 + i) (fun z => ?_) (fun z => ⟨pk_in (b * 7 + i) 200 (by omega), ?_⟩)
    · have : yb_p s n c (b * 7 + i) = false := decide_eq_false (by omega)
      rw [this] at hk'
      exact nm_r (e0 _) (nm_r (nI_1 i) hk')
    · obtain ⟨s1, s2⟩ := hs (b * 7 + i) z
      rw [nI_clamp (by omega), s1]
      refine pk_eq (s (b * 7 + i)) c (fun e => ?_) (fun e => ?_)
      · have : yb_p s n c (b * 7 + i) = true := decide_eq_true ⟨z, e⟩
        rw [this, if_pos rfl] at hk'
        refine nm_r ?_ (nm_r (nI_1 i) hk')
        rw [yi_pw _ (by omega), yi_orN]
        have h2 := Nat.two_pow_add_eq_or_of_lt hlt 1
        rw [Nat.mul_one] at h2
        rw [Nat.or_comm, ← h2, Nat.add_comm]
      · have : yb_p s n c (b * 7 + i) = false := decide_eq_false (fun z => e z.2)
        rw [this] at hk'
        exact nm_r (e0 _) (nm_r (nI_1 i) hk')
def yb_g15 (s : Nat → Nat) (n k : Nat) : Int32 := nI (yc_ct (yb_p s n (k / 31)) (7 * (k % 31)))
def yb_g13 (s : Nat → Nat) (n k : Nat) : Int32 := nI (yi_pop (yb_bv s n (k / 30) (k % 30)))
def yb_g14 (s : Nat → Nat) (n k : Nat) : Int32 := nI (yb_num (yb_bv s n (k / 30) (k % 30)) 7 (yi_pop (yb_bv s n (k / 30) (k % 30))))
def yb_ok (a13 a14 a15 : Nat → Int32) (s : Nat → Nat) (n : Nat) : Prop := (∀ k, k < 240 → a13 k = yb_g13 s n k ∧ a14 k = yb_g14 s n k) ∧ (∀ k, k < 248 → a15 k = yb_g15 s n k)
theorem yb_bv128 (s : Nat → Nat) (n c b : Nat) : yb_bv s n c b < 128 := yb_vlt _ 7
theorem yb_pct {s : Nat → Nat} {n c i : Nat} (hi : i ≤ n) : yc_ct (yb_p s n c) i = yc_r s c i := yc_congr (fun j hj => decide_eq_decide.mpr (by omega))
theorem yb_seg (s : Nat → Nat) (n c b k : Nat) (hk : k ≤ 7) {v : Nat} (hv : ∀ j, v.testBit j = (decide (j < k) && yb_p s n c (b * 7 + j))) : yc_ct (yb_p s n c) (7 * b + k) = yc_ct (yb_p s n c) (7 * b) + yi_pop v := by
  rw [yc_add, yi_popk (by omega) hv, Nat.mul_comm 7 b]
theorem yb_rank {fn fk fr fd fs : Int32} {a1 a2 a3 a4 a5 a6 a7 a8 a9 a10 a11 a12 a13 a14 a15 a16 a17 a18 a19 a20 a21 a22 a23 a24 a25 a26 a27 : Nat → Int32} {post : Int32 → Prop} {s : Nat → Nat} {n c i : Nat} {x y : Int32} (hn : n ≤ 200) (hC : yb_ch a16) (h : yb_ok a13 a14 a15 s n) (hc : c < 8) (hi : i ≤ n) (hx : x = nI c) (hy : y = nI i)
    (H : post (nI (yc_r s c i))) : wpX_rankInBlocks post (fn, fk, fr, fd, fs, a1, a2, a3, a4, a5, a6, a7, a8, a9, a10, a11, a12, a13, a14, a15, a16, a17, a18, a19, a20, a21, a22, a23, a24, a25, a26, a27) x y := by
  subst hx hy
  have e1 : nI i / 7 = nI (i / 7) := pk_div (d := 7) (by omega) (by omega) (by omega)
  have e2 : nI i - nI i / 7 * 7 = nI (i % 7) := pk_rem (d := 7) (by omega) (by omega) (by omega)
  have e3 : (nI c * 30) + nI (i / 7) = nI (c * 30 + i / 7) := by
    show nI c * nI 30 + _ = _
    rw [pk_mul, nI_add]
  have e4 : (nI c * 31) + nI (i / 7) = nI (c * 31 + i / 7) := by
    show nI c * nI 31 + _ = _
    rw [pk_mul, nI_add]
  obtain ⟨v1, v2⟩ := yb_inv _ (yb_bv128 s n c (i / 7))
  have p8 := yi_pop_le (yb_bv s n c (i / 7))
  refine ⟨by decide, nm_r e1 ⟨by decide, nm_r e2 ⟨pk_in _ 240 (by omega) e3, pk_in _ 240 (by omega) e3, ?_⟩⟩⟩
  rw [e3, nI_clamp (by omega), (h.1 _ (by omega)).1, (h.1 _ (by omega)).2]
  unfold yb_g13 yb_g14
  rw [show (c * 30 + i / 7) / 30 = c by omega, show (c * 30 + i / 7) % 30 = i / 7 by omega]
  refine yb_bitsOf hC _ _ (by omega) p8 rfl rfl ⟨pk_in _ 248 (by omega) e4, ?_⟩
  rw [v1, e4, nI_clamp (by omega), h.2 _ (by omega), yi_msk _ (by omega)]
  have pl : 2 ^ (i % 7) ≤ 2 ^ 7 := Nat.pow_le_pow_right (by omega) (by omega)
  have hb := yb_bv128 s n c (i / 7)
  have hml : yb_bv s n c (i / 7) % 2 ^ (i % 7) ≤ yb_bv s n c (i / 7) := Nat.mod_le _ _
  refine yi_ones (yb_bv s n c (i / 7) % 2 ^ (i % 7)) (pk_andN (by omega) _ (pk_tn (by omega))) (by omega) ?_
  unfold yb_g15
  rw [show (c * 31 + i / 7) / 31 = c by omega, show (c * 31 + i / 7) % 31 = i / 7 by omega, nI_add, ← yb_seg s n c (i / 7) (i % 7) (by omega), show 7 * (i / 7) + i % 7 = i by omega, yb_pct hi]
  · exact H
  · intro j
    rw [Nat.testBit_mod_two_pow]
    unfold yb_bv
    rw [yb_vt]
    by_cases g : j < i % 7
    · rw [decide_eq_true g, decide_eq_true (show j < 7 by omega), Bool.true_and]
    · rw [decide_eq_false g]; rfl
theorem yb_12 {fn fk fr fd fs : Int32} {a1 a2 a3 a4 a5 a6 a7 a8 a9 a10 a11 a12 a13 a14 a15 a16 a17 a18 a19 a20 a21 a22 a23 a24 a25 a26 a27 : Nat → Int32} {post : St2 → Prop} {J : Int32 → (Nat → Int32) → (Nat → Int32) → (Nat → Int32) → (Nat → Int32) → (Nat → Int32) → (Nat → Int32) → (Nat → Int32) → (Nat → Int32) → (Nat → Int32) → (Nat → Int32) → (Nat → Int32) → (Nat → Int32) → (Nat → Int32) → (Nat → Int32) → (Nat → Int32) → (Nat → Int32) → (Nat → Int32) → (Nat → Int32) → (Nat → Int32) → (Nat → Int32) → (Nat → Int32) → (Nat → Int32) → (Nat → Int32) → (Nat → Int32) → (Nat → Int32) → (Nat → Int32) → (Nat → Int32) →  Prop} {s : Nat → Nat} {n c : Nat} (hn : n ≤ 200) (hs : ys_let a1 s n) (hf : fn = nI n) (hC : yb_ch a16) (hc : c < 8)
    (h13 : ∀ k, k < c * 30 → a13 k = yb_g13 s n k ∧ a14 k = yb_g14 s n k) (h15 : ∀ k, k < c * 31 → a15 k = yb_g15 s n k)
    (H : ∀ b13 b14 b15, (∀ k, k < (c + 1) * 30 → b13 k = yb_g13 s n k ∧ b14 k = yb_g14 s n k) → (∀ k, k < (c + 1) * 31 → b15 k = yb_g15 s n k) → J (nI (c + 1)) a1 a2 a3 a4 a5 a6 a7 a8 a9 a10 a11 a12 b13 b14 b15 a16 a17 a18 a19 a20 a21 a22 a23 a24 a25 a26 a27) :
    ∃ k, wX_packBlocks_12 post J (nI c) fn fk fr fd fs k 0 0 a1 a2 a3 a4 a5 a6 a7 a8 a9 a10 a11 a12 a13 a14 a15 a16 a17 a18 a19 a20 a21 a22 a23 a24 a25 a26 a27 := by
  subst hf
  have e4 : ∀ b, (nI c * 31) + nI b = nI (c * 31 + b) := fun b => by
    show nI c * nI 31 + _ = _
    rw [pk_mul, nI_add]
  have e3 : ∀ b, (nI c * 30) + nI b = nI (c * 30 + b) := fun b => by
    show nI c * nI 30 + _ = _
    rw [pk_mul, nI_add]
  have hle : ∀ b, b ≤ 30 → yc_ct (yb_p s n c) (7 * b) ≤ 210 := fun b hb => by
    have := yc_le (yb_p s n c) (7 * b)
    omega
  have q := pk_loop (fun k b (u : (Nat → Int32) × (Nat → Int32) × (Nat → Int32)) => wX_packBlocks_12 post J (nI c) (nI n) fk fr fd fs k (nI (yc_ct (yb_p s n c) (7 * b))) (nI b) a1 a2 a3 a4 a5 a6 a7 a8 a9 a10 a11 a12 u.1 u.2.1 u.2.2 a16 a17 a18 a19 a20 a21 a22 a23 a24 a25 a26 a27)
    (fun b u => (∀ k, k < c * 30 + b → u.1 k = yb_g13 s n k ∧ u.2.1 k = yb_g14 s n k) ∧ (∀ k, k < c * 31 + b → u.2.2 k = yb_g15 s n k)) 30 0 (a13, a14, a15) (by omega) ⟨h13, h15⟩ ?_ ?_
  · obtain ⟨k, hk⟩ := q
    exact ⟨k, hk⟩
  · intro k u h
    have e5 : (nI c * 31) + 30 = nI (c * 31 + 30) := e4 30
    refine pk_le 30 30 (fun _ => ⟨pk_in _ 248 (by omega) e5, ?_⟩) (fun z => absurd z (by omega))
    have := hle 30 (by omega)
    rw [e5, nI_clamp (by omega), yi_n16 _ (by omega)]
    refine nm_e (nm_r (nI_1 c) (H _ _ _ (fun m hm => h.1 m (by omega)) (fun m hm => ?_)))
    by_cases e : m = c * 31 + 30
    · rw [e, pk_us]
      unfold yb_g15
      rw [show (c * 31 + 30) / 31 = c by omega, show (c * 31 + 30) % 31 = 30 by omega]
    · rw [pk_un e]
      exact h.2 m (by omega)
  · intro k b u hb h hk
    have hp := yi_pop_le (yb_bv s n c b)
    obtain ⟨v1, v2⟩ := yb_inv _ (yb_bv128 s n c b)
    have hl := hle b (by omega)
    refine pk_le 30 b (fun z => absurd z (by omega)) (fun _ => ?_)
    refine yb_blockBits hn hs rfl hc hb rfl rfl (yi_ones (yb_bv s n c b) rfl (by have := yb_bv128 s n c b; omega) ⟨pk_in _ 248 (by omega) (e4 b), ?_⟩)
    rw [e4, nI_clamp (by omega), yi_n16 _ (by omega)]
    refine nm_e ⟨pk_in _ 240 (by omega) (e3 b), ?_⟩
    rw [e3, nI_clamp (by omega), yi_n8 _ (by omega)]
    refine nm_e (yb_number hC _ _ (yb_bv128 s n c b) hp rfl rfl ⟨pk_in (c * 30 + b) 240 (by omega), ?_⟩)
    rw [yi_n8 _ v2]
    refine nm_e (nm_r (nI_add _ _) (nm_r (nI_1 b) ?_))
    have seg := yb_seg s n c b 7 (by omega) (v := yb_bv s n c b) (fun j => yb_vt _ 7 j)
    have k1 := hk (upd u.1 (c * 30 + b) (nI (yi_pop (yb_bv s n c b))), upd u.2.1 (c * 30 + b) (nI (yb_num (yb_bv s n c b) 7 (yi_pop (yb_bv s n c b)))), upd u.2.2 (c * 31 + b) (nI (yc_ct (yb_p s n c) (7 * b)))) ⟨fun m hm => ?_, fun m hm => ?_⟩
    · have k2 : wX_packBlocks_12 post J (nI c) (nI n) fk fr fd fs k (nI (yc_ct (yb_p s n c) (7 * (b + 1)))) (nI (b + 1)) a1 a2 a3 a4 a5 a6 a7 a8 a9 a10 a11 a12 (upd u.1 (c * 30 + b) (nI (yi_pop (yb_bv s n c b)))) (upd u.2.1 (c * 30 + b) (nI (yb_num (yb_bv s n c b) 7 (yi_pop (yb_bv s n c b))))) (upd u.2.2 (c * 31 + b) (nI (yc_ct (yb_p s n c) (7 * b)))) a16 a17 a18 a19 a20 a21 a22 a23 a24 a25 a26 a27 := k1
      rw [show 7 * (b + 1) = 7 * b + 7 by omega, seg] at k2
      exact k2
    · show upd u.1 _ _ m = _ ∧ upd u.2.1 _ _ m = _
      by_cases e : m = c * 30 + b
      · rw [e, pk_us, pk_us]
        unfold yb_g13 yb_g14
        rw [show (c * 30 + b) / 30 = c by omega, show (c * 30 + b) % 30 = b by omega]
        exact ⟨rfl, rfl⟩
      · rw [pk_un e, pk_un e]
        exact h.1 m (by omega)
    · show upd u.2.2 _ _ m = _
      by_cases e : m = c * 31 + b
      · rw [e, pk_us]
        unfold yb_g15
        rw [show (c * 31 + b) / 31 = c by omega, show (c * 31 + b) % 31 = b by omega]
      · rw [pk_un e]
        exact h.2 m (by omega)
theorem yb_pack {fn fk fr fd fs : Int32} {a1 a2 a3 a4 a5 a6 a7 a8 a9 a10 a11 a12 a13 a14 a15 a16 a17 a18 a19 a20 a21 a22 a23 a24 a25 a26 a27 : Nat → Int32} {post : St2 → Prop} {s : Nat → Nat} {n : Nat} (hn : n ≤ 200) (hs : ys_let a1 s n) (hf : fn = nI n) (hC : yb_ch a16)
    (H : ∀ b13 b14 b15, yb_ok b13 b14 b15 s n → post (nI n, fk, fr, fd, fs, a1, a2, a3, a4, a5, a6, a7, a8, a9, a10, a11, a12, b13, b14, b15, a16, a17, a18, a19, a20, a21, a22, a23, a24, a25, a26, a27)) : wpX_packBlocks post (fn, fk, fr, fd, fs, a1, a2, a3, a4, a5, a6, a7, a8, a9, a10, a11, a12, a13, a14, a15, a16, a17, a18, a19, a20, a21, a22, a23, a24, a25, a26, a27) := by
  subst hf
  have q := pk_loop (fun k c (u : (Nat → Int32) × (Nat → Int32) × (Nat → Int32)) => wX_packBlocks_2 post (nI n) fk fr fd fs k (nI c) a1 a2 a3 a4 a5 a6 a7 a8 a9 a10 a11 a12 u.1 u.2.1 u.2.2 a16 a17 a18 a19 a20 a21 a22 a23 a24 a25 a26 a27)
    (fun c u => (∀ k, k < c * 30 → u.1 k = yb_g13 s n k ∧ u.2.1 k = yb_g14 s n k) ∧ (∀ k, k < c * 31 → u.2.2 k = yb_g15 s n k)) 8 0 (a13, a14, a15) (by omega) ⟨fun k z => absurd z (by omega), fun k z => absurd z (by omega)⟩ ?_ ?_
  · obtain ⟨k, hk⟩ := q
    exact ⟨k, hk⟩
  · intro k u h
    exact pk_le 8 8 (fun _ => H _ _ _ ⟨fun k hk => h.1 k (by omega), fun k hk => h.2 k (by omega)⟩) (fun z => absurd z (by omega))
  · intro k c u hc h hk
    exact pk_le 8 c (fun z => absurd z (by omega)) (fun _ => yb_12 hn hs rfl hC hc h.1 h.2 (fun b13 b14 b15 g1 g2 => hk (b13, b14, b15) ⟨g1, g2⟩))
end
section
/-! engine 5: runs -/
def yn_b (s : Nat → Nat) (j : Nat) : Bool := decide (j = 0 ∨ s j ≠ s (j - 1))
def yn_R (s : Nat → Nat) (i : Nat) : Nat := yc_ct (yn_b s) i
theorem yn_Rle (s : Nat → Nat) (i : Nat) : yn_R s i ≤ i := yc_le _ _
theorem yn_Rmono {s : Nat → Nat} {i j : Nat} (h : i ≤ j) : yn_R s i ≤ yn_R s j := yc_mono h
theorem yn_Rlt {s : Nat → Nat} {i j : Nat} (h : i < j) (hb : yn_b s i = true) : yn_R s i < yn_R s j := yc_lt h hb
theorem yn_Rt {s : Nat → Nat} {i : Nat} (hb : yn_b s i = true) : yn_R s (i + 1) = yn_R s i + 1 := yc_t hb
theorem yn_Rf {s : Nat → Nat} {i : Nat} (hb : yn_b s i = false) : yn_R s (i + 1) = yn_R s i := yc_f hb
theorem yn_Rinj {s : Nat → Nat} {i j : Nat} (hi : yn_b s i = true) (hj : yn_b s j = true) (h : yn_R s i = yn_R s j) : i = j := yc_inj hi hj h
/-- no run begins behind j before e: the letter stays -/
theorem yn_const {s : Nat → Nat} {j e : Nat} (h : ∀ y, j < y → y < e → yn_b s y = false) (y : Nat) (h1 : j ≤ y) (h2 : y < e) : s y = s j := by
  induction y with
  | zero => rw [show j = 0 by omega]
  | succ y ih =>
    by_cases g : j = y + 1
    · rw [g]
    · have h3 := of_decide_eq_false (h (y + 1) (by omega) h2)
      have h4 := ih (by omega) (by omega)
      rw [← h4]
      rw [show y + 1 - 1 = y by omega] at h3
      apply Classical.byContradiction
      intro h5
      exact h3 (Or.inr h5)
/-- where the run of x begins -/
theorem yn_start (s : Nat → Nat) (x : Nat) : ∃ j, j ≤ x ∧ yn_b s j = true ∧ (∀ y, j < y → y < x + 1 → yn_b s y = false) ∧ s j = s x ∧ yn_R s (x + 1) = yn_R s j + 1 := by
  induction x with
  | zero =>
    have hb : yn_b s 0 = true := decide_eq_true (Or.inl rfl)
    exact ⟨0, Nat.le_refl 0, hb, fun y h1 h2 => absurd h2 (by omega), rfl, yn_Rt hb⟩
  | succ x ih =>
    cases e : yn_b s (x + 1)
    · obtain ⟨j, j1, j2, j3, j4, j5⟩ := ih
      refine ⟨j, by omega, j2, fun y h1 h2 => ?_, ?_, ?_⟩
      · by_cases g : y = x + 1
        · rw [g]; exact e
        · exact j3 y h1 (by omega)
      · have h3 := of_decide_eq_false e
        rw [show x + 1 - 1 = x by omega] at h3
        rw [j4]
        apply Classical.byContradiction
        intro h5
        exact h3 (Or.inr (fun z => h5 z.symm))
      · rw [yn_Rf e]; exact j5
    · exact ⟨x + 1, Nat.le_refl _, e, fun y h1 h2 => absurd h2 (by omega), rfl, yn_Rt e⟩
/-- between two neighbours no run begins -/
theorem yn_gap {s : Nat → Nat} {j e : Nat} (hj : yn_b s j = true) (h : yn_R s e ≤ yn_R s j + 1) (y : Nat) (h1 : j < y) (h2 : y < e) : yn_b s y = false := by
  cases g : yn_b s y
  · rfl
  · have g1 := yn_Rlt h2 g
    have g2 := yn_Rlt h1 hj
    omega
/-- inside a run the letter is counted at every place -/
theorem yn_in {s : Nat → Nat} {j e : Nat} (h : ∀ y, j < y → y < e → yn_b s y = false) (hje : j ≤ e) : yc_r s (s j) e = yc_r s (s j) j + (e - j) := yc_allt hje (fun y h1 h2 => decide_eq_true (yn_const h y h1 h2))
/-- no run of c begins in a stretch that begins with a run: c isn't counted there -/
theorem yn_none {s : Nat → Nat} {c e i : Nat} (hei : e ≤ i) (hb : yn_b s e = true) (h : ∀ y, e ≤ y → y < i → yn_b s y = true → s y ≠ c) : yc_r s c i = yc_r s c e := by
  refine yc_allf hei (fun x h1 h2 => decide_eq_false ?_)
  obtain ⟨j, j1, j2, j3, j4, _⟩ := yn_start s x
  have h3 : e ≤ j := by
    rcases Nat.lt_or_ge j e with g | g
    · have := j3 e g (by omega)
      rw [hb] at this
      exact absurd this (by decide)
    · exact g
  rw [← j4]
  exact h j h3 (by omega) j2
def yn_A (a17 a18 a19 : Nat → Int32) (s : Nat → Nat) (i : Nat) : Prop := ∀ x, x < i → yn_b s x = true → a17 (yn_R s x) = nI x ∧ a18 (yn_R s x) = nI (s x) ∧ a19 (yn_R s x) = nI (yc_r s (s x) x)
/-- j is the last run of c before i -/
def yn_last (s : Nat → Nat) (c i j : Nat) : Prop := j < i ∧ yn_b s j = true ∧ s j = c ∧ ∀ x, j < x → x < i → yn_b s x = true → s x ≠ c
def yn_C (a20 : Nat → Int32) (s : Nat → Nat) (i : Nat) : Prop := ∀ x, x < i → yn_b s x = true → 0 < yc_r s (s x) x → ∃ j, yn_last s (s x) x j ∧ a20 (yn_R s x) = nI (yn_R s j)
def yn_D (a21 : Nat → Int32) (s : Nat → Nat) (i : Nat) : Prop := ∀ c, c < 8 → (0 < yc_r s c i → ∃ j, yn_last s c i j ∧ a21 c = nI (yn_R s j)) ∧ (yc_r s c i = 0 → a21 c = -1)
def yn_ok (a17 a18 a19 a20 a21 : Nat → Int32) (s : Nat → Nat) (n : Nat) : Prop := yn_A a17 a18 a19 s n ∧ (0 < n → a17 (yn_R s n) = nI n) ∧ yn_C a20 s n ∧ yn_D a21 s n
theorem yn_before {fn fk fr fd fs : Int32} {a1 a2 a3 a4 a5 a6 a7 a8 a9 a10 a11 a12 a13 a14 a15 a16 a17 a18 a19 a20 a21 a22 a23 a24 a25 a26 a27 : Nat → Int32} {post : Int32 → Prop} {s : Nat → Nat} {n i : Nat} {x : Int32} (hn : n ≤ 200) (hr : fr = nI (yn_R s n)) (h : yn_A a17 a18 a19 s n) (hi : i ≤ n) (hx : x = nI i)
    (H : post (nI (yn_R s i) - 1)) : wpX_runBeforePlace post (fn, fk, fr, fd, fs, a1, a2, a3, a4, a5, a6, a7, a8, a9, a10, a11, a12, a13, a14, a15, a16, a17, a18, a19, a20, a21, a22, a23, a24, a25, a26, a27) x := by
  subst hr hx
  have hRn := yn_Rle s n
  have hRi := yn_Rmono (s := s) hi
  refine yc_half (fun m lo hj => wX_runBeforePlace_7 post (nI i) fn fk (nI (yn_R s n)) fd fs a1 a2 a3 a4 a5 a6 a7 a8 a9 a10 a11 a12 a13 a14 a15 a16 a17 a18 a19 a20 a21 a22 a23 a24 a25 a26 a27 m (nI lo) (nI hj)) (yn_R s i) (yn_R s n) hRi (fun m => pk_le _ _ (fun _ => H) (fun z => absurd z (by omega)) rfl rfl (by omega) (by omega)) ?_
  intro m lo hj h1 h2' h3 hlt hw
  refine pk_le hj lo (fun z => absurd z (by omega)) (fun _ => ⟨by decide, ?_⟩)
  have e1 : (nI lo + nI hj) / 2 = nI ((lo + hj) / 2) := by
    rw [nI_add]
    exact pk_div (d := 2) (by omega) (by omega) (by omega)
  refine nm_r e1 ?_
  have hm1 : lo ≤ (lo + hj) / 2 := by omega
  have hm2 : (lo + hj) / 2 < hj := by omega
  generalize (lo + hj) / 2 = md at *
  obtain ⟨q, q1, q2, q3⟩ := yc_find (show md < yc_ct (yn_b s) n from (by show md < yn_R s n; omega))
  have q4 : yn_R s q = md := q3
  refine ⟨pk_in md 201 (by omega), ?_⟩
  rw [nI_clamp (by omega), ← q4, (h q q1 q2).1]
  refine pk_le i q (fun z => ?_) (fun z => ?_)
  · have := yn_Rmono (s := s) z
    exact br_t rfl (br_t rfl (hw lo (yn_R s q) h1 (by omega) (by omega) (by omega) (by omega)))
  · have := yn_Rlt z q2
    refine br_f (by decide) (br_f (by decide) ?_)
    rw [nI_1]
    exact hw (yn_R s q + 1) hj (by omega) h2' (by omega) (by omega) (by omega)
theorem yn_m1 (m : Nat) : nI m + (-1) = nI m - 1 := by
  apply Int32.toBitVec_inj.1
  show (nI m).toBitVec + _ = (nI m).toBitVec - _
  rw [BitVec.sub_eq_add_neg]
  rfl
theorem yn_rank {fn fk fr fd fs : Int32} {a1 a2 a3 a4 a5 a6 a7 a8 a9 a10 a11 a12 a13 a14 a15 a16 a17 a18 a19 a20 a21 a22 a23 a24 a25 a26 a27 : Nat → Int32} {post : Int32 → Prop} {s : Nat → Nat} {n c i : Nat} {x y : Int32} (hn : n ≤ 200) (hs : ∀ j, j < n → s j < 8) (hr : fr = nI (yn_R s n)) (h : yn_ok a17 a18 a19 a20 a21 s n) (hc : c < 8) (hi : i ≤ n) (hx : x = nI c) (hy : y = nI i)
    (H : post (nI (yc_r s c i))) : wpX_rankInRuns post (fn, fk, fr, fd, fs, a1, a2, a3, a4, a5, a6, a7, a8, a9, a10, a11, a12, a13, a14, a15, a16, a17, a18, a19, a20, a21, a22, a23, a24, a25, a26, a27) x y := by
  subst hx hy
  obtain ⟨hA, hB, _, _⟩ := h
  have hRn := yn_Rle s n
  have hRi := yn_Rmono (s := s) hi
  refine yn_before hn hr hA hi rfl ?_
  have key : ∀ m, m ≤ yn_R s i → (∀ z, z < i → yn_b s z = true → m ≤ yn_R s z → s z ≠ c) → wX_rankInRuns_6 post (nI c) (nI i) fn fk fr fd fs a1 a2 a3 a4 a5 a6 a7 a8 a9 a10 a11 a12 a13 a14 a15 a16 a17 a18 a19 a20 a21 a22 a23 a24 a25 a26 a27 (m + 1) (nI m - 1) := by
    intro m
    induction m with
    | zero =>
      intro _ h0
      have z0 : yc_r s c i = 0 := by
        have hb : yn_b s 0 = true := decide_eq_true (Or.inl rfl)
        exact yn_none (Nat.zero_le i) hb (fun y _ h2 h3 => h0 y h2 h3 (Nat.zero_le _))
      rw [z0] at H
      exact br_t (by decide) (br_f (by decide) H)
    | succ m ih =>
      intro hm h0
      rw [nI_pred]
      obtain ⟨j, j1, j2, j3⟩ := yc_find (show m < yc_ct (yn_b s) i from hm)
      have j4 : yn_R s j = m := j3
      obtain ⟨A1, A2, A3⟩ := hA j (by omega) j2
      rw [j4] at A1 A2 A3
      have s8 := hs j (by omega)
      refine br_f (nI_pos (by omega)) ⟨pk_in m 200 (by omega), ?_⟩
      rw [nI_clamp (by omega), A2]
      refine pk_eq (s j) c (fun e => ?_) (fun e => nm_r (yn_m1 m) (ih (by omega) (fun z z1 z2 z3 => ?_)))
      · subst e
        have fin : ∀ v, v = nI (yc_r s (s j) i - yc_r s (s j) j + j) → wX_rankInRuns_56 post (nI m) v fn fk fr fd fs a1 a2 a3 a4 a5 a6 a7 a8 a9 a10 a11 a12 a13 a14 a15 a16 a17 a18 a19 a20 a21 a22 a23 a24 a25 a26 a27 := by
          intro v hv
          have hmn := yc_r_mono (s := s) (c := s j) (Nat.le_of_lt j1)
          have hrl := yc_r_le s (s j) i
          refine ⟨pk_in m 200 (by omega), pk_in m 201 (by omega), ?_⟩
          rw [nI_clamp (by omega), A1, A3, hv, nI_add, pk_sub (by omega), show yc_r s (s j) j + (yc_r s (s j) i - yc_r s (s j) j + j) - j = yc_r s (s j) i by omega]
          exact H
        have ex : ∃ e, j < e ∧ e ≤ n ∧ a17 (m + 1) = nI e ∧ yn_R s e ≤ m + 1 ∧ (e < i → yn_b s e = true) := by
          by_cases g : m + 1 < yn_R s n
          · obtain ⟨e, e1, e2, e3⟩ := yc_find (show m + 1 < yc_ct (yn_b s) n from g)
            have e4 : yn_R s e = m + 1 := e3
            refine ⟨e, ?_, by omega, ?_, by omega, fun _ => e2⟩
            · rcases Nat.lt_or_ge j e with w | w
              · exact w
              · have := yn_Rmono (s := s) w; omega
            · rw [← e4]; exact (hA e e1 e2).1
          · have g2 : yn_R s n = m + 1 := by omega
            exact ⟨n, by omega, Nat.le_refl n, by rw [← g2]; exact hB (by omega), by omega, fun z => absurd z (by omega)⟩
        obtain ⟨e, e1, e2, e3, e4, e5⟩ := ex
        have gap : ∀ y, j < y → y < e → yn_b s y = false := yn_gap j2 (by omega)
        refine br_t (nI_pos' (by omega)) ?_
        rw [nI_1]
        refine ⟨pk_in (m + 1) 201 (by omega), ?_⟩
        rw [nI_clamp (by omega), e3]
        refine pk_le i e (fun z => fin _ ?_) (fun z => ⟨pk_in (m + 1) 201 (by omega), fin _ ?_⟩)
        · have hin := yn_in (fun y h1 h2 => gap y h1 (show y < e by omega)) (Nat.le_of_lt j1)
          exact congrArg nI (by omega)
        · have hin := yn_in gap (Nat.le_of_lt e1)
          have hno := yn_none (c := s j) (Nat.le_of_lt z) (e5 z) (fun y y1 y2 y3 => h0 y y2 y3 (by
            have := yn_Rlt (show j < y by omega) j2
            omega))
          exact congrArg nI (by omega)
      · by_cases g : z = j
        · rw [g]; exact e
        · refine h0 z z1 z2 ?_
          rcases Nat.lt_or_ge m (yn_R s z) with w | w
          · exact w
          · exact absurd (yn_Rinj z2 j2 (by omega)) g
  refine ⟨_, key (yn_R s i) (Nat.le_refl _) (fun z z1 z2 z3 => ?_)⟩
  have := yn_Rlt z1 z2
  omega
theorem yn_at {fn fk fr fd fs : Int32} {a1 a2 a3 a4 a5 a6 a7 a8 a9 a10 a11 a12 a13 a14 a15 a16 a17 a18 a19 a20 a21 a22 a23 a24 a25 a26 a27 : Nat → Int32} {post : Int32 → Prop} {s : Nat → Nat} {n i : Nat} {x : Int32} (hn : n ≤ 200) (hr : fr = nI (yn_R s n)) (h : yn_ok a17 a18 a19 a20 a21 s n) (hi : i < n) (hx : x = nI i + 1)
    (H : post (nI (s i))) : wpX_runBeforePlace (fun r => vp_in r 200 ∧ post (a18 r.toNatClampNeg)) (fn, fk, fr, fd, fs, a1, a2, a3, a4, a5, a6, a7, a8, a9, a10, a11, a12, a13, a14, a15, a16, a17, a18, a19, a20, a21, a22, a23, a24, a25, a26, a27) x := by
  obtain ⟨hA, hB, _, _⟩ := h
  have hRn := yn_Rle s n
  obtain ⟨j, j1, j2, j3, j4, j5⟩ := yn_start s i
  have hlt := yn_Rlt (show j < n by omega) j2
  refine yn_before hn hr hA (show i + 1 ≤ n by omega) (by rw [hx, nI_1]) ?_
  rw [j5, nI_pred]
  refine ⟨pk_in (yn_R s j) 200 (by omega), ?_⟩
  rw [nI_clamp (by omega), (hA j (by omega) j2).2.1, j4]
  exact H
theorem yn_select {fn fk fr fd fs : Int32} {a1 a2 a3 a4 a5 a6 a7 a8 a9 a10 a11 a12 a13 a14 a15 a16 a17 a18 a19 a20 a21 a22 a23 a24 a25 a26 a27 : Nat → Int32} {post : Int32 → Prop} {s : Nat → Nat} {n q : Nat} {x y : Int32} (hn : n ≤ 200) (hs : ∀ j, j < n → s j < 8) (h : yn_ok a17 a18 a19 a20 a21 s n) (hq : q < n) (hx : x = nI (s q)) (hy : y = nI (yc_r s (s q) q))
    (H : post (nI q)) : wpX_selectInRuns post (fn, fk, fr, fd, fs, a1, a2, a3, a4, a5, a6, a7, a8, a9, a10, a11, a12, a13, a14, a15, a16, a17, a18, a19, a20, a21, a22, a23, a24, a25, a26, a27) x y := by
  subst hx hy
  have hc := hs q hq
  obtain ⟨hA, hB, hC, hD⟩ := h
  have hRn := yn_Rle s n
  obtain ⟨jq, p1, p2, p3, p4, p5⟩ := yn_start s q
  have key : ∀ f j, j < f → j < n → yn_b s j = true → s j = s q → jq ≤ j → wX_selectInRuns_7 post (nI (yc_r s (s q) q)) fn fk fr fd fs a1 a2 a3 a4 a5 a6 a7 a8 a9 a10 a11 a12 a13 a14 a15 a16 a17 a18 a19 a20 a21 a22 a23 a24 a25 a26 a27 f (nI (yn_R s j)) := by
    intro f
    induction f with
    | zero => intro j z; exact absurd z (by omega)
    | succ f ih =>
      intro j jf j1 j2 j3 j4
      obtain ⟨A1, A2, A3⟩ := hA j j1 j2
      have hlt := yn_Rlt j1 j2
      have rl := yc_r_le s (s q) q
      have rlj := yc_r_le s (s q) j
      rw [j3] at A3
      refine ⟨pk_in (yn_R s j) 200 (by omega), ?_⟩
      rw [nI_clamp (by omega), A3]
      refine pk_le (yc_r s (s q) j) (yc_r s (s q) q) (fun z => ⟨pk_in (yn_R s j) 201 (by omega), pk_in (yn_R s j) 200 (by omega), ?_⟩) (fun z => ⟨pk_in (yn_R s j) 200 (by omega), nm_e ?_⟩)
      · have g1 : j ≤ q := by
          rcases Nat.lt_or_ge q j with w | w
          · have := yc_r_lt w (rfl : s q = s q); omega
          · exact w
        have g2 : jq = j := by
          rcases Nat.lt_or_ge jq j with w | w
          · have := p3 j w (by omega)
            rw [j2] at this
            exact absurd this (by decide)
          · omega
        subst g2
        have g3 := yn_in (fun y h1 h2 => p3 y h1 (show y < q + 1 by omega)) g1
        rw [j3] at g3
        rw [A1, nI_add, pk_sub (by omega), show jq + yc_r s (s q) q - yc_r s (s q) jq = q by omega]
        exact H
      · have g1 : q < j := by
          rcases Nat.lt_or_ge q j with w | w
          · exact w
          · have := yc_r_mono (s := s) (c := s q) w; omega
        obtain ⟨i, ⟨i1, i2, i3, i4⟩, i5⟩ := hC j j1 j2 (by rw [j3]; omega)
        rw [i5]
        have g2 : jq ≤ i := by
          rcases Nat.lt_or_ge i jq with w | w
          · exact absurd (by rw [p4, j3]) (i4 jq w (by omega) p2)
          · exact w
        exact ih i (by omega) (by omega) i2 (by rw [i3, j3]) g2
  obtain ⟨j, ⟨j1, j2, j3, j4⟩, j5⟩ := (hD (s q) hc).1 (by have := yc_r_lt hq (rfl : s q = s q); omega)
  refine ⟨pk_in (s q) 8 hc, nm_r (e' := nI (yn_R s j)) (by rw [nI_clamp (by omega)]; exact j5) ⟨_, key (j + 1) j (Nat.lt_succ_self j) j1 j2 j3 ?_⟩⟩
  rcases Nat.lt_or_ge j jq with w | w
  · exact absurd p4 (j4 jq w (by omega) p2)
  · exact w
end
section
/-! packing the runs -/
theorem yn_lastx {s : Nat → Nat} {c i j : Nat} (h : yn_last s c i j) (hb : yn_b s i = true → s i ≠ c) : yn_last s c (i + 1) j := by
  obtain ⟨h1, h2, h3, h4⟩ := h
  refine ⟨by omega, h2, h3, fun x x1 x2 x3 => ?_⟩
  by_cases e : x = i
  · rw [e] at x3 ⊢
    exact hb x3
  · exact h4 x x1 (by omega) x3
def yn_inv (a17 a18 a19 a20 a21 : Nat → Int32) (s : Nat → Nat) (n i : Nat) : Prop := yn_A a17 a18 a19 s i ∧ (0 < i → a17 (yn_R s i) = nI n) ∧ yn_C a20 s i ∧ yn_D a21 s i
theorem yn_57 {fn fk fr fd fs : Int32} {a1 a2 a3 a4 a5 a6 a7 a8 a9 a10 a11 a12 a13 a14 a15 a16 a17 a18 a19 a20 a21 a22 a23 a24 a25 a26 a27 : Nat → Int32} {post : St2 → Prop} {J : Int32 → Int32 → (Nat → Int32) → (Nat → Int32) → (Nat → Int32) → (Nat → Int32) → (Nat → Int32) → (Nat → Int32) → (Nat → Int32) → (Nat → Int32) → (Nat → Int32) → (Nat → Int32) → (Nat → Int32) → (Nat → Int32) → (Nat → Int32) → (Nat → Int32) → (Nat → Int32) → (Nat → Int32) → (Nat → Int32) → (Nat → Int32) → (Nat → Int32) → (Nat → Int32) → (Nat → Int32) → (Nat → Int32) → (Nat → Int32) → (Nat → Int32) → (Nat → Int32) → (Nat → Int32) → (Nat → Int32) →  Prop} {s : Nat → Nat} {n i : Nat} {x : Int32} (hn : n ≤ 200) (hs : ys_let a1 s n) (hf : fn = nI n) (hr : fr = nI (yn_R s i)) (hi : i < n) (hx : x = nI i) (hb : yn_b s i = true)
    (h : yn_inv a17 a18 a19 a20 a21 s n i)
    (H : ∀ b17 b18 b19 b20 b21, yn_inv b17 b18 b19 b20 b21 s n (i + 1) → J (nI (i + 1)) (nI (yn_R s (i + 1))) a1 a2 a3 a4 a5 a6 a7 a8 a9 a10 a11 a12 a13 a14 a15 a16 b17 b18 b19 b20 b21 a22 a23 a24 a25 a26 a27) :
    wX_packRuns_57 post J x fn fk fr fd fs a1 a2 a3 a4 a5 a6 a7 a8 a9 a10 a11 a12 a13 a14 a15 a16 a17 a18 a19 a20 a21 a22 a23 a24 a25 a26 a27 := by
  subst hf hr hx
  obtain ⟨hA, hB, hC, hD⟩ := h
  obtain ⟨s1, s2⟩ := hs i hi
  have hRi := yn_Rle s i
  have hRs := yn_Rt hb
  have hRx : ∀ x, x < i → yn_b s x = true → yn_R s x < yn_R s i := fun x h1 h2 => yn_Rlt h1 h2
  -- what is left when the count before is known
  have fin : ∀ b20 z0, b20 = upd a20 (yn_R s i) ((a21 (s i)).toInt16.toInt32) → z0 = nI (yc_r s (s i) i) →
      wX_packRuns_142 post J (nI i) (nI (s i)) z0 (nI (yn_R s i)) (nI n) fk (nI (yn_R s i)) fd fs a1 a2 a3 a4 a5 a6 a7 a8 a9 a10 a11 a12 a13 a14 a15 a16 (upd a17 (yn_R s i) (nI i)) (upd a18 (yn_R s i) (nI (s i))) a19 b20 a21 a22 a23 a24 a25 a26 a27 := by
    intro b20 z0 hb20 hz0
    have hrl := yc_r_le s (s i) i
    subst hb20 hz0
    refine ⟨pk_in (yn_R s i) 200 (by omega), ?_⟩
    rw [nI_clamp (n := yn_R s i) (by omega), yi_n16 (yc_r s (s i) i) (by omega)]
    refine nm_e ⟨pk_in (s i) 8 s2, ?_⟩
    rw [nI_clamp (n := s i) (by omega), yi_n16 (yn_R s i) (by omega)]
    refine nm_e (nm_r (nI_1 _) ⟨pk_in (yn_R s i + 1) 201 (by omega), ?_⟩)
    rw [nI_clamp (n := yn_R s i + 1) (by omega), yi_n16 n (by omega)]
    refine nm_e (nm_r (nI_1 i) ?_)
    have k1 := H (upd (upd a17 (yn_R s i) (nI i)) (yn_R s i + 1) (nI n)) (upd a18 (yn_R s i) (nI (s i))) (upd a19 (yn_R s i) (nI (yc_r s (s i) i))) (upd a20 (yn_R s i) ((a21 (s i)).toInt16.toInt32)) (upd a21 (s i) (nI (yn_R s i))) ⟨?_, ?_, ?_, ?_⟩
    · rw [hRs] at k1
      exact k1
    · intro x x1 x2
      by_cases e : x = i
      · subst e
        rw [pk_un (by omega), pk_us, pk_us, pk_us]
        exact ⟨rfl, rfl, rfl⟩
      · have := hRx x (by omega) x2
        rw [pk_un (by omega), pk_un (by omega), pk_un (by omega), pk_un (by omega)]
        exact hA x (by omega) x2
    · intro _
      rw [hRs, pk_us]
    · intro x x1 x2 x3
      by_cases e : x = i
      · subst e
        obtain ⟨j, j1, j2⟩ := (hD (s x) s2).1 x3
        refine ⟨j, j1, ?_⟩
        have := hRx j j1.1 j1.2.1
        rw [pk_us, j2, yi_n16 _ (by omega)]
      · have := hRx x (by omega) x2
        rw [pk_un (by omega)]
        exact hC x (by omega) x2 x3
    · intro c hc
      by_cases e : c = s i
      · subst e
        refine ⟨fun _ => ⟨i, ⟨by omega, hb, rfl, fun x y1 y2 => absurd y2 (by omega)⟩, pk_us⟩, fun z => ?_⟩
        have := yc_r_t (rfl : s i = s i)
        omega
      · rw [yc_r_f (fun z => e z.symm), pk_un e]
        refine ⟨fun z => ?_, (hD c hc).2⟩
        obtain ⟨j, j1, j2⟩ := (hD c hc).1 z
        exact ⟨j, yn_lastx j1 (fun _ z => e z.symm), j2⟩
  refine ⟨pk_in i 200 (by omega), nm_r (e' := nI (s i)) (by rw [nI_clamp (by omega)]; exact s1) ⟨pk_in (s i) 8 s2, nm_r (e' := a21 (s i)) (by rw [nI_clamp (by omega)]) ⟨pk_in (yn_R s i) 201 (by omega), ?_⟩⟩⟩
  rw [nI_clamp (n := yn_R s i) (by omega), yi_n16 i (by omega)]
  refine nm_e ⟨pk_in (yn_R s i) 200 (by omega), ?_⟩
  rw [yi_n8 (s i) (by omega)]
  refine nm_e ⟨pk_in (yn_R s i) 200 (by omega), nm_e ?_⟩
  by_cases g : 0 < yc_r s (s i) i
  · obtain ⟨j, ⟨j1, j2, j3, j4⟩, j5⟩ := (hD (s i) s2).1 g
    have hRj := hRx j j1 j2
    obtain ⟨A1, A2, A3⟩ := hA j j1 j2
    rw [j5] at fin ⊢
    obtain ⟨e, e1, e2, e3⟩ := yc_find (show yn_R s j + 1 < yc_ct (yn_b s) (i + 1) from (by show yn_R s j + 1 < yn_R s (i + 1); omega))
    have e4 : yn_R s e = yn_R s j + 1 := e3
    have e5 : j < e := by
      rcases Nat.lt_or_ge j e with w | w
      · exact w
      · have := yn_Rmono (s := s) w; omega
    have gap : ∀ y, j < y → y < e → yn_b s y = false := yn_gap j2 (by omega)
    have hin := yn_in gap (Nat.le_of_lt e5)
    have hno := yn_none (c := s j) (show e ≤ i by omega) e2 (fun y y1 y2 y3 => by rw [j3]; exact j4 y (by omega) y2 y3)
    have h17 : upd a17 (yn_R s i) (nI i) (yn_R s j + 1) = nI e := by
      rw [← e4]
      by_cases w : e = i
      · subst w; rw [pk_us]
      · have := hRx e (by omega) e2
        rw [pk_un (by omega)]
        exact (hA e (by omega) e2).1
    have hrl := yc_r_le s (s j) i
    refine br_t (nI_pos' (by omega)) ⟨pk_in (yn_R s j) 200 (by omega), ?_⟩
    rw [nI_1]
    refine ⟨pk_in (yn_R s j + 1) 201 (by omega), pk_in (yn_R s j) 201 (by omega), fin _ _ rfl ?_⟩
    rw [nI_clamp (n := yn_R s j) (by omega), nI_clamp (n := yn_R s j + 1) (by omega), A3, h17, pk_un (by omega), A1, nI_add, pk_sub (by omega), ← j3]
    exact congrArg nI (by omega)
  · have g0 : yc_r s (s i) i = 0 := by omega
    have g1 := (hD (s i) s2).2 g0
    refine br_f (by rw [g1]; decide) (fin _ _ rfl ?_)
    rw [g0]; rfl
theorem yn_28 {fn fk fr fd fs : Int32} {a1 a2 a3 a4 a5 a6 a7 a8 a9 a10 a11 a12 a13 a14 a15 a16 a17 a18 a19 a20 a21 a22 a23 a24 a25 a26 a27 : Nat → Int32} {post : St2 → Prop} {s : Nat → Nat} {n : Nat} (hn : n ≤ 200) (hs : ys_let a1 s n) (hf : fn = nI n) (h : ∀ c, c < 8 → a21 c = -1)
    (H : ∀ b17 b18 b19 b20 b21, yn_ok b17 b18 b19 b20 b21 s n → post (nI n, fk, nI (yn_R s n), fd, fs, a1, a2, a3, a4, a5, a6, a7, a8, a9, a10, a11, a12, a13, a14, a15, a16, b17, b18, b19, b20, b21, a22, a23, a24, a25, a26, a27)) :
    ∃ k, wX_packRuns_28 post fn fk fd fs k 0 0 a1 a2 a3 a4 a5 a6 a7 a8 a9 a10 a11 a12 a13 a14 a15 a16 a17 a18 a19 a20 a21 a22 a23 a24 a25 a26 a27 := by
  subst hf
  have q := pk_loop (fun k i (u : (Nat → Int32) × (Nat → Int32) × (Nat → Int32) × (Nat → Int32) × (Nat → Int32)) => wX_packRuns_28 post (nI n) fk fd fs k (nI i) (nI (yn_R s i)) a1 a2 a3 a4 a5 a6 a7 a8 a9 a10 a11 a12 a13 a14 a15 a16 u.1 u.2.1 u.2.2.1 u.2.2.2.1 u.2.2.2.2 a22 a23 a24 a25 a26 a27)
    (fun i u => yn_inv u.1 u.2.1 u.2.2.1 u.2.2.2.1 u.2.2.2.2 s n i) n 0 (a17, a18, a19, a20, a21) (by omega)
    ⟨fun x z => absurd z (by omega), fun z => absurd z (by omega), fun x z => absurd z (by omega), fun c hc => ⟨fun z => absurd z (by rw [show yc_r s c 0 = 0 from rfl]; omega), fun _ => h c hc⟩⟩ ?_ ?_
  · obtain ⟨k, hk⟩ := q
    exact ⟨k, hk⟩
  · intro k u hu
    exact pk_le n n (fun _ => H _ _ _ _ _ hu) (fun z => absurd z (by omega))
  · intro k i u hi hu hk
    have step : yn_b s i = true → wX_packRuns_57 post (wX_packRuns_28 post (nI n) fk fd fs k) (nI i) (nI n) fk (nI (yn_R s i)) fd fs a1 a2 a3 a4 a5 a6 a7 a8 a9 a10 a11 a12 a13 a14 a15 a16 u.1 u.2.1 u.2.2.1 u.2.2.2.1 u.2.2.2.2 a22 a23 a24 a25 a26 a27 := fun hb =>
      yn_57 hn hs rfl rfl hi rfl hb hu (fun b17 b18 b19 b20 b21 hv => hk (b17, b18, b19, b20, b21) hv)
    refine pk_le n i (fun z => absurd z (by omega)) (fun _ => pk_eq i 0 (fun z => step (decide_eq_true (Or.inl z))) (fun z => ⟨pk_in i 200 (by omega), ?_⟩))
    have e1 : nI i - 1 = nI (i - 1) := pk_sub (b := 1) (by omega)
    obtain ⟨s1, s2⟩ := hs i hi
    obtain ⟨s3, s4⟩ := hs (i - 1) (by omega)
    rw [e1]
    refine ⟨pk_in (i - 1) 200 (by omega), ?_⟩
    rw [nI_clamp (by omega), nI_clamp (by omega), s1, s3]
    refine pk_eq (s i) (s (i - 1)) (fun e => nm_r (nI_1 i) ?_) (fun e => step (decide_eq_true (Or.inr e)))
    have hb : yn_b s i = false := decide_eq_false (fun w => w.elim z (fun w => w e))
    have hv := hk u ?_
    · rw [yn_Rf hb] at hv
      exact hv
    · obtain ⟨hA, hB, hC, hD⟩ := hu
      refine ⟨fun x x1 x2 => ?_, fun _ => ?_, fun x x1 x2 x3 => ?_, fun c hc => ?_⟩
      · by_cases w : x = i
        · rw [w, hb] at x2; exact absurd x2 (by decide)
        · exact hA x (by omega) x2
      · rw [yn_Rf hb]; exact hB (by omega)
      · by_cases w : x = i
        · rw [w, hb] at x2; exact absurd x2 (by decide)
        · exact hC x (by omega) x2 x3
      · have hnb : yn_b s i = true → s i ≠ c := fun w => absurd w (by rw [hb]; decide)
        by_cases w : s i = c
        · have pos : 0 < yc_r s c i := by
            have := yc_r_lt (show i - 1 < i by omega) (show s (i - 1) = c by rw [← e]; exact w)
            omega
          have := yc_r_t w
          refine ⟨fun _ => ?_, fun z => absurd z (by omega)⟩
          obtain ⟨j, j1, j2⟩ := (hD c hc).1 pos
          exact ⟨j, yn_lastx j1 hnb, j2⟩
        · rw [yc_r_f w]
          refine ⟨fun z => ?_, (hD c hc).2⟩
          obtain ⟨j, j1, j2⟩ := (hD c hc).1 z
          exact ⟨j, yn_lastx j1 hnb, j2⟩
theorem yn_pack {fn fk fr fd fs : Int32} {a1 a2 a3 a4 a5 a6 a7 a8 a9 a10 a11 a12 a13 a14 a15 a16 a17 a18 a19 a20 a21 a22 a23 a24 a25 a26 a27 : Nat → Int32} {post : St2 → Prop} {s : Nat → Nat} {n : Nat} (hn : n ≤ 200) (hs : ys_let a1 s n) (hf : fn = nI n)
    (H : ∀ b17 b18 b19 b20 b21, yn_ok b17 b18 b19 b20 b21 s n → post (nI n, fk, nI (yn_R s n), fd, fs, a1, a2, a3, a4, a5, a6, a7, a8, a9, a10, a11, a12, a13, a14, a15, a16, b17, b18, b19, b20, b21, a22, a23, a24, a25, a26, a27)) :
    wpX_packRuns post (fn, fk, fr, fd, fs, a1, a2, a3, a4, a5, a6, a7, a8, a9, a10, a11, a12, a13, a14, a15, a16, a17, a18, a19, a20, a21, a22, a23, a24, a25, a26, a27) := by
  subst hf
  have q := pk_loop (fun k c (b : Nat → Int32) => wX_packRuns_7 post (nI n) fk 0 fd fs k (nI c) a1 a2 a3 a4 a5 a6 a7 a8 a9 a10 a11 a12 a13 a14 a15 a16 a17 a18 a19 a20 b a22 a23 a24 a25 a26 a27) (fun c b => ∀ j, j < c → b j = -1) 8 0 a21 (by omega) (fun x z => absurd z (by omega)) ?_ ?_
  · obtain ⟨k, hk⟩ := q
    exact ⟨k, hk⟩
  · intro k b h
    exact pk_le 8 8 (fun _ => yn_28 (fr := fr) hn hs rfl h H) (fun z => absurd z (by omega))
  · intro k i b hi h hk
    refine pk_le 8 i (fun z => absurd z (by omega)) (fun _ => ⟨pk_in i 8 hi, nm_e (nm_r (nI_1 i) (hk _ ?_))⟩)
    intro j hj
    rw [nI_clamp (by omega)]
    by_cases e : j = i
    · rw [e, pk_us]
    · rw [pk_un e]
      exact h j (by omega)
end
section
/-! engine 6: a tree of codes. N nodes; L, R: children (letters below 8, node x is 8 + x); ln, bt: length and bits of a code -/
def yh_ch (L R : Nat → Nat) (x b : Nat) : Nat := if b = 1 then R x else L x
/-- the tree: children stand before their node, every one has one parent at most; letters that occur have one, and all nodes but the last -/
def yh_tree (N : Nat) (L R : Nat → Nat) (cn : Nat → Nat) : Prop :=
  N ≤ 7 ∧ (∀ x b, x < N → b < 2 → yh_ch L R x b < 8 + x) ∧
  (∀ x b x' b', x < N → b < 2 → x' < N → b' < 2 → yh_ch L R x b = yh_ch L R x' b' → x = x' ∧ b = b') ∧
  (0 < N → ∀ c, c < 8 → 0 < cn c → ∃ x b, x < N ∧ b < 2 ∧ yh_ch L R x b = c) ∧
  (∀ y, y + 1 < N → ∃ x b, x < N ∧ b < 2 ∧ yh_ch L R x b = 8 + y) ∧
  (N = 0 → ∀ c c', c < 8 → c' < 8 → 0 < cn c → 0 < cn c' → c = c')
/-- the codes -/
def yh_code (N : Nat) (L R ln bt : Nat → Nat) : Prop :=
  (∀ z, z < 16 → ln z ≤ 7 ∧ bt z < 2 ^ ln z) ∧ (0 < N → ln (7 + N) = 0) ∧
  (∀ x b, x < N → b < 2 → ln (yh_ch L R x b) = ln (8 + x) + 1 ∧ bt (yh_ch L R x b) = bt (8 + x) + b * 2 ^ ln (8 + x)) ∧
  (N = 0 → ∀ c, c < 8 → ln c = 0)
/-- bit d of a number -/
def yh_bd (v d : Nat) : Nat := v / 2 ^ d % 2
theorem yh_bd2 (v d : Nat) : yh_bd v d < 2 := Nat.mod_lt _ (by omega)
theorem yh_split (v d : Nat) : v % 2 ^ (d + 1) = v % 2 ^ d + yh_bd v d * 2 ^ d := by
  unfold yh_bd
  rw [Nat.pow_succ, Nat.mod_mul, Nat.mul_comm (2 ^ d)]
theorem yh_uniq2 {p q b b' d : Nat} (hp : p < 2 ^ d) (hq : q < 2 ^ d) (hb : b < 2) (hb' : b' < 2) (h : p + b * 2 ^ d = q + b' * 2 ^ d) : p = q ∧ b = b' := by
  have e1 : b = 0 ∨ b = 1 := by omega
  have e2 : b' = 0 ∨ b' = 1 := by omega
  rcases e1 with e1 | e1 <;> rcases e2 with e2 | e2 <;> subst e1 <;> subst e2 <;> constructor <;> omega
/-- a place of the tree that has a code: the top, or a child -/
def yh_named (N : Nat) (L R : Nat → Nat) (z : Nat) : Prop := z = 7 + N ∨ ∃ x b, x < N ∧ b < 2 ∧ yh_ch L R x b = z
theorem yh_z16 {N : Nat} {L R cn : Nat → Nat} (hT : yh_tree N L R cn) {x b : Nat} (hx : x < N) (hb : b < 2) : yh_ch L R x b < 16 := by
  have := hT.2.1 x b hx hb
  have := hT.1
  omega
theorem yh_node {N : Nat} {L R cn : Nat → Nat} (hT : yh_tree N L R cn) {x : Nat} (hx : x < N) : yh_named N L R (8 + x) := by
  by_cases e : x + 1 < N
  · exact Or.inr (hT.2.2.2.2.1 x e)
  · exact Or.inl (by omega)
theorem yh_uniq {N : Nat} {L R cn ln bt : Nat → Nat} (hT : yh_tree N L R cn) (hK : yh_code N L R ln bt) : ∀ d z z', yh_named N L R z → yh_named N L R z' → 0 < N → ln z = d → ln z' = d → bt z = bt z' → z = z' := by
  intro d
  induction d with
  | zero =>
    intro z z' hz hz' hN e1 e2 e3
    rcases hz with hz | ⟨x, b, h1, h2, h3⟩
    · rcases hz' with hz' | ⟨x', b', h1', h2', h3'⟩
      · omega
      · have := (hK.2.2.1 x' b' h1' h2').1
        rw [h3'] at this; omega
    · have := (hK.2.2.1 x b h1 h2).1
      rw [h3] at this; omega
  | succ d ih =>
    intro z z' hz hz' hN e1 e2 e3
    have top := hK.2.1 hN
    rcases hz with hz | ⟨x, b, h1, h2, h3⟩
    · rw [hz] at e1; omega
    · rcases hz' with hz' | ⟨x', b', h1', h2', h3'⟩
      · rw [hz'] at e2; omega
      · obtain ⟨k1, k2⟩ := hK.2.2.1 x b h1 h2
        obtain ⟨k1', k2'⟩ := hK.2.2.1 x' b' h1' h2'
        rw [h3] at k1 k2
        rw [h3'] at k1' k2'
        have l1 : ln (8 + x) = d := by omega
        have l2 : ln (8 + x') = d := by omega
        have hN7 := hT.1
        have q1 := (hK.1 (8 + x) (by omega)).2
        have q2 := (hK.1 (8 + x') (by omega)).2
        rw [l1] at k2 q1
        rw [l2] at k2' q2
        obtain ⟨u1, u2⟩ := yh_uniq2 q1 q2 h2 h2' (by omega)
        have := ih (8 + x) (8 + x') (yh_node hT h1) (yh_node hT h1') hN l1 l2 u1
        have ex : x = x' := by omega
        rw [← h3, ← h3', ex, u2]
/-- below a node of its code a name goes to the side of its next bit -/
theorem yh_anc {N : Nat} {L R cn ln bt : Nat → Nat} (hT : yh_tree N L R cn) (hK : yh_code N L R ln bt) : ∀ d e x, yh_named N L R e → e < 16 → x < N → ln e = d → ln (8 + x) < d → bt e % 2 ^ ln (8 + x) = bt (8 + x) →
    (yh_ch L R x (yh_bd (bt e) (ln (8 + x))) = e ∧ d = ln (8 + x) + 1) ∨ (∃ y, y < N ∧ yh_ch L R x (yh_bd (bt e) (ln (8 + x))) = 8 + y ∧ ln (8 + x) + 1 < d) := by
  intro d
  induction d with
  | zero => intro e x _ _ _ _ h; exact absurd h (by omega)
  | succ d ih =>
    intro e x he he16 hx h1 h2 h3
    have hN : 0 < N := by omega
    have hN7 := hT.1
    rcases he with he | ⟨p, b, p1, p2, p3⟩
    · have := hK.2.1 hN
      rw [he] at h1; omega
    · obtain ⟨k1, k2⟩ := hK.2.2.1 p b p1 p2
      rw [p3] at k1 k2
      have lp : ln (8 + p) = d := by omega
      have qp := (hK.1 (8 + p) (by omega)).2
      rw [lp] at k2 qp
      have hmod : bt e % 2 ^ d = bt (8 + p) := by
        rw [k2, Nat.add_mul_mod_self_right, Nat.mod_eq_of_lt qp]
      have hbd : yh_bd (bt e) d = b := by
        unfold yh_bd
        rw [k2, Nat.add_mul_div_right _ _ (Nat.two_pow_pos d), Nat.div_eq_of_lt qp, Nat.zero_add, Nat.mod_eq_of_lt p2]
      by_cases c : ln (8 + x) = d
      · rw [c, hmod] at h3
        have := yh_uniq hT hK d (8 + p) (8 + x) (yh_node hT p1) (yh_node hT hx) hN lp c h3
        have ex : p = x := by omega
        left
        rw [c, hbd, ← ex]
        exact ⟨p3, rfl⟩
      · have hlt : ln (8 + x) < d := by omega
        have hmod2 : bt (8 + p) % 2 ^ ln (8 + x) = bt (8 + x) := by
          rw [← hmod, Nat.mod_mod_of_dvd _ (Nat.pow_dvd_pow 2 (Nat.le_of_lt hlt))]
          exact h3
        have hbd2 : yh_bd (bt (8 + p)) (ln (8 + x)) = yh_bd (bt e) (ln (8 + x)) := by
          have s1 := yh_split (bt (8 + p)) (ln (8 + x))
          have s2 := yh_split (bt e) (ln (8 + x))
          have s3 : bt (8 + p) % 2 ^ (ln (8 + x) + 1) = bt e % 2 ^ (ln (8 + x) + 1) := by
            rw [← hmod, Nat.mod_mod_of_dvd _ (Nat.pow_dvd_pow 2 hlt)]
          have m1 := Nat.mod_lt (bt (8 + p)) (Nat.two_pow_pos (ln (8 + x)))
          have m2 := Nat.mod_lt (bt e) (Nat.two_pow_pos (ln (8 + x)))
          exact (yh_uniq2 m1 m2 (yh_bd2 _ _) (yh_bd2 _ _) (by omega)).2
        have r := ih (8 + p) x (yh_node hT p1) (by omega) hx lp hlt hmod2
        rw [hbd2] at r
        rcases r with ⟨r1, r2⟩ | ⟨y, r1, r2, r3⟩
        · exact Or.inr ⟨p, p1, r1, by omega⟩
        · exact Or.inr ⟨y, r1, r2, by omega⟩
/-- letter a stands below node x -/
def yh_un (ln bt : Nat → Nat) (x a : Nat) : Bool := decide (ln (8 + x) < ln a ∧ bt a % 2 ^ ln (8 + x) = bt (8 + x))
def yh_on (ln bt : Nat → Nat) (x a : Nat) : Bool := decide (yh_bd (bt a) (ln (8 + x)) = 1)
/-- a child that is a node: what stands below it -/
theorem yh_sub {N : Nat} {L R cn ln bt : Nat → Nat} (hT : yh_tree N L R cn) (hK : yh_code N L R ln bt) {x y a b : Nat} (hx : x < N) (hb : b < 2) (hy : yh_ch L R x b = 8 + y) (ha : a < 8) (hc : 0 < cn a) :
    yh_un ln bt y a = (yh_un ln bt x a && decide (yh_bd (bt a) (ln (8 + x)) = b)) := by
  have hN : 0 < N := by omega
  obtain ⟨k1, k2⟩ := hK.2.2.1 x b hx hb
  have hN7 := hT.1
  have qx := (hK.1 (8 + x) (by omega)).2
  rw [hy] at k1 k2
  have s1 := yh_split (bt a) (ln (8 + x))
  have m1 := Nat.mod_lt (bt a) (Nat.two_pow_pos (ln (8 + x)))
  unfold yh_un
  rw [Bool.eq_iff_iff]
  simp only [decide_eq_true_eq, Bool.and_eq_true]
  rw [k1, k2]
  constructor
  · rintro ⟨h1, h2⟩
    obtain ⟨u1, u2⟩ := yh_uniq2 m1 qx (yh_bd2 (bt a) (ln (8 + x))) hb (by rw [← s1]; exact h2)
    exact ⟨⟨by omega, u1⟩, u2⟩
  · rintro ⟨⟨h1, h2⟩, h3⟩
    refine ⟨?_, by rw [s1, h2, h3]⟩
    have r := yh_anc hT hK (ln a) a x (Or.inr (hT.2.2.2.1 hN a ha hc)) (by omega) hx rfl h1 h2
    rw [h3, hy] at r
    rcases r with ⟨r1, _⟩ | ⟨_, _, _, r3⟩
    · omega
    · exact r3
/-- a child that is a letter: it stands there alone -/
theorem yh_leaf {N : Nat} {L R cn ln bt : Nat → Nat} (hT : yh_tree N L R cn) (hK : yh_code N L R ln bt) {x c a b : Nat} (hx : x < N) (hb : b < 2) (hy : yh_ch L R x b = c) (hc8 : c < 8) (ha : a < 8) (hc : 0 < cn a) :
    decide (a = c) = (yh_un ln bt x a && decide (yh_bd (bt a) (ln (8 + x)) = b)) := by
  have hN : 0 < N := by omega
  obtain ⟨k1, k2⟩ := hK.2.2.1 x b hx hb
  have hN7 := hT.1
  have qx := (hK.1 (8 + x) (by omega)).2
  rw [hy] at k1 k2
  unfold yh_un
  rw [Bool.eq_iff_iff]
  simp only [decide_eq_true_eq, Bool.and_eq_true]
  constructor
  · intro e
    subst e
    have h3 : yh_bd (bt a) (ln (8 + x)) = b := by
      unfold yh_bd
      rw [k2, Nat.add_mul_div_right _ _ (Nat.two_pow_pos _), Nat.div_eq_of_lt qx, Nat.zero_add, Nat.mod_eq_of_lt hb]
    refine ⟨⟨by omega, ?_⟩, h3⟩
    rw [k2, Nat.add_mul_mod_self_right, Nat.mod_eq_of_lt qx]
  · rintro ⟨⟨h1, h2⟩, h3⟩
    have r := yh_anc hT hK (ln a) a x (Or.inr (hT.2.2.2.1 hN a ha hc)) (by omega) hx rfl h1 h2
    rw [h3, hy] at r
    rcases r with ⟨r1, _⟩ | ⟨y, _, r2, _⟩
    · exact r1.symm
    · omega
/-- all letters stand below the top -/
theorem yh_topu {N : Nat} {L R cn ln bt : Nat → Nat} (hT : yh_tree N L R cn) (hK : yh_code N L R ln bt) {a : Nat} (hN : 0 < N) (ha : a < 8) (hc : 0 < cn a) : yh_un ln bt (N - 1) a = true := by
  have top := hK.2.1 hN
  have hN7 := hT.1
  have q := (hK.1 (7 + N) (by omega)).2
  rw [top] at q
  obtain ⟨x, b, h1, h2, h3⟩ := hT.2.2.2.1 hN a ha hc
  have k1 := (hK.2.2.1 x b h1 h2).1
  rw [h3] at k1
  unfold yh_un
  rw [show 8 + (N - 1) = 7 + N by omega, top]
  refine decide_eq_true ⟨by omega, ?_⟩
  have : bt (7 + N) = 0 := by
    have : (2 : Nat) ^ 0 = 1 := rfl
    omega
  rw [this, Nat.pow_zero, Nat.mod_one]
/-- the rows of the nodes -/
def yh_row (a5 : Nat → Int32) (ln bt s : Nat → Nat) (n N : Nat) : Prop := ∀ x, x < N → ∀ j, j < n → yh_un ln bt x (s j) = true → yr_row a5 (14 + x) (yc_ct (fun i => yh_un ln bt x (s i)) j) = yh_on ln bt x (s j)
theorem yh_ct {a5 : Nat → Int32} {ln bt s : Nat → Nat} {n N : Nat} (h : yh_row a5 ln bt s n N) {x : Nat} (hx : x < N) (i : Nat) (hi : i ≤ n) : yc_ct (yr_row a5 (14 + x)) (yc_ct (fun i => yh_un ln bt x (s i)) i) = yc_ct (fun i => yh_un ln bt x (s i) && yh_on ln bt x (s i)) i := by
  induction i with
  | zero => rfl
  | succ i ih =>
    have ih' := ih (by omega)
    cases e : yh_un ln bt x (s i)
    · rw [yc_f (p := fun i => yh_un ln bt x (s i)) e, ih', yc_f (p := fun i => yh_un ln bt x (s i) && yh_on ln bt x (s i)) (by show (yh_un ln bt x (s i) && _) = false; rw [e]; rfl)]
    · have h1 := h x hx i (by omega) e
      rw [yc_t (p := fun i => yh_un ln bt x (s i)) e, yc_s, h1, ih', yc_s (fun i => yh_un ln bt x (s i) && yh_on ln bt x (s i))]
      show _ = _ + (if (yh_un ln bt x (s i) && yh_on ln bt x (s i)) then 1 else 0)
      rw [e, Bool.true_and]
/-- all that engine 6 needs -/
def yh_ok (fd : Int32) (a5 a22 a23 a26 a27 : Nat → Int32) (s : Nat → Nat) (n N : Nat) (L R ln bt : Nat → Nat) : Prop :=
  fd = nI N ∧ yh_tree N L R (fun c => yc_r s c n) ∧ yh_code N L R ln bt ∧ yh_row a5 ln bt s n N ∧
  (∀ x, x < N → a22 x = nI (L x) ∧ a23 x = nI (R x)) ∧ (∀ z, z < 16 → a26 z = nI (ln z) ∧ a27 z = nI (bt z))
theorem yh_14 (x : Nat) : (14 : Int32) + nI x = nI (14 + x) := nI_add 14 x
theorem yh_bitI {v d : Nat} (hv : v < 128) (hd : d < 32) : ((nI v >>> (nI d &&& 31)) &&& 1) = nI (yh_bd v d) := by
  rw [yi_shrk (by omega) hd, yi_1 (by have := Nat.div_le_self v (2 ^ d); omega)]
  rfl
theorem yh_pos {s : Nat → Nat} {n j : Nat} (hj : j < n) : 0 < yc_r s (s j) n := by
  have := yc_r_lt hj (rfl : s j = s j)
  omega
/-- one step down -/
theorem yh_down {a5 : Nat → Int32} {s : Nat → Nat} {n N : Nat} {L R ln bt : Nat → Nat} (hs : ∀ j, j < n → s j < 8) (hT : yh_tree N L R (fun c => yc_r s c n)) (hK : yh_code N L R ln bt) (hR : yh_row a5 ln bt s n N) {x b i : Nat} (hx : x < N) (hb : b < 2) (hi : i ≤ n) :
    yc_ct (fun j => yh_un ln bt x (s j) && decide (yh_bd (bt (s j)) (ln (8 + x)) = b)) i = (if b = 1 then yc_ct (yr_row a5 (14 + x)) (yc_ct (fun j => yh_un ln bt x (s j)) i) else yc_ct (fun j => yh_un ln bt x (s j)) i - yc_ct (yr_row a5 (14 + x)) (yc_ct (fun j => yh_un ln bt x (s j)) i)) := by
  rw [yh_ct hR hx i hi]
  have e := yc_and (fun j => yh_un ln bt x (s j)) (fun j => yh_on ln bt x (s j)) i
  have hb' : b = 0 ∨ b = 1 := by omega
  rcases hb' with hb' | hb'
  · subst hb'
    rw [if_neg (by omega), e, Nat.add_sub_cancel_left]
    refine yc_congr (fun j _ => congrArg (yh_un ln bt x (s j) && ·) ?_)
    unfold yh_on
    have := yh_bd2 (bt (s j)) (ln (8 + x))
    rw [Bool.eq_iff_iff]; simp; omega
  · subst hb'
    rw [if_pos rfl]
    rfl
theorem yh_rank {fn fk fr fd fs : Int32} {a1 a2 a3 a4 a5 a6 a7 a8 a9 a10 a11 a12 a13 a14 a15 a16 a17 a18 a19 a20 a21 a22 a23 a24 a25 a26 a27 : Nat → Int32} {post : Int32 → Prop} {s : Nat → Nat} {n N c i : Nat} {L R ln bt : Nat → Nat} {x y : Int32} (hn : n ≤ 200) (hs : ∀ j, j < n → s j < 8) (hS : yr_sum a5 a6 a7) (h2 : ∀ c, c < 8 → a2 c = nI (yc_r s c n)) (h : yh_ok fd a5 a22 a23 a26 a27 s n N L R ln bt) (hc : c < 8) (hi : i ≤ n) (hx : x = nI c) (hy : y = nI i)
    (H : post (nI (yc_r s c i))) : wpX_rankInCodes post (fn, fk, fr, fd, fs, a1, a2, a3, a4, a5, a6, a7, a8, a9, a10, a11, a12, a13, a14, a15, a16, a17, a18, a19, a20, a21, a22, a23, a24, a25, a26, a27) x y := by
  subst hx hy
  obtain ⟨hd, hT, hK, hR, hC, hA⟩ := h
  subst hd
  have hrn := yc_r_le s c n
  have hri := yc_r_mono (s := s) (c := c) hi
  have hN7 := hT.1
  refine ⟨pk_in c 8 hc, ?_⟩
  rw [nI_clamp (by omega), h2 c hc]
  refine pk_eq (yc_r s c n) 0 (fun z => ?_) (fun z => nm_e ?_)
  · rw [show yc_r s c i = 0 by omega] at H
    exact H
  · have hA' := hA c (by omega)
    have hlc := (hK.1 c (by omega))
    have pwl : 2 ^ ln c ≤ 2 ^ 7 := Nat.pow_le_pow_right (by omega) hlc.1
    by_cases hN : N = 0
    · have l0 := hK.2.2.2 hN c hc
      have e : yc_r s c i = i := by
        have := yc_allt (p := fun j => decide (s j = c)) (Nat.zero_le i) (fun j _ g => decide_eq_true (hT.2.2.2.2.2 hN (s j) c (hs j (by omega)) hc (yh_pos (by omega)) (by show 0 < yc_r s c n; omega)))
        rw [yc_0] at this
        show yc_ct _ i = i
        omega
      rw [e] at H
      refine ⟨1, pk_in c 16 (by omega), ?_⟩
      rw [nI_clamp (by omega), hA'.1, l0]
      exact pk_le 0 0 (fun _ => H) (fun z => absurd z (by omega))
    · have hN0 : 0 < N := by omega
      have key : ∀ m x d, x < N → ln (8 + x) = d → m = ln c - d → yh_un ln bt x c = true → wX_rankInCodes_24 post (nI c) fn fk fr (nI N) fs a1 a2 a3 a4 a5 a6 a7 a8 a9 a10 a11 a12 a13 a14 a15 a16 a17 a18 a19 a20 a21 a22 a23 a24 a25 a26 a27 (m + 1) (nI x) (nI (yc_ct (fun j => yh_un ln bt x (s j)) i)) (nI d) := by
        intro m
        induction m with
        | zero =>
          intro x d hx hd hm hu
          have := of_decide_eq_true hu
          omega
        | succ m ih =>
          intro x d hx hd hm hu
          have hu' := of_decide_eq_true hu
          have hb2 := yh_bd2 (bt c) d
          have cl : yc_ct (fun j => yh_un ln bt x (s j)) i ≤ i := yc_le _ _
          have co : yc_ct (yr_row a5 (14 + x)) (yc_ct (fun j => yh_un ln bt x (s j)) i) ≤ yc_ct (fun j => yh_un ln bt x (s j)) i := yc_le _ _
          have hch := hT.2.1 x (yh_bd (bt c) d) hx hb2
          have step := yh_down hs hT hK hR (b := yh_bd (bt c) d) hx hb2 hi
          rw [hd] at step
          -- behind the step
          have nx' : wX_rankInCodes_24 post (nI c) fn fk fr (nI N) fs a1 a2 a3 a4 a5 a6 a7 a8 a9 a10 a11 a12 a13 a14 a15 a16 a17 a18 a19 a20 a21 a22 a23 a24 a25 a26 a27 (m + 1) (nI (yh_ch L R x (yh_bd (bt c) d)) - 8) (nI (yc_ct (fun j => yh_un ln bt x (s j) && decide (yh_bd (bt (s j)) d = yh_bd (bt c) d)) i)) (nI (d + 1)) := by
            by_cases hlt : yh_ch L R x (yh_bd (bt c) d) < 8
            · have lf := fun j (hj : j < n) => yh_leaf hT hK (a := s j) hx hb2 rfl hlt (hs j hj) (yh_pos hj)
              have lc := yh_leaf hT hK (a := c) hx hb2 rfl hlt hc (show 0 < yc_r s c n by omega)
              rw [hd, hu, decide_eq_true (rfl : yh_bd (bt c) d = yh_bd (bt c) d)] at lc
              have ec := of_decide_eq_true lc
              have kl := (hK.2.2.1 x (yh_bd (bt c) d) hx hb2).1
              rw [← ec, hd] at kl
              have er : yc_ct (fun j => yh_un ln bt x (s j) && decide (yh_bd (bt (s j)) d = yh_bd (bt c) d)) i = yc_r s c i := by
                refine yc_congr (fun j hj => ?_)
                have := lf j (by omega)
                rw [hd, ← ec] at this
                exact this.symm
              rw [er]
              refine ⟨pk_in c 16 (by omega), ?_⟩
              rw [nI_clamp (by omega), hA'.1, kl]
              exact pk_le (d + 1) (d + 1) (fun _ => H) (fun z => absurd z (by omega))
            · obtain ⟨y, hy⟩ : ∃ y, yh_ch L R x (yh_bd (bt c) d) = 8 + y := ⟨yh_ch L R x (yh_bd (bt c) d) - 8, by omega⟩
              have kl := (hK.2.2.1 x (yh_bd (bt c) d) hx hb2).1
              rw [hy, hd] at kl
              have sb := fun j (hj : j < n) => yh_sub hT hK (a := s j) hx hb2 hy (hs j hj) (yh_pos hj)
              have sc := yh_sub hT hK (a := c) hx hb2 hy hc (show 0 < yc_r s c n by omega)
              rw [hd, hu, decide_eq_true (rfl : yh_bd (bt c) d = yh_bd (bt c) d)] at sc
              have er : yc_ct (fun j => yh_un ln bt x (s j) && decide (yh_bd (bt (s j)) d = yh_bd (bt c) d)) i = yc_ct (fun j => yh_un ln bt y (s j)) i := by
                refine yc_congr (fun j hj => ?_)
                have := sb j (by omega)
                rw [hd] at this
                exact this.symm
              have e8 : nI (8 + y) - 8 = nI y := by
                show nI (8 + y) - nI 8 = nI y
                rw [pk_sub (by omega), Nat.add_sub_cancel_left]
              rw [er, hy, e8]
              exact ih y (d + 1) (by omega) kl (by omega) sc
          rw [step] at nx'
          have h15 : 14 + x < 21 := by omega
          refine ⟨pk_in c 16 (by omega), ?_⟩
          rw [nI_clamp (by omega), hA'.1, hA'.2, yh_bitI (by omega) (by omega)]
          refine pk_le (ln c) d (fun z => absurd z (by omega)) (fun _ => ⟨pk_in c 16 (by omega), ?_⟩)
          have g : ∀ z, z = nI (yh_bd (bt c) d) → wX_rankInCodes_54 post (wX_rankInCodes_24 post (nI c) fn fk fr (nI N) fs a1 a2 a3 a4 a5 a6 a7 a8 a9 a10 a11 a12 a13 a14 a15 a16 a17 a18 a19 a20 a21 a22 a23 a24 a25 a26 a27 (m + 1)) (nI c) (nI x) (nI (yc_ct (fun j => yh_un ln bt x (s j)) i)) (nI d) z fn fk fr (nI N) fs a1 a2 a3 a4 a5 a6 a7 a8 a9 a10 a11 a12 a13 a14 a15 a16 a17 a18 a19 a20 a21 a22 a23 a24 a25 a26 a27 := by
            intro z hz
            subst hz
            refine yr_ones hS (14 + x) _ h15 (show yc_ct (fun j => yh_un ln bt x (s j)) i < 224 by omega) (yh_14 x) rfl ?_
            refine pk_eq (yh_bd (bt c) d) 0 (fun w => ?_) (fun w => ?_)
            · rw [if_neg (by omega)] at nx'
              refine pk_eq (yh_bd (bt c) d) 0 (fun _ => ⟨pk_in x 8 (by omega), nm_r (e' := nI (yh_ch L R x (yh_bd (bt c) d)) - 8) ?_ (nm_r (nI_1 d) ?_)⟩) (fun w' => absurd w w')
              · rw [nI_clamp (by omega), (hC x hx).1]
                unfold yh_ch
                rw [if_neg (by omega)]
              · rw [pk_sub co]
                exact nx'
            · rw [if_pos (by omega)] at nx'
              refine pk_eq (yh_bd (bt c) d) 0 (fun w' => absurd w' w) (fun _ => ⟨pk_in x 8 (by omega), nm_r (e' := nI (yh_ch L R x (yh_bd (bt c) d)) - 8) ?_ (nm_r (nI_1 d) nx')⟩)
              rw [nI_clamp (by omega), (hC x hx).2]
              unfold yh_ch
              rw [if_pos (by omega)]
          refine pk_eq (yh_bd (bt c) d) 0 (fun e => g 0 (by rw [e]; rfl)) (fun e => g 1 (by rw [show yh_bd (bt c) d = 1 by omega]; rfl))
      have tu := yh_topu hT hK hN0 hc (show 0 < yc_r s c n by omega)
      have ei : yc_ct (fun j => yh_un ln bt (N - 1) (s j)) i = i := by
        have := yc_allt (p := fun j => yh_un ln bt (N - 1) (s j)) (Nat.zero_le i) (fun j _ g => yh_topu hT hK hN0 (hs j (by omega)) (yh_pos (by omega)))
        rw [yc_0] at this
        omega
      have e0 : ln (8 + (N - 1)) = 0 := by
        rw [show 8 + (N - 1) = 7 + N by omega]
        exact hK.2.1 hN0
      have k0 := key _ (N - 1) 0 (by omega) e0 rfl tu
      rw [ei] at k0
      have eN : nI N - 1 = nI (N - 1) := pk_sub (b := 1) (by omega)
      rw [eN]
      exact ⟨_, k0⟩
end
section
theorem yh_at {fn fk fr fd fs : Int32} {a1 a2 a3 a4 a5 a6 a7 a8 a9 a10 a11 a12 a13 a14 a15 a16 a17 a18 a19 a20 a21 a22 a23 a24 a25 a26 a27 : Nat → Int32} {post : Int32 → Prop} {s : Nat → Nat} {n N i : Nat} {L R ln bt : Nat → Nat} {y : Int32} (hn : n ≤ 200) (hs : ys_let a1 s n) (hS : yr_sum a5 a6 a7) (h : yh_ok fd a5 a22 a23 a26 a27 s n N L R ln bt) (hi : i < n) (hy : y = nI i)
    (H : post (nI (s i))) : wpX_atInCodes post (fn, fk, fr, fd, fs, a1, a2, a3, a4, a5, a6, a7, a8, a9, a10, a11, a12, a13, a14, a15, a16, a17, a18, a19, a20, a21, a22, a23, a24, a25, a26, a27) y := by
  subst hy
  obtain ⟨hd, hT, hK, hR, hC, hA⟩ := h
  subst hd
  have hs8 : ∀ j, j < n → s j < 8 := fun j hj => (hs j hj).2
  have hN7 := hT.1
  have hc := hs8 i hi
  have fin : ∀ k x z, wX_atInCodes_28 post fn fk fr (nI N) fs a1 a2 a3 a4 a5 a6 a7 a8 a9 a10 a11 a12 a13 a14 a15 a16 a17 a18 a19 a20 a21 a22 a23 a24 a25 a26 a27 (k + 1) x z (nI (s i)) := fun k x z => br_t (nI_pos' (by omega)) H
  refine nm_e (pk_eq N 0 (fun z => ⟨pk_in i 200 (by omega), nm_r (e' := nI (s i)) (by rw [nI_clamp (by omega)]; exact (hs i hi).1) ⟨1, fin 0 _ _⟩⟩) (fun z => ?_))
  have hN0 : 0 < N := by omega
  have key : ∀ m x, x < m → x < N → yh_un ln bt x (s i) = true → wX_atInCodes_28 post fn fk fr (nI N) fs a1 a2 a3 a4 a5 a6 a7 a8 a9 a10 a11 a12 a13 a14 a15 a16 a17 a18 a19 a20 a21 a22 a23 a24 a25 a26 a27 (m + 1) (nI x) (nI (yc_ct (fun j => yh_un ln bt x (s j)) i)) (-1) := by
    intro m
    induction m with
    | zero => intro x hx; exact absurd hx (by omega)
    | succ m ih =>
      intro x hxm hx hu
      have hb2 := yh_bd2 (bt (s i)) (ln (8 + x))
      have cl : yc_ct (fun j => yh_un ln bt x (s j)) i ≤ i := yc_le _ _
      have co : yc_ct (yr_row a5 (14 + x)) (yc_ct (fun j => yh_un ln bt x (s j)) i) ≤ yc_ct (fun j => yh_un ln bt x (s j)) i := yc_le _ _
      have hch := hT.2.1 x (yh_bd (bt (s i)) (ln (8 + x))) hx hb2
      have step := yh_down hs8 hT hK hR (b := yh_bd (bt (s i)) (ln (8 + x))) hx hb2 (Nat.le_of_lt hi)
      have bit := hR x hx i hi hu
      have nx : wX_atInCodes_91 post (wX_atInCodes_28 post fn fk fr (nI N) fs a1 a2 a3 a4 a5 a6 a7 a8 a9 a10 a11 a12 a13 a14 a15 a16 a17 a18 a19 a20 a21 a22 a23 a24 a25 a26 a27 (m + 1)) (nI (yh_ch L R x (yh_bd (bt (s i)) (ln (8 + x))))) (nI (yc_ct (fun j => yh_un ln bt x (s j) && decide (yh_bd (bt (s j)) (ln (8 + x)) = yh_bd (bt (s i)) (ln (8 + x)))) i)) fn fk fr (nI N) fs a1 a2 a3 a4 a5 a6 a7 a8 a9 a10 a11 a12 a13 a14 a15 a16 a17 a18 a19 a20 a21 a22 a23 a24 a25 a26 a27 := by
        by_cases hlt : yh_ch L R x (yh_bd (bt (s i)) (ln (8 + x))) < 8
        · have lc := yh_leaf hT hK (a := s i) hx hb2 rfl hlt hc (yh_pos hi)
          rw [hu, decide_eq_true (rfl : yh_bd (bt (s i)) (ln (8 + x)) = yh_bd (bt (s i)) (ln (8 + x)))] at lc
          have ec := of_decide_eq_true lc
          rw [← ec]
          exact pk_le 8 (s i) (fun z => absurd z (by omega)) (fun _ => nm_e (fin m _ _))
        · obtain ⟨y, hy⟩ : ∃ y, yh_ch L R x (yh_bd (bt (s i)) (ln (8 + x))) = 8 + y := ⟨yh_ch L R x (yh_bd (bt (s i)) (ln (8 + x))) - 8, by omega⟩
          have sb := fun j (hj : j < n) => yh_sub hT hK (a := s j) hx hb2 hy (hs8 j hj) (yh_pos hj)
          have sc := sb i hi
          rw [hu, decide_eq_true (rfl : yh_bd (bt (s i)) (ln (8 + x)) = yh_bd (bt (s i)) (ln (8 + x)))] at sc
          have er : yc_ct (fun j => yh_un ln bt x (s j) && decide (yh_bd (bt (s j)) (ln (8 + x)) = yh_bd (bt (s i)) (ln (8 + x)))) i = yc_ct (fun j => yh_un ln bt y (s j)) i := yc_congr (fun j hj => (sb j (by omega)).symm)
          have e8 : nI (8 + y) - 8 = nI y := by
            show nI (8 + y) - nI 8 = nI y
            rw [pk_sub (by omega), Nat.add_sub_cancel_left]
          rw [er, hy]
          exact pk_le 8 (8 + y) (fun _ => nm_r e8 (ih y (by omega) (by omega) sc)) (fun z => absurd z (by omega))
      rw [step] at nx
      refine br_f (by decide) (yr_bit (14 + x) _ (by omega) (show yc_ct (fun j => yh_un ln bt x (s j)) i < 224 by omega) (yh_14 x) rfl (yr_ones hS (14 + x) _ (by omega) (show yc_ct (fun j => yh_un ln bt x (s j)) i < 224 by omega) (yh_14 x) rfl ?_))
      rw [bit]
      unfold yh_on
      by_cases e : yh_bd (bt (s i)) (ln (8 + x)) = 1
      · rw [decide_eq_true e]
        rw [if_pos e] at nx
        refine br_f (by decide) ⟨pk_in x 8 (by omega), ?_⟩
        rw [nI_clamp (by omega), (hC x hx).2]
        refine br_f (by decide) ?_
        have ch : yh_ch L R x (yh_bd (bt (s i)) (ln (8 + x))) = R x := by unfold yh_ch; rw [if_pos e]
        rw [ch] at nx
        exact nx
      · rw [decide_eq_false e]
        rw [if_neg e] at nx
        refine br_t rfl ⟨pk_in x 8 (by omega), ?_⟩
        rw [nI_clamp (by omega), (hC x hx).1]
        refine br_t rfl ?_
        rw [pk_sub co]
        have ch : yh_ch L R x (yh_bd (bt (s i)) (ln (8 + x))) = L x := by unfold yh_ch; rw [if_neg e]
        rw [ch] at nx
        exact nx
  have tu := yh_topu hT hK hN0 hc (yh_pos hi)
  have ei : yc_ct (fun j => yh_un ln bt (N - 1) (s j)) i = i := by
    have := yc_allt (p := fun j => yh_un ln bt (N - 1) (s j)) (Nat.zero_le i) (fun j _ g => yh_topu hT hK hN0 (hs8 j (by omega)) (yh_pos (by omega)))
    rw [yc_0] at this
    omega
  have k0 := key N (N - 1) (by omega) (by omega) tu
  rw [ei] at k0
  have eN : nI N - 1 = nI (N - 1) := pk_sub (b := 1) (by omega)
  rw [eN]
  exact ⟨_, k0⟩
end
section
/-! naming the codes, packing the nodes -/
theorem yh_bd_or {v d : Nat} (hv : v < 2 ^ d) : v ||| 2 ^ d = v + 1 * 2 ^ d := by
  have h2 := Nat.two_pow_add_eq_or_of_lt hv 1
  rw [Nat.mul_one] at h2
  rw [Nat.or_comm, ← h2, Nat.one_mul, Nat.add_comm]
/-- the nodes from x on have named their children -/
def yh_nm (N : Nat) (L R ln bt : Nat → Nat) (x : Nat) : Prop :=
  (∀ z, z < 16 → ln z ≤ N ∧ bt z < 2 ^ ln z) ∧ (0 < N → ln (7 + N) = 0) ∧ (∀ y, y < N → ln (8 + y) + y < N) ∧
  (∀ y b, x ≤ y → y < N → b < 2 → ln (yh_ch L R y b) = ln (8 + y) + 1 ∧ bt (yh_ch L R y b) = bt (8 + y) + b * 2 ^ ln (8 + y))
theorem yh_name {fn fk fr fd fs : Int32} {a1 a2 a3 a4 a5 a6 a7 a8 a9 a10 a11 a12 a13 a14 a15 a16 a17 a18 a19 a20 a21 a22 a23 a24 a25 a26 a27 : Nat → Int32} {post : St2 → Prop} {N : Nat} {L R cn : Nat → Nat} (hT : yh_tree N L R cn) (hd : fd = nI N) (hC : ∀ x, x < N → a22 x = nI (L x) ∧ a23 x = nI (R x)) (h0 : ∀ z, z < 16 → a26 z = 0 ∧ a27 z = 0)
    (H : ∀ b26 b27 ln bt, yh_code N L R ln bt → (∀ z, z < 16 → b26 z = nI (ln z) ∧ b27 z = nI (bt z)) → post (fn, fk, fr, nI N, fs, a1, a2, a3, a4, a5, a6, a7, a8, a9, a10, a11, a12, a13, a14, a15, a16, a17, a18, a19, a20, a21, a22, a23, a24, a25, b26, b27)) : wpX_nameCodes post (fn, fk, fr, fd, fs, a1, a2, a3, a4, a5, a6, a7, a8, a9, a10, a11, a12, a13, a14, a15, a16, a17, a18, a19, a20, a21, a22, a23, a24, a25, a26, a27) := by
  subst hd
  have hN7 := hT.1
  have key : ∀ m, m ≤ N → ∀ b26 b27 ln bt, yh_nm N L R ln bt m → (m = N → ∀ z, z < 16 → ln z = 0) → (∀ z, z < 16 → b26 z = nI (ln z) ∧ b27 z = nI (bt z)) → wX_nameCodes_7 post fn fk fr (nI N) fs (m + 1) (nI m - 1) a1 a2 a3 a4 a5 a6 a7 a8 a9 a10 a11 a12 a13 a14 a15 a16 a17 a18 a19 a20 a21 a22 a23 a24 a25 b26 b27 := by
    intro m
    induction m with
    | zero =>
      intro _ b26 b27 ln bt hn hz hb
      refine br_t (by decide) (H b26 b27 ln bt ⟨fun z hz => ?_, hn.2.1, fun x b hx hb => hn.2.2.2 x b (Nat.zero_le x) hx hb, fun e c hc => hz e.symm c (by omega)⟩ hb)
      have := hn.1 z hz
      exact ⟨by omega, this.2⟩
    | succ x ih =>
      intro hx b26 b27 ln bt hn hz hb
      have hx' : x < N := hx
      obtain ⟨n1, n2, n3, n4⟩ := hn
      obtain ⟨c1, c2⟩ := hC x hx'
      have hl : L x < 8 + x := hT.2.1 x 0 hx' (by omega)
      have hr : R x < 8 + x := hT.2.1 x 1 hx' (by omega)
      have hne : L x ≠ R x := fun e => absurd (hT.2.2.1 x 0 x 1 hx' (by omega) hx' (by omega) e).2 (by omega)
      have l1 := n3 x hx'
      have q1 := (n1 (8 + x) (by omega)).2
      have pw : 2 ^ ln (8 + x) ≤ 2 ^ 6 := Nat.pow_le_pow_right (by omega) (by omega)
      obtain ⟨g1, g2⟩ := hb (8 + x) (by omega)
      have e8 : (8 : Int32) + nI x = nI (8 + x) := nI_add 8 x
      rw [nI_pred]
      refine br_f (nI_pos (by omega)) ⟨pk_in _ 16 (by omega) e8, nm_r (e' := nI (ln (8 + x))) (by rw [e8, nI_clamp (by omega)]; exact g1) ⟨pk_in _ 16 (by omega) e8, nm_r (e' := nI (bt (8 + x))) (by rw [e8, nI_clamp (by omega)]; exact g2) ⟨pk_in x 8 (by omega), ?_⟩⟩⟩
      rw [nI_clamp (by omega), c1, c2]
      refine ⟨pk_in (L x) 16 (by omega), ?_⟩
      rw [nI_clamp (by omega), nI_1, yi_n8 _ (by omega), yi_n8 _ (by omega), nI_clamp (by omega), yi_pw _ (by omega), yi_orN, yh_bd_or q1, yi_n8 _ (by omega)]
      refine nm_e ⟨pk_in x 8 (by omega), pk_in (L x) 16 (by omega), nm_e ⟨pk_in x 8 (by omega), pk_in (R x) 16 (by omega), nm_e ⟨pk_in x 8 (by omega), pk_in (R x) 16 (by omega), nm_e (nm_r (yn_m1 x) ?_)⟩⟩⟩
      -- the new lengths and bits
      have el : ∀ z, (fun z => if z = L x ∨ z = R x then ln (8 + x) + 1 else ln z : Nat → Nat) z = if z = L x ∨ z = R x then ln (8 + x) + 1 else ln z := fun _ => rfl
      have eb : ∀ z, (fun z => if z = R x then bt (8 + x) + 1 * 2 ^ ln (8 + x) else if z = L x then bt (8 + x) else bt z : Nat → Nat) z = if z = R x then bt (8 + x) + 1 * 2 ^ ln (8 + x) else if z = L x then bt (8 + x) else bt z := fun _ => rfl
      generalize (fun z => if z = L x ∨ z = R x then ln (8 + x) + 1 else ln z : Nat → Nat) = ln' at el
      generalize (fun z => if z = R x then bt (8 + x) + 1 * 2 ^ ln (8 + x) else if z = L x then bt (8 + x) else bt z : Nat → Nat) = bt' at eb
      have el1 : ∀ z, z ≠ L x → z ≠ R x → ln' z = ln z ∧ bt' z = bt z := fun z z1 z2 => ⟨by rw [el, if_neg (by omega)], by rw [eb, if_neg z2, if_neg z1]⟩
      have elL : ln' (L x) = ln (8 + x) + 1 ∧ bt' (L x) = bt (8 + x) := ⟨by rw [el, if_pos (Or.inl rfl)], by rw [eb, if_neg hne, if_pos rfl]⟩
      have elR : ln' (R x) = ln (8 + x) + 1 ∧ bt' (R x) = bt (8 + x) + 1 * 2 ^ ln (8 + x) := ⟨by rw [el, if_pos (Or.inr rfl)], by rw [eb, if_pos rfl]⟩
      have pws : 2 ^ (ln (8 + x) + 1) = 2 ^ ln (8 + x) + 2 ^ ln (8 + x) := by rw [Nat.pow_succ]; omega
      refine ih (by omega) _ _ ln' bt' ⟨fun z hz16 => ?_, fun hN => ?_, fun y hy => ?_, fun y b h1 h2 h3 => ?_⟩ (fun e => absurd e (by omega)) (fun z hz16 => ?_)
      · by_cases z1 : z = L x
        · subst z1
          rw [elL.1, elL.2]
          omega
        · by_cases z2 : z = R x
          · subst z2
            rw [elR.1, elR.2]
            omega
          · rw [(el1 z z1 z2).1, (el1 z z1 z2).2]
            exact n1 z hz16
      · rw [(el1 (7 + N) (by omega) (by omega)).1]
        exact n2 hN
      · by_cases z1 : 8 + y = L x
        · rw [z1, elL.1]; omega
        · by_cases z2 : 8 + y = R x
          · rw [z2, elR.1]; omega
          · rw [(el1 (8 + y) z1 z2).1]
            exact n3 y hy
      · have own := el1 (8 + y) (by omega) (by omega)
        by_cases e : y = x
        · subst e
          rw [own.1, own.2]
          have hb' : b = 0 ∨ b = 1 := by omega
          rcases hb' with hb' | hb'
          · subst hb'
            rw [show yh_ch L R y 0 = L y from rfl, elL.1, elL.2]
            omega
          · subst hb'
            rw [show yh_ch L R y 1 = R y from rfl, elR.1, elR.2]
            exact ⟨rfl, rfl⟩
        · have nL : yh_ch L R y b ≠ L x := fun z => e (hT.2.2.1 y b x 0 h2 h3 hx' (by omega) z).1
          have nR : yh_ch L R y b ≠ R x := fun z => e (hT.2.2.1 y b x 1 h2 h3 hx' (by omega) z).1
          have ch := el1 _ nL nR
          rw [own.1, own.2, ch.1, ch.2]
          exact n4 y b (by omega) h2 h3
      · by_cases z2 : z = R x
        · subst z2
          rw [pk_us, pk_us, elR.1, elR.2]
          exact ⟨rfl, rfl⟩
        · by_cases z1 : z = L x
          · subst z1
            rw [pk_un hne, pk_un hne, pk_us, pk_us, elL.1, elL.2]
            exact ⟨rfl, rfl⟩
          · rw [pk_un z2, pk_un z2, pk_un z1, pk_un z1, (el1 z z1 z2).1, (el1 z z1 z2).2]
            exact hb z hz16
  refine nm_e ⟨_, key N (Nat.le_refl N) a26 a27 (fun _ => 0) (fun _ => 0) ⟨fun z _ => ⟨Nat.zero_le N, show 0 < 2 ^ 0 by decide⟩, fun _ => rfl, fun y hy => (show 0 + y < N by omega), fun y b h1 h2 => absurd h2 (by omega)⟩ (fun _ _ _ => rfl) (fun z hz => ?_)⟩
  exact h0 z hz
theorem yh_node26 {fn fk fr fd fs : Int32} {a1 a2 a3 a4 a5 a6 a7 a8 a9 a10 a11 a12 a13 a14 a15 a16 a17 a18 a19 a20 a21 a22 a23 a24 a25 a26 a27 : Nat → Int32} {post : St2 → Prop} {s : Nat → Nat} {n N x : Nat} {ln bt : Nat → Nat} {y : Int32} (hn : n ≤ 200) (hs : ys_let a1 s n) (hf : fn = nI n) (hN : N ≤ 7) (hx : x < N) (hy : y = nI x) (hK : ∀ z, z < 16 → ln z ≤ 7 ∧ bt z < 2 ^ ln z)
    (hA : ∀ z, z < 16 → a26 z = nI (ln z) ∧ a27 z = nI (bt z)) (h0 : ∀ p, p < 224 → yr_row a5 (14 + x) p = false)
    (H : ∀ b, (∀ j, j < n → yh_un ln bt x (s j) = true → yr_row b (14 + x) (yc_ct (fun i => yh_un ln bt x (s i)) j) = yh_on ln bt x (s j)) → (∀ r p, r < 21 → p < 224 → r ≠ 14 + x → yr_row b r p = yr_row a5 r p) → post (nI n, fk, fr, fd, fs, a1, a2, a3, a4, b, a6, a7, a8, a9, a10, a11, a12, a13, a14, a15, a16, a17, a18, a19, a20, a21, a22, a23, a24, a25, a26, a27)) : wpX_packNode post (fn, fk, fr, fd, fs, a1, a2, a3, a4, a5, a6, a7, a8, a9, a10, a11, a12, a13, a14, a15, a16, a17, a18, a19, a20, a21, a22, a23, a24, a25, a26, a27) y := by
  subst hf hy
  have e8 : (8 : Int32) + nI x = nI (8 + x) := nI_add 8 x
  obtain ⟨x1, x2⟩ := hA (8 + x) (by omega)
  obtain ⟨l7, lb⟩ := hK (8 + x) (by omega)
  have pw : 2 ^ ln (8 + x) ≤ 2 ^ 7 := Nat.pow_le_pow_right (by omega) l7
  refine ⟨pk_in _ 16 (by omega) e8, nm_r (e' := nI (ln (8 + x))) (by rw [e8, nI_clamp (by omega)]; exact x1) ⟨pk_in _ 16 (by omega) e8, nm_r (e' := nI (bt (8 + x))) (by rw [e8, nI_clamp (by omega)]; exact x2) ?_⟩⟩
  have q := pk_loop (fun k i (b : Nat → Int32) => wX_packNode_26 post (nI x) (nI (ln (8 + x))) (nI (bt (8 + x))) k (nI (yc_ct (fun i => yh_un ln bt x (s i)) i)) (nI i) (nI n) fk fr fd fs a1 a2 a3 a4 b a6 a7 a8 a9 a10 a11 a12 a13 a14 a15 a16 a17 a18 a19 a20 a21 a22 a23 a24 a25 a26 a27)
    (fun i b => (∀ j, j < i → yh_un ln bt x (s j) = true → yr_row b (14 + x) (yc_ct (fun i => yh_un ln bt x (s i)) j) = yh_on ln bt x (s j)) ∧ (∀ p, yc_ct (fun i => yh_un ln bt x (s i)) i ≤ p → p < 224 → yr_row b (14 + x) p = false) ∧ (∀ r p, r < 21 → p < 224 → r ≠ 14 + x → yr_row b r p = yr_row a5 r p)) n 0 a5 (by omega) ⟨fun j z => absurd z (by omega), fun p _ hp => h0 p hp, fun _ _ _ _ _ => rfl⟩ ?_ ?_
  · obtain ⟨k, hk⟩ := q
    exact ⟨k, hk⟩
  · intro k b h
    exact pk_le n n (fun _ => H b h.1 h.2.2) (fun z => absurd z (by omega))
  · intro k i b hi h hk
    obtain ⟨g1, g2, g3⟩ := h
    obtain ⟨s1, s2⟩ := hs i hi
    obtain ⟨u1, u2⟩ := hA (s i) (by omega)
    obtain ⟨v1, v2⟩ := hK (s i) (by omega)
    have pws : 2 ^ ln (s i) ≤ 2 ^ 7 := Nat.pow_le_pow_right (by omega) v1
    have cl : yc_ct (fun i => yh_un ln bt x (s i)) i ≤ i := yc_le _ _
    have hml : bt (s i) % 2 ^ ln (8 + x) ≤ bt (s i) := Nat.mod_le _ _
    refine pk_le n i (fun z => absurd z (by omega)) (fun _ => ⟨pk_in i 200 (by omega), nm_r (e' := nI (s i)) (by rw [nI_clamp (by omega)]; exact s1) ⟨pk_in (s i) 16 (by omega), ?_⟩⟩)
    rw [nI_clamp (by omega), u1, u2]
    -- not below
    have no : yh_un ln bt x (s i) = false → wX_packNode_76 post (wX_packNode_26 post (nI x) (nI (ln (8 + x))) (nI (bt (8 + x))) k) (nI x) (nI (ln (8 + x))) (nI (bt (8 + x))) (nI (yc_ct (fun i => yh_un ln bt x (s i)) i)) (nI i) (nI (s i)) (nI n) fk fr fd fs a1 a2 a3 a4 b a6 a7 a8 a9 a10 a11 a12 a13 a14 a15 a16 a17 a18 a19 a20 a21 a22 a23 a24 a25 a26 a27 := by
      intro hu
      refine br_t rfl (nm_r (nI_1 i) ?_)
      have e1 := yc_f (p := fun i => yh_un ln bt x (s i)) hu
      have k1 := hk b ⟨fun j hj hj2 => ?_, fun p hp1 hp2 => g2 p (by rw [e1] at hp1; exact hp1) hp2, g3⟩
      · have k2 : wX_packNode_26 post (nI x) (nI (ln (8 + x))) (nI (bt (8 + x))) k (nI (yc_ct (fun i => yh_un ln bt x (s i)) (i + 1))) (nI (i + 1)) (nI n) fk fr fd fs a1 a2 a3 a4 b a6 a7 a8 a9 a10 a11 a12 a13 a14 a15 a16 a17 a18 a19 a20 a21 a22 a23 a24 a25 a26 a27 := k1
        rw [e1] at k2
        exact k2
      · by_cases e : j = i
        · rw [e, hu] at hj2; exact absurd hj2 (by decide)
        · exact g1 j (by omega) hj2
    refine pk_le (ln (s i)) (ln (8 + x)) (fun z => no (decide_eq_false (by omega))) (fun z => ⟨pk_in (s i) 16 (by omega), ?_⟩)
    rw [yi_msk _ (by omega), pk_andN (by omega) _ (pk_tn (by omega))]
    refine pk_eq (bt (s i) % 2 ^ ln (8 + x)) (bt (8 + x)) (fun w => ?_) (fun w => no (decide_eq_false (fun t => w t.2)))
    have hu : yh_un ln bt x (s i) = true := decide_eq_true ⟨z, w⟩
    have e1 := yc_t (p := fun i => yh_un ln bt x (s i)) hu
    have lt : ∀ j, j < i → yh_un ln bt x (s j) = true → yc_ct (fun i => yh_un ln bt x (s i)) j < yc_ct (fun i => yh_un ln bt x (s i)) i := fun j hj hj2 => yc_lt (p := fun i => yh_un ln bt x (s i)) hj hj2
    refine br_f (by decide) ⟨pk_in (s i) 16 (by omega), ?_⟩
    rw [nI_clamp (by omega), u2, yh_bitI (by omega) (by omega)]
    refine pk_eq (yh_bd (bt (s i)) (ln (8 + x))) 0 (fun t => nm_r (nI_1 _) (nm_r (nI_1 i) ?_)) (fun t => ?_) rfl rfl (by have := yh_bd2 (bt (s i)) (ln (8 + x)); omega)
    · have k1 := hk b ⟨fun j hj hj2 => ?_, fun p hp1 hp2 => g2 p (by rw [e1] at hp1; omega) hp2, g3⟩
      · have k2 : wX_packNode_26 post (nI x) (nI (ln (8 + x))) (nI (bt (8 + x))) k (nI (yc_ct (fun i => yh_un ln bt x (s i)) (i + 1))) (nI (i + 1)) (nI n) fk fr fd fs a1 a2 a3 a4 b a6 a7 a8 a9 a10 a11 a12 a13 a14 a15 a16 a17 a18 a19 a20 a21 a22 a23 a24 a25 a26 a27 := k1
        rw [e1] at k2
        exact k2
      · by_cases e : j = i
        · subst e
          rw [g2 _ (Nat.le_refl _) (by omega)]
          exact (decide_eq_false (by omega)).symm
        · exact g1 j (by omega) hj2
    · refine yr_set (14 + x) (yc_ct (fun i => yh_un ln bt x (s i)) i) (by omega) (by omega) (yh_14 x) rfl (fun b' hb' => nm_r (nI_1 _) (nm_r (nI_1 i) ?_))
      have k1 := hk b' ⟨fun j hj hj2 => ?_, fun p hp1 hp2 => ?_, fun r p hr hp hne => ?_⟩
      · have k2 : wX_packNode_26 post (nI x) (nI (ln (8 + x))) (nI (bt (8 + x))) k (nI (yc_ct (fun i => yh_un ln bt x (s i)) (i + 1))) (nI (i + 1)) (nI n) fk fr fd fs a1 a2 a3 a4 b' a6 a7 a8 a9 a10 a11 a12 a13 a14 a15 a16 a17 a18 a19 a20 a21 a22 a23 a24 a25 a26 a27 := k1
        rw [e1] at k2
        exact k2
      · have clj : yc_ct (fun i => yh_un ln bt x (s i)) j ≤ j := yc_le _ _
        rw [hb' (14 + x) _ (by omega) (by omega)]
        by_cases e : j = i
        · subst e
          rw [decide_eq_true (show 14 + x = 14 + x ∧ yc_ct (fun i => yh_un ln bt x (s i)) j = yc_ct (fun i => yh_un ln bt x (s i)) j from ⟨rfl, rfl⟩), Bool.or_true]
          have := yh_bd2 (bt (s j)) (ln (8 + x))
          exact (decide_eq_true (by omega)).symm
        · have := lt j (by omega) hj2
          rw [g1 j (by omega) hj2, decide_eq_false (show ¬ (14 + x = 14 + x ∧ yc_ct (fun i => yh_un ln bt x (s i)) j = yc_ct (fun i => yh_un ln bt x (s i)) i) by omega), Bool.or_false]
      · rw [e1] at hp1
        rw [hb' (14 + x) p (by omega) hp2, g2 p (by omega) hp2, decide_eq_false (show ¬ (14 + x = 14 + x ∧ p = yc_ct (fun i => yh_un ln bt x (s i)) i) by omega)]
        rfl
      · rw [hb' r p hr hp, g3 r p hr hp hne, decide_eq_false (fun z => hne z.1), Bool.or_false]
theorem yh_204 {fn fk fr fd fs : Int32} {a1 a2 a3 a4 a5 a6 a7 a8 a9 a10 a11 a12 a13 a14 a15 a16 a17 a18 a19 a20 a21 a22 a23 a24 a25 a26 a27 : Nat → Int32} {post : St2 → Prop} {s : Nat → Nat} {n N : Nat} {ln bt : Nat → Nat} (hn : n ≤ 200) (hs : ys_let a1 s n) (hf : fn = nI n) (hd : fd = nI N) (hN : N ≤ 7) (hK : ∀ z, z < 16 → ln z ≤ 7 ∧ bt z < 2 ^ ln z)
    (hA : ∀ z, z < 16 → a26 z = nI (ln z) ∧ a27 z = nI (bt z)) (h0 : ∀ r p, 14 ≤ r → r < 21 → p < 224 → yr_row a5 r p = false)
    (H : ∀ b, yh_row b ln bt s n N → (∀ r p, r < 14 → p < 224 → yr_row b r p = yr_row a5 r p) → post (nI n, fk, fr, nI N, fs, a1, a2, a3, a4, b, a6, a7, a8, a9, a10, a11, a12, a13, a14, a15, a16, a17, a18, a19, a20, a21, a22, a23, a24, a25, a26, a27)) : ∃ k, wX_packCodes_204 post k 0 fn fk fr fd fs a1 a2 a3 a4 a5 a6 a7 a8 a9 a10 a11 a12 a13 a14 a15 a16 a17 a18 a19 a20 a21 a22 a23 a24 a25 a26 a27 := by
  subst hf hd
  have q := pk_loop (fun k x (b : Nat → Int32) => wX_packCodes_204 post k (nI x) (nI n) fk fr (nI N) fs a1 a2 a3 a4 b a6 a7 a8 a9 a10 a11 a12 a13 a14 a15 a16 a17 a18 a19 a20 a21 a22 a23 a24 a25 a26 a27) (fun x b => yh_row b ln bt s n x ∧ (∀ r p, r < 14 → p < 224 → yr_row b r p = yr_row a5 r p) ∧ (∀ r p, 14 + x ≤ r → r < 21 → p < 224 → yr_row b r p = false)) N 0 a5 (by omega) ⟨fun x z => absurd z (by omega), fun _ _ _ _ => rfl, h0⟩ ?_ ?_
  · obtain ⟨k, hk⟩ := q
    exact ⟨k, hk⟩
  · intro k b h
    exact pk_le N N (fun _ => H b h.1 h.2.1) (fun z => absurd z (by omega))
  · intro k x b hx h hk
    obtain ⟨g1, g2, g3⟩ := h
    refine pk_le N x (fun z => absurd z (by omega)) (fun _ => ?_)
    refine yh_node26 hn hs rfl hN hx rfl hK hA (fun p hp => g3 (14 + x) p (Nat.le_refl _) (by omega) hp) (fun b' p1 p2 => nm_r (nI_1 x) (hk b' ⟨fun y hy j hj hu => ?_, fun r p hr hp => ?_, fun r p h1 h2 h3 => ?_⟩))
    · by_cases e : y = x
      · subst e; exact p1 j hj hu
      · have cl : yc_ct (fun i => yh_un ln bt y (s i)) j ≤ j := yc_le _ _
        rw [p2 (14 + y) _ (by omega) (by omega) (by omega)]
        exact g1 y (by omega) j hj hu
    · rw [p2 r p (by omega) hp (by omega)]
      exact g2 r p hr hp
    · rw [p2 r p h2 h3 (by omega)]
      exact g3 r p (by omega) h2 h3
end
section
/-! the two rarest are joined, again and again -/
def yh_free (w : Nat → Nat) (j : Nat → Bool) (x : Nat) : Bool := !j x && decide (0 < w x)
def yh_rare (w : Nat → Nat) (j : Nat → Bool) : Nat → Option Nat
  | 0 => none
  | m + 1 => match yh_rare w j m with
    | none => if yh_free w j m then some m else none
    | some b => if yh_free w j m && decide (w m < w b) then some m else some b
theorem yh_rareN {w : Nat → Nat} {j : Nat → Bool} : ∀ {m : Nat}, yh_rare w j m = none → ∀ x, x < m → yh_free w j x = false := by
  intro m
  induction m with
  | zero => intro _ x hx; exact absurd hx (by omega)
  | succ m ih =>
    intro h x hx
    unfold yh_rare at h
    cases e : yh_rare w j m with
    | none =>
      rw [e] at h
      by_cases g : x = m
      · subst g
        cases hf : yh_free w j x
        · rfl
        · rw [hf] at h; exact absurd h (by simp)
      · exact ih e x (by omega)
    | some b =>
      rw [e] at h
      dsimp only at h
      split at h <;> exact absurd h (by simp)
theorem yh_rareS {w : Nat → Nat} {j : Nat → Bool} : ∀ {m b : Nat}, yh_rare w j m = some b → b < m ∧ yh_free w j b = true := by
  intro m
  induction m with
  | zero => intro b h; exact absurd h (by simp [yh_rare])
  | succ m ih =>
    intro b h
    unfold yh_rare at h
    cases e : yh_rare w j m with
    | none =>
      rw [e] at h
      dsimp only at h
      split at h
      · rename_i hf
        have := Option.some.inj h
        subst this
        exact ⟨by omega, hf⟩
      · exact absurd h (by simp)
    | some c =>
      rw [e] at h
      dsimp only at h
      obtain ⟨i1, i2⟩ := ih e
      split at h
      · rename_i hf
        have := Option.some.inj h
        subst this
        rw [Bool.and_eq_true] at hf
        exact ⟨by omega, hf.1⟩
      · have := Option.some.inj h
        subst this
        exact ⟨by omega, i2⟩
def yh_oI : Option Nat → Int32
  | none => -1
  | some b => nI b
def yh_bI (b : Bool) : Int32 := if b then 1 else 0
theorem yh_rarest {fn fk fr fd fs : Int32} {a1 a2 a3 a4 a5 a6 a7 a8 a9 a10 a11 a12 a13 a14 a15 a16 a17 a18 a19 a20 a21 a22 a23 a24 a25 a26 a27 : Nat → Int32} {post : Int32 → Prop} {N : Nat} {w : Nat → Nat} {j : Nat → Bool} (hN : N ≤ 7) (hd : fd = nI N) (hw : ∀ z, z < 16 → a24 z = nI (w z) ∧ w z < 1000 ∧ a25 z = yh_bI (j z))
    (H : post (yh_oI (yh_rare w j (8 + N)))) : wpX_rarest post (fn, fk, fr, fd, fs, a1, a2, a3, a4, a5, a6, a7, a8, a9, a10, a11, a12, a13, a14, a15, a16, a17, a18, a19, a20, a21, a22, a23, a24, a25, a26, a27) := by
  subst hd
  have e8 : (8 : Int32) + nI N = nI (8 + N) := nI_add 8 N
  have q := pk_loop (σ := Unit) (fun k x _ => wX_rarest_4 post fn fk fr (nI N) fs a1 a2 a3 a4 a5 a6 a7 a8 a9 a10 a11 a12 a13 a14 a15 a16 a17 a18 a19 a20 a21 a22 a23 a24 a25 a26 a27 k (yh_oI (yh_rare w j x)) (nI x)) (fun _ _ => True) (8 + N) 0 () (by omega) trivial ?_ ?_
  · obtain ⟨k, hk⟩ := q
    exact ⟨k, hk⟩
  · intro k _ _
    exact pk_le (8 + N) (8 + N) (fun _ => H) (fun z => absurd z (by omega)) e8
  · intro k x _ hx _ hk
    have hk' : wX_rarest_4 post fn fk fr (nI N) fs a1 a2 a3 a4 a5 a6 a7 a8 a9 a10 a11 a12 a13 a14 a15 a16 a17 a18 a19 a20 a21 a22 a23 a24 a25 a26 a27 k (yh_oI (yh_rare w j (x + 1))) (nI (x + 1)) := hk () trivial
    obtain ⟨w1, w2, w3⟩ := hw x (by omega)
    have no : yh_free w j x = false → wX_rarest_37 post (wX_rarest_4 post fn fk fr (nI N) fs a1 a2 a3 a4 a5 a6 a7 a8 a9 a10 a11 a12 a13 a14 a15 a16 a17 a18 a19 a20 a21 a22 a23 a24 a25 a26 a27 k) (yh_oI (yh_rare w j x)) (nI x) fn fk fr (nI N) fs a1 a2 a3 a4 a5 a6 a7 a8 a9 a10 a11 a12 a13 a14 a15 a16 a17 a18 a19 a20 a21 a22 a23 a24 a25 a26 a27 := by
      intro hf
      refine br_t rfl (nm_r (nI_1 x) ?_)
      have e : yh_rare w j (x + 1) = yh_rare w j x := by
        show (match yh_rare w j x with | none => if yh_free w j x then some x else none | some b => if yh_free w j x && decide (w x < w b) then some x else some b) = _
        rw [hf]
        cases yh_rare w j x <;> rfl
      rw [e] at hk'
      exact hk'
    refine pk_le (8 + N) x (fun z => absurd z (by omega)) (fun _ => ⟨pk_in x 16 (by omega), ?_⟩) e8
    rw [nI_clamp (by omega), w1, w3]
    cases ej : j x
    · refine br_t rfl ⟨pk_in x 16 (by omega), ?_⟩
      refine pk_le (w x) 0 (fun z => no (by unfold yh_free; rw [ej, decide_eq_false (by omega)]; rfl)) (fun z => br_f (by decide) ?_)
      have hf : yh_free w j x = true := by unfold yh_free; rw [ej, decide_eq_true z]; rfl
      have er : yh_rare w j (x + 1) = match yh_rare w j x with | none => some x | some b => if decide (w x < w b) then some x else some b := by
        show (match yh_rare w j x with | none => if yh_free w j x then some x else none | some b => if yh_free w j x && decide (w x < w b) then some x else some b) = _
        rw [hf]
        cases yh_rare w j x <;> rfl
      rw [er] at hk'
      cases e : yh_rare w j x with
      | none =>
        rw [e] at hk'
        exact br_t (by decide) (nm_r (nI_1 x) hk')
      | some b =>
        rw [e] at hk'
        obtain ⟨b1, b2⟩ := yh_rareS e
        obtain ⟨v1, v2, v3⟩ := hw b (by omega)
        refine br_f (nI_pos (by omega)) ⟨pk_in x 16 (by omega), pk_in b 16 (by omega), ?_⟩
        have eb : (yh_oI (some b)).toNatClampNeg = b := nI_clamp (by omega)
        rw [nI_clamp (by omega), eb, w1, v1]
        dsimp only at hk'
        refine pk_le (w b) (w x) (fun z => nm_r (nI_1 x) ?_) (fun z => nm_r (nI_1 x) ?_)
        · rw [decide_eq_false (by omega)] at hk'
          exact hk'
        · rw [decide_eq_true z] at hk'
          exact hk'
    · exact br_f (by decide) (no (by unfold yh_free; rw [ej]; rfl))
/-! the state in numbers: nodes, sum, weights, joined, children -/
abbrev yh_S : Type := Nat × Nat × (Nat → Nat) × (Nat → Bool) × (Nat → Nat) × (Nat → Nat)
def yh_up {α : Type} (f : Nat → α) (k : Nat) (v : α) : Nat → α := fun x => if x = k then v else f x
theorem yh_us {α : Type} {f : Nat → α} {k : Nat} {v : α} : yh_up f k v k = v := if_pos rfl
theorem yh_un' {α : Type} {f : Nat → α} {k z : Nat} {v : α} (h : z ≠ k) : yh_up f k v z = f z := if_neg h
def yh_join (u : yh_S) (a b : Nat) : yh_S :=
  (u.1 + 1, u.2.1 + (u.2.2.1 a + u.2.2.1 b), yh_up u.2.2.1 (8 + u.1) (u.2.2.1 a + u.2.2.1 b), yh_up (yh_up u.2.2.2.1 a true) b true, yh_up u.2.2.2.2.1 u.1 a, yh_up u.2.2.2.2.2 u.1 b)
def yh_nxt (u : yh_S) : Option yh_S :=
  match yh_rare u.2.2.1 u.2.2.2.1 (8 + u.1) with
  | none => none
  | some a => match yh_rare u.2.2.1 (yh_up u.2.2.2.1 a true) (8 + u.1) with
    | none => none
    | some b => some (yh_join u a b)
def yh_run : Nat → yh_S → yh_S
  | 0, u => u
  | k + 1, u => match yh_nxt u with
    | none => u
    | some v => yh_run k v
def yh_init (cn : Nat → Nat) : yh_S := (0, 0, fun z => if z < 8 then cn z else 0, fun _ => false, fun _ => 0, fun _ => 0)
def yh_sum (f : Nat → Nat) : Nat → Nat
  | 0 => 0
  | m + 1 => yh_sum f m + f m
theorem yh_sum1 {f g : Nat → Nat} {a m : Nat} (h : ∀ z, z ≠ a → g z = f z) (ha : a < m) : yh_sum f m + g a = yh_sum g m + f a := by
  have low : ∀ k, k ≤ a → yh_sum f k = yh_sum g k := by
    intro k
    induction k with
    | zero => intro _; rfl
    | succ k ih =>
      intro hk
      show yh_sum f k + f k = yh_sum g k + g k
      rw [ih (by omega), h k (by omega)]
  induction m with
  | zero => exact absurd ha (by omega)
  | succ m ih =>
    show yh_sum f m + f m + g a = yh_sum g m + g m + f a
    by_cases e : a = m
    · subst e
      rw [low a (Nat.le_refl a)]; omega
    · have := ih (by omega)
      rw [h m (fun z => e z.symm)]
      omega
theorem yh_sumc {f g : Nat → Nat} {m : Nat} (h : ∀ z, z < m → g z = f z) : yh_sum g m = yh_sum f m := by
  induction m with
  | zero => rfl
  | succ m ih =>
    show yh_sum g m + g m = yh_sum f m + f m
    rw [ih (fun z hz => h z (by omega)), h m (by omega)]
theorem yh_sumle (f : Nat → Nat) {a m : Nat} (h : a < m) : f a ≤ yh_sum f m := by
  induction m with
  | zero => exact absurd h (by omega)
  | succ m ih =>
    show f a ≤ yh_sum f m + f m
    by_cases e : a = m
    · subst e; omega
    · have := ih (by omega); omega
def yh_fw (w : Nat → Nat) (j : Nat → Bool) (x : Nat) : Nat := if yh_free w j x then w x else 0
def yh_fc (w : Nat → Nat) (j : Nat → Bool) (x : Nat) : Nat := if yh_free w j x then 1 else 0
/-- the invariant of the joining -/
def yh_I (cn : Nat → Nat) (u : yh_S) : Prop :=
  (∀ c, c < 8 → u.2.2.1 c = cn c) ∧
  (∀ x b, x < u.1 → b < 2 → yh_ch u.2.2.2.2.1 u.2.2.2.2.2 x b < 8 + x) ∧
  (∀ z, u.2.2.2.1 z = true ↔ ∃ x b, x < u.1 ∧ b < 2 ∧ yh_ch u.2.2.2.2.1 u.2.2.2.2.2 x b = z) ∧
  (∀ x b x' b', x < u.1 → b < 2 → x' < u.1 → b' < 2 → yh_ch u.2.2.2.2.1 u.2.2.2.2.2 x b = yh_ch u.2.2.2.2.1 u.2.2.2.2.2 x' b' → x = x' ∧ b = b') ∧
  (∀ x, x < u.1 → 0 < u.2.2.1 (8 + x)) ∧
  u.1 + yh_sum (yh_fc u.2.2.1 u.2.2.2.1) (8 + u.1) ≤ 8 ∧
  yh_sum (yh_fw u.2.2.1 u.2.2.2.1) (8 + u.1) ≤ 200 ∧
  (∀ z, 8 + u.1 ≤ z → u.2.2.1 z = 0) ∧ (∀ z, u.2.2.1 z ≤ 200)
theorem yh_not {b : Bool} (h : ¬ b = true) : b = false := by cases b <;> simp_all
/-- joining two keeps it -/
theorem yh_Ij {cn : Nat → Nat} {u : yh_S} {a b : Nat} (h : yh_I cn u) (ha : yh_rare u.2.2.1 u.2.2.2.1 (8 + u.1) = some a) (hb : yh_rare u.2.2.1 (yh_up u.2.2.2.1 a true) (8 + u.1) = some b) :
    yh_I cn (yh_join u a b) ∧ yh_sum (yh_fc (yh_join u a b).2.2.1 (yh_join u a b).2.2.2.1) (8 + (yh_join u a b).1) + 1 = yh_sum (yh_fc u.2.2.1 u.2.2.2.1) (8 + u.1) ∧ a < 8 + u.1 ∧ b < 8 + u.1 ∧ u.2.2.1 a + u.2.2.1 b ≤ 200 ∧ u.1 < 7 := by
  obtain ⟨N, cs, w, j, L, R⟩ := u
  obtain ⟨i1, i2, i3, i4, i5, i6, i7, i8, i9⟩ := h
  dsimp only at *
  obtain ⟨a1, a2⟩ := yh_rareS ha
  obtain ⟨b1, b2⟩ := yh_rareS hb
  have ne : b ≠ a := by
    intro e
    subst e
    unfold yh_free at b2
    rw [yh_us] at b2
    exact absurd b2 (by simp)
  have b3 : yh_free w j b = true := by
    unfold yh_free at b2 ⊢
    rw [yh_un' ne] at b2
    exact b2
  have ja : j a = false := by
    unfold yh_free at a2
    rw [Bool.and_eq_true] at a2
    simpa using a2.1
  have jb : j b = false := by
    unfold yh_free at b3
    rw [Bool.and_eq_true] at b3
    simpa using b3.1
  have wa : 0 < w a := by
    unfold yh_free at a2
    rw [Bool.and_eq_true] at a2
    exact of_decide_eq_true a2.2
  have wb : 0 < w b := by
    unfold yh_free at b3
    rw [Bool.and_eq_true] at b3
    exact of_decide_eq_true b3.2
  -- the new weights and marks
  have w' : ∀ z, z ≠ 8 + N → yh_up w (8 + N) (w a + w b) z = w z := fun z hz => yh_un' hz
  have j' : ∀ z, z ≠ a → z ≠ b → yh_up (yh_up j a true) b true z = j z := fun z z1 z2 => by rw [yh_un' z2, yh_un' z1]
  have jA : yh_up (yh_up j a true) b true a = true := by rw [yh_un' (fun z => ne z.symm), yh_us]
  have jB : yh_up (yh_up j a true) b true b = true := yh_us
  have j8 : j (8 + N) = false := yh_not (fun z => by
    obtain ⟨x, c, x1, x2, x3⟩ := (i3 _).mp z
    have := i2 x c x1 x2
    omega)
  -- sums
  have fwn : ∀ z, z < 8 + N → z ≠ a → z ≠ b → yh_free (yh_up w (8 + N) (w a + w b)) (yh_up (yh_up j a true) b true) z = yh_free w j z := fun z z0 z1 z2 => by
    unfold yh_free
    rw [w' z (by omega), j' z z1 z2]
  have fA : yh_free (yh_up w (8 + N) (w a + w b)) (yh_up (yh_up j a true) b true) a = false := by unfold yh_free; rw [jA]; rfl
  have fB : yh_free (yh_up w (8 + N) (w a + w b)) (yh_up (yh_up j a true) b true) b = false := by unfold yh_free; rw [jB]; rfl
  have f8 : yh_free (yh_up w (8 + N) (w a + w b)) (yh_up (yh_up j a true) b true) (8 + N) = true := by
    unfold yh_free
    rw [yh_us, j' (8 + N) (by omega) (by omega), j8, decide_eq_true (by omega)]
    rfl
  have sums : ∀ f g : Nat → Nat, (∀ z, z < 8 + N → z ≠ a → z ≠ b → g z = f z) → g a = 0 → g b = 0 → yh_sum f (8 + N) = yh_sum g (8 + N) + f a + f b := by
    intro f g hfg ga gb
    have t1 := yh_sum1 (f := f) (g := yh_up f a 0) (fun z hz => yh_un' hz) a1
    have t2 := yh_sum1 (f := yh_up f a 0) (g := yh_up (yh_up f a 0) b 0) (fun z hz => yh_un' hz) b1
    have t3 := yh_sumc (f := g) (g := yh_up (yh_up f a 0) b 0) (m := 8 + N) (fun z hz => by
      by_cases z2 : z = b
      · subst z2; rw [yh_us, gb]
      · rw [yh_un' z2]
        by_cases z1 : z = a
        · subst z1; rw [yh_us, ga]
        · rw [yh_un' z1, hfg z hz z1 z2])
    rw [yh_us] at t1 t2
    rw [yh_un' ne] at t2
    omega
  have sc := sums (yh_fc w j) (yh_fc (yh_up w (8 + N) (w a + w b)) (yh_up (yh_up j a true) b true)) (fun z z0 z1 z2 => by unfold yh_fc; rw [fwn z z0 z1 z2]) (by unfold yh_fc; rw [fA]; rfl) (by unfold yh_fc; rw [fB]; rfl)
  have sw := sums (yh_fw w j) (yh_fw (yh_up w (8 + N) (w a + w b)) (yh_up (yh_up j a true) b true)) (fun z z0 z1 z2 => by unfold yh_fw; rw [fwn z z0 z1 z2, w' z (by omega)]) (by unfold yh_fw; rw [fA]; rfl) (by unfold yh_fw; rw [fB]; rfl)
  have c1 : yh_fc w j a = 1 := by unfold yh_fc; rw [a2]; rfl
  have c2 : yh_fc w j b = 1 := by unfold yh_fc; rw [b3]; rfl
  have v1 : yh_fw w j a = w a := by unfold yh_fw; rw [a2]; rfl
  have v2 : yh_fw w j b = w b := by unfold yh_fw; rw [b3]; rfl
  have c3 : yh_fc (yh_up w (8 + N) (w a + w b)) (yh_up (yh_up j a true) b true) (8 + N) = 1 := by unfold yh_fc; rw [f8]; rfl
  have v3 : yh_fw (yh_up w (8 + N) (w a + w b)) (yh_up (yh_up j a true) b true) (8 + N) = w a + w b := by unfold yh_fw; rw [f8, yh_us]; rfl
  have e1 : yh_sum (yh_fc (yh_up w (8 + N) (w a + w b)) (yh_up (yh_up j a true) b true)) (8 + (N + 1)) = yh_sum (yh_fc (yh_up w (8 + N) (w a + w b)) (yh_up (yh_up j a true) b true)) (8 + N) + 1 := by
    have t : yh_sum (yh_fc (yh_up w (8 + N) (w a + w b)) (yh_up (yh_up j a true) b true)) (8 + (N + 1)) = yh_sum (yh_fc (yh_up w (8 + N) (w a + w b)) (yh_up (yh_up j a true) b true)) (8 + N) + yh_fc (yh_up w (8 + N) (w a + w b)) (yh_up (yh_up j a true) b true) (8 + N) := rfl
    rw [c3] at t
    exact t
  have e2 : yh_sum (yh_fw (yh_up w (8 + N) (w a + w b)) (yh_up (yh_up j a true) b true)) (8 + (N + 1)) = yh_sum (yh_fw (yh_up w (8 + N) (w a + w b)) (yh_up (yh_up j a true) b true)) (8 + N) + (w a + w b) := by
    have t : yh_sum (yh_fw (yh_up w (8 + N) (w a + w b)) (yh_up (yh_up j a true) b true)) (8 + (N + 1)) = yh_sum (yh_fw (yh_up w (8 + N) (w a + w b)) (yh_up (yh_up j a true) b true)) (8 + N) + yh_fw (yh_up w (8 + N) (w a + w b)) (yh_up (yh_up j a true) b true) (8 + N) := rfl
    rw [v3] at t
    exact t
  -- children
  have ch0 : ∀ x c, x < N → yh_ch (yh_up L N a) (yh_up R N b) x c = yh_ch L R x c := fun x c hx => by
    unfold yh_ch
    rw [yh_un' (show x ≠ N by omega), yh_un' (show x ≠ N by omega)]
  have chN : ∀ c, c < 2 → yh_ch (yh_up L N a) (yh_up R N b) N c = if c = 1 then b else a := fun c hc => by
    unfold yh_ch
    rw [yh_us, yh_us]
  have notch : ∀ x c, x < N → c < 2 → yh_ch L R x c ≠ a ∧ yh_ch L R x c ≠ b := fun x c hx hc => ⟨fun e => by
      have := (i3 a).mpr ⟨x, c, hx, hc, e⟩
      rw [ja] at this; exact absurd this (by decide), fun e => by
      have := (i3 b).mpr ⟨x, c, hx, hc, e⟩
      rw [jb] at this; exact absurd this (by decide)⟩
  refine ⟨⟨fun c hc => ?_, fun x c hx hc => ?_, fun z => ?_, fun x c x' c' hx hc hx' hc' e => ?_, fun x hx => ?_, ?_, ?_, fun z hz => ?_, fun z => ?_⟩, ?_, a1, b1, by omega, by omega⟩
  · show yh_up w (8 + N) (w a + w b) c = cn c
    rw [w' c (by omega)]; exact i1 c hc
  · show yh_ch (yh_up L N a) (yh_up R N b) x c < 8 + x
    by_cases ex : x = N
    · subst ex
      rw [chN c hc]; split <;> omega
    · have hx' : x < N + 1 := hx
      rw [ch0 x c (by omega)]; exact i2 x c (by omega) hc
  · show yh_up (yh_up j a true) b true z = true ↔ ∃ x c, x < N + 1 ∧ c < 2 ∧ yh_ch (yh_up L N a) (yh_up R N b) x c = z
    constructor
    · intro hz
      by_cases z2 : z = b
      · exact ⟨N, 1, by omega, by omega, by rw [chN 1 (by omega), z2]; rfl⟩
      · by_cases z1 : z = a
        · exact ⟨N, 0, by omega, by omega, by rw [chN 0 (by omega), z1]; rfl⟩
        · rw [j' z z1 z2] at hz
          obtain ⟨x, c, x1, x2, x3⟩ := (i3 z).mp hz
          exact ⟨x, c, by omega, x2, by rw [ch0 x c x1]; exact x3⟩
    · rintro ⟨x, c, x1, x2, x3⟩
      by_cases ex : x = N
      · subst ex
        rw [chN c x2] at x3
        split at x3
        · rw [← x3]; exact jB
        · rw [← x3]; exact jA
      · rw [ch0 x c (by omega)] at x3
        have := notch x c (by omega) x2
        rw [x3] at this
        rw [j' z this.1 this.2]
        exact (i3 z).mpr ⟨x, c, by omega, x2, x3⟩
  · have hx1 : x < N + 1 := hx
    have hx1' : x' < N + 1 := hx'
    have e' : yh_ch (yh_up L N a) (yh_up R N b) x c = yh_ch (yh_up L N a) (yh_up R N b) x' c' := e
    by_cases ex : x = N
    · by_cases ex' : x' = N
      · rw [ex, ex', chN c hc, chN c' hc'] at e'
        refine ⟨by omega, ?_⟩
        by_cases k1 : c = 1
        · by_cases k2 : c' = 1
          · omega
          · rw [if_pos k1, if_neg k2] at e'; exact absurd e' ne
        · by_cases k2 : c' = 1
          · rw [if_neg k1, if_pos k2] at e'; exact absurd e'.symm ne
          · omega
      · rw [ex, chN c hc, ch0 x' c' (by omega)] at e'
        have := notch x' c' (by omega) hc'
        split at e'
        · exact absurd e'.symm this.2
        · exact absurd e'.symm this.1
    · by_cases ex' : x' = N
      · rw [ex', chN c' hc', ch0 x c (by omega)] at e'
        have := notch x c (by omega) hc
        split at e'
        · exact absurd e' this.2
        · exact absurd e' this.1
      · rw [ch0 x c (by omega), ch0 x' c' (by omega)] at e'
        exact i4 x c x' c' (by omega) hc (by omega) hc' e'
  · show 0 < yh_up w (8 + N) (w a + w b) (8 + x)
    by_cases ex : x = N
    · subst ex; rw [yh_us]; omega
    · have hx1 : x < N + 1 := hx
      rw [w' (8 + x) (by omega)]; exact i5 x (by omega)
  · show N + 1 + yh_sum (yh_fc (yh_up w (8 + N) (w a + w b)) (yh_up (yh_up j a true) b true)) (8 + (N + 1)) ≤ 8
    omega
  · show yh_sum (yh_fw (yh_up w (8 + N) (w a + w b)) (yh_up (yh_up j a true) b true)) (8 + (N + 1)) ≤ 200
    omega
  · show yh_up w (8 + N) (w a + w b) z = 0
    have hz' : 8 + (N + 1) ≤ z := hz
    rw [w' z (by omega)]; exact i8 z (by omega)
  · show yh_up w (8 + N) (w a + w b) z ≤ 200
    by_cases ez : z = 8 + N
    · subst ez; rw [yh_us]; omega
    · rw [w' z ez]; exact i9 z
  · show yh_sum (yh_fc (yh_up w (8 + N) (w a + w b)) (yh_up (yh_up j a true) b true)) (8 + (N + 1)) + 1 = yh_sum (yh_fc w j) (8 + N)
    omega
/-- when no two are left, the tree is whole -/
theorem yh_Ie {cn : Nat → Nat} {u : yh_S} (h : yh_I cn u) (hx : yh_nxt u = none) : yh_tree u.1 u.2.2.2.2.1 u.2.2.2.2.2 cn := by
  obtain ⟨N, cs, w, j, L, R⟩ := u
  obtain ⟨i1, i2, i3, i4, i5, i6, i7, i8, i9⟩ := h
  dsimp only at *
  -- all that are free are one
  have one : ∀ z z', z < 8 + N → z' < 8 + N → yh_free w j z = true → yh_free w j z' = true → z = z' := by
    intro z z' hz hz' f f'
    unfold yh_nxt at hx
    dsimp only at hx
    cases ea : yh_rare w j (8 + N) with
    | none =>
      have := yh_rareN ea z hz
      rw [f] at this; exact absurd this (by decide)
    | some a =>
      rw [ea] at hx
      dsimp only at hx
      cases eb : yh_rare w (yh_up j a true) (8 + N) with
      | none =>
        have key : ∀ y, y < 8 + N → yh_free w j y = true → y = a := by
          intro y hy fy
          apply Classical.byContradiction
          intro ny
          have := yh_rareN eb y hy
          unfold yh_free at this fy
          rw [yh_un' ny, fy] at this
          exact absurd this (by decide)
        rw [key z hz f, key z' hz' f']
      | some b =>
        rw [eb] at hx
        exact absurd hx (by simp)
  have topf : 0 < N → yh_free w j (7 + N) = true := by
    intro hN
    have h1 : j (7 + N) = false := yh_not (fun z => by
      obtain ⟨x, c, x1, x2, x3⟩ := (i3 _).mp z
      have := i2 x c x1 x2
      omega)
    have h2 := i5 (N - 1) (by omega)
    rw [show 8 + (N - 1) = 7 + N by omega] at h2
    unfold yh_free
    rw [h1, decide_eq_true h2]; rfl
  have named : ∀ z, z < 8 + N → 0 < w z → z ≠ 7 + N → 0 < N → ∃ x b, x < N ∧ b < 2 ∧ yh_ch L R x b = z := by
    intro z hz hw hne hN
    refine (i3 z).mp ?_
    cases e : j z
    · have fz : yh_free w j z = true := by unfold yh_free; rw [e, decide_eq_true hw]; rfl
      exact absurd (one z (7 + N) hz (by omega) fz (topf hN)) hne
    · rfl
  have hN7 : N ≤ 7 := by
    by_cases hN : 0 < N
    · have f := topf hN
      have := yh_sumle (yh_fc w j) (show 7 + N < 8 + N by omega)
      have e : yh_fc w j (7 + N) = 1 := by unfold yh_fc; rw [f]; rfl
      omega
    · omega
  refine ⟨hN7, i2, i4, fun hN c hc hp => named c (by omega) (by rw [i1 c hc]; exact hp) (by omega) hN, fun y hy => named (8 + y) (by omega) (i5 y (by omega)) (by omega) (by omega), fun hN c c' hc hc' p p' => ?_⟩
  subst hN
  have jf : ∀ z, j z = false := fun z => yh_not (fun t => by
    obtain ⟨x, b, x1, _⟩ := (i3 z).mp t
    omega)
  refine one c c' (by omega) (by omega) ?_ ?_
  · unfold yh_free; rw [jf c, decide_eq_true (by rw [i1 c hc]; exact p)]; rfl
  · unfold yh_free; rw [jf c', decide_eq_true (by rw [i1 c' hc']; exact p')]; rfl
end
section
/-! packing engine 6 -/
/-- arrays that hold the state of the joining -/
def yh_A (a22 a23 a24 a25 : Nat → Int32) (u : yh_S) : Prop :=
  (∀ x, x < u.1 → a22 x = nI (u.2.2.2.2.1 x) ∧ a23 x = nI (u.2.2.2.2.2 x)) ∧ (∀ z, z < 16 → a24 z = nI (u.2.2.1 z) ∧ a25 z = yh_bI (u.2.2.2.1 z))
theorem yh_fc0 {w : Nat → Nat} {j : Nat → Bool} {m : Nat} (h : yh_sum (yh_fc w j) m = 0) : yh_rare w j m = none := by
  cases e : yh_rare w j m with
  | none => rfl
  | some a =>
    obtain ⟨h1, h2⟩ := yh_rareS e
    have := yh_sumle (yh_fc w j) h1
    have e : yh_fc w j a = 1 := by unfold yh_fc; rw [h2]; rfl
    omega
theorem yh_69 {fn fk fr fd fs : Int32} {a1 a2 a3 a4 a5 a6 a7 a8 a9 a10 a11 a12 a13 a14 a15 a16 a17 a18 a19 a20 a21 a22 a23 a24 a25 a26 a27 : Nat → Int32} {post : St2 → Prop} {cn : Nat → Nat} (k : Nat) : ∀ (u : yh_S) (b22 b23 b24 b25 : Nat → Int32), yh_I cn u → yh_sum (yh_fc u.2.2.1 u.2.2.2.1) (8 + u.1) ≤ k → yh_A b22 b23 b24 b25 u →
    (∀ c22 c23 c24 c25, (∀ x, x < (yh_run k u).1 → c22 x = nI ((yh_run k u).2.2.2.2.1 x) ∧ c23 x = nI ((yh_run k u).2.2.2.2.2 x)) → yh_tree (yh_run k u).1 (yh_run k u).2.2.2.2.1 (yh_run k u).2.2.2.2.2 cn → ∃ f, wX_packCodes_69 post fn fk fr f 0 (nI (yh_run k u).1) (nI (yh_run k u).2.1) a1 a2 a3 a4 a5 a6 a7 a8 a9 a10 a11 a12 a13 a14 a15 a16 a17 a18 a19 a20 a21 c22 c23 c24 c25 a26 a27) →
    ∃ f, wX_packCodes_69 post fn fk fr f 1 (nI u.1) (nI u.2.1) a1 a2 a3 a4 a5 a6 a7 a8 a9 a10 a11 a12 a13 a14 a15 a16 a17 a18 a19 a20 a21 b22 b23 b24 b25 a26 a27 := by
  induction k with
  | zero =>
    intro u b22 b23 b24 b25 hI hk hA H
    have ra := yh_fc0 (show yh_sum (yh_fc u.2.2.1 u.2.2.2.1) (8 + u.1) = 0 by omega)
    have hx : yh_nxt u = none := by unfold yh_nxt; rw [ra]
    have hT := yh_Ie hI hx
    obtain ⟨f, hf⟩ := H b22 b23 b24 b25 hA.1 hT
    have hw : ∀ z, z < 16 → b24 z = nI (u.2.2.1 z) ∧ u.2.2.1 z < 1000 ∧ b25 z = yh_bI (u.2.2.2.1 z) := fun z hz => ⟨(hA.2 z hz).1, by have := hI.2.2.2.2.2.2.2.2 z; omega, (hA.2 z hz).2⟩
    refine ⟨f + 1, br_f (by decide) (yh_rarest hT.1 rfl hw ?_)⟩
    rw [ra]
    refine br_t (by decide) (yh_rarest hT.1 rfl hw ?_)
    rw [ra]
    exact br_t (by decide) (br_t rfl hf)
  | succ k ih =>
    intro u b22 b23 b24 b25 hI hk hA H
    have hw : ∀ z, z < 16 → b24 z = nI (u.2.2.1 z) ∧ u.2.2.1 z < 1000 ∧ b25 z = yh_bI (u.2.2.2.1 z) := fun z hz => ⟨(hA.2 z hz).1, by have := hI.2.2.2.2.2.2.2.2 z; omega, (hA.2 z hz).2⟩
    cases ra : yh_rare u.2.2.1 u.2.2.2.1 (8 + u.1) with
    | none =>
      have hx : yh_nxt u = none := by unfold yh_nxt; rw [ra]
      have hr : yh_run (k + 1) u = u := by unfold yh_run; rw [hx]
      have hT := yh_Ie hI hx
      rw [hr] at H
      obtain ⟨f, hf⟩ := H b22 b23 b24 b25 hA.1 hT
      refine ⟨f + 1, br_f (by decide) (yh_rarest hT.1 rfl hw ?_)⟩
      rw [ra]
      refine br_t (by decide) (yh_rarest hT.1 rfl hw ?_)
      rw [ra]
      exact br_t (by decide) (br_t rfl hf)
    | some a =>
      obtain ⟨a1, a2⟩ := yh_rareS ra
      cases rb : yh_rare u.2.2.1 (yh_up u.2.2.2.1 a true) (8 + u.1) with
      | none =>
        have hx : yh_nxt u = none := by unfold yh_nxt; rw [ra]; dsimp only; rw [rb]
        have hr : yh_run (k + 1) u = u := by unfold yh_run; rw [hx]
        have hT := yh_Ie hI hx
        have hN7 := hT.1
        rw [hr] at H
        have hw2 : ∀ z, z < 16 → b24 z = nI (u.2.2.1 z) ∧ u.2.2.1 z < 1000 ∧ upd b25 a 1 z = yh_bI (yh_up u.2.2.2.1 a true z) := fun z hz => by
          obtain ⟨h1, h2, h3⟩ := hw z hz
          refine ⟨h1, h2, ?_⟩
          by_cases e : z = a
          · subst e; rw [pk_us, yh_us]; rfl
          · rw [pk_un e, yh_un' e]; exact h3
        obtain ⟨f, hf⟩ := H b22 b23 b24 (upd b25 a 1) hA.1 hT
        refine ⟨f + 1, br_f (by decide) (yh_rarest hT.1 rfl hw ?_)⟩
        rw [ra]
        have ea : (yh_oI (some a)).toNatClampNeg = a := nI_clamp (by omega)
        refine br_f (nI_pos (by omega)) ⟨pk_in a 16 (by omega), ?_⟩
        rw [ea]
        refine nm_e (yh_rarest hT.1 rfl hw2 ?_)
        rw [rb]
        exact br_t (by decide) (br_t rfl hf)
      | some b =>
        obtain ⟨jI, jc, ja, jb, jw, jN⟩ := yh_Ij hI ra rb
        have hx : yh_nxt u = some (yh_join u a b) := by unfold yh_nxt; rw [ra]; dsimp only; rw [rb]
        have hr : yh_run (k + 1) u = yh_run k (yh_join u a b) := by
          show (match yh_nxt u with | none => u | some v => yh_run k v) = _
          rw [hx]
        rw [hr] at H
        have hw2 : ∀ z, z < 16 → b24 z = nI (u.2.2.1 z) ∧ u.2.2.1 z < 1000 ∧ upd b25 a 1 z = yh_bI (yh_up u.2.2.2.1 a true z) := fun z hz => by
          obtain ⟨h1, h2, h3⟩ := hw z hz
          refine ⟨h1, h2, ?_⟩
          by_cases e : z = a
          · subst e; rw [pk_us, yh_us]; rfl
          · rw [pk_un e, yh_un' e]; exact h3
        have k1 := ih (yh_join u a b) (upd b22 u.1 (nI a)) (upd b23 u.1 (nI b)) (upd b24 (8 + u.1) (nI (u.2.2.1 a + u.2.2.1 b))) (upd (upd b25 a 1) b 1) jI (by omega) ⟨fun x hx => ?_, fun z hz => ?_⟩ H
        · obtain ⟨f, hf⟩ := k1
          have hN7 : u.1 ≤ 7 := by omega
          have ea : (yh_oI (some a)).toNatClampNeg = a := nI_clamp (by omega)
          have eb : (yh_oI (some b)).toNatClampNeg = b := nI_clamp (by omega)
          have ea8 : (yh_oI (some a)).toInt8.toInt32 = nI a := yi_n8 a (by omega)
          have eb8 : (yh_oI (some b)).toInt8.toInt32 = nI b := yi_n8 b (by omega)
          have e8 : (8 : Int32) + nI u.1 = nI (8 + u.1) := nI_add 8 u.1
          have wa := (hw a (by omega)).1
          have wb := (hw b (by omega)).1
          refine ⟨f + 1, br_f (by decide) (yh_rarest hN7 rfl hw ?_)⟩
          rw [ra]
          refine br_f (nI_pos (by omega)) ⟨pk_in a 16 (by omega), ?_⟩
          rw [ea]
          refine nm_e (yh_rarest hN7 rfl hw2 ?_)
          rw [rb]
          refine br_f (nI_pos (by omega)) (br_f (by decide) ⟨pk_in b 16 (by omega), ?_⟩)
          rw [eb, ea, ea8, eb8, nI_clamp (by omega), e8, nI_clamp (by omega), wa, wb, nI_add, yi_n16 _ (by omega)]
          refine nm_e ⟨pk_in u.1 8 (by omega), nm_e ⟨pk_in u.1 8 (by omega), nm_e ⟨pk_in a 16 (by omega), pk_in b 16 (by omega), pk_in (8 + u.1) 16 (by omega), nm_e ⟨pk_in a 16 (by omega), pk_in b 16 (by omega), ?_⟩⟩⟩⟩
          rw [pk_un (show a ≠ 8 + u.1 by omega), pk_un (show b ≠ 8 + u.1 by omega), wa, wb, nI_add, nI_add]
          exact nm_e (nm_r (nI_1 u.1) hf)
        · show upd b22 u.1 (nI a) x = nI (yh_up u.2.2.2.2.1 u.1 a x) ∧ upd b23 u.1 (nI b) x = nI (yh_up u.2.2.2.2.2 u.1 b x)
          by_cases e : x = u.1
          · subst e
            rw [pk_us, pk_us, yh_us, yh_us]; exact ⟨rfl, rfl⟩
          · have hx' : x < u.1 + 1 := hx
            rw [pk_un e, pk_un e, yh_un' e, yh_un' e]
            exact hA.1 x (by omega)
        · show upd b24 (8 + u.1) (nI (u.2.2.1 a + u.2.2.1 b)) z = nI (yh_up u.2.2.1 (8 + u.1) (u.2.2.1 a + u.2.2.1 b) z) ∧ upd (upd b25 a 1) b 1 z = yh_bI (yh_up (yh_up u.2.2.2.1 a true) b true z)
          constructor
          · by_cases e : z = 8 + u.1
            · subst e; rw [pk_us, yh_us]
            · rw [pk_un e, yh_un' e]; exact (hw z hz).1
          · by_cases e : z = b
            · subst e; rw [pk_us, yh_us]; rfl
            · rw [pk_un e, yh_un' e]; exact (hw2 z hz).2.2
/-- how often each letter stands: all of them together -/
theorem yh_total {s : Nat → Nat} {n : Nat} (m : Nat) : yh_sum (fun c => yc_r s c n) m = yc_b s m n := by
  induction m with
  | zero => rw [yc_b_0]; rfl
  | succ m ih =>
    show yh_sum _ m + yc_r s m n = _
    rw [ih, yc_b_s]
theorem yh_I0 {s : Nat → Nat} {n : Nat} (hn : n ≤ 200) : yh_I (fun c => yc_r s c n) (yh_init (fun c => yc_r s c n)) := by
  have hle : ∀ c, yc_r s c n ≤ n := fun c => yc_r_le s c n
  refine ⟨fun c hc => if_pos hc, fun x b hx => absurd hx (Nat.not_lt_zero x), fun z => ⟨fun h => absurd (show false = true from h) (by decide), fun ⟨x, b, hx, _⟩ => absurd hx (Nat.not_lt_zero x)⟩, fun x b x' b' hx => absurd hx (Nat.not_lt_zero x), fun x hx => absurd hx (Nat.not_lt_zero x), ?_, ?_, fun z hz => ?_, fun z => ?_⟩
  · have le : ∀ (f : Nat → Nat), (∀ z, f z ≤ 1) → ∀ m, yh_sum f m ≤ m := by
      intro f hf m
      induction m with
      | zero => exact Nat.le_refl 0
      | succ m ih =>
        have := hf m
        show yh_sum f m + f m ≤ m + 1
        omega
    have := le (yh_fc (yh_init (fun c => yc_r s c n)).2.2.1 (yh_init (fun c => yc_r s c n)).2.2.2.1) (fun z => by unfold yh_fc; split <;> omega) 8
    show 0 + yh_sum _ (8 + 0) ≤ 8
    rw [Nat.zero_add]
    exact this
  · have e : yh_sum (yh_fw (yh_init (fun c => yc_r s c n)).2.2.1 (yh_init (fun c => yc_r s c n)).2.2.2.1) 8 = yh_sum (fun c => yc_r s c n) 8 := yh_sumc (fun z hz => by
      have e1 : (yh_init (fun c => yc_r s c n)).2.2.1 z = yc_r s z n := if_pos hz
      unfold yh_fw yh_free
      rw [e1]
      by_cases p : 0 < yc_r s z n
      · rw [decide_eq_true p]; rfl
      · rw [decide_eq_false p]
        show (if (true && false) = true then yc_r s z n else 0) = yc_r s z n
        rw [if_neg (by decide)]; omega)
    show yh_sum _ (8 + 0) ≤ 200
    rw [Nat.add_zero, e, yh_total]
    have : yc_b s 8 n ≤ n := yc_le _ _
    omega
  · have hz' : 8 ≤ z := hz
    exact if_neg (by omega)
  · show (if z < 8 then yc_r s z n else 0) ≤ 200
    have := hle z
    split <;> omega
theorem yh_pack {fn fk fr fd fs : Int32} {a1 a2 a3 a4 a5 a6 a7 a8 a9 a10 a11 a12 a13 a14 a15 a16 a17 a18 a19 a20 a21 a22 a23 a24 a25 a26 a27 : Nat → Int32} {post : St2 → Prop} {s : Nat → Nat} {n : Nat} (hn : n ≤ 200) (hs : ys_let a1 s n) (hf : fn = nI n) (h2 : ∀ c, c < 8 → a2 c = nI (yc_r s c n)) (h0 : ∀ r p, 14 ≤ r → r < 21 → p < 224 → yr_row a5 r p = false)
    (H : ∀ b5 b22 b23 b24 b25 b26 b27 L R ln bt, yh_ok (nI (yh_run 8 (yh_init (fun c => yc_r s c n))).1) b5 b22 b23 b26 b27 s n (yh_run 8 (yh_init (fun c => yc_r s c n))).1 L R ln bt → (∀ r p, r < 14 → p < 224 → yr_row b5 r p = yr_row a5 r p) → post (nI n, fk, fr, nI (yh_run 8 (yh_init (fun c => yc_r s c n))).1, nI (yh_run 8 (yh_init (fun c => yc_r s c n))).2.1, a1, a2, a3, a4, b5, a6, a7, a8, a9, a10, a11, a12, a13, a14, a15, a16, a17, a18, a19, a20, a21, b22, b23, b24, b25, b26, b27)) :
    wpX_packCodes post (fn, fk, fr, fd, fs, a1, a2, a3, a4, a5, a6, a7, a8, a9, a10, a11, a12, a13, a14, a15, a16, a17, a18, a19, a20, a21, a22, a23, a24, a25, a26, a27) := by
  subst hf
  have q := pk_loop (fun k c (b : (Nat → Int32) × (Nat → Int32) × (Nat → Int32) × (Nat → Int32)) => wX_packCodes_12 post (nI n) fk fr 0 0 k (nI c) a1 a2 a3 a4 a5 a6 a7 a8 a9 a10 a11 a12 a13 a14 a15 a16 a17 a18 a19 a20 a21 a22 a23 b.1 b.2.1 b.2.2.1 b.2.2.2)
    (fun c b => ∀ z, z < c → b.1 z = nI (if z < 8 then yc_r s z n else 0) ∧ b.2.1 z = 0 ∧ b.2.2.1 z = 0 ∧ b.2.2.2 z = 0) 16 0 (a24, a25, a26, a27) (by omega) (fun z hz => absurd hz (by omega)) ?_ ?_
  · obtain ⟨k, hk⟩ := q
    exact ⟨k, hk⟩
  · intro k b h
    refine pk_le 16 16 (fun _ => ?_) (fun z => absurd z (by omega))
    have hI := yh_I0 (s := s) hn
    refine yh_69 (fd := fd) (fs := fs) (a22 := a22) (a23 := a23) (a24 := a24) (a25 := a25) 8 (yh_init (fun c => yc_r s c n)) a22 a23 b.1 b.2.1 hI (by have := hI.2.2.2.2.2.1; omega) ⟨fun x hx => absurd hx (Nat.not_lt_zero x), fun z hz => ⟨(h z hz).1, (h z hz).2.1⟩⟩ (fun c22 c23 c24 c25 g1 g2 => ⟨1, br_t rfl ?_⟩)
    refine yh_name g2 rfl g1 (fun z hz => (h z hz).2.2) (fun b26 b27 ln bt g3 g4 => ?_)
    exact yh_204 hn hs rfl rfl g2.1 g3.1 g4 h0 (fun b5 g5 g6 => H b5 c22 c23 c24 c25 b26 b27 _ _ ln bt ⟨rfl, g2, g3, g5, g1, g4⟩ g6)
  · intro k c b hc h hk
    have fin : ∀ z0, z0 = nI (if c < 8 then yc_r s c n else 0) → wX_packCodes_39 post (wX_packCodes_12 post (nI n) fk fr 0 0 k) (nI c) z0 (nI c) (nI n) fk fr 0 0 a1 a2 a3 a4 a5 a6 a7 a8 a9 a10 a11 a12 a13 a14 a15 a16 a17 a18 a19 a20 a21 a22 a23 b.1 b.2.1 b.2.2.1 b.2.2.2 := by
      intro z0 hz0
      subst hz0
      have hr := yc_r_le s c n
      have hle : (if c < 8 then yc_r s c n else 0) < 1024 := by split <;> omega
      refine ⟨pk_in c 16 hc, ?_⟩
      rw [nI_clamp (by omega), yi_v16 hle]
      refine nm_e ⟨pk_in c 16 hc, nm_e ⟨pk_in c 16 hc, nm_e ⟨pk_in c 16 hc, nm_e (nm_r (nI_1 c) (hk (upd b.1 c (nI (if c < 8 then yc_r s c n else 0)), upd b.2.1 c 0, upd b.2.2.1 c 0, upd b.2.2.2 c 0) (fun z hz => ?_)))⟩⟩⟩
      show upd b.1 c _ z = _ ∧ upd b.2.1 c 0 z = 0 ∧ upd b.2.2.1 c 0 z = 0 ∧ upd b.2.2.2 c 0 z = 0
      by_cases e : z = c
      · subst e
        rw [pk_us, pk_us, pk_us, pk_us]; exact ⟨rfl, rfl, rfl, rfl⟩
      · rw [pk_un e, pk_un e, pk_un e, pk_un e]
        exact h z (by omega)
    refine pk_le 16 c (fun z => absurd z (by omega)) (fun _ => pk_le 8 c (fun z => fin 0 (by rw [if_neg (by omega)]; rfl)) (fun z => ⟨pk_in c 8 z, fin _ ?_⟩))
    rw [nI_clamp (by omega), if_pos z]
    exact h2 c z
end
section
/-! the whole state -/
def ys_N (s : Nat → Nat) (n : Nat) : Nat := (yh_run 8 (yh_init (fun c => yc_r s c n))).1
def ys_cs (s : Nat → Nat) (n : Nat) : Nat := (yh_run 8 (yh_init (fun c => yc_r s c n))).2.1
/-- packed: every engine holds the list -/
def ys_pk (s : Nat → Nat) (n : Nat) (u : St2) : Prop := match u with
  | (fn, fk, fr, fd, fs, a1, a2, a3, a4, a5, a6, a7, a8, a9, a10, a11, a12, a13, a14, a15, a16, a17, a18, a19, a20, a21, a22, a23, a24, a25, a26, a27) => yr_sum a5 a6 a7 ∧ (∀ c, c < 8 → a2 c = nI (yc_r s c n)) ∧ yt_all a5 s n ∧ (∃ t, ym_ok a5 a8 s n t) ∧ ya_ok a5 s n ∧ (∃ L R ln bt, yh_ok fd a5 a22 a23 a26 a27 s n (ys_N s n) L R ln bt) ∧
    yp_ok a9 a10 a11 a12 s n ∧ yb_ok a13 a14 a15 s n ∧ (fr = nI (yn_R s n) ∧ yn_ok a17 a18 a19 a20 a21 s n) ∧ fs = nI (ys_cs s n)
/-- the list s of n letters stands there -/
def ys_li (s : Nat → Nat) (n : Nat) (u : St2) : Prop := match u with
  | (fn, fk, fr, fd, fs, a1, a2, a3, a4, a5, a6, a7, a8, a9, a10, a11, a12, a13, a14, a15, a16, a17, a18, a19, a20, a21, a22, a23, a24, a25, a26, a27) => fn = nI n ∧ n ≤ 200 ∧ ys_let a1 s n ∧ yb_ch a16
def ys_ok (s : Nat → Nat) (n : Nat) (u : St2) : Prop := ys_li s n u ∧ (u.2.1 = 0 ∨ (u.2.1 = 1 ∧ ys_pk s n u))
def ys_full (s : Nat → Nat) (n : Nat) (u : St2) : Prop := ys_li s n u ∧ u.2.1 = 1 ∧ ys_pk s n u
theorem ys_fo {s : Nat → Nat} {n : Nat} {u : St2} (h : ys_full s n u) : ys_ok s n u := ⟨h.1, Or.inr h.2⟩
theorem ys_101 {fn fk fr fd fs : Int32} {a1 a2 a3 a4 a5 a6 a7 a8 a9 a10 a11 a12 a13 a14 a15 a16 a17 a18 a19 a20 a21 a22 a23 a24 a25 a26 a27 : Nat → Int32} {post : St2 → Prop} {s : Nat → Nat} {n : Nat} (hn : n ≤ 200) (hf : fn = nI n) (hs : ys_let a1 s n) (hC : yb_ch a16) (h2 : ∀ c, c < 8 → a2 c = nI (yc_r s c n))
    (H : ∀ b6 b7 b9 b10 b11 b12 b13 b14 b15 b17 b18 b19 b20 b21, yr_sum a5 b6 b7 → yp_ok b9 b10 b11 b12 s n → yb_ok b13 b14 b15 s n → yn_ok b17 b18 b19 b20 b21 s n → post (nI n, 1, nI (yn_R s n), fd, fs, a1, a2, a3, a4, a5, b6, b7, a8, b9, b10, b11, b12, b13, b14, b15, a16, b17, b18, b19, b20, b21, a22, a23, a24, a25, a26, a27)) :
    ∃ k, wX_pack_101 post k 0 fn fk fr fd fs a1 a2 a3 a4 a5 a6 a7 a8 a9 a10 a11 a12 a13 a14 a15 a16 a17 a18 a19 a20 a21 a22 a23 a24 a25 a26 a27 := by
  subst hf
  have q := pk_loop (fun k r (b : (Nat → Int32) × (Nat → Int32)) => wX_pack_101 post k (nI r) (nI n) fk fr fd fs a1 a2 a3 a4 a5 b.1 b.2 a8 a9 a10 a11 a12 a13 a14 a15 a16 a17 a18 a19 a20 a21 a22 a23 a24 a25 a26 a27) (fun r b => (∀ k, k < r * 8 → b.1 k = yr_g6 a5 k) ∧ (∀ k, k < r * 28 → b.2 k = yr_g7 a5 k)) 21 0 (a6, a7) (by omega) ⟨fun k z => absurd z (by omega), fun k z => absurd z (by omega)⟩ ?_ ?_
  · obtain ⟨k, hk⟩ := q
    exact ⟨k, hk⟩
  · intro k b h
    exact pk_le 21 21 (fun _ => yp_pack hn hs rfl h2 (fun b9 b10 b11 b12 g1 => yb_pack hn hs rfl hC (fun b13 b14 b15 g2 => yn_pack hn hs rfl (fun b17 b18 b19 b20 b21 g3 => H b.1 b.2 b9 b10 b11 b12 b13 b14 b15 b17 b18 b19 b20 b21 h g1 g2 g3)))) (fun z => absurd z (by omega))
  · intro k r b hr h hk
    exact pk_le 21 r (fun z => absurd z (by omega)) (fun _ => yr_sumRow r hr rfl h.1 h.2 (fun b6 b7 g1 g2 => nm_r (nI_1 r) (hk (b6, b7) ⟨g1, g2⟩)))
theorem ys_ttr {a b : Nat → Int32} {s : Nat → Nat} {n : Nat} (hn : n ≤ 200) (h : yt_all a s n) (e : ∀ r x, r < 3 → x < 224 → yr_row b r x = yr_row a r x) : yt_all b s n := by
  intro l hl j hj
  have hle := yt_le s (l := l) (p := yi_pf l (s j)) (show j ≤ n by omega)
  have hle2 : yt_pos s n l j < 224 := by unfold yt_pos; omega
  rw [e l _ hl hle2]
  exact h l hl j hj
theorem ys_mtr {a b a8 : Nat → Int32} {s : Nat → Nat} {n : Nat} {t : Nat → Nat → Nat} (hn : n ≤ 200) (h : ym_ok a a8 s n t) (e : ∀ r x, 3 ≤ r → r < 6 → x < 224 → yr_row b r x = yr_row a r x) : ym_ok b a8 s n t :=
  ⟨h.1, fun l hl => ⟨(h.2 l hl).1, (h.2 l hl).2.1, fun j hj => by rw [e (3 + l) j (by omega) (by omega) (by omega)]; exact (h.2 l hl).2.2 j hj⟩⟩
theorem ys_atr {a b : Nat → Int32} {s : Nat → Nat} {n : Nat} (hn : n ≤ 200) (h : ya_ok a s n) (e : ∀ r x, 6 ≤ r → r < 14 → x < 224 → yr_row b r x = yr_row a r x) : ya_ok b s n := by
  intro c hc j hj
  rw [e (6 + c) j (by omega) (by omega) (by omega)]
  exact h c hc j hj
theorem ys_53 {fn fk fr fd fs : Int32} {a1 a2 a3 a4 a5 a6 a7 a8 a9 a10 a11 a12 a13 a14 a15 a16 a17 a18 a19 a20 a21 a22 a23 a24 a25 a26 a27 : Nat → Int32} {post : St2 → Prop} {s : Nat → Nat} {n : Nat} (hn : n ≤ 200) (hf : fn = nI n) (hs : ys_let a1 s n) (hC : yb_ch a16) (h2 : ∀ c, c < 8 → a2 c = 0) (h0 : ∀ r x, r < 21 → x < 224 → yr_row a5 r x = false)
    (H : ∀ u, ys_full s n u → post u) : ∃ k, wX_pack_53 post fn fk fr fd fs k 0 a1 a2 a3 a4 a5 a6 a7 a8 a9 a10 a11 a12 a13 a14 a15 a16 a17 a18 a19 a20 a21 a22 a23 a24 a25 a26 a27 := by
  subst hf
  have q := pk_loop (fun k i (b : Nat → Int32) => wX_pack_53 post (nI n) fk fr fd fs k (nI i) a1 b a3 a4 a5 a6 a7 a8 a9 a10 a11 a12 a13 a14 a15 a16 a17 a18 a19 a20 a21 a22 a23 a24 a25 a26 a27) (fun i b => ∀ c, c < 8 → b c = nI (yc_r s c i)) n 0 a2 (by omega) (fun c hc => by rw [h2 c hc]; rfl) ?_ ?_
  · obtain ⟨k, hk⟩ := q
    exact ⟨k, hk⟩
  · intro k b h
    refine pk_le n n (fun _ => ?_) (fun z => absurd z (by omega))
    refine yt_pack hn hs rfl h0 (fun b5 t1 t2 => ym_pack hn hs rfl t2 (fun b3 b4 c5 b8 t m1 m2 m3 => ya_pack hn hs rfl m3 (fun d5 p1 p2 p3 => yh_pack hn hs rfl h p3 (fun e5 b22 b23 b24 b25 b26 b27 L R ln bt q1 q2 => ?_))))
    refine ys_101 hn rfl hs hC h (fun b6 b7 b9 b10 b11 b12 b13 b14 b15 b17 b18 b19 b20 b21 g1 g2 g3 g4 => H _ ?_)
    refine ⟨⟨rfl, hn, hs, hC⟩, rfl, g1, h, ?_, ⟨t, ?_⟩, ?_, ⟨L, R, ln, bt, q1⟩, g2, g3, ⟨rfl, g4⟩, rfl⟩
    · exact ys_ttr hn t1 (fun r x hr hx => by rw [q2 r x (by omega) hx, p2 r x (by omega) hx, m2 r x hr hx])
    · exact ys_mtr hn m1 (fun r x h1 h2 hx => by rw [q2 r x (by omega) hx, p2 r x (by omega) hx])
    · exact ys_atr hn p1 (fun r x h1 h2 hx => q2 r x h2 hx)
  · intro k i b hi h hk
    obtain ⟨s1, s2⟩ := hs i hi
    have hr := yc_r_le s (s i) i
    refine pk_le n i (fun z => absurd z (by omega)) (fun _ => ⟨pk_in i 200 (by omega), ?_⟩)
    rw [nI_clamp (by omega), s1]
    refine ⟨pk_in (s i) 8 s2, pk_in (s i) 8 s2, ?_⟩
    rw [nI_clamp (by omega), h _ s2, nI_1, yi_n16 _ (by omega)]
    refine nm_e (nm_r (nI_1 i) (hk _ (fun c hc => ?_)))
    by_cases e : c = s i
    · subst e
      rw [pk_us, yc_r_t rfl]
    · rw [pk_un e, yc_r_f (fun z => e z.symm)]
      exact h c hc
theorem ys_pack {post : St2 → Prop} {s : Nat → Nat} {n : Nat} {u : St2} (h : ys_ok s n u) (H : ∀ u, ys_full s n u → post u) : wpX_pack post u := by
  obtain ⟨fn, fk, fr, fd, fs, a1, a2, a3, a4, a5, a6, a7, a8, a9, a10, a11, a12, a13, a14, a15, a16, a17, a18, a19, a20, a21, a22, a23, a24, a25, a26, a27⟩ := u
  obtain ⟨⟨hf, hn, hs, hC⟩, h⟩ := h
  rcases h with h | ⟨h, hp⟩
  · have hf' : fn = nI n := hf
    subst hf'
    refine br_t h ?_
    have q32 : ∀ c5, (∀ r x, r < 21 → x < 224 → yr_row c5 r x = false) → ∃ k, wX_pack_32 post (nI n) fk fr fd fs k 0 a1 a2 a3 a4 c5 a6 a7 a8 a9 a10 a11 a12 a13 a14 a15 a16 a17 a18 a19 a20 a21 a22 a23 a24 a25 a26 a27 := by
      intro c5 h0
      have q := pk_loop (fun k i (b : Nat → Int32) => wX_pack_32 post (nI n) fk fr fd fs k (nI i) a1 b a3 a4 c5 a6 a7 a8 a9 a10 a11 a12 a13 a14 a15 a16 a17 a18 a19 a20 a21 a22 a23 a24 a25 a26 a27) (fun i b => ∀ j, j < i → b j = 0) 8 0 a2 (by omega) (fun x z => absurd z (by omega)) ?_ ?_
      · obtain ⟨k, hk⟩ := q
        exact ⟨k, hk⟩
      · intro k b hb
        exact pk_le 8 8 (fun _ => ys_53 hn rfl hs hC hb h0 H) (fun z => absurd z (by omega))
      · intro k i b hi hb hk
        refine pk_le 8 i (fun z => absurd z (by omega)) (fun _ => ⟨pk_in i 8 hi, nm_e (nm_r (nI_1 i) (hk _ ?_))⟩)
        intro j hj
        rw [nI_clamp (by omega)]
        by_cases e : j = i
        · rw [e, pk_us]
        · rw [pk_un e]
          exact hb j (by omega)
    have q := pk_loop (fun k i (b : Nat → Int32) => wX_pack_10 post (nI n) fk fr fd fs k (nI i) a1 a2 a3 a4 b a6 a7 a8 a9 a10 a11 a12 a13 a14 a15 a16 a17 a18 a19 a20 a21 a22 a23 a24 a25 a26 a27) (fun i b => ∀ j, j < i → b j = 0) 147 0 a5 (by omega) (fun x z => absurd z (by omega)) ?_ ?_
    · obtain ⟨k, hk⟩ := q
      exact ⟨k, hk⟩
    · intro k b hb
      refine pk_le 147 147 (fun _ => q32 b (fun r x hr hx => ?_)) (fun z => absurd z (by omega))
      unfold yr_row
      rw [hb _ (by omega)]
      exact yi_0 _
    · intro k i b hi hb hk
      refine pk_le 147 i (fun z => absurd z (by omega)) (fun _ => ⟨pk_in i 147 hi, nm_e (nm_r (nI_1 i) (hk _ ?_))⟩)
      intro j hj
      rw [nI_clamp (by omega)]
      by_cases e : j = i
      · rw [e, pk_us]
      · rw [pk_un e]
        exact hb j (by omega)
  · exact br_f (by rw [show fk = 1 from h]; decide) (H _ ⟨⟨hf, hn, hs, hC⟩, h, hp⟩)
end
section
/-! what the engines answer, by number -/
theorem yq_rank {fn fk fr fd fs : Int32} {a1 a2 a3 a4 a5 a6 a7 a8 a9 a10 a11 a12 a13 a14 a15 a16 a17 a18 a19 a20 a21 a22 a23 a24 a25 a26 a27 : Nat → Int32} {post : Int32 → Prop} {s : Nat → Nat} {n e c i : Nat} {x y z : Int32} (h : ys_full s n (fn, fk, fr, fd, fs, a1, a2, a3, a4, a5, a6, a7, a8, a9, a10, a11, a12, a13, a14, a15, a16, a17, a18, a19, a20, a21, a22, a23, a24, a25, a26, a27)) (he : e < 7) (hc : c < 8) (hi : i ≤ n) (hx : x = nI e) (hy : y = nI c) (hz : z = nI i)
    (H : post (nI (yc_r s c i))) : wpX_rankBy post (fn, fk, fr, fd, fs, a1, a2, a3, a4, a5, a6, a7, a8, a9, a10, a11, a12, a13, a14, a15, a16, a17, a18, a19, a20, a21, a22, a23, a24, a25, a26, a27) x y z := by
  subst hx
  obtain ⟨⟨hf, hn, hs, hC⟩, _, hS, h2, hT, ⟨t, hM⟩, hA, ⟨L, R, ln, bt, hH⟩, hP, hB, ⟨hr, hN⟩, _⟩ := h
  have hs8 : ∀ j, j < n → s j < 8 := fun j hj => (hs j hj).2
  refine br_f (nI_pos (by omega)) (pk_lt 5 e (fun w => ?_) (fun w => ?_))
  · exact yh_rank hn hs8 hS h2 hH hc hi hy hz H
  · refine pk_eq e 0 (fun w0 => yt_rank hn hf hs8 hS hT hc hi hy hz H) (fun w0 => pk_eq e 1 (fun w1 => ym_rank hn hs8 hS hM hc hi hy hz H) (fun w1 => pk_eq e 2 (fun w2 => ya_rank hn hS hA hc hi (by rw [hy]) hz H) (fun w2 => pk_eq e 3 (fun w3 => yp_rank hn hs8 h2 hP hc hi hy hz H) (fun w3 => pk_eq e 4 (fun w4 => yb_rank hn hC hB hc hi hy hz H) (fun w4 => pk_eq e 5 (fun w5 => yn_rank hn hs8 hr hN hc hi hy hz H) (fun w5 => absurd w (by omega)))))))
theorem yq_atr {fn fk fr fd fs : Int32} {a1 a2 a3 a4 a5 a6 a7 a8 a9 a10 a11 a12 a13 a14 a15 a16 a17 a18 a19 a20 a21 a22 a23 a24 a25 a26 a27 : Nat → Int32} {post : Int32 → Prop} {s : Nat → Nat} {n e i : Nat} {x y : Int32} (h : ys_full s n (fn, fk, fr, fd, fs, a1, a2, a3, a4, a5, a6, a7, a8, a9, a10, a11, a12, a13, a14, a15, a16, a17, a18, a19, a20, a21, a22, a23, a24, a25, a26, a27)) (he : e < 7) (hi : i < n) (hx : x = nI e) (hy : y = nI i)
    (H : post (nI (s i))) : wpX_atByRanks post (fn, fk, fr, fd, fs, a1, a2, a3, a4, a5, a6, a7, a8, a9, a10, a11, a12, a13, a14, a15, a16, a17, a18, a19, a20, a21, a22, a23, a24, a25, a26, a27) x y := by
  have hs := h.1.2.2.1
  have hn : n ≤ 200 := h.1.2.1
  have s8 : s i < 8 := (hs i hi).2
  subst hx hy
  have q := pk_loop (σ := Unit) (fun k c _ => wX_atByRanks_5 post (nI e) (nI i) fn fk fr fd fs a1 a2 a3 a4 a5 a6 a7 a8 a9 a10 a11 a12 a13 a14 a15 a16 a17 a18 a19 a20 a21 a22 a23 a24 a25 a26 a27 k (nI (if s i < c then s i else 0)) (nI c)) (fun _ _ => True) 8 0 () (by omega) trivial ?_ ?_
  · obtain ⟨k, hk⟩ := q
    exact ⟨k, hk⟩
  · intro k _ _
    refine pk_le 8 8 (fun _ => ?_) (fun z => absurd z (by omega))
    show post (nI (if s i < 8 then s i else 0))
    rw [if_pos s8]; exact H
  · intro k c _ hc _ hk
    have hk' : wX_atByRanks_5 post (nI e) (nI i) fn fk fr fd fs a1 a2 a3 a4 a5 a6 a7 a8 a9 a10 a11 a12 a13 a14 a15 a16 a17 a18 a19 a20 a21 a22 a23 a24 a25 a26 a27 k (nI (if s i < c + 1 then s i else 0)) (nI (c + 1)) := hk () trivial
    have r1 := yc_r_le s c i
    have r2 := yc_r_le s c (i + 1)
    refine pk_le 8 c (fun z => absurd z (by omega)) (fun _ => yq_rank h he hc (Nat.le_of_lt hi) rfl rfl rfl (yq_rank h he hc (show i + 1 ≤ n from hi) rfl rfl (nI_1 i) ?_))
    by_cases g : s i = c
    · have e1 := yc_r_t g
      refine pk_le (yc_r s c (i + 1)) (yc_r s c i) (fun z => absurd z (by omega)) (fun _ => nm_r (nI_1 c) ?_)
      rw [if_pos (by omega), g] at hk'
      exact hk'
    · have e1 := yc_r_f g
      refine pk_le (yc_r s c (i + 1)) (yc_r s c i) (fun _ => nm_r (nI_1 c) ?_) (fun z => absurd z (by omega))
      by_cases g2 : s i < c
      · rw [if_pos (by omega)] at hk'
        rw [if_pos g2]; exact hk'
      · rw [if_neg (by omega)] at hk'
        rw [if_neg g2]; exact hk'
theorem yq_at {fn fk fr fd fs : Int32} {a1 a2 a3 a4 a5 a6 a7 a8 a9 a10 a11 a12 a13 a14 a15 a16 a17 a18 a19 a20 a21 a22 a23 a24 a25 a26 a27 : Nat → Int32} {post : Int32 → Prop} {s : Nat → Nat} {n e i : Nat} {x y : Int32} (h : ys_full s n (fn, fk, fr, fd, fs, a1, a2, a3, a4, a5, a6, a7, a8, a9, a10, a11, a12, a13, a14, a15, a16, a17, a18, a19, a20, a21, a22, a23, a24, a25, a26, a27)) (he : e < 7) (hi : i < n) (hx : x = nI e) (hy : y = nI i)
    (H : post (nI (s i))) : wpX_atBy post (fn, fk, fr, fd, fs, a1, a2, a3, a4, a5, a6, a7, a8, a9, a10, a11, a12, a13, a14, a15, a16, a17, a18, a19, a20, a21, a22, a23, a24, a25, a26, a27) x y := by
  have h' := h
  subst hx
  obtain ⟨⟨hf, hn, hs, hC⟩, _, hS, h2, hT, ⟨t, hM⟩, hA, ⟨L, R, ln, bt, hH⟩, hP, hB, ⟨hr, hN⟩, _⟩ := h
  have hs8 : ∀ j, j < n → s j < 8 := fun j hj => (hs j hj).2
  refine pk_eq e 0 (fun w0 => yt_at hn hf hs8 hS hT hi hy H) (fun w0 => pk_eq e 1 (fun w1 => ym_at hn hs8 hS hM hi hy H) (fun w1 => pk_eq e 6 (fun w2 => yh_at hn hs hS hH hi hy H) (fun w2 => pk_eq e 5 (fun w3 => yn_at hn hr hN hi (by rw [hy]) H) (fun w3 => yq_atr h' he hi rfl hy H))))
theorem yq_selr {fn fk fr fd fs : Int32} {a1 a2 a3 a4 a5 a6 a7 a8 a9 a10 a11 a12 a13 a14 a15 a16 a17 a18 a19 a20 a21 a22 a23 a24 a25 a26 a27 : Nat → Int32} {post : Int32 → Prop} {s : Nat → Nat} {n e q : Nat} {x y z : Int32} (h : ys_full s n (fn, fk, fr, fd, fs, a1, a2, a3, a4, a5, a6, a7, a8, a9, a10, a11, a12, a13, a14, a15, a16, a17, a18, a19, a20, a21, a22, a23, a24, a25, a26, a27)) (he : e < 7) (hq : q < n) (hx : x = nI e) (hy : y = nI (s q)) (hz : z = nI (yc_r s (s q) q))
    (H : post (nI q)) : wpX_selectByRanks post (fn, fk, fr, fd, fs, a1, a2, a3, a4, a5, a6, a7, a8, a9, a10, a11, a12, a13, a14, a15, a16, a17, a18, a19, a20, a21, a22, a23, a24, a25, a26, a27) x y z := by
  have hn : n ≤ 200 := h.1.2.1
  have hf : fn = nI n := h.1.1
  have s8 : s q < 8 := (h.1.2.2.1 q hq).2
  have hrq := yc_r_le s (s q) q
  subst hx hy hz hf
  refine yc_half (fun m lo hj => wX_selectByRanks_9 post (nI e) (nI (s q)) (nI (yc_r s (s q) q)) (nI n) fk fr fd fs a1 a2 a3 a4 a5 a6 a7 a8 a9 a10 a11 a12 a13 a14 a15 a16 a17 a18 a19 a20 a21 a22 a23 a24 a25 a26 a27 m (nI lo) (nI hj)) q n (Nat.le_of_lt hq) (fun m => pk_le q q (fun _ => H) (fun z => absurd z (by omega))) ?_
  intro m lo hj h1 h2' h3 hlt hw
  refine pk_le hj lo (fun z => absurd z (by omega)) (fun _ => ⟨by decide, ?_⟩)
  have e1 : (nI lo + nI hj) / 2 = nI ((lo + hj) / 2) := by
    rw [nI_add]
    exact pk_div (d := 2) (by omega) (by omega) (by omega)
  refine nm_r e1 ?_
  have hm1 : lo ≤ (lo + hj) / 2 := by omega
  have hm2 : (lo + hj) / 2 < hj := by omega
  generalize (lo + hj) / 2 = md at *
  have hrm := yc_r_le s (s q) (md + 1)
  refine yq_rank h he s8 (show md + 1 ≤ n by omega) rfl rfl (nI_1 md) ?_
  refine pk_lt (yc_r s (s q) q) (yc_r s (s q) (md + 1)) (fun w => ?_) (fun w => ?_)
  · have hq2 : q ≤ md := by
      rcases Nat.lt_or_ge md q with g | g
      · have := yc_r_mono (s := s) (c := s q) (show md + 1 ≤ q from g); omega
      · exact g
    exact br_t rfl (br_t rfl (hw lo md h1 hq2 (by omega) (by omega) (by omega)))
  · have hq2 : md < q := by
      rcases Nat.lt_or_ge md q with g | g
      · exact g
      · have := yc_r_lt (show q < md + 1 by omega) (rfl : s q = s q); omega
    refine br_f (by decide) (br_f (by decide) ?_)
    rw [nI_1]
    exact hw (md + 1) hj hq2 h2' (by omega) (by omega) (by omega)
theorem yq_inR {fn fk fr fd fs : Int32} {a1 a2 a3 a4 a5 a6 a7 a8 a9 a10 a11 a12 a13 a14 a15 a16 a17 a18 a19 a20 a21 a22 a23 a24 a25 a26 a27 : Nat → Int32} {post : Int32 → Prop} {s : Nat → Nat} {n e c i j : Nat} {x y z w : Int32} (h : ys_full s n (fn, fk, fr, fd, fs, a1, a2, a3, a4, a5, a6, a7, a8, a9, a10, a11, a12, a13, a14, a15, a16, a17, a18, a19, a20, a21, a22, a23, a24, a25, a26, a27)) (he : e < 7) (hc : c < 8) (hij : i ≤ j) (hj : j ≤ n) (hx : x = nI e) (hy : y = nI c) (hz : z = nI i) (hw : w = nI j)
    (H : post (nI (yc_r s c j - yc_r s c i))) : wpX_inRange post (fn, fk, fr, fd, fs, a1, a2, a3, a4, a5, a6, a7, a8, a9, a10, a11, a12, a13, a14, a15, a16, a17, a18, a19, a20, a21, a22, a23, a24, a25, a26, a27) x y z w := by
  refine yq_rank h he hc (Nat.le_trans hij hj) hx hy hz (yq_rank h he hc hj hx hy hw ?_)
  rw [pk_sub (yc_r_mono hij)]
  exact H
theorem yq_belowBy {fn fk fr fd fs : Int32} {a1 a2 a3 a4 a5 a6 a7 a8 a9 a10 a11 a12 a13 a14 a15 a16 a17 a18 a19 a20 a21 a22 a23 a24 a25 a26 a27 : Nat → Int32} {post : Int32 → Prop} {s : Nat → Nat} {n e c i j : Nat} {x y z w : Int32} (h : ys_full s n (fn, fk, fr, fd, fs, a1, a2, a3, a4, a5, a6, a7, a8, a9, a10, a11, a12, a13, a14, a15, a16, a17, a18, a19, a20, a21, a22, a23, a24, a25, a26, a27)) (he : e < 7) (hc : c ≤ 8) (hij : i ≤ j) (hj : j ≤ n) (hx : x = nI e) (hy : y = nI i) (hz : z = nI j) (hw : w = nI c)
    (H : post (nI (yc_b s c j - yc_b s c i))) : wpX_belowBy post (fn, fk, fr, fd, fs, a1, a2, a3, a4, a5, a6, a7, a8, a9, a10, a11, a12, a13, a14, a15, a16, a17, a18, a19, a20, a21, a22, a23, a24, a25, a26, a27) x y z w := by
  have h' := h
  obtain ⟨⟨hf, hn, hs, hC⟩, _, hS, h2, hT, _⟩ := h
  have hs8 : ∀ j, j < n → s j < 8 := fun j hj => (hs j hj).2
  subst hx hy hz hw
  refine pk_eq c 8 (fun g => ?_) (fun g => pk_eq e 0 (fun g0 => ?_) (fun g0 => ?_))
  · rw [g, yc_b_8 hs8 hj, yc_b_8 hs8 (Nat.le_trans hij hj)] at H
    rw [pk_sub hij]; exact H
  · refine yt_below hn hf hs8 hS hT (by omega) (Nat.le_trans hij hj) rfl rfl (yt_below hn hf hs8 hS hT (by omega) hj rfl rfl ?_)
    rw [pk_sub (yc_b_mono hij)]
    exact H
  · have q := pk_loop (σ := Unit) (fun k d _ => wX_belowBy_41 post (nI e) (nI i) (nI j) (nI c) fn fk fr fd fs a1 a2 a3 a4 a5 a6 a7 a8 a9 a10 a11 a12 a13 a14 a15 a16 a17 a18 a19 a20 a21 a22 a23 a24 a25 a26 a27 k (nI (yc_b s d j - yc_b s d i)) (nI d)) (fun _ _ => True) c 0 () (by omega) trivial ?_ ?_
    · obtain ⟨k, hk⟩ := q
      have hk' : wX_belowBy_41 post (nI e) (nI i) (nI j) (nI c) fn fk fr fd fs a1 a2 a3 a4 a5 a6 a7 a8 a9 a10 a11 a12 a13 a14 a15 a16 a17 a18 a19 a20 a21 a22 a23 a24 a25 a26 a27 k (nI (yc_b s 0 j - yc_b s 0 i)) (nI 0) := hk
      rw [yc_b_0, yc_b_0] at hk'
      exact ⟨k, hk'⟩
    · intro k _ _
      exact pk_le c c (fun _ => H) (fun z => absurd z (by omega))
    · intro k d _ hd _ hk
      have hk' : wX_belowBy_41 post (nI e) (nI i) (nI j) (nI c) fn fk fr fd fs a1 a2 a3 a4 a5 a6 a7 a8 a9 a10 a11 a12 a13 a14 a15 a16 a17 a18 a19 a20 a21 a22 a23 a24 a25 a26 a27 k (nI (yc_b s (d + 1) j - yc_b s (d + 1) i)) (nI (d + 1)) := hk () trivial
      refine pk_le c d (fun z => absurd z (by omega)) (fun _ => yq_inR h' he (show d < 8 by omega) hij hj rfl rfl rfl rfl (nm_r (nI_add _ _) (nm_r (nI_1 d) ?_)))
      have m1 := yc_b_mono (s := s) (c := d) hij
      have m2 := yc_r_mono (s := s) (c := d) hij
      rw [yc_b_s, yc_b_s] at hk'
      rw [show yc_b s d j - yc_b s d i + (yc_r s d j - yc_r s d i) = yc_b s d j + yc_r s d j - (yc_b s d i + yc_r s d i) by omega]
      exact hk'
end
section
/-! the public methods -/
theorem yq_isL {post : Int32 → Prop} {x : Int32} (c : Nat) (hc : c < 8) (hx : x = nI c) (H : post 1) : wpX_isLetter post () x := by
  subst hx
  exact br_f (nI_pos (by omega)) (pk_le 8 c (fun z => absurd z (by omega)) (fun _ => H))
theorem yq_isE {post : Int32 → Prop} {x : Int32} (e : Nat) (he : e < 7) (hx : x = nI e) (H : post 1) : wpX_isEngine post () x := by
  subst hx
  exact br_f (nI_pos (by omega)) (pk_le 7 e (fun z => absurd z (by omega)) (fun _ => H))
theorem yq_isL8 {post : Int32 → Prop} (H : post 0) : wpX_isLetter post () 8 := br_f (by decide) (br_t (by decide) H)
theorem yq_isE7 {post : Int32 → Prop} (H : post 0) : wpX_isEngine post () 7 := br_f (by decide) (br_t (by decide) H)
theorem yq_isRF {fn fk fr fd fs : Int32} {a1 a2 a3 a4 a5 a6 a7 a8 a9 a10 a11 a12 a13 a14 a15 a16 a17 a18 a19 a20 a21 a22 a23 a24 a25 a26 a27 : Nat → Int32} {post : Int32 → Prop} (H : post 0) : wpX_isRange post (fn, fk, fr, fd, fs, a1, a2, a3, a4, a5, a6, a7, a8, a9, a10, a11, a12, a13, a14, a15, a16, a17, a18, a19, a20, a21, a22, a23, a24, a25, a26, a27) 5 4 := br_f (by decide) (br_t (by decide) H)
theorem yq_isR {fn fk fr fd fs : Int32} {a1 a2 a3 a4 a5 a6 a7 a8 a9 a10 a11 a12 a13 a14 a15 a16 a17 a18 a19 a20 a21 a22 a23 a24 a25 a26 a27 : Nat → Int32} {post : Int32 → Prop} {x y : Int32} {n : Nat} (i j : Nat) (hf : fn = nI n) (hn : n ≤ 200) (hij : i ≤ j) (hj : j ≤ n) (hx : x = nI i) (hy : y = nI j) (H : post 1) : wpX_isRange post (fn, fk, fr, fd, fs, a1, a2, a3, a4, a5, a6, a7, a8, a9, a10, a11, a12, a13, a14, a15, a16, a17, a18, a19, a20, a21, a22, a23, a24, a25, a26, a27) x y := by
  subst hx hy hf
  exact br_f (nI_pos (by omega)) (pk_lt j i (fun z => absurd z (by omega)) (fun _ => pk_lt n j (fun z => absurd z (by omega)) (fun _ => H)))
theorem yq_Rank {post : Int32 → St2 → Prop} {s : Nat → Nat} {n e c i : Nat} {u : St2} {x y z : Int32} (h : ys_ok s n u) (he : e < 7) (hc : c < 8) (hi : i ≤ n) (hx : x = nI e) (hy : y = nI c) (hz : z = nI i)
    (H : ∀ u, ys_ok s n u → post (nI (yc_r s c i)) u) : wpX_rank post u x y z := by
  obtain ⟨fn, fk, fr, fd, fs, a1, a2, a3, a4, a5, a6, a7, a8, a9, a10, a11, a12, a13, a14, a15, a16, a17, a18, a19, a20, a21, a22, a23, a24, a25, a26, a27⟩ := u
  have hf : fn = nI n := h.1.1
  have hn : n ≤ 200 := h.1.2.1
  unfold wpX_rank
  refine yq_isE e he hx ?_
  refine br_f (by decide) (yq_isL c hc hy (br_f (by decide) ?_))
  subst hz hf
  refine br_f (nI_pos (by omega)) (pk_le i n (fun _ => ys_pack h ?_) (fun z => absurd z (by omega)))
  intro u hu
  obtain ⟨fn, fk, fr, fd, fs, a1, a2, a3, a4, a5, a6, a7, a8, a9, a10, a11, a12, a13, a14, a15, a16, a17, a18, a19, a20, a21, a22, a23, a24, a25, a26, a27⟩ := u
  exact yq_rank hu he hc hi hx hy rfl (H _ (ys_fo hu))
theorem yq_At {post : Int32 → St2 → Prop} {s : Nat → Nat} {n e i : Nat} {u : St2} {x y : Int32} (h : ys_ok s n u) (he : e < 7) (hi : i < n) (hx : x = nI e) (hy : y = nI i)
    (H : ∀ u, ys_ok s n u → post (nI (s i)) u) : wpX_at post u x y := by
  obtain ⟨fn, fk, fr, fd, fs, a1, a2, a3, a4, a5, a6, a7, a8, a9, a10, a11, a12, a13, a14, a15, a16, a17, a18, a19, a20, a21, a22, a23, a24, a25, a26, a27⟩ := u
  have hf : fn = nI n := h.1.1
  have hn : n ≤ 200 := h.1.2.1
  unfold wpX_at
  refine yq_isE e he hx ?_
  refine br_f (by decide) ?_
  subst hy hf
  refine br_f (nI_pos (by omega)) (pk_lt i n (fun _ => ys_pack h ?_) (fun z => absurd z (by omega)))
  intro u hu
  obtain ⟨fn, fk, fr, fd, fs, a1, a2, a3, a4, a5, a6, a7, a8, a9, a10, a11, a12, a13, a14, a15, a16, a17, a18, a19, a20, a21, a22, a23, a24, a25, a26, a27⟩ := u
  exact yq_at hu he hi hx rfl (H _ (ys_fo hu))
theorem yq_Select {post : Int32 → St2 → Prop} {s : Nat → Nat} {n e q : Nat} {u : St2} {x y z : Int32} (h : ys_ok s n u) (he : e < 7) (hq : q < n) (hx : x = nI e) (hy : y = nI (s q)) (hz : z = nI (yc_r s (s q) q))
    (H : ∀ u, ys_ok s n u → post (nI q) u) : wpX_select post u x y z := by
  obtain ⟨fn, fk, fr, fd, fs, a1, a2, a3, a4, a5, a6, a7, a8, a9, a10, a11, a12, a13, a14, a15, a16, a17, a18, a19, a20, a21, a22, a23, a24, a25, a26, a27⟩ := u
  refine ys_pack h ?_
  clear h
  intro u hu
  obtain ⟨fn, fk, fr, fd, fs, a1, a2, a3, a4, a5, a6, a7, a8, a9, a10, a11, a12, a13, a14, a15, a16, a17, a18, a19, a20, a21, a22, a23, a24, a25, a26, a27⟩ := u
  have hu' := hu
  obtain ⟨⟨hf, hn, hs, hC⟩, _, hS, h2, hT, ⟨t, hM⟩, hA, ⟨L, R, ln, bt, hH⟩, hP, hB, ⟨hr, hN⟩, _⟩ := hu
  have hs8 : ∀ j, j < n → s j < 8 := fun j hj => (hs j hj).2
  have s8 := hs8 q hq
  have hrl := yc_r_le s (s q) n
  have hrq := yc_r_lt hq (rfl : s q = s q)
  refine yq_isE e he hx (br_f (by decide) (yq_isL (s q) s8 hy (br_f (by decide) ?_)))
  subst hx hy hz
  refine br_f (nI_pos (by omega)) ⟨pk_in (s q) 8 s8, ?_⟩
  rw [nI_clamp (by omega), h2 _ s8]
  have HH := H _ (ys_fo hu')
  refine pk_lt (yc_r s (s q) q) (yc_r s (s q) n) (fun _ => ?_) (fun z => absurd z (by omega))
  exact pk_eq e 1 (fun _ => ym_select hn hf hs8 hS hM hq rfl rfl HH) (fun _ => pk_eq e 2 (fun _ => ya_select hn hf hs8 hS hA hq rfl rfl HH) (fun _ => pk_eq e 3 (fun _ => yp_select hn hs8 hP hq rfl rfl HH) (fun _ => pk_eq e 5 (fun _ => yn_select hn hs8 hN hq rfl rfl HH) (fun _ => yq_selr hu' he hq rfl rfl rfl HH))))
theorem yq_SelectN {post : Int32 → St2 → Prop} {s : Nat → Nat} {n e c k : Nat} {u : St2} {x y z : Int32} (h : ys_ok s n u) (he : e < 7) (hc : c < 8) (hk : yc_r s c n ≤ k) (hk2 : k < 1000) (hx : x = nI e) (hy : y = nI c) (hz : z = nI k)
    (H : ∀ u, ys_ok s n u → post (-1) u) : wpX_select post u x y z := by
  obtain ⟨fn, fk, fr, fd, fs, a1, a2, a3, a4, a5, a6, a7, a8, a9, a10, a11, a12, a13, a14, a15, a16, a17, a18, a19, a20, a21, a22, a23, a24, a25, a26, a27⟩ := u
  refine ys_pack h ?_
  clear h
  intro u hu
  obtain ⟨fn, fk, fr, fd, fs, a1, a2, a3, a4, a5, a6, a7, a8, a9, a10, a11, a12, a13, a14, a15, a16, a17, a18, a19, a20, a21, a22, a23, a24, a25, a26, a27⟩ := u
  have h2 := hu.2.2.2.1
  refine yq_isE e he hx ?_
  refine br_f (by decide) (yq_isL c hc hy (br_f (by decide) ?_))
  subst hx hy hz
  refine br_f (nI_pos (by omega)) ⟨pk_in c 8 hc, ?_⟩
  rw [nI_clamp (by omega), h2 c hc]
  exact pk_lt k (yc_r s c n) (fun z => absurd z (by omega)) (fun _ => H _ (ys_fo hu))
theorem yq_Below {post : Int32 → St2 → Prop} {s : Nat → Nat} {n e c i j : Nat} {u : St2} {x y z w : Int32} (h : ys_ok s n u) (he : e < 7) (hc : c ≤ 8) (hij : i ≤ j) (hj : j ≤ n) (hx : x = nI e) (hy : y = nI i) (hz : z = nI j) (hw : w = nI c)
    (H : ∀ u, ys_ok s n u → post (nI (yc_b s c j - yc_b s c i)) u) : wpX_below post u x y z w := by
  obtain ⟨fn, fk, fr, fd, fs, a1, a2, a3, a4, a5, a6, a7, a8, a9, a10, a11, a12, a13, a14, a15, a16, a17, a18, a19, a20, a21, a22, a23, a24, a25, a26, a27⟩ := u
  have hf : fn = nI n := h.1.1
  have hn : n ≤ 200 := h.1.2.1
  unfold wpX_below
  refine yq_isE e he hx ?_
  refine br_f (by decide) (yq_isR i j hf hn hij hj hy hz (br_f (by decide) ?_))
  subst hw
  refine br_f (nI_pos (by omega)) (pk_le c 8 (fun _ => ys_pack h ?_) (fun z => absurd z (by omega)))
  intro u hu
  obtain ⟨fn, fk, fr, fd, fs, a1, a2, a3, a4, a5, a6, a7, a8, a9, a10, a11, a12, a13, a14, a15, a16, a17, a18, a19, a20, a21, a22, a23, a24, a25, a26, a27⟩ := u
  exact yq_belowBy hu he hc hij hj hx hy hz rfl (H _ (ys_fo hu))
theorem yq_Ordered {post : Int32 → St2 → Prop} {s : Nat → Nat} {n e i j k : Nat} {u : St2} {x y z w : Int32} (h : ys_ok s n u) (he : e < 7) (hij : i ≤ j) (hj : j ≤ n) (hk : k < j - i) (hx : x = nI e) (hy : y = nI i) (hz : z = nI j) (hw : w = nI k)
    (H : ∀ r u, r < 8 → yc_b s r j ≤ yc_b s r i + k → yc_b s (r + 1) i + k < yc_b s (r + 1) j → ys_ok s n u → post (nI r) u) : wpX_ordered post u x y z w := by
  obtain ⟨fn, fk, fr, fd, fs, a1, a2, a3, a4, a5, a6, a7, a8, a9, a10, a11, a12, a13, a14, a15, a16, a17, a18, a19, a20, a21, a22, a23, a24, a25, a26, a27⟩ := u
  have hf : fn = nI n := h.1.1
  have hn : n ≤ 200 := h.1.2.1
  unfold wpX_ordered
  refine yq_isE e he hx ?_
  refine br_f (by decide) (yq_isR i j hf hn hij hj hy hz (br_f (by decide) ?_))
  subst hx hy hz hw
  refine br_f (nI_pos (by omega)) ?_
  rw [pk_sub hij]
  refine pk_lt k (j - i) (fun _ => ys_pack h ?_) (fun z => absurd z (by omega))
  intro u hu
  obtain ⟨fn, fk, fr, fd, fs, a1, a2, a3, a4, a5, a6, a7, a8, a9, a10, a11, a12, a13, a14, a15, a16, a17, a18, a19, a20, a21, a22, a23, a24, a25, a26, a27⟩ := u
  have hu' := hu
  obtain ⟨⟨_, _, hs, hC⟩, _, hS, h2, hT, ⟨t, hM⟩, _⟩ := hu
  have hs8 : ∀ j, j < n → s j < 8 := fun j hj => (hs j hj).2
  have HH := fun r h1 h2 h3 => H r _ h1 h2 h3 (ys_fo hu')
  refine pk_eq e 1 (fun _ => ym_ordered hn hs8 hS hM hij hj hk rfl rfl rfl HH) (fun _ => ?_)
  have key : ∀ m r, r + m = 7 → yc_b s r j ≤ yc_b s r i + k → wX_ordered_52 post (nI e) (nI i) (nI j) (nI k) fn fk fr fd fs a1 a2 a3 a4 a5 a6 a7 a8 a9 a10 a11 a12 a13 a14 a15 a16 a17 a18 a19 a20 a21 a22 a23 a24 a25 a26 a27 (m + 1) (nI r) := by
    intro m
    induction m with
    | zero =>
      intro r hr hb
      have er : r = 7 := by omega
      subst er
      refine pk_le 7 7 (fun _ => HH 7 (by omega) hb ?_) (fun z => absurd z (by omega))
      rw [yc_b_8 hs8 hj, yc_b_8 hs8 (Nat.le_trans hij hj)]
      omega
    | succ m ih =>
      intro r hr hb
      have m1 := yc_b_mono (s := s) (c := r + 1) hij
      have m2 : yc_b s (r + 1) j ≤ j := yc_le _ _
      refine pk_le 7 r (fun z => absurd z (by omega)) (fun _ => yq_belowBy hu' he (show r + 1 ≤ 8 by omega) hij hj rfl rfl rfl (nI_1 r) ?_)
      refine pk_lt k (yc_b s (r + 1) j - yc_b s (r + 1) i) (fun z => HH r (by omega) hb (by omega)) (fun z => nm_r (nI_1 r) (ih (r + 1) (by omega) (by omega)))
  exact ⟨8, key 7 0 (by omega) (by rw [yc_b_0, yc_b_0]; omega)⟩
theorem yq_Most {post : Int32 → St2 → Prop} {s : Nat → Nat} {n e i j : Nat} {u : St2} {x y z : Int32} (h : ys_ok s n u) (he : e < 7) (hij : i < j) (hj : j ≤ n) (hx : x = nI e) (hy : y = nI i) (hz : z = nI j)
    (H : ∀ r u, r < 8 → (∀ c, c < 8 → yc_r s c j - yc_r s c i ≤ yc_r s r j - yc_r s r i) → (∀ c, c < r → yc_r s c j - yc_r s c i < yc_r s r j - yc_r s r i) → ys_ok s n u → post (nI r) u) : wpX_most post u x y z := by
  obtain ⟨fn, fk, fr, fd, fs, a1, a2, a3, a4, a5, a6, a7, a8, a9, a10, a11, a12, a13, a14, a15, a16, a17, a18, a19, a20, a21, a22, a23, a24, a25, a26, a27⟩ := u
  have hf : fn = nI n := h.1.1
  have hn : n ≤ 200 := h.1.2.1
  unfold wpX_most
  refine yq_isE e he hx ?_
  refine br_f (by decide) (yq_isR i j hf hn (Nat.le_of_lt hij) hj hy hz (br_f (by decide) ?_))
  subst hx hy hz
  refine pk_eq i j (fun z => absurd z (by omega)) (fun _ => ys_pack h ?_)
  intro u hu
  obtain ⟨fn, fk, fr, fd, fs, a1, a2, a3, a4, a5, a6, a7, a8, a9, a10, a11, a12, a13, a14, a15, a16, a17, a18, a19, a20, a21, a22, a23, a24, a25, a26, a27⟩ := u
  have bd : ∀ c, yc_r s c j - yc_r s c i ≤ 200 := fun c => by
    have := yc_r_le s c j
    omega
  have q := pk_loop (fun k c (b : Nat × Nat) => wX_most_36 post (nI e) (nI i) (nI j) fn fk fr fd fs a1 a2 a3 a4 a5 a6 a7 a8 a9 a10 a11 a12 a13 a14 a15 a16 a17 a18 a19 a20 a21 a22 a23 a24 a25 a26 a27 k (nI b.1) (nI b.2) (nI c))
    (fun c b => b.1 < 8 ∧ b.2 ≤ 200 ∧ (∀ d, d < c → yc_r s d j - yc_r s d i ≤ b.2) ∧ ((b.2 = 0 ∧ b.1 = 0) ∨ b.2 = yc_r s b.1 j - yc_r s b.1 i) ∧ (∀ d, d < b.1 → yc_r s d j - yc_r s d i < b.2)) 8 0 (0, 0) (by omega) ⟨by decide, by decide, fun d z => absurd z (by omega), Or.inl ⟨rfl, rfl⟩, fun d z => absurd z (Nat.not_lt_zero d)⟩ ?_ ?_
  · obtain ⟨k, hk⟩ := q
    exact ⟨k, hk⟩
  · intro k b hb
    obtain ⟨b1, b2, b3, b4, b5⟩ := hb
    refine pk_le 8 8 (fun _ => ?_) (fun z => absurd z (by omega))
    have e1 : b.2 = yc_r s b.1 j - yc_r s b.1 i := by
      rcases b4 with ⟨g1, g2⟩ | g
      · have := b3 b.1 b1
        omega
      · exact g
    rw [e1] at b3 b5
    exact H b.1 _ b1 b3 b5 (ys_fo hu)
  · intro k c b hc hb hk
    obtain ⟨b1, b2, b3, b4, b5⟩ := hb
    have bc := bd c
    refine pk_le 8 c (fun z => absurd z (by omega)) (fun _ => yq_inR hu he hc (Nat.le_of_lt hij) hj rfl rfl rfl rfl ?_)
    refine pk_le (yc_r s c j - yc_r s c i) b.2 (fun z => pk_le (yc_r s c j - yc_r s c i) b.2 (fun _ => nm_r (nI_1 c) (hk b ⟨b1, b2, fun d hd => ?_, b4, b5⟩)) (fun z' => absurd z (by omega))) (fun z => pk_le (yc_r s c j - yc_r s c i) b.2 (fun z' => absurd z (by omega)) (fun _ => nm_r (nI_1 c) (hk (c, yc_r s c j - yc_r s c i) ⟨hc, bc, fun d hd => ?_, Or.inr rfl, fun d hd => ?_⟩)))
    · by_cases g : d = c
      · rw [g]; exact z
      · exact b3 d (by omega)
    · show yc_r s d j - yc_r s d i ≤ yc_r s c j - yc_r s c i
      by_cases g : d = c
      · rw [g]; exact Nat.le_refl _
      · have := b3 d (by omega)
        omega
    · show yc_r s d j - yc_r s d i < yc_r s c j - yc_r s c i
      have := b3 d hd
      omega
theorem yq_Different {post : Int32 → St2 → Prop} {s : Nat → Nat} {n i j : Nat} {u : St2} {y z : Int32} (h : ys_ok s n u) (hij : i ≤ j) (hj : j ≤ n) (hy : y = nI i) (hz : z = nI j)
    (H : ∀ u, ys_ok s n u → post (nI (yc_ct (fun c => decide (yc_r s c i < yc_r s c j)) 8)) u) : wpX_different post u y z := by
  obtain ⟨fn, fk, fr, fd, fs, a1, a2, a3, a4, a5, a6, a7, a8, a9, a10, a11, a12, a13, a14, a15, a16, a17, a18, a19, a20, a21, a22, a23, a24, a25, a26, a27⟩ := u
  have hf : fn = nI n := h.1.1
  have hn : n ≤ 200 := h.1.2.1
  unfold wpX_different
  refine yq_isR i j hf hn hij hj hy hz ?_
  refine br_f (by decide) ?_
  subst hy hz
  refine ys_pack h ?_
  intro u hu
  obtain ⟨fn, fk, fr, fd, fs, a1, a2, a3, a4, a5, a6, a7, a8, a9, a10, a11, a12, a13, a14, a15, a16, a17, a18, a19, a20, a21, a22, a23, a24, a25, a26, a27⟩ := u
  have q := pk_loop (σ := Unit) (fun k c _ => wX_different_20 post (nI i) (nI j) fn fk fr fd fs a1 a2 a3 a4 a5 a6 a7 a8 a9 a10 a11 a12 a13 a14 a15 a16 a17 a18 a19 a20 a21 a22 a23 a24 a25 a26 a27 k (nI (yc_ct (fun c => decide (yc_r s c i < yc_r s c j)) c)) (nI c)) (fun _ _ => True) 8 0 () (by omega) trivial ?_ ?_
  · obtain ⟨k, hk⟩ := q
    exact ⟨k, hk⟩
  · intro k _ _
    exact pk_le 8 8 (fun _ => H _ (ys_fo hu)) (fun z => absurd z (by omega))
  · intro k c _ hc _ hk
    have hk' := hk () trivial
    have r2 := yc_r_le s c j
    refine pk_le 8 c (fun z => absurd z (by omega)) (fun _ => yq_inR hu (e := 4) (by omega) hc hij hj rfl rfl rfl rfl ?_)
    refine pk_le (yc_r s c j - yc_r s c i) 0 (fun z => ?_) (fun z => ?_)
    · rw [yc_f (p := fun c => decide (yc_r s c i < yc_r s c j)) (decide_eq_false (by omega))] at hk'
      exact nm_r (nI_add _ 0) (nm_r (nI_1 c) hk')
    · rw [yc_t (p := fun c => decide (yc_r s c i < yc_r s c j)) (decide_eq_true (by omega))] at hk'
      exact nm_r (nI_1 _) (nm_r (nI_1 c) hk')
theorem yq_Next {post : Int32 → St2 → Prop} {s : Nat → Nat} {n i q : Nat} {u : St2} {x y : Int32} (h : ys_ok s n u) (hi : i < n) (hq : q < n) (hr : yc_r s (s q) q = yc_r s (s q) i) (hx : x = nI (s q)) (hy : y = nI i)
    (H : ∀ u, ys_ok s n u → post (nI q) u) : wpX_next post u x y := by
  obtain ⟨fn, fk, fr, fd, fs, a1, a2, a3, a4, a5, a6, a7, a8, a9, a10, a11, a12, a13, a14, a15, a16, a17, a18, a19, a20, a21, a22, a23, a24, a25, a26, a27⟩ := u
  have hf : fn = nI n := h.1.1
  have hn : n ≤ 200 := h.1.2.1
  have s8 : s q < 8 := (h.1.2.2.1 q hq).2
  unfold wpX_next
  refine yq_isL (s q) s8 hx ?_
  refine br_f (by decide) ?_
  subst hx hy hf
  refine pk_lt i n (fun _ => ys_pack h ?_) (fun z => absurd z (by omega))
  clear h
  intro u hu
  obtain ⟨fn, fk, fr, fd, fs, a1, a2, a3, a4, a5, a6, a7, a8, a9, a10, a11, a12, a13, a14, a15, a16, a17, a18, a19, a20, a21, a22, a23, a24, a25, a26, a27⟩ := u
  have hu' := hu
  obtain ⟨⟨hf, _, hs, hC⟩, _, hS, h2, hT, _, hA, _⟩ := hu
  have hs8 : ∀ j, j < n → s j < 8 := fun j hj => (hs j hj).2
  refine br_t (nI_pos' (by omega)) (yq_rank hu' (e := 2) (by omega) s8 (Nat.le_of_lt hi) rfl rfl rfl ⟨pk_in (s q) 8 s8, ?_⟩)
  have r1 := yc_r_le s (s q) n
  have r2 := yc_r_lt hq (rfl : s q = s q)
  rw [nI_clamp (by omega), h2 _ s8]
  refine pk_le (yc_r s (s q) n) (yc_r s (s q) i) (fun z => absurd z (by omega)) (fun _ => ya_select hn hf hs8 hS hA hq rfl (by rw [hr]) (H _ (ys_fo hu')))
theorem yq_NextN {post : Int32 → St2 → Prop} {s : Nat → Nat} {n i c : Nat} {u : St2} {x y : Int32} (h : ys_ok s n u) (hi : i < n) (hc : c < 8) (hr : yc_r s c n ≤ yc_r s c i) (hx : x = nI c) (hy : y = nI i)
    (H : ∀ u, ys_ok s n u → post (-1) u) : wpX_next post u x y := by
  obtain ⟨fn, fk, fr, fd, fs, a1, a2, a3, a4, a5, a6, a7, a8, a9, a10, a11, a12, a13, a14, a15, a16, a17, a18, a19, a20, a21, a22, a23, a24, a25, a26, a27⟩ := u
  have hf : fn = nI n := h.1.1
  have hn : n ≤ 200 := h.1.2.1
  unfold wpX_next
  refine yq_isL c hc hx ?_
  refine br_f (by decide) ?_
  subst hx hy hf
  refine pk_lt i n (fun _ => ys_pack h ?_) (fun z => absurd z (by omega))
  clear h
  intro u hu
  obtain ⟨fn, fk, fr, fd, fs, a1, a2, a3, a4, a5, a6, a7, a8, a9, a10, a11, a12, a13, a14, a15, a16, a17, a18, a19, a20, a21, a22, a23, a24, a25, a26, a27⟩ := u
  have h2 := hu.2.2.2.1
  refine br_t (nI_pos' (by omega)) (yq_rank hu (e := 2) (by omega) hc (Nat.le_of_lt hi) rfl rfl rfl ⟨pk_in c 8 hc, ?_⟩)
  have r1 := yc_r_le s c n
  have r2 := yc_r_le s c i
  rw [nI_clamp (by omega), h2 c hc]
  exact pk_le (yc_r s c n) (yc_r s c i) (fun _ => H _ (ys_fo hu)) (fun z => absurd z (by omega))
theorem yq_Runs {post : Int32 → St2 → Prop} {s : Nat → Nat} {n : Nat} {u : St2} (h : ys_ok s n u) (H : ∀ u, ys_ok s n u → post (nI (yn_R s n)) u) : wpX_runs post u := by
  obtain ⟨fn, fk, fr, fd, fs, a1, a2, a3, a4, a5, a6, a7, a8, a9, a10, a11, a12, a13, a14, a15, a16, a17, a18, a19, a20, a21, a22, a23, a24, a25, a26, a27⟩ := u
  refine ys_pack h ?_
  clear h
  intro u hu
  obtain ⟨fn, fk, fr, fd, fs, a1, a2, a3, a4, a5, a6, a7, a8, a9, a10, a11, a12, a13, a14, a15, a16, a17, a18, a19, a20, a21, a22, a23, a24, a25, a26, a27⟩ := u
  have hr : fr = nI (yn_R s n) := hu.2.2.2.2.2.2.2.2.2.2.1.1
  have := H _ (ys_fo hu)
  rw [← hr] at this
  exact this
theorem yq_Bits {post : Int32 → St2 → Prop} {s : Nat → Nat} {n : Nat} {u : St2} (h : ys_ok s n u) (H : ∀ u, ys_ok s n u → post (nI (if ys_N s n = 0 then n else ys_cs s n)) u) : wpX_bits post u := by
  obtain ⟨fn, fk, fr, fd, fs, a1, a2, a3, a4, a5, a6, a7, a8, a9, a10, a11, a12, a13, a14, a15, a16, a17, a18, a19, a20, a21, a22, a23, a24, a25, a26, a27⟩ := u
  refine ys_pack h ?_
  clear h
  intro u hu
  obtain ⟨fn, fk, fr, fd, fs, a1, a2, a3, a4, a5, a6, a7, a8, a9, a10, a11, a12, a13, a14, a15, a16, a17, a18, a19, a20, a21, a22, a23, a24, a25, a26, a27⟩ := u
  have HH := H _ (ys_fo hu)
  obtain ⟨⟨hf, _, hs, hC⟩, _, hS, h2, hT, _, hA, ⟨L, R, ln, bt, hH⟩, _, _, _, hc⟩ := hu
  have hd := hH.1
  have hN7 := hH.2.1.1
  refine pk_eq (ys_N s n) 0 (fun z => ?_) (fun z => ?_) hd
  · rw [if_pos z, ← hf] at HH
    exact HH
  · rw [if_neg z, ← hc] at HH
    exact HH
theorem yq_Agree {post : Int32 → St2 → Prop} {s : Nat → Nat} {n e f : Nat} {u : St2} {x y : Int32} (h : ys_ok s n u) (he : e < 7) (hf7 : f < 7) (hx : x = nI e) (hy : y = nI f)
    (H : ∀ u, ys_ok s n u → post 1 u) : wpX_agree post u x y := by
  obtain ⟨fn, fk, fr, fd, fs, a1, a2, a3, a4, a5, a6, a7, a8, a9, a10, a11, a12, a13, a14, a15, a16, a17, a18, a19, a20, a21, a22, a23, a24, a25, a26, a27⟩ := u
  have hn : n ≤ 200 := h.1.2.1
  unfold wpX_agree
  refine yq_isE e he hx ?_
  refine br_f (by decide) (yq_isE f hf7 hy (br_f (by decide) (ys_pack h ?_)))
  clear h
  intro u hu
  obtain ⟨fn, fk, fr, fd, fs, a1, a2, a3, a4, a5, a6, a7, a8, a9, a10, a11, a12, a13, a14, a15, a16, a17, a18, a19, a20, a21, a22, a23, a24, a25, a26, a27⟩ := u
  have hf : fn = nI n := hu.1.1
  have hs := hu.1.2.2.1
  subst hx hy hf
  have q := pk_loop (σ := Unit) (fun k i _ => wX_agree_25 post (nI e) (nI f) (nI n) fk fr fd fs a1 a2 a3 a4 a5 a6 a7 a8 a9 a10 a11 a12 a13 a14 a15 a16 a17 a18 a19 a20 a21 a22 a23 a24 a25 a26 a27 k 1 (nI i)) (fun _ _ => True) n 0 () (by omega) trivial ?_ ?_
  · obtain ⟨k, hk⟩ := q
    exact ⟨k, hk⟩
  · intro k _ _
    exact pk_le n n (fun _ => ⟨by decide, H _ (ys_fo hu)⟩) (fun z => absurd z (by omega))
  · intro k i _ hi _ hk
    have hk' := hk () trivial
    refine pk_le n i (fun z => absurd z (by omega)) (fun _ => br_f (by decide) (yq_at hu he hi rfl rfl (yq_at hu hf7 hi rfl rfl (br_t rfl ?_))))
    have q2 := pk_loop (σ := Unit) (fun k' c _ => wX_agree_68 post (wX_agree_25 post (nI e) (nI f) (nI n) fk fr fd fs a1 a2 a3 a4 a5 a6 a7 a8 a9 a10 a11 a12 a13 a14 a15 a16 a17 a18 a19 a20 a21 a22 a23 a24 a25 a26 a27 k) (nI e) (nI f) (nI i) (nI n) fk fr fd fs a1 a2 a3 a4 a5 a6 a7 a8 a9 a10 a11 a12 a13 a14 a15 a16 a17 a18 a19 a20 a21 a22 a23 a24 a25 a26 a27 k' 1 (nI c)) (fun _ _ => True) 8 0 () (by omega) trivial ?_ ?_
    · obtain ⟨k2, hk2⟩ := q2
      exact ⟨k2, hk2⟩
    · intro k2 _ _
      exact pk_le 8 8 (fun _ => nm_r (nI_1 i) hk') (fun z => absurd z (by omega))
    · intro k2 c _ hc _ hk2
      have hk2' := hk2 () trivial
      exact pk_le 8 c (fun z => absurd z (by omega)) (fun _ => br_f (by decide) (yq_rank hu he hc (show i + 1 ≤ n from hi) rfl rfl (nI_1 i) (yq_rank hu hf7 hc (show i + 1 ≤ n from hi) rfl rfl (nI_1 i) (br_t rfl (nm_r (nI_1 c) hk2')))))
/-! the list is changed -/
theorem yq_Append {post : Int32 → St2 → Prop} {s : Nat → Nat} {n c m k0 : Nat} {u : St2} {x y : Int32} (s' : Nat → Nat) (h : ys_ok s n u) (hk0 : n + m = k0) (hc : c < 8) (hm : 1 ≤ m) (hnm : n + m ≤ 200) (h1 : ∀ j, j < n → s' j = s j) (h2 : ∀ j, n ≤ j → j < n + m → s' j = c) (hx : x = nI c) (hy : y = nI m)
    (H : ∀ u, ys_ok s' k0 u → post (nI k0) u) : wpX_append post u x y := by
  subst hk0
  obtain ⟨fn, fk, fr, fd, fs, a1, a2, a3, a4, a5, a6, a7, a8, a9, a10, a11, a12, a13, a14, a15, a16, a17, a18, a19, a20, a21, a22, a23, a24, a25, a26, a27⟩ := u
  obtain ⟨⟨hf, hn, hs, hC⟩, _⟩ := h
  unfold wpX_append
  refine yq_isL c hc hx ?_
  refine br_f (by decide) ?_
  have hf : fn = nI n := hf
  subst hx hy hf
  refine pk_lt m 1 (fun z => absurd z (by omega)) (fun _ => pk_le m 200 (fun _ => ?_) (fun z => absurd z (by omega)))
  rw [nI_add]
  refine pk_le (n + m) 200 (fun _ => ?_) (fun z => absurd z (by omega))
  have q := pk_loop (fun k i (b : Nat → Int32) => wX_append_38 post (nI c) (nI m) fk fr fd fs k (nI i) (nI (n + i)) b a2 a3 a4 a5 a6 a7 a8 a9 a10 a11 a12 a13 a14 a15 a16 a17 a18 a19 a20 a21 a22 a23 a24 a25 a26 a27) (fun i b => ∀ j, j < n + i → b j = nI (s' j)) m 0 a1 (by omega) (fun j hj => by rw [h1 j (by omega)]; exact (hs j (by omega)).1) ?_ ?_
  · obtain ⟨k, hk⟩ := q
    exact ⟨k, hk⟩
  · intro k b hb
    refine pk_le m m (fun _ => H _ ⟨⟨rfl, hnm, fun j hj => ⟨hb j hj, ?_⟩, hC⟩, Or.inl rfl⟩) (fun z => absurd z (by omega))
    by_cases e : j < n
    · rw [h1 j e]; exact (hs j e).2
    · rw [h2 j (by omega) hj]; exact hc
  · intro k i b hi hb hk
    refine pk_le m i (fun z => absurd z (by omega)) (fun _ => ⟨pk_in (n + i) 200 (by omega), ?_⟩)
    rw [nI_clamp (by omega), yi_n8 _ (by omega)]
    refine nm_e (nm_r (nI_1 _) (nm_r (nI_1 i) (hk _ (fun j hj => ?_))))
    by_cases e : j = n + i
    · rw [e, pk_us, h2 _ (by omega) (by omega)]
    · rw [pk_un e]
      exact hb j (by omega)
theorem yq_Again {post : Int32 → St2 → Prop} {s : Nat → Nat} {n b m k0 : Nat} {u : St2} {x y : Int32} (s' : Nat → Nat) (h : ys_ok s n u) (hk0 : n + m = k0) (hb : 1 ≤ b) (hbn : b ≤ n) (hm : 1 ≤ m) (hmb : m ≤ b) (hnm : n + m ≤ 200) (h1 : ∀ j, j < n → s' j = s j) (h2 : ∀ j, n ≤ j → j < n + m → s' j = s (j - b)) (hx : x = nI b) (hy : y = nI m)
    (H : ∀ u, ys_ok s' k0 u → post (nI k0) u) : wpX_again post u x y := by
  subst hk0
  obtain ⟨fn, fk, fr, fd, fs, a1, a2, a3, a4, a5, a6, a7, a8, a9, a10, a11, a12, a13, a14, a15, a16, a17, a18, a19, a20, a21, a22, a23, a24, a25, a26, a27⟩ := u
  obtain ⟨⟨hf, hn, hs, hC⟩, _⟩ := h
  have hf : fn = nI n := hf
  subst hx hy hf
  refine pk_lt b 1 (fun z => absurd z (by omega)) (fun _ => pk_lt n b (fun z => absurd z (by omega)) (fun _ => pk_lt m 1 (fun z => absurd z (by omega)) (fun _ => pk_le m 200 (fun _ => ?_) (fun z => absurd z (by omega)))))
  rw [nI_add]
  refine pk_le (n + m) 200 (fun _ => ?_) (fun z => absurd z (by omega))
  have q := pk_loop (fun k i (w : Nat → Int32) => wX_again_44 post (nI b) (nI m) fk fr fd fs k (nI i) (nI (n + i)) w a2 a3 a4 a5 a6 a7 a8 a9 a10 a11 a12 a13 a14 a15 a16 a17 a18 a19 a20 a21 a22 a23 a24 a25 a26 a27) (fun i w => ∀ j, j < n + i → w j = nI (s' j)) m 0 a1 (by omega) (fun j hj => by rw [h1 j (by omega)]; exact (hs j (by omega)).1) ?_ ?_
  · obtain ⟨k, hk⟩ := q
    exact ⟨k, hk⟩
  · intro k w hw
    refine pk_le m m (fun _ => H _ ⟨⟨rfl, hnm, fun j hj => ⟨hw j hj, ?_⟩, hC⟩, Or.inl rfl⟩) (fun z => absurd z (by omega))
    by_cases e : j < n
    · rw [h1 j e]; exact (hs j e).2
    · rw [h2 j (by omega) hj]; exact (hs (j - b) (by omega)).2
  · intro k i w hi hw hk
    have s8 := (hs (n + i - b) (by omega)).2
    refine pk_le m i (fun z => absurd z (by omega)) (fun _ => ?_)
    rw [pk_sub (by omega)]
    refine ⟨pk_in (n + i - b) 200 (by omega), pk_in (n + i) 200 (by omega), ?_⟩
    rw [nI_clamp (by omega), nI_clamp (by omega), hw (n + i - b) (by omega), h1 _ (by omega), yi_v8 (by omega)]
    refine nm_e (nm_r (nI_1 _) (nm_r (nI_1 i) (hk _ (fun j hj => ?_))))
    by_cases e : j = n + i
    · rw [e, pk_us, h2 _ (by omega) (by omega)]
    · rw [pk_un e]
      exact hw j (by omega)
theorem yq_Change {post : Int32 → St2 → Prop} {s : Nat → Nat} {n i c : Nat} {u : St2} {x y : Int32} (s' : Nat → Nat) (h : ys_ok s n u) (hi : i < n) (hc : c < 8) (h1 : ∀ j, j < n → j ≠ i → s' j = s j) (h2 : s' i = c) (hx : x = nI i) (hy : y = nI c)
    (H : ∀ u, ys_ok s' n u → post (nI (s i)) u) : wpX_change post u x y := by
  obtain ⟨fn, fk, fr, fd, fs, a1, a2, a3, a4, a5, a6, a7, a8, a9, a10, a11, a12, a13, a14, a15, a16, a17, a18, a19, a20, a21, a22, a23, a24, a25, a26, a27⟩ := u
  obtain ⟨⟨hf, hn, hs, hC⟩, _⟩ := h
  have hf : fn = nI n := hf
  subst hx hf
  refine br_f (nI_pos (by omega)) (pk_le n i (fun z => absurd z (by omega)) (fun _ => yq_isL c hc hy (br_f (by decide) ⟨pk_in i 200 (by omega), nm_r (e' := nI (s i)) (by rw [nI_clamp (by omega)]; exact (hs i hi).1) ⟨pk_in i 200 (by omega), ?_⟩⟩)))
  subst hy
  rw [nI_clamp (by omega), yi_n8 _ (by omega)]
  refine nm_e (H _ ⟨⟨rfl, hn, fun j hj => ?_, hC⟩, Or.inl rfl⟩)
  by_cases e : j = i
  · subst e
    rw [pk_us, h2]
    exact ⟨rfl, hc⟩
  · rw [pk_un e, h1 j hj e]
    exact hs j hj
theorem yq_Cut {post : Int32 → St2 → Prop} {s : Nat → Nat} {n m k0 : Nat} {u : St2} {x : Int32} (s' : Nat → Nat) (h : ys_ok s n u) (hk0 : n - m = k0) (hm : m ≤ 200) (h1 : ∀ j, j < n - m → s' j = s j) (hx : x = nI m)
    (H : ∀ u, ys_ok s' k0 u → post (nI k0) u) : wpX_cut post u x := by
  subst hk0
  obtain ⟨fn, fk, fr, fd, fs, a1, a2, a3, a4, a5, a6, a7, a8, a9, a10, a11, a12, a13, a14, a15, a16, a17, a18, a19, a20, a21, a22, a23, a24, a25, a26, a27⟩ := u
  obtain ⟨⟨hf, hn, hs, hC⟩, _⟩ := h
  have hf : fn = nI n := hf
  have hs' : ys_let a1 s' (n - m) := fun j hj => by rw [h1 j hj]; exact hs j (by omega)
  subst hx hf
  refine br_f (nI_pos (by omega)) (pk_le m 200 (fun _ => pk_le m n (fun z => nm_r (pk_sub z) (H _ ⟨⟨rfl, by omega, hs', hC⟩, Or.inl rfl⟩)) (fun z => ?_)) (fun z => absurd z (by omega)))
  have := H (0, 0, fr, fd, fs, a1, a2, a3, a4, a5, a6, a7, a8, a9, a10, a11, a12, a13, a14, a15, a16, a17, a18, a19, a20, a21, a22, a23, a24, a25, a26, a27) ⟨⟨by rw [show n - m = 0 by omega]; rfl, by omega, hs', hC⟩, Or.inl rfl⟩
  rw [show n - m = 0 by omega] at this
  exact this
/-! what is refused -/
theorem yq_AppendF {post : Int32 → St2 → Prop} {s : Nat → Nat} {n c m : Nat} {u : St2} {x y : Int32} (h : ys_ok s n u) (hc : c < 8) (hm : 1 ≤ m) (hm2 : m ≤ 200) (hnm : 200 < n + m) (hx : x = nI c) (hy : y = nI m)
    (H : post (-2) u) : wpX_append post u x y := by
  obtain ⟨fn, fk, fr, fd, fs, a1, a2, a3, a4, a5, a6, a7, a8, a9, a10, a11, a12, a13, a14, a15, a16, a17, a18, a19, a20, a21, a22, a23, a24, a25, a26, a27⟩ := u
  have hf : fn = nI n := h.1.1
  have hn : n ≤ 200 := h.1.2.1
  unfold wpX_append
  refine yq_isL c hc hx ?_
  refine br_f (by decide) ?_
  subst hx hy hf
  refine pk_lt m 1 (fun z => absurd z (by omega)) (fun _ => pk_le m 200 (fun _ => ?_) (fun z => absurd z (by omega)))
  rw [nI_add]
  exact pk_le (n + m) 200 (fun z => absurd z (by omega)) (fun _ => H)
theorem yq_Append8 {post : Int32 → St2 → Prop} {u : St2} {y : Int32} (H : post (-1) u) : wpX_append post u 8 y := by
  obtain ⟨fn, fk, fr, fd, fs, a1, a2, a3, a4, a5, a6, a7, a8, a9, a10, a11, a12, a13, a14, a15, a16, a17, a18, a19, a20, a21, a22, a23, a24, a25, a26, a27⟩ := u
  unfold wpX_append
  refine yq_isL8 ?_
  exact br_t rfl H
theorem yq_AgainF {post : Int32 → St2 → Prop} {s : Nat → Nat} {n b : Nat} {u : St2} {x y : Int32} (h : ys_ok s n u) (hb : n < b) (hb2 : b < 1000) (hx : x = nI b) (H : post (-1) u) : wpX_again post u x y := by
  obtain ⟨fn, fk, fr, fd, fs, a1, a2, a3, a4, a5, a6, a7, a8, a9, a10, a11, a12, a13, a14, a15, a16, a17, a18, a19, a20, a21, a22, a23, a24, a25, a26, a27⟩ := u
  have hf : fn = nI n := h.1.1
  have hn : n ≤ 200 := h.1.2.1
  subst hx hf
  exact pk_lt b 1 (fun _ => H) (fun _ => pk_lt n b (fun _ => H) (fun z => absurd z (by omega)))
theorem yq_ChangeF {post : Int32 → St2 → Prop} {s : Nat → Nat} {n i : Nat} {u : St2} {x y : Int32} (h : ys_ok s n u) (hi : n ≤ i) (hi2 : i < 1000) (hx : x = nI i) (H : post (-1) u) : wpX_change post u x y := by
  obtain ⟨fn, fk, fr, fd, fs, a1, a2, a3, a4, a5, a6, a7, a8, a9, a10, a11, a12, a13, a14, a15, a16, a17, a18, a19, a20, a21, a22, a23, a24, a25, a26, a27⟩ := u
  have hf : fn = nI n := h.1.1
  have hn : n ≤ 200 := h.1.2.1
  subst hx hf
  exact br_f (nI_pos (by omega)) (pk_le n i (fun _ => H) (fun z => absurd z (by omega)))
theorem yq_At7 {post : Int32 → St2 → Prop} {u : St2} {y : Int32} (H : post (-1) u) : wpX_at post u 7 y := by
  obtain ⟨fn, fk, fr, fd, fs, a1, a2, a3, a4, a5, a6, a7, a8, a9, a10, a11, a12, a13, a14, a15, a16, a17, a18, a19, a20, a21, a22, a23, a24, a25, a26, a27⟩ := u
  unfold wpX_at
  refine yq_isE7 ?_
  exact br_t rfl H
theorem yq_Rank8 {post : Int32 → St2 → Prop} {u : St2} {e : Nat} {x y : Int32} (he : e < 7) (hx : x = nI e) (H : post (-1) u) : wpX_rank post u x 8 y := by
  obtain ⟨fn, fk, fr, fd, fs, a1, a2, a3, a4, a5, a6, a7, a8, a9, a10, a11, a12, a13, a14, a15, a16, a17, a18, a19, a20, a21, a22, a23, a24, a25, a26, a27⟩ := u
  unfold wpX_rank
  refine yq_isE e he hx ?_
  refine br_f (by decide) ?_
  refine yq_isL8 ?_
  exact br_t rfl H
theorem yq_BelowF {post : Int32 → St2 → Prop} {u : St2} {e : Nat} {x y : Int32} (he : e < 7) (hx : x = nI e) (H : post (-1) u) : wpX_below post u x 5 4 y := by
  obtain ⟨fn, fk, fr, fd, fs, a1, a2, a3, a4, a5, a6, a7, a8, a9, a10, a11, a12, a13, a14, a15, a16, a17, a18, a19, a20, a21, a22, a23, a24, a25, a26, a27⟩ := u
  unfold wpX_below
  refine yq_isE e he hx ?_
  refine br_f (by decide) ?_
  refine yq_isRF ?_
  exact br_t rfl H
theorem yq_OrderedF {post : Int32 → St2 → Prop} {s : Nat → Nat} {n : Nat} {u : St2} {e : Nat} {x : Int32} (h : ys_ok s n u) (hn4 : 4 ≤ n) (he : e < 7) (hx : x = nI e) (H : post (-1) u) : wpX_ordered post u x 0 4 4 := by
  obtain ⟨fn, fk, fr, fd, fs, a1, a2, a3, a4, a5, a6, a7, a8, a9, a10, a11, a12, a13, a14, a15, a16, a17, a18, a19, a20, a21, a22, a23, a24, a25, a26, a27⟩ := u
  have hf : fn = nI n := h.1.1
  have hn : n ≤ 200 := h.1.2.1
  unfold wpX_ordered
  refine yq_isE e he hx ?_
  exact br_f (by decide) (yq_isR 0 4 hf hn (by omega) hn4 rfl rfl (br_f (by decide) (br_f (by decide) (br_f (by decide) H))))
theorem yq_Agree7 {post : Int32 → St2 → Prop} {u : St2} (H : post 0 u) : wpX_agree post u 0 7 := by
  obtain ⟨fn, fk, fr, fd, fs, a1, a2, a3, a4, a5, a6, a7, a8, a9, a10, a11, a12, a13, a14, a15, a16, a17, a18, a19, a20, a21, a22, a23, a24, a25, a26, a27⟩ := u
  unfold wpX_agree
  refine yq_isE 0 (by omega) rfl ?_
  refine br_f (by decide) ?_
  refine yq_isE7 ?_
  exact br_t rfl H
theorem yq_Most0 {post : Int32 → St2 → Prop} {s : Nat → Nat} {n : Nat} {u : St2} {e : Nat} {x : Int32} (h : ys_ok s n u) (he : e < 7) (hx : x = nI e) (H : post (-1) u) : wpX_most post u x 0 0 := by
  obtain ⟨fn, fk, fr, fd, fs, a1, a2, a3, a4, a5, a6, a7, a8, a9, a10, a11, a12, a13, a14, a15, a16, a17, a18, a19, a20, a21, a22, a23, a24, a25, a26, a27⟩ := u
  have hf : fn = nI n := h.1.1
  have hn : n ≤ 200 := h.1.2.1
  unfold wpX_most
  refine yq_isE e he hx ?_
  exact br_f (by decide) (yq_isR 0 0 hf hn (by omega) (by omega) rfl rfl (br_f (by decide) (br_t rfl H)))
end
section
/-! the constructor -/
theorem yb_C0 : ∀ k, k < 8 → ∀ i, i < k → yb_C i k = 0 := by decide +kernel
theorem yb_Cs : ∀ i, i < 7 → ∀ k, k < 7 → yb_C i k + yb_C i (k + 1) = yb_C (i + 1) (k + 1) ∧ yb_C (i + 1) (k + 1) < 128 := by decide +kernel
/-- rows of the table up to place p are written, the rest is 0 -/
def yb_upto (a16 : Nat → Int32) (p : Nat) : Prop := (∀ x, x < p → a16 x = nI (yb_C (x / 8) (x % 8))) ∧ (∀ x, p ≤ x → a16 x = 0)
theorem yb_253 {fn fk fr fd fs : Int32} {a1 a2 a3 a4 a5 a6 a7 a8 a9 a10 a11 a12 a13 a14 a15 a16 a17 a18 a19 a20 a21 a22 a23 a24 a25 a26 a27 : Nat → Int32} {post : St2 → Prop} {mc ms kc ks : Nat} {J : Int32 → (Nat → Int32) → (Nat → Int32) → (Nat → Int32) → (Nat → Int32) → (Nat → Int32) → (Nat → Int32) → (Nat → Int32) → (Nat → Int32) → (Nat → Int32) → (Nat → Int32) → (Nat → Int32) → (Nat → Int32) → (Nat → Int32) → (Nat → Int32) → (Nat → Int32) → (Nat → Int32) → (Nat → Int32) → (Nat → Int32) → (Nat → Int32) → (Nat → Int32) → (Nat → Int32) → (Nat → Int32) → (Nat → Int32) → (Nat → Int32) → (Nat → Int32) → (Nat → Int32) → (Nat → Int32) →  Prop} {i : Nat} (hi : i < 8) (h : yb_upto a16 (i * 8 + 1))
    (H : ∀ b, yb_upto b (i * 8 + (i + 1)) → J (nI (i + 1)) a1 a2 a3 a4 a5 a6 a7 a8 a9 a10 a11 a12 a13 a14 a15 b a17 a18 a19 a20 a21 a22 a23 a24 a25 a26 a27) : ∃ k, wX_init_253 post mc ms J (nI i) kc ks fn fk fr fd fs k 1 a1 a2 a3 a4 a5 a6 a7 a8 a9 a10 a11 a12 a13 a14 a15 a16 a17 a18 a19 a20 a21 a22 a23 a24 a25 a26 a27 := by
  have q := pk_loop (fun k j (b : Nat → Int32) => wX_init_253 post mc ms J (nI i) kc ks fn fk fr fd fs k (nI j) a1 a2 a3 a4 a5 a6 a7 a8 a9 a10 a11 a12 a13 a14 a15 b a17 a18 a19 a20 a21 a22 a23 a24 a25 a26 a27) (fun j b => 1 ≤ j ∧ yb_upto b (i * 8 + j)) (i + 1) 1 a16 (by omega) ⟨Nat.le_refl 1, h⟩ ?_ ?_
  · obtain ⟨k, hk⟩ := q
    exact ⟨k, hk⟩
  · intro k b hb
    exact pk_lt i (i + 1) (fun _ => nm_r (nI_1 i) (H b hb.2)) (fun z => absurd z (by omega))
  · intro k j b hj hb hk
    obtain ⟨j1, u1, u2⟩ := hb
    obtain ⟨i', rfl⟩ : ∃ i', i = i' + 1 := ⟨i - 1, by omega⟩
    obtain ⟨j', rfl⟩ : ∃ j', j = j' + 1 := ⟨j - 1, by omega⟩
    obtain ⟨c1, c2⟩ := yb_Cs i' (by omega) j' (by omega)
    have e1 : ((nI (i' + 1) - 1) * 8) + nI (j' + 1) = nI (i' * 8 + (j' + 1)) := by
      rw [nI_pred]
      show nI i' * nI 8 + _ = _
      rw [pk_mul, nI_add]
    have e2 : nI (i' * 8 + (j' + 1)) - 1 = nI (i' * 8 + j') := nI_pred (i' * 8 + j')
    have e3 : (nI (i' + 1) * 8) + nI (j' + 1) = nI ((i' + 1) * 8 + (j' + 1)) := by
      show nI (i' + 1) * nI 8 + _ = _
      rw [pk_mul, nI_add]
    have v1 := u1 (i' * 8 + j') (by omega)
    have v2 := u1 (i' * 8 + (j' + 1)) (by omega)
    rw [show (i' * 8 + j') / 8 = i' by omega, show (i' * 8 + j') % 8 = j' by omega] at v1
    rw [show (i' * 8 + (j' + 1)) / 8 = i' by omega, show (i' * 8 + (j' + 1)) % 8 = j' + 1 by omega] at v2
    refine pk_lt (i' + 1) (j' + 1) (fun z => absurd z (by omega)) (fun _ => ?_)
    rw [e1, e2, e3]
    refine ⟨pk_in (i' * 8 + j') 64 (by omega), pk_in (i' * 8 + (j' + 1)) 64 (by omega), pk_in ((i' + 1) * 8 + (j' + 1)) 64 (by omega), ?_⟩
    rw [nI_clamp (by omega), nI_clamp (by omega), nI_clamp (by omega), v1, v2, nI_add, c1, yi_n8 _ c2]
    refine nm_e (nm_r (nI_1 _) (hk _ ⟨by omega, fun x hx => ?_, fun x hx => ?_⟩))
    · by_cases e : x = (i' + 1) * 8 + (j' + 1)
      · rw [e, pk_us, show ((i' + 1) * 8 + (j' + 1)) / 8 = i' + 1 by omega, show ((i' + 1) * 8 + (j' + 1)) % 8 = j' + 1 by omega]
      · rw [pk_un e]
        exact u1 x (by omega)
    · rw [pk_un (by omega)]
      exact u2 x (by omega)
theorem yb_235 {fn fk fr fd fs : Int32} {a1 a2 a3 a4 a5 a6 a7 a8 a9 a10 a11 a12 a13 a14 a15 a16 a17 a18 a19 a20 a21 a22 a23 a24 a25 a26 a27 : Nat → Int32} {post : St2 → Prop} {mc ms kc ks : Nat} (h : ∀ x, a16 x = 0)
    (H : ∀ b, yb_ch b → post (fn, fk, fr, fd, fs, a1, a2, a3, a4, a5, a6, a7, a8, a9, a10, a11, a12, a13, a14, a15, b, a17, a18, a19, a20, a21, a22, a23, a24, a25, a26, a27)) : ∃ k, wX_init_235 post mc ms kc ks fn fk fr fd fs k 0 a1 a2 a3 a4 a5 a6 a7 a8 a9 a10 a11 a12 a13 a14 a15 a16 a17 a18 a19 a20 a21 a22 a23 a24 a25 a26 a27 := by
  have q := pk_loop (fun k i (b : Nat → Int32) => wX_init_235 post mc ms kc ks fn fk fr fd fs k (nI i) a1 a2 a3 a4 a5 a6 a7 a8 a9 a10 a11 a12 a13 a14 a15 b a17 a18 a19 a20 a21 a22 a23 a24 a25 a26 a27) (fun i b => yb_upto b (i * 8)) 8 0 a16 (by omega) ⟨fun x z => absurd z (by omega), fun x _ => h x⟩ ?_ ?_
  · obtain ⟨k, hk⟩ := q
    exact ⟨k, hk⟩
  · intro k b hb
    refine pk_le 8 8 (fun _ => H b (fun i k hi hk => ?_)) (fun z => absurd z (by omega))
    have := hb.1 (i * 8 + k) (by omega)
    rw [show (i * 8 + k) / 8 = i by omega, show (i * 8 + k) % 8 = k by omega] at this
    exact this
  · intro k i b hi hb hk
    have e1 : nI i * 8 = nI (i * 8) := pk_mul i 8
    refine pk_le 8 i (fun z => absurd z (by omega)) (fun _ => ?_)
    rw [e1]
    refine ⟨pk_in (i * 8) 64 (by omega), ?_⟩
    rw [nI_clamp (by omega)]
    refine nm_e (yb_253 hi ⟨fun x hx => ?_, fun x hx => ?_⟩ (fun b' hb' => hk b' ⟨fun x hx => ?_, fun x hx => hb'.2 x (by omega)⟩))
    · by_cases e : x = i * 8
      · rw [e, pk_us, show i * 8 / 8 = i by omega, show i * 8 % 8 = 0 by omega]
        cases i <;> rfl
      · rw [pk_un e]
        exact hb.1 x (by omega)
    · rw [pk_un (by omega)]
      exact hb.2 x (by omega)
    · by_cases e : x < i * 8 + (i + 1)
      · exact hb'.1 x e
      · rw [hb'.2 x (by omega), yb_C0 (x % 8) (by omega) (x / 8) (by omega)]
        rfl
theorem yq_Init {post : St2 → Prop} (s : Nat → Nat) (H : ∀ u, ys_ok s 0 u → post u) : wpX_init post 27 3516 (0, 0, 0, 0, 0) := by
  refine ⟨by decide, by decide, by decide, by decide, by decide, by decide, by decide, by decide, by decide, by decide, by decide, by decide, by decide, by decide, by decide, by decide, by decide, by decide, by decide, by decide, by decide, by decide, by decide, by decide, by decide, by decide, by decide, by decide, by decide, by decide, by decide, by decide, by decide, by decide, by decide, by decide, by decide, by decide, by decide, by decide, by decide, by decide, by decide, by decide, by decide, by decide, by decide, by decide, by decide, by decide, by decide, by decide, by decide, by decide, ?_⟩
  exact yb_235 (fun _ => rfl) (fun b hb => H _ ⟨⟨rfl, by omega, fun j hj => absurd hj (by omega), hb⟩, Or.inl rfl⟩)
end
section
/-! the law's list: eight stretches of m equal letters -/
def yl_l (g h c : Nat) : Nat := (c * g + h) % 8
def yl_s (g h m j : Nat) : Nat := yl_l g h (j / m)
def yl_i (g h x : Nat) : Nat := ((x + 8 - h) * g) % 8
theorem yl_l8 (g h c : Nat) : yl_l g h c < 8 := Nat.mod_lt _ (by omega)
theorem yl_i8 (g h x : Nat) : yl_i g h x < 8 := Nat.mod_lt _ (by omega)
theorem yl_inv : ∀ a, a < 4 → ∀ h, h < 8 → ∀ c, c < 8 → yl_i (2 * a + 1) h (yl_l (2 * a + 1) h c) = c := by decide +kernel
theorem yl_inv2 : ∀ a, a < 4 → ∀ h, h < 8 → ∀ x, x < 8 → yl_l (2 * a + 1) h (yl_i (2 * a + 1) h x) = x := by decide +kernel
theorem yl_inj {a h c d : Nat} (ha : a < 4) (hh : h < 8) (hc : c < 8) (hd : d < 8) (e : yl_l (2 * a + 1) h c = yl_l (2 * a + 1) h d) : c = d := by
  rw [← yl_inv a ha h hh c hc, ← yl_inv a ha h hh d hd, e]
theorem yl_sm (c m : Nat) : (c + 1) * m = c * m + m := Nat.succ_mul c m
theorem yl_if (P : Prop) [Decidable P] : (if (!decide P) = true then 1 else 0) = 1 - (if P then 1 else 0) := by by_cases h : P <;> simp [h]
theorem yl_if2 (P : Prop) [Decidable P] : (if decide P = true then 1 else 0) = (if P then 1 else 0) := by by_cases h : P <;> simp [h]
theorem yl_div {m j c : Nat} (hm : 0 < m) : j / m = c ↔ c * m ≤ j ∧ j < c * m + m := by
  have h1 := Nat.le_div_iff_mul_le (x := c) (y := j) hm
  have h2 := Nat.div_lt_iff_lt_mul (x := j) (y := c + 1) hm
  rw [yl_sm c m] at h2
  constructor
  · intro e
    exact ⟨h1.mp (by omega), h2.mp (by omega)⟩
  · intro ⟨e1, e2⟩
    have := h1.mpr e1
    have := h2.mpr e2
    omega
theorem yl_le8 {m c : Nat} (hc : c < 8) : c * m + m ≤ 8 * m := by
  rw [← Nat.succ_mul]
  exact Nat.mul_le_mul_right m hc
theorem yl_d8 {m j : Nat} (hj : j < 8 * m) : j / m < 8 := Nat.div_lt_of_lt_mul (by rw [Nat.mul_comm]; exact hj)
theorem yl_lt {m c d : Nat} (h : c < d) : c * m + m ≤ d * m := by
  rw [← Nat.succ_mul]
  exact Nat.mul_le_mul_right m h
section
variable {a h m : Nat}
theorem yl_is {c j : Nat} (ha : a < 4) (hh : h < 8) (hm : 0 < m) (hc : c < 8) (hj : j < 8 * m) : yl_s (2 * a + 1) h m j = yl_l (2 * a + 1) h c ↔ c * m ≤ j ∧ j < c * m + m := by
  rw [← yl_div hm]
  exact ⟨fun e => yl_inj ha hh (yl_d8 hj) hc e, fun e => by unfold yl_s; rw [e]⟩
theorem yl_rank {c i : Nat} (ha : a < 4) (hh : h < 8) (hm : 0 < m) (hc : c < 8) (hi : i ≤ 8 * m) : yc_r (yl_s (2 * a + 1) h m) (yl_l (2 * a + 1) h c) i = min (i - c * m) m := by
  have h8 := yl_le8 (m := m) hc
  have no : ∀ x y, x ≤ y → y ≤ 8 * m → (y ≤ c * m ∨ c * m + m ≤ x) → yc_r (yl_s (2 * a + 1) h m) (yl_l (2 * a + 1) h c) y = yc_r (yl_s (2 * a + 1) h m) (yl_l (2 * a + 1) h c) x := fun x y hxy hy hc' => yc_allf hxy (fun j h1 h2 => decide_eq_false (fun e => by
    have := (yl_is ha hh hm hc (show j < 8 * m by omega)).mp e
    omega))
  have yes : ∀ y, c * m ≤ y → y ≤ c * m + m → yc_r (yl_s (2 * a + 1) h m) (yl_l (2 * a + 1) h c) y = yc_r (yl_s (2 * a + 1) h m) (yl_l (2 * a + 1) h c) (c * m) + (y - c * m) := fun y h1 h2 => yc_allt h1 (fun j j1 j2 => decide_eq_true ((yl_is ha hh hm hc (show j < 8 * m by omega)).mpr ⟨j1, by omega⟩))
  have z : yc_r (yl_s (2 * a + 1) h m) (yl_l (2 * a + 1) h c) 0 = 0 := rfl
  by_cases c1 : i ≤ c * m
  · rw [no 0 i (by omega) hi (Or.inl c1), z]; omega
  · have z2 := no 0 (c * m) (by omega) (by omega) (Or.inl (Nat.le_refl _))
    by_cases c2 : i ≤ c * m + m
    · rw [yes i (by omega) c2, z2, z]; omega
    · rw [no (c * m + m) i (by omega) hi (Or.inr (Nat.le_refl _)), yes (c * m + m) (by omega) (Nat.le_refl _), z2, z]; omega
theorem yl_rankx {x i : Nat} (ha : a < 4) (hh : h < 8) (hm : 0 < m) (hx : x < 8) (hi : i ≤ 8 * m) : yc_r (yl_s (2 * a + 1) h m) x i = min (i - yl_i (2 * a + 1) h x * m) m := by
  have := yl_rank (c := yl_i (2 * a + 1) h x) ha hh hm (yl_i8 _ _ _) hi
  rw [yl_inv2 a ha h hh x hx] at this
  exact this
theorem yl_all {x : Nat} (ha : a < 4) (hh : h < 8) (hm : 0 < m) (hx : x < 8) : yc_r (yl_s (2 * a + 1) h m) x (8 * m) = m := by
  rw [yl_rankx ha hh hm hx (Nat.le_refl _)]
  have := yl_le8 (m := m) (yl_i8 (2 * a + 1) h x)
  omega
theorem yl_below {x : Nat} (ha : a < 4) (hh : h < 8) (hm : 0 < m) (hx : x ≤ 8) : yc_b (yl_s (2 * a + 1) h m) x (8 * m) = x * m := by
  induction x with
  | zero => rw [yc_b_0, Nat.zero_mul]
  | succ x ih => rw [yc_b_s, ih (by omega), yl_all ha hh hm (by omega), yl_sm x m]
theorem yl_sq {r x k : Nat} (h1 : r * m ≤ k) (h2 : k < (r + 1) * m) (h3 : x * m ≤ k) (h4 : k < (x + 1) * m) : r = x := by
  have a1 : r < x + 1 := Nat.lt_of_mul_lt_mul_right (a := m) (by omega)
  have a2 : x < r + 1 := Nat.lt_of_mul_lt_mul_right (a := m) (by omega)
  omega
/-- in one stretch there is one letter -/
theorem yl_one {c r : Nat} (ha : a < 4) (hh : h < 8) (hm : 0 < m) (hc : c < 8) (hr : r < 8) (H : ∀ x, x < 8 → yc_r (yl_s (2 * a + 1) h m) x (c * m + m) - yc_r (yl_s (2 * a + 1) h m) x (c * m) ≤ yc_r (yl_s (2 * a + 1) h m) r (c * m + m) - yc_r (yl_s (2 * a + 1) h m) r (c * m)) : r = yl_l (2 * a + 1) h c := by
  have h8 := yl_le8 (m := m) hc
  have k := H (yl_l (2 * a + 1) h c) (yl_l8 _ _ _)
  rw [yl_rank ha hh hm hc h8, yl_rank ha hh hm hc (by omega), yl_rankx ha hh hm hr h8, yl_rankx ha hh hm hr (by omega)] at k
  have e : yl_i (2 * a + 1) h r = c := by
    rcases Nat.lt_trichotomy (yl_i (2 * a + 1) h r) c with g | g | g
    · have := yl_lt (m := m) g
      omega
    · exact g
    · have := yl_lt (m := m) g
      omega
  rw [← e, yl_inv2 a ha h hh r hr]
theorem yl_bnd {c : Nat} (ha : a < 4) (hh : h < 8) (hm : 0 < m) (hc : c < 8) : yn_b (yl_s (2 * a + 1) h m) (c * m) = true := by
  refine decide_eq_true ?_
  by_cases e : c = 0
  · left; rw [e, Nat.zero_mul]
  · right
    obtain ⟨d, rfl⟩ : ∃ d, c = d + 1 := ⟨c - 1, by omega⟩
    intro z
    have e1 : yl_s (2 * a + 1) h m ((d + 1) * m) = yl_l (2 * a + 1) h (d + 1) := by unfold yl_s; rw [Nat.mul_div_cancel _ hm]
    have e2 : yl_s (2 * a + 1) h m ((d + 1) * m - 1) = yl_l (2 * a + 1) h d := by
      unfold yl_s
      rw [(yl_div hm).mpr (show d * m ≤ (d + 1) * m - 1 ∧ (d + 1) * m - 1 < d * m + m by rw [yl_sm d m]; omega)]
    rw [e1, e2] at z
    have := yl_inj ha hh hc (by omega) z
    omega
theorem yl_nbnd {c y : Nat} (hm : 0 < m) (h1 : c * m < y) (h2 : y < c * m + m) : yn_b (yl_s (2 * a + 1) h m) y = false := by
  refine decide_eq_false (fun z => ?_)
  rcases z with z | z
  · omega
  · apply z
    unfold yl_s
    rw [(yl_div hm).mpr ⟨Nat.le_of_lt h1, h2⟩, (yl_div hm).mpr (show c * m ≤ y - 1 ∧ y - 1 < c * m + m by omega)]
theorem yl_runs (ha : a < 4) (hh : h < 8) (hm : 0 < m) (c : Nat) (hc : c ≤ 8) : yn_R (yl_s (2 * a + 1) h m) (c * m) = c := by
  induction c with
  | zero => rw [Nat.zero_mul]; rfl
  | succ c ih =>
    have e := yn_Rt (yl_bnd (c := c) ha hh hm (by omega))
    have f : yn_R (yl_s (2 * a + 1) h m) (c * m + m) = yn_R (yl_s (2 * a + 1) h m) (c * m + 1) := yc_allf (by omega) (fun y h1 h2 => yl_nbnd (c := c) hm (by omega) h2)
    rw [yl_sm c m, f, e, ih (by omega)]
/-! one letter is changed -/
theorem yl_chg {p q : Nat → Bool} {i n : Nat} (h : ∀ j, j < n → j ≠ i → q j = p j) (hi : i < n) : yc_ct p n + (if q i then 1 else 0) = yc_ct q n + (if p i then 1 else 0) := by
  have lo : yc_ct p i = yc_ct q i := yc_congr (fun j hj => (h j (by omega) (by omega)).symm)
  induction n with
  | zero => exact absurd hi (by omega)
  | succ n ih =>
    rw [yc_s, yc_s]
    by_cases e : i = n
    · subst e
      rw [lo]; omega
    · have := ih (fun j hj => h j (by omega)) (by omega)
      rw [h n (by omega) (fun z => e z.symm)]
      omega
def yl_c (s : Nat → Nat) (i x j : Nat) : Nat := if j = i then x else s j
theorem yl_cr (s : Nat → Nat) {i x n : Nat} (hi : i < n) (c : Nat) : yc_r (yl_c s i x) c n + (if s i = c then 1 else 0) = yc_r s c n + (if x = c then 1 else 0) := by
  have := yl_chg (p := fun j => decide (yl_c s i x j = c)) (q := fun j => decide (s j = c)) (i := i) (n := n) (fun j _ hj => by unfold yl_c; rw [if_neg hj]) hi
  have e : yl_c s i x i = x := if_pos rfl
  rw [e] at this
  simp only [decide_eq_true_eq] at this
  exact this
theorem yl_runs2 {i x : Nat} (ha : a < 4) (hh : h < 8) (hm : 0 < m) (hi : i < 8 * m) (hx : x ≠ yl_l (2 * a + 1) h (i / m)) :
    yn_R (yl_c (yl_s (2 * a + 1) h m) i x) (8 * m) + (if i / m < 7 ∧ i = i / m * m + m - 1 ∧ yl_l (2 * a + 1) h (i / m + 1) = x then 1 else 0) + (if 0 < i / m ∧ i = i / m * m ∧ yl_l (2 * a + 1) h (i / m - 1) = x then 1 else 0)
      = 8 + (if i / m * m < i then 1 else 0) + (if i < i / m * m + m - 1 then 1 else 0) := by
  have hd := yl_d8 hi
  obtain ⟨d1, d2⟩ := (yl_div hm).mp (rfl : i / m = i / m)
  generalize i / m = c at *
  have h8 := yl_le8 (m := m) hd
  have si : yl_s (2 * a + 1) h m i = yl_l (2 * a + 1) h c := (yl_is ha hh hm hd hi).mpr ⟨d1, d2⟩
  have R8 := yl_runs ha hh hm 8 (Nat.le_refl 8)
  generalize hS : yl_s (2 * a + 1) h m = S at *
  have cI : yl_c S i x i = x := if_pos rfl
  have cN : ∀ j, j ≠ i → yl_c S i x j = S j := fun j hj => if_neg hj
  -- first the place i, then the one behind it
  have s1 := yl_chg (p := yn_b S) (q := fun j => if j = i then yn_b (yl_c S i x) i else yn_b S j) (i := i) (n := 8 * m) (fun j _ hj => if_neg hj) hi
  rw [if_pos rfl] at s1
  have s2 : yc_ct (fun j => if j = i then yn_b (yl_c S i x) i else yn_b S j) (8 * m) + (if i + 1 < 8 * m then (if yn_b (yl_c S i x) (i + 1) then 1 else 0) else 0) = yn_R (yl_c S i x) (8 * m) + (if i + 1 < 8 * m then (if yn_b S (i + 1) then 1 else 0) else 0) := by
    have oth : ∀ j, j ≠ i + 1 → (if j = i then yn_b (yl_c S i x) i else yn_b S j) = yn_b (yl_c S i x) j := by
      intro j hj
      by_cases e : j = i
      · rw [if_pos e, e]
      · rw [if_neg e]
        unfold yn_b
        rw [cN j e]
        by_cases z : j = 0
        · subst z
          rw [decide_eq_true (Or.inl rfl), decide_eq_true (Or.inl rfl)]
        · rw [cN (j - 1) (by omega)]
    by_cases g : i + 1 < 8 * m
    · rw [if_pos g, if_pos g]
      have := yl_chg (p := fun j => if j = i then yn_b (yl_c S i x) i else yn_b S j) (q := yn_b (yl_c S i x)) (i := i + 1) (n := 8 * m) (fun j _ hj => (oth j hj).symm) g
      rw [if_neg (show ¬ i + 1 = i by omega)] at this
      exact this
    · rw [if_neg g, if_neg g, Nat.add_zero, Nat.add_zero]
      exact yc_congr (fun j hj => oth j (by omega))
  have R8' : yc_ct (yn_b S) (8 * m) = 8 := R8
  rw [R8'] at s1
  generalize hQ : yc_ct (fun j => if j = i then yn_b (yl_c S i x) i else yn_b S j) (8 * m) = Q at s1 s2
  -- the four marks
  have p1 : yn_b S i = decide (i = c * m) := by
    by_cases e : i = c * m
    · rw [decide_eq_true e, e, ← hS]; exact yl_bnd ha hh hm hd
    · rw [decide_eq_false e, ← hS]; exact yl_nbnd hm (show c * m < i by omega) d2
  have q1 : yn_b (yl_c S i x) i = !decide (0 < c ∧ i = c * m ∧ yl_l (2 * a + 1) h (c - 1) = x) := by
    unfold yn_b
    rw [cI]
    by_cases z : i = 0
    · rw [decide_eq_true (Or.inl z), decide_eq_false]
      · rfl
      · rintro ⟨g1, g2, _⟩
        have : 1 * m ≤ c * m := Nat.mul_le_mul_right m g1
        omega
    · rw [cN (i - 1) (by omega)]
      by_cases e : i = c * m
      · have c0 : 0 < c := by
          rcases Nat.eq_zero_or_pos c with w | w
          · rw [w, Nat.zero_mul] at e; omega
          · exact w
        have sp : S (i - 1) = yl_l (2 * a + 1) h (c - 1) := by
          rw [← hS]
          have : c * m = (c - 1) * m + m := by rw [← Nat.succ_mul]; congr 1; omega
          exact (yl_is ha hh hm (by omega) (by omega)).mpr ⟨by omega, by omega⟩
        rw [sp]
        by_cases w : yl_l (2 * a + 1) h (c - 1) = x
        · rw [decide_eq_true (show 0 < c ∧ i = c * m ∧ yl_l (2 * a + 1) h (c - 1) = x from ⟨c0, e, w⟩), decide_eq_false]
          · rfl
          · intro t
            rcases t with t | t
            · exact z t
            · exact t w.symm
        · rw [decide_eq_false (show ¬ (0 < c ∧ i = c * m ∧ yl_l (2 * a + 1) h (c - 1) = x) from fun t => w t.2.2), decide_eq_true (show i = 0 ∨ x ≠ yl_l (2 * a + 1) h (c - 1) from Or.inr (fun t => w t.symm))]
          rfl
      · have sp : S (i - 1) = yl_l (2 * a + 1) h c := by
          rw [← hS]
          exact (yl_is ha hh hm hd (by omega)).mpr ⟨by omega, by omega⟩
        rw [sp, decide_eq_true (Or.inr hx), decide_eq_false (show ¬ (0 < c ∧ i = c * m ∧ yl_l (2 * a + 1) h (c - 1) = x) from fun t => e t.2.1)]
        rfl
  by_cases g : i + 1 < 8 * m
  · have p2 : yn_b S (i + 1) = decide (i = c * m + m - 1) := by
      by_cases e : i = c * m + m - 1
      · have c7 : c + 1 < 8 := by
          rcases Nat.lt_or_ge (c + 1) 8 with w | w
          · exact w
          · have : c = 7 := by omega
            subst this
            omega
        have := yl_bnd (m := m) ha hh hm c7
        rw [yl_sm c m, hS, show c * m + m = i + 1 by omega] at this
        rw [this, decide_eq_true e]
      · rw [decide_eq_false e, ← hS]; exact yl_nbnd (c := c) hm (by omega) (by omega)
    have q2 : yn_b (yl_c S i x) (i + 1) = !decide (c < 7 ∧ i = c * m + m - 1 ∧ yl_l (2 * a + 1) h (c + 1) = x) := by
      unfold yn_b
      rw [cN (i + 1) (by omega), show i + 1 - 1 = i by omega, cI]
      by_cases e : i = c * m + m - 1
      · have c7 : c + 1 < 8 := by
          rcases Nat.lt_or_ge (c + 1) 8 with w | w
          · exact w
          · have : c = 7 := by omega
            subst this
            omega
        have sp : S (i + 1) = yl_l (2 * a + 1) h (c + 1) := by
          rw [← hS]
          exact (yl_is ha hh hm c7 g).mpr (by rw [yl_sm c m]; omega)
        rw [sp]
        by_cases w : yl_l (2 * a + 1) h (c + 1) = x
        · rw [decide_eq_true (show c < 7 ∧ i = c * m + m - 1 ∧ yl_l (2 * a + 1) h (c + 1) = x from ⟨by omega, e, w⟩), decide_eq_false]
          · rfl
          · intro t
            rcases t with t | t
            · omega
            · exact t w
        · rw [decide_eq_false (show ¬ (c < 7 ∧ i = c * m + m - 1 ∧ yl_l (2 * a + 1) h (c + 1) = x) from fun t => w t.2.2), decide_eq_true (Or.inr w)]
          rfl
      · have sp : S (i + 1) = yl_l (2 * a + 1) h c := by
          rw [← hS]
          exact (yl_is ha hh hm hd g).mpr ⟨by omega, by omega⟩
        rw [sp, decide_eq_true (show i + 1 = 0 ∨ yl_l (2 * a + 1) h c ≠ x from Or.inr (fun t => hx t.symm)), decide_eq_false (show ¬ (c < 7 ∧ i = c * m + m - 1 ∧ yl_l (2 * a + 1) h (c + 1) = x) from fun t => e t.2.1)]
        rfl
    rw [if_pos g, if_pos g, p2, q2, yl_if, yl_if2] at s2
    rw [p1, q1, yl_if, yl_if2] at s1
    have b1 : (if 0 < c ∧ i = c * m ∧ yl_l (2 * a + 1) h (c - 1) = x then 1 else 0) ≤ (if i = c * m then 1 else 0 : Nat) := by
      by_cases w : i = c * m
      · rw [if_pos w]; split <;> omega
      · rw [if_neg (fun t => w t.2.1)]; omega
    have b2 : (if c < 7 ∧ i = c * m + m - 1 ∧ yl_l (2 * a + 1) h (c + 1) = x then 1 else 0) ≤ (if i = c * m + m - 1 then 1 else 0 : Nat) := by
      by_cases w : i = c * m + m - 1
      · rw [if_pos w]; split <;> omega
      · rw [if_neg (fun t => w t.2.1)]; omega
    have b3 : (if i = c * m then 1 else 0 : Nat) + (if c * m < i then 1 else 0) = 1 := by
      by_cases w : i = c * m
      · rw [if_pos w, if_neg (by omega)]
      · rw [if_neg w, if_pos (by omega)]
    have b4 : (if i = c * m + m - 1 then 1 else 0 : Nat) + (if i < c * m + m - 1 then 1 else 0) = 1 := by
      by_cases w : i = c * m + m - 1
      · rw [if_pos w, if_neg (by omega)]
      · rw [if_neg w, if_pos (by omega)]
    generalize (if 0 < c ∧ i = c * m ∧ yl_l (2 * a + 1) h (c - 1) = x then 1 else 0 : Nat) = v1 at *
    generalize (if c < 7 ∧ i = c * m + m - 1 ∧ yl_l (2 * a + 1) h (c + 1) = x then 1 else 0 : Nat) = v2 at *
    generalize (if i = c * m then 1 else 0 : Nat) = v3 at *
    generalize (if c * m < i then 1 else 0 : Nat) = v4 at *
    generalize (if i = c * m + m - 1 then 1 else 0 : Nat) = v5 at *
    generalize (if i < c * m + m - 1 then 1 else 0 : Nat) = v6 at *
    omega
  · rw [if_neg g, if_neg g] at s2
    rw [p1, q1] at s1
    have c7 : c = 7 := by
      apply Classical.byContradiction
      intro w
      have := yl_lt (m := m) (show c < 7 by omega)
      omega
    rw [yl_if, yl_if2] at s1
    have b1 : (if 0 < c ∧ i = c * m ∧ yl_l (2 * a + 1) h (c - 1) = x then 1 else 0) ≤ (if i = c * m then 1 else 0 : Nat) := by
      by_cases w : i = c * m
      · rw [if_pos w]; split <;> omega
      · rw [if_neg (fun t => w t.2.1)]; omega
    have b3 : (if i = c * m then 1 else 0 : Nat) + (if c * m < i then 1 else 0) = 1 := by
      by_cases w : i = c * m
      · rw [if_pos w, if_neg (by omega)]
      · rw [if_neg w, if_pos (by omega)]
    have e2 : (if c < 7 ∧ i = c * m + m - 1 ∧ yl_l (2 * a + 1) h (c + 1) = x then 1 else 0 : Nat) = 0 := if_neg (by omega)
    have e4 : (if i < c * m + m - 1 then 1 else 0 : Nat) = 0 := if_neg (by rw [c7]; omega)
    rw [e2, e4]
    generalize (if 0 < c ∧ i = c * m ∧ yl_l (2 * a + 1) h (c - 1) = x then 1 else 0 : Nat) = v1 at *
    generalize (if i = c * m then 1 else 0 : Nat) = v3 at *
    generalize (if c * m < i then 1 else 0 : Nat) = v4 at *
    omega
end
end
section
/-! numbers for the law -/
theorem yl_initc {f g : Nat → Nat} (h : ∀ c, c < 8 → f c = g c) : yh_init f = yh_init g := by
  have e : (fun z => if z < 8 then f z else 0) = (fun z => if z < 8 then g z else 0) := by
    funext z
    by_cases hz : z < 8
    · rw [if_pos hz, if_pos hz, h z hz]
    · rw [if_neg hz, if_neg hz]
  unfold yh_init
  rw [e]
theorem yl_cost : ∀ m, m < 8 → 0 < m → (yh_run 8 (yh_init (fun _ => m))).1 = 7 ∧ (yh_run 8 (yh_init (fun _ => m))).2.1 = 24 * m := by decide +kernel
theorem yl_cost0 : (yh_run 8 (yh_init (fun _ => 0))).1 = 0 := by decide +kernel
theorem yl_bits {a h m : Nat} (ha : a < 4) (hh : h < 8) (hm : 0 < m) (hm7 : m < 8) : (if ys_N (yl_s (2 * a + 1) h m) (8 * m) = 0 then 8 * m else ys_cs (yl_s (2 * a + 1) h m) (8 * m)) = 24 * m := by
  have e : yh_init (fun c => yc_r (yl_s (2 * a + 1) h m) c (8 * m)) = yh_init (fun _ => m) := yl_initc (fun c hc => yl_all ha hh hm hc)
  obtain ⟨c1, c2⟩ := yl_cost m hm7 hm
  unfold ys_N ys_cs
  rw [e, c1, c2, if_neg (by decide)]
theorem yl_bits0 (s : Nat → Nat) : (if ys_N s 0 = 0 then 0 else ys_cs s 0) = 0 := by
  have e : ys_N s 0 = 0 := yl_cost0
  rw [if_pos e]
/-- the list of the law's last part -/
def yl_b (j : Nat) : Nat := if j < 1 then 5 else if j < 2 then 2 else if j < 4 then 7 else if j < 8 then 0 else if j < 16 then 3 else 6
def yl_t (j : Nat) : Nat := yl_b (j % 32)
theorem yl_tb : ∀ j, j < 32 → yl_t j = yl_b j := fun j hj => by unfold yl_t; rw [Nat.mod_eq_of_lt hj]
def yl_tab (c : Nat) : Nat := if c = 0 then 4 else if c = 2 then 1 else if c = 3 then 8 else if c = 5 then 1 else if c = 6 then 16 else if c = 7 then 2 else 0
theorem yl_tabI : ∀ c, c < 8 → yc_r yl_t c 32 = yl_tab c := by decide +kernel
theorem yl_28 : yc_r yl_t 6 60 = 28 := by decide +kernel
theorem yl_62 : (yh_run 8 (yh_init yl_tab)).1 = 5 ∧ (yh_run 8 (yh_init yl_tab)).2.1 = 62 := by decide +kernel
theorem yl_bits62 : (if ys_N yl_t 32 = 0 then 32 else ys_cs yl_t 32) = 62 := by
  have e : yh_init (fun c => yc_r yl_t c 32) = yh_init yl_tab := yl_initc yl_tabI
  unfold ys_N ys_cs
  rw [e, yl_62.1, yl_62.2, if_neg (by decide)]
theorem yl_6 {r : Nat} (hr : r < 8) (H : ∀ c, c < 8 → yc_r yl_t c 32 - yc_r yl_t c 0 ≤ yc_r yl_t r 32 - yc_r yl_t r 0) : r = 6 := by
  have k := H 6 (by omega)
  rw [show yc_r yl_t 6 0 = 0 from rfl, show yc_r yl_t r 0 = 0 from rfl, yl_tabI 6 (by omega), yl_tabI r hr] at k
  exact (by decide +kernel : ∀ r, r < 8 → yl_tab 6 - 0 ≤ yl_tab r - 0 → r = 6) r hr k
theorem yl_d6 : yc_ct (fun c => decide (yc_r yl_t c 0 < yc_r yl_t c 32)) 8 = 6 := by
  have e : yc_ct (fun c => decide (yc_r yl_t c 0 < yc_r yl_t c 32)) 8 = yc_ct (fun c => decide (0 < yl_tab c)) 8 := yc_congr (fun c hc => by rw [show yc_r yl_t c 0 = 0 from rfl, yl_tabI c hc])
  rw [e]
  decide +kernel
/-- how many letters stand behind place i -/
theorem yl_diff : ∀ a, a < 4 → ∀ h, h < 8 → ∀ c, c < 8 → yc_ct (fun x => decide (c ≤ yl_i (2 * a + 1) h x)) 8 = 8 - c := by decide +kernel
theorem yl_diffI {a h m i : Nat} (ha : a < 4) (hh : h < 8) (hm : 0 < m) (hi : i < 8 * m) : yc_ct (fun x => decide (yc_r (yl_s (2 * a + 1) h m) x i < yc_r (yl_s (2 * a + 1) h m) x (8 * m))) 8 = 8 - i / m := by
  rw [← yl_diff a ha h hh (i / m) (yl_d8 hi)]
  refine yc_congr (fun x hx => decide_eq_decide.mpr ?_)
  rw [yl_all ha hh hm hx, yl_rankx ha hh hm hx (Nat.le_of_lt hi)]
  have h2 := Nat.div_lt_iff_lt_mul (x := i) (y := yl_i (2 * a + 1) h x + 1) hm
  rw [yl_sm (yl_i (2 * a + 1) h x) m] at h2
  constructor
  · intro k
    have := h2.mpr (by omega)
    omega
  · intro k
    have := h2.mp (by omega)
    omega
end
section
/-! the law, from its last part up -/
theorem yl_t7 : ∀ j, j < 4 → 2 ≤ j → yl_t j = 7 := by decide +kernel
theorem yl_t0 : ∀ j, j < 8 → 4 ≤ j → yl_t j = 0 := by decide +kernel
theorem yl_t3 : ∀ j, j < 16 → 8 ≤ j → yl_t j = 3 := by decide +kernel
theorem yl_t6 : ∀ j, j < 32 → 16 ≤ j → yl_t j = 6 := by decide +kernel
theorem yl_tc : ∀ j, j < 60 → 32 ≤ j → yl_t j = yl_t (j - 32) := by decide +kernel
theorem yw_944 {fn fk fr fd fs : Int32} {a1 a2 a3 a4 a5 a6 a7 a8 a9 a10 a11 a12 a13 a14 a15 a16 a17 a18 a19 a20 a21 a22 a23 a24 a25 a26 a27 : Nat → Int32} {post : Int32 → St0 → Prop} {mc ms kc ks e n : Nat} {s : Nat → Nat} (hp : post 1 ()) (he : e < 7) (h : ys_ok s n (fn, fk, fr, fd, fs, a1, a2, a3, a4, a5, a6, a7, a8, a9, a10, a11, a12, a13, a14, a15, a16, a17, a18, a19, a20, a21, a22, a23, a24, a25, a26, a27)) :
    wL_lawOf_944 post mc ms (nI e) (nI (6 - e)) 1 kc ks fn fk fr fd fs a1 a2 a3 a4 a5 a6 a7 a8 a9 a10 a11 a12 a13 a14 a15 a16 a17 a18 a19 a20 a21 a22 a23 a24 a25 a26 a27 := by
  have hn : n ≤ 200 := h.1.2.1
  refine yq_Cut yl_t h (k0 := 0) (by omega) (Nat.le_refl 200) (fun j hj => absurd hj (by omega)) rfl (fun u hu => ?_)
  clear h
  obtain ⟨fn, fk, fr, fd, fs, a1, a2, a3, a4, a5, a6, a7, a8, a9, a10, a11, a12, a13, a14, a15, a16, a17, a18, a19, a20, a21, a22, a23, a24, a25, a26, a27⟩ := u
  refine yq_Append yl_t hu (k0 := 1) (c := 5) (m := 1) rfl (by omega) (by omega) (by omega) (fun _ _ => rfl) (fun j h1 h2 => by rw [show j = 0 by omega]; rfl) rfl rfl (fun u hu => ?_)
  obtain ⟨fn, fk, fr, fd, fs, a1, a2, a3, a4, a5, a6, a7, a8, a9, a10, a11, a12, a13, a14, a15, a16, a17, a18, a19, a20, a21, a22, a23, a24, a25, a26, a27⟩ := u
  refine yq_Append yl_t hu (k0 := 2) (c := 2) (m := 1) rfl (by omega) (by omega) (by omega) (fun _ _ => rfl) (fun j h1 h2 => by rw [show j = 1 by omega]; rfl) rfl rfl (fun u hu => ?_)
  obtain ⟨fn, fk, fr, fd, fs, a1, a2, a3, a4, a5, a6, a7, a8, a9, a10, a11, a12, a13, a14, a15, a16, a17, a18, a19, a20, a21, a22, a23, a24, a25, a26, a27⟩ := u
  refine yq_Append yl_t hu (k0 := 4) (c := 7) (m := 2) rfl (by omega) (by omega) (by omega) (fun _ _ => rfl) (fun j h1 h2 => yl_t7 j h2 h1) rfl rfl (fun u hu => ?_)
  obtain ⟨fn, fk, fr, fd, fs, a1, a2, a3, a4, a5, a6, a7, a8, a9, a10, a11, a12, a13, a14, a15, a16, a17, a18, a19, a20, a21, a22, a23, a24, a25, a26, a27⟩ := u
  refine yq_Append yl_t hu (k0 := 8) (c := 0) (m := 4) rfl (by omega) (by omega) (by omega) (fun _ _ => rfl) (fun j h1 h2 => yl_t0 j h2 h1) rfl rfl (fun u hu => ?_)
  obtain ⟨fn, fk, fr, fd, fs, a1, a2, a3, a4, a5, a6, a7, a8, a9, a10, a11, a12, a13, a14, a15, a16, a17, a18, a19, a20, a21, a22, a23, a24, a25, a26, a27⟩ := u
  refine yq_Append yl_t hu (k0 := 16) (c := 3) (m := 8) rfl (by omega) (by omega) (by omega) (fun _ _ => rfl) (fun j h1 h2 => yl_t3 j h2 h1) rfl rfl (fun u hu => ?_)
  obtain ⟨fn, fk, fr, fd, fs, a1, a2, a3, a4, a5, a6, a7, a8, a9, a10, a11, a12, a13, a14, a15, a16, a17, a18, a19, a20, a21, a22, a23, a24, a25, a26, a27⟩ := u
  refine yq_Append yl_t hu (k0 := 32) (c := 6) (m := 16) rfl (by omega) (by omega) (by omega) (fun _ _ => rfl) (fun j h1 h2 => yl_t6 j h2 h1) rfl rfl (fun u hu => ?_)
  obtain ⟨fn, fk, fr, fd, fs, a1, a2, a3, a4, a5, a6, a7, a8, a9, a10, a11, a12, a13, a14, a15, a16, a17, a18, a19, a20, a21, a22, a23, a24, a25, a26, a27⟩ := u
  refine yq_Again yl_t hu (k0 := 60) (b := 32) (m := 28) rfl (by omega) (by omega) (by omega) (by omega) (by omega) (fun _ _ => rfl) (fun j h1 h2 => yl_tc j h2 h1) rfl rfl (fun u hu => ?_)
  obtain ⟨fn, fk, fr, fd, fs, a1, a2, a3, a4, a5, a6, a7, a8, a9, a10, a11, a12, a13, a14, a15, a16, a17, a18, a19, a20, a21, a22, a23, a24, a25, a26, a27⟩ := u
  refine br_f (by decide) (br_t rfl (br_t rfl (br_t rfl (br_t rfl (br_t rfl (br_t rfl (br_t rfl (br_t rfl ?_))))))))
  refine yq_Rank hu he (c := 6) (i := 60) (by omega) (by omega) rfl rfl rfl (fun u hu => ?_)
  obtain ⟨fn, fk, fr, fd, fs, a1, a2, a3, a4, a5, a6, a7, a8, a9, a10, a11, a12, a13, a14, a15, a16, a17, a18, a19, a20, a21, a22, a23, a24, a25, a26, a27⟩ := u
  rw [yl_28]
  refine br_t rfl (yq_Cut yl_t hu (m := 28) (k0 := 32) (by omega) (by omega) (fun _ _ => rfl) rfl (fun u hu => ?_))
  obtain ⟨fn, fk, fr, fd, fs, a1, a2, a3, a4, a5, a6, a7, a8, a9, a10, a11, a12, a13, a14, a15, a16, a17, a18, a19, a20, a21, a22, a23, a24, a25, a26, a27⟩ := u
  refine br_t rfl (yq_Bits hu (fun u hu => ?_))
  obtain ⟨fn, fk, fr, fd, fs, a1, a2, a3, a4, a5, a6, a7, a8, a9, a10, a11, a12, a13, a14, a15, a16, a17, a18, a19, a20, a21, a22, a23, a24, a25, a26, a27⟩ := u
  rw [yl_bits62]
  refine br_t rfl (yq_Most hu (e := 6 - e) (i := 0) (j := 32) (by omega) (by omega) (by omega) rfl rfl rfl (fun r u r1 r2 _ hu => ?_))
  obtain ⟨fn, fk, fr, fd, fs, a1, a2, a3, a4, a5, a6, a7, a8, a9, a10, a11, a12, a13, a14, a15, a16, a17, a18, a19, a20, a21, a22, a23, a24, a25, a26, a27⟩ := u
  have hr := yl_6 r1 r2
  subst hr
  refine br_t rfl (yq_Different hu (i := 0) (j := 32) (by omega) (by omega) rfl rfl (fun u hu => ?_))
  obtain ⟨fn, fk, fr, fd, fs, a1, a2, a3, a4, a5, a6, a7, a8, a9, a10, a11, a12, a13, a14, a15, a16, a17, a18, a19, a20, a21, a22, a23, a24, a25, a26, a27⟩ := u
  rw [yl_d6]
  refine br_t rfl (yq_AppendF hu (c := 0) (m := 169) (by omega) (by omega) (by omega) (by omega) rfl rfl ?_)
  refine br_t rfl (yq_Append8 ?_)
  refine br_t rfl (yq_AgainF hu (b := 33) (by omega) (by omega) rfl ?_)
  refine br_t rfl (yq_ChangeF hu (i := 32) (by omega) (by omega) rfl ?_)
  refine br_t rfl (yq_At7 ?_)
  refine br_t rfl (yq_Rank8 he rfl ?_)
  refine br_t rfl (yq_BelowF he rfl ?_)
  refine br_t rfl (yq_OrderedF hu (by omega) he rfl ?_)
  refine br_t rfl (yq_Agree7 ?_)
  exact br_t rfl hp
theorem yw_834 {fn fk fr fd fs : Int32} {a1 a2 a3 a4 a5 a6 a7 a8 a9 a10 a11 a12 a13 a14 a15 a16 a17 a18 a19 a20 a21 a22 a23 a24 a25 a26 a27 : Nat → Int32} {post : Int32 → St0 → Prop} {mc ms kc ks e a h m i : Nat} {z0 z1 : Int32} (hp : post 1 ()) (he : e < 7) (ha : a < 4) (hh : h < 8) (hm : 0 < m) (hm7 : m < 8) (hi : i < 8 * m)
    (hu : ys_ok (yl_c (yl_s (2 * a + 1) h m) i ((yl_l (2 * a + 1) h (i / m) + 1) % 8)) (8 * m) (fn, fk, fr, fd, fs, a1, a2, a3, a4, a5, a6, a7, a8, a9, a10, a11, a12, a13, a14, a15, a16, a17, a18, a19, a20, a21, a22, a23, a24, a25, a26, a27))
    (hz : z1 - z0 = nI (yn_R (yl_c (yl_s (2 * a + 1) h m) i ((yl_l (2 * a + 1) h (i / m) + 1) % 8)) (8 * m))) :
    wL_lawOf_834 post mc ms (nI m) (nI (8 * m)) (nI i) (nI e) (nI (6 - e)) 1 (nI (yl_l (2 * a + 1) h (i / m))) (nI (yl_l (2 * a + 1) h (i / m))) z0 z1 kc ks fn fk fr fd fs a1 a2 a3 a4 a5 a6 a7 a8 a9 a10 a11 a12 a13 a14 a15 a16 a17 a18 a19 a20 a21 a22 a23 a24 a25 a26 a27 := by
  have l8 := yl_l8 (2 * a + 1) h (i / m)
  have si : yl_s (2 * a + 1) h m i = yl_l (2 * a + 1) h (i / m) := rfl
  have ey : (nI (yl_l (2 * a + 1) h (i / m)) + 1) &&& 7 = nI ((yl_l (2 * a + 1) h (i / m) + 1) % 8) := by rw [nI_1, yi_7 (by omega)]
  have em : nI m - 1 = nI (m - 1) := pk_sub (b := 1) hm
  have cr := fun c => yl_cr (yl_s (2 * a + 1) h m) (x := (yl_l (2 * a + 1) h (i / m) + 1) % 8) hi c
  have all := fun c (hc : c < 8) => yl_all (m := m) (x := c) ha hh hm hc
  rw [si] at cr
  generalize yl_l (2 * a + 1) h (i / m) = l at *
  have hx : (l + 1) % 8 ≠ l := by omega
  have hx8 : (l + 1) % 8 < 8 := by omega
  have r1 := cr l
  have r2 := cr ((l + 1) % 8)
  rw [all l l8, if_pos rfl, if_neg hx] at r1
  rw [all _ hx8, if_pos rfl, if_neg (fun z => hx z.symm)] at r2
  have rI : yl_c (yl_s (2 * a + 1) h m) i ((l + 1) % 8) i = (l + 1) % 8 := if_pos rfl
  refine nm_r hz (br_f (by decide) (br_t rfl ?_))
  rw [ey, em, nI_1]
  refine yq_At hu he hi rfl rfl (fun u hu => ?_)
  obtain ⟨fn, fk, fr, fd, fs, a1, a2, a3, a4, a5, a6, a7, a8, a9, a10, a11, a12, a13, a14, a15, a16, a17, a18, a19, a20, a21, a22, a23, a24, a25, a26, a27⟩ := u
  rw [rI]
  refine br_t rfl (yq_Rank hu (e := 6 - e) (by omega) l8 (Nat.le_refl _) rfl rfl rfl (fun u hu => ?_))
  obtain ⟨fn, fk, fr, fd, fs, a1, a2, a3, a4, a5, a6, a7, a8, a9, a10, a11, a12, a13, a14, a15, a16, a17, a18, a19, a20, a21, a22, a23, a24, a25, a26, a27⟩ := u
  refine br_t (congrArg nI (by omega)) (yq_Rank hu he hx8 (Nat.le_refl _) rfl rfl rfl (fun u hu => ?_))
  obtain ⟨fn, fk, fr, fd, fs, a1, a2, a3, a4, a5, a6, a7, a8, a9, a10, a11, a12, a13, a14, a15, a16, a17, a18, a19, a20, a21, a22, a23, a24, a25, a26, a27⟩ := u
  refine br_t (congrArg nI (by omega)) (yq_Most hu he (i := 0) (by omega) (Nat.le_refl _) rfl rfl rfl (fun r u q1 q2 _ hu => ?_))
  obtain ⟨fn, fk, fr, fd, fs, a1, a2, a3, a4, a5, a6, a7, a8, a9, a10, a11, a12, a13, a14, a15, a16, a17, a18, a19, a20, a21, a22, a23, a24, a25, a26, a27⟩ := u
  have hr : r = (l + 1) % 8 := by
    have k := q2 ((l + 1) % 8) hx8
    rw [show ∀ c, yc_r (yl_c (yl_s (2 * a + 1) h m) i ((l + 1) % 8)) c 0 = 0 from fun _ => rfl, show ∀ c, yc_r (yl_c (yl_s (2 * a + 1) h m) i ((l + 1) % 8)) c 0 = 0 from fun _ => rfl] at k
    have r3 := cr r
    rw [all r q1] at r3
    apply Classical.byContradiction
    intro w
    rw [if_neg (show ¬ (l + 1) % 8 = r from fun z => w z.symm)] at r3
    omega
  refine br_t (by rw [hr]) (yq_Runs hu (fun u hu => ?_))
  obtain ⟨fn, fk, fr, fd, fs, a1, a2, a3, a4, a5, a6, a7, a8, a9, a10, a11, a12, a13, a14, a15, a16, a17, a18, a19, a20, a21, a22, a23, a24, a25, a26, a27⟩ := u
  exact br_t rfl (yw_944 hp he hu)
/-- what the four marks come to -/
theorem yw_768 {fn fk fr fd fs : Int32} {a1 a2 a3 a4 a5 a6 a7 a8 a9 a10 a11 a12 a13 a14 a15 a16 a17 a18 a19 a20 a21 a22 a23 a24 a25 a26 a27 : Nat → Int32} {post : Int32 → St0 → Prop} {mc ms kc ks e a h m i lo up : Nat} (hp : post 1 ()) (he : e < 7) (ha : a < 4) (hh : h < 8) (hm : 0 < m) (hm7 : m < 8) (hi : i < 8 * m)
    (hu : ys_ok (yl_c (yl_s (2 * a + 1) h m) i ((yl_l (2 * a + 1) h (i / m) + 1) % 8)) (8 * m) (fn, fk, fr, fd, fs, a1, a2, a3, a4, a5, a6, a7, a8, a9, a10, a11, a12, a13, a14, a15, a16, a17, a18, a19, a20, a21, a22, a23, a24, a25, a26, a27)) (hlo : lo ≤ 1) (hup : up ≤ 1)
    (hr : yn_R (yl_c (yl_s (2 * a + 1) h m) i ((yl_l (2 * a + 1) h (i / m) + 1) % 8)) (8 * m) + lo + up = 8 + (if i / m * m < i then 1 else 0) + (if i < i / m * m + m - 1 then 1 else 0)) :
    wL_lawOf_768 post mc ms (nI m) (nI (8 * m)) (nI i) (nI e) (nI (6 - e)) 1 (nI (i / m)) (nI (yl_l (2 * a + 1) h (i / m))) (nI (yl_l (2 * a + 1) h (i / m))) (nI lo) (nI up) kc ks fn fk fr fd fs a1 a2 a3 a4 a5 a6 a7 a8 a9 a10 a11 a12 a13 a14 a15 a16 a17 a18 a19 a20 a21 a22 a23 a24 a25 a26 a27 := by
  obtain ⟨d1, d2⟩ := (yl_div hm).mp (rfl : i / m = i / m)
  have ec : nI (i / m) * nI m = nI (i / m * m) := pk_mul _ _
  have ec2 : nI (i / m * m) + nI m - 1 = nI (i / m * m + m - 1) := by rw [nI_add]; exact pk_sub (b := 1) (by omega)
  have fin : ∀ m1 m2 : Nat, yn_R (yl_c (yl_s (2 * a + 1) h m) i ((yl_l (2 * a + 1) h (i / m) + 1) % 8)) (8 * m) + lo + up = 8 + m1 + m2 →
      wL_lawOf_805 post mc ms (nI m) (nI (8 * m)) (nI i) (nI e) (nI (6 - e)) 1 (nI (yl_l (2 * a + 1) h (i / m))) (nI (yl_l (2 * a + 1) h (i / m))) (nI lo) (nI up) (nI m2) (nI m1) kc ks fn fk fr fd fs a1 a2 a3 a4 a5 a6 a7 a8 a9 a10 a11 a12 a13 a14 a15 a16 a17 a18 a19 a20 a21 a22 a23 a24 a25 a26 a27 := by
    intro m1 m2 e1
    refine nm_r (nI_add m1 m2) ?_
    have e8 : (8 : Int32) + nI (m1 + m2) = nI (8 + (m1 + m2)) := nI_add 8 _
    rw [e8]
    have g2 : ∀ z, z = nI lo → wL_lawOf_823 post mc ms (nI m) (nI (8 * m)) (nI i) (nI e) (nI (6 - e)) 1 (nI (yl_l (2 * a + 1) h (i / m))) (nI (yl_l (2 * a + 1) h (i / m))) (nI up) z (nI (8 + (m1 + m2))) kc ks fn fk fr fd fs a1 a2 a3 a4 a5 a6 a7 a8 a9 a10 a11 a12 a13 a14 a15 a16 a17 a18 a19 a20 a21 a22 a23 a24 a25 a26 a27 := by
      intro z hz
      subst hz
      have g3 : ∀ z, z = nI up → wL_lawOf_834 post mc ms (nI m) (nI (8 * m)) (nI i) (nI e) (nI (6 - e)) 1 (nI (yl_l (2 * a + 1) h (i / m))) (nI (yl_l (2 * a + 1) h (i / m))) z (nI (8 + (m1 + m2)) - nI lo) kc ks fn fk fr fd fs a1 a2 a3 a4 a5 a6 a7 a8 a9 a10 a11 a12 a13 a14 a15 a16 a17 a18 a19 a20 a21 a22 a23 a24 a25 a26 a27 := by
        intro z hz
        subst hz
        refine yw_834 hp he ha hh hm hm7 hi hu ?_
        rw [pk_sub (by omega), pk_sub (by omega)]
        exact congrArg nI (by omega)
      exact pk_eq up 0 (fun w => g3 0 (by rw [w]; rfl)) (fun w => g3 1 (by rw [show up = 1 by omega]; rfl))
    exact pk_eq lo 0 (fun w => g2 0 (by rw [w]; rfl)) (fun w => g2 1 (by rw [show lo = 1 by omega]; rfl))
  have f785 : ∀ m1 : Nat, yn_R (yl_c (yl_s (2 * a + 1) h m) i ((yl_l (2 * a + 1) h (i / m) + 1) % 8)) (8 * m) + lo + up = 8 + m1 + (if i < i / m * m + m - 1 then 1 else 0) →
      wL_lawOf_785 post mc ms (nI m) (nI (8 * m)) (nI i) (nI e) (nI (6 - e)) 1 (nI (i / m)) (nI (yl_l (2 * a + 1) h (i / m))) (nI (yl_l (2 * a + 1) h (i / m))) (nI lo) (nI up) (nI m1) kc ks fn fk fr fd fs a1 a2 a3 a4 a5 a6 a7 a8 a9 a10 a11 a12 a13 a14 a15 a16 a17 a18 a19 a20 a21 a22 a23 a24 a25 a26 a27 := by
    intro m1 e1
    refine pk_le (i / m * m + m - 1) i (fun z => fin m1 0 ?_) (fun z => fin m1 1 ?_) (by rw [ec, ec2])
    · rw [if_neg (by omega)] at e1; exact e1
    · rw [if_pos z] at e1; exact e1
  refine pk_le i (i / m * m) (fun z => f785 0 ?_) (fun z => f785 1 ?_) rfl ec
  · rw [if_neg (by omega)] at hr; exact hr
  · rw [if_pos z] at hr; exact hr
theorem yw_723 {fn fk fr fd fs : Int32} {a1 a2 a3 a4 a5 a6 a7 a8 a9 a10 a11 a12 a13 a14 a15 a16 a17 a18 a19 a20 a21 a22 a23 a24 a25 a26 a27 : Nat → Int32} {post : Int32 → St0 → Prop} {mc ms kc ks e a h m i lo : Nat} (hp : post 1 ()) (he : e < 7) (ha : a < 4) (hh : h < 8) (hm : 0 < m) (hm7 : m < 8) (hi : i < 8 * m)
    (hu : ys_ok (yl_c (yl_s (2 * a + 1) h m) i ((yl_l (2 * a + 1) h (i / m) + 1) % 8)) (8 * m) (fn, fk, fr, fd, fs, a1, a2, a3, a4, a5, a6, a7, a8, a9, a10, a11, a12, a13, a14, a15, a16, a17, a18, a19, a20, a21, a22, a23, a24, a25, a26, a27))
    (hlo : lo = if i / m < 7 ∧ i = i / m * m + m - 1 ∧ yl_l (2 * a + 1) h (i / m + 1) = (yl_l (2 * a + 1) h (i / m) + 1) % 8 then 1 else 0) :
    wL_lawOf_723 post mc ms (nI m) (nI (2 * a + 1)) (nI h) (nI (8 * m)) (nI i) (nI e) (nI (6 - e)) 1 (nI (i / m)) (nI (yl_l (2 * a + 1) h (i / m))) (nI (yl_l (2 * a + 1) h (i / m))) (nI lo) kc ks fn fk fr fd fs a1 a2 a3 a4 a5 a6 a7 a8 a9 a10 a11 a12 a13 a14 a15 a16 a17 a18 a19 a20 a21 a22 a23 a24 a25 a26 a27 := by
  have hd := yl_d8 hi
  obtain ⟨d1, d2⟩ := (yl_div hm).mp (rfl : i / m = i / m)
  have l8 := yl_l8 (2 * a + 1) h (i / m)
  have hx : (yl_l (2 * a + 1) h (i / m) + 1) % 8 ≠ yl_l (2 * a + 1) h (i / m) := by omega
  have rr := yl_runs2 ha hh hm hi hx
  have ey : (nI (yl_l (2 * a + 1) h (i / m)) + 1) &&& 7 = nI ((yl_l (2 * a + 1) h (i / m) + 1) % 8) := by rw [nI_1, yi_7 (by omega)]
  have lo1 : lo ≤ 1 := by rw [hlo]; split <;> omega
  rw [← hlo] at rr
  have g : ∀ up : Nat, up = (if 0 < i / m ∧ i = i / m * m ∧ yl_l (2 * a + 1) h (i / m - 1) = (yl_l (2 * a + 1) h (i / m) + 1) % 8 then 1 else 0) →
      wL_lawOf_768 post mc ms (nI m) (nI (8 * m)) (nI i) (nI e) (nI (6 - e)) 1 (nI (i / m)) (nI (yl_l (2 * a + 1) h (i / m))) (nI (yl_l (2 * a + 1) h (i / m))) (nI lo) (nI up) kc ks fn fk fr fd fs a1 a2 a3 a4 a5 a6 a7 a8 a9 a10 a11 a12 a13 a14 a15 a16 a17 a18 a19 a20 a21 a22 a23 a24 a25 a26 a27 := by
    intro up hup
    rw [← hup] at rr
    exact yw_768 hp he ha hh hm hm7 hi hu lo1 (by rw [hup]; split <;> omega) rr
  refine pk_le (i / m) 0 (fun z => g 0 ?_) (fun z => ?_)
  · rw [if_neg (by omega)]
  · refine pk_eq i (i / m * m) (fun w => ?_) (fun w => g 0 ?_) rfl (pk_mul _ _)
    · have e1 : ((nI (i / m) - 1) * nI (2 * a + 1) + nI h) &&& 7 = nI (yl_l (2 * a + 1) h (i / m - 1)) := by
        have e2 : nI (i / m) - 1 = nI (i / m - 1) := pk_sub (b := 1) (by omega)
        have b1 : (i / m - 1) * (2 * a + 1) ≤ 8 * 8 := Nat.mul_le_mul (by omega) (by omega)
        rw [e2, pk_mul, nI_add, yi_7 (by omega)]
        rfl
      have l8' := yl_l8 (2 * a + 1) h (i / m - 1)
      refine pk_eq (yl_l (2 * a + 1) h (i / m - 1)) ((yl_l (2 * a + 1) h (i / m) + 1) % 8) (fun t => g 1 ?_) (fun t => g 0 ?_) e1 ey
      · rw [if_pos ⟨z, w, t⟩]
      · rw [if_neg (fun y => t y.2.2)]
    · rw [if_neg (fun y => w y.2.1)]
theorem yw_655 {fn fk fr fd fs : Int32} {a1 a2 a3 a4 a5 a6 a7 a8 a9 a10 a11 a12 a13 a14 a15 a16 a17 a18 a19 a20 a21 a22 a23 a24 a25 a26 a27 : Nat → Int32} {post : Int32 → St0 → Prop} {mc ms kc ks e a h m i : Nat} (hp : post 1 ()) (he : e < 7) (ha : a < 4) (hh : h < 8) (hm : 0 < m) (hm7 : m < 8) (hi : i < 8 * m)
    (hu : ys_ok (yl_s (2 * a + 1) h m) (8 * m) (fn, fk, fr, fd, fs, a1, a2, a3, a4, a5, a6, a7, a8, a9, a10, a11, a12, a13, a14, a15, a16, a17, a18, a19, a20, a21, a22, a23, a24, a25, a26, a27)) :
    wL_lawOf_655 post mc ms (nI m) (nI (2 * a + 1)) (nI h) (nI (8 * m)) (nI i) (nI e) (nI (6 - e)) (nI (i / m)) (nI (yl_l (2 * a + 1) h (i / m))) 1 kc ks fn fk fr fd fs a1 a2 a3 a4 a5 a6 a7 a8 a9 a10 a11 a12 a13 a14 a15 a16 a17 a18 a19 a20 a21 a22 a23 a24 a25 a26 a27 := by
  have hd := yl_d8 hi
  obtain ⟨d1, d2⟩ := (yl_div hm).mp (rfl : i / m = i / m)
  have l8 := yl_l8 (2 * a + 1) h (i / m)
  have ey : (nI (yl_l (2 * a + 1) h (i / m)) + 1) &&& 7 = nI ((yl_l (2 * a + 1) h (i / m) + 1) % 8) := by rw [nI_1, yi_7 (by omega)]
  have ec2 : nI (i / m) * nI m + nI m - 1 = nI (i / m * m + m - 1) := by rw [pk_mul, nI_add]; exact pk_sub (b := 1) (by omega)
  refine yq_Change (yl_c (yl_s (2 * a + 1) h m) i ((yl_l (2 * a + 1) h (i / m) + 1) % 8)) hu hi (by omega) (fun j _ hj => if_neg hj) (if_pos rfl) rfl ey (fun u hu => ?_)
  obtain ⟨fn, fk, fr, fd, fs, a1, a2, a3, a4, a5, a6, a7, a8, a9, a10, a11, a12, a13, a14, a15, a16, a17, a18, a19, a20, a21, a22, a23, a24, a25, a26, a27⟩ := u
  have g : ∀ lo : Nat, lo = (if i / m < 7 ∧ i = i / m * m + m - 1 ∧ yl_l (2 * a + 1) h (i / m + 1) = (yl_l (2 * a + 1) h (i / m) + 1) % 8 then 1 else 0) →
      wL_lawOf_723 post mc ms (nI m) (nI (2 * a + 1)) (nI h) (nI (8 * m)) (nI i) (nI e) (nI (6 - e)) 1 (nI (i / m)) (nI (yl_l (2 * a + 1) h (i / m))) (nI (yl_s (2 * a + 1) h m i)) (nI lo) kc ks fn fk fr fd fs a1 a2 a3 a4 a5 a6 a7 a8 a9 a10 a11 a12 a13 a14 a15 a16 a17 a18 a19 a20 a21 a22 a23 a24 a25 a26 a27 :=
    fun lo hlo => yw_723 hp he ha hh hm hm7 hi hu hlo
  refine pk_le 7 (i / m) (fun z => g 0 ?_) (fun z => ?_)
  · rw [if_neg (by omega)]
  · refine pk_eq i (i / m * m + m - 1) (fun w => ?_) (fun w => g 0 ?_) rfl ec2
    · have e1 : ((nI (i / m) + 1) * nI (2 * a + 1) + nI h) &&& 7 = nI (yl_l (2 * a + 1) h (i / m + 1)) := by
        have b1 : (i / m + 1) * (2 * a + 1) ≤ 9 * 8 := Nat.mul_le_mul (by omega) (by omega)
        rw [nI_1, pk_mul, nI_add, yi_7 (by omega)]
        rfl
      have l8' := yl_l8 (2 * a + 1) h (i / m + 1)
      refine pk_eq (yl_l (2 * a + 1) h (i / m + 1)) ((yl_l (2 * a + 1) h (i / m) + 1) % 8) (fun t => g 1 ?_) (fun t => g 0 ?_) e1 ey
      · rw [if_pos ⟨z, w, t⟩]
      · rw [if_neg (fun y => t y.2.2)]
    · rw [if_neg (fun y => w y.2.1)]
end
section
/-! the law's loops and its head -/
theorem yw_309 {fn fk fr fd fs : Int32} {a1 a2 a3 a4 a5 a6 a7 a8 a9 a10 a11 a12 a13 a14 a15 a16 a17 a18 a19 a20 a21 a22 a23 a24 a25 a26 a27 : Nat → Int32} {post : Int32 → St0 → Prop} {mc ms kc ks e a h m i c : Nat} {J : Int32 → Int32 → Int32 → Int32 → Int32 → Int32 → Int32 → (Nat → Int32) → (Nat → Int32) → (Nat → Int32) → (Nat → Int32) → (Nat → Int32) → (Nat → Int32) → (Nat → Int32) → (Nat → Int32) → (Nat → Int32) → (Nat → Int32) → (Nat → Int32) → (Nat → Int32) → (Nat → Int32) → (Nat → Int32) → (Nat → Int32) → (Nat → Int32) → (Nat → Int32) → (Nat → Int32) → (Nat → Int32) → (Nat → Int32) → (Nat → Int32) → (Nat → Int32) → (Nat → Int32) → (Nat → Int32) → (Nat → Int32) → (Nat → Int32) → (Nat → Int32) →  Prop} {x13 x14 x17 z0 : Int32} (he : e < 7) (ha : a < 4) (hh : h < 8) (hm : 0 < m) (hm7 : m < 8) (hi : i < 8 * m) (hc : c < 8)
    (hu : ys_ok (yl_s (2 * a + 1) h m) (8 * m) (fn, fk, fr, fd, fs, a1, a2, a3, a4, a5, a6, a7, a8, a9, a10, a11, a12, a13, a14, a15, a16, a17, a18, a19, a20, a21, a22, a23, a24, a25, a26, a27)) (h17 : x17 = nI (min (i - c * m) m)) (hz : z0 = if c * m + m ≤ i then -1 else nI (max i (c * m)))
    (H : ∀ u : St2, ys_ok (yl_s (2 * a + 1) h m) (8 * m) u → match u with | (fn, fk, fr, fd, fs, a1, a2, a3, a4, a5, a6, a7, a8, a9, a10, a11, a12, a13, a14, a15, a16, a17, a18, a19, a20, a21, a22, a23, a24, a25, a26, a27) => J 1 (nI (c + 1)) fn fk fr fd fs a1 a2 a3 a4 a5 a6 a7 a8 a9 a10 a11 a12 a13 a14 a15 a16 a17 a18 a19 a20 a21 a22 a23 a24 a25 a26 a27) :
    wL_lawOf_309 post mc ms J (nI m) (nI (2 * a + 1)) (nI h) (nI (8 * m)) (nI i) (nI e) (nI (6 - e)) 1 x13 x14 (nI c) (nI (yl_l (2 * a + 1) h c)) x17 z0 kc ks fn fk fr fd fs a1 a2 a3 a4 a5 a6 a7 a8 a9 a10 a11 a12 a13 a14 a15 a16 a17 a18 a19 a20 a21 a22 a23 a24 a25 a26 a27 := by
  have l8 := yl_l8 (2 * a + 1) h c
  have h8 := yl_le8 (m := m) hc
  have hl8 := yl_le8 (m := m) l8
  have rk := fun j (hj : j ≤ 8 * m) => yl_rank (c := c) (i := j) ha hh hm hc hj
  have ec : nI c * nI m = nI (c * m) := pk_mul _ _
  have ec2 : nI (c * m) + nI m = nI (c * m + m) := nI_add _ _
  have ec3 : nI (c * m + m) - 1 = nI (c * m + m - 1) := pk_sub (b := 1) (by omega)
  have em : nI m - 1 = nI (m - 1) := pk_sub (b := 1) (by omega)
  have el : nI (yl_l (2 * a + 1) h c) * nI m = nI (yl_l (2 * a + 1) h c * m) := pk_mul _ _
  have el2 : nI (yl_l (2 * a + 1) h c * m) + nI m = nI (yl_l (2 * a + 1) h c * m + m) := nI_add _ _
  have el3 : nI (yl_l (2 * a + 1) h c * m + m) - 1 = nI (yl_l (2 * a + 1) h c * m + m - 1) := pk_sub (b := 1) (by omega)
  have s1 : yl_s (2 * a + 1) h m (c * m) = yl_l (2 * a + 1) h c := (yl_is ha hh hm hc (by omega)).mpr ⟨by omega, by omega⟩
  have s2 : yl_s (2 * a + 1) h m (c * m + m - 1) = yl_l (2 * a + 1) h c := (yl_is ha hh hm hc (by omega)).mpr ⟨by omega, by omega⟩
  have sq : ∀ q, c * m ≤ q → q < c * m + m → yl_s (2 * a + 1) h m q = yl_l (2 * a + 1) h c := fun q q1 q2 => (yl_is ha hh hm hc (by omega)).mpr ⟨q1, q2⟩
  have bl := fun x (hx : x ≤ 8) => yl_below (m := m) (x := x) ha hh hm hx
  have one := fun r (hr : r < 8) => yl_one (m := m) (r := r) (c := c) ha hh hm hc hr
  have sqq := fun r k => yl_sq (m := m) (r := r) (x := yl_l (2 * a + 1) h c) (k := k)
  have bs : ∀ x, yc_b (yl_s (2 * a + 1) h m) x 0 = 0 := fun x => rfl
  generalize yl_l (2 * a + 1) h c = l at *
  generalize yl_s (2 * a + 1) h m = S at *
  refine br_f (by decide) (yq_Rank hu he l8 (Nat.le_of_lt hi) rfl rfl rfl (fun u hu => ?_))
  obtain ⟨fn, fk, fr, fd, fs, a1, a2, a3, a4, a5, a6, a7, a8, a9, a10, a11, a12, a13, a14, a15, a16, a17, a18, a19, a20, a21, a22, a23, a24, a25, a26, a27⟩ := u
  refine br_t (by rw [h17, rk i (Nat.le_of_lt hi)]) (yq_Rank hu (e := 6 - e) (by omega) l8 (Nat.le_refl _) rfl rfl rfl (fun u hu => ?_))
  obtain ⟨fn, fk, fr, fd, fs, a1, a2, a3, a4, a5, a6, a7, a8, a9, a10, a11, a12, a13, a14, a15, a16, a17, a18, a19, a20, a21, a22, a23, a24, a25, a26, a27⟩ := u
  refine br_t (congrArg nI (by rw [rk _ (Nat.le_refl _)]; omega)) (yq_Select hu he (q := c * m) (by omega) rfl (by rw [s1]) (by rw [s1, rk _ (by omega), Nat.sub_self, Nat.zero_min]; rfl) (fun u hu => ?_))
  obtain ⟨fn, fk, fr, fd, fs, a1, a2, a3, a4, a5, a6, a7, a8, a9, a10, a11, a12, a13, a14, a15, a16, a17, a18, a19, a20, a21, a22, a23, a24, a25, a26, a27⟩ := u
  rw [ec, ec2, ec3, em]
  refine br_t rfl (yq_Select hu (e := 6 - e) (by omega) (q := c * m + m - 1) (by omega) rfl (by rw [s2]) (by rw [s2, rk _ (by omega)]; exact congrArg nI (by omega)) (fun u hu => ?_))
  obtain ⟨fn, fk, fr, fd, fs, a1, a2, a3, a4, a5, a6, a7, a8, a9, a10, a11, a12, a13, a14, a15, a16, a17, a18, a19, a20, a21, a22, a23, a24, a25, a26, a27⟩ := u
  refine br_t rfl (yq_SelectN hu he l8 (k := m) (by rw [rk _ (Nat.le_refl _)]; omega) (by omega) rfl rfl rfl (fun u hu => ?_))
  obtain ⟨fn, fk, fr, fd, fs, a1, a2, a3, a4, a5, a6, a7, a8, a9, a10, a11, a12, a13, a14, a15, a16, a17, a18, a19, a20, a21, a22, a23, a24, a25, a26, a27⟩ := u
  refine br_t rfl (yq_Below hu he (c := l) (i := 0) (by omega) (by omega) (Nat.le_refl _) rfl rfl rfl rfl (fun u hu => ?_))
  obtain ⟨fn, fk, fr, fd, fs, a1, a2, a3, a4, a5, a6, a7, a8, a9, a10, a11, a12, a13, a14, a15, a16, a17, a18, a19, a20, a21, a22, a23, a24, a25, a26, a27⟩ := u
  rw [bl l (by omega), bs, Nat.sub_zero, el, el2, el3]
  refine br_t rfl (yq_Ordered hu (e := 6 - e) (i := 0) (k := l * m) (by omega) (by omega) (Nat.le_refl _) (by omega) rfl rfl rfl rfl (fun r u r1 r2 r3 hu => ?_))
  obtain ⟨fn, fk, fr, fd, fs, a1, a2, a3, a4, a5, a6, a7, a8, a9, a10, a11, a12, a13, a14, a15, a16, a17, a18, a19, a20, a21, a22, a23, a24, a25, a26, a27⟩ := u
  rw [bs, Nat.zero_add, bl r (by omega)] at r2
  rw [bs, Nat.zero_add, bl (r + 1) (by omega)] at r3
  have er := sqq r (l * m) r2 r3 (Nat.le_refl _) (by rw [yl_sm l m]; omega)
  refine br_t (by rw [er]) (yq_Ordered hu he (i := 0) (k := l * m + m - 1) (by omega) (Nat.le_refl _) (by omega) rfl rfl rfl rfl (fun r u q1 q2 q3 hu => ?_))
  obtain ⟨fn, fk, fr, fd, fs, a1, a2, a3, a4, a5, a6, a7, a8, a9, a10, a11, a12, a13, a14, a15, a16, a17, a18, a19, a20, a21, a22, a23, a24, a25, a26, a27⟩ := u
  rw [bs, Nat.zero_add, bl r (by omega)] at q2
  rw [bs, Nat.zero_add, bl (r + 1) (by omega)] at q3
  have eq := sqq r (l * m + m - 1) q2 q3 (by omega) (by rw [yl_sm l m]; omega)
  refine br_t (by rw [eq]) ?_
  have last : ∀ u : St2, ys_ok S (8 * m) u → match u with | (fn, fk, fr, fd, fs, a1, a2, a3, a4, a5, a6, a7, a8, a9, a10, a11, a12, a13, a14, a15, a16, a17, a18, a19, a20, a21, a22, a23, a24, a25, a26, a27) => wpX_most (fun r_4276 u => match u with | (fn, fk, fr, fd, fs, a1, a2, a3, a4, a5, a6, a7, a8, a9, a10, a11, a12, a13, a14, a15, a16, a17, a18, a19, a20, a21, a22, a23, a24, a25, a26, a27) => ((r_4276 = nI l → ∀ x15_4365 : Int32, x15_4365 = nI c + 1 → J 1 x15_4365 fn fk fr fd fs a1 a2 a3 a4 a5 a6 a7 a8 a9 a10 a11 a12 a13 a14 a15 a16 a17 a18 a19 a20 a21 a22 a23 a24 a25 a26 a27) ∧ (¬ r_4276 = nI l → ∀ x15_4364 : Int32, x15_4364 = nI c + 1 → J 0 x15_4364 fn fk fr fd fs a1 a2 a3 a4 a5 a6 a7 a8 a9 a10 a11 a12 a13 a14 a15 a16 a17 a18 a19 a20 a21 a22 a23 a24 a25 a26 a27))) (fn, fk, fr, fd, fs, a1, a2, a3, a4, a5, a6, a7, a8, a9, a10, a11, a12, a13, a14, a15, a16, a17, a18, a19, a20, a21, a22, a23, a24, a25, a26, a27) (nI e) (nI (c * m)) (nI (c * m + m)) := by
    intro u hu
    obtain ⟨fn, fk, fr, fd, fs, a1, a2, a3, a4, a5, a6, a7, a8, a9, a10, a11, a12, a13, a14, a15, a16, a17, a18, a19, a20, a21, a22, a23, a24, a25, a26, a27⟩ := u
    refine yq_Most hu he (by omega) (by omega) rfl rfl rfl (fun r u w1 w2 _ hu => ?_)
    have er := one r w1 w2
    have HH := H u hu
    obtain ⟨fn, fk, fr, fd, fs, a1, a2, a3, a4, a5, a6, a7, a8, a9, a10, a11, a12, a13, a14, a15, a16, a17, a18, a19, a20, a21, a22, a23, a24, a25, a26, a27⟩ := u
    exact br_t (by rw [er]) (nm_r (nI_1 c) HH)
  by_cases g : c * m + m ≤ i
  · rw [if_pos g] at hz
    refine yq_NextN hu hi l8 (by rw [rk _ (Nat.le_refl _), rk _ (Nat.le_of_lt hi)]; omega) rfl rfl (fun u hu => ?_)
    have LL := last u hu
    obtain ⟨fn, fk, fr, fd, fs, a1, a2, a3, a4, a5, a6, a7, a8, a9, a10, a11, a12, a13, a14, a15, a16, a17, a18, a19, a20, a21, a22, a23, a24, a25, a26, a27⟩ := u
    exact br_t hz.symm LL
  · rw [if_neg g] at hz
    have sm := sq (max i (c * m)) (by omega) (by omega)
    refine yq_Next hu hi (q := max i (c * m)) (by omega) (by rw [sm, rk _ (by omega), rk _ (Nat.le_of_lt hi)]; omega) (by rw [sm]) rfl (fun u hu => ?_)
    have LL := last u hu
    obtain ⟨fn, fk, fr, fd, fs, a1, a2, a3, a4, a5, a6, a7, a8, a9, a10, a11, a12, a13, a14, a15, a16, a17, a18, a19, a20, a21, a22, a23, a24, a25, a26, a27⟩ := u
    exact br_t hz.symm LL
theorem yw_208 {post : Int32 → St0 → Prop} {mc ms kc ks e a h m i : Nat} (hp : post 1 ()) (he : e < 7) (ha : a < 4) (hh : h < 8) (hm : 0 < m) (hm7 : m < 8) (hi : i < 8 * m) :
    ∀ d c, c + d = 8 → ∀ u : St2, ys_ok (yl_s (2 * a + 1) h m) (8 * m) u → match u with | (fn, fk, fr, fd, fs, a1, a2, a3, a4, a5, a6, a7, a8, a9, a10, a11, a12, a13, a14, a15, a16, a17, a18, a19, a20, a21, a22, a23, a24, a25, a26, a27) => wL_lawOf_208 post mc ms (nI m) (nI (2 * a + 1)) (nI h) (nI (8 * m)) (nI i) (nI e) (nI (6 - e)) (nI (i / m)) (nI (yl_l (2 * a + 1) h (i / m))) kc ks (d + 1) 1 (nI c) fn fk fr fd fs a1 a2 a3 a4 a5 a6 a7 a8 a9 a10 a11 a12 a13 a14 a15 a16 a17 a18 a19 a20 a21 a22 a23 a24 a25 a26 a27 := by
  intro d
  induction d with
  | zero =>
    intro c hc u hu
    have e8 : c = 8 := by omega
    subst e8
    obtain ⟨fn, fk, fr, fd, fs, a1, a2, a3, a4, a5, a6, a7, a8, a9, a10, a11, a12, a13, a14, a15, a16, a17, a18, a19, a20, a21, a22, a23, a24, a25, a26, a27⟩ := u
    have hd := yl_d8 hi
    have l8 := yl_l8 (2 * a + 1) h (i / m)
    have e13 : (8 : Int32) - nI (i / m) = nI (8 - i / m) := pk_sub (a := 8) (by omega)
    have e24 : (3 : Int32) * nI (8 * m) = nI (24 * m) := by
      show nI 3 * nI (8 * m) = _
      rw [pk_mul]; exact congrArg nI (by omega)
    refine pk_le 8 8 (fun _ => br_f (by decide) ?_) (fun z => absurd z (by omega))
    refine yq_At hu he hi rfl rfl (fun u hu => ?_)
    obtain ⟨fn, fk, fr, fd, fs, a1, a2, a3, a4, a5, a6, a7, a8, a9, a10, a11, a12, a13, a14, a15, a16, a17, a18, a19, a20, a21, a22, a23, a24, a25, a26, a27⟩ := u
    refine br_t rfl (yq_At hu (e := 6 - e) (by omega) hi rfl rfl (fun u hu => ?_))
    obtain ⟨fn, fk, fr, fd, fs, a1, a2, a3, a4, a5, a6, a7, a8, a9, a10, a11, a12, a13, a14, a15, a16, a17, a18, a19, a20, a21, a22, a23, a24, a25, a26, a27⟩ := u
    refine br_t rfl (yq_Most hu (e := 6 - e) (i := 0) (by omega) (by omega) (Nat.le_refl _) rfl rfl rfl (fun r u r1 _ r2 hu => ?_))
    obtain ⟨fn, fk, fr, fd, fs, a1, a2, a3, a4, a5, a6, a7, a8, a9, a10, a11, a12, a13, a14, a15, a16, a17, a18, a19, a20, a21, a22, a23, a24, a25, a26, a27⟩ := u
    have r0 : r = 0 := by
      rcases Nat.eq_zero_or_pos r with w | w
      · exact w
      · have := r2 0 w
        rw [yl_all ha hh hm (by omega), yl_all ha hh hm r1] at this
        rw [show ∀ x, yc_r (yl_s (2 * a + 1) h m) x 0 = 0 from fun _ => rfl] at this
        omega
    subst r0
    refine br_t rfl (yq_Different hu (Nat.le_of_lt hi) (Nat.le_refl _) rfl rfl (fun u hu => ?_))
    obtain ⟨fn, fk, fr, fd, fs, a1, a2, a3, a4, a5, a6, a7, a8, a9, a10, a11, a12, a13, a14, a15, a16, a17, a18, a19, a20, a21, a22, a23, a24, a25, a26, a27⟩ := u
    rw [yl_diffI ha hh hm hi, e13]
    refine br_t rfl (yq_Different hu (Nat.le_refl i) (Nat.le_of_lt hi) rfl rfl (fun u hu => ?_))
    obtain ⟨fn, fk, fr, fd, fs, a1, a2, a3, a4, a5, a6, a7, a8, a9, a10, a11, a12, a13, a14, a15, a16, a17, a18, a19, a20, a21, a22, a23, a24, a25, a26, a27⟩ := u
    have z0 : yc_ct (fun x => decide (yc_r (yl_s (2 * a + 1) h m) x i < yc_r (yl_s (2 * a + 1) h m) x i)) 8 = 0 := by
      have := yc_allf (p := fun x => decide (yc_r (yl_s (2 * a + 1) h m) x i < yc_r (yl_s (2 * a + 1) h m) x i)) (Nat.zero_le 8) (fun x _ _ => decide_eq_false (by omega))
      exact this
    rw [z0]
    refine br_t rfl (yq_Below hu (e := 6 - e) (i := 0) (c := 8) (by omega) (by omega) (by omega) (Nat.le_refl _) rfl rfl rfl rfl (fun u hu => ?_))
    obtain ⟨fn, fk, fr, fd, fs, a1, a2, a3, a4, a5, a6, a7, a8, a9, a10, a11, a12, a13, a14, a15, a16, a17, a18, a19, a20, a21, a22, a23, a24, a25, a26, a27⟩ := u
    rw [yl_below ha hh hm (Nat.le_refl 8), show yc_b (yl_s (2 * a + 1) h m) 8 0 = 0 from rfl, Nat.sub_zero]
    refine br_t rfl (yq_Runs hu (fun u hu => ?_))
    obtain ⟨fn, fk, fr, fd, fs, a1, a2, a3, a4, a5, a6, a7, a8, a9, a10, a11, a12, a13, a14, a15, a16, a17, a18, a19, a20, a21, a22, a23, a24, a25, a26, a27⟩ := u
    rw [yl_runs ha hh hm 8 (Nat.le_refl 8)]
    refine br_t rfl (yq_Bits hu (fun u hu => ?_))
    obtain ⟨fn, fk, fr, fd, fs, a1, a2, a3, a4, a5, a6, a7, a8, a9, a10, a11, a12, a13, a14, a15, a16, a17, a18, a19, a20, a21, a22, a23, a24, a25, a26, a27⟩ := u
    rw [yl_bits ha hh hm hm7, e24]
    refine br_t rfl (yq_Agree hu he (f := 6 - e) (by omega) rfl rfl (fun u hu => ?_))
    obtain ⟨fn, fk, fr, fd, fs, a1, a2, a3, a4, a5, a6, a7, a8, a9, a10, a11, a12, a13, a14, a15, a16, a17, a18, a19, a20, a21, a22, a23, a24, a25, a26, a27⟩ := u
    exact br_f (by decide) (yw_655 hp he ha hh hm hm7 hi hu)
  | succ d ih =>
    intro c hc u hu
    have ih' := ih (c + 1) (by omega)
    obtain ⟨fn, fk, fr, fd, fs, a1, a2, a3, a4, a5, a6, a7, a8, a9, a10, a11, a12, a13, a14, a15, a16, a17, a18, a19, a20, a21, a22, a23, a24, a25, a26, a27⟩ := u
    have hc8 : c < 8 := by omega
    have h8 := yl_le8 (m := m) hc8
    have ec : nI c * nI m = nI (c * m) := pk_mul _ _
    have ec2 : nI (c * m) + nI m = nI (c * m + m) := nI_add _ _
    have ec3 : nI (c * m + m) - 1 = nI (c * m + m - 1) := pk_sub (b := 1) (by omega)
    have el : (nI c * nI (2 * a + 1) + nI h) &&& 7 = nI (yl_l (2 * a + 1) h c) := by
      have b1 : c * (2 * a + 1) ≤ 8 * 8 := Nat.mul_le_mul (by omega) (by omega)
      rw [pk_mul, nI_add, yi_7 (by omega)]
      rfl
    have k268 : ∀ z, z = nI (min (i - c * m) m) → wL_lawOf_268 post mc ms (wL_lawOf_208 post mc ms (nI m) (nI (2 * a + 1)) (nI h) (nI (8 * m)) (nI i) (nI e) (nI (6 - e)) (nI (i / m)) (nI (yl_l (2 * a + 1) h (i / m))) kc ks (d + 1)) (nI m) (nI (2 * a + 1)) (nI h) (nI (8 * m)) (nI i) (nI e) (nI (6 - e)) 1 (nI (i / m)) (nI (yl_l (2 * a + 1) h (i / m))) (nI c) (nI (yl_l (2 * a + 1) h c)) z kc ks fn fk fr fd fs a1 a2 a3 a4 a5 a6 a7 a8 a9 a10 a11 a12 a13 a14 a15 a16 a17 a18 a19 a20 a21 a22 a23 a24 a25 a26 a27 := by
      intro z hz
      have k309 := fun w hw => yw_309 (post := post) (mc := mc) (ms := ms) (kc := kc) (ks := ks) (J := wL_lawOf_208 post mc ms (nI m) (nI (2 * a + 1)) (nI h) (nI (8 * m)) (nI i) (nI e) (nI (6 - e)) (nI (i / m)) (nI (yl_l (2 * a + 1) h (i / m))) kc ks (d + 1)) (x13 := nI (i / m)) (x14 := nI (yl_l (2 * a + 1) h (i / m))) (x17 := z) (z0 := w) he ha hh hm hm7 hi hc8 hu hz hw ih'
      refine pk_lt (c * m + m - 1) i (fun w => k309 _ ?_) (fun w => pk_le i (c * m) (fun w2 => k309 _ ?_) (fun w2 => k309 _ ?_) rfl ec) (by rw [ec, ec2, ec3])
      · rw [if_pos (by omega)]
      · rw [if_neg (by omega), ec, show max i (c * m) = c * m by omega]
      · rw [if_neg (by omega), show max i (c * m) = i by omega]
    refine pk_le 8 c (fun z => absurd z (by omega)) (fun _ => nm_r el ?_)
    refine pk_le (c * m) i (fun w => pk_le (c * m + m) i (fun w2 => k268 _ ?_) (fun w2 => k268 _ ?_) (by rw [ec, ec2])) (fun w => k268 _ ?_) ec
    · rw [show min (i - c * m) m = m by omega]
    · rw [ec, pk_sub w, show min (i - c * m) m = i - c * m by omega]
    · rw [show min (i - c * m) m = 0 by omega]; rfl
theorem yw_127 {post : Int32 → St0 → Prop} {mc ms kc ks e a h m i : Nat} (hp : post 1 ()) (he : e < 7) (ha : a < 4) (hh : h < 8) (hm : 0 < m) (hm7 : m < 8) (hi : i < 8 * m) :
    ∀ d c, c + d = 8 → ∀ u : St2, ys_ok (yl_s (2 * a + 1) h m) (c * m) u → match u with | (fn, fk, fr, fd, fs, a1, a2, a3, a4, a5, a6, a7, a8, a9, a10, a11, a12, a13, a14, a15, a16, a17, a18, a19, a20, a21, a22, a23, a24, a25, a26, a27) => wL_lawOf_127 post mc ms (nI m) (nI (2 * a + 1)) (nI h) (nI (8 * m)) (nI i) (nI e) (nI (6 - e)) kc ks (d + 1) 1 (nI c) fn fk fr fd fs a1 a2 a3 a4 a5 a6 a7 a8 a9 a10 a11 a12 a13 a14 a15 a16 a17 a18 a19 a20 a21 a22 a23 a24 a25 a26 a27 := by
  intro d
  induction d with
  | zero =>
    intro c hc u hu
    have e8 : c = 8 := by omega
    subst e8
    have hd := yl_d8 hi
    have k := yw_208 (mc := mc) (ms := ms) (kc := kc) (ks := ks) hp he ha hh hm hm7 hi 8 0 rfl u hu
    obtain ⟨fn, fk, fr, fd, fs, a1, a2, a3, a4, a5, a6, a7, a8, a9, a10, a11, a12, a13, a14, a15, a16, a17, a18, a19, a20, a21, a22, a23, a24, a25, a26, a27⟩ := u
    have el : (nI (i / m) * nI (2 * a + 1) + nI h) &&& 7 = nI (yl_l (2 * a + 1) h (i / m)) := by
      have b1 : i / m * (2 * a + 1) ≤ 8 * 8 := Nat.mul_le_mul (by omega) (by omega)
      rw [pk_mul, nI_add, yi_7 (by omega)]
      rfl
    exact pk_le 8 8 (fun _ => ⟨nI_ne0 hm (by omega), nm_r (pk_div (by omega) hm (by omega)) (nm_r el ⟨_, k⟩)⟩) (fun z => absurd z (by omega))
  | succ d ih =>
    intro c hc u hu
    have ih' := ih (c + 1) (by omega)
    obtain ⟨fn, fk, fr, fd, fs, a1, a2, a3, a4, a5, a6, a7, a8, a9, a10, a11, a12, a13, a14, a15, a16, a17, a18, a19, a20, a21, a22, a23, a24, a25, a26, a27⟩ := u
    have hc8 : c < 8 := by omega
    have h8 := yl_le8 (m := m) hc8
    have el : (nI c * nI (2 * a + 1) + nI h) &&& 7 = nI (yl_l (2 * a + 1) h c) := by
      have b1 : c * (2 * a + 1) ≤ 8 * 8 := Nat.mul_le_mul (by omega) (by omega)
      rw [pk_mul, nI_add, yi_7 (by omega)]
      rfl
    refine pk_le 8 c (fun z => absurd z (by omega)) (fun _ => ?_)
    refine yq_Append (yl_s (2 * a + 1) h m) hu (k0 := (c + 1) * m) (yl_sm c m).symm (yl_l8 _ _ _) hm (by omega) (fun _ _ => rfl) (fun j j1 j2 => (yl_is ha hh hm hc8 (by omega)).mpr ⟨j1, j2⟩) el rfl (fun u hu => ?_)
    have k := ih' u hu
    obtain ⟨fn, fk, fr, fd, fs, a1, a2, a3, a4, a5, a6, a7, a8, a9, a10, a11, a12, a13, a14, a15, a16, a17, a18, a19, a20, a21, a22, a23, a24, a25, a26, a27⟩ := u
    have er : nI m * nI c + nI m = nI ((c + 1) * m) := by rw [pk_mul, nI_add, yl_sm c m, Nat.mul_comm m c]
    exact br_f (by decide) (br_t er.symm (nm_r (nI_1 c) k))
theorem yw_lawOf {post : Int32 → St0 → Prop} (hp : post 1 ()) (p0 p1 p2 p3 : Int32) : wpL_lawOf post 28 3548 () p0 p1 p2 p3 := by
  obtain ⟨m0, m1, m2⟩ := pk_andE p0 (m := 65535) 16 (by decide)
  obtain ⟨a, a1, a2⟩ := pk_andE p1 (m := 3) 2 (by decide)
  obtain ⟨h, h1, h2⟩ := pk_andE (p1 >>> ((2 : Int32) &&& 31)) (m := 7) 3 (by decide)
  obtain ⟨i0, i1, i2⟩ := pk_andE p2 (m := 65535) 16 (by decide)
  obtain ⟨e0, e1, e2⟩ := pk_andE p3 (m := 65535) 16 (by decide)
  have em : (1 : Int32) + ((p0 &&& 65535) - (p0 &&& 65535) / 7 * 7) = nI (1 + m0 % 7) := by
    rw [m2]
    have := pk_rem (a := m0) (d := 7) (by omega) (by omega) (by omega)
    have t : nI m0 - nI m0 / 7 * 7 = nI (m0 % 7) := this
    rw [t]
    exact nI_add 1 _
  have eg : (2 * (p1 &&& 3)) + 1 = nI (2 * a + 1) := by
    rw [a2]
    show nI 2 * nI a + 1 = _
    rw [pk_mul, nI_1]
  have hm0 : 0 < 1 + m0 % 7 := by omega
  have hm8 : 1 + m0 % 7 < 8 := by omega
  generalize 1 + m0 % 7 = m at em hm0 hm8
  have e8 : (8 : Int32) * nI m = nI (8 * m) := pk_mul 8 m
  have ei : (p2 &&& 65535) - (p2 &&& 65535) / nI (8 * m) * nI (8 * m) = nI (i0 % (8 * m)) := by
    rw [i2]
    exact pk_rem (by omega) (by omega) (by omega)
  have hi : i0 % (8 * m) < 8 * m := Nat.mod_lt _ (by omega)
  generalize i0 % (8 * m) = i at ei hi
  have ee : (p3 &&& 65535) - (p3 &&& 65535) / 7 * 7 = nI (e0 % 7) := by
    rw [e2]
    exact pk_rem (d := 7) (by omega) (by omega) (by omega)
  have he : e0 % 7 < 7 := Nat.mod_lt _ (by omega)
  generalize e0 % 7 = e at ee he
  have ef : (6 : Int32) - nI e = nI (6 - e) := pk_sub (a := 6) (by omega)
  have ha4 : a < 4 := a1
  have h8 : h < 8 := h1
  refine ⟨by decide, by decide, 27, 3516, by decide, by decide, yq_Init (yl_s (2 * a + 1) h m) (fun u hu => ?_)⟩
  obtain ⟨fn, fk, fr, fd, fs, a1, a2, a3, a4, a5, a6, a7, a8, a9, a10, a11, a12, a13, a14, a15, a16, a17, a18, a19, a20, a21, a22, a23, a24, a25, a26, a27⟩ := u
  refine ⟨by decide, nm_r em (nm_r eg (nm_r h2 (nm_r e8 ⟨nI_ne0 (by omega) (by omega), nm_r ei ⟨by decide, nm_r ee (nm_r ef ?_)⟩⟩)))⟩
  refine yq_Bits hu (fun u hu => ?_)
  obtain ⟨fn, fk, fr, fd, fs, a1, a2, a3, a4, a5, a6, a7, a8, a9, a10, a11, a12, a13, a14, a15, a16, a17, a18, a19, a20, a21, a22, a23, a24, a25, a26, a27⟩ := u
  rw [yl_bits0]
  refine br_t rfl (yq_Runs hu (fun u hu => ?_))
  obtain ⟨fn, fk, fr, fd, fs, a1, a2, a3, a4, a5, a6, a7, a8, a9, a10, a11, a12, a13, a14, a15, a16, a17, a18, a19, a20, a21, a22, a23, a24, a25, a26, a27⟩ := u
  refine br_t rfl (yq_Different hu (i := 0) (j := 0) (by omega) (by omega) rfl rfl (fun u hu => ?_))
  obtain ⟨fn, fk, fr, fd, fs, a1, a2, a3, a4, a5, a6, a7, a8, a9, a10, a11, a12, a13, a14, a15, a16, a17, a18, a19, a20, a21, a22, a23, a24, a25, a26, a27⟩ := u
  have z0 : yc_ct (fun x => decide (yc_r (yl_s (2 * a + 1) h m) x 0 < yc_r (yl_s (2 * a + 1) h m) x 0)) 8 = 0 := by
    have := yc_allf (p := fun x => decide (yc_r (yl_s (2 * a + 1) h m) x 0 < yc_r (yl_s (2 * a + 1) h m) x 0)) (Nat.zero_le 8) (fun x _ _ => decide_eq_false (by omega))
    exact this
  rw [z0]
  refine br_t rfl (yq_Most0 hu he rfl (br_t rfl ?_))
  refine yq_Cut (yl_s (2 * a + 1) h m) hu (m := 5) (k0 := 0) (by omega) (by omega) (fun j hj => absurd hj (by omega)) rfl (fun u hu => ?_)
  have k := yw_127 (mc := 28) (ms := 3548) (kc := 1 + 27) (ks := 32 + 3516) hp he ha4 h8 hm0 hm8 hi 8 0 rfl u (by rw [Nat.zero_mul]; exact hu)
  obtain ⟨fn, fk, fr, fd, fs, a1, a2, a3, a4, a5, a6, a7, a8, a9, a10, a11, a12, a13, a14, a15, a16, a17, a18, a19, a20, a21, a22, a23, a24, a25, a26, a27⟩ := u
  exact br_t rfl ⟨_, k⟩
theorem yw_cell {post : Int32 → Prop} (xs : Nat → Int32) (L : Nat) (hL : L ≤ 4) (k : Nat) (hk : k < 4) {y : Int32} (hy : y = nI k) (H : ∀ r, post r) : wpL_cellAt post L xs () y := by
  subst hy
  exact pk_le L k (fun _ => H 0) (fun z => ⟨pk_in k L z, H _⟩)
end
section
theorem i_vc (xs : Nat → Int32) (L : Nat) (hL : L ≤ 4) : wpL_law (fun r => r = 1) L xs :=
  yw_cell xs L hL 0 (by omega) rfl (fun r1 => yw_cell xs L hL 1 (by omega) rfl (fun r2 => yw_cell xs L hL 2 (by omega) rfl (fun r3 => yw_cell xs L hL 3 (by omega) rfl (fun r4 => ⟨28, 3548, by decide, by decide, yw_lawOf (post := fun r _ => r = 1) rfl r1 r2 r3 r4⟩))))
end
