section
/-! the bits of an Int32 (turned from the family 'Int32 by its bits') -/
def rr_b (x : Int32) (i : Nat) : Bool := x.toBitVec.getLsbD i
theorem rr_ext {x y : Int32} (h : ∀ i, i < 32 → rr_b x i = rr_b y i) : x = y := Int32.toBitVec_inj.mp (BitVec.eq_of_getLsbD_eq (fun i hi => h i hi))
theorem rr_or (x y : Int32) (i : Nat) : rr_b (x ||| y) i = (rr_b x i || rr_b y i) := by unfold rr_b; rw [Int32.toBitVec_or, BitVec.getLsbD_or]
theorem rr_and (x y : Int32) (i : Nat) : rr_b (x &&& y) i = (rr_b x i && rr_b y i) := by unfold rr_b; rw [Int32.toBitVec_and, BitVec.getLsbD_and]
theorem rr_xor (x y : Int32) (i : Nat) : rr_b (x ^^^ y) i = (rr_b x i ^^ rr_b y i) := by unfold rr_b; rw [Int32.toBitVec_xor, BitVec.getLsbD_xor]
theorem rr_big {x : Int32} {i : Nat} (h : 32 ≤ i) : rr_b x i = false := BitVec.getLsbD_of_ge _ _ h
theorem rr_0 (i : Nat) : rr_b 0 i = false := BitVec.getLsbD_zero
theorem rr_sl : ∀ n, n < 32 → ((nI n &&& 31).toBitVec.smod 32).toNat = n := by decide +kernel
theorem rr_sshr (n : Nat) (hn : n < 32) (x : Int32) {i : Nat} (hi : i < 32) : rr_b (x >>> (nI n &&& 31)) i = if n + i < 32 then rr_b x (n + i) else rr_b x 31 := by
  unfold rr_b
  rw [Int32.toBitVec_shiftRight]
  show (x.toBitVec.sshiftRight ((nI n &&& 31).toBitVec.smod 32).toNat).getLsbD i = _
  rw [rr_sl n hn, BitVec.getLsbD_sshiftRight, BitVec.msb_eq_getLsbD_last]
  simp [hi]
theorem rr_one : ∀ i, i < 32 → rr_b 1 i = decide (i = 0) := by decide +kernel
/-- the bit that the program reads -/
theorem rr_bit0 {w : Int32} {n : Nat} (hn : n < 32) (h : rr_b w n = false) : (w >>> (nI n &&& 31)) &&& 1 = 0 := by
  apply rr_ext
  intro i hi
  rw [rr_and, rr_sshr n hn w hi, rr_one i hi, rr_0]
  by_cases e : i = 0
  · rw [e, if_pos (by omega), Nat.add_zero, h]
    rfl
  · rw [decide_eq_false e, Bool.and_false]
theorem rr_bit1 {w : Int32} {n : Nat} (hn : n < 32) (h : rr_b w n = true) : ¬ (w >>> (nI n &&& 31)) &&& 1 = 0 := by
  intro z
  have e : rr_b ((w >>> (nI n &&& 31)) &&& 1) 0 = true := by
    rw [rr_and, rr_sshr n hn w (by omega), if_pos (by omega), Nat.add_zero, h]
    rfl
  rw [z, rr_0] at e
  exact absurd e (by decide)
theorem rr_xx (x y : Int32) : x ^^^ (x ^^^ y) = y := by
  apply rr_ext
  intro i hi
  rw [rr_xor, rr_xor]
  cases rr_b x i <;> cases rr_b y i <;> rfl
theorem rr_0or (y : Int32) : (0 : Int32) ||| y = 0 ^^^ y := by
  apply rr_ext
  intro i hi
  rw [rr_or, rr_xor, rr_0]
  cases rr_b y i <;> rfl
/-- the word with ones at lo .. hi - 1 -/
def rr_g (lo hi : Nat) : Int32 := ((1 : Int32) <<< (nI hi &&& 31)) - ((1 : Int32) <<< (nI lo &&& 31))
theorem rr_g1 : ∀ k, k < 32 → ∀ i, i < 32 → rr_b ((1 : Int32) <<< (nI k &&& 31)) i = decide (i = k) := by decide +kernel
theorem rr_gz0 : ∀ k, k < 25 → rr_g k k = 0 := by decide +kernel
theorem rr_gs0 : ∀ hi, hi < 24 → ∀ lo, lo < hi + 1 → rr_g lo (hi + 1) = rr_g lo hi ||| ((1 : Int32) <<< (nI hi &&& 31)) := by decide +kernel
theorem rr_gk0 : ∀ hi, hi < 25 → ∀ lo, lo < hi → rr_g lo hi &&& (rr_g lo hi - 1) = rr_g (lo + 1) hi ∧ ¬ rr_g lo hi = 0 := by decide +kernel
theorem rr_gl0 : ∀ n, n < 25 → ∀ lo, lo < 25 - n → (((1 : Int32) <<< (nI n &&& 31)) - 1) <<< (nI lo &&& 31) = rr_g lo (lo + n) := by decide +kernel
theorem rr_gc0 : ∀ hi, hi < 25 → ∀ lo, lo < hi + 1 → 16777215 - rr_g lo hi = rr_g 0 24 ^^^ rr_g lo hi := by decide +kernel
theorem rr_gb {lo hi : Nat} (h : lo ≤ hi) (hh : hi ≤ 24) (i : Nat) : rr_b (rr_g lo hi) i = decide (lo ≤ i ∧ i < hi) := by
  rcases Nat.lt_or_ge i 32 with hi32 | hi32
  · induction hi with
    | zero =>
      rw [show lo = 0 by omega, rr_gz0 0 (by omega), rr_0, decide_eq_false (by omega)]
    | succ k ih =>
      by_cases e : lo = k + 1
      · rw [e, rr_gz0 (k + 1) (by omega), rr_0, decide_eq_false (by omega)]
      · rw [rr_gs0 k (by omega) lo (by omega), rr_or, ih (by omega) (by omega), rr_g1 k (by omega) i hi32]
        by_cases c : i = k
        · rw [decide_eq_true c, Bool.or_true, decide_eq_true (by omega)]
        · rw [decide_eq_false c, Bool.or_false, decide_eq_decide]
          omega
  · rw [rr_big hi32, decide_eq_false (by omega)]
/-! sums -/
def rr_S (f : Nat → Nat) : Nat → Nat
  | 0 => 0
  | n + 1 => rr_S f n + f n
theorem rr_S_congr {f g : Nat → Nat} {n : Nat} (h : ∀ i, i < n → f i = g i) : rr_S f n = rr_S g n := by
  induction n with
  | zero => rfl
  | succ n ih =>
    show rr_S f n + f n = rr_S g n + g n
    rw [ih (fun i hi => h i (by omega)), h n (by omega)]
theorem rr_S_le {f : Nat → Nat} {k n : Nat} (h : ∀ i, i < n → f i ≤ k) : rr_S f n ≤ k * n := by
  induction n with
  | zero => exact Nat.zero_le _
  | succ n ih =>
    show rr_S f n + f n ≤ k * (n + 1)
    have h1 := ih (fun i hi => h i (by omega))
    have h2 := h n (by omega)
    rw [Nat.mul_succ]
    omega
theorem rr_S_mono {f g : Nat → Nat} {n : Nat} (h : ∀ i, i < n → f i ≤ g i) : rr_S f n ≤ rr_S g n := by
  induction n with
  | zero => exact Nat.le_refl _
  | succ n ih =>
    show rr_S f n + f n ≤ rr_S g n + g n
    have h1 := ih (fun i hi => h i (by omega))
    have h2 := h n (by omega)
    omega
theorem rr_S_lt {f g : Nat → Nat} {n j : Nat} (hj : j < n) (h : ∀ i, i < n → f i ≤ g i) (hs : f j + 1 ≤ g j) : rr_S f n + 1 ≤ rr_S g n := by
  induction n with
  | zero => omega
  | succ n ih =>
    show rr_S f n + f n + 1 ≤ rr_S g n + g n
    by_cases e : j = n
    · have h1 := rr_S_mono (fun i hi => h i (by omega) : ∀ i, i < n → f i ≤ g i)
      rw [e] at hs
      omega
    · have h1 := ih (by omega) (fun i hi => h i (by omega))
      have h2 := h n (by omega)
      omega
theorem rr_S_add (f g : Nat → Nat) (n : Nat) : rr_S (fun i => f i + g i) n = rr_S f n + rr_S g n := by
  induction n with
  | zero => rfl
  | succ n ih =>
    show rr_S (fun i => f i + g i) n + (f n + g n) = rr_S f n + f n + (rr_S g n + g n)
    rw [ih]
    omega
theorem rr_S_upd (g : Int32 → Nat) (a : Nat → Int32) (w : Int32) {k n : Nat} (hk : k < n) : rr_S (fun i => g (upd a k w i)) n + g (a k) = rr_S (fun i => g (a i)) n + g w := by
  induction n with
  | zero => omega
  | succ n ih =>
    show rr_S (fun i => g (upd a k w i)) n + g (upd a k w n) + g (a k) = rr_S (fun i => g (a i)) n + g (a n) + g w
    by_cases e : k = n
    · have h1 : rr_S (fun i => g (upd a k w i)) n = rr_S (fun i => g (a i)) n := rr_S_congr (fun i hi => by rw [pk_un (show i ≠ k by omega)])
      rw [h1, ← e, pk_us]
      omega
    · have h1 := ih (by omega)
      rw [pk_un (show n ≠ k by omega)]
      omega
theorem rr_S_seg {lo hi : Nat} (h : lo ≤ hi) (n : Nat) : rr_S (fun x => (decide (lo ≤ x ∧ x < hi)).toNat) n = min hi n - min lo n := by
  induction n with
  | zero => show 0 = _; omega
  | succ n ih =>
    show rr_S (fun x => (decide (lo ≤ x ∧ x < hi)).toNat) n + (decide (lo ≤ n ∧ n < hi)).toNat = _
    rw [ih]
    by_cases c : lo ≤ n ∧ n < hi
    · rw [decide_eq_true c]
      show _ + 1 = _
      omega
    · rw [decide_eq_false c]
      show _ + 0 = _
      omega
/-! set bits and starts of runs in a row of 24 -/
def rr_pc (w : Int32) : Nat := rr_S (fun x => (rr_b w x).toNat) 24
def rr_st (w : Int32) : Nat := rr_S (fun x => (rr_b w x && !(decide (0 < x) && rr_b w (x - 1))).toNat) 24
theorem rr_bn (b : Bool) : b.toNat ≤ 1 := by cases b <;> decide
theorem rr_pc_le (w : Int32) : rr_pc w ≤ 24 := by
  have h := rr_S_le (f := fun x => (rr_b w x).toNat) (k := 1) (n := 24) (fun i _ => rr_bn _)
  exact h
theorem rr_pc_0 : rr_pc 0 = 0 := by decide +kernel
theorem rr_pc_or {w : Int32} {lo hi : Nat} (hl : lo ≤ hi) (hh : hi ≤ 24) (hd : ∀ i, lo ≤ i → i < hi → rr_b w i = false) : rr_pc (w ||| rr_g lo hi) = rr_pc w + (hi - lo) := by
  have e : rr_S (fun x => (rr_b (w ||| rr_g lo hi) x).toNat) 24 = rr_S (fun x => (rr_b w x).toNat + (decide (lo ≤ x ∧ x < hi)).toNat) 24 := by
    apply rr_S_congr
    intro i _
    rw [rr_or, rr_gb hl hh]
    by_cases c : lo ≤ i ∧ i < hi
    · rw [hd i c.1 c.2, decide_eq_true c]
      rfl
    · rw [decide_eq_false c, Bool.or_false]
      rfl
  unfold rr_pc
  rw [e, rr_S_add, rr_S_seg hl]
  omega
theorem rr_half (f : Nat → Bool) (k : Nat) : rr_S (fun x => (f x && !(decide (0 < x) && f (x - 1))).toNat) (2 * k) ≤ k := by
  induction k with
  | zero => exact Nat.le_refl 0
  | succ k ih =>
    have e : ∀ g : Nat → Nat, rr_S g (2 * (k + 1)) = rr_S g (2 * k) + g (2 * k) + g (2 * k + 1) := fun g => rfl
    have h : (f (2 * k) && !(decide (0 < 2 * k) && f (2 * k - 1))).toNat + (f (2 * k + 1) && !(decide (0 < 2 * k + 1) && f (2 * k + 1 - 1))).toNat ≤ 1 := by
      rw [Nat.add_sub_cancel, decide_eq_true (show 0 < 2 * k + 1 by omega)]
      generalize (decide (0 < 2 * k) && f (2 * k - 1)) = c
      generalize f (2 * k) = a
      generalize f (2 * k + 1) = b
      revert a b c
      decide
    rw [e]
    omega
theorem rr_st_le (w : Int32) : rr_st w ≤ 12 := rr_half (rr_b w) 12
theorem rr_st_or {w : Int32} {lo hi : Nat} (hl : lo < hi) (hh : hi ≤ 24) (hd : ∀ i, i < 24 → lo ≤ i + 1 → i ≤ hi → rr_b w i = false) : rr_st w + 1 ≤ rr_st (w ||| rr_g lo hi) := by
  have hl' : lo ≤ hi := by omega
  unfold rr_st
  apply rr_S_lt (j := lo) (by omega)
  · intro i hi24
    show (rr_b w i && !(decide (0 < i) && rr_b w (i - 1))).toNat ≤ (rr_b (w ||| rr_g lo hi) i && !(decide (0 < i) && rr_b (w ||| rr_g lo hi) (i - 1))).toNat
    cases hw : rr_b w i with
    | false => exact Nat.zero_le _
    | true =>
      have hn : ¬ (lo ≤ i + 1 ∧ i ≤ hi) := by
        intro c
        rw [hd i hi24 c.1 c.2] at hw
        exact absurd hw (by decide)
      have e : (decide (0 < i) && rr_b (w ||| rr_g lo hi) (i - 1)) = (decide (0 < i) && rr_b w (i - 1)) := by
        by_cases h0 : 0 < i
        · rw [rr_or, rr_gb hl' hh, decide_eq_false (show ¬ (lo ≤ i - 1 ∧ i - 1 < hi) by omega), Bool.or_false]
        · rw [decide_eq_false h0]
          rfl
      rw [e, rr_or, hw, Bool.true_or]
      exact Nat.le_refl _
  · have e0 : rr_b w lo = false := hd lo (by omega) (by omega) (by omega)
    have e1 : (decide (0 < lo) && rr_b (w ||| rr_g lo hi) (lo - 1)) = false := by
      by_cases h0 : 0 < lo
      · rw [rr_or, hd (lo - 1) (by omega) (by omega) (by omega), rr_gb hl' hh, decide_eq_false (show ¬ (lo ≤ lo - 1 ∧ lo - 1 < hi) by omega)]
        simp
      · rw [decide_eq_false h0]
        rfl
    have e2 : rr_b (w ||| rr_g lo hi) lo = true := by
      rw [rr_or, rr_gb hl' hh, decide_eq_true (show lo ≤ lo ∧ lo < hi by omega), Bool.or_true]
    show (rr_b w lo && !(decide (0 < lo) && rr_b w (lo - 1))).toNat + 1 ≤ (rr_b (w ||| rr_g lo hi) lo && !(decide (0 < lo) && rr_b (w ||| rr_g lo hi) (lo - 1))).toNat
    rw [e0, e1, e2, Bool.false_and]
    decide
theorem rr_fill {f s : Nat → Int32} {i k : Nat} {x : Int32} (hk : k = i) (h : ∀ j, j < i → s j = f j) (hx : x = f i) : ∀ j, j < i + 1 → upd s k x j = f j := by
  intro j hj
  rw [hk]
  by_cases e : j = i
  · rw [e, pk_us, hx]
  · rw [pk_un e]
    exact h j (by omega)
end
section
theorem rr_clear {post : St2 → Prop} {pm wt : Int32} {a1 a2 a3 a4 a5 : Nat → Int32} (H : ∀ a : Nat → Int32, (∀ j, j < 24 → a j = 0) → post (pm, wt, a1, a, a3, a4, a5)) : wpX_clearFigure post (pm, wt, a1, a2, a3, a4, a5) :=
  pk_loop (fun n i s => wX_clearFigure_2 post pm wt n (nI i) a1 s a3 a4 a5) (fun i s => ∀ j, j < i → s j = 0) 24 0 a2 (by omega) (fun j hj => absurd hj (by omega))
    (fun n s h => pk_le 24 24 (fun _ => H s h) (fun z => absurd z (by omega)))
    (fun n i s hi h hw => pk_le 24 i (fun z => absurd z (by omega)) (fun _ => ⟨pk_in i 24 hi, nm_e (nm_r (nI_1 i) (hw _ (rr_fill (f := fun _ => 0) (nI_clamp (by omega)) h rfl)))⟩))
theorem rr_p31 {y x : Nat} (hy : y < 32) (hx : x < 32) : nI (32 * y + x) &&& 31 = nI x := by
  rw [pk_andN (n := 32 * y + x) (m := 31) (by omega) 5 (by decide), show (32 * y + x) % 2 ^ 5 = x by omega]
theorem rr_p5 {y x : Nat} (hy : y < 32) (hx : x < 32) : nI (32 * y + x) >>> ((5 : Int32) &&& 31) = nI y := by
  rw [pk_shrN (n := 32 * y + x) (by omega) ((5 : Int32) &&& 31) 5 (by decide), show (32 * y + x) / 2 ^ 5 = y by omega]
theorem rr_isPixel {post : Int32 → Prop} {pm wt : Int32} {a1 a2 a3 a4 a5 : Nat → Int32} {y x : Nat} (hy : y < 24) (hx : x < 24) (H : post 1) : wpX_isPixel post (pm, wt, a1, a2, a3, a4, a5) (nI (32 * y + x)) :=
  br_f (nI_pos (by omega)) (pk_le 24 x (fun z => absurd z (by omega)) (fun _ => pk_le 24 y (fun z => absurd z (by omega)) (fun _ => H) (hy := rr_p5 (by omega) (by omega))) (hy := rr_p31 (by omega) (by omega)))
theorem rr_dist {post : Int32 → Prop} {pm wt : Int32} {a1 a2 a3 a4 a5 : Nat → Int32} {a b : Nat} (ha : a < 32) (hb : b < 32) (H : ∀ d, d < 32 → (a = b → d = 0) → post (nI d)) : wpX_distance post (pm, wt, a1, a2, a3, a4, a5) (nI a) (nI b) :=
  pk_le b a (fun z => by
      show post (nI a - nI b)
      rw [pk_sub z]
      exact H (a - b) (by omega) (by omega))
    (fun z => by
      show post (nI b - nI a)
      rw [pk_sub (by omega)]
      exact H (b - a) (by omega) (by omega))
theorem rr_dot {post : St2 → Prop} {pm wt : Int32} {a1 a2 a3 a4 a5 : Nat → Int32} {y x : Nat} (hy : y < 24) (hx : x < 24) (H : post (pm, wt, a1, upd a2 y (a2 y ||| ((1 : Int32) <<< (nI x &&& 31))), a3, a4, a5)) : wpX_dot post (pm, wt, a1, a2, a3, a4, a5) (nI x) (nI y) := by
  refine br_f (nI_pos (by omega)) (pk_le 24 x (fun z => absurd z (by omega)) (fun _ => br_f (nI_pos (by omega)) (pk_le 24 y (fun z => absurd z (by omega)) (fun _ => ⟨pk_in y 24 hy, pk_in y 24 hy, nm_r ?_ H⟩))))
  rw [nI_clamp (show y < 2 ^ 31 by omega)]
theorem rr_neg : ∀ l, l < 24 → 0 < l → -nI l < 0 := by decide +kernel
theorem rr_100 {post : St2 → Prop} {J : Int32 → Int32 → Int32 → Int32 → Int32 → (Nat → Int32) → (Nat → Int32) → (Nat → Int32) → (Nat → Int32) → (Nat → Int32) → Prop} {x5 x7 x8 pm wt : Int32} {a1 a2 a3 a4 a5 : Nat → Int32} {l i : Nat} (hl : l < 24) (H : J x8 0 (nI (i + 1)) pm wt a1 a2 a3 a4 a5) : wX_walkLine_100 post J x5 x7 x8 0 (nI l) 0 (nI i) pm wt a1 a2 a3 a4 a5 :=
  nm_r (e' := 0) (by decide) (pk_le 0 l (fun _ => br_c (fun _ => nm_r (nI_1 i) H) (fun z => br_c (fun _ => nm_r (nI_1 i) H) (fun z2 => by
    exfalso
    rcases Nat.eq_zero_or_pos l with e | e
    · exact z2 (by rw [e]; exact nI_le (Nat.le_refl 0) (by decide))
    · exact z (rr_neg l hl e)))) (fun z => absurd z (by omega)))
theorem rr_69 {post : St2 → Prop} {pm wt : Int32} {a1 a2 a3 a4 a5 : Nat → Int32} {y lo hi : Nat} (hy : y < 24) (hl : lo ≤ hi) (hh : hi < 24) (h0 : ∀ j, j < 24 → a2 j = 0)
    (H : ∀ s : Nat → Int32, (∀ j, j < 24 → s j = if j = y then rr_g lo (hi + 1) else 0) → post (pm, wt, a1, s, a3, a4, a5)) :
    ∃ n, wX_walkLine_69 post 0 (nI hi) 0 (nI (hi - lo)) n (nI y) 0 (nI lo) pm wt a1 a2 a3 a4 a5 := by
  refine pk_loop (fun n i s => wX_walkLine_69 post 0 (nI hi) 0 (nI (hi - lo)) n (nI y) 0 (nI i) pm wt a1 s a3 a4 a5) (fun i s => lo ≤ i ∧ ∀ j, j < 24 → s j = if j = y then rr_g lo i else 0) (hi + 1) lo a2 (by omega) ⟨Nat.le_refl _, ?_⟩ ?_ ?_
  · intro j hj
    rw [h0 j hj, rr_gz0 lo (by omega)]
    by_cases e : j = y
    · rw [if_pos e]
    · rw [if_neg e]
  · intro n s h
    exact pk_lt hi (hi + 1) (fun _ => H s h.2) (fun z => absurd z (by omega))
  · intro n i s hi2 h hw
    refine pk_lt hi i (fun z => absurd z (by omega)) (fun _ => br_t rfl (rr_dot hy (by omega) (rr_100 (by omega) (hw _ ⟨by omega, ?_⟩))))
    intro j hj
    by_cases e : j = y
    · rw [e, pk_us, if_pos rfl, h.2 y hy, if_pos rfl, rr_gs0 i (by omega) lo (by omega)]
    · rw [pk_un e, if_neg e, h.2 j hj, if_neg e]
theorem rr_walk {post : St2 → Prop} {pm wt : Int32} {a1 a2 a3 a4 a5 : Nat → Int32} {y a c lo hi : Nat} (hy : y < 24) (ha : a < 24) (hc : c < 24) (hlh : (c < a ∧ lo = c ∧ hi = a) ∨ (a ≤ c ∧ lo = a ∧ hi = c)) (h0 : ∀ j, j < 24 → a2 j = 0)
    (H : ∀ s : Nat → Int32, (∀ j, j < 24 → s j = if j = y then rr_g lo (hi + 1) else 0) → post (pm, wt, a1, s, a3, a4, a5)) :
    wpX_walkLine post (pm, wt, a1, a2, a3, a4, a5) (nI a) (nI y) (nI c) (nI y) 0 := by
  have e0 : nI y - nI y = 0 := by
    rw [pk_sub (Nat.le_refl y), Nat.sub_self]
    rfl
  rcases hlh with ⟨hl, e1, e2⟩ | ⟨hl, e1, e2⟩
  · have hn := nI_lt hl (show a < 2 ^ 31 by omega)
    refine br_t hn (br_t hn (br_t hn (br_t hn (nm_r (pk_sub (show c ≤ a by omega)) ?_))))
    rw [e0]
    rw [e1, e2] at H
    exact rr_69 hy (by omega) (by omega) h0 H
  · have hn := nI_nlt hl (show c < 2 ^ 31 by omega)
    refine br_f hn (br_f hn (br_f hn (br_f hn (nm_r (pk_sub hl) ?_))))
    rw [e0]
    rw [e1, e2] at H
    exact rr_69 hy (by omega) (by omega) h0 H
/-- a word that is one run of ones, and how many -/
def rr_cw (w : Int32) (k : Nat) : Prop := ∃ lo hi, lo ≤ hi ∧ hi ≤ 24 ∧ w = rr_g lo hi ∧ k = hi - lo
theorem rr_bits {post : Int32 → Prop} {pm wt : Int32} {a1 a2 a3 a4 a5 : Nat → Int32} {w : Int32} {k : Nat} (hk : rr_cw w k) (H : post (nI k)) : wpX_bitsIn post (pm, wt, a1, a2, a3, a4, a5) w := by
  obtain ⟨lo, hi, h1, h2, e1, e2⟩ := hk
  rw [e1]
  rw [e2] at H
  refine pk_loop (σ := Unit) (fun n i _ => wX_bitsIn_4 post pm wt a1 a2 a3 a4 a5 n (nI i) (rr_g (lo + i) hi)) (fun _ _ => True) (hi - lo) 0 () (by omega) trivial ?_ ?_
  · intro n _ _
    refine br_t ?_ H
    rw [show lo + (hi - lo) = hi by omega]
    exact rr_gz0 hi (by omega)
  · intro n i _ hi2 _ hw
    have hk := rr_gk0 hi (by omega) (lo + i) (by omega)
    exact br_f hk.2 (nm_r hk.1 (nm_r (nI_1 i) (hw () trivial)))
theorem rr_ink72 {post : Int32 → St2 → Prop} {J : Int32 → Int32 → (Nat → Int32) → (Nat → Int32) → (Nat → Int32) → (Nat → Int32) → (Nat → Int32) → Prop} {pm wt : Int32} {s a2 a3 a4 a5 : Nat → Int32} {c k i : Nat} {z : Int32} (hi : i < 24) (hz : z = s i ^^^ a2 i) (hk : rr_cw (a2 i) k) (H : J (nI (c + k)) (nI (i + 1)) (upd s i z) a2 a3 a4 a5) : wX_ink_72 post J (nI c) (nI i) z pm wt s a2 a3 a4 a5 := by
  unfold wX_ink_72
  rw [nI_clamp (show i < 2 ^ 31 by omega)]
  have e : s i ^^^ z = a2 i := by rw [hz, rr_xx]
  rw [e]
  exact ⟨pk_in i 24 hi, rr_bits hk (nm_r (nI_add c k) ⟨pk_in i 24 hi, nm_e (nm_r (nI_1 i) H)⟩)⟩
theorem rr_ink {post : Int32 → St2 → Prop} {pm wt : Int32} {a1 a2 a3 a4 a5 : Nat → Int32} {c : Nat → Nat} (hp : (pm = 0 ∧ ∀ j, j < 24 → a1 j = 0) ∨ pm = 2) (hc : ∀ j, j < 24 → rr_cw (a2 j) (c j))
    (H : ∀ s : Nat → Int32, (∀ j, j < 24 → s j = a1 j ^^^ a2 j) → post (nI (rr_S c 24)) (pm, wt, s, a2, a3, a4, a5)) : wpX_ink post (pm, wt, a1, a2, a3, a4, a5) := by
  refine pk_loop (fun n i s => wX_ink_4 post pm wt n (nI (rr_S c i)) (nI i) s a2 a3 a4 a5) (fun i s => (∀ j, j < i → s j = a1 j ^^^ a2 j) ∧ ∀ j, i ≤ j → s j = a1 j) 24 0 a1 (by omega) ⟨fun j hj => absurd hj (by omega), fun j _ => rfl⟩ ?_ ?_
  · intro n s h
    exact pk_le 24 24 (fun _ => H s h.1) (fun z => absurd z (by omega))
  · intro n i s hi h hw
    have es : s i = a1 i := h.2 i (Nat.le_refl i)
    have hn : ∀ z : Int32, z = s i ^^^ a2 i → wX_ink_4 post pm wt n (nI (rr_S c (i + 1))) (nI (i + 1)) (upd s i z) a2 a3 a4 a5 := by
      intro z hz
      refine hw (upd s i z) ⟨rr_fill (f := fun j => a1 j ^^^ a2 j) rfl h.1 (by rw [hz, es]), fun j hj => ?_⟩
      rw [pk_un (show j ≠ i by omega)]
      exact h.2 j (by omega)
    refine pk_le 24 i (fun z => absurd z (by omega)) (fun _ => ?_)
    rw [nI_clamp (show i < 2 ^ 31 by omega)]
    rcases hp with ⟨e, e0⟩ | e
    · have ez : s i ||| a2 i = s i ^^^ a2 i := by rw [es, e0 i hi, rr_0or]
      exact br_t e ⟨pk_in i 24 hi, pk_in i 24 hi, rr_ink72 hi ez (hc i hi) (hn _ ez)⟩
    · exact br_f (by rw [e]; decide) (br_f (by rw [e]; decide) ⟨pk_in i 24 hi, pk_in i 24 hi, rr_ink72 hi rfl (hc i hi) (hn _ rfl)⟩)
theorem rr_S_at {y : Nat} {k : Nat} (n : Nat) : rr_S (fun j => if j = y then k else 0) n = if y < n then k else 0 := by
  induction n with
  | zero => rw [if_neg (by omega)]; rfl
  | succ n ih =>
    show rr_S (fun j => if j = y then k else 0) n + (if n = y then k else 0) = _
    rw [ih]
    by_cases e : n = y
    · rw [if_neg (show ¬ y < n by omega), if_pos e, if_pos (show y < n + 1 by omega), Nat.zero_add]
    · rw [if_neg e, Nat.add_zero]
      by_cases e2 : y < n
      · rw [if_pos e2, if_pos (show y < n + 1 by omega)]
      · rw [if_neg e2, if_neg (show ¬ y < n + 1 by omega)]
theorem rr_line {post : Int32 → St2 → Prop} {pm wt : Int32} {a1 a2 a3 a4 a5 : Nat → Int32} {y p q lo hi : Nat} (hy : y < 24) (hpp : p < 24) (hq : q < 24) (hlh : (q < p ∧ lo = q ∧ hi = p) ∨ (p ≤ q ∧ lo = p ∧ hi = q))
    (hp : (pm = 0 ∧ ∀ j, j < 24 → a1 j = 0) ∨ pm = 2)
    (H : ∀ s t : Nat → Int32, (∀ j, j < 24 → s j = a1 j ^^^ (if j = y then rr_g lo (hi + 1) else 0)) → post (nI (hi + 1 - lo)) (pm, wt, s, t, a3, a4, a5)) :
    wpX_line post (pm, wt, a1, a2, a3, a4, a5) (nI (32 * y + p)) (nI (32 * y + q)) := by
  unfold wpX_line
  dsimp only
  rw [rr_p31 (y := y) (x := p) (by omega) (by omega), rr_p31 (y := y) (x := q) (by omega) (by omega), rr_p5 (y := y) (x := p) (by omega) (by omega), rr_p5 (y := y) (x := q) (by omega) (by omega)]
  refine rr_isPixel hy hpp (br_f (by decide) (rr_isPixel hy hq (br_f (by decide) (rr_clear (fun s hs => ?_)))))
  refine rr_dist (by omega) (by omega) (fun d hd _ => ?_)
  refine rr_dist (by omega) (by omega) (fun d2 hd2 hz => ?_)
  rw [hz rfl]
  refine pk_lt d 0 (fun z => absurd z (by omega)) (fun _ => ?_)
  refine rr_walk hy hpp hq hlh hs (fun t ht => ?_)
  refine rr_ink (c := fun j => if j = y then hi + 1 - lo else 0) hp (fun j hj => ?_) (fun u hu => ?_)
  · show rr_cw (t j) (if j = y then hi + 1 - lo else 0)
    rw [ht j hj]
    by_cases e : j = y
    · rw [if_pos e, if_pos e]
      exact ⟨lo, hi + 1, by omega, by omega, rfl, rfl⟩
    · rw [if_neg e, if_neg e]
      exact ⟨0, 0, by omega, by omega, (rr_gz0 0 (by omega)).symm, rfl⟩
  · rw [rr_S_at, if_pos hy]
    have hu' : ∀ j, j < 24 → u j = a1 j ^^^ t j := hu
    exact H u t (fun j hj => by rw [hu' j hj, ht j hj])
theorem rr_row {post : Int32 → Prop} {pm wt : Int32} {a1 a2 a3 a4 a5 : Nat → Int32} {y : Nat} (hy : y < 24) (H : post (a1 y)) : wpX_row post (pm, wt, a1, a2, a3, a4, a5) (nI y) := by
  refine br_f (nI_pos (by omega)) (pk_lt y 24 (fun _ => ⟨pk_in y 24 hy, ?_⟩) (fun z => absurd z (by omega)))
  rw [nI_clamp (show y < 2 ^ 31 by omega)]
  exact H
theorem rr_get {post : Int32 → Prop} {pm wt : Int32} {a1 a2 a3 a4 a5 : Nat → Int32} {y x : Nat} (hy : y < 24) (hx : x < 24) (ho : rr_b (a1 y) x = false) (H : post 0) : wpX_get post (pm, wt, a1, a2, a3, a4, a5) (nI (32 * y + x)) := by
  unfold wpX_get
  dsimp only
  rw [rr_p31 (y := y) (x := x) (by omega) (by omega), rr_p5 (y := y) (x := x) (by omega) (by omega), nI_clamp (show y < 2 ^ 31 by omega), rr_bit0 (by omega) ho]
  exact rr_isPixel hy hx (br_f (by decide) ⟨pk_in y 24 hy, H⟩)
theorem rr_count {post : Int32 → Prop} {pm wt : Int32} {a1 a2 a3 a4 a5 : Nat → Int32} {c : Nat → Nat} (hc : ∀ j, j < 24 → rr_cw (a1 j) (c j)) (H : post (nI (rr_S c 24))) : wpX_count post (pm, wt, a1, a2, a3, a4, a5) := by
  refine pk_loop (σ := Unit) (fun n i _ => wX_count_4 post pm wt a1 a2 a3 a4 a5 n (nI (rr_S c i)) (nI i)) (fun _ _ => True) 24 0 () (by omega) trivial ?_ ?_
  · intro n _ _
    exact pk_le 24 24 (fun _ => H) (fun z => absurd z (by omega))
  · intro n i _ hi _ hw
    refine pk_le 24 i (fun z => absurd z (by omega)) (fun _ => ⟨pk_in i 24 hi, ?_⟩)
    rw [nI_clamp (show i < 2 ^ 31 by omega)]
    exact rr_bits (hc i hi) (nm_r (nI_add (rr_S c i) (c i)) (nm_r (nI_1 i) (hw () trivial)))
theorem rr_pen {post : Int32 → St2 → Prop} {pm wt : Int32} {a1 a2 a3 a4 a5 : Nat → Int32} (H : post 1 (2, wt, a1, a2, a3, a4, a5)) : wpX_pen post (pm, wt, a1, a2, a3, a4, a5) 2 :=
  br_f (by decide) (br_t (by decide) H)
end
section
/-! the flood's picture: rows a1 (a cell is open where its bit is 0), the region R, the figure a2, the runs that wait in a3 a4 a5 -/
def rr_C (a1 : Nat → Int32) (R : Nat → Nat → Bool) : Prop :=
  (∀ z x, R z x = true → z < 24 ∧ x < 24 ∧ rr_b (a1 z) x = false) ∧
  (∀ z x, z < 24 → x + 1 < 24 → rr_b (a1 z) x = false → rr_b (a1 z) (x + 1) = false → R z x = R z (x + 1)) ∧
  (∀ z x, z + 1 < 24 → x < 24 → rr_b (a1 z) x = false → rr_b (a1 (z + 1)) x = false → R z x = R (z + 1) x)
def rr_min (a1 : Nat → Int32) (R : Nat → Nat → Bool) (y0 x0 : Nat) : Prop :=
  ∀ F : Nat → Nat → Prop, F y0 x0 →
    (∀ z x, z < 24 → x + 1 < 24 → rr_b (a1 z) x = false → rr_b (a1 z) (x + 1) = false → (F z x ↔ F z (x + 1))) →
    (∀ z x, z + 1 < 24 → x < 24 → rr_b (a1 z) x = false → rr_b (a1 (z + 1)) x = false → (F z x ↔ F (z + 1) x)) →
    ∀ z x, R z x = true → F z x
def rr_N (R : Nat → Nat → Bool) : Nat := rr_S (fun z => rr_S (fun x => (R z x).toNat) 24) 24
def rr_len (a4 a5 : Nat → Int32) (i : Nat) : Nat := (a5 i).toNatClampNeg + 1 - (a4 i).toNatClampNeg
/-- the cell is in the waiting run i -/
def rr_on (a3 a4 a5 : Nat → Int32) (i z x : Nat) : Prop := ∃ f l, l < 24 ∧ a3 i = nI z ∧ a4 i = nI f ∧ a5 i = nI l ∧ f ≤ x ∧ x ≤ l
/-- the open cells above and below are in the figure -/
def rr_done (a1 a2 : Nat → Int32) (z x : Nat) : Prop :=
  (∀ z', z' + 1 = z → rr_b (a1 z') x = false → rr_b (a2 z') x = true) ∧ (z + 1 < 24 → rr_b (a1 (z + 1)) x = false → rr_b (a2 (z + 1)) x = true)
def rr_I (a1 : Nat → Int32) (R : Nat → Nat → Bool) (P : Nat → Nat → Prop) (t w : Nat) (a2 a3 a4 a5 : Nat → Int32) : Prop :=
  (∀ z x, z < 24 → rr_b (a2 z) x = true → R z x = true) ∧
  (∀ z x, z < 24 → x + 1 < 24 → rr_b (a1 z) x = false → rr_b (a1 z) (x + 1) = false → rr_b (a2 z) x = rr_b (a2 z) (x + 1)) ∧
  (∀ i, i < w → ∃ z f l, z < 24 ∧ f ≤ l ∧ l < 24 ∧ a3 i = nI z ∧ a4 i = nI f ∧ a5 i = nI l ∧ ∀ x, f ≤ x → x ≤ l → rr_b (a2 z) x = true) ∧
  t + rr_S (rr_len a4 a5) w = rr_S (fun z => rr_pc (a2 z)) 24 ∧
  w ≤ rr_S (fun z => rr_st (a2 z)) 24 ∧
  (∀ z x, z < 24 → rr_b (a2 z) x = true → (∃ i, i < w ∧ rr_on a3 a4 a5 i z x) ∨ P z x ∨ rr_done a1 a2 z x)
theorem rr_I_weak {a1 a2 a3 a4 a5 : Nat → Int32} {R : Nat → Nat → Bool} {P Q : Nat → Nat → Prop} {t w : Nat} (h : rr_I a1 R P t w a2 a3 a4 a5) (hq : ∀ z x, z < 24 → P z x → Q z x ∨ rr_done a1 a2 z x) : rr_I a1 R Q t w a2 a3 a4 a5 := by
  obtain ⟨hA, hB, hC, hD, hE, hF⟩ := h
  refine ⟨hA, hB, hC, hD, hE, fun z x hz hx => ?_⟩
  rcases hF z x hz hx with c | c | c
  · exact Or.inl c
  · exact Or.inr (hq z x hz c)
  · exact Or.inr (Or.inr c)
/-- a property that goes over from each place of a stretch to the next -/
theorem rr_sp0 {F : Nat → Prop} {lo h : Nat} (hc : ∀ x, lo ≤ x → x + 1 < h → (F x ↔ F (x + 1))) : ∀ k, lo + k < h → (F lo ↔ F (lo + k)) := by
  intro k
  induction k with
  | zero => exact fun _ => Iff.rfl
  | succ k ih => exact fun hk => (ih (by omega)).trans (hc (lo + k) (by omega) (by omega))
theorem rr_sp {F : Nat → Prop} {lo h : Nat} (hc : ∀ x, lo ≤ x → x + 1 < h → (F x ↔ F (x + 1))) {x x' : Nat} (h1 : lo ≤ x) (h2 : x < h) (h3 : lo ≤ x') (h4 : x' < h) (hx : F x) : F x' := by
  have e1 := rr_sp0 hc (x - lo) (by omega)
  have e2 := rr_sp0 hc (x' - lo) (by omega)
  rw [show lo + (x - lo) = x by omega] at e1
  rw [show lo + (x' - lo) = x' by omega] at e2
  exact e2.mp (e1.mpr hx)
theorem rr_st_max (a2 : Nat → Int32) : rr_S (fun z => rr_st (a2 z)) 24 ≤ 288 := by
  have h := rr_S_le (f := fun z => rr_st (a2 z)) (k := 12) (n := 24) (fun i _ => rr_st_le _)
  exact h
theorem rr_pc_max (a2 : Nat → Int32) : rr_S (fun z => rr_pc (a2 z)) 24 ≤ 576 := by
  have h := rr_S_le (f := fun z => rr_pc (a2 z)) (k := 24) (n := 24) (fun i _ => rr_pc_le _)
  exact h
theorem rr_tf {b : Bool} (h : ¬ b = true) : b = false := by
  cases b
  · rfl
  · exact absurd rfl h
theorem rr_push {a1 a2 a3 a4 a5 : Nat → Int32} {R : Nat → Nat → Bool} {P : Nat → Nat → Prop} {t w z x f l : Nat} (hR : rr_C a1 R) (h : rr_I a1 R P t w a2 a3 a4 a5) (hz : z < 24) (hfx : f ≤ x) (hxl : x ≤ l) (hl : l < 24)
    (ho : ∀ j, f ≤ j → j ≤ l → rr_b (a1 z) j = false) (hf0 : 0 < f → rr_b (a1 z) (f - 1) = true) (hl0 : l < 23 → rr_b (a1 z) (l + 1) = true) (hx2 : rr_b (a2 z) x = false) (hxR : R z x = true) :
    w < 288 ∧ rr_I a1 R P t (w + 1) (upd a2 z (a2 z ||| rr_g f (l + 1))) (upd a3 w (nI z)) (upd a4 w (nI f)) (upd a5 w (nI l)) ∧ ∀ j, f ≤ j → j ≤ l → rr_b (upd a2 z (a2 z ||| rr_g f (l + 1)) z) j = true := by
  obtain ⟨hA, hB, hC, hD, hE, hF⟩ := h
  have hB' : ∀ j, f ≤ j → j ≤ l → rr_b (a2 z) j = false := by
    intro j h1 h2
    exact rr_sp (F := fun j => rr_b (a2 z) j = false) (lo := f) (h := l + 1) (fun j g1 g2 => by rw [hB z j hz (by omega) (ho j g1 (by omega)) (ho (j + 1) (by omega) (by omega))]) hfx (by omega) h1 (by omega) hx2
  have hR' : ∀ j, f ≤ j → j ≤ l → R z j = true := by
    intro j h1 h2
    exact rr_sp (F := fun j => R z j = true) (lo := f) (h := l + 1) (fun j g1 g2 => by rw [hR.2.1 z j hz (by omega) (ho j g1 (by omega)) (ho (j + 1) (by omega) (by omega))]) hfx (by omega) h1 (by omega) hxR
  have hcl : ∀ j, rr_b (a1 z) j = true → rr_b (a2 z) j = false := by
    intro j hj
    apply rr_tf
    intro g
    have g2 := (hR.1 z j (hA z j hz g)).2.2
    rw [hj] at g2
    exact absurd g2 (by decide)
  have hd : ∀ i, i < 24 → f ≤ i + 1 → i ≤ l + 1 → rr_b (a2 z) i = false := by
    intro i h1 h2 h3
    by_cases c1 : i + 1 = f
    · have g := hf0 (by omega)
      rw [show f - 1 = i by omega] at g
      exact hcl i g
    · by_cases c2 : i = l + 1
      · rw [c2]
        exact hcl (l + 1) (hl0 (by omega))
      · exact hB' i (by omega) (by omega)
  have hbit : ∀ j, rr_b (a2 z ||| rr_g f (l + 1)) j = (rr_b (a2 z) j || decide (f ≤ j ∧ j < l + 1)) := by
    intro j
    rw [rr_or, rr_gb (by omega) (by omega)]
  have hmono : ∀ z' j, rr_b (a2 z') j = true → rr_b (upd a2 z (a2 z ||| rr_g f (l + 1)) z') j = true := by
    intro z' j g
    by_cases e : z' = z
    · rw [e] at g ⊢
      rw [pk_us, hbit, g, Bool.true_or]
    · rw [pk_un e]
      exact g
  have hnew : ∀ j, f ≤ j → j ≤ l → rr_b (upd a2 z (a2 z ||| rr_g f (l + 1)) z) j = true := by
    intro j h1 h2
    rw [pk_us, hbit, decide_eq_true (show f ≤ j ∧ j < l + 1 by omega), Bool.or_true]
  have hinv : ∀ z' j, rr_b (upd a2 z (a2 z ||| rr_g f (l + 1)) z') j = true → rr_b (a2 z') j = true ∨ (z' = z ∧ f ≤ j ∧ j ≤ l) := by
    intro z' j g
    by_cases e : z' = z
    · rw [e] at g ⊢
      rw [pk_us, hbit] at g
      by_cases c : f ≤ j ∧ j < l + 1
      · exact Or.inr ⟨rfl, c.1, by omega⟩
      · rw [decide_eq_false c, Bool.or_false] at g
        exact Or.inl g
    · rw [pk_un e] at g
      exact Or.inl g
  have hE' : w + 1 ≤ rr_S (fun k => rr_st (upd a2 z (a2 z ||| rr_g f (l + 1)) k)) 24 := by
    have g1 := rr_S_upd rr_st a2 (a2 z ||| rr_g f (l + 1)) hz
    have g2 := rr_st_or (w := a2 z) (lo := f) (hi := l + 1) (by omega) (by omega) hd
    omega
  have hw : w < 288 := by
    have g := rr_st_max (upd a2 z (a2 z ||| rr_g f (l + 1)))
    omega
  refine ⟨hw, ⟨?_, ?_, ?_, ?_, hE', ?_⟩, hnew⟩
  · intro z' j hz' g
    rcases hinv z' j g with c | ⟨c, c1, c2⟩
    · exact hA z' j hz' c
    · rw [c]
      exact hR' j c1 c2
  · intro z' j hz' hj g1 g2
    by_cases e : z' = z
    · rw [e] at g1 g2 ⊢
      rw [pk_us, hbit, hbit, hB z j hz hj g1 g2]
      have e2 : decide (f ≤ j ∧ j < l + 1) = decide (f ≤ j + 1 ∧ j + 1 < l + 1) := by
        rw [decide_eq_decide]
        constructor
        · intro c
          refine ⟨by omega, ?_⟩
          by_cases c2 : j = l
          · rw [c2] at g2 hj
            rw [hl0 (by omega)] at g2
            exact absurd g2 (by decide)
          · omega
        · intro c
          refine ⟨?_, by omega⟩
          by_cases c2 : j + 1 = f
          · have c3 := hf0 (by omega)
            rw [show f - 1 = j by omega, g1] at c3
            exact absurd c3 (by decide)
          · omega
      rw [e2]
    · rw [pk_un e]
      exact hB z' j hz' hj g1 g2
  · intro i hi
    by_cases e : i = w
    · rw [e]
      exact ⟨z, f, l, hz, by omega, hl, pk_us, pk_us, pk_us, hnew⟩
    · obtain ⟨z', f', l', k1, k2, k3, k4, k5, k6, k7⟩ := hC i (by omega)
      refine ⟨z', f', l', k1, k2, k3, ?_, ?_, ?_, fun j g1 g2 => hmono z' j (k7 j g1 g2)⟩
      · rw [pk_un e, k4]
      · rw [pk_un e, k5]
      · rw [pk_un e, k6]
  · have g1 := rr_S_upd rr_pc a2 (a2 z ||| rr_g f (l + 1)) hz
    have g2 := rr_pc_or (w := a2 z) (lo := f) (hi := l + 1) (by omega) (by omega) (fun i c1 c2 => hB' i c1 (by omega))
    have g3 : rr_S (rr_len (upd a4 w (nI f)) (upd a5 w (nI l))) (w + 1) = rr_S (rr_len a4 a5) w + (l + 1 - f) := by
      show rr_S (rr_len (upd a4 w (nI f)) (upd a5 w (nI l))) w + rr_len (upd a4 w (nI f)) (upd a5 w (nI l)) w = _
      have g4 : rr_len (upd a4 w (nI f)) (upd a5 w (nI l)) w = l + 1 - f := by
        unfold rr_len
        rw [pk_us, pk_us, nI_clamp (show l < 2 ^ 31 by omega), nI_clamp (show f < 2 ^ 31 by omega)]
      rw [g4]
      congr 1
      apply rr_S_congr
      intro i hi
      unfold rr_len
      rw [pk_un (show i ≠ w by omega), pk_un (show i ≠ w by omega)]
    rw [g3]
    omega
  · intro z' j hz' g
    rcases hinv z' j g with c | ⟨c, c1, c2⟩
    · rcases hF z' j hz' c with ⟨i, k1, f', l', k2, k3, k4, k5, k6⟩ | k | ⟨k1, k2⟩
      · refine Or.inl ⟨i, by omega, f', l', k2, ?_, ?_, ?_, k6⟩
        · rw [pk_un (show i ≠ w by omega), k3]
        · rw [pk_un (show i ≠ w by omega), k4]
        · rw [pk_un (show i ≠ w by omega), k5]
      · exact Or.inr (Or.inl k)
      · exact Or.inr (Or.inr ⟨fun z2 e2 o2 => hmono z2 j (k1 z2 e2 o2), fun e2 o2 => hmono (z' + 1) j (k2 e2 o2)⟩)
    · rw [c]
      exact Or.inl ⟨w, by omega, f, l, hl, pk_us, pk_us, pk_us, c1, c2⟩
theorem rr_pop {a1 a2 a3 a4 a5 : Nat → Int32} {R : Nat → Nat → Bool} {t w : Nat} (h : rr_I a1 R (fun _ _ => False) t (w + 1) a2 a3 a4 a5) :
    w < 288 ∧ ∃ z f l, z < 24 ∧ f ≤ l ∧ l < 24 ∧ a3 w = nI z ∧ a4 w = nI f ∧ a5 w = nI l ∧ (∀ x, f ≤ x → x ≤ l → rr_b (a2 z) x = true) ∧ t + (l - f + 1) ≤ 576 ∧ rr_I a1 R (fun z' x => z' = z ∧ f ≤ x ∧ x ≤ l) (t + (l - f + 1)) w a2 a3 a4 a5 := by
  obtain ⟨hA, hB, hC, hD, hE, hF⟩ := h
  have hw : w < 288 := by
    have g := rr_st_max a2
    omega
  obtain ⟨z, f, l, k1, k2, k3, k4, k5, k6, k7⟩ := hC w (by omega)
  have hD' : t + (rr_S (rr_len a4 a5) w + rr_len a4 a5 w) = rr_S (fun z => rr_pc (a2 z)) 24 := hD
  have g4 : rr_len a4 a5 w = l + 1 - f := by
    unfold rr_len
    rw [k5, k6, nI_clamp (show l < 2 ^ 31 by omega), nI_clamp (show f < 2 ^ 31 by omega)]
  have g5 := rr_pc_max a2
  refine ⟨hw, z, f, l, k1, k2, k3, k4, k5, k6, k7, by omega, hA, hB, fun i hi => hC i (by omega), by omega, by omega, ?_⟩
  intro z' x hz' hx
  rcases hF z' x hz' hx with ⟨i, i1, f', l', m1, m2, m3, m4, m5, m6⟩ | c | c
  · by_cases e : i = w
    · rw [e] at m2 m3 m4
      have e1 : z' = z := (nI_eq (by omega) (by omega)).mp (m2.symm.trans k4)
      have e3 : l' = l := (nI_eq (by omega) (by omega)).mp (m4.symm.trans k6)
      have e2 : f' = f := (nI_eq (by omega) (by omega)).mp (m3.symm.trans k5)
      exact Or.inr (Or.inl ⟨e1, by omega, by omega⟩)
    · exact Or.inl ⟨i, by omega, f', l', m1, m2, m3, m4, m5, m6⟩
  · exact absurd c id
  · exact Or.inr (Or.inr c)
theorem rr_start {a1 a2 a3 a4 a5 : Nat → Int32} {R : Nat → Nat → Bool} (h : ∀ j, j < 24 → a2 j = 0) : rr_I a1 R (fun _ _ => False) 0 0 a2 a3 a4 a5 := by
  have hn : ∀ z x, z < 24 → rr_b (a2 z) x = true → False := by
    intro z x hz g
    rw [h z hz, rr_0] at g
    exact absurd g (by decide)
  refine ⟨fun z x hz g => absurd (hn z x hz g) id, ?_, fun i hi => absurd hi (by omega), ?_, Nat.zero_le _, fun z x hz g => absurd (hn z x hz g) id⟩
  · intro z x hz _ _ _
    rw [h z hz, rr_0, rr_0]
  · have e : rr_S (fun z => rr_pc (a2 z)) 24 = rr_S (fun _ => 0) 24 := rr_S_congr (fun i hi => by rw [h i hi, rr_pc_0])
    rw [e]
    rfl
theorem rr_finish {a1 a2 a3 a4 a5 : Nat → Int32} {R : Nat → Nat → Bool} {t y0 x0 : Nat} (hR : rr_C a1 R) (hy0 : y0 < 24) (hm : rr_min a1 R y0 x0) (h : rr_I a1 R (fun _ _ => False) t 0 a2 a3 a4 a5) (h0 : rr_b (a2 y0) x0 = true) :
    (∀ z x, z < 24 → rr_b (a2 z) x = R z x) ∧ t = rr_N R := by
  obtain ⟨hA, hB, hC, hD, hE, hF⟩ := h
  have hdone : ∀ z x, z < 24 → rr_b (a2 z) x = true → rr_done a1 a2 z x := by
    intro z x hz g
    rcases hF z x hz g with ⟨i, i1, _⟩ | c | c
    · exact absurd i1 (by omega)
    · exact absurd c id
    · exact c
  have hmin := hm (fun z x => z < 24 ∧ rr_b (a2 z) x = true) ⟨hy0, h0⟩
    (fun z x hz hx g1 g2 => by rw [hB z x hz hx g1 g2])
    (fun z x hz hx g1 g2 => ⟨fun c => ⟨hz, (hdone z x c.1 c.2).2 hz g2⟩, fun c => ⟨by omega, (hdone (z + 1) x c.1 c.2).1 z rfl g1⟩⟩)
  have hbit : ∀ z x, z < 24 → rr_b (a2 z) x = R z x := by
    intro z x hz
    cases e : R z x with
    | true => exact (hmin z x e).2
    | false =>
      apply rr_tf
      intro g
      rw [hA z x hz g] at e
      exact absurd e (by decide)
  refine ⟨hbit, ?_⟩
  have e : rr_S (fun z => rr_pc (a2 z)) 24 = rr_N R := by
    unfold rr_N
    apply rr_S_congr
    intro z hz
    unfold rr_pc
    apply rr_S_congr
    intro x _
    rw [hbit z x hz]
  rw [← e, ← hD]
  rfl
end
section
theorem rr_i8 : ∀ n, n < 24 → (nI n).toInt8.toInt32 = nI n := by decide +kernel
theorem rr_102 {post : St2 → Prop} {pm : Int32} {a1 a2 a3 a4 a5 : Nat → Int32} {z f l w : Nat} (hz : z < 24) (hf : f < 24) (hl : l < 24) (hw : w < 288) (H : post (pm, nI (w + 1), a1, upd a2 z (a2 z ||| rr_g f (l + 1)), upd a3 w (nI z), upd a4 w (nI f), upd a5 w (nI l))) :
    wX_addRun_102 post (nI z) (nI f) (nI l) pm (nI w) a1 a2 a3 a4 a5 := by
  unfold wX_addRun_102
  rw [nI_clamp (show z < 2 ^ 31 by omega), nI_clamp (show w < 2 ^ 31 by omega), rr_i8 z hz, rr_i8 f hf, rr_i8 l hl, nI_1 l]
  exact ⟨pk_in z 24 hz, pk_in z 24 hz, nm_e ⟨pk_in w 288 hw, nm_e ⟨pk_in w 288 hw, nm_e ⟨pk_in w 288 hw, nm_e (nm_r (nI_1 w) H)⟩⟩⟩⟩
theorem rr_72 {post : St2 → Prop} {pm wt : Int32} {a1 a2 a3 a4 a5 : Nat → Int32} {z x l : Nat} {x4 : Int32} (hz : z < 24) (hxl : x ≤ l) (hl : l < 24) (ho : ∀ j, x ≤ j → j ≤ l → rr_b (a1 z) j = false) (hl0 : l < 23 → rr_b (a1 z) (l + 1) = true)
    (H : wX_addRun_102 post (nI z) x4 (nI l) pm wt a1 a2 a3 a4 a5) : ∃ n, wX_addRun_72 post (nI z) 0 x4 pm wt a1 a2 a3 a4 a5 n (nI x) := by
  refine pk_loop (σ := Unit) (fun n i _ => wX_addRun_72 post (nI z) 0 x4 pm wt a1 a2 a3 a4 a5 n (nI i)) (fun i _ => x ≤ i) l x () hxl (Nat.le_refl x) ?_ ?_
  · intro n _ _
    refine pk_le 23 l (fun _ => H) (fun c => ⟨pk_in z 24 hz, br_f ?_ H⟩)
    rw [nI_clamp (show z < 2 ^ 31 by omega), nI_1 l]
    exact rr_bit1 (by omega) (hl0 c)
  · intro n i _ hi hxi hw
    refine pk_le 23 i (fun c => absurd c (by omega)) (fun c => ⟨pk_in z 24 hz, br_t ?_ (nm_r (nI_1 i) (hw () (by omega)))⟩)
    rw [nI_clamp (show z < 2 ^ 31 by omega), nI_1 i]
    exact rr_bit0 (by omega) (ho (i + 1) (by omega) (by omega))
theorem rr_44 {post : St2 → Prop} {pm wt : Int32} {a1 a2 a3 a4 a5 : Nat → Int32} {z f : Nat} {x5 : Int32} (hz : z < 24) (hf0 : 0 < f → rr_b (a1 z) (f - 1) = true)
    (H : ∃ n, wX_addRun_72 post (nI z) 0 (nI f) pm wt a1 a2 a3 a4 a5 n x5) : ∀ d, f + d < 24 → (∀ j, f ≤ j → j ≤ f + d → rr_b (a1 z) j = false) → wX_addRun_44 post (nI z) 0 x5 pm wt a1 a2 a3 a4 a5 (d + 1) (nI (f + d)) := by
  intro d
  induction d with
  | zero =>
    intro hd ho
    rcases Nat.eq_zero_or_pos f with e | e
    · refine br_t ?_ H
      rw [e]
      exact nI_le (Nat.le_refl 0) (by decide)
    · refine br_f (nI_nle (by omega) (by omega)) ⟨pk_in z 24 hz, br_f ?_ H⟩
      rw [nI_clamp (show z < 2 ^ 31 by omega), show f + 0 = f - 1 + 1 by omega, nI_pred]
      exact rr_bit1 (by omega) (hf0 e)
  | succ d ih =>
    intro hd ho
    refine br_f (nI_nle (by omega) (by omega)) ⟨pk_in z 24 hz, br_t ?_ (nm_r (e' := nI (f + d)) (pk_m1 (f + d)) (ih (by omega) (fun j h1 h2 => ho j h1 (by omega))))⟩
    rw [nI_clamp (show z < 2 ^ 31 by omega), show f + (d + 1) = f + d + 1 by omega, nI_pred]
    exact rr_bit0 (by omega) (ho (f + d) (by omega) (by omega))
theorem rr_left (b : Nat → Bool) : ∀ x, b x = false → ∃ f d, x = f + d ∧ (∀ j, f ≤ j → j ≤ x → b j = false) ∧ (0 < f → b (f - 1) = true) := by
  intro x
  induction x with
  | zero => exact fun h => ⟨0, 0, rfl, fun j _ h2 => by rw [show j = 0 by omega]; exact h, fun z => absurd z (by omega)⟩
  | succ x ih =>
    intro h
    cases e : b x with
    | true => exact ⟨x + 1, 0, rfl, fun j h1 h2 => by rw [show j = x + 1 by omega]; exact h, fun _ => e⟩
    | false =>
      obtain ⟨f, d, k1, k2, k3⟩ := ih e
      refine ⟨f, d + 1, by omega, fun j h1 h2 => ?_, k3⟩
      by_cases c : j = x + 1
      · rw [c]
        exact h
      · exact k2 j h1 (by omega)
theorem rr_right (b : Nat → Bool) (x : Nat) (h : b x = false) : ∀ m, x ≤ m → ∃ l, x ≤ l ∧ l ≤ m ∧ (∀ j, x ≤ j → j ≤ l → b j = false) ∧ (l < m → b (l + 1) = true) := by
  intro m
  induction m with
  | zero => exact fun hm => ⟨0, by omega, by omega, fun j h1 h2 => by rw [show j = x by omega]; exact h, fun z => absurd z (by omega)⟩
  | succ m ih =>
    intro hm
    by_cases c : x = m + 1
    · exact ⟨m + 1, by omega, by omega, fun j h1 h2 => by rw [show j = x by omega]; exact h, fun z => absurd z (by omega)⟩
    · obtain ⟨l, k1, k2, k3, k4⟩ := ih (by omega)
      by_cases c2 : l < m
      · exact ⟨l, k1, by omega, k3, fun _ => k4 c2⟩
      · cases e : b (m + 1) with
        | true => exact ⟨l, k1, by omega, k3, fun _ => by rw [show l = m by omega]; exact e⟩
        | false =>
          refine ⟨m + 1, by omega, by omega, fun j h1 h2 => ?_, fun z => absurd z (by omega)⟩
          by_cases c3 : j = m + 1
          · rw [c3]
            exact e
          · exact k3 j h1 (by omega)
theorem rr_add {post : St2 → Prop} {pm : Int32} {a1 a2 a3 a4 a5 : Nat → Int32} {R : Nat → Nat → Bool} {P : Nat → Nat → Prop} {t w x : Nat} {zi : Int32} (hR : rr_C a1 R) (h : rr_I a1 R P t w a2 a3 a4 a5) (hx : x < 24)
    (hin : ∀ z, z < 24 → zi = nI z → rr_b (a1 z) x = false → R z x = true)
    (H : ∀ (w' : Nat) (b2 b3 b4 b5 : Nat → Int32), rr_I a1 R P t w' b2 b3 b4 b5 → (∀ z j, rr_b (a2 z) j = true → rr_b (b2 z) j = true) → (∀ z, z < 24 → zi = nI z → rr_b (a1 z) x = false → rr_b (b2 z) x = true) → post (pm, nI w', a1, b2, b3, b4, b5)) :
    wpX_addRun post (pm, nI w, a1, a2, a3, a4, a5) zi (nI x) 0 := by
  rcases pk_ix zi (show 24 < 2 ^ 31 by omega) with c | c | ⟨z, hz, e⟩
  · exact br_t c (H w a2 a3 a4 a5 h (fun _ _ g => g) (fun z hz e _ => absurd c (by rw [e]; exact nI_pos (by omega))))
  · have c0 : ¬ zi < 0 := by
      intro c2
      have g1 : zi.toInt < 0 := Int32.lt_iff_toInt_lt.mp c2
      have g2 := Int32.le_iff_toInt_le.mp c
      rw [nI_toInt (by omega)] at g2
      omega
    exact br_f c0 (br_t c (H w a2 a3 a4 a5 h (fun _ _ g => g) (fun z hz e _ => absurd c (by rw [e]; exact nI_ge hz (by omega)))))
  · subst e
    have inj : ∀ z', z' < 24 → nI z = nI z' → z' = z := fun z' h1 h2 => ((nI_eq (by omega) (by omega)).mp h2).symm
    refine br_f (nI_pos (by omega)) (pk_le 24 z (fun c => absurd c (by omega)) (fun _ => ⟨pk_in z 24 hz, ?_⟩))
    rw [nI_clamp (show z < 2 ^ 31 by omega)]
    cases e2 : rr_b (a2 z) x with
    | true =>
      refine br_f (rr_bit1 (by omega) e2) (H w a2 a3 a4 a5 h (fun _ _ g => g) (fun z' g1 g2 _ => ?_))
      rw [inj z' g1 g2]
      exact e2
    | false =>
      refine br_t (rr_bit0 (by omega) e2) ⟨pk_in z 24 hz, ?_⟩
      cases e1 : rr_b (a1 z) x with
      | true =>
        refine br_f (rr_bit1 (by omega) e1) (H w a2 a3 a4 a5 h (fun _ _ g => g) (fun z' g1 g2 g3 => ?_))
        rw [inj z' g1 g2, e1] at g3
        exact absurd g3 (by decide)
      | false =>
        refine br_t (rr_bit0 (by omega) e1) ?_
        obtain ⟨f, d, k1, k2, k3⟩ := rr_left (rr_b (a1 z)) x e1
        obtain ⟨l, m1, m2, m3, m4⟩ := rr_right (rr_b (a1 z)) x e1 23 (by omega)
        have ho : ∀ j, f ≤ j → j ≤ l → rr_b (a1 z) j = false := by
          intro j g1 g2
          rcases Nat.le_total j x with g | g
          · exact k2 j g1 g
          · exact m3 j g g2
        obtain ⟨hw, hI, hn⟩ := rr_push hR h hz (show f ≤ x by omega) m1 (show l < 24 by omega) ho k3 m4 e2 (hin z hz rfl e1)
        have hend : wX_addRun_102 post (nI z) (nI f) (nI l) pm (nI w) a1 a2 a3 a4 a5 := by
          refine rr_102 hz (by omega) (by omega) hw (H (w + 1) _ _ _ _ hI (fun z' j g => ?_) (fun z' g1 g2 _ => ?_))
          · by_cases e : z' = z
            · rw [e] at g ⊢
              rw [pk_us, rr_or, g, Bool.true_or]
            · rw [pk_un e]
              exact g
          · rw [inj z' g1 g2]
            exact hn x (by omega) m1
        have h44 := rr_44 (x5 := nI x) hz k3 (rr_72 hz m1 (by omega) m3 m4 hend) d (by omega) (fun j g1 g2 => k2 j g1 (by omega))
        rw [← k1] at h44
        exact ⟨d + 1, h44⟩
theorem rr_103 {post : Int32 → St2 → Prop} {J : Int32 → Int32 → Int32 → (Nat → Int32) → (Nat → Int32) → (Nat → Int32) → (Nat → Int32) → (Nat → Int32) → Prop} {x3 pm : Int32} {a1 a2 a3 a4 a5 : Nat → Int32} {R : Nat → Nat → Bool} {t w y f l : Nat} (hR : rr_C a1 R) (hy : y < 24) (hfl : f ≤ l) (hl : l < 24)
    (h : rr_I a1 R (fun z x => z = y ∧ f ≤ x ∧ x ≤ l) t w a2 a3 a4 a5) (hc : ∀ x, f ≤ x → x ≤ l → rr_b (a2 y) x = true)
    (H : ∀ (w' : Nat) (b2 b3 b4 b5 : Nat → Int32), rr_I a1 R (fun _ _ => False) t w' b2 b3 b4 b5 → (∀ z j, rr_b (a2 z) j = true → rr_b (b2 z) j = true) → J x3 pm (nI w') a1 b2 b3 b4 b5) :
    ∃ n, wX_flood_103 post J 0 x3 (nI y) (nI l) n (nI f) pm (nI w) a1 a2 a3 a4 a5 := by
  refine pk_loop (σ := Nat × (Nat → Int32) × (Nat → Int32) × (Nat → Int32) × (Nat → Int32)) (fun n i s => wX_flood_103 post J 0 x3 (nI y) (nI l) n (nI i) pm (nI s.1) a1 s.2.1 s.2.2.1 s.2.2.2.1 s.2.2.2.2)
    (fun i s => f ≤ i ∧ rr_I a1 R (fun z x => z = y ∧ i ≤ x ∧ x ≤ l) t s.1 s.2.1 s.2.2.1 s.2.2.2.1 s.2.2.2.2 ∧ ∀ z j, rr_b (a2 z) j = true → rr_b (s.2.1 z) j = true) (l + 1) f (w, a2, a3, a4, a5) (by omega) ⟨Nat.le_refl f, h, fun _ _ g => g⟩ ?_ ?_
  · intro n s hs
    obtain ⟨w', b2, b3, b4, b5⟩ := s
    obtain ⟨_, hI, hm⟩ := hs
    exact pk_lt l (l + 1) (fun _ => H w' b2 b3 b4 b5 (rr_I_weak hI (fun z x _ c => absurd c.2 (by omega))) hm) (fun z => absurd z (by omega))
  · intro n i s hi hs hw
    obtain ⟨w1, b2, b3, b4, b5⟩ := s
    obtain ⟨hfi, hI, hm⟩ := hs
    have hcell : R y i = true := hI.1 y i hy (hm y i (hc i hfi (by omega)))
    have hop := (hR.1 y i hcell).2.2
    refine pk_lt l i (fun z => absurd z (by omega)) (fun _ => ?_)
    refine rr_add hR hI (by omega) (fun z hz e g => ?_) (fun w2 c2 c3 c4 c5 hI2 hm2 hn2 => ?_)
    · have e2 : y = z + 1 := by
        apply (nI_eq (by omega) (by omega)).mp
        rw [nI_succ, ← e, Int32.sub_add_cancel]
      rw [e2] at hcell hop
      rw [hR.2.2 z i (by omega) (by omega) g hop]
      exact hcell
    · refine rr_add hR hI2 (by omega) (fun z hz e g => ?_) (fun w3 d2 d3 d4 d5 hI3 hm3 hn3 => ?_)
      · have e2 : y + 1 = z := by
          apply (nI_eq (by omega) (by omega)).mp
          rw [nI_succ]
          exact e
        rw [← e2] at g ⊢
        rw [← hR.2.2 y i (by omega) (by omega) hop g]
        exact hcell
      · refine nm_r (nI_1 i) (hw (w3, d2, d3, d4, d5) ⟨by omega, rr_I_weak hI3 (fun z x hz c => ?_), fun z j g => hm3 z j (hm2 z j (hm z j g))⟩)
        by_cases e : x = i
        · refine Or.inr ⟨fun z' e' g => ?_, fun e' g => ?_⟩
          · rw [e] at g ⊢
            apply hm3
            refine hn2 z' (by omega) ?_ g
            rw [← c.1, ← e', nI_pred]
          · rw [e] at g ⊢
            refine hn3 (z + 1) e' ?_ g
            rw [← c.1, nI_1]
        · exact Or.inl ⟨c.1, by omega, c.2.2⟩
theorem rr_144 {post : Int32 → St2 → Prop} {x3 pm wt : Int32} {a1 a2 a3 a4 a5 : Nat → Int32} (H : ∀ s : Nat → Int32, (∀ j, j < 24 → s j = a1 j ^^^ a2 j) → post x3 (pm, wt, s, a2, a3, a4, a5)) : ∃ n, wX_flood_144 post x3 pm wt n 0 a1 a2 a3 a4 a5 := by
  refine pk_loop (fun n i s => wX_flood_144 post x3 pm wt n (nI i) s a2 a3 a4 a5) (fun i s => (∀ j, j < i → s j = a1 j ^^^ a2 j) ∧ ∀ j, i ≤ j → s j = a1 j) 24 0 a1 (by omega) ⟨fun j hj => absurd hj (by omega), fun j _ => rfl⟩ ?_ ?_
  · intro n s h
    exact pk_le 24 24 (fun _ => H s h.1) (fun z => absurd z (by omega))
  · intro n i s hi h hw
    refine pk_le 24 i (fun z => absurd z (by omega)) (fun _ => ⟨pk_in i 24 hi, pk_in i 24 hi, pk_in i 24 hi, nm_e (nm_r (nI_1 i) (hw _ ⟨rr_fill (f := fun j => a1 j ^^^ a2 j) (nI_clamp (by omega)) h.1 ?_, fun j hj => ?_⟩))⟩)
    · rw [nI_clamp (show i < 2 ^ 31 by omega), h.2 i (Nat.le_refl i)]
    · rw [nI_clamp (show i < 2 ^ 31 by omega), pk_un (show j ≠ i by omega)]
      exact h.2 j (by omega)
theorem rr_39 {post : Int32 → St2 → Prop} {pm : Int32} {a1 a2 a3 a4 a5 : Nat → Int32} {R : Nat → Nat → Bool} {w y0 x0 : Nat} (hR : rr_C a1 R) (hy0 : y0 < 24) (hm : rr_min a1 R y0 x0) (h : rr_I a1 R (fun _ _ => False) 0 w a2 a3 a4 a5) (h0 : rr_b (a2 y0) x0 = true)
    (H : ∀ (s b2 b3 b4 b5 : Nat → Int32), (∀ z x, z < 24 → rr_b (s z) x = (rr_b (a1 z) x ^^ R z x)) → post (nI (rr_N R)) (pm, 0, s, b2, b3, b4, b5)) :
    ∃ n, wX_flood_39 post 0 n 0 pm (nI w) a1 a2 a3 a4 a5 := by
  refine loop_m (σ := Nat × Nat × (Nat → Int32) × (Nat → Int32) × (Nat → Int32) × (Nat → Int32)) (fun n s => wX_flood_39 post 0 n (nI s.1) pm (nI s.2.1) a1 s.2.2.1 s.2.2.2.1 s.2.2.2.2.1 s.2.2.2.2.2)
    (fun s => rr_I a1 R (fun _ _ => False) s.1 s.2.1 s.2.2.1 s.2.2.2.1 s.2.2.2.2.1 s.2.2.2.2.2 ∧ rr_b (s.2.2.1 y0) x0 = true) (fun s => 576 - s.1) ?_ (0, w, a2, a3, a4, a5) ⟨h, h0⟩
  intro n s hs hk
  obtain ⟨t, w1, b2, b3, b4, b5⟩ := s
  obtain ⟨hI, hb0⟩ := hs
  cases w1 with
  | zero =>
    obtain ⟨hbit, et⟩ := rr_finish hR hy0 hm hI hb0
    refine br_t (nI_le (Nat.le_refl 0) (by decide)) (rr_144 (fun s hs => ?_))
    show post (nI t) _
    rw [show t = rr_N R from et]
    exact H s b2 b3 b4 b5 (fun z x hz => by rw [hs z hz, rr_xor, hbit z x hz])
  | succ w1 =>
    obtain ⟨hw, z, f, l, k1, k2, k3, k4, k5, k6, k7, k8, hI2⟩ := rr_pop hI
    have ew : (nI w1).toNatClampNeg = w1 := nI_clamp (by omega)
    refine br_f (nI_nle (n := w1 + 1) (by omega) (by omega)) (nm_r (nI_pred w1) ⟨pk_in w1 288 hw, nm_r (e' := nI z) (by rw [ew]; exact k4) ⟨pk_in w1 288 hw, nm_r (e' := nI f) (by rw [ew]; exact k5) ⟨pk_in w1 288 hw, nm_r (e' := nI l) (by rw [ew]; exact k6) (nm_r (e' := nI (t + (l - f + 1))) ?_ ?_)⟩⟩⟩)
    · rw [pk_sub k2, nI_1, nI_add]
    · refine rr_103 hR k1 k2 k3 hI2 k7 (fun w2 c2 c3 c4 c5 hI3 hm3 => ?_)
      refine hk (t + (l - f + 1), w2, c2, c3, c4, c5) ⟨hI3, hm3 y0 x0 hb0⟩ ?_
      show 576 - (t + (l - f + 1)) < 576 - t
      omega
theorem rr_flood {post : Int32 → St2 → Prop} {pm wt : Int32} {a1 a2 a3 a4 a5 : Nat → Int32} {R : Nat → Nat → Bool} {y0 x0 : Nat} (hy0 : y0 < 24) (hx0 : x0 < 24) (hR : rr_C a1 R) (hs : R y0 x0 = true) (hm : rr_min a1 R y0 x0)
    (H : ∀ (s b2 b3 b4 b5 : Nat → Int32), (∀ z x, z < 24 → rr_b (s z) x = (rr_b (a1 z) x ^^ R z x)) → post (nI (rr_N R)) (pm, 0, s, b2, b3, b4, b5)) :
    wpX_flood post (pm, wt, a1, a2, a3, a4, a5) (nI (32 * y0 + x0)) := by
  have hop := (hR.1 y0 x0 hs).2.2
  unfold wpX_flood
  dsimp only
  rw [rr_p31 (y := y0) (x := x0) (by omega) (by omega), rr_p5 (y := y0) (x := x0) (by omega) (by omega)]
  refine rr_isPixel hy0 hx0 (br_f (by decide) (rr_get hy0 hx0 hop (rr_clear (fun s hs2 => ?_))))
  refine rr_add (w := 0) hR (rr_start hs2) hx0 (fun z hz e g => ?_) (fun w b2 b3 b4 b5 hI _ hn => ?_)
  · rw [← (nI_eq (by omega) (by omega)).mp e]
    exact hs
  · exact rr_39 hR hy0 hm hI (hn y0 hy0 rfl hop) H
end
section
/-! a set that is closed along open rows and columns holds every open block of whole rows that it meets -/
theorem rr_block {a1 : Nat → Int32} {F : Nat → Nat → Prop} {za zb : Nat} (hzb : zb ≤ 24) (ho : ∀ z x, za ≤ z → z < zb → x < 24 → rr_b (a1 z) x = false)
    (hh : ∀ z x, z < 24 → x + 1 < 24 → rr_b (a1 z) x = false → rr_b (a1 z) (x + 1) = false → (F z x ↔ F z (x + 1)))
    (hv : ∀ z x, z + 1 < 24 → x < 24 → rr_b (a1 z) x = false → rr_b (a1 (z + 1)) x = false → (F z x ↔ F (z + 1) x))
    {z x z' x' : Nat} (h1 : za ≤ z) (h2 : z < zb) (h3 : x < 24) (h4 : za ≤ z') (h5 : z' < zb) (h6 : x' < 24) (h : F z x) : F z' x' := by
  have row : ∀ k i j, za ≤ k → k < zb → i < 24 → j < 24 → F k i → F k j := by
    intro k i j k1 k2 k3 k4 g
    exact rr_sp (F := fun i => F k i) (lo := 0) (h := 24) (fun m _ m2 => hh k m (by omega) m2 (ho k m k1 k2 (by omega)) (ho k (m + 1) k1 k2 m2)) (Nat.zero_le _) k3 (Nat.zero_le _) k4 g
  have e1 : F z 0 := row z x 0 h1 h2 h3 (by omega) h
  have e2 : F z' 0 := rr_sp (F := fun k => F k 0) (lo := za) (h := zb) (fun m m1 m2 => hv m 0 (by omega) (by omega) (ho m 0 m1 (by omega) (by omega)) (ho (m + 1) 0 (by omega) m2 (by omega))) h1 h2 h4 h5 e1
  exact row z' 0 x' h4 h5 (by omega) h6 e2
theorem rr_dt {p : Prop} [Decidable p] (h : decide p = true) : p := of_decide_eq_true h
/-- flood 1, the run shorter than the row: all open cells -/
theorem rr_A1 {a1 : Nat → Int32} {y lo h x0 : Nat} (hy : y < 23) (hlh : lo < h) (hh : h ≤ 24) (hn : h - lo < 24) (hx0 : x0 < 24)
    (ha : ∀ z x, z < 24 → rr_b (a1 z) x = decide (z = y ∧ lo ≤ x ∧ x < h)) :
    rr_C a1 (fun z x => decide (z < 24 ∧ x < 24 ∧ ¬ (z = y ∧ lo ≤ x ∧ x < h))) ∧ rr_min a1 (fun z x => decide (z < 24 ∧ x < 24 ∧ ¬ (z = y ∧ lo ≤ x ∧ x < h))) (y + 1) x0 := by
  have ho : ∀ z x, z < 24 → (rr_b (a1 z) x = false ↔ ¬ (z = y ∧ lo ≤ x ∧ x < h)) := by
    intro z x hz
    rw [ha z x hz, decide_eq_false_iff_not]
  refine ⟨⟨?_, ?_, ?_⟩, ?_⟩
  · intro z x g
    have g2 := rr_dt g
    exact ⟨g2.1, g2.2.1, (ho z x g2.1).mpr g2.2.2⟩
  · intro z x hz hx g1 g2
    have g3 := (ho z x hz).mp g1
    have g4 := (ho z (x + 1) hz).mp g2
    show decide _ = decide _
    rw [decide_eq_decide]
    exact ⟨fun _ => ⟨hz, hx, g4⟩, fun _ => ⟨hz, by omega, g3⟩⟩
  · intro z x hz hx g1 g2
    have g3 := (ho z x (by omega)).mp g1
    have g4 := (ho (z + 1) x hz).mp g2
    show decide _ = decide _
    rw [decide_eq_decide]
    exact ⟨fun _ => ⟨hz, hx, g4⟩, fun _ => ⟨by omega, hx, g3⟩⟩
  · intro F h0 fh fv z x g
    have g2 := rr_dt g
    have low : ∀ z x, y + 1 ≤ z → z < 24 → x < 24 → F z x := by
      intro z x c1 c2 c3
      exact rr_block (a1 := a1) (F := F) (za := y + 1) (zb := 24) (by omega) (fun k i d1 d2 d3 => (ho k i d2).mpr (by omega)) fh fv (Nat.le_refl _) (by omega) hx0 c1 c2 c3 h0
    have mid : ∀ x, x < 24 → ¬ (lo ≤ x ∧ x < h) → F y x := by
      intro x c1 c2
      exact (fv y x (by omega) c1 ((ho y x (by omega)).mpr (by omega)) ((ho (y + 1) x (by omega)).mpr (by omega))).mpr (low (y + 1) x (by omega) (by omega) c1)
    rcases Nat.lt_or_ge y z with c | c
    · exact low z x (by omega) g2.1 g2.2.1
    · by_cases c2 : z = y
      · rw [c2]
        exact mid x g2.2.1 (by omega)
      · have hex : ∃ x1, x1 < 24 ∧ ¬ (lo ≤ x1 ∧ x1 < h) := by
          by_cases c3 : 0 < lo
          · exact ⟨0, by omega, by omega⟩
          · exact ⟨23, by omega, by omega⟩
        obtain ⟨x1, d1, d2⟩ := hex
        have e := mid x1 d1 d2
        obtain ⟨y', e'⟩ : ∃ y', y = y' + 1 := ⟨y - 1, by omega⟩
        have e2 : F y' x1 := by
          have e3 := fv y' x1 (by omega) d1 ((ho y' x1 (by omega)).mpr (by omega)) (by rw [← e']; exact (ho y x1 (by omega)).mpr (by omega))
          rw [← e'] at e3
          exact e3.mpr e
        exact rr_block (a1 := a1) (F := F) (za := 0) (zb := y) (by omega) (fun k i d1 d2 d3 => (ho k i (by omega)).mpr (by omega)) fh fv (Nat.zero_le _) (by omega) d1 (Nat.zero_le _) (by omega) g2.2.1 e2
/-- a block of whole open rows za .. zb - 1 between closed rows -/
theorem rr_A2 {a1 : Nat → Int32} {za zb y0 x0 : Nat} (hzb : zb ≤ 24) (h1 : za ≤ y0) (h2 : y0 < zb) (hx0 : x0 < 24)
    (ho : ∀ z x, za ≤ z → z < zb → x < 24 → rr_b (a1 z) x = false) (hu : ∀ z x, z + 1 = za → x < 24 → rr_b (a1 z) x = true) (hd : ∀ x, zb < 24 → x < 24 → rr_b (a1 zb) x = true) :
    rr_C a1 (fun z x => decide (za ≤ z ∧ z < zb ∧ x < 24)) ∧ rr_min a1 (fun z x => decide (za ≤ z ∧ z < zb ∧ x < 24)) y0 x0 := by
  refine ⟨⟨?_, ?_, ?_⟩, ?_⟩
  · intro z x g
    have g2 := rr_dt g
    exact ⟨by omega, g2.2.2, ho z x g2.1 g2.2.1 g2.2.2⟩
  · intro z x hz hx g1 g2
    show decide _ = decide _
    rw [decide_eq_decide]
    omega
  · intro z x hz hx g1 g2
    show decide _ = decide _
    rw [decide_eq_decide]
    have c1 : ¬ z + 1 = za := by
      intro c
      rw [hu z x c hx] at g1
      exact absurd g1 (by decide)
    have c2 : ¬ z + 1 = zb := by
      intro c
      rw [c, hd x (by omega) hx] at g2
      exact absurd g2 (by decide)
    omega
  · intro F h0 fh fv z x g
    have g2 := rr_dt g
    exact rr_block (a1 := a1) (F := F) hzb ho fh fv h1 h2 hx0 g2.1 g2.2.1 g2.2.2 h0
/-- one open run of the row y, all else closed -/
theorem rr_B1 {a1 : Nat → Int32} {y lo h x0 : Nat} (hy : y < 24) (hh : h ≤ 24) (h1 : lo ≤ x0) (h2 : x0 < h)
    (ho : ∀ z x, z < 24 → x < 24 → rr_b (a1 z) x = !decide (z = y ∧ lo ≤ x ∧ x < h)) :
    rr_C a1 (fun z x => decide (z = y ∧ lo ≤ x ∧ x < h)) ∧ rr_min a1 (fun z x => decide (z = y ∧ lo ≤ x ∧ x < h)) y x0 := by
  have hop : ∀ z x, z < 24 → x < 24 → (rr_b (a1 z) x = false ↔ (z = y ∧ lo ≤ x ∧ x < h)) := by
    intro z x hz hx
    rw [ho z x hz hx]
    by_cases c : z = y ∧ lo ≤ x ∧ x < h
    · rw [decide_eq_true c]
      exact ⟨fun _ => c, fun _ => rfl⟩
    · rw [decide_eq_false c]
      exact ⟨fun g => absurd g (by decide), fun g => absurd g c⟩
  refine ⟨⟨?_, ?_, ?_⟩, ?_⟩
  · intro z x g
    have g2 := rr_dt g
    exact ⟨by omega, by omega, (hop z x (by omega) (by omega)).mpr g2⟩
  · intro z x hz hx g1 g2
    have g3 := (hop z x hz (by omega)).mp g1
    have g4 := (hop z (x + 1) hz hx).mp g2
    show decide _ = decide _
    rw [decide_eq_decide]
    exact ⟨fun _ => g4, fun _ => g3⟩
  · intro z x hz hx g1 g2
    have g3 := (hop z x (by omega) hx).mp g1
    have g4 := (hop (z + 1) x hz hx).mp g2
    omega
  · intro F h0 fh fv z x g
    have g2 := rr_dt g
    rw [g2.1]
    exact rr_sp (F := fun x => F y x) (lo := lo) (h := h) (fun m m1 m2 => fh y m hy (by omega) ((hop y m hy (by omega)).mpr ⟨rfl, m1, by omega⟩) ((hop y (m + 1) hy (by omega)).mpr ⟨rfl, by omega, m2⟩)) h1 h2 g2.2.1 g2.2.2 h0
/-! how many cells -/
theorem rr_S_const (k n : Nat) : rr_S (fun _ => k) n = n * k := by
  induction n with
  | zero => show 0 = _; rw [Nat.zero_mul]
  | succ n ih =>
    show rr_S (fun _ => k) n + k = _
    rw [ih, Nat.succ_mul]
theorem rr_e1 : ∀ y, y < 24 → ∀ k, k < 25 → rr_S (fun z => if z = y then k else 24) 24 = 552 + k := by decide +kernel
theorem rr_e2 : ∀ zb, zb < 25 → ∀ za, za < zb + 1 → rr_S (fun z => if za ≤ z ∧ z < zb then 24 else 0) 24 = 24 * (zb - za) := by decide +kernel
theorem rr_nA1 {y lo h : Nat} (hy : y < 24) (hlh : lo ≤ h) (hh : h ≤ 24) : rr_N (fun z x => decide (z < 24 ∧ x < 24 ∧ ¬ (z = y ∧ lo ≤ x ∧ x < h))) = 576 - (h - lo) := by
  have e : rr_N (fun z x => decide (z < 24 ∧ x < 24 ∧ ¬ (z = y ∧ lo ≤ x ∧ x < h))) = rr_S (fun z => if z = y then 24 - (h - lo) else 24) 24 := by
    apply rr_S_congr
    intro z hz
    show rr_S (fun x => (decide (z < 24 ∧ x < 24 ∧ ¬ (z = y ∧ lo ≤ x ∧ x < h))).toNat) 24 = if z = y then 24 - (h - lo) else 24
    by_cases c : z = y
    · rw [if_pos c]
      have g1 : rr_S (fun x => (decide (z < 24 ∧ x < 24 ∧ ¬ (z = y ∧ lo ≤ x ∧ x < h))).toNat + (decide (lo ≤ x ∧ x < h)).toNat) 24 = rr_S (fun _ => 1) 24 := by
        apply rr_S_congr
        intro x hx
        by_cases d : lo ≤ x ∧ x < h
        · rw [decide_eq_true d, decide_eq_false (by omega)]
          rfl
        · rw [decide_eq_false d, decide_eq_true (by omega)]
          rfl
      rw [rr_S_add, rr_S_seg hlh, rr_S_const] at g1
      omega
    · rw [if_neg c]
      have g1 : rr_S (fun x => (decide (z < 24 ∧ x < 24 ∧ ¬ (z = y ∧ lo ≤ x ∧ x < h))).toNat) 24 = rr_S (fun _ => 1) 24 := by
        apply rr_S_congr
        intro x hx
        rw [decide_eq_true (by omega)]
        rfl
      rw [g1, rr_S_const]
  rw [e, rr_e1 y hy _ (by omega)]
  omega
theorem rr_nA2 {za zb : Nat} (h1 : za ≤ zb) (h2 : zb ≤ 24) : rr_N (fun z x => decide (za ≤ z ∧ z < zb ∧ x < 24)) = 24 * (zb - za) := by
  rw [← rr_e2 zb (by omega) za (by omega)]
  apply rr_S_congr
  intro z hz
  show rr_S (fun x => (decide (za ≤ z ∧ z < zb ∧ x < 24)).toNat) 24 = if za ≤ z ∧ z < zb then 24 else 0
  by_cases c : za ≤ z ∧ z < zb
  · rw [if_pos c]
    have g1 : rr_S (fun x => (decide (za ≤ z ∧ z < zb ∧ x < 24)).toNat) 24 = rr_S (fun _ => 1) 24 := by
      apply rr_S_congr
      intro x hx
      rw [decide_eq_true ⟨c.1, c.2, hx⟩]
      rfl
    rw [g1, rr_S_const]
  · rw [if_neg c]
    have g1 : rr_S (fun x => (decide (za ≤ z ∧ z < zb ∧ x < 24)).toNat) 24 = rr_S (fun _ => 0) 24 := by
      apply rr_S_congr
      intro x hx
      rw [decide_eq_false (by omega)]
      rfl
    rw [g1, rr_S_const]
theorem rr_nB1 {y lo h : Nat} (hy : y < 24) (hlh : lo ≤ h) (hh : h ≤ 24) : rr_N (fun z x => decide (z = y ∧ lo ≤ x ∧ x < h)) = h - lo := by
  have e : rr_N (fun z x => decide (z = y ∧ lo ≤ x ∧ x < h)) = rr_S (fun z => if z = y then h - lo else 0) 24 := by
    apply rr_S_congr
    intro z hz
    show rr_S (fun x => (decide (z = y ∧ lo ≤ x ∧ x < h)).toNat) 24 = if z = y then h - lo else 0
    by_cases c : z = y
    · rw [if_pos c]
      have g1 : rr_S (fun x => (decide (z = y ∧ lo ≤ x ∧ x < h)).toNat) 24 = rr_S (fun x => (decide (lo ≤ x ∧ x < h)).toNat) 24 := by
        apply rr_S_congr
        intro x hx
        have g2 : decide (z = y ∧ lo ≤ x ∧ x < h) = decide (lo ≤ x ∧ x < h) := by
          rw [decide_eq_decide]
          omega
        rw [g2]
      rw [g1, rr_S_seg hlh]
      omega
    · rw [if_neg c]
      have g1 : rr_S (fun x => (decide (z = y ∧ lo ≤ x ∧ x < h)).toNat) 24 = rr_S (fun _ => 0) 24 := by
        apply rr_S_congr
        intro x hx
        rw [decide_eq_false (by omega)]
        rfl
      rw [g1, rr_S_const]
  rw [e, rr_S_at, if_pos hy]
end
section
theorem rr_0x (w : Int32) : (0 : Int32) ^^^ w = w := by
  apply rr_ext
  intro i hi
  rw [rr_xor, rr_0, Bool.false_xor]
theorem rr_bif {y lo h : Nat} (hlh : lo ≤ h) (hh : h ≤ 24) (z x : Nat) : rr_b (if z = y then rr_g lo h else 0) x = decide (z = y ∧ lo ≤ x ∧ x < h) := by
  by_cases c : z = y
  · rw [if_pos c, rr_gb hlh hh, decide_eq_decide]
    omega
  · rw [if_neg c, rr_0, decide_eq_false (by omega)]
theorem rr_dx (p q r : Prop) [Decidable p] [Decidable q] [Decidable r] (h1 : p → q → ¬ r) (h2 : p → ¬ q → r) (h3 : ¬ p → q → r) (h4 : ¬ p → ¬ q → ¬ r) : (decide p ^^ decide q) = decide r := by
  by_cases c : p
  · by_cases d : q
    · rw [decide_eq_true c, decide_eq_true d, decide_eq_false (h1 c d)]
      rfl
    · rw [decide_eq_true c, decide_eq_false d, decide_eq_true (h2 c d)]
      rfl
  · by_cases d : q
    · rw [decide_eq_false c, decide_eq_true d, decide_eq_true (h3 c d)]
      rfl
    · rw [decide_eq_false c, decide_eq_false d, decide_eq_false (h4 c d)]
      rfl
/-- what the law needs of the two floods -/
theorem rr_pure {y lo h p x0 : Nat} (hy : y < 23) (hlh : lo < h) (hh : h ≤ 24) (hp1 : lo ≤ p) (hp2 : p < h) (hx0 : x0 < 24) :
    ∃ (R1 R2 : Nat → Nat → Bool) (k : Nat → Nat),
      (∀ a1 : Nat → Int32, (∀ z, z < 24 → a1 z = if z = y then rr_g lo h else 0) → rr_C a1 R1 ∧ rr_min a1 R1 (y + 1) x0) ∧
      R1 (y + 1) x0 = true ∧
      rr_N R1 = (if h - lo = 24 then 24 * (23 - y) else 576 - (h - lo)) ∧
      (∀ z, k z ≤ 24) ∧ k y = 24 ∧
      (∀ z x, z < 24 → (rr_b (if z = y then rr_g lo h else 0) x ^^ R1 z x) = decide (x < k z)) ∧
      rr_S k 24 = (if h - lo = 24 then 24 * (23 - y) else 576 - (h - lo)) + (h - lo) ∧
      (∀ a1 : Nat → Int32, (∀ z, z < 24 → a1 z = rr_g 0 (k z) ^^^ (if z = y then rr_g lo h else 0)) → rr_C a1 R2 ∧ rr_min a1 R2 y p) ∧
      R2 y p = true ∧
      rr_N R2 = (if h - lo = 24 then 24 * (y + 1) else h - lo) := by
  have hl2 : lo ≤ h := by omega
  by_cases hn : h - lo = 24
  · have e1 : lo = 0 := by omega
    have e2 : h = 24 := by omega
    have hk : ∀ z, (if y ≤ z ∧ z < 24 then 24 else 0) ≤ 24 := by
      intro z
      by_cases c : y ≤ z ∧ z < 24
      · rw [if_pos c]
        omega
      · rw [if_neg c]
        omega
    refine ⟨fun z x => decide (y + 1 ≤ z ∧ z < 24 ∧ x < 24), fun z x => decide (0 ≤ z ∧ z < y + 1 ∧ x < 24), fun z => if y ≤ z ∧ z < 24 then 24 else 0, ?_, ?_, ?_, hk, ?_, ?_, ?_, ?_, ?_, ?_⟩
    · intro a1 ha
      have hb : ∀ z x, z < 24 → rr_b (a1 z) x = decide (z = y ∧ lo ≤ x ∧ x < h) := fun z x hz => by rw [ha z hz, rr_bif hl2 hh]
      refine rr_A2 (by omega) (Nat.le_refl _) (by omega) hx0 (fun z x c1 c2 c3 => ?_) (fun z x c1 c2 => ?_) (fun x c1 c2 => absurd c1 (by omega))
      · rw [hb z x c2, decide_eq_false (by omega)]
      · rw [hb z x (by omega), decide_eq_true (by omega)]
    · exact decide_eq_true (by omega)
    · rw [rr_nA2 (by omega) (by omega), if_pos hn]
      omega
    · exact if_pos (by omega)
    · intro z x hz
      rw [rr_bif hl2 hh]
      show (decide (z = y ∧ lo ≤ x ∧ x < h) ^^ decide (y + 1 ≤ z ∧ z < 24 ∧ x < 24)) = decide (x < if y ≤ z ∧ z < 24 then 24 else 0)
      by_cases c : y ≤ z ∧ z < 24
      · rw [if_pos c]
        exact rr_dx _ _ _ (by omega) (by omega) (by omega) (by omega)
      · rw [if_neg c]
        exact rr_dx _ _ _ (by omega) (by omega) (by omega) (by omega)
    · rw [rr_e2 24 (by omega) y (by omega), if_pos hn]
      omega
    · intro a1 ha
      have hb : ∀ z x, z < 24 → rr_b (a1 z) x = (decide (0 ≤ x ∧ x < (if y ≤ z ∧ z < 24 then 24 else 0)) ^^ decide (z = y ∧ lo ≤ x ∧ x < h)) := fun z x hz => by rw [ha z hz, rr_xor, rr_bif hl2 hh, rr_gb (Nat.zero_le _) (hk z)]
      refine rr_A2 (by omega) (Nat.zero_le _) (by omega) (by omega) (fun z x c1 c2 c3 => ?_) (fun z x c1 c2 => absurd c1 (by omega)) (fun x c1 c2 => ?_)
      · rw [hb z x (by omega)]
        by_cases c : y ≤ z ∧ z < 24
        · rw [if_pos c, decide_eq_true (by omega), decide_eq_true (by omega)]
          rfl
        · rw [if_neg c, decide_eq_false (by omega), decide_eq_false (by omega)]
          rfl
      · rw [hb (y + 1) x c1, if_pos (by omega), decide_eq_true (by omega), decide_eq_false (by omega)]
        rfl
    · exact decide_eq_true (by omega)
    · rw [rr_nA2 (by omega) (by omega), if_pos hn]
      omega
  · refine ⟨fun z x => decide (z < 24 ∧ x < 24 ∧ ¬ (z = y ∧ lo ≤ x ∧ x < h)), fun z x => decide (z = y ∧ lo ≤ x ∧ x < h), fun _ => 24, ?_, ?_, ?_, fun _ => Nat.le_refl _, rfl, ?_, ?_, ?_, ?_, ?_⟩
    · intro a1 ha
      exact rr_A1 hy hlh hh (by omega) hx0 (fun z x hz => by rw [ha z hz, rr_bif hl2 hh])
    · exact decide_eq_true (by omega)
    · rw [rr_nA1 (by omega) hl2 hh, if_neg hn]
    · intro z x hz
      rw [rr_bif hl2 hh]
      show (decide (z = y ∧ lo ≤ x ∧ x < h) ^^ decide (z < 24 ∧ x < 24 ∧ ¬ (z = y ∧ lo ≤ x ∧ x < h))) = decide (x < 24)
      exact rr_dx _ _ _ (by omega) (by omega) (by omega) (by omega)
    · rw [rr_S_const, if_neg hn]
      omega
    · intro a1 ha
      refine rr_B1 (by omega) hh hp1 hp2 (fun z x hz hx => ?_)
      rw [ha z hz, rr_xor, rr_bif hl2 hh, rr_gb (Nat.zero_le _) (Nat.le_refl _), decide_eq_true (show 0 ≤ x ∧ x < 24 by omega), Bool.true_xor]
    · exact decide_eq_true ⟨rfl, hp1, hp2⟩
    · rw [rr_nB1 (by omega) hl2 hh, if_neg hn]
theorem rr_px (y p : Nat) : (32 : Int32) * nI y + nI p = nI (32 * y + p) := by
  rw [show (32 : Int32) = nI 32 from rfl, pk_mul, nI_add]
theorem rr_268 {post : Int32 → St0 → Prop} {mc ms kc ks p y n : Nat} {z0 z1 pm wt : Int32} {a1 a2 a3 a4 a5 : Nat → Int32} {R : Nat → Nat → Bool} (hz : z1 = z0) (hy : y < 24) (hp : p < 24) (hR : rr_C a1 R) (hs : R y p = true) (hm : rr_min a1 R y p) (hn : n < 100)
    (hN : rr_N R = (if n = 24 then 24 * (y + 1) else n)) (H : post 1 ()) : wL_lawOf_268 post mc ms (nI p) (nI y) (nI n) z0 z1 kc ks pm wt a1 a2 a3 a4 a5 := by
  unfold wL_lawOf_268
  rw [rr_px]
  refine br_t hz (rr_flood hy hp hR hs hm (fun s b2 b3 b4 b5 _ => ?_))
  refine pk_eq n 24 (fun c => br_t ?_ H) (fun c => br_t ?_ H)
  · rw [hN, if_pos c]
    show nI (24 * (y + 1)) = nI 24 * (nI y + 1)
    rw [nI_1, pk_mul]
  · rw [hN, if_neg c]
theorem rr_116 {post : Int32 → St0 → Prop} {p q y lo hi x0 : Nat} {z0 : Int32} (hy : y < 23) (hp : p < 24) (hq : q < 24) (hx0 : x0 < 24) (hlh : (q < p ∧ lo = q ∧ hi = p) ∨ (p ≤ q ∧ lo = p ∧ hi = q))
    (hz : z0 = nI (if hi + 1 - lo = 24 then 24 * (23 - y) else 576 - (hi + 1 - lo))) (H : post 1 ()) :
    wL_lawOf_116 post 6 919 (nI p) (nI q) (nI y) (nI (hi + 1 - lo)) (rr_g lo (hi + 1)) (nI x0) z0 0 0 := by
  obtain ⟨R1, R2, k, hC1, hS1, hN1, hk, hky, hT, hSk, hC2, hS2, hN2⟩ := rr_pure (y := y) (lo := lo) (h := hi + 1) (p := p) (x0 := x0) hy (by omega) (by omega) (by omega) (by omega) hx0
  have hl2 : lo ≤ hi + 1 := by omega
  have hh2 : hi + 1 ≤ 24 := by omega
  unfold wL_lawOf_116
  rw [rr_px y p, rr_px y q, nI_1 y, rr_px (y + 1) x0]
  refine ⟨by omega, by omega, 5, 912, by omega, by omega, ?_⟩
  refine ⟨by omega, by omega, by omega, by omega, by omega, by omega, by omega, by omega, by omega, by omega, ?_⟩
  refine rr_line (lo := lo) (hi := hi) (by omega) hp hq hlh (Or.inl ⟨rfl, fun j _ => rfl⟩) (fun s t hs => ?_)
  have hs' : ∀ z, z < 24 → s z = if z = y then rr_g lo (hi + 1) else 0 := by
    intro z hz
    rw [hs z hz]
    exact rr_0x _
  obtain ⟨c1, m1⟩ := hC1 s hs'
  refine br_t rfl (rr_row (by omega) (br_t (by rw [hs' y (by omega), if_pos rfl]) ?_))
  refine rr_flood (R := R1) (by omega) hx0 c1 hS1 m1 (fun s2 b2 b3 b4 b5 hs2 => ?_)
  have hs3 : ∀ z, z < 24 → s2 z = rr_g 0 (k z) := by
    intro z hz
    apply rr_ext
    intro i hi32
    rw [hs2 z i hz, hs' z hz, hT z i hz, rr_gb (Nat.zero_le _) (hk z), decide_eq_decide]
    omega
  refine br_t (by rw [hN1, hz]) (rr_count (c := k) (fun j hj => ⟨0, k j, Nat.zero_le _, hk j, hs3 j hj, rfl⟩) (br_t (by rw [hSk, hz, nI_add]) (rr_pen (br_f (by decide) ?_))))
  refine rr_line (lo := lo) (hi := hi) (by omega) hq hp (by omega) (Or.inr rfl) (fun s4 t4 hs4 => ?_)
  have hs5 : ∀ z, z < 24 → s4 z = rr_g 0 (k z) ^^^ (if z = y then rr_g lo (hi + 1) else 0) := by
    intro z hz
    rw [hs4 z hz, hs3 z hz]
  obtain ⟨c2, m2⟩ := hC2 s4 hs5
  have hrow : s4 y = rr_g 0 24 ^^^ rr_g lo (hi + 1) := by rw [hs5 y (by omega), if_pos rfl, hky]
  refine br_t rfl (rr_row (by omega) (pk_eq (hi + 1 - lo) 24 (fun c => ?_) (fun c => ?_)))
  · refine rr_268 ?_ (by omega) hp c2 hS2 m2 (by omega) hN2 H
    rw [hrow, show lo = 0 by omega, show hi + 1 = 24 by omega]
    decide
  · refine rr_268 ?_ (by omega) hp c2 hS2 m2 (by omega) hN2 H
    rw [hrow, rr_gc0 (hi + 1) (by omega) lo (by omega)]
theorem rr_rem (x : Int32) {d : Nat} (h0 : 0 < d) (hd : d < 256) : ∃ p, p < d ∧ (x &&& 255) - (x &&& 255) / nI d * nI d = nI p := by
  obtain ⟨j, hj, e⟩ := pk_andE x (m := 255) 8 (by decide)
  refine ⟨j % d, Nat.mod_lt _ h0, ?_⟩
  rw [e]
  exact pk_rem (by omega) h0 (by omega)
theorem rr_60 {post : Int32 → St0 → Prop} {x3 : Int32} {p q y lo hi : Nat} (hy : y < 23) (hp : p < 24) (hq : q < 24) (hlh : (q < p ∧ lo = q ∧ hi = p) ∨ (p ≤ q ∧ lo = p ∧ hi = q)) (H : post 1 ()) :
    wL_lawOf_60 post 6 919 x3 (nI p) (nI q) (nI y) (nI lo) (nI hi) 0 0 := by
  obtain ⟨x0, hx0, ex⟩ := rr_rem x3 (d := 24) (by omega) (by omega)
  refine nm_r (e' := nI (hi + 1 - lo)) ?_ (nm_r (e' := rr_g lo (hi + 1)) ?_ ⟨by decide, nm_r ex (pk_eq (hi + 1 - lo) 24 (fun c => rr_116 hy hp hq hx0 hlh ?_ H) (fun c => rr_116 hy hp hq hx0 hlh ?_ H))⟩)
  · rw [pk_sub (show lo ≤ hi by omega), nI_1, show hi - lo + 1 = hi + 1 - lo by omega]
  · rw [rr_gl0 (hi + 1 - lo) (by omega) lo (by omega), show lo + (hi + 1 - lo) = hi + 1 by omega]
  · rw [if_pos c]
    show nI 24 * (nI 23 - nI y) = _
    rw [pk_sub (by omega), pk_mul]
  · rw [if_neg c]
    show nI 576 - nI (hi + 1 - lo) = _
    rw [pk_sub (by omega)]
theorem rr_lawOf {post : Int32 → St0 → Prop} (v0 v1 v2 v3 : Int32) (H : post 1 ()) : wpL_lawOf post 6 919 () v0 v1 v2 v3 := by
  obtain ⟨p, hp, ep⟩ := rr_rem v0 (d := 24) (by omega) (by omega)
  obtain ⟨q, hq, eq⟩ := rr_rem v1 (d := 24) (by omega) (by omega)
  obtain ⟨y, hy, ey⟩ := rr_rem v2 (d := 23) (by omega) (by omega)
  refine ⟨by decide, nm_r ep ⟨by decide, nm_r eq ⟨by decide, nm_r ey (pk_le q p (fun c => ?_) (fun c => ?_))⟩⟩⟩
  · exact br_t (nI_le c (by omega)) (rr_60 hy hp hq (by omega) H)
  · exact br_f (nI_ge c (by omega)) (rr_60 hy hp hq (by omega) H)
theorem rr_cell {post : Int32 → Prop} {L : Nat} {xs : Nat → Int32} (k : Nat) (hL : L ≤ 4) (hk : k < 4) (H : ∀ v, post v) : wpL_cellAt post L xs () (nI k) :=
  pk_le L k (fun _ => H 0) (fun c => ⟨pk_in k L c, H _⟩)
theorem i_vc (xs : Nat → Int32) (L : Nat) (hL : L ≤ 4) : wpL_law (fun r => r = 1) L xs :=
  rr_cell 0 hL (by omega) (fun v0 => rr_cell 1 hL (by omega) (fun v1 => rr_cell 2 hL (by omega) (fun v2 => rr_cell 3 hL (by omega) (fun v3 => ⟨6, 919, by omega, by omega, rr_lawOf v0 v1 v2 v3 rfl⟩))))
end
