section
/-! Int32 by its bits (began as rows of kit/laws/BITS.to-paste) -/
def mb_t (x : Int32) (i : Nat) : Bool := x.toBitVec.getLsbD i
theorem mb_ext {x y : Int32} (h : ∀ i, i < 32 → mb_t x i = mb_t y i) : x = y := Int32.toBitVec_inj.mp (BitVec.eq_of_getLsbD_eq (fun i hi => h i hi))
theorem mb_or (x y : Int32) (i : Nat) : mb_t (x ||| y) i = (mb_t x i || mb_t y i) := by unfold mb_t; rw [Int32.toBitVec_or, BitVec.getLsbD_or]
theorem mb_and (x y : Int32) (i : Nat) : mb_t (x &&& y) i = (mb_t x i && mb_t y i) := by unfold mb_t; rw [Int32.toBitVec_and, BitVec.getLsbD_and]
theorem mb_xor (x y : Int32) (i : Nat) : mb_t (x ^^^ y) i = (mb_t x i ^^ mb_t y i) := by unfold mb_t; rw [Int32.toBitVec_xor, BitVec.getLsbD_xor]
theorem mb_m1 : ∀ i, i < 32 → mb_t (-1) i = true := by decide +kernel
theorem mb_0 (i : Nat) : mb_t 0 i = false := BitVec.getLsbD_zero
theorem mb_sl : ∀ n, n < 32 → ((nI n &&& 31).toBitVec.smod 32).toNat = n := by decide +kernel
theorem mb_sshr (n : Nat) (hn : n < 32) (x : Int32) {i : Nat} (hi : i < 32) : mb_t (x >>> (nI n &&& 31)) i = if n + i < 32 then mb_t x (n + i) else mb_t x 31 := by
  unfold mb_t
  rw [Int32.toBitVec_shiftRight]
  show (x.toBitVec.sshiftRight ((nI n &&& 31).toBitVec.smod 32).toNat).getLsbD i = _
  rw [mb_sl n hn, BitVec.getLsbD_sshiftRight, BitVec.msb_eq_getLsbD_last]
  simp [hi]
theorem mb_nI {a i : Nat} (hi : i < 32) : mb_t (nI a) i = a.testBit i := by
  unfold mb_t
  show (BitVec.ofNat 32 a).getLsbD i = _
  rw [BitVec.getLsbD_ofNat]
  simp [hi]
theorem mb_nor (a b : Nat) : nI a ||| nI b = nI (a ||| b) := mb_ext (fun i hi => by rw [mb_or, mb_nI hi, mb_nI hi, mb_nI hi, Nat.testBit_or])
theorem mb_pw {a b : Nat} (h : a < b) : 2 ^ a < 2 ^ b := Nat.pow_lt_pow_right (by decide) h
theorem mb_one {m : Nat} (h : m < 31) : (1 : Int32) <<< (nI m &&& 31) = nI (2 ^ m) := by
  have e := pk_shlN (n := 1) (nI m &&& 31) m (mb_sl m (by omega)) (by rw [Nat.one_mul]; exact mb_pw (by omega))
  rw [Nat.one_mul] at e
  exact e
theorem mb_bit {a m : Nat} (ha : a < 2 ^ 31) (hm : m < 32) : (nI a >>> (nI m &&& 31)) &&& 1 = nI (if a.testBit m then 1 else 0) := by
  have h2 : a / 2 ^ m ≤ a := Nat.div_le_self _ _
  rw [pk_shrN ha _ m (mb_sl m hm), pk_andN (n := a / 2 ^ m) (by omega) (m := 1) 1 (by decide), Nat.testBit_eq_decide_div_mod_eq]
  congr 1
  generalize a / 2 ^ m = z
  by_cases h : z % 2 = 1
  · rw [decide_eq_true h, if_pos rfl]; omega
  · rw [decide_eq_false h, if_neg (by decide)]; omega
theorem mb_bit1 {a m : Nat} (ha : a < 2 ^ 31) (hm : m < 32) : ((nI a >>> (nI m &&& 31)) &&& 1 = 1) ↔ a.testBit m = true := by
  rw [mb_bit ha hm]
  by_cases h : a.testBit m = true
  · rw [if_pos h]; exact ⟨fun _ => h, fun _ => rfl⟩
  · rw [if_neg h]; exact ⟨fun z => absurd z (by decide), fun z => absurd z h⟩
theorem mb_b1 : vp_nar .boolean 1 = 1 := by decide
theorem mb_b0 : vp_nar .boolean 0 = 0 := by decide
/-- bit 0 of a mask that has it -/
theorem mb_z {x : Int32} (h : mb_t x 0 = true) : ¬ (x >>> ((0 : Int32) &&& 31)) &&& 1 = 0 := by
  intro e
  have e2 : mb_t ((x >>> (nI 0 &&& 31)) &&& 1) 0 = mb_t 0 0 := congrArg (fun z => mb_t z 0) e
  rw [mb_and, mb_sshr 0 (by omega) x (by omega), mb_0, if_pos (by omega)] at e2
  rw [show (0 + 0 : Nat) = 0 from rfl, h] at e2
  exact absurd e2 (by decide)
theorem mb_z0 : ((0 : Int32) >>> ((0 : Int32) &&& 31)) &&& 1 = 0 := by decide
theorem mb_oz {x y : Int32} (h : mb_t x 0 = true) : mb_t (x ||| y) 0 = true := by rw [mb_or, h]; rfl
theorem mb_1z : mb_t ((0 : Int32) ||| ((1 : Int32) <<< ((0 : Int32) &&& 31))) 0 = true := by decide
/-! masks and counts -/
def mz_mask (p : Nat → Bool) : Nat → Nat
  | 0 => 0
  | m + 1 => if p m then mz_mask p m ||| 2 ^ m else mz_mask p m
def mz_cnt (p : Nat → Bool) : Nat → Nat
  | 0 => 0
  | n + 1 => mz_cnt p n + (if p n then 1 else 0)
theorem mz_mask_lt (p : Nat → Bool) (n : Nat) : mz_mask p n < 2 ^ n := by
  induction n with
  | zero => exact Nat.one_pos
  | succ n ih =>
    have h1 : mz_mask p n < 2 ^ (n + 1) := Nat.lt_trans ih (mb_pw (by omega))
    show (if p n then mz_mask p n ||| 2 ^ n else mz_mask p n) < 2 ^ (n + 1)
    by_cases h : p n = true
    · rw [if_pos h]; exact Nat.or_lt_two_pow h1 (mb_pw (by omega))
    · rw [if_neg h]; exact h1
theorem mz_mask_bit (p : Nat → Bool) (j n : Nat) : (mz_mask p n).testBit j = (decide (j < n) && p j) := by
  induction n with
  | zero => show (0 : Nat).testBit j = _; simp
  | succ n ih =>
    show (if p n then mz_mask p n ||| 2 ^ n else mz_mask p n).testBit j = _
    by_cases h : p n = true
    · rw [if_pos h, Nat.testBit_or, ih, Nat.testBit_two_pow]
      by_cases e : n = j
      · subst e; simp [h]
      · have e2 : (j < n + 1) = (j < n) := by apply propext; omega
        simp [e, e2]
    · rw [if_neg h, ih]
      by_cases e : n = j
      · subst e; simp [h]
      · have e2 : (j < n + 1) = (j < n) := by apply propext; omega
        simp [e2]
theorem mz_mask_congr {p q : Nat → Bool} {n : Nat} (h : ∀ j, j < n → p j = q j) : mz_mask p n = mz_mask q n := by
  apply Nat.eq_of_testBit_eq
  intro j
  rw [mz_mask_bit, mz_mask_bit]
  by_cases e : j < n
  · rw [h j e]
  · simp [e]
theorem mz_mask_ne {p : Nat → Bool} {n : Nat} (h : mz_mask p n ≠ 0) : ∃ j, j < n ∧ p j = true := by
  induction n with
  | zero => exact absurd rfl h
  | succ n ih =>
    by_cases e : p n = true
    · exact ⟨n, by omega, e⟩
    · have e2 : mz_mask p (n + 1) = mz_mask p n := if_neg e
      rw [e2] at h
      obtain ⟨j, h1, h2⟩ := ih h
      exact ⟨j, by omega, h2⟩
theorem mz_mask_ne' {p : Nat → Bool} {n j : Nat} (hj : j < n) (h : p j = true) : mz_mask p n ≠ 0 := by
  intro e
  have := mz_mask_bit p j n
  rw [e, Nat.zero_testBit, h] at this
  simp [hj] at this
theorem mz_cnt_le (p : Nat → Bool) (n : Nat) : mz_cnt p n ≤ n := by
  induction n with
  | zero => exact Nat.le_refl 0
  | succ n ih =>
    show mz_cnt p n + (if p n then 1 else 0) ≤ n + 1
    split <;> omega
theorem mz_cnt_congr {p q : Nat → Bool} {n : Nat} (h : ∀ j, j < n → p j = q j) : mz_cnt p n = mz_cnt q n := by
  induction n with
  | zero => rfl
  | succ n ih =>
    show mz_cnt p n + (if p n then 1 else 0) = mz_cnt q n + (if q n then 1 else 0)
    rw [ih (fun j hj => h j (by omega)), h n (by omega)]
theorem mz_cnt_mono {p q : Nat → Bool} {n : Nat} (h : ∀ j, j < n → p j = true → q j = true) : mz_cnt p n ≤ mz_cnt q n := by
  induction n with
  | zero => exact Nat.le_refl 0
  | succ n ih =>
    have i := ih (fun j hj => h j (by omega))
    have hn := h n (by omega)
    show mz_cnt p n + (if p n then 1 else 0) ≤ mz_cnt q n + (if q n then 1 else 0)
    by_cases e : p n = true
    · rw [if_pos e, if_pos (hn e)]; omega
    · rw [if_neg e]; omega
theorem mz_cnt_lt {p q : Nat → Bool} {n k : Nat} (h : ∀ j, j < n → p j = true → q j = true) (hk : k < n) (hp : ¬ p k = true) (hq : q k = true) : mz_cnt p n < mz_cnt q n := by
  induction n with
  | zero => omega
  | succ n ih =>
    have hn := h n (by omega)
    show mz_cnt p n + (if p n then 1 else 0) < mz_cnt q n + (if q n then 1 else 0)
    by_cases e : k = n
    · subst e
      have i := mz_cnt_mono (p := p) (q := q) (n := k) (fun j hj => h j (by omega))
      rw [if_neg hp, if_pos hq]; omega
    · have i := ih (fun j hj => h j (by omega)) (by omega)
      by_cases e : p n = true
      · rw [if_pos e, if_pos (hn e)]; omega
      · rw [if_neg e]; omega
theorem mz_cnt_sub {p q : Nat → Bool} {n : Nat} (h : ∀ j, j < n → p j = true → q j = true) (e : mz_cnt p n = mz_cnt q n) : ∀ j, j < n → q j = true → p j = true := by
  intro j hj hq
  by_cases c : p j = true
  · exact c
  · have := mz_cnt_lt h hj c hq
    omega
theorem mz_cnt_disj {p q : Nat → Bool} {n : Nat} (h : ∀ j, j < n → p j = true → q j = true → False) : mz_cnt p n + mz_cnt q n ≤ n := by
  induction n with
  | zero => exact Nat.le_refl 0
  | succ n ih =>
    have i := ih (fun j hj => h j (by omega))
    have hn := h n (by omega)
    show mz_cnt p n + (if p n then 1 else 0) + (mz_cnt q n + (if q n then 1 else 0)) ≤ n + 1
    by_cases e : p n = true
    · rw [if_pos e, if_neg (fun z => hn e z)]; omega
    · rw [if_neg e]; split <;> omega
theorem mz_cnt_ext {p : Nat → Bool} {m : Nat} (h : ∀ j, m ≤ j → p j = false) (k : Nat) : mz_cnt p (m + k) = mz_cnt p m := by
  induction k with
  | zero => rfl
  | succ k ih =>
    show mz_cnt p (m + k) + (if p (m + k) then 1 else 0) = mz_cnt p m
    rw [ih, h (m + k) (by omega)]; rfl
theorem mz_cnt_one {p q : Nat → Bool} {n k : Nat} (hk : k < n) (hp : p k = false) (hq : q k = true) (h : ∀ j, j ≠ k → q j = p j) : mz_cnt q n = mz_cnt p n + 1 := by
  induction n with
  | zero => omega
  | succ n ih =>
    show mz_cnt q n + (if q n then 1 else 0) = mz_cnt p n + (if p n then 1 else 0) + 1
    by_cases e : k = n
    · subst e
      rw [mz_cnt_congr (p := q) (q := p) (fun j hj => h j (by omega)), hq, hp]; rfl
    · rw [ih (by omega), h n (fun z => e z.symm)]; omega
theorem mz_cnt_zero {p : Nat → Bool} {n : Nat} (h : ∀ j, j < n → p j = false) : mz_cnt p n = 0 := by
  induction n with
  | zero => rfl
  | succ n ih =>
    show mz_cnt p n + (if p n then 1 else 0) = 0
    rw [ih (fun j hj => h j (by omega)), h n (by omega)]; rfl
end
section
/-! the machine: one instruction, a run -/
def mz_v (o c x y : Int32) : Int32 := if o = 0 then c else if o = 1 then x + y else if o = 2 then x - y else if o = 3 then x * y else if o = 4 then (if y ≤ x then y else x) else x + c
def mz_rg (b k : Nat) (o c : Int32) (a : Nat → Int32) : Nat → Int32 := if o = 5 ∨ o = 6 then a else upd a (b + k % 4) (mz_v o c (a (b + k % 4)) (a (b + k / 4)))
def mz_pc (b k : Nat) (o c p : Int32) (a : Nat → Int32) : Int32 := if o = 5 then (if a (b + k / 4) ≤ a (b + k % 4) then p + 1 else c) else if o = 6 then (if a (b + k % 4) = 0 then c else p + 1) else p + 1
/-- registers: every row of regs is below 16 -/
def mz_R (a2 : Nat → Int32) : Prop := ∀ j, j < 12 → ∃ k : Nat, k < 16 ∧ a2 j = nI k
theorem mz_Rk {a2 : Nat → Int32} (h : mz_R a2) {j : Nat} (hj : j < 12) : (a2 j).toNatClampNeg < 16 ∧ a2 j = nI (a2 j).toNatClampNeg := by
  obtain ⟨k, hk, e⟩ := h j hj
  rw [e, nI_clamp (by omega)]
  exact ⟨hk, rfl⟩
theorem mz_pcD {b k : Nat} {o c p : Int32} {a : Nat → Int32} (h5 : ¬ o = 5) (h6 : ¬ o = 6) : mz_pc b k o c p a = p + 1 := by
  unfold mz_pc
  rw [if_neg h5, if_neg h6]
theorem mz_rgD {b k : Nat} {o c : Int32} {a : Nat → Int32} (h5 : ¬ o = 5) (h6 : ¬ o = 6) : mz_rg b k o c a = upd a (b + k % 4) (mz_v o c (a (b + k % 4)) (a (b + k / 4))) := by
  unfold mz_rg
  rw [if_neg (fun z => z.elim h5 h6)]
theorem mz_vD {o c x y : Int32} (h0 : ¬ o = 0) (h1 : ¬ o = 1) (h2 : ¬ o = 2) (h3 : ¬ o = 3) (h4 : ¬ o = 4) : mz_v o c x y = x + c := by
  unfold mz_v
  rw [if_neg h0, if_neg h1, if_neg h2, if_neg h3, if_neg h4]
theorem mz_carry {post : Int32 → St1 → Prop} {sz te mu rd mp mo mk : Int32} {a1 a2 a3 a4 a5 a6 a7 a8 a9 a10 a11 a12 a13 a14 a15 a16 a17 a18 a19 a20 : Nat → Int32} {b pc k : Nat} {o c : Int32} (hb : b ≤ 4) (hp : pc < 12) (hk : k < 16) (hr : a2 pc = nI k)
    (H : post (mz_pc b k o c (nI pc) a17) (sz, te, mu, rd, mp, mo, mk, a1, a2, a3, a4, a5, a6, a7, a8, a9, a10, a11, a12, a13, a14, a15, a16, (mz_rg b k o c a17), a18, a19, a20)) : wpX_carryOut post (sz, te, mu, rd, mp, mo, mk, a1, a2, a3, a4, a5, a6, a7, a8, a9, a10, a11, a12, a13, a14, a15, a16, a17, a18, a19, a20) (nI b) (nI pc) o c := by
  have ec : (nI pc).toNatClampNeg = pc := nI_clamp (by omega)
  have e5 : nI b + (a2 (nI pc).toNatClampNeg &&& 3) = nI (b + k % 4) := by
    rw [ec, hr, pk_andN (by omega) 2 (by decide), nI_add]
  have e6 : nI b + (a2 (nI pc).toNatClampNeg >>> ((2 : Int32) &&& 31)) = nI (b + k / 4) := by
    rw [ec, hr, pk_shrN (by omega) _ 2 (by decide), nI_add]
  have i5 : vp_in (nI (b + k % 4)) 8 := vp_in_nI (by omega) (by omega)
  have i6 : vp_in (nI (b + k / 4)) 8 := vp_in_nI (by omega) (by omega)
  have c5 : (nI (b + k % 4)).toNatClampNeg = b + k % 4 := nI_clamp (by omega)
  have c6 : (nI (b + k / 4)).toNatClampNeg = b + k / 4 := nI_clamp (by omega)
  unfold wpX_carryOut
  refine ⟨pk_in pc 12 hp, nm_r e5 ⟨pk_in pc 12 hp, nm_r e6 ?_⟩⟩
  rw [c5, c6]
  by_cases h5 : o = 5
  · subst h5
    refine br_f (by decide) (br_f (by decide) (br_f (by decide) (br_f (by decide) (br_f (by decide) (br_f (by decide) (br_f (by decide) (br_t rfl ⟨i5, i6, br_c (fun g => ?_) (fun g => ?_)⟩)))))))
    · have e : mz_pc b k 5 c (nI pc) a17 = nI pc + 1 := by unfold mz_pc; rw [if_pos rfl, if_pos g]
      have e' : mz_rg b k 5 c a17 = a17 := by unfold mz_rg; rw [if_pos (Or.inl rfl)]
      rw [e, e'] at H
      exact H
    · have e : mz_pc b k 5 c (nI pc) a17 = c := by unfold mz_pc; rw [if_pos rfl, if_neg g]
      have e' : mz_rg b k 5 c a17 = a17 := by unfold mz_rg; rw [if_pos (Or.inl rfl)]
      rw [e, e'] at H
      exact H
  by_cases h6 : o = 6
  · subst h6
    refine br_f (by decide) (br_f (by decide) (br_f (by decide) (br_f (by decide) (br_f (by decide) (br_f (by decide) (br_f (by decide) (br_f (by decide) (br_t rfl ⟨i5, br_c (fun g => ?_) (fun g => ?_)⟩))))))))
    · have e : mz_pc b k 6 c (nI pc) a17 = c := by unfold mz_pc; rw [if_neg (by decide), if_pos rfl, if_pos g]
      have e' : mz_rg b k 6 c a17 = a17 := by unfold mz_rg; rw [if_pos (Or.inr rfl)]
      rw [e, e'] at H
      exact H
    · have e : mz_pc b k 6 c (nI pc) a17 = nI pc + 1 := by unfold mz_pc; rw [if_neg (by decide), if_pos rfl, if_neg g]
      have e' : mz_rg b k 6 c a17 = a17 := by unfold mz_rg; rw [if_pos (Or.inr rfl)]
      rw [e, e'] at H
      exact H
  rw [mz_pcD h5 h6, mz_rgD h5 h6] at H
  have hd : ¬ o = 0 → ¬ o = 1 → ¬ o = 2 → ¬ o = 3 → ¬ o = 4 → post (nI pc + 1) (sz, te, mu, rd, mp, mo, mk, a1, a2, a3, a4, a5, a6, a7, a8, a9, a10, a11, a12, a13, a14, a15, a16, (upd a17 (b + k % 4) (a17 (b + k % 4) + c)), a18, a19, a20) := by
    intro h0 h1 h2 h3 h4
    rw [mz_vD h0 h1 h2 h3 h4] at H
    exact H
  refine br_c (fun g => ⟨i5, i5, nm_e (hd ?_ ?_ ?_ ?_ ?_)⟩) (fun _ => br_c (fun g => ⟨i5, i5, nm_e (hd ?_ ?_ ?_ ?_ ?_)⟩) (fun _ => ?_))
  · intro z; subst z; exact absurd g (by decide)
  · intro z; subst z; exact absurd g (by decide)
  · intro z; subst z; exact absurd g (by decide)
  · intro z; subst z; exact absurd g (by decide)
  · intro z; subst z; exact absurd g (by decide)
  · intro z; subst z; exact absurd g (by decide)
  · intro z; subst z; exact absurd g (by decide)
  · intro z; subst z; exact absurd g (by decide)
  · intro z; subst z; exact absurd g (by decide)
  · intro z; subst z; exact absurd g (by decide)
  clear hd
  refine br_c (fun g => ?_) (fun h0 => br_c (fun g => ?_) (fun h1 => br_c (fun g => ?_) (fun h2 => br_c (fun g => ?_) (fun h3 => br_c (fun g => ?_) (fun h4 => br_f h5 (br_f h6 trivial))))))
  · subst g
    have e : mz_v 0 c (a17 (b + k % 4)) (a17 (b + k / 4)) = c := by unfold mz_v; rw [if_pos rfl]
    rw [e] at H
    exact ⟨i5, nm_e H⟩
  · subst g
    have e : mz_v 1 c (a17 (b + k % 4)) (a17 (b + k / 4)) = a17 (b + k % 4) + a17 (b + k / 4) := by unfold mz_v; rw [if_neg (by decide), if_pos rfl]
    rw [e] at H
    exact ⟨i5, i6, i5, nm_e H⟩
  · subst g
    have e : mz_v 2 c (a17 (b + k % 4)) (a17 (b + k / 4)) = a17 (b + k % 4) - a17 (b + k / 4) := by unfold mz_v; rw [if_neg (by decide), if_neg (by decide), if_pos rfl]
    rw [e] at H
    exact ⟨i5, i6, i5, nm_e H⟩
  · subst g
    have e : mz_v 3 c (a17 (b + k % 4)) (a17 (b + k / 4)) = a17 (b + k % 4) * a17 (b + k / 4) := by unfold mz_v; rw [if_neg (by decide), if_neg (by decide), if_neg (by decide), if_pos rfl]
    rw [e] at H
    exact ⟨i5, i6, i5, nm_e H⟩
  · subst g
    refine ⟨i5, i6, br_c (fun g => ?_) (fun g => ?_)⟩
    · have e : mz_v 4 c (a17 (b + k % 4)) (a17 (b + k / 4)) = a17 (b + k / 4) := by unfold mz_v; rw [if_neg (by decide), if_neg (by decide), if_neg (by decide), if_neg (by decide), if_pos rfl, if_pos g]
      rw [e] at H
      exact ⟨i6, i5, nm_e H⟩
    · have e : mz_v 4 c (a17 (b + k % 4)) (a17 (b + k / 4)) = a17 (b + k % 4) := by unfold mz_v; rw [if_neg (by decide), if_neg (by decide), if_neg (by decide), if_neg (by decide), if_pos rfl, if_neg g]
      rw [e] at H
      exact ⟨i5, i5, nm_e H⟩
/-- a run: at most f instructions from p on -/
def mz_run (b n : Nat) (F G a2 : Nat → Int32) : Nat → Int32 → (Nat → Int32) → Int32 × (Nat → Int32)
  | 0 => fun p a => (p, a)
  | f + 1 => fun p a => if p < 0 ∨ nI n ≤ p then (p, a) else
      mz_run b n F G a2 f (mz_pc b (a2 p.toNatClampNeg).toNatClampNeg (F p.toNatClampNeg) (G p.toNatClampNeg) p a) (mz_rg b (a2 p.toNatClampNeg).toNatClampNeg (F p.toNatClampNeg) (G p.toNatClampNeg) a)
theorem mz_runO {b n : Nat} {F G a2 : Nat → Int32} {f : Nat} {p : Int32} {a : Nat → Int32} (h : p < 0 ∨ nI n ≤ p) : mz_run b n F G a2 f p a = (p, a) := by
  cases f with
  | zero => rfl
  | succ f => exact if_pos h
theorem mz_runS {b n : Nat} {F G a2 : Nat → Int32} {f j : Nat} {a : Nat → Int32} (hn : n ≤ 12) (h : j < n) : mz_run b n F G a2 (f + 1) (nI j) a = mz_run b n F G a2 f (mz_pc b (a2 j).toNatClampNeg (F j) (G j) (nI j) a) (mz_rg b (a2 j).toNatClampNeg (F j) (G j) a) := by
  have e : ¬ (nI j < 0 ∨ nI n ≤ nI j) := by
    intro z
    rcases z with z | z
    · exact nI_pos (by omega) z
    · exact nI_ge h (by omega) z
  have e2 : (nI j).toNatClampNeg = j := nI_clamp (by omega)
  show (if nI j < 0 ∨ nI n ≤ nI j then (nI j, a) else mz_run b n F G a2 f (mz_pc b (a2 (nI j).toNatClampNeg).toNatClampNeg (F (nI j).toNatClampNeg) (G (nI j).toNatClampNeg) (nI j) a) (mz_rg b (a2 (nI j).toNatClampNeg).toNatClampNeg (F (nI j).toNatClampNeg) (G (nI j).toNatClampNeg) a)) = _
  rw [if_neg e, e2]
/-- two windows of four registers, alike -/
def mz_W (b b' : Nat) (a a' : Nat → Int32) : Prop := ∀ j, j < 4 → a (b + j) = a' (b' + j)
theorem mz_Wpc {b b' k : Nat} {o c p : Int32} {a a' : Nat → Int32} (h : mz_W b b' a a') (hk : k < 16) : mz_pc b k o c p a = mz_pc b' k o c p a' := by
  unfold mz_pc
  rw [h (k % 4) (by omega), h (k / 4) (by omega)]
theorem mz_Wrg {b b' k : Nat} {o c : Int32} {a a' : Nat → Int32} (h : mz_W b b' a a') (hk : k < 16) : mz_W b b' (mz_rg b k o c a) (mz_rg b' k o c a') := by
  intro j hj
  unfold mz_rg
  by_cases e : o = 5 ∨ o = 6
  · rw [if_pos e, if_pos e]; exact h j hj
  · rw [if_neg e, if_neg e, h (k % 4) (by omega), h (k / 4) (by omega)]
    by_cases e : j = k % 4
    · rw [e, pk_us, pk_us]
    · rw [pk_un (by omega), pk_un (by omega)]; exact h j hj
theorem mz_Wrun {b b' n : Nat} {F G a2 : Nat → Int32} (hn : n ≤ 12) (hR : mz_R a2) : ∀ (f : Nat) (p : Int32) (a a' : Nat → Int32), mz_W b b' a a' → (mz_run b n F G a2 f p a).1 = (mz_run b' n F G a2 f p a').1 ∧ mz_W b b' (mz_run b n F G a2 f p a).2 (mz_run b' n F G a2 f p a').2 := by
  intro f
  induction f with
  | zero => exact fun p a a' h => ⟨rfl, h⟩
  | succ f ih =>
    intro p a a' h
    by_cases e : p < 0 ∨ nI n ≤ p
    · rw [mz_runO e, mz_runO e]; exact ⟨rfl, h⟩
    · rcases pk_ix p (n := n) (by omega) with z | z | ⟨j, hj, rfl⟩
      · exact absurd (Or.inl z) e
      · exact absurd (Or.inr z) e
      · have hk := (mz_Rk hR (j := j) (by omega)).1
        rw [mz_runS hn hj, mz_runS hn hj, mz_Wpc h hk]
        exact ih _ _ _ (mz_Wrg h hk)
/-- a run at base 4 keeps the registers below 4 -/
theorem mz_runK {n : Nat} {F G a2 : Nat → Int32} : ∀ (f : Nat) (p : Int32) (a : Nat → Int32) (j : Nat), j < 4 → (mz_run 4 n F G a2 f p a).2 j = a j := by
  intro f
  induction f with
  | zero => exact fun p a j h => rfl
  | succ f ih =>
    intro p a j hj
    by_cases e : p < 0 ∨ nI n ≤ p
    · rw [mz_runO e]
    · show (if p < 0 ∨ nI n ≤ p then (p, a) else mz_run 4 n F G a2 f (mz_pc 4 (a2 p.toNatClampNeg).toNatClampNeg (F p.toNatClampNeg) (G p.toNatClampNeg) p a) (mz_rg 4 (a2 p.toNatClampNeg).toNatClampNeg (F p.toNatClampNeg) (G p.toNatClampNeg) a)).2 j = _
      rw [if_neg e, ih _ _ j hj]
      unfold mz_rg
      split
      · rfl
      · exact pk_un (by omega)
/-- the outcome of a run: whether it ended, and what it gave -/
def mz_e (n : Nat) (p : Int32) : Int32 := if p < 0 ∨ nI n ≤ p then 1 else 0
def mz_o (n : Nat) (p v : Int32) : Int32 := if p < 0 ∨ nI n ≤ p then v else 0
theorem mz_eT {n : Nat} {p : Int32} (h : p < 0 ∨ nI n ≤ p) : mz_e n p = 1 := if_pos h
theorem mz_eF {n : Nat} {p : Int32} (h : ¬ (p < 0 ∨ nI n ≤ p)) : mz_e n p = 0 := if_neg h
theorem mz_oT {n : Nat} {p v : Int32} (h : p < 0 ∨ nI n ≤ p) : mz_o n p v = v := if_pos h
theorem mz_oF {n : Nat} {p v : Int32} (h : ¬ (p < 0 ∨ nI n ≤ p)) : mz_o n p v = 0 := if_neg h
/-- a place: left of the program, behind it, or in it -/
theorem mz_ltN {n : Nat} {p : Int32} (h : nI n ≤ p) (hn : n ≤ 12) : ¬ p < 0 ∧ ¬ p < nI n := by
  rw [Int32.le_iff_toInt_le, nI_toInt (by omega)] at h
  rw [Int32.lt_iff_toInt_lt, Int32.lt_iff_toInt_lt, nI_toInt (by omega)]
  have h0 : (0 : Int32).toInt = 0 := by decide
  omega
/-! tests -/
theorem mz_addTest {post : Int32 → St1 → Prop} {sz mu rd mp mo mk : Int32} {a1 a2 a3 a4 a5 a6 a7 a8 a9 a10 a11 a12 a13 a14 a15 a16 a17 a18 a19 a20 : Nat → Int32} {T : Nat} {x y w v : Int32} (hT : T < 6)
    (H : ∀ a6' a7' : Nat → Int32, (∀ j, j < T → a6' j = a6 j) → (∀ j, j < T → a7' j = a7 j) → post (nI T) (sz, (nI (T + 1)), mu, 0, mp, mo, mk, a1, a2, a3, (upd a4 T x), (upd a5 T y), a6', a7', a8, a9, a10, a11, a12, a13, a14, a15, a16, a17, a18, a19, a20)) : wpX_addTest post (sz, (nI T), mu, rd, mp, mo, mk, a1, a2, a3, a4, a5, a6, a7, a8, a9, a10, a11, a12, a13, a14, a15, a16, a17, a18, a19, a20) x y w v := by
  have ec : (nI T).toNatClampNeg = T := nI_clamp (by omega)
  unfold wpX_addTest
  refine pk_lt T 6 (fun _ => ?_) (fun z => absurd z (by omega))
  rw [ec]
  refine ⟨pk_in T 6 hT, nm_e ⟨pk_in T 6 hT, nm_e ⟨pk_in T 6 hT, nm_e ⟨pk_in T 6 hT, nm_e (nm_r (nI_1 T) (H _ _ ?_ ?_))⟩⟩⟩⟩
  · exact fun j hj => pk_un (by omega)
  · exact fun j hj => pk_un (by omega)
theorem mz_test {post : Int32 → St1 → Prop} {sz mu rd mp mo mk : Int32} {a1 a2 a3 a4 a5 a6 a7 a8 a9 a10 a11 a12 a13 a14 a15 a16 a17 a18 a19 a20 : Nat → Int32} {T : Nat} {x y v : Int32} (hT : T < 6)
    (H : ∀ a6' a7' : Nat → Int32, (∀ j, j < T → a6' j = a6 j) → (∀ j, j < T → a7' j = a7 j) → post (nI T) (sz, (nI (T + 1)), mu, 0, mp, mo, mk, a1, a2, a3, (upd a4 T x), (upd a5 T y), a6', a7', a8, a9, a10, a11, a12, a13, a14, a15, a16, a17, a18, a19, a20)) : wpX_test post (sz, (nI T), mu, rd, mp, mo, mk, a1, a2, a3, a4, a5, a6, a7, a8, a9, a10, a11, a12, a13, a14, a15, a16, a17, a18, a19, a20) x y v := by
  unfold wpX_test
  exact mz_addTest hT H
theorem mz_sn89 {post : Int32 → St1 → Prop} {sz mu rd mp mo mk : Int32} {a1 a2 a3 a4 a5 a6 a7 a8 a9 a10 a11 a12 a13 a14 a15 a16 a17 a18 a19 a20 : Nat → Int32} {T : Nat} {x y p : Int32} (hT : T < 6)
    (H : ∀ a6' a7' : Nat → Int32, (∀ j, j < T → a6' j = a6 j) → (∀ j, j < T → a7' j = a7 j) → post (nI T) (sz, (nI (T + 1)), mu, 0, mp, mo, mk, a1, a2, a3, (upd a4 T x), (upd a5 T y), a6', a7', a8, a9, a10, a11, a12, a13, a14, a15, a16, a17, a18, a19, a20)) : wX_snapshotTest_89 post x y p sz (nI T) mu rd mp mo mk a1 a2 a3 a4 a5 a6 a7 a8 a9 a10 a11 a12 a13 a14 a15 a16 a17 a18 a19 a20 := by
  unfold wX_snapshotTest_89 wX_snapshotTest_101 wX_snapshotTest_106
  exact br_c (fun _ => mz_addTest hT H) (fun _ => br_c (fun _ => mz_addTest hT H) (fun _ => mz_addTest hT H))
theorem mz_sn45 {post : Int32 → St1 → Prop} {x y : Int32} {te mu rd mp mo mk : Int32} {a1 a2 a3 a4 a5 a6 a7 a8 a9 a10 a11 a12 a13 a14 a15 a16 a18 a19 a20 : Nat → Int32} {n : Nat} (hn : n ≤ 12) (hR : mz_R a2)
    (H : ∀ (p : Int32) (a17 : Nat → Int32), wX_snapshotTest_89 post x y p (nI n) te mu rd mp mo mk a1 a2 a3 a4 a5 a6 a7 a8 a9 a10 a11 a12 a13 a14 a15 a16 a17 a18 a19 a20) : ∀ (f i : Nat) (p : Int32) (a17 : Nat → Int32), f + i = 100 → wX_snapshotTest_45 post x y (f + 1) p (nI i) (nI n) te mu rd mp mo mk a1 a2 a3 a4 a5 a6 a7 a8 a9 a10 a11 a12 a13 a14 a15 a16 a17 a18 a19 a20 := by
  intro f
  induction f with
  | zero => exact fun i p a17 h => pk_le 100 i (fun _ => H p a17) (fun z => absurd z (by omega))
  | succ f ih =>
    intro i p a17 h
    refine pk_le 100 i (fun z => absurd z (by omega)) (fun _ => ?_)
    rcases pk_ix p (n := n) (by omega) with z | z | ⟨j, hj, rfl⟩
    · exact br_t z (H p a17)
    · exact br_f (mz_ltN z hn).1 (br_t z (H p a17))
    · have hk := mz_Rk hR (j := j) (by omega)
      refine br_f (nI_pos (by omega)) (br_f (nI_ge hj (by omega)) ⟨pk_in j 12 (by omega), pk_in j 12 (by omega), ?_⟩)
      refine mz_carry (b := 0) (by omega) (by omega) hk.1 hk.2 ?_
      exact nm_r (nI_1 i) (ih (i + 1) _ _ (by omega))
theorem mz_snap {post : Int32 → St1 → Prop} {mu rd mp mo mk : Int32} {a1 a2 a3 a4 a5 a6 a7 a8 a9 a10 a11 a12 a13 a14 a15 a16 a17 a18 a19 a20 : Nat → Int32} {n T : Nat} {x y : Int32} (hn : n ≤ 12) (hR : mz_R a2) (hT : T < 6)
    (H : ∀ a6' a7' a17' : Nat → Int32, (∀ j, j < T → a6' j = a6 j) → (∀ j, j < T → a7' j = a7 j) → post (nI T) ((nI n), (nI (T + 1)), mu, 0, mp, mo, mk, a1, a2, a3, (upd a4 T x), (upd a5 T y), a6', a7', a8, a9, a10, a11, a12, a13, a14, a15, a16, a17', a18, a19, a20)) : wpX_snapshotTest post ((nI n), (nI T), mu, rd, mp, mo, mk, a1, a2, a3, a4, a5, a6, a7, a8, a9, a10, a11, a12, a13, a14, a15, a16, a17, a18, a19, a20) x y := by
  unfold wpX_snapshotTest
  refine pk_lt T 6 (fun _ => nm_e (nm_e (nm_e (nm_e ⟨101, ?_⟩)))) (fun z => absurd z (by omega))
  exact mz_sn45 hn hR (fun p a17' => mz_sn89 hT (fun a6' a7' h6 h7 => H a6' a7' a17' h6 h7)) 100 0 _ _ (by omega)
end
section
/-! a mutant's own run -/
theorem mz_updS (a : Nat → Int32) (w : Nat) : upd a w (a w) = a := by
  funext j
  by_cases e : j = w
  · rw [e, pk_us]
  · rw [pk_un e]
theorem mz_step {post : Int32 → St1 → Prop} {sz te mu rd mo mk : Int32} {a1 a2 a3 a4 a5 a6 a7 a8 a9 a10 a11 a12 a13 a14 a15 a16 a17 a18 a19 a20 : Nat → Int32} {w pc : Nat} (hw : w < 12) (hp : pc < 12) (hR : mz_R a2)
    (H : post (mz_pc 4 (a2 pc).toNatClampNeg (upd a1 w mo pc) (upd a3 w mk pc) (nI pc) a17) (sz, te, mu, rd, (nI w), mo, mk, a1, a2, a3, a4, a5, a6, a7, a8, a9, a10, a11, a12, a13, a14, a15, a16, (mz_rg 4 (a2 pc).toNatClampNeg (upd a1 w mo pc) (upd a3 w mk pc) a17), a18, a19, a20)) : wpX_stepMutant post (sz, te, mu, rd, (nI w), mo, mk, a1, a2, a3, a4, a5, a6, a7, a8, a9, a10, a11, a12, a13, a14, a15, a16, a17, a18, a19, a20) (nI pc) := by
  have hk := mz_Rk hR hp
  have ec : (nI pc).toNatClampNeg = pc := nI_clamp (by omega)
  unfold wpX_stepMutant
  refine pk_eq pc w (fun e => ?_) (fun e => ⟨pk_in pc 12 hp, pk_in pc 12 hp, ?_⟩)
  · rw [e, pk_us, pk_us] at H
    rw [e] at hk ⊢
    exact mz_carry (b := 4) (by omega) hw hk.1 hk.2 H
  · rw [pk_un e, pk_un e] at H
    rw [ec]
    exact mz_carry (b := 4) (by omega) hp hk.1 hk.2 H
theorem mz_sp118 {post : St1 → Prop} {x1 x2 : Int32} {te mu rd mo mk : Int32} {a1 a2 a3 a4 a5 a6 a7 a8 a9 a10 a11 a12 a13 a14 a15 a16 a18 a19 a20 : Nat → Int32} {n w : Nat} (hn : n ≤ 12) (hw : w < 12) (hR : mz_R a2) : ∀ (f i : Nat) (p : Int32) (a17 : Nat → Int32), f + i = 100 →
    (∀ x5 : Int32, wX_split_153 post x1 x2 (mz_run 4 n (upd a1 w mo) (upd a3 w mk) a2 f p a17).1 x5 (nI n) te mu rd (nI w) mo mk a1 a2 a3 a4 a5 a6 a7 a8 a9 a10 a11 a12 a13 a14 a15 a16 ((mz_run 4 n (upd a1 w mo) (upd a3 w mk) a2 f p a17).2) a18 a19 a20) →
    wX_split_118 post x1 x2 (f + 1) p (nI i) (nI n) te mu rd (nI w) mo mk a1 a2 a3 a4 a5 a6 a7 a8 a9 a10 a11 a12 a13 a14 a15 a16 a17 a18 a19 a20 := by
  intro f
  induction f with
  | zero => exact fun i p a17 h H => pk_le 100 i (fun _ => H (nI i)) (fun z => absurd z (by omega))
  | succ f ih =>
    intro i p a17 h H
    refine pk_le 100 i (fun z => absurd z (by omega)) (fun _ => ?_)
    rcases pk_ix p (n := n) (by omega) with z | z | ⟨j, hj, rfl⟩
    · rw [mz_runO (Or.inl z)] at H
      exact br_t z (H _)
    · rw [mz_runO (Or.inr z)] at H
      exact br_f (mz_ltN z hn).1 (br_t z (H _))
    · refine br_f (nI_pos (by omega)) (br_f (nI_ge hj (by omega)) ?_)
      rw [mz_runS hn hj] at H
      refine mz_step hw (by omega) hR ?_
      exact nm_r (nI_1 i) (ih (i + 1) _ _ (by omega) H)
theorem mz_at {t m : Nat} : nI t * 24 + nI m = nI (t * 24 + m) := by
  have e : nI t * 24 = nI (t * 24) := pk_mul t 24
  rw [e, nI_add]
theorem mz_sp186 {post : St1 → Prop} {sz te mu rd mp mo mk : Int32} {a1 a2 a3 a4 a5 a6 a7 a8 a9 a10 a11 a12 a13 a14 a15 a16 a17 a18 a19 a20 : Nat → Int32} {x5 z0 : Int32} {q : Nat} (hq : q < 144) (hz : z0 = 0 ∨ z0 = 1)
    (H : ∀ a16' : Nat → Int32, post (sz, te, mu, rd, mp, mo, mk, a1, a2, a3, a4, a5, a6, a7, a8, a9, a10, a11, a12, a13, (upd a14 q z0), (upd a15 q (if z0 = 0 then 0 else a17 4)), a16', a17, a18, a19, a20)) : wX_split_186 post x5 (nI q) z0 (nI q) sz te mu rd mp mo mk a1 a2 a3 a4 a5 a6 a7 a8 a9 a10 a11 a12 a13 a14 a15 a16 a17 a18 a19 a20 := by
  have ec : (nI q).toNatClampNeg = q := nI_clamp (by omega)
  have hn : vp_nar .boolean z0 = z0 := by
    rcases hz with e | e
    · rw [e]; exact mb_b0
    · rw [e]; exact mb_b1
  unfold wX_split_186
  rw [ec, hn]
  refine ⟨pk_in q 144 hq, nm_e ⟨pk_in q 144 hq, ?_⟩⟩
  rw [pk_us]
  refine br_c (fun g => ⟨pk_in q 144 hq, nm_e ⟨pk_in q 144 hq, nm_e ?_⟩⟩) (fun g => ⟨pk_in q 144 hq, nm_e ⟨pk_in q 144 hq, nm_e ?_⟩⟩)
  · rw [if_pos g] at H
    exact H _
  · rw [if_neg g] at H
    exact H _
theorem mz_sp153 {post : St1 → Prop} {te mu rd mp mo mk : Int32} {a1 a2 a3 a4 a5 a6 a7 a8 a9 a10 a11 a12 a13 a14 a15 a16 a17 a18 a19 a20 : Nat → Int32} {t m n : Nat} {x4 x5 : Int32} (ht : t < 6) (hm : m < 24) (hn : n ≤ 12)
    (H : ∀ a16' : Nat → Int32, post ((nI n), te, mu, rd, mp, mo, mk, a1, a2, a3, a4, a5, a6, a7, a8, a9, a10, a11, a12, a13, (upd a14 (t * 24 + m) (mz_e n x4)), (upd a15 (t * 24 + m) (mz_o n x4 (a17 4))), a16', a17, a18, a19, a20)) : wX_split_153 post (nI t) (nI m) x4 x5 (nI n) te mu rd mp mo mk a1 a2 a3 a4 a5 a6 a7 a8 a9 a10 a11 a12 a13 a14 a15 a16 a17 a18 a19 a20 := by
  have h1 : (x4 < 0 ∨ nI n ≤ x4) → wX_split_186 post x5 (nI (t * 24 + m)) 1 (nI (t * 24 + m)) (nI n) te mu rd mp mo mk a1 a2 a3 a4 a5 a6 a7 a8 a9 a10 a11 a12 a13 a14 a15 a16 a17 a18 a19 a20 := by
    intro z
    rw [mz_eT z, mz_oT z] at H
    exact mz_sp186 (by omega) (Or.inr rfl) (fun a16' => H a16')
  unfold wX_split_153
  refine nm_r mz_at (br_c (fun z => h1 (Or.inl z)) (fun z => br_c (fun z2 => ?_) (fun z2 => h1 (Or.inr ?_))))
  · have e : ¬ (x4 < 0 ∨ nI n ≤ x4) := fun y => y.elim z (fun y => (mz_ltN y hn).2 z2)
    rw [mz_eF e, mz_oF e] at H
    exact mz_sp186 (by omega) (Or.inl rfl) (fun a16' => H a16')
  · rcases pk_ix x4 (n := n) (by omega) with y | y | ⟨j, hj, rfl⟩
    · exact absurd y z
    · exact y
    · exact absurd (nI_lt hj (by omega)) z2
/-- a mutant that changes nothing: at place w it puts what stands there -/
def mz_id (a1 a3 a9 a10 : Nat → Int32) (w m : Nat) : Prop := (a9 m = 0 → a10 m = a3 w) ∧ (¬ a9 m = 0 → a10 m = a1 w)
/-- the outcome of the program from place p on, f instructions at most -/
def mz_E (n : Nat) (a1 a2 a3 : Nat → Int32) (f : Nat) (p : Int32) (a : Nat → Int32) : Int32 := mz_e n (mz_run 0 n a1 a3 a2 f p a).1
def mz_O (n : Nat) (a1 a2 a3 : Nat → Int32) (f : Nat) (p : Int32) (a : Nat → Int32) : Int32 := mz_o n (mz_run 0 n a1 a3 a2 f p a).1 ((mz_run 0 n a1 a3 a2 f p a).2 0)
theorem mz_EW {n : Nat} {a1 a2 a3 : Nat → Int32} (hn : n ≤ 12) (hR : mz_R a2) {f : Nat} {p : Int32} {a a' : Nat → Int32} (h : ∀ j, j < 4 → a j = a' j) : mz_E n a1 a2 a3 f p a = mz_E n a1 a2 a3 f p a' ∧ mz_O n a1 a2 a3 f p a = mz_O n a1 a2 a3 f p a' := by
  have w : mz_W 0 0 a a' := fun j hj => by rw [Nat.zero_add]; exact h j hj
  obtain ⟨h1, h2⟩ := mz_Wrun (F := a1) (G := a3) hn hR f p a a' w
  unfold mz_E mz_O
  have h3 : (mz_run 0 n a1 a3 a2 f p a).2 0 = (mz_run 0 n a1 a3 a2 f p a').2 0 := h2 0 (by omega)
  rw [h1, h3]
  exact ⟨rfl, rfl⟩
/-- the two codes of a mutant -/
theorem mz_sp104 {post : St1 → Prop} {te mu rd mo : Int32} {a1 a2 a3 a4 a5 a6 a7 a8 a9 a10 a11 a12 a13 a14 a15 a16 a17 a18 a19 a20 : Nat → Int32} {t m n w q : Nat} {mk mk0 : Int32} (ht : t < 6) (hm : m < 24) (hn : n ≤ 12) (hw : w < 12) (hR : mz_R a2) (h8 : a8 m = nI w) (hq : q ≤ 100)
    (H : ∀ (E O : Int32) (a16' a17' : Nat → Int32), (mo = a1 w → mk = a3 w → ∀ a : Nat → Int32, mz_W 4 0 a17 a → E = mz_E n a1 a2 a3 (100 - q) (nI w) a ∧ O = mz_O n a1 a2 a3 (100 - q) (nI w) a) → (∀ j, j < 4 → a17' j = a17 j) →
      post ((nI n), te, mu, rd, (nI w), mo, mk, a1, a2, a3, a4, a5, a6, a7, a8, a9, a10, a11, a12, a13, (upd a14 (t * 24 + m) E), (upd a15 (t * 24 + m) O), a16', a17', a18, a19, a20)) : wX_split_104 post (nI t) (nI m) (nI q) mk (nI n) te mu rd (nI w) mo mk0 a1 a2 a3 a4 a5 a6 a7 a8 a9 a10 a11 a12 a13 a14 a15 a16 a17 a18 a19 a20 := by
  have ec : (nI m).toNatClampNeg = m := nI_clamp (by omega)
  unfold wX_split_104
  rw [ec]
  refine ⟨pk_in m 24 hm, nm_r h8 ⟨100 - q + 1, ?_⟩⟩
  refine mz_sp118 hn hw hR (100 - q) q (nI w) a17 (by omega) (fun x5 => mz_sp153 ht hm hn (fun a16' => H _ _ a16' _ ?_ ?_))
  · intro e1 e2 a hW
    rw [e1, e2, mz_updS, mz_updS]
    obtain ⟨g1, g2⟩ := mz_Wrun (F := a1) (G := a3) hn hR (100 - q) (nI w) a17 a hW
    have g3 : (mz_run 4 n a1 a3 a2 (100 - q) (nI w) a17).2 4 = (mz_run 0 n a1 a3 a2 (100 - q) (nI w) a).2 0 := g2 0 (by omega)
    unfold mz_E mz_O
    rw [g1, g3]
    exact ⟨rfl, rfl⟩
  · exact fun j hj => mz_runK _ _ _ j hj
theorem mz_sp71 {post : St1 → Prop} {te mu rd mk : Int32} {a1 a2 a3 a4 a5 a6 a7 a8 a9 a10 a11 a12 a13 a14 a15 a16 a17 a18 a19 a20 : Nat → Int32} {t m n w q : Nat} {mo mo0 : Int32} (ht : t < 6) (hm : m < 24) (hn : n ≤ 12) (hw : w < 12) (hR : mz_R a2) (h8 : a8 m = nI w) (hq : q ≤ 100)
    (H : ∀ (mk' E O : Int32) (a16' a17' : Nat → Int32), (mo = a1 w → mz_id a1 a3 a9 a10 w m → ∀ a : Nat → Int32, mz_W 4 0 a17 a → E = mz_E n a1 a2 a3 (100 - q) (nI w) a ∧ O = mz_O n a1 a2 a3 (100 - q) (nI w) a) → (∀ j, j < 4 → a17' j = a17 j) →
      post ((nI n), te, mu, rd, (nI w), mo, mk', a1, a2, a3, a4, a5, a6, a7, a8, a9, a10, a11, a12, a13, (upd a14 (t * 24 + m) E), (upd a15 (t * 24 + m) O), a16', a17', a18, a19, a20)) : wX_split_71 post (nI t) (nI m) (nI q) mo (nI n) te mu rd (nI w) mo0 mk a1 a2 a3 a4 a5 a6 a7 a8 a9 a10 a11 a12 a13 a14 a15 a16 a17 a18 a19 a20 := by
  have ec : (nI m).toNatClampNeg = m := nI_clamp (by omega)
  have ew : (nI w).toNatClampNeg = w := nI_clamp (by omega)
  unfold wX_split_71
  rw [ec, h8, ew]
  refine ⟨pk_in m 24 hm, br_c (fun g => ⟨pk_in m 24 hm, ?_⟩) (fun g => ⟨pk_in m 24 hm, pk_in w 12 hw, ?_⟩)⟩
  · exact mz_sp104 ht hm hn hw hR h8 hq (fun E O a16' a17' h => H _ E O a16' a17' (fun e1 e2 => h e1 (e2.1 g)))
  · exact mz_sp104 ht hm hn hw hR h8 hq (fun E O a16' a17' h => H _ E O a16' a17' (fun e1 e2 => h e1 rfl))
theorem mz_sp3 {post : St1 → Prop} {te mu rd mp mo mk : Int32} {a1 a2 a3 a4 a5 a6 a7 a8 a9 a10 a11 a12 a13 a14 a15 a16 a18 a19 a20 : Nat → Int32} {t m n w q : Nat} (ht : t < 6) (hm : m < 24) (hn : n ≤ 12) (hw : w < 12) (hR : mz_R a2) (h8 : a8 m = nI w) (hq : q ≤ 100) (a : Nat → Int32)
    (H : ∀ (mp' mo' mk' E O : Int32) (a16' a17' : Nat → Int32), (mz_id a1 a3 a9 a10 w m → E = mz_E n a1 a2 a3 (100 - q) (nI w) a ∧ O = mz_O n a1 a2 a3 (100 - q) (nI w) a) → (∀ j, j < 4 → a17' j = a j) →
      post ((nI n), te, mu, rd, mp', mo', mk', a1, a2, a3, a4, a5, a6, a7, a8, a9, a10, a11, a12, a13, (upd a14 (t * 24 + m) E), (upd a15 (t * 24 + m) O), a16', a17', a18, a19, a20)) : ∀ (f i : Nat) (a17 : Nat → Int32), f + i = 4 → (∀ j, j < 4 → a17 j = a j) → (∀ j, j < i → a17 (4 + j) = a j) →
      wX_split_3 post (nI t) (nI m) (nI q) (nI n) te mu rd mp mo mk (f + 1) (nI i) a1 a2 a3 a4 a5 a6 a7 a8 a9 a10 a11 a12 a13 a14 a15 a16 a17 a18 a19 a20 := by
  have ec : (nI m).toNatClampNeg = m := nI_clamp (by omega)
  have ew : (nI w).toNatClampNeg = w := nI_clamp (by omega)
  intro f
  induction f with
  | zero =>
    intro i a17 hi h1 h2
    refine pk_le 4 i (fun _ => ?_) (fun z => absurd z (by omega))
    have hW : mz_W 4 0 a17 a := by
      intro j hj
      rw [Nat.zero_add]
      exact h2 j (by omega)
    rw [ec, h8, ew]
    refine ⟨pk_in m 24 hm, nm_e ⟨pk_in m 24 hm, br_c (fun g => ⟨pk_in m 24 hm, pk_in w 12 hw, ?_⟩) (fun g => ⟨pk_in m 24 hm, ?_⟩)⟩⟩
    · exact mz_sp71 ht hm hn hw hR h8 hq (fun mk' E O a16' a17' h h' => H _ _ mk' E O a16' a17' (fun e => h rfl e a hW) (fun j hj => by rw [h' j hj]; exact h1 j hj))
    · exact mz_sp71 ht hm hn hw hR h8 hq (fun mk' E O a16' a17' h h' => H _ _ mk' E O a16' a17' (fun e => h (e.2 g) e a hW) (fun j hj => by rw [h' j hj]; exact h1 j hj))
  | succ f ih =>
    intro i a17 hi h1 h2
    have ei : (nI i).toNatClampNeg = i := nI_clamp (by omega)
    have e4 : (4 : Int32) + nI i = nI (4 + i) := nI_add 4 i
    have e4c : (nI (4 + i)).toNatClampNeg = 4 + i := nI_clamp (by omega)
    refine pk_le 4 i (fun z => absurd z (by omega)) (fun _ => ?_)
    rw [e4, ei, e4c]
    refine ⟨pk_in i 8 (by omega), pk_in (4 + i) 8 (by omega), nm_e (nm_r (nI_1 i) (ih (i + 1) _ (by omega) ?_ ?_))⟩
    · intro j hj
      rw [pk_un (by omega)]
      exact h1 j hj
    · intro j hj
      by_cases e : j = i
      · rw [e, pk_us]; exact h1 i (by omega)
      · rw [pk_un (by omega)]; exact h2 j (by omega)
theorem mz_split {post : St1 → Prop} {te mu rd mp mo mk : Int32} {a1 a2 a3 a4 a5 a6 a7 a8 a9 a10 a11 a12 a13 a14 a15 a16 a17 a18 a19 a20 : Nat → Int32} {t m n w q : Nat} (ht : t < 6) (hm : m < 24) (hn : n ≤ 12) (hw : w < 12) (hR : mz_R a2) (h8 : a8 m = nI w) (hq : q ≤ 100)
    (H : ∀ (mp' mo' mk' E O : Int32) (a16' a17' : Nat → Int32), (mz_id a1 a3 a9 a10 w m → E = mz_E n a1 a2 a3 (100 - q) (nI w) a17 ∧ O = mz_O n a1 a2 a3 (100 - q) (nI w) a17) → (∀ j, j < 4 → a17' j = a17 j) →
      post ((nI n), te, mu, rd, mp', mo', mk', a1, a2, a3, a4, a5, a6, a7, a8, a9, a10, a11, a12, a13, (upd a14 (t * 24 + m) E), (upd a15 (t * 24 + m) O), a16', a17', a18, a19, a20)) : wpX_split post ((nI n), te, mu, rd, mp, mo, mk, a1, a2, a3, a4, a5, a6, a7, a8, a9, a10, a11, a12, a13, a14, a15, a16, a17, a18, a19, a20) (nI t) (nI m) (nI q) := by
  unfold wpX_split
  exact ⟨5, mz_sp3 ht hm hn hw hR h8 hq a17 H 4 0 a17 (by omega) (fun j hj => rfl) (fun j hj => absurd hj (by omega))⟩
/-- nothing but row t is written -/
def mz_K (t : Nat) (a14 a15 a14' a15' : Nat → Int32) : Prop := ∀ x, (x < t * 24 ∨ t * 24 + 24 ≤ x) → a14' x = a14 x ∧ a15' x = a15 x
theorem mz_K0 {t : Nat} {a14 a15 : Nat → Int32} : mz_K t a14 a15 a14 a15 := fun _ _ => ⟨rfl, rfl⟩
theorem mz_K2 {t : Nat} {a14 a15 a14' a15' a14'' a15'' : Nat → Int32} (h : mz_K t a14 a15 a14' a15') (h' : mz_K t a14' a15' a14'' a15'') : mz_K t a14 a15 a14'' a15'' := fun x hx => ⟨by rw [(h' x hx).1, (h x hx).1], by rw [(h' x hx).2, (h x hx).2]⟩
theorem mz_Ku {t m : Nat} {a14 a15 : Nat → Int32} {E O : Int32} (hm : m < 24) : mz_K t a14 a15 (upd a14 (t * 24 + m) E) (upd a15 (t * 24 + m) O) := fun x hx => ⟨pk_un (by omega), pk_un (by omega)⟩
/-- of row t the places of mutants that do not stand at p are kept -/
def mz_P (t p : Nat) (a8 a14 a15 a14' a15' : Nat → Int32) : Prop := ∀ m, m < 24 → ¬ a8 m = nI p → a14' (t * 24 + m) = a14 (t * 24 + m) ∧ a15' (t * 24 + m) = a15 (t * 24 + m)
theorem mz_sA {post : St1 → Prop} {t M n p q : Nat} {a1 a2 a3 a4 a5 a6 a7 a8 a9 a10 a11 a12 a13 a18 a19 a20 : Nat → Int32} {te rd : Int32} (ht : t < 6) (hM : M ≤ 24) (hn : n ≤ 12) (hp : p < 12) (hR : mz_R a2) (hq : q ≤ 100) (b14 b15 b17 : Nat → Int32)
    (H : ∀ (mp' mo' mk' : Int32) (a14' a15' a16' a17' : Nat → Int32), (∀ j, j < 4 → a17' j = b17 j) → mz_K t b14 b15 a14' a15' → mz_P t p a8 b14 b15 a14' a15' →
      (∀ m, m < M → a8 m = nI p → mz_id a1 a3 a9 a10 p m → a14' (t * 24 + m) = mz_E n a1 a2 a3 (100 - q) (nI p) b17 ∧ a15' (t * 24 + m) = mz_O n a1 a2 a3 (100 - q) (nI p) b17) →
      post ((nI n), te, (nI M), rd, mp', mo', mk', a1, a2, a3, a4, a5, a6, a7, a8, a9, a10, a11, a12, a13, a14', a15', a16', a17', a18, a19, a20)) :
    ∀ (f i : Nat) (mp mo mk : Int32) (a14 a15 a16 a17 : Nat → Int32), f + i = M → (∀ j, j < 4 → a17 j = b17 j) → mz_K t b14 b15 a14 a15 → mz_P t p a8 b14 b15 a14 a15 →
      (∀ m, m < i → a8 m = nI p → mz_id a1 a3 a9 a10 p m → a14 (t * 24 + m) = mz_E n a1 a2 a3 (100 - q) (nI p) b17 ∧ a15 (t * 24 + m) = mz_O n a1 a2 a3 (100 - q) (nI p) b17) →
      wX_splitAll_3 post (nI t) (nI p) (nI q) (f + 1) (nI i) (nI n) te (nI M) rd mp mo mk a1 a2 a3 a4 a5 a6 a7 a8 a9 a10 a11 a12 a13 a14 a15 a16 a17 a18 a19 a20 := by
  intro f
  induction f with
  | zero =>
    intro i mp mo mk a14 a15 a16 a17 hi h1 h2 h3 h4
    have e : i = M := by omega
    subst e
    exact pk_le i i (fun _ => H mp mo mk a14 a15 a16 a17 h1 h2 h3 h4) (fun z => absurd z (by omega))
  | succ f ih =>
    intro i mp mo mk a14 a15 a16 a17 hi h1 h2 h3 h4
    have ei : (nI i).toNatClampNeg = i := nI_clamp (by omega)
    refine pk_le M i (fun z => absurd z (by omega)) (fun _ => ⟨pk_in i 24 (by omega), ?_⟩)
    rw [ei]
    refine br_c (fun g => ?_) (fun g => ?_)
    · refine mz_split ht (by omega) hn hp hR g hq (fun mp' mo' mk' E O a16' a17' k1 k2 => nm_r (nI_1 i) (ih (i + 1) mp' mo' mk' _ _ a16' a17' (by omega) ?_ ?_ ?_ ?_))
      · exact fun j hj => by rw [k2 j hj]; exact h1 j hj
      · exact mz_K2 h2 (mz_Ku (by omega))
      · intro m hm hz
        have hmi : m ≠ i := fun z => hz (by rw [z]; exact g)
        rw [pk_un (by omega), pk_un (by omega)]
        exact h3 m hm hz
      · intro m hm hz hd
        by_cases e : m = i
        · subst e
          rw [pk_us, pk_us]
          obtain ⟨r1, r2⟩ := mz_EW (f := 100 - q) (p := nI p) (a1 := a1) (a3 := a3) hn hR h1
          rw [← r1, ← r2]
          exact k1 hd
        · rw [pk_un (by omega), pk_un (by omega)]
          exact h4 m (by omega) hz hd
    · refine nm_r (nI_1 i) (ih (i + 1) mp mo mk a14 a15 a16 a17 (by omega) h1 h2 h3 ?_)
      intro m hm hz hd
      by_cases e : m = i
      · exact absurd (e ▸ hz) g
      · exact h4 m (by omega) hz hd
theorem mz_splitAll {post : St1 → Prop} {te rd mp mo mk : Int32} {a1 a2 a3 a4 a5 a6 a7 a8 a9 a10 a11 a12 a13 a14 a15 a16 a17 a18 a19 a20 : Nat → Int32} {t M n p q : Nat} (ht : t < 6) (hM : M ≤ 24) (hn : n ≤ 12) (hp : p < 12) (hR : mz_R a2) (hq : q ≤ 100)
    (H : ∀ (mp' mo' mk' : Int32) (a14' a15' a16' a17' : Nat → Int32), (∀ j, j < 4 → a17' j = a17 j) → mz_K t a14 a15 a14' a15' → mz_P t p a8 a14 a15 a14' a15' →
      (∀ m, m < M → a8 m = nI p → mz_id a1 a3 a9 a10 p m → a14' (t * 24 + m) = mz_E n a1 a2 a3 (100 - q) (nI p) a17 ∧ a15' (t * 24 + m) = mz_O n a1 a2 a3 (100 - q) (nI p) a17) →
      post ((nI n), te, (nI M), rd, mp', mo', mk', a1, a2, a3, a4, a5, a6, a7, a8, a9, a10, a11, a12, a13, a14', a15', a16', a17', a18, a19, a20)) : wpX_splitAll post ((nI n), te, (nI M), rd, mp, mo, mk, a1, a2, a3, a4, a5, a6, a7, a8, a9, a10, a11, a12, a13, a14, a15, a16, a17, a18, a19, a20) (nI t) (nI p) (nI q) := by
  unfold wpX_splitAll
  exact ⟨M + 1, mz_sA ht hM hn hp hR hq a14 a15 a17 H M 0 mp mo mk a14 a15 a16 a17 (by omega) (fun j hj => rfl) mz_K0 (fun m hm hz => ⟨rfl, rfl⟩) (fun m hm => absurd hm (by omega))⟩
end
section
/-! the program's run on a test -/
/-- of row t the places of mutants that stand at 0 are kept -/
def mz_Z (t : Nat) (a8 a14 a15 a14' a15' : Nat → Int32) : Prop := ∀ m, m < 24 → a8 m = 0 → a14' (t * 24 + m) = a14 (t * 24 + m) ∧ a15' (t * 24 + m) = a15 (t * 24 + m)
theorem mz_Z0 {t : Nat} {a8 a14 a15 : Nat → Int32} : mz_Z t a8 a14 a15 a14 a15 := fun _ _ _ => ⟨rfl, rfl⟩
theorem mz_Z2 {t : Nat} {a8 a14 a15 a14' a15' a14'' a15'' : Nat → Int32} (h : mz_Z t a8 a14 a15 a14' a15') (h' : mz_Z t a8 a14' a15' a14'' a15'') : mz_Z t a8 a14 a15 a14'' a15'' := fun m hm hz => ⟨by rw [(h' m hm hz).1, (h m hm hz).1], by rw [(h' m hm hz).2, (h m hm hz).2]⟩
theorem mz_PZ {t p : Nat} {a8 a14 a15 a14' a15' : Nat → Int32} (h0 : 0 < p) (hp : p < 12) (h : mz_P t p a8 a14 a15 a14' a15') : mz_Z t a8 a14 a15 a14' a15' := fun m hm hz => h m hm (fun e => nI_ne0 h0 (by omega) (by rw [← e, hz]))
theorem mz_share {post : St1 → Prop} {sz te mu rd mp mo mk : Int32} {a1 a2 a3 a4 a5 a6 a7 a8 a9 a10 a11 a12 a13 a14 a15 a16 a17 a18 a19 a20 : Nat → Int32} {t m : Nat} (ht : t < 6) (hm : m < 24)
    (H : ∀ (E O : Int32) (a16' : Nat → Int32), post (sz, te, mu, rd, mp, mo, mk, a1, a2, a3, a4, a5, a6, a7, a8, a9, a10, a11, a12, a13, (upd a14 (t * 24 + m) E), (upd a15 (t * 24 + m) O), a16', a17, a18, a19, a20)) : wpX_share post (sz, te, mu, rd, mp, mo, mk, a1, a2, a3, a4, a5, a6, a7, a8, a9, a10, a11, a12, a13, a14, a15, a16, a17, a18, a19, a20) (nI t) (nI m) := by
  have ec : (nI (t * 24 + m)).toNatClampNeg = t * 24 + m := nI_clamp (by omega)
  unfold wpX_share
  refine nm_r mz_at ?_
  rw [ec]
  exact ⟨pk_in t 6 ht, pk_in (t * 24 + m) 144 (by omega), nm_e ⟨pk_in t 6 ht, pk_in (t * 24 + m) 144 (by omega), nm_e ⟨pk_in t 6 ht, pk_in (t * 24 + m) 144 (by omega), nm_e (H _ _ _)⟩⟩⟩
theorem mz_r170 {post : St1 → Prop} {sz te rd mp mo mk : Int32} {a1 a2 a3 a4 a5 a6 a7 a8 a9 a10 a11 a12 a13 a17 a18 a19 a20 : Nat → Int32} {t M : Nat} {x2 : Int32} (ht : t < 6) (hM : M ≤ 24) (hb : mb_t x2 0 = true) (b14 b15 : Nat → Int32)
    (H : ∀ (a14' a15' a16' : Nat → Int32), mz_K t b14 b15 a14' a15' → mz_Z t a8 b14 b15 a14' a15' → post (sz, te, (nI M), rd, mp, mo, mk, a1, a2, a3, a4, a5, a6, a7, a8, a9, a10, a11, a12, a13, a14', a15', a16', a17, a18, a19, a20)) :
    ∀ (f i : Nat) (a14 a15 a16 : Nat → Int32), f + i = M → mz_K t b14 b15 a14 a15 → mz_Z t a8 b14 b15 a14 a15 → wX_runTest_170 post (nI t) x2 (f + 1) (nI i) sz te (nI M) rd mp mo mk a1 a2 a3 a4 a5 a6 a7 a8 a9 a10 a11 a12 a13 a14 a15 a16 a17 a18 a19 a20 := by
  intro f
  induction f with
  | zero =>
    intro i a14 a15 a16 hi h1 h2
    have e : i = M := by omega
    subst e
    exact pk_le i i (fun _ => H a14 a15 a16 h1 h2) (fun z => absurd z (by omega))
  | succ f ih =>
    intro i a14 a15 a16 hi h1 h2
    have ei : (nI i).toNatClampNeg = i := nI_clamp (by omega)
    refine pk_le M i (fun z => absurd z (by omega)) (fun _ => ⟨pk_in i 24 (by omega), ?_⟩)
    rw [ei]
    refine br_c (fun g => ?_) (fun g => ?_)
    · refine mz_share ht (by omega) (fun E O a16' => nm_r (nI_1 i) (ih (i + 1) _ _ a16' (by omega) (mz_K2 h1 (mz_Ku (by omega))) ?_))
      intro m hm hz
      have hmi : m ≠ i := by
        intro e
        rw [e] at hz
        rw [hz] at g
        exact mb_z hb g
      rw [pk_un (by omega), pk_un (by omega)]
      exact h2 m hm hz
    · exact nm_r (nI_1 i) (ih (i + 1) _ _ a16 (by omega) h1 h2)
theorem mz_r133 {post : St1 → Prop} {sz te rd mp mo mk : Int32} {a1 a2 a3 a4 a5 a6 a7 a8 a9 a10 a11 a12 a13 a14 a15 a16 a17 a18 a19 a20 : Nat → Int32} {t M : Nat} {x2 x4 z0 : Int32} (ht : t < 6) (hM : M ≤ 24) (hb : mb_t x2 0 = true) (hz : z0 = 0 ∨ z0 = 1)
    (H : ∀ (a13' a14' a15' a16' : Nat → Int32), mz_K t a14 a15 a14' a15' → mz_Z t a8 a14 a15 a14' a15' → post (sz, te, (nI M), rd, mp, mo, mk, a1, a2, a3, a4, a5, a6, a7, a8, a9, a10, (upd a11 t z0), (upd a12 t (if z0 = 0 then 0 else a17 0)), a13', a14', a15', a16', a17, a18, a19, a20)) :
    wX_runTest_133 post (nI t) x2 x4 z0 (nI t) sz te (nI M) rd mp mo mk a1 a2 a3 a4 a5 a6 a7 a8 a9 a10 a11 a12 a13 a14 a15 a16 a17 a18 a19 a20 := by
  have ec : (nI t).toNatClampNeg = t := nI_clamp (by omega)
  have hn : vp_nar .boolean z0 = z0 := by
    rcases hz with e | e
    · rw [e]; exact mb_b0
    · rw [e]; exact mb_b1
  unfold wX_runTest_133
  rw [ec, hn]
  refine ⟨pk_in t 6 ht, nm_e ⟨pk_in t 6 ht, ?_⟩⟩
  rw [pk_us]
  refine br_c (fun g => ?_) (fun g => ?_)
  · rw [if_pos g] at H
    unfold wX_runTest_158
    rw [ec]
    exact ⟨pk_in t 6 ht, nm_e ⟨pk_in t 6 ht, nm_e ⟨M + 1, mz_r170 ht hM hb a14 a15 (fun a14' a15' a16' k1 k2 => H _ a14' a15' a16' k1 k2) M 0 a14 a15 a16 (by omega) mz_K0 mz_Z0⟩⟩⟩
  · rw [if_neg g] at H
    unfold wX_runTest_158
    rw [ec]
    exact ⟨pk_in t 6 ht, nm_e ⟨pk_in t 6 ht, nm_e ⟨M + 1, mz_r170 ht hM hb a14 a15 (fun a14' a15' a16' k1 k2 => H _ a14' a15' a16' k1 k2) M 0 a14 a15 a16 (by omega) mz_K0 mz_Z0⟩⟩⟩
theorem mz_r111 {post : St1 → Prop} {te rd mp mo mk : Int32} {a1 a2 a3 a4 a5 a6 a7 a8 a9 a10 a11 a12 a13 a14 a15 a16 a17 a18 a19 a20 : Nat → Int32} {t M n : Nat} {x2 x3 x4 : Int32} (ht : t < 6) (hM : M ≤ 24) (hn : n ≤ 12) (hb : mb_t x2 0 = true)
    (H : ∀ (a13' a14' a15' a16' : Nat → Int32), mz_K t a14 a15 a14' a15' → mz_Z t a8 a14 a15 a14' a15' → post ((nI n), te, (nI M), rd, mp, mo, mk, a1, a2, a3, a4, a5, a6, a7, a8, a9, a10, (upd a11 t (mz_e n x3)), (upd a12 t (mz_o n x3 (a17 0))), a13', a14', a15', a16', a17, a18, a19, a20)) :
    wX_runTest_111 post (nI t) x2 x3 x4 (nI n) te (nI M) rd mp mo mk a1 a2 a3 a4 a5 a6 a7 a8 a9 a10 a11 a12 a13 a14 a15 a16 a17 a18 a19 a20 := by
  have h1 : (x3 < 0 ∨ nI n ≤ x3) → wX_runTest_133 post (nI t) x2 x4 1 (nI t) (nI n) te (nI M) rd mp mo mk a1 a2 a3 a4 a5 a6 a7 a8 a9 a10 a11 a12 a13 a14 a15 a16 a17 a18 a19 a20 := by
    intro z
    rw [mz_eT z, mz_oT z] at H
    exact mz_r133 ht hM hb (Or.inr rfl) H
  unfold wX_runTest_111 wX_runTest_128
  refine br_c (fun z => h1 (Or.inl z)) (fun z => br_c (fun z2 => ?_) (fun z2 => h1 (Or.inr ?_)))
  · have e : ¬ (x3 < 0 ∨ nI n ≤ x3) := fun y => y.elim z (fun y => (mz_ltN y hn).2 z2)
    rw [mz_eF e, mz_oF e] at H
    exact mz_r133 ht hM hb (Or.inl rfl) H
  · rcases pk_ix x3 (n := n) (by omega) with y | y | ⟨j, hj, rfl⟩
    · exact absurd y z
    · exact y
    · exact absurd (nI_lt hj (by omega)) z2
theorem mz_r80 {post : St1 → Prop} {J : Int32 → Int32 → Int32 → Int32 → Int32 → Int32 → Int32 → Int32 → Int32 → Int32 → (Nat → Int32) → (Nat → Int32) → (Nat → Int32) → (Nat → Int32) → (Nat → Int32) → (Nat → Int32) → (Nat → Int32) → (Nat → Int32) → (Nat → Int32) → (Nat → Int32) → (Nat → Int32) → (Nat → Int32) → (Nat → Int32) → (Nat → Int32) → (Nat → Int32) → (Nat → Int32) → (Nat → Int32) → (Nat → Int32) → (Nat → Int32) → (Nat → Int32) → Prop}
    {sz te mu rd mp mo mk : Int32} {a1 a2 a3 a4 a5 a6 a7 a8 a9 a10 a11 a12 a13 a14 a15 a16 a17 a18 a19 a20 : Nat → Int32} {j i : Nat} {x1 x2 : Int32} (hj : j < 12) (hR : mz_R a2)
    (H : J (x2 ||| ((1 : Int32) <<< (nI j &&& 31))) (mz_pc 0 (a2 j).toNatClampNeg (a1 j) (a3 j) (nI j) a17) (nI (i + 1)) sz te mu rd mp mo mk a1 a2 a3 a4 a5 a6 a7 a8 a9 a10 a11 a12 a13 a14 a15 a16 (mz_rg 0 (a2 j).toNatClampNeg (a1 j) (a3 j) a17) a18 a19 a20) :
    wX_runTest_80 post J x1 x2 (nI j) (nI i) sz te mu rd mp mo mk a1 a2 a3 a4 a5 a6 a7 a8 a9 a10 a11 a12 a13 a14 a15 a16 a17 a18 a19 a20 := by
  have hk := mz_Rk hR hj
  have ec : (nI j).toNatClampNeg = j := nI_clamp (by omega)
  unfold wX_runTest_80
  refine nm_e ⟨pk_in j 12 hj, pk_in j 12 hj, ?_⟩
  rw [ec]
  exact mz_carry (b := 0) (by omega) hj hk.1 hk.2 (nm_r (nI_1 i) H)
theorem mz_r45 {post : St1 → Prop} {a1 a2 a3 a4 a5 a6 a7 a8 a9 a10 a11 a12 a13 a18 a19 a20 : Nat → Int32} {te rd : Int32} {t M n : Nat} (ht : t < 6) (hM : M ≤ 24) (hn : n ≤ 12) (hR : mz_R a2) :
    ∀ (f i : Nat) (x2 p mp mo mk : Int32) (a14 a15 a16 a17 : Nat → Int32), f + i = 100 → mb_t x2 0 = true →
      (∀ (mp' mo' mk' : Int32) (a13' a14' a15' a16' a17' : Nat → Int32), mz_K t a14 a15 a14' a15' → mz_Z t a8 a14 a15 a14' a15' → post ((nI n), te, (nI M), rd, mp', mo', mk', a1, a2, a3, a4, a5, a6, a7, a8, a9, a10, (upd a11 t (mz_E n a1 a2 a3 f p a17)), (upd a12 t (mz_O n a1 a2 a3 f p a17)), a13', a14', a15', a16', a17', a18, a19, a20)) →
      wX_runTest_45 post (nI t) (f + 1) x2 p (nI i) (nI n) te (nI M) rd mp mo mk a1 a2 a3 a4 a5 a6 a7 a8 a9 a10 a11 a12 a13 a14 a15 a16 a17 a18 a19 a20 := by
  intro f
  induction f with
  | zero =>
    intro i x2 p mp mo mk a14 a15 a16 a17 hi hb H
    exact pk_le 100 i (fun _ => mz_r111 ht hM hn hb (fun a13' a14' a15' a16' k1 k2 => H mp mo mk a13' a14' a15' a16' a17 k1 k2)) (fun z => absurd z (by omega))
  | succ f ih =>
    intro i x2 p mp mo mk a14 a15 a16 a17 hi hb H
    refine pk_le 100 i (fun z => absurd z (by omega)) (fun _ => ?_)
    rcases pk_ix p (n := n) (by omega) with z | z | ⟨j, hj, rfl⟩
    · have e := mz_runO (b := 0) (F := a1) (G := a3) (a2 := a2) (f := f + 1) (n := n) (a := a17) (Or.inl z)
      unfold mz_E mz_O at H
      rw [e] at H
      exact br_t z (mz_r111 ht hM hn hb (fun a13' a14' a15' a16' k1 k2 => H mp mo mk a13' a14' a15' a16' a17 k1 k2))
    · have e := mz_runO (b := 0) (F := a1) (G := a3) (a2 := a2) (f := f + 1) (n := n) (a := a17) (Or.inr z)
      unfold mz_E mz_O at H
      rw [e] at H
      exact br_f (mz_ltN z hn).1 (br_t z (mz_r111 ht hM hn hb (fun a13' a14' a15' a16' k1 k2 => H mp mo mk a13' a14' a15' a16' a17 k1 k2)))
    · have e := mz_runS (b := 0) (F := a1) (G := a3) (a2 := a2) (f := f) (a := a17) hn hj
      have hk := mz_Rk hR (j := j) (by omega)
      unfold mz_E mz_O at H
      rw [e] at H
      refine br_f (nI_pos (by omega)) (br_f (nI_ge hj (by omega)) (br_c (fun g => ?_) (fun g => ?_)))
      · have h0 : 0 < j := by
          rcases Nat.eq_zero_or_pos j with y | y
          · rw [y] at g
            exact absurd g (mb_z hb)
          · exact y
        refine mz_splitAll ht hM hn (by omega) hR (q := i) (by omega) (fun mp' mo' mk' a14' a15' a16' a17' k1 k2 k3 _ => ?_)
        refine mz_r80 (by omega) hR (ih (i + 1) _ _ mp' mo' mk' a14' a15' a16' _ (by omega) (mb_oz hb) ?_)
        intro mp'' mo'' mk'' a13'' a14'' a15'' a16'' a17'' l1 l2
        have w0 : mz_W 0 0 a17' a17 := fun y hy => by rw [Nat.zero_add]; exact k1 y hy
        obtain ⟨r1, r2⟩ := mz_EW (a1 := a1) (a3 := a3) (f := f) (p := mz_pc 0 (a2 j).toNatClampNeg (a1 j) (a3 j) (nI j) a17) hn hR (a := mz_rg 0 (a2 j).toNatClampNeg (a1 j) (a3 j) a17') (a' := mz_rg 0 (a2 j).toNatClampNeg (a1 j) (a3 j) a17)
          (fun y hy => by have := mz_Wrg (o := a1 j) (c := a3 j) w0 hk.1 y hy; rw [Nat.zero_add] at this; exact this)
        rw [mz_Wpc w0 hk.1, r1, r2]
        exact H mp'' mo'' mk'' a13'' a14'' a15'' a16'' a17'' (mz_K2 k2 l1) (mz_Z2 (mz_PZ h0 (by omega) k3) l2)
      · exact mz_r80 (by omega) hR (ih (i + 1) _ _ mp mo mk a14 a15 a16 _ (by omega) (mb_oz hb) H)
/-- the first registers of a test -/
def mz_i (x y : Int32) : Nat → Int32 := fun j => if j = 0 then x else if j = 1 then y else 0
def mz_TE (n : Nat) (a1 a2 a3 a4 a5 : Nat → Int32) (t : Nat) : Int32 := mz_E n a1 a2 a3 100 0 (mz_i (a4 t) (a5 t))
def mz_TO (n : Nat) (a1 a2 a3 a4 a5 : Nat → Int32) (t : Nat) : Int32 := mz_O n a1 a2 a3 100 0 (mz_i (a4 t) (a5 t))
theorem mz_i4 {a : Nat → Int32} {x y : Int32} : ∀ j, j < 4 → (upd (upd (upd (upd a 0 x) 1 y) 2 0) 3 0) j = mz_i x y j := by
  intro j hj
  have hc : j = 0 ∨ j = 1 ∨ j = 2 ∨ j = 3 := by omega
  rcases hc with e | e | e | e <;> subst e
  · rw [pk_un (by omega), pk_un (by omega), pk_un (by omega), pk_us]; rfl
  · rw [pk_un (by omega), pk_un (by omega), pk_us]; rfl
  · rw [pk_un (by omega), pk_us]; rfl
  · rw [pk_us]; rfl
theorem mz_runTest {post : St1 → Prop} {te rd mp mo mk : Int32} {a1 a2 a3 a4 a5 a6 a7 a8 a9 a10 a11 a12 a13 a14 a15 a16 a17 a18 a19 a20 : Nat → Int32} {t M n : Nat} (ht : t < 6) (hM : M ≤ 24) (hn : n ≤ 12) (h0 : 0 < n) (hR : mz_R a2)
    (H : ∀ (mp' mo' mk' : Int32) (a13' a14' a15' a16' a17' : Nat → Int32), mz_K t a14 a15 a14' a15' →
      (∀ m, m < M → a8 m = 0 → mz_id a1 a3 a9 a10 0 m → a14' (t * 24 + m) = mz_TE n a1 a2 a3 a4 a5 t ∧ a15' (t * 24 + m) = mz_TO n a1 a2 a3 a4 a5 t) →
      post ((nI n), te, (nI M), rd, mp', mo', mk', a1, a2, a3, a4, a5, a6, a7, a8, a9, a10, (upd a11 t (mz_TE n a1 a2 a3 a4 a5 t)), (upd a12 t (mz_TO n a1 a2 a3 a4 a5 t)), a13', a14', a15', a16', a17', a18, a19, a20)) : wpX_runTest post ((nI n), te, (nI M), rd, mp, mo, mk, a1, a2, a3, a4, a5, a6, a7, a8, a9, a10, a11, a12, a13, a14, a15, a16, a17, a18, a19, a20) (nI t) := by
  have ec : (nI t).toNatClampNeg = t := nI_clamp (by omega)
  unfold wpX_runTest
  rw [ec]
  refine ⟨pk_in t 6 ht, nm_e ⟨pk_in t 6 ht, nm_e (nm_e (nm_e ⟨101, ?_⟩))⟩⟩
  have hi4 := mz_i4 (a := a17) (x := a4 t) (y := a5 t)
  generalize upd (upd (upd (upd a17 0 (a4 t)) 1 (a5 t)) 2 0) 3 0 = c17 at hi4 ⊢
  refine pk_le 100 0 (fun z => absurd z (by omega)) (fun _ => br_f (by decide) (pk_le n 0 (fun z => absurd z (by omega)) (fun _ => br_t mb_z0 ?_)))
  refine mz_splitAll (p := 0) (q := 0) ht hM hn (by omega) hR (by omega) (fun mp' mo' mk' a14' a15' a16' a17' k1 k2 k3 k4 => ?_)
  refine mz_r80 (j := 0) (i := 0) (by omega) hR (mz_r45 ht hM hn hR 99 1 _ _ mp' mo' mk' a14' a15' a16' _ (by omega) mb_1z ?_)
  intro mp'' mo'' mk'' a13'' a14'' a15'' a16'' a17'' l1 l2
  obtain ⟨r1, r2⟩ := mz_EW (a1 := a1) (a3 := a3) (f := 100) (p := 0) hn hR (a := a17') (a' := mz_i (a4 t) (a5 t)) (fun y hy => by rw [k1 y hy]; exact hi4 y hy)
  obtain ⟨s1, s2⟩ := mz_EW (a1 := a1) (a3 := a3) (f := 100) (p := 0) hn hR (a := c17) (a' := mz_i (a4 t) (a5 t)) hi4
  have e := mz_runS (b := 0) (F := a1) (G := a3) (a2 := a2) (f := 99) (a := a17') hn h0
  have u1 : mz_E n a1 a2 a3 99 (mz_pc 0 (a2 0).toNatClampNeg (a1 0) (a3 0) (nI 0) a17') (mz_rg 0 (a2 0).toNatClampNeg (a1 0) (a3 0) a17') = mz_TE n a1 a2 a3 a4 a5 t := by
    unfold mz_TE
    rw [← r1]
    unfold mz_E
    rw [← e]
    rfl
  have u2 : mz_O n a1 a2 a3 99 (mz_pc 0 (a2 0).toNatClampNeg (a1 0) (a3 0) (nI 0) a17') (mz_rg 0 (a2 0).toNatClampNeg (a1 0) (a3 0) a17') = mz_TO n a1 a2 a3 a4 a5 t := by
    unfold mz_TO
    rw [← r2]
    unfold mz_O
    rw [← e]
    rfl
  rw [u1, u2]
  refine H mp'' mo'' mk'' a13'' a14'' a15'' a16'' a17'' (mz_K2 k2 l1) ?_
  intro m hm hz hd
  obtain ⟨v1, v2⟩ := k4 m hm hz hd
  obtain ⟨w1, w2⟩ := l2 m (by omega) hz
  rw [w1, w2]
  unfold mz_TE mz_TO
  rw [← s1, ← s2]
  exact ⟨v1, v2⟩
/-- what prepare makes -/
def mz_Q (n T M : Nat) (a1 a2 a3 a4 a5 a8 a9 a10 a11 a12 a14 a15 : Nat → Int32) : Prop := ∀ s, s < T → a11 s = mz_TE n a1 a2 a3 a4 a5 s ∧ a12 s = mz_TO n a1 a2 a3 a4 a5 s ∧
  ∀ m, m < M → a8 m = 0 → mz_id a1 a3 a9 a10 0 m → a14 (s * 24 + m) = mz_TE n a1 a2 a3 a4 a5 s ∧ a15 (s * 24 + m) = mz_TO n a1 a2 a3 a4 a5 s
theorem mz_p15 {post : St1 → Prop} {a1 a2 a3 a4 a5 a6 a7 a8 a9 a10 a18 a19 a20 : Nat → Int32} {rd : Int32} {T M n : Nat} (hT : T ≤ 6) (hM : M ≤ 24) (hn : n ≤ 12) (h0 : 0 < n) (hR : mz_R a2)
    (H : ∀ (mp' mo' mk' : Int32) (a11' a12' a13' a14' a15' a16' a17' : Nat → Int32), mz_Q n T M a1 a2 a3 a4 a5 a8 a9 a10 a11' a12' a14' a15' → post ((nI n), (nI T), (nI M), rd, mp', mo', mk', a1, a2, a3, a4, a5, a6, a7, a8, a9, a10, a11', a12', a13', a14', a15', a16', a17', a18, a19, a20)) :
    ∀ (f i : Nat) (mp mo mk : Int32) (a11 a12 a13 a14 a15 a16 a17 : Nat → Int32), f + i = T → mz_Q n i M a1 a2 a3 a4 a5 a8 a9 a10 a11 a12 a14 a15 →
      wX_prepare_15 post (f + 1) (nI i) (nI n) (nI T) (nI M) rd mp mo mk a1 a2 a3 a4 a5 a6 a7 a8 a9 a10 a11 a12 a13 a14 a15 a16 a17 a18 a19 a20 := by
  intro f
  induction f with
  | zero =>
    intro i mp mo mk a11 a12 a13 a14 a15 a16 a17 hi h1
    have e : i = T := by omega
    subst e
    exact pk_le i i (fun _ => H mp mo mk a11 a12 a13 a14 a15 a16 a17 h1) (fun z => absurd z (by omega))
  | succ f ih =>
    intro i mp mo mk a11 a12 a13 a14 a15 a16 a17 hi h1
    refine pk_le T i (fun z => absurd z (by omega)) (fun _ => ?_)
    refine mz_runTest (by omega) hM hn h0 hR (fun mp' mo' mk' a13' a14' a15' a16' a17' k1 k2 => nm_r (nI_1 i) (ih (i + 1) mp' mo' mk' _ _ a13' a14' a15' a16' a17' (by omega) ?_))
    intro s hs
    by_cases e : s = i
    · subst e
      exact ⟨pk_us, pk_us, k2⟩
    · obtain ⟨g1, g2, g3⟩ := h1 s (by omega)
      refine ⟨by rw [pk_un e]; exact g1, by rw [pk_un e]; exact g2, fun m hm hz hd => ?_⟩
      obtain ⟨r1, r2⟩ := k1 (s * 24 + m) (by omega)
      rw [r1, r2]
      exact g3 m hm hz hd
theorem mz_prepare {post : St1 → Prop} {rd mp mo mk : Int32} {a1 a2 a3 a4 a5 a6 a7 a8 a9 a10 a11 a12 a13 a14 a15 a16 a17 a18 a19 a20 : Nat → Int32} {T M n : Nat} (hT : T ≤ 6) (hM : M ≤ 24) (hn : n ≤ 12) (h0 : 0 < n) (hR : mz_R a2)
    (H : ∀ (rd' mp' mo' mk' : Int32) (a11' a12' a13' a14' a15' a16' a17' : Nat → Int32), ¬ rd' = 0 → (rd = 0 → mz_Q n T M a1 a2 a3 a4 a5 a8 a9 a10 a11' a12' a14' a15') →
      (¬ rd = 0 → a11' = a11 ∧ a12' = a12 ∧ a14' = a14 ∧ a15' = a15) → post ((nI n), (nI T), (nI M), rd', mp', mo', mk', a1, a2, a3, a4, a5, a6, a7, a8, a9, a10, a11', a12', a13', a14', a15', a16', a17', a18, a19, a20)) : wpX_prepare post ((nI n), (nI T), (nI M), rd, mp, mo, mk, a1, a2, a3, a4, a5, a6, a7, a8, a9, a10, a11, a12, a13, a14, a15, a16, a17, a18, a19, a20) := by
  unfold wpX_prepare
  refine br_c (fun g => ⟨T + 1, ?_⟩) (fun g => H rd mp mo mk a11 a12 a13 a14 a15 a16 a17 g (fun z => absurd z g) (fun _ => ⟨rfl, rfl, rfl, rfl⟩))
  exact mz_p15 hT hM hn h0 hR (fun mp' mo' mk' a11' a12' a13' a14' a15' a16' a17' h => H 1 mp' mo' mk' a11' a12' a13' a14' a15' a16' a17' (by decide) (fun _ => h) (fun z => absurd g z)) T 0 mp mo mk a11 a12 a13 a14 a15 a16 a17 (by omega) (fun s hs => absurd hs (by omega))
end
section
/-! which test kills which mutant -/
def mz_dead (a6 a7 a14 a15 : Nat → Int32) (t m : Nat) : Bool := decide (¬ a14 (t * 24 + m) = a6 t ∨ (¬ a14 (t * 24 + m) = 0 ∧ ¬ a15 (t * 24 + m) = a7 t))
def mz_KK (T M : Nat) (a6 a7 a14 a15 : Nat → Int32) (t : Nat) : Nat := if t < T then mz_mask (mz_dead a6 a7 a14 a15 t) M else 0
theorem mz_KKlt {T M : Nat} {a6 a7 a14 a15 : Nat → Int32} (hM : M ≤ 24) (t : Nat) : mz_KK T M a6 a7 a14 a15 t < 2 ^ 24 := by
  unfold mz_KK
  split
  · exact Nat.lt_of_lt_of_le (mz_mask_lt _ M) (Nat.pow_le_pow_right (by decide) hM)
  · decide
theorem mz_killsIt {post : Int32 → Prop} {sz te mu rd mp mo mk : Int32} {a1 a2 a3 a4 a5 a6 a7 a8 a9 a10 a11 a12 a13 a14 a15 a16 a17 a18 a19 a20 : Nat → Int32} {t m : Nat} (ht : t < 6) (hm : m < 24) (H : post (if mz_dead a6 a7 a14 a15 t m then 1 else 0)) : wpX_killsIt post (sz, te, mu, rd, mp, mo, mk, a1, a2, a3, a4, a5, a6, a7, a8, a9, a10, a11, a12, a13, a14, a15, a16, a17, a18, a19, a20) (nI t) (nI m) := by
  have ec : (nI (t * 24 + m)).toNatClampNeg = t * 24 + m := nI_clamp (by omega)
  have et : (nI t).toNatClampNeg = t := nI_clamp (by omega)
  have i1 : vp_in (nI (t * 24 + m)) 144 := vp_in_nI (by omega) (by omega)
  have i2 : vp_in (nI t) 6 := vp_in_nI ht (by omega)
  unfold wpX_killsIt
  refine nm_r mz_at ?_
  rw [ec, et]
  refine ⟨i1, i2, br_c (fun g1 => ⟨i1, br_c (fun g2 => ?_) (fun g2 => ⟨i1, i2, br_c (fun g3 => ?_) (fun g3 => ?_)⟩)⟩) (fun g1 => ?_)⟩
  · have e : mz_dead a6 a7 a14 a15 t m = false := decide_eq_false (fun z => z.elim (fun y => y g1) (fun y => y.1 g2))
    rw [e] at H
    exact H
  · have e : mz_dead a6 a7 a14 a15 t m = false := decide_eq_false (fun z => z.elim (fun y => y g1) (fun y => y.2 g3))
    rw [e] at H
    exact H
  · have e : mz_dead a6 a7 a14 a15 t m = true := decide_eq_true (Or.inr ⟨g2, g3⟩)
    rw [e] at H
    exact H
  · have e : mz_dead a6 a7 a14 a15 t m = true := decide_eq_true (Or.inl g1)
    rw [e] at H
    exact H
theorem mz_g21 {post : St1 → Prop} {J : Int32 → (Nat → Int32) → (Nat → Int32) → (Nat → Int32) → (Nat → Int32) → (Nat → Int32) → (Nat → Int32) → (Nat → Int32) → (Nat → Int32) → (Nat → Int32) → (Nat → Int32) → (Nat → Int32) → (Nat → Int32) → (Nat → Int32) → (Nat → Int32) → (Nat → Int32) → (Nat → Int32) → (Nat → Int32) → (Nat → Int32) → (Nat → Int32) → (Nat → Int32) → Prop}
    {sz rd mp mo mk : Int32} {a1 a2 a3 a4 a5 a6 a7 a8 a9 a10 a11 a12 a13 a14 a15 a16 a17 a19 a20 : Nat → Int32} {t T M : Nat} (ht : t < 6) (hT : T ≤ 6) (hM : M ≤ 24) (htT : t < T) (b18 : Nat → Int32)
    (H : ∀ a18' : Nat → Int32, a18' t = nI (mz_KK T M a6 a7 a14 a15 t) → (∀ j, j ≠ t → a18' j = b18 j) → J (nI (t + 1)) a1 a2 a3 a4 a5 a6 a7 a8 a9 a10 a11 a12 a13 a14 a15 a16 a17 a18' a19 a20) :
    ∀ (f i : Nat) (a18 : Nat → Int32), f + i = M → a18 t = nI (mz_mask (mz_dead a6 a7 a14 a15 t) i) → (∀ j, j ≠ t → a18 j = b18 j) → wX_gatherKills_21 post J (nI t) sz (nI T) (nI M) rd mp mo mk (f + 1) (nI i) a1 a2 a3 a4 a5 a6 a7 a8 a9 a10 a11 a12 a13 a14 a15 a16 a17 a18 a19 a20 := by
  intro f
  induction f with
  | zero =>
    intro i a18 hi h1 h2
    have e : i = M := by omega
    subst e
    refine pk_le i i (fun _ => nm_r (nI_1 t) (H a18 ?_ h2)) (fun z => absurd z (by omega))
    unfold mz_KK
    rw [if_pos htT]
    exact h1
  | succ f ih =>
    intro i a18 hi h1 h2
    have et : (nI t).toNatClampNeg = t := nI_clamp (by omega)
    refine pk_le M i (fun z => absurd z (by omega)) (fun _ => pk_le T t (fun z => absurd z (by omega)) (fun _ => ?_))
    refine mz_killsIt ht (by omega) ?_
    show (_ → _) ∧ (_ → _)
    by_cases hd : mz_dead a6 a7 a14 a15 t i = true
    · rw [if_pos hd]
      refine br_f (by decide) ⟨pk_in t 6 ht, pk_in t 6 ht, ?_⟩
      rw [et]
      refine nm_e (nm_r (nI_1 i) (ih (i + 1) _ (by omega) ?_ ?_))
      · rw [pk_us, h1, mb_one (by omega), mb_nor]
        show _ = nI (if mz_dead a6 a7 a14 a15 t i then _ else _)
        rw [if_pos hd]
      · intro j hj
        rw [pk_un hj]
        exact h2 j hj
    · rw [if_neg hd]
      refine br_t rfl (nm_r (nI_1 i) (ih (i + 1) _ (by omega) ?_ h2))
      rw [h1]
      show _ = nI (if mz_dead a6 a7 a14 a15 t i then _ else _)
      rw [if_neg hd]
theorem mz_g6 {post : St1 → Prop} {sz rd mp mo mk : Int32} {a1 a2 a3 a4 a5 a6 a7 a8 a9 a10 a11 a12 a13 a14 a15 a16 a17 a19 a20 : Nat → Int32} {T M : Nat} (hT : T ≤ 6) (hM : M ≤ 24)
    (H : ∀ a18' : Nat → Int32, (∀ t, t < 6 → a18' t = nI (mz_KK T M a6 a7 a14 a15 t)) → post (sz, (nI T), (nI M), rd, mp, mo, mk, a1, a2, a3, a4, a5, a6, a7, a8, a9, a10, a11, a12, a13, a14, a15, a16, a17, a18', a19, a20)) :
    ∀ (f i : Nat) (a18 : Nat → Int32), f + i = 6 → (∀ t, t < i → a18 t = nI (mz_KK T M a6 a7 a14 a15 t)) → wX_gatherKills_6 post sz (nI T) (nI M) rd mp mo mk (f + 1) (nI i) a1 a2 a3 a4 a5 a6 a7 a8 a9 a10 a11 a12 a13 a14 a15 a16 a17 a18 a19 a20 := by
  intro f
  induction f with
  | zero =>
    intro i a18 hi h1
    have e : i = 6 := by omega
    subst e
    exact pk_le 6 6 (fun _ => H a18 h1) (fun z => absurd z (by omega))
  | succ f ih =>
    intro i a18 hi h1
    have ei : (nI i).toNatClampNeg = i := nI_clamp (by omega)
    refine pk_le 6 i (fun z => absurd z (by omega)) (fun _ => ⟨pk_in i 6 (by omega), ?_⟩)
    rw [ei]
    refine nm_e ⟨M + 1, ?_⟩
    by_cases hiT : i < T
    · refine mz_g21 (by omega) hT hM hiT (upd a18 i 0) (fun a18' k1 k2 => ih (i + 1) a18' (by omega) ?_) M 0 _ (by omega) pk_us (fun j hj => rfl)
      intro s hs
      by_cases e : s = i
      · rw [e]; exact k1
      · rw [k2 s e, pk_un e]; exact h1 s (by omega)
    · have h3 : ∀ s, s < i + 1 → upd a18 i 0 s = nI (mz_KK T M a6 a7 a14 a15 s) := by
        intro s hs
        by_cases e : s = i
        · subst e
          rw [pk_us]
          unfold mz_KK
          rw [if_neg hiT]
          rfl
        · rw [pk_un e]; exact h1 s (by omega)
      exact br_c (fun _ => nm_r (nI_1 i) (ih (i + 1) _ (by omega) h3)) (fun _ => pk_le T i (fun _ => nm_r (nI_1 i) (ih (i + 1) _ (by omega) h3)) (fun z => absurd z (by omega)))
theorem mz_gather {post : St1 → Prop} {rd mp mo mk : Int32} {a1 a2 a3 a4 a5 a6 a7 a8 a9 a10 a11 a12 a13 a14 a15 a16 a17 a18 a19 a20 : Nat → Int32} {T M n : Nat} (hT : T ≤ 6) (hM : M ≤ 24) (hn : n ≤ 12) (h0 : 0 < n) (hR : mz_R a2)
    (H : ∀ (rd' mp' mo' mk' : Int32) (a11' a12' a13' a14' a15' a16' a17' a18' : Nat → Int32), ¬ rd' = 0 → (rd = 0 → mz_Q n T M a1 a2 a3 a4 a5 a8 a9 a10 a11' a12' a14' a15') →
      (¬ rd = 0 → a11' = a11 ∧ a12' = a12 ∧ a14' = a14 ∧ a15' = a15) → (∀ t, t < 6 → a18' t = nI (mz_KK T M a6 a7 a14' a15' t)) → post ((nI n), (nI T), (nI M), rd', mp', mo', mk', a1, a2, a3, a4, a5, a6, a7, a8, a9, a10, a11', a12', a13', a14', a15', a16', a17', a18', a19, a20)) : wpX_gatherKills post ((nI n), (nI T), (nI M), rd, mp, mo, mk, a1, a2, a3, a4, a5, a6, a7, a8, a9, a10, a11, a12, a13, a14, a15, a16, a17, a18, a19, a20) := by
  unfold wpX_gatherKills
  refine mz_prepare hT hM hn h0 hR (fun rd' mp' mo' mk' a11' a12' a13' a14' a15' a16' a17' k1 k2 k3 => ⟨7, ?_⟩)
  exact mz_g6 hT hM (fun a18' h => H rd' mp' mo' mk' a11' a12' a13' a14' a15' a16' a17' a18' k1 k2 k3 h) 6 0 a18 (by omega) (fun t ht => absurd ht (by omega))
theorem mb_acc {x t : Nat} (ht : t < 31) (b : Bool) : nI x ||| (nI (if b then 1 else 0) <<< (nI t &&& 31)) = nI (if b then x ||| 2 ^ t else x) := by
  cases b with
  | true =>
    have e : nI 1 <<< (nI t &&& 31) = nI (2 ^ t) := mb_one ht
    show nI x ||| (nI 1 <<< (nI t &&& 31)) = nI (x ||| 2 ^ t)
    rw [e, mb_nor]
  | false =>
    show nI x ||| (nI 0 <<< (nI t &&& 31)) = nI x
    rw [pk_shlN (n := 0) (nI t &&& 31) t (mb_sl t (by omega)) (by rw [Nat.zero_mul]; decide), Nat.zero_mul, mb_nor, Nat.or_zero]
/-- the kills of a state -/
def mz_A18 (K : Nat → Nat) (a18 : Nat → Int32) : Prop := ∀ t, t < 6 → a18 t = nI (K t)
def mz_km (K : Nat → Nat) (T m : Nat) : Nat := mz_mask (fun t => (K t).testBit m) T
theorem mz_kmlt {K : Nat → Nat} {T m : Nat} (hT : T ≤ 6) : mz_km K T m < 64 := Nat.lt_of_lt_of_le (mz_mask_lt _ T) (Nat.pow_le_pow_right (n := 2) (j := 6) (by decide) hT)
theorem mz_ko4 {post : Int32 → Prop} {sz mu rd mp mo mk : Int32} {a1 a2 a3 a4 a5 a6 a7 a8 a9 a10 a11 a12 a13 a14 a15 a16 a17 a18 a19 a20 : Nat → Int32} {K : Nat → Nat} {T m : Nat} (hT : T ≤ 6) (hm : m < 24) (hK : mz_A18 K a18) (hL : ∀ t, K t < 2 ^ 24) (H : post (nI (mz_km K T m))) :
    ∀ (f i : Nat), f + i = T → wX_killersOf_4 post (nI m) sz (nI T) mu rd mp mo mk a1 a2 a3 a4 a5 a6 a7 a8 a9 a10 a11 a12 a13 a14 a15 a16 a17 a18 a19 a20 (f + 1) (nI (mz_mask (fun t => (K t).testBit m) i)) (nI i) := by
  intro f
  induction f with
  | zero =>
    intro i hi
    have e : i = T := by omega
    subst e
    exact pk_le i i (fun _ => H) (fun z => absurd z (by omega))
  | succ f ih =>
    intro i hi
    have ei : (nI i).toNatClampNeg = i := nI_clamp (by omega)
    have hl := hL i
    have key : nI (mz_mask (fun t => (K t).testBit m) i) ||| (((a18 (nI i).toNatClampNeg >>> (nI m &&& 31)) &&& 1) <<< (nI i &&& 31)) = nI (mz_mask (fun t => (K t).testBit m) (i + 1)) := by
      rw [ei, hK i (by omega), mb_bit (by omega) (by omega), mb_acc (by omega)]
      rfl
    exact pk_le T i (fun z => absurd z (by omega)) (fun _ => ⟨pk_in i 6 (by omega), nm_r key (nm_r (nI_1 i) (ih (i + 1) (by omega)))⟩)
theorem mz_killersOf {post : Int32 → Prop} {sz mu rd mp mo mk : Int32} {a1 a2 a3 a4 a5 a6 a7 a8 a9 a10 a11 a12 a13 a14 a15 a16 a17 a18 a19 a20 : Nat → Int32} {K : Nat → Nat} {T m : Nat} (hT : T ≤ 6) (hm : m < 24) (hK : mz_A18 K a18) (hL : ∀ t, K t < 2 ^ 24) (H : post (nI (mz_km K T m))) : wpX_killersOf post (sz, (nI T), mu, rd, mp, mo, mk, a1, a2, a3, a4, a5, a6, a7, a8, a9, a10, a11, a12, a13, a14, a15, a16, a17, a18, a19, a20) (nI m) := by
  unfold wpX_killersOf
  exact ⟨T + 1, mz_ko4 hT hm hK hL H T 0 (by omega)⟩
theorem mz_ones4 {post : Int32 → Prop} {a : Nat} (ha : a < 2 ^ 31) (H : post (nI (mz_cnt (fun i => a.testBit i) 24))) :
    ∀ (f i : Nat), f + i = 24 → wX_ones_4 post (nI a) (f + 1) (nI (mz_cnt (fun i => a.testBit i) i)) (nI i) := by
  intro f
  induction f with
  | zero =>
    intro i hi
    have e : i = 24 := by omega
    subst e
    exact pk_le 24 24 (fun _ => H) (fun z => absurd z (by omega))
  | succ f ih =>
    intro i hi
    have key : nI (mz_cnt (fun i => a.testBit i) i) + ((nI a >>> (nI i &&& 31)) &&& 1) = nI (mz_cnt (fun i => a.testBit i) (i + 1)) := by
      rw [mb_bit ha (by omega), nI_add]
      rfl
    exact pk_le 24 i (fun z => absurd z (by omega)) (fun _ => nm_r key (nm_r (nI_1 i) (ih (i + 1) (by omega))))
theorem mz_ones {post : Int32 → Prop} {a : Nat} (ha : a < 2 ^ 31) (H : post (nI (mz_cnt (fun i => a.testBit i) 24))) : wpX_ones post () (nI a) := by
  unfold wpX_ones
  exact ⟨25, mz_ones4 ha H 24 0 (by omega)⟩
theorem mz_size4 {post : Int32 → Prop} {a : Nat} (ha : a < 2 ^ 31) (H : post (nI (mz_cnt (fun i => a.testBit i) 6))) :
    ∀ (f i : Nat), f + i = 6 → wL_size_4 post (nI a) (f + 1) (nI (mz_cnt (fun i => a.testBit i) i)) (nI i) := by
  intro f
  induction f with
  | zero =>
    intro i hi
    have e : i = 6 := by omega
    subst e
    exact pk_le 6 6 (fun _ => H) (fun z => absurd z (by omega))
  | succ f ih =>
    intro i hi
    have key : nI (mz_cnt (fun i => a.testBit i) i) + ((nI a >>> (nI i &&& 31)) &&& 1) = nI (mz_cnt (fun i => a.testBit i) (i + 1)) := by
      rw [mb_bit ha (by omega), nI_add]
      rfl
    exact pk_le 6 i (fun z => absurd z (by omega)) (fun _ => nm_r key (nm_r (nI_1 i) (ih (i + 1) (by omega))))
theorem mz_size {post : Int32 → Prop} {a : Nat} (ha : a < 2 ^ 31) (H : post (nI (mz_cnt (fun i => a.testBit i) 6))) : wpL_size post () (nI a) := by
  unfold wpL_size
  exact ⟨7, mz_size4 ha H 6 0 (by omega)⟩
/-- what choices has found among the first i mutants -/
def mz_ch (K : Nat → Nat) (T left i c q : Nat) : Prop := ((∀ m, m < i → left.testBit m = false) ∧ c = 0 ∧ q = 7) ∨ (∃ m, m < i ∧ left.testBit m = true ∧ c = mz_km K T m ∧ q ≤ 6)
theorem mz_kmcnt {K : Nat → Nat} {T m : Nat} (hT : T ≤ 6) : mz_cnt (fun i => (mz_km K T m).testBit i) 24 ≤ 6 := by
  have h := mz_cnt_ext (p := fun i => (mz_km K T m).testBit i) (m := 6) (fun j hj => Nat.testBit_lt_two_pow (Nat.lt_of_lt_of_le (mz_kmlt hT) (Nat.pow_le_pow_right (n := 2) (i := 6) (by decide) hj))) 18
  rw [h]
  exact mz_cnt_le _ 6
theorem mz_ch8 {post : Int32 → Prop} {sz rd mp mo mk : Int32} {a1 a2 a3 a4 a5 a6 a7 a8 a9 a10 a11 a12 a13 a14 a15 a16 a17 a18 a19 a20 : Nat → Int32} {K : Nat → Nat} {T M left : Nat} (hT : T ≤ 6) (hM : M ≤ 24) (hK : mz_A18 K a18) (hL : ∀ t, K t < 2 ^ 24) (hl : left < 2 ^ 31)
    (H : ∀ c, ((∀ m, m < M → left.testBit m = false) ∧ c = 0) ∨ (∃ m, m < M ∧ left.testBit m = true ∧ c = mz_km K T m) → post (nI c)) :
    ∀ (f i c q : Nat), f + i = M → mz_ch K T left i c q → wX_choices_8 post (nI left) sz (nI T) (nI M) rd mp mo mk a1 a2 a3 a4 a5 a6 a7 a8 a9 a10 a11 a12 a13 a14 a15 a16 a17 a18 a19 a20 (f + 1) (nI c) (nI q) (nI i) := by
  intro f
  induction f with
  | zero =>
    intro i c q hi hc
    have e : i = M := by omega
    subst e
    refine pk_le i i (fun _ => H c ?_) (fun z => absurd z (by omega))
    rcases hc with ⟨h1, h2, _⟩ | ⟨m, h1, h2, h3, _⟩
    · exact Or.inl ⟨h1, h2⟩
    · exact Or.inr ⟨m, h1, h2, h3⟩
  | succ f ih =>
    intro i c q hi hc
    have hq : q ≤ 7 := by
      rcases hc with ⟨_, _, h⟩ | ⟨_, _, _, _, h⟩ <;> omega
    refine pk_le M i (fun z => absurd z (by omega)) (fun _ => ek_if (mb_bit1 hl (by omega)) (fun g => ?_) (fun g => ?_))
    · refine mz_killersOf hT (by omega) hK hL (mz_ones (Nat.lt_trans (mz_kmlt hT) (by decide)) ?_)
      have hk := mz_kmcnt (K := K) (T := T) (m := i) hT
      generalize hz : mz_cnt (fun j => (mz_km K T i).testBit j) 24 = z at hk ⊢
      refine pk_le q z (fun y => nm_r (nI_1 i) (ih (i + 1) c q (by omega) ?_)) (fun y => nm_r (nI_1 i) (ih (i + 1) (mz_km K T i) z (by omega) ?_))
      · rcases hc with ⟨_, _, h⟩ | ⟨m, h1, h2, h3, h4⟩
        · omega
        · exact Or.inr ⟨m, by omega, h2, h3, h4⟩
      · exact Or.inr ⟨i, by omega, g, rfl, hk⟩
    · refine nm_r (nI_1 i) (ih (i + 1) c q (by omega) ?_)
      rcases hc with ⟨h1, h2, h3⟩ | ⟨m, h1, h2, h3, h4⟩
      · refine Or.inl ⟨fun m hm => ?_, h2, h3⟩
        by_cases e : m = i
        · rw [e]; simpa using g
        · exact h1 m (by omega)
      · exact Or.inr ⟨m, by omega, h2, h3, h4⟩
theorem mz_choices {post : Int32 → Prop} {sz rd mp mo mk : Int32} {a1 a2 a3 a4 a5 a6 a7 a8 a9 a10 a11 a12 a13 a14 a15 a16 a17 a18 a19 a20 : Nat → Int32} {K : Nat → Nat} {T M left : Nat} (hT : T ≤ 6) (hM : M ≤ 24) (hK : mz_A18 K a18) (hL : ∀ t, K t < 2 ^ 24) (hl : left < 2 ^ 31)
    (H : ∀ c, ((∀ m, m < M → left.testBit m = false) ∧ c = 0) ∨ (∃ m, m < M ∧ left.testBit m = true ∧ c = mz_km K T m) → post (nI c)) : wpX_choices post (sz, (nI T), (nI M), rd, mp, mo, mk, a1, a2, a3, a4, a5, a6, a7, a8, a9, a10, a11, a12, a13, a14, a15, a16, a17, a18, a19, a20) (nI left) := by
  unfold wpX_choices
  exact ⟨M + 1, mz_ch8 hT hM hK hL hl H M 0 0 7 (by omega) (Or.inl ⟨fun m hm => absurd hm (by omega), rfl, rfl⟩)⟩
theorem mz_kf2 {post : Int32 → Prop} {sz te mu rd mp mo mk : Int32} {a1 a2 a3 a4 a5 a6 a7 a8 a9 a10 a11 a12 a13 a14 a15 a16 a17 a18 a19 a20 : Nat → Int32} {K : Nat → Nat} {t : Nat} (ht : t < 6) (hK : mz_A18 K a18) (H : post (nI (K t))) :
    ∀ (f i : Nat), f + i = t → wX_killsOf_2 post (nI (2 ^ t)) sz te mu rd mp mo mk a1 a2 a3 a4 a5 a6 a7 a8 a9 a10 a11 a12 a13 a14 a15 a16 a17 a18 a19 a20 (f + 1) (nI i) := by
  intro f
  induction f with
  | zero =>
    intro i hi
    have e : i = t := by omega
    subst e
    have ei : (nI i).toNatClampNeg = i := nI_clamp (by omega)
    refine pk_le 6 i (fun z => absurd z (by omega)) (fun _ => br_t (mb_one (by omega)).symm ⟨pk_in i 6 ht, ?_⟩)
    rw [ei, hK i ht]
    exact H
  | succ f ih =>
    intro i hi
    refine pk_le 6 i (fun z => absurd z (by omega)) (fun _ => br_f ?_ (nm_r (nI_1 i) (ih (i + 1) (by omega))))
    have h1 : 2 ^ i < 2 ^ t := mb_pw (by omega)
    have h2 : 2 ^ t < 2 ^ 31 := mb_pw (by omega)
    rw [mb_one (by omega), nI_eq h2 (by omega)]
    omega
theorem mz_killsOf {post : Int32 → Prop} {sz te mu rd mp mo mk : Int32} {a1 a2 a3 a4 a5 a6 a7 a8 a9 a10 a11 a12 a13 a14 a15 a16 a17 a18 a19 a20 : Nat → Int32} {K : Nat → Nat} {t : Nat} (ht : t < 6) (hK : mz_A18 K a18) (H : post (nI (K t))) : wpX_killsOf post (sz, te, mu, rd, mp, mo, mk, a1, a2, a3, a4, a5, a6, a7, a8, a9, a10, a11, a12, a13, a14, a15, a16, a17, a18, a19, a20) (nI (2 ^ t)) := by
  unfold wpX_killsOf
  exact ⟨t + 1, mz_kf2 ht hK H t 0 (by omega)⟩
theorem mz_killers {post : Int32 → St1 → Prop} {rd mp mo mk : Int32} {a1 a2 a3 a4 a5 a6 a7 a8 a9 a10 a11 a12 a13 a14 a15 a16 a17 a18 a19 a20 : Nat → Int32} {T M n m : Nat} (hT : T ≤ 6) (hM : M ≤ 24) (hn : n ≤ 12) (h0 : 0 < n) (hR : mz_R a2) (hm : m < M)
    (H : ∀ (rd' mp' mo' mk' : Int32) (a11' a12' a13' a14' a15' a16' a17' a18' : Nat → Int32), ¬ rd' = 0 → (rd = 0 → mz_Q n T M a1 a2 a3 a4 a5 a8 a9 a10 a11' a12' a14' a15') →
      (¬ rd = 0 → a11' = a11 ∧ a12' = a12 ∧ a14' = a14 ∧ a15' = a15) → post (nI (mz_km (mz_KK T M a6 a7 a14' a15') T m)) ((nI n), (nI T), (nI M), rd', mp', mo', mk', a1, a2, a3, a4, a5, a6, a7, a8, a9, a10, a11', a12', a13', a14', a15', a16', a17', a18', a19, a20)) : wpX_killers post ((nI n), (nI T), (nI M), rd, mp, mo, mk, a1, a2, a3, a4, a5, a6, a7, a8, a9, a10, a11, a12, a13, a14, a15, a16, a17, a18, a19, a20) (nI m) := by
  unfold wpX_killers wpX_noMutant
  refine br_f (nI_pos (by omega)) (pk_lt m M (fun _ => br_t rfl ?_) (fun z => absurd z (by omega)))
  refine mz_gather hT hM hn h0 hR (fun rd' mp' mo' mk' a11' a12' a13' a14' a15' a16' a17' a18' k1 k2 k3 k4 => ?_)
  exact mz_killersOf hT (by omega) k4 (mz_KKlt hM) (H rd' mp' mo' mk' a11' a12' a13' a14' a15' a16' a17' a18' k1 k2 k3)
/-- the mutants that a set of tests kills -/
def mz_or (K : Nat → Nat) (S : Nat) : Nat → Nat
  | 0 => 0
  | t + 1 => if S.testBit t then mz_or K S t ||| K t else mz_or K S t
theorem mz_orlt {K : Nat → Nat} {S : Nat} (hL : ∀ t, K t < 2 ^ 24) (t : Nat) : mz_or K S t < 2 ^ 24 := by
  induction t with
  | zero => show (0 : Nat) < 2 ^ 24; decide
  | succ t ih =>
    show (if S.testBit t then mz_or K S t ||| K t else mz_or K S t) < 2 ^ 24
    split
    · exact Nat.or_lt_two_pow ih (hL t)
    · exact ih
theorem mz_or_iff {K : Nat → Nat} {S t m : Nat} : (mz_or K S t).testBit m = true ↔ ∃ j, j < t ∧ S.testBit j = true ∧ (K j).testBit m = true := by
  induction t with
  | zero =>
    constructor
    · intro h
      have h' : (0 : Nat).testBit m = true := h
      rw [Nat.zero_testBit] at h'
      exact absurd h' (by decide)
    · rintro ⟨j, hj, _⟩
      omega
  | succ t ih =>
    show (if S.testBit t then mz_or K S t ||| K t else mz_or K S t).testBit m = true ↔ _
    by_cases e : S.testBit t = true
    · rw [if_pos e, Nat.testBit_or, Bool.or_eq_true, ih]
      constructor
      · rintro (⟨j, h1, h2, h3⟩ | h)
        · exact ⟨j, by omega, h2, h3⟩
        · exact ⟨t, by omega, e, h⟩
      · rintro ⟨j, h1, h2, h3⟩
        by_cases z : j = t
        · subst z; exact Or.inr h3
        · exact Or.inl ⟨j, by omega, h2, h3⟩
    · rw [if_neg e, ih]
      constructor
      · rintro ⟨j, h1, h2, h3⟩
        exact ⟨j, by omega, h2, h3⟩
      · rintro ⟨j, h1, h2, h3⟩
        by_cases z : j = t
        · subst z; exact absurd h2 e
        · exact ⟨j, by omega, h2, h3⟩
def mz_kd (K : Nat → Nat) (S : Nat) : Nat := mz_cnt (fun i => (mz_or K S 6).testBit i) 24
theorem mz_kd8 {post : Int32 → St1 → Prop} {sz te mu rd mp mo mk : Int32} {a1 a2 a3 a4 a5 a6 a7 a8 a9 a10 a11 a12 a13 a14 a15 a16 a17 a18 a19 a20 : Nat → Int32} {K : Nat → Nat} {S : Nat} (hS : S < 64) (hK : mz_A18 K a18) (hL : ∀ t, K t < 2 ^ 24) (H : post (nI (mz_kd K S)) (sz, te, mu, rd, mp, mo, mk, a1, a2, a3, a4, a5, a6, a7, a8, a9, a10, a11, a12, a13, a14, a15, a16, a17, a18, a19, a20)) :
    ∀ (f i : Nat), f + i = 6 → wX_killed_8 post (nI S) sz te mu rd mp mo mk a1 a2 a3 a4 a5 a6 a7 a8 a9 a10 a11 a12 a13 a14 a15 a16 a17 a18 a19 a20 (f + 1) (nI (mz_or K S i)) (nI i) := by
  intro f
  induction f with
  | zero =>
    intro i hi
    have e : i = 6 := by omega
    subst e
    exact pk_le 6 6 (fun _ => mz_ones (Nat.lt_trans (mz_orlt hL 6) (by decide)) H) (fun z => absurd z (by omega))
  | succ f ih =>
    intro i hi
    have ei : (nI i).toNatClampNeg = i := nI_clamp (by omega)
    refine pk_le 6 i (fun z => absurd z (by omega)) (fun _ => ek_if (mb_bit1 (by omega) (by omega)) (fun g => ⟨pk_in i 6 (by omega), nm_r (e' := nI (mz_or K S (i + 1))) ?_ (nm_r (nI_1 i) (ih (i + 1) (by omega)))⟩) (fun g => nm_r (nI_1 i) ?_))
    · rw [ei, hK i (by omega), mb_nor]
      show _ = nI (if S.testBit i then _ else _)
      rw [if_pos g]
    · have e : mz_or K S (i + 1) = mz_or K S i := if_neg g
      have h := ih (i + 1) (by omega)
      rw [e] at h
      exact h
theorem mz_killed {post : Int32 → St1 → Prop} {rd mp mo mk : Int32} {a1 a2 a3 a4 a5 a6 a7 a8 a9 a10 a11 a12 a13 a14 a15 a16 a17 a18 a19 a20 : Nat → Int32} {T M n S : Nat} (hT : T ≤ 6) (hM : M ≤ 24) (hn : n ≤ 12) (h0 : 0 < n) (hR : mz_R a2) (hS : S < 64)
    (H : ∀ (rd' mp' mo' mk' : Int32) (a11' a12' a13' a14' a15' a16' a17' a18' : Nat → Int32), ¬ rd' = 0 → (¬ rd = 0 → a11' = a11 ∧ a12' = a12 ∧ a14' = a14 ∧ a15' = a15) →
      post (nI (mz_kd (mz_KK T M a6 a7 a14' a15') S)) ((nI n), (nI T), (nI M), rd', mp', mo', mk', a1, a2, a3, a4, a5, a6, a7, a8, a9, a10, a11', a12', a13', a14', a15', a16', a17', a18', a19, a20)) : wpX_killed post ((nI n), (nI T), (nI M), rd, mp, mo, mk, a1, a2, a3, a4, a5, a6, a7, a8, a9, a10, a11, a12, a13, a14, a15, a16, a17, a18, a19, a20) (nI S) := by
  unfold wpX_killed
  refine mz_gather hT hM hn h0 hR (fun rd' mp' mo' mk' a11' a12' a13' a14' a15' a16' a17' a18' k1 k2 k3 k4 => ⟨7, ?_⟩)
  exact mz_kd8 hS k4 (mz_KKlt hM) (H rd' mp' mo' mk' a11' a12' a13' a14' a15' a16' a17' a18' k1 k3) 6 0 (by omega)
end
section
/-! the search for a smallest set of tests: plain numbers -/
def mz_sz (S : Nat) : Nat := mz_cnt (fun i => S.testBit i) 6
def mz_cov (K : Nat → Nat) (al S : Nat) : Prop := ∀ m, al.testBit m = true → (mz_or K S 6).testBit m = true
def mz_left (K : Nat → Nat) (al S : Nat) : Nat := mz_mask (fun m => al.testBit m && !(mz_or K S 6).testBit m) 24
theorem mz_leftlt {K : Nat → Nat} {al S : Nat} : mz_left K al S < 2 ^ 24 := mz_mask_lt _ 24
theorem mz_left_bit {K : Nat → Nat} {al S m : Nat} : (mz_left K al S).testBit m = true ↔ m < 24 ∧ al.testBit m = true ∧ (mz_or K S 6).testBit m = false := by
  unfold mz_left
  rw [mz_mask_bit, Bool.and_eq_true, Bool.and_eq_true, decide_eq_true_iff, Bool.not_eq_true']
theorem mz_left_0 {K : Nat → Nat} {al S : Nat} (ha : al < 2 ^ 24) (h : mz_left K al S = 0) : mz_cov K al S := by
  intro m hm
  have h24 : m < 24 := by
    rcases Nat.lt_or_ge m 24 with z | z
    · exact z
    · rw [Nat.testBit_lt_two_pow (Nat.lt_of_lt_of_le ha (Nat.pow_le_pow_right (by decide) z))] at hm
      exact absurd hm (by decide)
  cases hc : (mz_or K S 6).testBit m with
  | true => rfl
  | false =>
    have := mz_left_bit.mpr ⟨h24, hm, hc⟩
    rw [h, Nat.zero_testBit] at this
    exact absurd this (by decide)
theorem mz_left_ne {K : Nat → Nat} {al S : Nat} (h : mz_left K al S ≠ 0) : ∃ m, (mz_left K al S).testBit m = true := by
  obtain ⟨j, h1, h2⟩ := mz_mask_ne h
  refine ⟨j, ?_⟩
  unfold mz_left
  rw [mz_mask_bit, decide_eq_true h1, h2]
  rfl
theorem mz_or_add {K : Nat → Nat} {S t m : Nat} (ht : t < 6) : (mz_or K (S ||| 2 ^ t) 6).testBit m = ((mz_or K S 6).testBit m || (K t).testBit m) := by
  rw [Bool.eq_iff_iff, Bool.or_eq_true, mz_or_iff, mz_or_iff]
  constructor
  · rintro ⟨j, h1, h2, h3⟩
    rw [Nat.testBit_or, Bool.or_eq_true, Nat.testBit_two_pow, decide_eq_true_iff] at h2
    rcases h2 with h2 | h2
    · exact Or.inl ⟨j, h1, h2, h3⟩
    · subst h2; exact Or.inr h3
  · rintro (⟨j, h1, h2, h3⟩ | h)
    · exact ⟨j, h1, by rw [Nat.testBit_or, h2]; rfl, h3⟩
    · exact ⟨t, ht, by rw [Nat.testBit_or, Nat.testBit_two_pow, decide_eq_true rfl, Bool.or_true], h⟩
theorem mz_left_add {K : Nat → Nat} {al S t : Nat} (ht : t < 6) : nI (mz_left K al S) &&& (nI (K t) ^^^ (-1)) = nI (mz_left K al (S ||| 2 ^ t)) := by
  apply mb_ext
  intro i hi
  rw [mb_and, mb_xor, mb_m1 i hi, mb_nI hi, mb_nI hi, mb_nI hi]
  unfold mz_left
  rw [mz_mask_bit, mz_mask_bit, mz_or_add ht]
  cases decide (i < 24) <;> cases al.testBit i <;> cases (mz_or K S 6).testBit i <;> cases (K t).testBit i <;> rfl
theorem mz_low : ∀ o, o < 64 → o ≠ 0 → ∃ t, t < 6 ∧ o.testBit t = true ∧ nI o &&& (-(nI o)) = nI (2 ^ t) ∧ nI o - nI (2 ^ t) = nI (o ^^^ 2 ^ t) := by decide +kernel
/-- the facts of the claim's kills -/
def mz_fact (K : Nat → Nat) (T M al : Nat) : Prop := T ≤ 6 ∧ M ≤ 24 ∧ (∀ t, K t < 2 ^ 24) ∧ (∀ t, T ≤ t → K t = 0) ∧ al < 2 ^ 24 ∧ (∀ m, al.testBit m = true → m < M)
/-- what choices answers -/
def mz_cc (K : Nat → Nat) (T M left c : Nat) : Prop := ((∀ m, m < M → left.testBit m = false) ∧ c = 0) ∨ (∃ m, m < M ∧ left.testBit m = true ∧ c = mz_km K T m)
theorem mz_fresh {K : Nat → Nat} {T M al X c : Nat} (hf : mz_fact K T M al) (hc : mz_cc K T M (mz_left K al X) c) :
    c < 64 ∧ (∀ t, c.testBit t = true → X.testBit t = true → False) ∧ (∀ S, mz_cov K al S → (∃ t, c.testBit t = true ∧ S.testBit t = true) ∨ mz_left K al X = 0) := by
  obtain ⟨hT, hM, hL, hKT, hal, haM⟩ := hf
  rcases hc with ⟨h1, h2⟩ | ⟨m, h1, h2, h3⟩
  · subst h2
    refine ⟨by omega, fun t ht => ?_, fun S hS => Or.inr ?_⟩
    · rw [Nat.zero_testBit] at ht
      exact absurd ht (by decide)
    · by_cases e : mz_left K al X = 0
      · exact e
      · obtain ⟨m, hm⟩ := mz_left_ne e
        have h := h1 m (haM m (mz_left_bit.mp hm).2.1)
        rw [hm] at h
        exact absurd h (by decide)
  · subst h3
    obtain ⟨g1, g2, g3⟩ := mz_left_bit.mp h2
    refine ⟨mz_kmlt hT, fun t ht hX => ?_, fun S hS => Or.inl ?_⟩
    · unfold mz_km at ht
      rw [mz_mask_bit, Bool.and_eq_true, decide_eq_true_iff] at ht
      have : (mz_or K X 6).testBit m = true := mz_or_iff.mpr ⟨t, by omega, hX, ht.2⟩
      rw [g3] at this
      exact absurd this (by decide)
    · obtain ⟨t, t1, t2, t3⟩ := mz_or_iff.mp (hS m g2)
      refine ⟨t, ?_, t2⟩
      unfold mz_km
      rw [mz_mask_bit, Bool.and_eq_true, decide_eq_true_iff]
      refine ⟨?_, t3⟩
      rcases Nat.lt_or_ge t T with z | z
      · exact z
      · rw [hKT t z, Nat.zero_testBit] at t3
        exact absurd t3 (by decide)
/-- the steps that a level costs -/
def mz_G : Nat → Nat
  | 0 => 1
  | r + 1 => 1 + (r + 1) * (1 + mz_G r)
def mz_w (j o : Nat) : Nat := 1 + o * (1 + mz_G (5 - j))
def mz_sum (f : Nat → Nat) : Nat → Nat
  | 0 => 0
  | e + 1 => mz_sum f e + f e
theorem mz_sum_congr {f g : Nat → Nat} {e : Nat} (h : ∀ j, j < e → f j = g j) : mz_sum f e = mz_sum g e := by
  induction e with
  | zero => rfl
  | succ e ih =>
    show mz_sum f e + f e = mz_sum g e + g e
    rw [ih (fun j hj => h j (by omega)), h e (by omega)]
theorem mz_wG {j o : Nat} (h : o + j ≤ 6) : mz_w j o ≤ mz_G (6 - j) := by
  unfold mz_w
  rcases Nat.lt_or_ge j 6 with z | z
  · have e : 6 - j = (5 - j) + 1 := by omega
    rw [e]
    show 1 + o * (1 + mz_G (5 - j)) ≤ 1 + (5 - j + 1) * (1 + mz_G (5 - j))
    exact Nat.add_le_add_left (Nat.mul_le_mul_right _ (by omega)) 1
  · have e : o = 0 := by omega
    have e2 : 6 - j = 0 := by omega
    rw [e, e2, Nat.zero_mul]
    exact Nat.le_refl 1
def mz_up (f : Nat → Nat) (k v : Nat) : Nat → Nat := fun j => if j = k then v else f j
theorem mz_us {f : Nat → Nat} {k v : Nat} : mz_up f k v k = v := if_pos rfl
theorem mz_un {f : Nat → Nat} {k v j : Nat} (h : j ≠ k) : mz_up f k v j = f j := if_neg h
def mz_sub (X S : Nat) : Prop := ∀ t, X.testBit t = true → S.testBit t = true
/-- one level of the search -/
def mz_lev (K : Nat → Nat) (al j X o : Nat) (u v : Int32) : Prop := X < 64 ∧ mz_sz X = j ∧ o < 64 ∧ (∀ t, o.testBit t = true → X.testBit t = true → False) ∧ u = nI (mz_left K al X) ∧ v = nI o
/-- a set can still be reached from a level -/
def mz_rch (K : Nat → Nat) (al X o S : Nat) : Prop := mz_sub X S ∧ ((∃ t, o.testBit t = true ∧ S.testBit t = true) ∨ mz_left K al X = 0)
def mz_J (K : Nat → Nat) (al : Nat) (a19 a20 : Nat → Int32) (best e s : Nat) (X O : Nat → Nat) : Prop :=
  (∀ j, j < e → mz_lev K al j (X j) (O j) (a19 j) (a20 j)) ∧ best ≤ 7 ∧ (best < 7 → ∃ S, S < 64 ∧ mz_cov K al S ∧ mz_sz S = best) ∧
  (∀ S, S < 64 → mz_cov K al S → best ≤ mz_sz S ∨ ∃ j, j < e ∧ mz_rch K al (X j) (O j) S) ∧ s + mz_sum (fun j => mz_w j (mz_sz (O j))) e ≤ 16000
theorem mz_szsub {X S : Nat} (h : mz_sub X S) : mz_sz X ≤ mz_sz S := mz_cnt_mono (fun j _ hj => h j hj)
theorem mz_szle (X : Nat) : mz_sz X ≤ 6 := mz_cnt_le _ 6
theorem mz_szdisj {X o : Nat} (h : ∀ t, o.testBit t = true → X.testBit t = true → False) : mz_sz o + mz_sz X ≤ 6 := mz_cnt_disj (fun j _ h1 h2 => h j h1 h2)
theorem mz_best {K : Nat → Nat} {al : Nat} {a19 a20 : Nat → Int32} {best d s : Nat} {X O : Nat → Nat} (ha : al < 2 ^ 24) (h : mz_J K al a19 a20 best (d + 1) s X O) (h0 : mz_left K al (X d) = 0) (hb : d < best) : mz_J K al a19 a20 d (d + 1) s X O := by
  obtain ⟨h1, h2, h3, h4, h5⟩ := h
  obtain ⟨l1, l2, _⟩ := h1 d (by omega)
  refine ⟨h1, by omega, fun _ => ⟨X d, l1, mz_left_0 ha h0, l2⟩, fun S hS hc => ?_, h5⟩
  rcases h4 S hS hc with g | g
  · exact Or.inl (by omega)
  · exact Or.inr g
theorem mz_pop {K : Nat → Nat} {al : Nat} {a19 a20 : Nat → Int32} {best d s : Nat} {X O : Nat → Nat} (h : mz_J K al a19 a20 best (d + 1) s X O) (hb : mz_left K al (X d) = 0 → best ≤ d) (hp : mz_left K al (X d) = 0 ∨ best ≤ d + 1 ∨ O d = 0) : mz_J K al a19 a20 best d (s + 1) X O := by
  obtain ⟨h1, h2, h3, h4, h5⟩ := h
  obtain ⟨l1, l2, l3, l4, l5, l6⟩ := h1 d (by omega)
  refine ⟨fun j hj => h1 j (by omega), h2, h3, fun S hS hc => ?_, ?_⟩
  · rcases h4 S hS hc with g | ⟨j, g1, g2, g3⟩
    · exact Or.inl g
    · by_cases e : j = d
      · subst e
        by_cases hz : mz_left K al (X j) = 0
        · have := mz_szsub g2
          have := hb hz
          exact Or.inl (by omega)
        · rcases hp with q | q | q
          · exact absurd q hz
          · obtain ⟨m, hm⟩ := mz_left_ne hz
            obtain ⟨m1, m2, m3⟩ := mz_left_bit.mp hm
            obtain ⟨t, t1, t2, t3⟩ := mz_or_iff.mp (hc m m2)
            have ht : ¬ (X j).testBit t = true := by
              intro z
              have : (mz_or K (X j) 6).testBit m = true := mz_or_iff.mpr ⟨t, t1, z, t3⟩
              rw [m3] at this
              exact absurd this (by decide)
            have : mz_sz (X j) < mz_sz S := mz_cnt_lt (fun y _ hy => g2 y hy) t1 ht t2
            exact Or.inl (by omega)
          · rcases g3 with ⟨t, t1, _⟩ | g3
            · rw [q, Nat.zero_testBit] at t1
              exact absurd t1 (by decide)
            · exact absurd g3 hz
      · exact Or.inr ⟨j, by omega, g2, g3⟩
  · have e : mz_sum (fun j => mz_w j (mz_sz (O j))) (d + 1) = mz_sum (fun j => mz_w j (mz_sz (O j))) d + mz_w d (mz_sz (O d)) := rfl
    have e2 : 1 ≤ mz_w d (mz_sz (O d)) := by unfold mz_w; omega
    omega
theorem mz_push {K : Nat → Nat} {T M al : Nat} {a19 a20 : Nat → Int32} {best d s t c : Nat} {X O : Nat → Nat} (hf : mz_fact K T M al) (h : mz_J K al a19 a20 best (d + 1) s X O) (hz : mz_left K al (X d) ≠ 0) (hb : d + 1 < best) (ht : t < 6) (hot : (O d).testBit t = true)
    (hc : mz_cc K T M (mz_left K al (X d ||| 2 ^ t)) c) :
    mz_J K al (upd a19 (d + 1) (nI (mz_left K al (X d ||| 2 ^ t)))) (upd (upd a20 d (nI (O d ^^^ 2 ^ t))) (d + 1) (nI c)) best (d + 2) (s + 1) (mz_up X (d + 1) (X d ||| 2 ^ t)) (mz_up (mz_up O d (O d ^^^ 2 ^ t)) (d + 1) c) := by
  obtain ⟨h1, h2, h3, h4, h5⟩ := h
  obtain ⟨l1, l2, l3, l4, l5, l6⟩ := h1 d (by omega)
  obtain ⟨c1, c2, c3⟩ := mz_fresh hf hc
  have p64 : 2 ^ t < 64 := Nat.lt_of_lt_of_le (mb_pw ht) (by decide)
  have hXt : (X d).testBit t = false := by
    cases e : (X d).testBit t with
    | true => exact absurd e (fun z => l4 t hot z)
    | false => rfl
  have o1 : O d ^^^ 2 ^ t < 64 := Nat.xor_lt_two_pow (n := 6) l3 p64
  have o2 : ∀ j, (O d ^^^ 2 ^ t).testBit j = true ↔ (O d).testBit j = true ∧ j ≠ t := by
    intro j
    rw [Nat.testBit_xor, Nat.testBit_two_pow]
    by_cases e : t = j
    · subst e; simp [hot]
    · have e' : j ≠ t := fun z => e z.symm
      simp [e, e']
  have s1 : mz_sz (X d ||| 2 ^ t) = d + 1 := by
    have s0 : mz_sz (X d ||| 2 ^ t) = mz_sz (X d) + 1 := ?_
    · rw [s0, l2]
    refine mz_cnt_one ht hXt ?_ (fun j hj => ?_)
    · show (X d ||| 2 ^ t).testBit t = true
      rw [Nat.testBit_or, Nat.testBit_two_pow, decide_eq_true rfl, Bool.or_true]
    · show (X d ||| 2 ^ t).testBit j = (X d).testBit j
      rw [Nat.testBit_or, Nat.testBit_two_pow, decide_eq_false (fun z => hj z.symm), Bool.or_false]
  have s2 : mz_sz (O d) = mz_sz (O d ^^^ 2 ^ t) + 1 := by
    refine mz_cnt_one ht ?_ hot (fun j hj => ?_)
    · show (O d ^^^ 2 ^ t).testBit t = false
      cases e : (O d ^^^ 2 ^ t).testBit t with
      | true => exact absurd rfl ((o2 t).mp e).2
      | false => rfl
    · show (O d).testBit j = (O d ^^^ 2 ^ t).testBit j
      rw [Bool.eq_iff_iff, o2 j]
      exact ⟨fun z => ⟨z, hj⟩, fun z => z.1⟩
  have s3 := mz_szdisj c2
  refine ⟨fun j hj => ?_, h2, h3, fun S hS hcS => ?_, ?_⟩
  · by_cases e : j = d + 1
    · subst e
      rw [mz_us, mz_us, pk_us, pk_us]
      exact ⟨Nat.or_lt_two_pow (n := 6) l1 p64, s1, c1, c2, rfl, rfl⟩
    · rw [mz_un e, mz_un e, pk_un e, pk_un e]
      by_cases e2 : j = d
      · subst e2
        rw [mz_us, pk_us]
        exact ⟨l1, l2, o1, fun y hy => l4 y ((o2 y).mp hy).1, l5, rfl⟩
      · rw [mz_un e2, pk_un e2]
        exact h1 j (by omega)
  · rcases h4 S hS hcS with g | ⟨j, g1, g2, g3⟩
    · exact Or.inl g
    · refine Or.inr ?_
      by_cases e : j = d
      · subst e
        rcases g3 with ⟨y, y1, y2⟩ | g3
        · by_cases e2 : y = t
          · subst e2
            refine ⟨j + 1, by omega, ?_⟩
            rw [mz_us, mz_us]
            refine ⟨fun x hx => ?_, c3 S hcS⟩
            rw [Nat.testBit_or, Bool.or_eq_true, Nat.testBit_two_pow, decide_eq_true_iff] at hx
            rcases hx with hx | hx
            · exact g2 x hx
            · rw [← hx]; exact y2
          · refine ⟨j, by omega, ?_⟩
            rw [mz_un (by omega), mz_un (by omega), mz_us]
            exact ⟨g2, Or.inl ⟨y, (o2 y).mpr ⟨y1, e2⟩, y2⟩⟩
        · exact absurd g3 hz
      · refine ⟨j, by omega, ?_⟩
        rw [mz_un (by omega), mz_un (by omega), mz_un e]
        exact ⟨g2, g3⟩
  · have e : mz_sum (fun j => mz_w j (mz_sz (O j))) (d + 1) = mz_sum (fun j => mz_w j (mz_sz (O j))) d + mz_w d (mz_sz (O d)) := rfl
    have e3 : mz_sum (fun j => mz_w j (mz_sz (mz_up (mz_up O d (O d ^^^ 2 ^ t)) (d + 1) c j))) (d + 2) = mz_sum (fun j => mz_w j (mz_sz (O j))) d + mz_w d (mz_sz (O d ^^^ 2 ^ t)) + mz_w (d + 1) (mz_sz c) := by
      show mz_sum (fun j => mz_w j (mz_sz (mz_up (mz_up O d (O d ^^^ 2 ^ t)) (d + 1) c j))) d + mz_w d (mz_sz (mz_up (mz_up O d (O d ^^^ 2 ^ t)) (d + 1) c d)) + mz_w (d + 1) (mz_sz (mz_up (mz_up O d (O d ^^^ 2 ^ t)) (d + 1) c (d + 1))) = _
      rw [mz_us, mz_un (show d ≠ d + 1 by omega), mz_us, mz_sum_congr (g := fun j => mz_w j (mz_sz (O j))) (fun j hj => by
        show mz_w j (mz_sz (mz_up (mz_up O d (O d ^^^ 2 ^ t)) (d + 1) c j)) = mz_w j (mz_sz (O j))
        rw [mz_un (by omega), mz_un (by omega)])]
    have e4 : mz_w (d + 1) (mz_sz c) ≤ mz_G (6 - (d + 1)) := mz_wG (by omega)
    have e5 : mz_w d (mz_sz (O d)) = mz_w d (mz_sz (O d ^^^ 2 ^ t)) + (1 + mz_G (5 - d)) := by
      rw [s2]
      unfold mz_w
      rw [Nat.add_mul, Nat.one_mul]
      omega
    have e6 : 6 - (d + 1) = 5 - d := by omega
    rw [e6] at e4
    rw [e3]
    omega
theorem mz_start {K : Nat → Nat} {T M al : Nat} {a19 a20 : Nat → Int32} {c : Nat} (hf : mz_fact K T M al) (hc : mz_cc K T M al c) : mz_J K al (upd a19 0 (nI al)) (upd a20 0 (nI c)) 7 1 0 (fun _ => 0) (fun _ => c) := by
  have h0 : ∀ m, (mz_or K 0 6).testBit m = false := by
    intro m
    cases e : (mz_or K 0 6).testBit m with
    | true =>
      obtain ⟨j, _, h2, _⟩ := mz_or_iff.mp e
      rw [Nat.zero_testBit] at h2
      exact absurd h2 (by decide)
    | false => rfl
  have ea : mz_left K al 0 = al := by
    apply Nat.eq_of_testBit_eq
    intro m
    unfold mz_left
    rw [mz_mask_bit, h0 m]
    rcases Nat.lt_or_ge m 24 with z | z
    · simp [z]
    · rw [Nat.testBit_lt_two_pow (Nat.lt_of_lt_of_le hf.2.2.2.2.1 (Nat.pow_le_pow_right (by decide) z))]
      simp
  have hc' : mz_cc K T M (mz_left K al 0) c := by rw [ea]; exact hc
  obtain ⟨c1, c2, c3⟩ := mz_fresh hf hc'
  refine ⟨fun j hj => ?_, by omega, fun z => absurd z (by omega), fun S hS hcS => Or.inr ⟨0, by omega, fun t ht => ?_, c3 S hcS⟩, ?_⟩
  · have e : j = 0 := by omega
    subst e
    rw [pk_us, pk_us]
    exact ⟨by decide, by decide, c1, c2, by rw [ea], rfl⟩
  · rw [Nat.zero_testBit] at ht
    exact absurd ht (by decide)
  · show 0 + (0 + mz_w 0 (mz_sz c)) ≤ 16000
    have e2 : mz_w 0 (mz_sz c) ≤ mz_G 6 := mz_wG (by have := mz_szle c; omega)
    have e3 : mz_G 6 = 3913 := by decide
    omega
/-- the answer of the search -/
def mz_ans (K : Nat → Nat) (al best : Nat) : Prop := (∀ S, S < 64 → mz_cov K al S → best ≤ mz_sz S) ∧ ∃ S, S < 64 ∧ mz_cov K al S ∧ mz_sz S = best
theorem mz_end {K : Nat → Nat} {al : Nat} {a19 a20 : Nat → Int32} {best s : Nat} {X O : Nat → Nat} (h63 : mz_cov K al 63) (h : mz_J K al a19 a20 best 0 s X O) : mz_ans K al best ∧ best ≤ 6 := by
  obtain ⟨h1, h2, h3, h4, h5⟩ := h
  have h6 : ∀ S, S < 64 → mz_cov K al S → best ≤ mz_sz S := by
    intro S hS hc
    rcases h4 S hS hc with g | ⟨j, g, _⟩
    · exact g
    · omega
  have h7 := h6 63 (by decide) h63
  have h8 := mz_szle 63
  exact ⟨⟨h6, h3 (by omega)⟩, by omega⟩
end
section
/-! the search, walked -/
theorem mz_s54 {post : Int32 → St1 → Prop} {J : Int32 → Int32 → Int32 → (Nat → Int32) → (Nat → Int32) → (Nat → Int32) → (Nat → Int32) → (Nat → Int32) → (Nat → Int32) → (Nat → Int32) → (Nat → Int32) → (Nat → Int32) → (Nat → Int32) → (Nat → Int32) → (Nat → Int32) → (Nat → Int32) → (Nat → Int32) → (Nat → Int32) → (Nat → Int32) → (Nat → Int32) → (Nat → Int32) → (Nat → Int32) → (Nat → Int32) → Prop}
    {sz rd mp mo mk : Int32} {a1 a2 a3 a4 a5 a6 a7 a8 a9 a10 a11 a12 a13 a14 a15 a16 a17 a18 a19 a20 : Nat → Int32} {K : Nat → Nat} {T M al best d s : Nat} {X O : Nat → Nat} (hf : mz_fact K T M al) (hK : mz_A18 K a18) (h : mz_J K al a19 a20 best (d + 1) s X O) (hb : mz_left K al (X d) = 0 → best ≤ d) (hs : s < 16000)
    (H : ∀ (e : Nat) (a19' a20' : Nat → Int32) (X' O' : Nat → Nat), mz_J K al a19' a20' best e (s + 1) X' O' → J (nI best) (nI e + (-1)) (nI (s + 1)) a1 a2 a3 a4 a5 a6 a7 a8 a9 a10 a11 a12 a13 a14 a15 a16 a17 a18 a19' a20') :
    wX_smallest_54 post J (nI best) (nI d) (nI s) sz (nI T) (nI M) rd mp mo mk a1 a2 a3 a4 a5 a6 a7 a8 a9 a10 a11 a12 a13 a14 a15 a16 a17 a18 a19 a20 := by
  have hJ := h
  obtain ⟨h1, h2, h3, h4, h5⟩ := h
  obtain ⟨l1, l2, l3, l4, l5, l6⟩ := h1 d (by omega)
  have hd : d ≤ 6 := by
    have := mz_szle (X d)
    omega
  have ed : (nI d).toNatClampNeg = d := nI_clamp (by omega)
  have ed1 : (nI (d + 1)).toNatClampNeg = d + 1 := nI_clamp (by omega)
  have i1 : vp_in (nI d) 8 := vp_in_nI (by omega) (by omega)
  have i2 : vp_in (nI (d + 1)) 8 := vp_in_nI (by omega) (by omega)
  have hl := mz_leftlt (K := K) (al := al) (S := X d)
  unfold wX_smallest_54
  rw [ed, l5, l6]
  refine ⟨i1, pk_eq (mz_left K al (X d)) 0 (fun z => nm_e (nm_r (nI_1 s) (H d a19 a20 X O (mz_pop hJ hb (Or.inl z))))) (fun z => ?_)⟩
  refine pk_le best (d + 1) (fun g => nm_e (nm_r (nI_1 s) (H d a19 a20 X O (mz_pop hJ hb (Or.inr (Or.inl g)))))) (fun g => ⟨i1, ?_⟩) (hy := nI_1 d)
  refine pk_eq (O d) 0 (fun y => nm_e (nm_r (nI_1 s) (H d a19 a20 X O (mz_pop hJ hb (Or.inr (Or.inr y)))))) (fun y => ⟨i1, i1, ?_⟩)
  obtain ⟨t, t1, t2, t3, t4⟩ := mz_low (O d) l3 y
  refine nm_r t3 ⟨i1, i1, ?_⟩
  rw [t4]
  refine nm_e ⟨i1, mz_killsOf t1 hK (nm_r (mz_left_add t1) (nm_r (nI_1 d) ⟨i2, ?_⟩))⟩
  rw [ed1]
  refine nm_e (mz_choices hf.1 hf.2.1 hK hf.2.2.1 (Nat.lt_trans mz_leftlt (by decide)) (fun c hc => ⟨i2, nm_e (nm_r (nI_1 s) ?_)⟩))
  have := H (d + 2) _ _ _ _ (mz_push hf hJ z g t1 t2 hc)
  rw [pk_m1] at this
  exact this
theorem mz_s26 {post : Int32 → St1 → Prop} {sz rd mp mo mk : Int32} {a1 a2 a3 a4 a5 a6 a7 a8 a9 a10 a11 a12 a13 a14 a15 a16 a17 a18 : Nat → Int32} {K : Nat → Nat} {T M al : Nat} (hf : mz_fact K T M al) (hK : mz_A18 K a18) (h63 : mz_cov K al 63)
    (H : ∀ (best : Nat) (a19' a20' : Nat → Int32), mz_ans K al best → best ≤ 6 → post (nI best) (sz, (nI T), (nI M), rd, mp, mo, mk, a1, a2, a3, a4, a5, a6, a7, a8, a9, a10, a11, a12, a13, a14, a15, a16, a17, a18, a19', a20')) :
    ∀ (f s best e : Nat) (a19 a20 : Nat → Int32) (X O : Nat → Nat), f + s = 16000 → mz_J K al a19 a20 best e s X O → wX_smallest_26 post sz (nI T) (nI M) rd mp mo mk (f + 1) (nI best) (nI e + (-1)) (nI s) a1 a2 a3 a4 a5 a6 a7 a8 a9 a10 a11 a12 a13 a14 a15 a16 a17 a18 a19 a20 := by
  intro f
  induction f with
  | zero =>
    intro s best e a19 a20 X O hfs hJ
    have he : e = 0 := by
      cases e with
      | zero => rfl
      | succ e =>
        have h5 := hJ.2.2.2.2
        have e1 : mz_sum (fun j => mz_w j (mz_sz (O j))) (e + 1) = mz_sum (fun j => mz_w j (mz_sz (O j))) e + mz_w e (mz_sz (O e)) := rfl
        have e2 : 1 ≤ mz_w e (mz_sz (O e)) := by unfold mz_w; omega
        omega
    subst he
    obtain ⟨r1, r2⟩ := mz_end h63 hJ
    exact pk_le 16000 s (fun _ => H best a19 a20 r1 r2) (fun z => absurd z (by omega))
  | succ f ih =>
    intro s best e a19 a20 X O hfs hJ
    refine pk_le 16000 s (fun z => absurd z (by omega)) (fun _ => ?_)
    cases e with
    | zero =>
      obtain ⟨r1, r2⟩ := mz_end h63 hJ
      exact br_t (by decide) (H best a19 a20 r1 r2)
    | succ d =>
      obtain ⟨l1, l2, l3, l4, l5, l6⟩ := hJ.1 d (by omega)
      have hd : d ≤ 6 := by
        have := mz_szle (X d)
        omega
      have hb7 := hJ.2.1
      have ed : (nI d).toNatClampNeg = d := nI_clamp (by omega)
      have hl := mz_leftlt (K := K) (al := al) (S := X d)
      rw [pk_m1]
      refine br_f (nI_pos (by omega)) ⟨pk_in d 8 (by omega), ?_⟩
      rw [ed, l5]
      refine pk_eq (mz_left K al (X d)) 0 (fun z => pk_le best d (fun g => ?_) (fun g => ?_)) (fun z => ?_)
      · exact mz_s54 hf hK hJ (fun _ => g) (by omega) (fun e' a19' a20' X' O' h' => ih (s + 1) best e' a19' a20' X' O' (by omega) h')
      · exact mz_s54 hf hK (mz_best hf.2.2.2.2.1 hJ z g) (fun _ => Nat.le_refl d) (by omega) (fun e' a19' a20' X' O' h' => ih (s + 1) d e' a19' a20' X' O' (by omega) h')
      · exact mz_s54 hf hK hJ (fun z' => absurd z' z) (by omega) (fun e' a19' a20' X' O' h' => ih (s + 1) best e' a19' a20' X' O' (by omega) h')
theorem mz_smallest {post : Int32 → St1 → Prop} {sz rd mp mo mk : Int32} {a1 a2 a3 a4 a5 a6 a7 a8 a9 a10 a11 a12 a13 a14 a15 a16 a17 a18 a19 a20 : Nat → Int32} {K : Nat → Nat} {T M al : Nat} (hf : mz_fact K T M al) (hK : mz_A18 K a18) (h63 : mz_cov K al 63)
    (H : ∀ (best : Nat) (a19' a20' : Nat → Int32), mz_ans K al best → best ≤ 6 → post (nI best) (sz, (nI T), (nI M), rd, mp, mo, mk, a1, a2, a3, a4, a5, a6, a7, a8, a9, a10, a11, a12, a13, a14, a15, a16, a17, a18, a19', a20')) : wpX_smallest post (sz, (nI T), (nI M), rd, mp, mo, mk, a1, a2, a3, a4, a5, a6, a7, a8, a9, a10, a11, a12, a13, a14, a15, a16, a17, a18, a19, a20) (nI al) := by
  unfold wpX_smallest
  refine nm_e (mz_choices hf.1 hf.2.1 hK hf.2.2.1 (Nat.lt_trans hf.2.2.2.2.1 (by decide)) (fun c hc => nm_e ⟨16001, ?_⟩))
  exact mz_s26 hf hK h63 H 16000 0 7 1 _ _ _ _ (by omega) (mz_start hf hc)
theorem mz_en8 {post : Int32 → St1 → Prop} {sz rd mp mo mk : Int32} {a1 a2 a3 a4 a5 a6 a7 a8 a9 a10 a11 a12 a13 a14 a15 a16 a17 a18 a19 a20 : Nat → Int32} {K : Nat → Nat} {T M : Nat} (hf : mz_fact K T M (mz_or K 63 T)) (hK : mz_A18 K a18) (h63 : mz_cov K (mz_or K 63 T) 63)
    (H : ∀ (best : Nat) (a19' a20' : Nat → Int32), mz_ans K (mz_or K 63 T) best → best ≤ 6 → post (nI best) (sz, (nI T), (nI M), rd, mp, mo, mk, a1, a2, a3, a4, a5, a6, a7, a8, a9, a10, a11, a12, a13, a14, a15, a16, a17, a18, a19', a20')) :
    ∀ (f i : Nat), f + i = T → wX_enough_8 post sz (nI T) (nI M) rd mp mo mk a1 a2 a3 a4 a5 a6 a7 a8 a9 a10 a11 a12 a13 a14 a15 a16 a17 a18 a19 a20 (f + 1) (nI (mz_or K 63 i)) (nI i) := by
  have hT := hf.1
  intro f
  induction f with
  | zero =>
    intro i hi
    have e : i = T := by omega
    subst e
    exact pk_le i i (fun _ => mz_smallest hf hK h63 H) (fun z => absurd z (by omega))
  | succ f ih =>
    intro i hi
    have ei : (nI i).toNatClampNeg = i := nI_clamp (by omega)
    have h6 : (63 : Nat).testBit i = true := (by decide : ∀ i, i < 6 → (63 : Nat).testBit i = true) i (by omega)
    have key : nI (mz_or K 63 i) ||| a18 (nI i).toNatClampNeg = nI (mz_or K 63 (i + 1)) := by
      rw [ei, hK i (by omega), mb_nor]
      show _ = nI (if (63 : Nat).testBit i then _ else _)
      rw [if_pos h6]
    exact pk_le T i (fun z => absurd z (by omega)) (fun _ => ⟨pk_in i 6 (by omega), nm_r key (nm_r (nI_1 i) (ih (i + 1) (by omega)))⟩)
theorem mz_KKfact {T M : Nat} {a6 a7 a14 a15 : Nat → Int32} (hT : T ≤ 6) (hM : M ≤ 24) : mz_fact (mz_KK T M a6 a7 a14 a15) T M (mz_or (mz_KK T M a6 a7 a14 a15) 63 T) ∧ mz_cov (mz_KK T M a6 a7 a14 a15) (mz_or (mz_KK T M a6 a7 a14 a15) 63 T) 63 := by
  refine ⟨⟨hT, hM, mz_KKlt hM, fun t ht => ?_, mz_orlt (mz_KKlt hM) T, fun m hm => ?_⟩, fun m hm => ?_⟩
  · unfold mz_KK
    rw [if_neg (by omega)]
  · obtain ⟨j, j1, j2, j3⟩ := mz_or_iff.mp hm
    unfold mz_KK at j3
    rw [if_pos j1, mz_mask_bit, Bool.and_eq_true, decide_eq_true_iff] at j3
    exact j3.1
  · obtain ⟨j, j1, j2, j3⟩ := mz_or_iff.mp hm
    exact mz_or_iff.mpr ⟨j, by omega, j2, j3⟩
theorem mz_enough {post : Int32 → St1 → Prop} {rd mp mo mk : Int32} {a1 a2 a3 a4 a5 a6 a7 a8 a9 a10 a11 a12 a13 a14 a15 a16 a17 a18 a19 a20 : Nat → Int32} {T M n : Nat} (hT : T ≤ 6) (hM : M ≤ 24) (hn : n ≤ 12) (h0 : 0 < n) (hR : mz_R a2)
    (H : ∀ (best : Nat) (rd' mp' mo' mk' : Int32) (a11' a12' a13' a14' a15' a16' a17' a18' a19' a20' : Nat → Int32), ¬ rd' = 0 → (¬ rd = 0 → a11' = a11 ∧ a12' = a12 ∧ a14' = a14 ∧ a15' = a15) →
      mz_ans (mz_KK T M a6 a7 a14' a15') (mz_or (mz_KK T M a6 a7 a14' a15') 63 T) best → best ≤ 6 →
      post (nI best) ((nI n), (nI T), (nI M), rd', mp', mo', mk', a1, a2, a3, a4, a5, a6, a7, a8, a9, a10, a11', a12', a13', a14', a15', a16', a17', a18', a19', a20')) : wpX_enough post ((nI n), (nI T), (nI M), rd, mp, mo, mk, a1, a2, a3, a4, a5, a6, a7, a8, a9, a10, a11, a12, a13, a14, a15, a16, a17, a18, a19, a20) := by
  unfold wpX_enough
  refine mz_gather hT hM hn h0 hR (fun rd' mp' mo' mk' a11' a12' a13' a14' a15' a16' a17' a18' k1 k2 k3 k4 => ⟨T + 1, ?_⟩)
  have hf := mz_KKfact (a6 := a6) (a7 := a7) (a14 := a14') (a15 := a15') hT hM
  exact mz_en8 hf.1 k4 hf.2 (fun best a19' a20' r1 r2 => H best rd' mp' mo' mk' a11' a12' a13' a14' a15' a16' a17' a18' a19' a20' k1 k3 r1 r2) T 0 (by omega)
end
section
/-! the law's loops -/
def mz_cell (L : Nat) (xs : Nat → Int32) (k : Nat) : Int32 := if k < L then xs k else 0
theorem mz_cellW {post : Int32 → Prop} {L : Nat} {xs : Nat → Int32} {p : Int32} (k : Nat) (hp : p = nI k) (hL : L ≤ 260) (hk : k < 300) (H : post (mz_cell L xs k)) : wpL_cell post L xs () p := by
  subst hp
  unfold wpL_cell
  unfold mz_cell at H
  refine pk_le L k (fun z => ?_) (fun z => ⟨pk_in k L z, ?_⟩)
  · rw [if_neg (by omega)] at H
    exact H
  · rw [if_pos z] at H
    rw [nI_clamp (by omega)]
    exact H
theorem mz_emit {post : Int32 → St1 → Prop} {te mu rd mp mo mk : Int32} {a1 a2 a3 a4 a5 a6 a7 a8 a9 a10 a11 a12 a13 a14 a15 a16 a17 a18 a19 a20 : Nat → Int32} {i o : Nat} {p1 p2 : Int32} (hi : i < 12) (ho : o < 8)
    (H : ∀ r : Int32, post r ((nI (i + 1)), te, mu, 0, mp, mo, mk, (upd a1 i (nI o)), (upd a2 i (p1 &&& 15)), (upd a3 i p2), a4, a5, a6, a7, a8, a9, a10, a11, a12, a13, a14, a15, a16, a17, a18, a19, a20)) : wpX_emit post ((nI i), te, mu, rd, mp, mo, mk, a1, a2, a3, a4, a5, a6, a7, a8, a9, a10, a11, a12, a13, a14, a15, a16, a17, a18, a19, a20) (nI o) p1 p2 := by
  have ec : (nI i).toNatClampNeg = i := nI_clamp (by omega)
  unfold wpX_emit
  refine br_f (nI_pos (by omega)) (pk_le o 7 (fun _ => pk_lt i 12 (fun _ => ?_) (fun z => absurd z (by omega))) (fun z => absurd z (by omega)))
  rw [ec]
  exact ⟨pk_in i 12 hi, nm_e ⟨pk_in i 12 hi, nm_e ⟨pk_in i 12 hi, nm_e (nm_r (nI_1 i) (H _))⟩⟩⟩
theorem mz_l84 {post : Int32 → Prop} {L : Nat} {xs : Nat → Int32} {J : Int32 → Int32 → Int32 → Int32 → Int32 → Int32 → Int32 → Int32 → (Nat → Int32) → (Nat → Int32) → (Nat → Int32) → (Nat → Int32) → (Nat → Int32) → (Nat → Int32) → (Nat → Int32) → (Nat → Int32) → (Nat → Int32) → (Nat → Int32) → (Nat → Int32) → (Nat → Int32) → (Nat → Int32) → (Nat → Int32) → (Nat → Int32) → (Nat → Int32) → (Nat → Int32) → (Nat → Int32) → (Nat → Int32) → (Nat → Int32) → Prop} {te mu rd mp mo mk : Int32} {a1 a2 a3 a4 a5 a6 a7 a8 a9 a10 a11 a12 a13 a14 a15 a16 a17 a18 a19 a20 : Nat → Int32} {i kc ks : Nat} {x2 x4 x5 z0 : Int32} (hi : i < 12) (h5 : x5 = x4 &&& 7)
    (H : ∀ w : Int32, J (nI (i + 1)) (nI (i + 1)) te mu 0 mp mo mk (upd a1 i (x4 &&& 7)) (upd a2 i (w &&& 15)) (upd a3 i z0) a4 a5 a6 a7 a8 a9 a10 a11 a12 a13 a14 a15 a16 a17 a18 a19 a20) : wL_law_84 post L xs J x2 (nI i) x4 x5 z0 kc ks (nI i) te mu rd mp mo mk a1 a2 a3 a4 a5 a6 a7 a8 a9 a10 a11 a12 a13 a14 a15 a16 a17 a18 a19 a20 := by
  obtain ⟨o, ho, eo⟩ := pk_andE x4 (m := 7) 3 (by decide)
  subst h5
  unfold wL_law_84
  rw [eo] at H ⊢
  exact mz_emit hi ho (fun r => nm_r (nI_1 i) (H _))
/-- the constant that the law gives an instruction -/
def mz_vv (x2 x : Int32) : Int32 := if x &&& 7 = 5 ∨ x &&& 7 = 6 then ((x >>> ((8 : Int32) &&& 31)) &&& 255) - ((x >>> ((8 : Int32) &&& 31)) &&& 255) / (x2 + 1) * (x2 + 1) else ((x >>> ((8 : Int32) &&& 31)) &&& 15) - 5
theorem mz_n1 {n : Nat} (hn : n ≤ 10) : ¬ nI n + 1 = 0 := by
  rw [nI_1]
  exact nI_ne0 (by omega) (by omega)
theorem mz_Ru {a2 : Nat → Int32} {i : Nat} {w : Int32} (h : mz_R a2) : mz_R (upd a2 i (w &&& 15)) := by
  intro j hj
  by_cases e : j = i
  · rw [e, pk_us]
    exact pk_andE w (m := 15) 4 (by decide)
  · rw [pk_un e]
    exact h j hj
theorem mz_l24 {post : Int32 → Prop} {L : Nat} {xs : Nat → Int32} {te mu mp mo mk : Int32} {a4 a5 a6 a7 a8 a9 a10 a11 a12 a13 a14 a15 a16 a17 a18 a19 a20 : Nat → Int32} {n kc ks : Nat} (hL : L ≤ 260) (hn : n ≤ 10) (h0 : 0 < n)
    (H : ∀ (T : Nat) (rd : Int32) (a1 a2 a3 : Nat → Int32), T ≤ 6 → mz_R a2 → a1 0 = mz_cell L xs 1 &&& 7 → a3 0 = mz_vv (nI n) (mz_cell L xs 1) → ∃ fu, wL_law_129 post L xs (nI n) (nI T) kc ks fu 0 0 (nI n) te mu rd mp mo mk a1 a2 a3 a4 a5 a6 a7 a8 a9 a10 a11 a12 a13 a14 a15 a16 a17 a18 a19 a20) :
    ∀ (f i : Nat) (rd : Int32) (a1 a2 a3 : Nat → Int32), f + i = n → mz_R a2 → (0 < i → a1 0 = mz_cell L xs 1 &&& 7 ∧ a3 0 = mz_vv (nI n) (mz_cell L xs 1)) → wL_law_24 post L xs (nI n) kc ks (f + 1) (nI i) (nI i) te mu rd mp mo mk a1 a2 a3 a4 a5 a6 a7 a8 a9 a10 a11 a12 a13 a14 a15 a16 a17 a18 a19 a20 := by
  intro f
  induction f with
  | zero =>
    intro i rd a1 a2 a3 hi hR h1
    have e : i = n := by omega
    subst e
    refine pk_le i i (fun _ => ?_) (fun z => absurd z (by omega))
    refine mz_cellW 0 rfl hL (by omega) ?_
    refine ⟨by decide, ?_⟩
    obtain ⟨j, hj, ej⟩ := pk_andE (mz_cell L xs 0 >>> ((8 : Int32) &&& 31)) (m := 255) 8 (by decide)
    have e6 : nI j - nI j / 6 * 6 = nI (j % 6) := pk_rem (a := j) (d := 6) (by omega) (by omega) (by omega)
    have e7 : 1 + (nI j - nI j / 6 * 6) = nI (1 + j % 6) := by rw [e6]; exact nI_add 1 _
    rw [ej]
    exact nm_r e7 (H (1 + j % 6) rd a1 a2 a3 (by omega) hR (h1 h0).1 (h1 h0).2)
  | succ f ih =>
    intro i rd a1 a2 a3 hi hR h1
    refine pk_le n i (fun z => absurd z (by omega)) (fun _ => ?_)
    refine mz_cellW (1 + i) (nI_add 1 i) hL (by omega) ?_
    have key : ∀ z0 w : Int32, z0 = mz_vv (nI n) (mz_cell L xs (1 + i)) → wL_law_24 post L xs (nI n) kc ks (f + 1) (nI (i + 1)) (nI (i + 1)) te mu 0 mp mo mk (upd a1 i (mz_cell L xs (1 + i) &&& 7)) (upd a2 i (w &&& 15)) (upd a3 i z0) a4 a5 a6 a7 a8 a9 a10 a11 a12 a13 a14 a15 a16 a17 a18 a19 a20 := by
      intro z0 w hz
      refine ih (i + 1) 0 _ _ _ (by omega) (mz_Ru hR) (fun _ => ?_)
      by_cases e : i = 0
      · subst e
        rw [pk_us, pk_us]
        exact ⟨rfl, hz⟩
      · rw [pk_un (by omega), pk_un (by omega)]
        exact h1 (by omega)
    have v1 : (mz_cell L xs (1 + i) &&& 7 = 5 ∨ mz_cell L xs (1 + i) &&& 7 = 6) → mz_vv (nI n) (mz_cell L xs (1 + i)) = ((mz_cell L xs (1 + i) >>> ((8 : Int32) &&& 31)) &&& 255) - ((mz_cell L xs (1 + i) >>> ((8 : Int32) &&& 31)) &&& 255) / (nI n + 1) * (nI n + 1) := fun z => if_pos z
    have v2 : ¬ (mz_cell L xs (1 + i) &&& 7 = 5 ∨ mz_cell L xs (1 + i) &&& 7 = 6) → mz_vv (nI n) (mz_cell L xs (1 + i)) = ((mz_cell L xs (1 + i) >>> ((8 : Int32) &&& 31)) &&& 15) - 5 := fun z => if_neg z
    refine nm_e (br_c (fun g => ⟨mz_n1 hn, ?_⟩) (fun g => br_c (fun g2 => ⟨mz_n1 hn, ?_⟩) (fun g2 => ?_)))
    · exact mz_l84 (by omega) rfl (fun w => key _ w (v1 (Or.inl g)).symm)
    · exact mz_l84 (by omega) rfl (fun w => key _ w (v1 (Or.inr g2)).symm)
    · exact mz_l84 (by omega) rfl (fun w => key _ w (v2 (fun y => y.elim g g2)).symm)
/-- a test fails -/
def mz_fl (n : Nat) (a1 a2 a3 a4 a5 a6 a7 : Nat → Int32) (t : Nat) : Bool := decide (¬ mz_TE n a1 a2 a3 a4 a5 t = a6 t ∨ (¬ mz_TE n a1 a2 a3 a4 a5 t = 0 ∧ ¬ mz_TO n a1 a2 a3 a4 a5 t = a7 t))
theorem mz_flc {n : Nat} {a1 a2 a3 a4 a5 a6 a7 a4' a5' a6' a7' : Nat → Int32} {t : Nat} (h4 : a4' t = a4 t) (h5 : a5' t = a5 t) (h6 : a6' t = a6 t) (h7 : a7' t = a7 t) : mz_fl n a1 a2 a3 a4' a5' a6' a7' t = mz_fl n a1 a2 a3 a4 a5 a6 a7 t := by
  unfold mz_fl mz_TE mz_TO
  rw [h4, h5, h6, h7]
theorem mz_passes {post : Int32 → St1 → Prop} {mp mo mk : Int32} {a1 a2 a3 a4 a5 a6 a7 a8 a9 a10 a11 a12 a13 a14 a15 a16 a17 a18 a19 a20 : Nat → Int32} {T M n t : Nat} (hT : T ≤ 6) (hM : M ≤ 24) (hn : n ≤ 12) (h0 : 0 < n) (hR : mz_R a2) (ht : t < T)
    (H : ∀ (rd' mp' mo' mk' : Int32) (a11' a12' a13' a14' a15' a16' a17' : Nat → Int32), post (if mz_fl n a1 a2 a3 a4 a5 a6 a7 t then 0 else 1) ((nI n), (nI T), (nI M), rd', mp', mo', mk', a1, a2, a3, a4, a5, a6, a7, a8, a9, a10, a11', a12', a13', a14', a15', a16', a17', a18, a19, a20)) :
    wpX_passes post ((nI n), (nI T), (nI M), 0, mp, mo, mk, a1, a2, a3, a4, a5, a6, a7, a8, a9, a10, a11, a12, a13, a14, a15, a16, a17, a18, a19, a20) (nI t) := by
  have et : (nI t).toNatClampNeg = t := nI_clamp (by omega)
  have i6 : vp_in (nI t) 6 := vp_in_nI (by omega) (by omega)
  unfold wpX_passes
  refine br_f (nI_pos (by omega)) (pk_lt t T (fun _ => ?_) (fun z => absurd z (by omega)))
  refine mz_prepare hT hM hn h0 hR (fun rd' mp' mo' mk' a11' a12' a13' a14' a15' a16' a17' k1 k2 k3 => ?_)
  obtain ⟨q1, q2, _⟩ := k2 rfl t ht
  have H' := H rd' mp' mo' mk' a11' a12' a13' a14' a15' a16' a17'
  show _ ∧ _
  rw [et, q1, q2]
  refine ⟨i6, i6, br_c (fun g1 => ⟨i6, br_c (fun g2 => ?_) (fun g2 => ⟨i6, i6, br_c (fun g3 => ?_) (fun g3 => ?_)⟩)⟩) (fun g1 => ?_)⟩
  · have e : mz_fl n a1 a2 a3 a4 a5 a6 a7 t = false := decide_eq_false (fun z => z.elim (fun y => y g1) (fun y => y.1 g2))
    rw [e] at H'
    exact H'
  · have e : mz_fl n a1 a2 a3 a4 a5 a6 a7 t = false := decide_eq_false (fun z => z.elim (fun y => y g1) (fun y => y.2 g3))
    rw [e] at H'
    exact H'
  · have e : mz_fl n a1 a2 a3 a4 a5 a6 a7 t = true := decide_eq_true (Or.inr ⟨g2, g3⟩)
    rw [e] at H'
    exact H'
  · have e : mz_fl n a1 a2 a3 a4 a5 a6 a7 t = true := decide_eq_true (Or.inl g1)
    rw [e] at H'
    exact H'
theorem mz_l205 {post : Int32 → Prop} {L : Nat} {xs : Nat → Int32} {J : Int32 → Int32 → Int32 → Int32 → Int32 → Int32 → Int32 → Int32 → Int32 → (Nat → Int32) → (Nat → Int32) → (Nat → Int32) → (Nat → Int32) → (Nat → Int32) → (Nat → Int32) → (Nat → Int32) → (Nat → Int32) → (Nat → Int32) → (Nat → Int32) → (Nat → Int32) → (Nat → Int32) → (Nat → Int32) → (Nat → Int32) → (Nat → Int32) → (Nat → Int32) → (Nat → Int32) → (Nat → Int32) → (Nat → Int32) → (Nat → Int32) → Prop} {mp mo mk : Int32} {a1 a2 a3 a4 a5 a6 a7 a8 a9 a10 a11 a12 a13 a14 a15 a16 a17 a18 a19 a20 : Nat → Int32} {n i kc ks F0 : Nat} {x3 : Int32} (hn : n ≤ 12) (h0 : 0 < n) (hR : mz_R a2) (hi : i < 6)
    (H : ∀ (rd' mp' mo' mk' : Int32) (a11' a12' a13' a14' a15' a16' a17' : Nat → Int32), J (nI (if mz_fl n a1 a2 a3 a4 a5 a6 a7 i then F0 ||| 2 ^ i else F0)) (nI (i + 1)) (nI n) (nI (i + 1)) (nI 0) rd' mp' mo' mk' a1 a2 a3 a4 a5 a6 a7 a8 a9 a10 a11' a12' a13' a14' a15' a16' a17' a18 a19 a20) :
    wL_law_205 post L xs J (nI n) x3 (nI F0) (nI i) kc ks (nI n) (nI (i + 1)) (nI 0) 0 mp mo mk a1 a2 a3 a4 a5 a6 a7 a8 a9 a10 a11 a12 a13 a14 a15 a16 a17 a18 a19 a20 := by
  unfold wL_law_205
  refine mz_passes (T := i + 1) (by omega) (by omega) hn h0 hR (by omega) (fun rd' mp' mo' mk' a11' a12' a13' a14' a15' a16' a17' => ?_)
  have H' := H rd' mp' mo' mk' a11' a12' a13' a14' a15' a16' a17'
  show (_ → _) ∧ (_ → _)
  by_cases e : mz_fl n a1 a2 a3 a4 a5 a6 a7 i = true
  · rw [if_pos e] at H' ⊢
    refine br_t rfl (nm_r (e' := nI (F0 ||| 2 ^ i)) ?_ (nm_r (nI_1 i) H'))
    rw [mb_one (by omega), mb_nor]
  · rw [if_neg e] at H' ⊢
    exact br_f (by decide) (nm_r (nI_1 i) H')
theorem mz_l129 {post : Int32 → Prop} {L : Nat} {xs : Nat → Int32} {a1 a2 a3 a8 a9 a10 a18 a19 a20 : Nat → Int32} {n T kc ks : Nat} (hL : L ≤ 260) (hn : n ≤ 10) (h0 : 0 < n) (hT : T ≤ 6) (hR : mz_R a2)
    (H : ∀ (rd mp mo mk : Int32) (a4 a5 a6 a7 a11 a12 a13 a14 a15 a16 a17 : Nat → Int32), wL_law_289 post L xs (nI n) (nI (mz_mask (mz_fl n a1 a2 a3 a4 a5 a6 a7) T)) (mz_cell L xs 1 &&& 7) (mz_vv (nI n) (mz_cell L xs 1)) kc ks (nI n) (nI T) (nI 0) rd mp mo mk a1 a2 a3 a4 a5 a6 a7 a8 a9 a10 a11 a12 a13 a14 a15 a16 a17 a18 a19 a20) :
    ∀ (f i : Nat) (rd mp mo mk : Int32) (a4 a5 a6 a7 a11 a12 a13 a14 a15 a16 a17 : Nat → Int32), f + i = T → wL_law_129 post L xs (nI n) (nI T) kc ks (f + 1) (nI (mz_mask (mz_fl n a1 a2 a3 a4 a5 a6 a7) i)) (nI i) (nI n) (nI i) (nI 0) rd mp mo mk a1 a2 a3 a4 a5 a6 a7 a8 a9 a10 a11 a12 a13 a14 a15 a16 a17 a18 a19 a20 := by
  intro f
  induction f with
  | zero =>
    intro i rd mp mo mk a4 a5 a6 a7 a11 a12 a13 a14 a15 a16 a17 hi
    have e : i = T := by omega
    subst e
    have H' := H rd mp mo mk a4 a5 a6 a7 a11 a12 a13 a14 a15 a16 a17
    refine pk_le i i (fun _ => ?_) (fun z => absurd z (by omega))
    refine mz_cellW 1 rfl hL (by omega) ?_
    refine nm_e (br_c (fun g => ?_) (fun g => br_c (fun g2 => ?_) (fun g2 => ?_)))
    · have v : mz_vv (nI n) (mz_cell L xs 1) = ((mz_cell L xs 1 >>> ((8 : Int32) &&& 31)) &&& 255) - ((mz_cell L xs 1 >>> ((8 : Int32) &&& 31)) &&& 255) / (nI n + 1) * (nI n + 1) := if_pos (Or.inl g)
      rw [v] at H'
      unfold wL_law_257
      exact mz_cellW 1 rfl hL (by omega) ⟨mz_n1 hn, H'⟩
    · have v : mz_vv (nI n) (mz_cell L xs 1) = ((mz_cell L xs 1 >>> ((8 : Int32) &&& 31)) &&& 255) - ((mz_cell L xs 1 >>> ((8 : Int32) &&& 31)) &&& 255) / (nI n + 1) * (nI n + 1) := if_pos (Or.inr g2)
      rw [v] at H'
      unfold wL_law_257
      exact mz_cellW 1 rfl hL (by omega) ⟨mz_n1 hn, H'⟩
    · have v : mz_vv (nI n) (mz_cell L xs 1) = ((mz_cell L xs 1 >>> ((8 : Int32) &&& 31)) &&& 15) - 5 := if_neg (fun y => y.elim g g2)
      rw [v] at H'
      exact mz_cellW 1 rfl hL (by omega) H'
  | succ f ih =>
    intro i rd mp mo mk a4 a5 a6 a7 a11 a12 a13 a14 a15 a16 a17 hi
    refine pk_le T i (fun z => absurd z (by omega)) (fun _ => ?_)
    refine mz_cellW (11 + i) (nI_add 11 i) hL (by omega) ?_
    have key : ∀ (x y mp mo mk : Int32) (a6' a7' a11 a12 a13 a14 a15 a16 a17 : Nat → Int32), (∀ j, j < i → a6' j = a6 j) → (∀ j, j < i → a7' j = a7 j) →
        wL_law_205 post L xs (wL_law_129 post L xs (nI n) (nI T) kc ks (f + 1)) (nI n) (nI T) (nI (mz_mask (mz_fl n a1 a2 a3 a4 a5 a6 a7) i)) (nI i) kc ks (nI n) (nI (i + 1)) (nI 0) 0 mp mo mk a1 a2 a3 (upd a4 i x) (upd a5 i y) a6' a7' a8 a9 a10 a11 a12 a13 a14 a15 a16 a17 a18 a19 a20 := by
      intro x y mp mo mk a6' a7' a11 a12 a13 a14 a15 a16 a17 h6 h7
      refine mz_l205 (by omega) h0 hR (by omega) (fun rd' mp' mo' mk' a11' a12' a13' a14' a15' a16' a17' => ?_)
      have e : mz_mask (mz_fl n a1 a2 a3 a4 a5 a6 a7) i = mz_mask (mz_fl n a1 a2 a3 (upd a4 i x) (upd a5 i y) a6' a7') i := mz_mask_congr (fun j hj => (mz_flc (pk_un (by omega)) (pk_un (by omega)) (h6 j hj) (h7 j hj)).symm)
      rw [e]
      exact ih (i + 1) rd' mp' mo' mk' (upd a4 i x) (upd a5 i y) a6' a7' a11' a12' a13' a14' a15' a16' a17' (by omega)
    refine br_c (fun g => ?_) (fun g => ?_)
    · exact mz_test (by omega) (fun a6' a7' h6 h7 => key _ _ mp mo mk a6' a7' a11 a12 a13 a14 a15 a16 a17 h6 h7)
    · exact mz_snap (by omega) hR (by omega) (fun a6' a7' a17' h6 h7 => key _ _ mp mo mk a6' a7' a11 a12 a13 a14 a15 a16 a17' h6 h7)
/-! mutants -/
theorem mz_addM {post : Int32 → St1 → Prop} {sz te rd mp mo mk : Int32} {a1 a2 a3 a4 a5 a6 a7 a8 a9 a10 a11 a12 a13 a14 a15 a16 a17 a18 a19 a20 : Nat → Int32} {M : Nat} {p c v : Int32} (hM : M < 24)
    (H : post (nI M) (sz, te, (nI (M + 1)), 0, mp, mo, mk, a1, a2, a3, a4, a5, a6, a7, (upd a8 M p), (upd a9 M (vp_nar .boolean c)), (upd a10 M v), a11, a12, a13, a14, a15, a16, a17, a18, a19, a20)) : wpX_addMutant post (sz, te, (nI M), rd, mp, mo, mk, a1, a2, a3, a4, a5, a6, a7, a8, a9, a10, a11, a12, a13, a14, a15, a16, a17, a18, a19, a20) p c v := by
  have ec : (nI M).toNatClampNeg = M := nI_clamp (by omega)
  unfold wpX_addMutant
  refine pk_lt M 24 (fun _ => ?_) (fun z => absurd z (by omega))
  rw [ec]
  exact ⟨pk_in M 24 hM, nm_e ⟨pk_in M 24 hM, nm_e ⟨pk_in M 24 hM, nm_e (nm_r (nI_1 M) H)⟩⟩⟩
theorem mz_mutOp {post : Int32 → St1 → Prop} {te rd mp mo mk : Int32} {a1 a2 a3 a4 a5 a6 a7 a8 a9 a10 a11 a12 a13 a14 a15 a16 a17 a18 a19 a20 : Nat → Int32} {M n p o : Nat} (hM : M < 24) (hn : n ≤ 12) (hp : p < n) (ho : o < 8)
    (H : post (nI M) ((nI n), te, (nI (M + 1)), 0, mp, mo, mk, a1, a2, a3, a4, a5, a6, a7, (upd a8 M (nI p)), (upd a9 M 1), (upd a10 M (nI o)), a11, a12, a13, a14, a15, a16, a17, a18, a19, a20)) : wpX_mutateOp post ((nI n), te, (nI M), rd, mp, mo, mk, a1, a2, a3, a4, a5, a6, a7, a8, a9, a10, a11, a12, a13, a14, a15, a16, a17, a18, a19, a20) (nI p) (nI o) := by
  unfold wpX_mutateOp
  refine br_f (nI_pos (by omega)) (pk_lt p n (fun _ => br_f (nI_pos (by omega)) (pk_le o 7 (fun _ => mz_addM hM ?_) (fun z => absurd z (by omega)))) (fun z => absurd z (by omega)))
  rw [mb_b1]
  exact H
theorem mz_mutC {post : Int32 → St1 → Prop} {te rd mp mo mk : Int32} {a1 a2 a3 a4 a5 a6 a7 a8 a9 a10 a11 a12 a13 a14 a15 a16 a17 a18 a19 a20 : Nat → Int32} {M n p : Nat} {c : Int32} (hM : M < 24) (hn : n ≤ 12) (hp : p < n)
    (H : post (nI M) ((nI n), te, (nI (M + 1)), 0, mp, mo, mk, a1, a2, a3, a4, a5, a6, a7, (upd a8 M (nI p)), (upd a9 M 0), (upd a10 M c), a11, a12, a13, a14, a15, a16, a17, a18, a19, a20)) : wpX_mutateC post ((nI n), te, (nI M), rd, mp, mo, mk, a1, a2, a3, a4, a5, a6, a7, a8, a9, a10, a11, a12, a13, a14, a15, a16, a17, a18, a19, a20) (nI p) c := by
  unfold wpX_mutateC
  refine br_f (nI_pos (by omega)) (pk_lt p n (fun _ => mz_addM hM ?_) (fun z => absurd z (by omega)))
  rw [mb_b0]
  exact H
/-- the two mutants that change nothing are killed by the tests that fail -/
theorem mz_same {n T M m : Nat} {a1 a2 a3 a4 a5 a6 a7 a8 a9 a10 a11 a12 a14 a15 : Nat → Int32} (hQ : mz_Q n T M a1 a2 a3 a4 a5 a8 a9 a10 a11 a12 a14 a15) (hm : m < M) (h8 : a8 m = 0) (hd : mz_id a1 a3 a9 a10 0 m) :
    mz_km (mz_KK T M a6 a7 a14 a15) T m = mz_mask (mz_fl n a1 a2 a3 a4 a5 a6 a7) T := by
  refine mz_mask_congr (fun t ht => ?_)
  obtain ⟨_, _, q⟩ := hQ t ht
  obtain ⟨q1, q2⟩ := q m hm h8 hd
  show (mz_KK T M a6 a7 a14 a15 t).testBit m = _
  unfold mz_KK
  rw [if_pos ht, mz_mask_bit, decide_eq_true hm, Bool.true_and]
  unfold mz_dead mz_fl
  rw [q1, q2]
theorem mz_l289 {post : Int32 → Prop} {L : Nat} {xs : Nat → Int32} {rd mp mo mk : Int32} {a1 a2 a3 a4 a5 a6 a7 a8 a9 a10 a11 a12 a13 a14 a15 a16 a17 a18 a19 a20 : Nat → Int32} {n T kc ks : Nat} {x v : Int32} (hn : n ≤ 10) (h0 : 0 < n) (hT : T ≤ 6) (hR : mz_R a2) (h1 : a1 0 = x &&& 7) (h3 : a3 0 = v)
    (H : ∀ (rd mp mo mk : Int32) (a8 a9 a10 a11 a12 a13 a14 a15 a16 a17 a18 : Nat → Int32), ∃ fu, wL_law_341 post L xs (nI n) kc ks fu (nI 2) (nI 17) (nI n) (nI T) (nI 2) rd mp mo mk a1 a2 a3 a4 a5 a6 a7 a8 a9 a10 a11 a12 a13 a14 a15 a16 a17 a18 a19 a20) :
    wL_law_289 post L xs (nI n) (nI (mz_mask (mz_fl n a1 a2 a3 a4 a5 a6 a7) T)) (x &&& 7) v kc ks (nI n) (nI T) (nI 0) rd mp mo mk a1 a2 a3 a4 a5 a6 a7 a8 a9 a10 a11 a12 a13 a14 a15 a16 a17 a18 a19 a20 := by
  obtain ⟨o, ho, eo⟩ := pk_andE x (m := 7) 3 (by decide)
  rw [eo] at h1 ⊢
  unfold wL_law_289
  refine mz_mutOp (M := 0) (p := 0) (by omega) (by omega) h0 ho (br_t rfl ?_)
  refine mz_mutC (M := 1) (p := 0) (by omega) (by omega) h0 (br_t rfl ?_)
  refine mz_killers (m := 0) hT (by omega) (by omega) h0 hR (by omega) (fun rd' mp' mo' mk' a11' a12' a13' a14' a15' a16' a17' a18' k1 k2 k3 => ?_)
  have hQ := k2 rfl
  have d0 := mz_same (a6 := a6) (a7 := a7) (m := 0) hQ (by omega) (by rw [pk_un (by omega), pk_us]; rfl) ⟨fun z => by rw [pk_un (by omega), pk_us] at z; exact absurd z (by decide), fun _ => by rw [pk_un (by omega), pk_us, h1]⟩
  have d1 := mz_same (a6 := a6) (a7 := a7) (m := 1) hQ (by omega) (by rw [pk_us]; rfl) ⟨fun _ => by rw [pk_us, h3], fun z => by rw [pk_us] at z; exact absurd rfl z⟩
  refine br_t (congrArg nI d0) ?_
  refine mz_killers (m := 1) hT (by omega) (by omega) h0 hR (by omega) (fun rd'' mp'' mo'' mk'' a11'' a12'' a13'' a14'' a15'' a16'' a17'' a18'' l1 l2 l3 => ?_)
  obtain ⟨_, _, e14, e15⟩ := l3 k1
  subst e14
  subst e15
  exact br_t (congrArg nI d1) (H _ _ _ _ _ _ _ _ _ _ _ _ _ _ _)
theorem mz_l341 {post : Int32 → Prop} {L : Nat} {xs : Nat → Int32} {mp mo mk : Int32} {a1 a2 a3 a4 a5 a6 a7 a11 a12 a13 a14 a15 a16 a17 a18 a19 a20 : Nat → Int32} {n T kc ks : Nat} (hL : L ≤ 260) (hn : n ≤ 10) (h0 : 0 < n)
    (H : ∀ (M : Nat) (rd : Int32) (a8 a9 a10 : Nat → Int32), M ≤ 24 → 2 ≤ M → ∃ fu, wL_law_442 post L xs (nI M) kc ks fu 0 0 (nI n) (nI T) (nI M) rd mp mo mk a1 a2 a3 a4 a5 a6 a7 a8 a9 a10 a11 a12 a13 a14 a15 a16 a17 a18 a19 a20) :
    ∀ (f k M : Nat) (rd : Int32) (a8 a9 a10 : Nat → Int32), L ≤ f + k → k ≤ 300 → M ≤ 24 → 2 ≤ M → wL_law_341 post L xs (nI n) kc ks (f + 1) (nI M) (nI k) (nI n) (nI T) (nI M) rd mp mo mk a1 a2 a3 a4 a5 a6 a7 a8 a9 a10 a11 a12 a13 a14 a15 a16 a17 a18 a19 a20 := by
  intro f
  induction f with
  | zero =>
    intro k M rd a8 a9 a10 hk hk3 hM h2
    exact pk_le L k (fun _ => H M rd a8 a9 a10 hM h2) (fun z => absurd z (by omega))
  | succ f ih =>
    intro k M rd a8 a9 a10 hk hk3 hM h2
    have ek : (nI k).toNatClampNeg = k := nI_clamp (by omega)
    refine pk_le L k (fun _ => H M rd a8 a9 a10 hM h2) (fun z => pk_le 24 M (fun _ => H M rd a8 a9 a10 hM h2) (fun z2 => ⟨pk_in k L z, nm_e ⟨nI_ne0 h0 (by omega), ?_⟩⟩))
    rw [ek]
    generalize xs k = x
    obtain ⟨j, hj, ej⟩ := pk_andE (x >>> ((4 : Int32) &&& 31)) (m := 255) 8 (by decide)
    obtain ⟨o, ho, eo⟩ := pk_andE (x >>> ((1 : Int32) &&& 31)) (m := 7) 3 (by decide)
    rw [ej, eo]
    have hjn : j % n < n := Nat.mod_lt _ h0
    refine nm_r (pk_rem (a := j) (d := n) (by omega) h0 (by omega)) (br_c (fun g => ?_) (fun g => ?_))
    · refine mz_mutOp (by omega) (by omega) hjn ho ?_
      exact br_f (nI_pos (by omega)) (nm_r (nI_1 M) (nm_r (nI_1 k) (ih (k + 1) (M + 1) _ _ _ _ (by omega) (by omega) (by omega) (by omega))))
    · refine mz_mutC (by omega) (by omega) hjn ?_
      exact br_f (nI_pos (by omega)) (nm_r (nI_1 M) (nm_r (nI_1 k) (ih (k + 1) (M + 1) _ _ _ _ (by omega) (by omega) (by omega) (by omega))))
end
section
/-! the last questions -/
theorem mz_63 : ∀ j, j < 6 → (63 : Nat).testBit j = true := by decide
theorem mz_kdle {K : Nat → Nat} {S : Nat} : mz_kd K S ≤ mz_kd K 63 := by
  refine mz_cnt_mono (fun m _ hm => ?_)
  obtain ⟨j, j1, _, j3⟩ := mz_or_iff.mp hm
  exact mz_or_iff.mpr ⟨j, j1, mz_63 j j1, j3⟩
theorem mz_kdlt (K : Nat → Nat) (S : Nat) : mz_kd K S ≤ 24 := mz_cnt_le _ 24
theorem mz_kdcov {K : Nat → Nat} {T M S : Nat} (hf : mz_fact K T M (mz_or K 63 T)) : mz_kd K S = mz_kd K 63 ↔ mz_cov K (mz_or K 63 T) S := by
  obtain ⟨hT, hM, hL, hKT, hal, haM⟩ := hf
  have h1 : ∀ m, (mz_or K S 6).testBit m = true → (mz_or K 63 6).testBit m = true := by
    intro m hm
    obtain ⟨j, j1, _, j3⟩ := mz_or_iff.mp hm
    exact mz_or_iff.mpr ⟨j, j1, mz_63 j j1, j3⟩
  constructor
  · intro e m hm
    have hm24 : m < 24 := by have := haM m hm; omega
    obtain ⟨j, j1, j2, j3⟩ := mz_or_iff.mp hm
    exact mz_cnt_sub (fun m _ hm => h1 m hm) e m hm24 (mz_or_iff.mpr ⟨j, by omega, j2, j3⟩)
  · intro hc
    refine Nat.le_antisymm mz_kdle (mz_cnt_mono (fun m _ hm => ?_))
    obtain ⟨j, j1, j2, j3⟩ := mz_or_iff.mp hm
    refine hc m (mz_or_iff.mpr ⟨j, ?_, j2, j3⟩)
    rcases Nat.lt_or_ge j T with z | z
    · exact z
    · rw [hKT j z, Nat.zero_testBit] at j3
      exact absurd j3 (by decide)
theorem mz_kd0 {K : Nat → Nat} : mz_kd K 0 = 0 := by
  refine mz_cnt_zero (fun m _ => ?_)
  cases e : (mz_or K 0 6).testBit m with
  | true =>
    obtain ⟨j, _, h2, _⟩ := mz_or_iff.mp e
    rw [Nat.zero_testBit] at h2
    exact absurd h2 (by decide)
  | false => rfl
def mz_lv (K : Nat → Nat) (T m : Nat) : Bool := decide (mz_km K T m ≠ 0)
theorem mz_all {K : Nat → Nat} {T M : Nat} (hf : mz_fact K T M (mz_or K 63 T)) : mz_cnt (mz_lv K T) M = mz_kd K 63 := by
  obtain ⟨hT, hM, hL, hKT, hal, haM⟩ := hf
  have h1 : ∀ m, (mz_or K 63 6).testBit m = true ↔ (mz_or K 63 T).testBit m = true := by
    intro m
    constructor
    · intro h
      obtain ⟨j, j1, j2, j3⟩ := mz_or_iff.mp h
      refine mz_or_iff.mpr ⟨j, ?_, j2, j3⟩
      rcases Nat.lt_or_ge j T with z | z
      · exact z
      · rw [hKT j z, Nat.zero_testBit] at j3
        exact absurd j3 (by decide)
    · intro h
      obtain ⟨j, j1, j2, j3⟩ := mz_or_iff.mp h
      exact mz_or_iff.mpr ⟨j, by omega, j2, j3⟩
  have e := mz_cnt_ext (p := fun i => (mz_or K 63 6).testBit i) (m := M) (fun j hj => by
    cases c : (mz_or K 63 6).testBit j with
    | true =>
      have := haM j ((h1 j).mp c)
      omega
    | false => rfl) (24 - M)
  have e2 : M + (24 - M) = 24 := by omega
  rw [e2] at e
  unfold mz_kd
  rw [e]
  refine mz_cnt_congr (fun m hm => ?_)
  rw [Bool.eq_iff_iff, h1 m]
  unfold mz_lv
  rw [decide_eq_true_iff, mz_or_iff]
  constructor
  · intro h
    obtain ⟨j, j1, j2⟩ := mz_mask_ne h
    exact ⟨j, j1, mz_63 j (by omega), j2⟩
  · rintro ⟨j, j1, j2, j3⟩
    exact mz_mask_ne' j1 j3
theorem mz_l553 {post : Int32 → Prop} {L : Nat} {xs : Nat → Int32} {J : Int32 → Int32 → Int32 → Int32 → Int32 → Int32 → Int32 → Int32 → Int32 → (Nat → Int32) → (Nat → Int32) → (Nat → Int32) → (Nat → Int32) → (Nat → Int32) → (Nat → Int32) → (Nat → Int32) → (Nat → Int32) → (Nat → Int32) → (Nat → Int32) → (Nat → Int32) → (Nat → Int32) → (Nat → Int32) → (Nat → Int32) → (Nat → Int32) → (Nat → Int32) → (Nat → Int32) → (Nat → Int32) → (Nat → Int32) → (Nat → Int32) → Prop} {sz te mu rd mp mo mk : Int32} {a1 a2 a3 a4 a5 a6 a7 a8 a9 a10 a11 a12 a13 a14 a15 a16 a17 a18 a19 a20 : Nat → Int32} {x8 x9 x10 x12 x13 : Int32} {i kc ks : Nat}
    (H : ∀ y : Int32, (y = 0 ∨ y = 1) → (¬ x10 = 0 → y = 1) → (x12 = x8 → x13 = x9 → y = 1) → J y (nI (i + 1)) sz te mu rd mp mo mk a1 a2 a3 a4 a5 a6 a7 a8 a9 a10 a11 a12 a13 a14 a15 a16 a17 a18 a19 a20) : wL_law_553 post L xs J x8 x9 x10 (nI i) x12 x13 kc ks sz te mu rd mp mo mk a1 a2 a3 a4 a5 a6 a7 a8 a9 a10 a11 a12 a13 a14 a15 a16 a17 a18 a19 a20 := by
  unfold wL_law_553
  refine br_c (fun g => br_c (fun g1 => br_c (fun g2 => nm_r (nI_1 i) (H 1 (Or.inr rfl) (fun _ => rfl) (fun _ _ => rfl))) (fun g2 => nm_r (nI_1 i) (H 0 (Or.inl rfl) (fun z => absurd g z) (fun _ z => absurd z g2)))) (fun g1 => nm_r (nI_1 i) (H 0 (Or.inl rfl) (fun z => absurd g z) (fun z _ => absurd z g1)))) (fun g => nm_r (nI_1 i) (H 1 (Or.inr rfl) (fun _ => rfl) (fun _ _ => rfl)))
theorem mz_l508 {L : Nat} {xs : Nat → Int32} {a1 a2 a3 a4 a5 a6 a7 a8 a9 a10 a14 a15 a19 a20 : Nat → Int32} {n T M best kc ks : Nat} (hT : T ≤ 6) (hM : M ≤ 24) (hn : n ≤ 12) (h0 : 0 < n) (hR : mz_R a2)
    (hb : best ≤ 6) (hA : mz_ans (mz_KK T M a6 a7 a14 a15) (mz_or (mz_KK T M a6 a7 a14 a15) 63 T) best) :
    ∀ (f i : Nat) (y rd mp mo mk : Int32) (a11 a12 a13 a16 a17 a18 : Nat → Int32), f + i = 64 → ¬ rd = 0 → (y = 0 ∨ y = 1) →
      ((∃ S, S < i ∧ mz_kd (mz_KK T M a6 a7 a14 a15) S = mz_kd (mz_KK T M a6 a7 a14 a15) 63 ∧ mz_sz S = best) → y = 1) →
      wL_law_508 (fun r => r = 1) L xs (nI (mz_kd (mz_KK T M a6 a7 a14 a15) 63)) (nI best) kc ks (f + 1) y (nI i) (nI n) (nI T) (nI M) rd mp mo mk a1 a2 a3 a4 a5 a6 a7 a8 a9 a10 a11 a12 a13 a14 a15 a16 a17 a18 a19 a20 := by
  have hf := (mz_KKfact (a6 := a6) (a7 := a7) (a14 := a14) (a15 := a15) hT hM).1
  intro f
  induction f with
  | zero =>
    intro i y rd mp mo mk a11 a12 a13 a16 a17 a18 hi hr hy hS
    have e : i = 64 := by omega
    subst e
    refine pk_le 64 64 (fun _ => hS ?_) (fun z => absurd z (by omega))
    obtain ⟨S, s1, s2, s3⟩ := hA.2
    exact ⟨S, s1, (mz_kdcov hf).mpr s2, s3⟩
  | succ f ih =>
    intro i y rd mp mo mk a11 a12 a13 a16 a17 a18 hi hr hy hS
    refine pk_le 64 i (fun z => absurd z (by omega)) (fun _ => ?_)
    refine mz_killed (S := i) hT hM hn h0 hR (by omega) (fun rd' mp' mo' mk' a11' a12' a13' a14' a15' a16' a17' a18' k1 k2 => ?_)
    obtain ⟨_, _, e14, e15⟩ := k2 hr
    subst e14
    subst e15
    refine mz_size (a := i) (by omega) ?_
    have q1 := mz_kdle (K := mz_KK T M a6 a7 a14' a15') (S := i)
    have q2 := mz_kdlt (mz_KK T M a6 a7 a14' a15') 63
    have q3 := mz_szle i
    have fin : wL_law_553 (fun r => r = 1) L xs (wL_law_508 (fun r => r = 1) L xs (nI (mz_kd (mz_KK T M a6 a7 a14' a15') 63)) (nI best) kc ks (f + 1)) (nI (mz_kd (mz_KK T M a6 a7 a14' a15') 63)) (nI best) y (nI i) (nI (mz_kd (mz_KK T M a6 a7 a14' a15') i)) (nI (mz_sz i)) kc ks (nI n) (nI T) (nI M) rd' mp' mo' mk' a1 a2 a3 a4 a5 a6 a7 a8 a9 a10 a11' a12' a13' a14' a15' a16' a17' a18' a19 a20 := by
      refine mz_l553 (fun y' hy' h1 h2 => ih (i + 1) y' rd' mp' mo' mk' a11' a12' a13' a16' a17' a18' (by omega) k1 hy' ?_)
      rintro ⟨S, s1, s2, s3⟩
      by_cases e : S = i
      · subst e
        exact h2 (by rw [s2]) (by rw [s3])
      · refine h1 (fun z => ?_)
        have := hS ⟨S, by omega, s2, s3⟩
        rw [this] at z
        exact absurd z (by decide)
    refine pk_lt (mz_kd (mz_KK T M a6 a7 a14' a15') 63) (mz_kd (mz_KK T M a6 a7 a14' a15') i) (fun z => absurd z (by omega)) (fun _ => pk_eq (mz_kd (mz_KK T M a6 a7 a14' a15') i) (mz_kd (mz_KK T M a6 a7 a14' a15') 63) (fun z => ?_) (fun _ => fin))
    refine pk_le best (mz_sz i) (fun _ => fin) (fun g => ?_)
    have := hA.1 i (by omega) ((mz_kdcov hf).mp z)
    omega
theorem mz_l442 {L : Nat} {xs : Nat → Int32} {a1 a2 a3 a4 a5 a6 a7 a8 a9 a10 a19 a20 : Nat → Int32} {n T M kc ks : Nat} (hT : T ≤ 6) (hM : M ≤ 24) (h2 : 2 ≤ M) (hn : n ≤ 12) (h0 : 0 < n) (hR : mz_R a2) :
    ∀ (f i : Nat) (rd mp mo mk : Int32) (a11 a12 a13 a14 a15 a16 a17 a18 : Nat → Int32), f + i = M → (i = 0 ∨ ¬ rd = 0) →
      wL_law_442 (fun r => r = 1) L xs (nI M) kc ks (f + 1) (nI (mz_cnt (mz_lv (mz_KK T M a6 a7 a14 a15) T) i)) (nI i) (nI n) (nI T) (nI M) rd mp mo mk a1 a2 a3 a4 a5 a6 a7 a8 a9 a10 a11 a12 a13 a14 a15 a16 a17 a18 a19 a20 := by
  intro f
  induction f with
  | zero =>
    intro i rd mp mo mk a11 a12 a13 a14 a15 a16 a17 a18 hi hr
    have e : i = M := by omega
    subst e
    have hr' : ¬ rd = 0 := hr.elim (fun z => absurd z (by omega)) id
    have hf := (mz_KKfact (a6 := a6) (a7 := a7) (a14 := a14) (a15 := a15) hT hM).1
    refine pk_le i i (fun _ => ?_) (fun z => absurd z (by omega))
    rw [mz_all hf]
    refine mz_enough hT hM hn h0 hR (fun best rd' mp' mo' mk' a11' a12' a13' a14' a15' a16' a17' a18' a19' a20' k1 k2 k3 k4 => ?_)
    obtain ⟨_, _, e14, e15⟩ := k2 hr'
    subst e14
    subst e15
    refine mz_killed (S := 63) hT hM hn h0 hR (by omega) (fun rd'' mp'' mo'' mk'' a11'' a12'' a13'' a14'' a15'' a16'' a17'' a18'' l1 l2 => ?_)
    obtain ⟨_, _, e14, e15⟩ := l2 k1
    subst e14
    subst e15
    refine br_t rfl ?_
    refine mz_killed (S := 0) hT hM hn h0 hR (by omega) (fun rd3 mp3 mo3 mk3 b11 b12 b13 b14 b15 b16 b17 b18 m1 m2 => ?_)
    obtain ⟨_, _, e14, e15⟩ := m2 l1
    subst e14
    subst e15
    refine br_t (congrArg nI mz_kd0) ⟨65, ?_⟩
    refine mz_l508 hT hM hn h0 hR k4 k3 64 0 0 rd3 mp3 mo3 mk3 b11 b12 b13 b16 b17 b18 (by omega) m1 (Or.inl rfl) ?_
    rintro ⟨S, s1, _⟩
    omega
  | succ f ih =>
    intro i rd mp mo mk a11 a12 a13 a14 a15 a16 a17 a18 hi hr
    refine pk_le M i (fun z => absurd z (by omega)) (fun _ => ?_)
    refine mz_killers (m := i) hT hM hn h0 hR (by omega) (fun rd' mp' mo' mk' a11' a12' a13' a14' a15' a16' a17' a18' k1 k2 k3 => ?_)
    have e : mz_cnt (mz_lv (mz_KK T M a6 a7 a14 a15) T) i = mz_cnt (mz_lv (mz_KK T M a6 a7 a14' a15') T) i := by
      rcases hr with z | z
      · subst z; rfl
      · obtain ⟨_, _, e14, e15⟩ := k3 z
        rw [e14, e15]
    rw [e]
    have ihn := ih (i + 1) rd' mp' mo' mk' a11' a12' a13' a14' a15' a16' a17' a18' (by omega) (Or.inr k1)
    have hk := mz_kmlt (K := mz_KK T M a6 a7 a14' a15') (m := i) hT
    refine pk_eq (mz_km (mz_KK T M a6 a7 a14' a15') T i) 0 (fun z => nm_r (nI_1 i) ?_) (fun z => nm_r (e' := nI (mz_cnt (mz_lv (mz_KK T M a6 a7 a14' a15') T) (i + 1))) ?_ (nm_r (nI_1 i) ihn))
    · have e2 : mz_cnt (mz_lv (mz_KK T M a6 a7 a14' a15') T) (i + 1) = mz_cnt (mz_lv (mz_KK T M a6 a7 a14' a15') T) i := by
        show _ + (if mz_lv (mz_KK T M a6 a7 a14' a15') T i then 1 else 0) = _
        have : mz_lv (mz_KK T M a6 a7 a14' a15') T i = false := decide_eq_false (fun y => y z)
        rw [this]; rfl
      rw [e2] at ihn
      exact ihn
    · rw [nI_1]
      show _ = nI (_ + (if mz_lv (mz_KK T M a6 a7 a14' a15') T i then 1 else 0))
      have : mz_lv (mz_KK T M a6 a7 a14' a15') T i = true := decide_eq_true z
      rw [this]; rfl
theorem mz_R0 : mz_R (fun _ => 0) := fun j _ => ⟨0, by omega, rfl⟩
theorem i_vc (xs : Nat → Int32) (L : Nat) (hL : L ≤ 260) : wpL_law (fun r => r = 1) L xs := by
  unfold wpL_law
  refine ⟨20, 612, by omega, by omega, ?_⟩
  unfold wpX_init
  refine ⟨by omega, by omega, by omega, by omega, by omega, by omega, by omega, by omega, by omega, by omega, by omega, by omega, by omega, by omega, by omega, by omega, by omega, by omega, by omega, by omega, by omega, by omega, by omega, by omega, by omega, by omega, by omega, by omega, by omega, by omega, by omega, by omega, by omega, by omega, by omega, by omega, by omega, by omega, by omega, by omega, ?_⟩
  refine mz_cellW 0 rfl hL (by omega) ?_
  refine ⟨by decide, ?_⟩
  obtain ⟨j, hj, ej⟩ := pk_andE (mz_cell L xs 0) (m := 2147483647) 31 (by decide)
  have e6 : nI j - nI j / 10 * 10 = nI (j % 10) := pk_rem (a := j) (d := 10) (by omega) (by omega) (by omega)
  have e7 : 1 + (nI j - nI j / 10 * 10) = nI (1 + j % 10) := by rw [e6]; exact nI_add 1 _
  rw [ej]
  refine nm_r e7 ?_
  have hn : 1 + j % 10 ≤ 10 := by omega
  have h0 : 0 < 1 + j % 10 := by omega
  generalize 1 + j % 10 = n at hn h0
  refine ⟨n + 1, mz_l24 hL hn h0 (fun T rd a1 a2 a3 hT hR h1 h3 => ⟨T + 1, ?_⟩) n 0 0 _ _ _ (by omega) mz_R0 (fun z => absurd z (by omega))⟩
  refine mz_l129 hL hn h0 hT hR (fun rd mp mo mk a4 a5 a6 a7 a11 a12 a13 a14 a15 a16 a17 => ?_) T 0 _ _ _ _ _ _ _ _ _ _ _ _ _ _ _ (by omega)
  refine mz_l289 hn h0 hT hR h1 h3 (fun rd mp mo mk a8 a9 a10 a11 a12 a13 a14 a15 a16 a17 a18 => ⟨L + 1, ?_⟩)
  refine mz_l341 hL hn h0 (fun M rd a8 a9 a10 hM h2 => ⟨M + 1, ?_⟩) L 17 2 _ _ _ _ (by omega) (by omega) (by omega) (by omega)
  exact mz_l442 hT hM h2 (by omega) h0 hR M 0 _ _ _ _ _ _ _ _ _ _ _ _ (by omega) (Or.inl rfl)
end
