section
/-! ints as naturals: nI commutes with the bit operations; no bounds -/
theorem td_bv (a : Nat) : (nI a).toBitVec = BitVec.ofNat 32 a := rfl
theorem td_and (a b : Nat) : nI a &&& nI b = nI (a &&& b) := by
  apply Int32.toBitVec_inj.1
  show BitVec.ofNat 32 a &&& BitVec.ofNat 32 b = BitVec.ofNat 32 (a &&& b)
  apply BitVec.eq_of_getLsbD_eq
  intro i hi
  simp [hi]
theorem td_or (a b : Nat) : nI a ||| nI b = nI (a ||| b) := by
  apply Int32.toBitVec_inj.1
  show BitVec.ofNat 32 a ||| BitVec.ofNat 32 b = BitVec.ofNat 32 (a ||| b)
  apply BitVec.eq_of_getLsbD_eq
  intro i hi
  simp [hi]
theorem td_xor (a b : Nat) : nI a ^^^ nI b = nI (a ^^^ b) := by
  apply Int32.toBitVec_inj.1
  show BitVec.ofNat 32 a ^^^ BitVec.ofNat 32 b = BitVec.ofNat 32 (a ^^^ b)
  apply BitVec.eq_of_getLsbD_eq
  intro i hi
  simp [hi]
theorem td_cntv : ∀ n, n < 32 → ((nI n &&& 31).toBitVec.smod 32).toNat = n := by decide +kernel
theorem td_shl (a : Nat) {k : Nat} (hk : k < 32) : nI a <<< (nI k &&& 31) = nI (a <<< k) := by
  apply Int32.toBitVec_inj.1
  rw [Int32.toBitVec_shiftLeft]
  show BitVec.ofNat 32 a <<< ((nI k &&& 31).toBitVec.smod 32).toNat = BitVec.ofNat 32 (a <<< k)
  rw [td_cntv k hk]
  apply BitVec.eq_of_toNat_eq
  rw [BitVec.toNat_shiftLeft, BitVec.toNat_ofNat, BitVec.toNat_ofNat, Nat.shiftLeft_eq, Nat.shiftLeft_eq, Nat.mod_mul_mod]
theorem td_mod (a : Nat) : nI a = nI (a % 4294967296) := by
  apply Int32.toBitVec_inj.1
  show BitVec.ofNat 32 a = BitVec.ofNat 32 (a % 4294967296)
  apply BitVec.eq_of_toNat_eq
  rw [BitVec.toNat_ofNat, BitVec.toNat_ofNat]
  exact (Nat.mod_mod _ _).symm
theorem td_eq (a b : Nat) : nI a = nI b ↔ a % 4294967296 = b % 4294967296 := by
  constructor
  · intro h
    have h2 : (BitVec.ofNat 32 a).toNat = (BitVec.ofNat 32 b).toNat := congrArg (fun z : Int32 => z.toBitVec.toNat) h
    rw [BitVec.toNat_ofNat, BitVec.toNat_ofNat] at h2
    exact h2
  · intro h
    rw [td_mod a, td_mod b, h]
theorem td_eq0 (a : Nat) : nI a = 0 ↔ a % 4294967296 = 0 := td_eq a 0
theorem td_eq1 (a : Nat) : nI a = 1 ↔ a % 4294967296 = 1 := td_eq a 1
/-- the arithmetic shift to the right -/
def td_sr (n k : Nat) : Nat := if n % 4294967296 < 2147483648 then (n % 4294967296) >>> k else (n % 4294967296 + 18446744069414584320) >>> k
theorem td_shr (a : Nat) {k : Nat} (hk : k < 32) : nI a >>> (nI k &&& 31) = nI (td_sr a k) := by
  rw [td_mod a]
  unfold td_sr
  have hm : a % 4294967296 < 4294967296 := Nat.mod_lt _ (by decide)
  generalize a % 4294967296 = m at hm ⊢
  split
  · rename_i h
    rw [pk_shrN (by omega) _ k (td_cntv k hk), Nat.shiftRight_eq_div_pow]
  · rename_i h
    apply Int32.toBitVec_inj.1
    rw [Int32.toBitVec_shiftRight]
    show (BitVec.ofNat 32 m).sshiftRight ((nI k &&& 31).toBitVec.smod 32).toNat = BitVec.ofNat 32 ((m + 18446744069414584320) >>> k)
    rw [td_cntv k hk]
    apply BitVec.eq_of_getLsbD_eq
    intro i hi
    have e : m + 18446744069414584320 = 2 ^ 32 * (2 ^ 32 - 1) + m := by omega
    have h31 : m.testBit 31 = true := by
      rw [Nat.testBit_eq_decide_div_mod_eq, decide_eq_true_eq]
      omega
    rw [BitVec.getLsbD_sshiftRight, BitVec.msb_eq_getLsbD_last, BitVec.getLsbD_ofNat, BitVec.getLsbD_ofNat, BitVec.getLsbD_ofNat, Nat.testBit_shiftRight, e, Nat.testBit_two_pow_mul_add _ hm, Nat.testBit_two_pow_sub_one]
    by_cases h2 : k + i < 32
    · simp [h2, hi]
    · have h3 : k + i - 32 < 32 := by omega
      simp [h2, hi, h3, h31]
theorem td_neg (a : Nat) : -(nI a) = nI (4294967296 - a % 4294967296) := by
  apply Int32.toBitVec_inj.1
  rw [Int32.toBitVec_neg]
  show -(BitVec.ofNat 32 a) = BitVec.ofNat 32 (4294967296 - a % 4294967296)
  apply BitVec.eq_of_toNat_eq
  rw [BitVec.toNat_neg, BitVec.toNat_ofNat, BitVec.toNat_ofNat]
theorem td_dec (a : Nat) : nI a - 1 = nI (a + 4294967295) := by
  rw [← nI_add, Int32.sub_eq_add_neg]
  rfl
theorem td_m1 : (-1 : Int32) = nI 4294967295 := rfl
theorem td_shl1 (a : Nat) : nI a <<< ((1 : Int32) &&& 31) = nI (a <<< 1) := td_shl a (k := 1) (by decide)
theorem td_shr1 (a : Nat) : nI a >>> ((1 : Int32) &&& 31) = nI (td_sr a 1) := td_shr a (k := 1) (by decide)
theorem td_shl2 (a : Nat) : nI a <<< ((2 : Int32) &&& 31) = nI (a <<< 2) := td_shl a (k := 2) (by decide)
theorem td_shr2 (a : Nat) : nI a >>> ((2 : Int32) &&& 31) = nI (td_sr a 2) := td_shr a (k := 2) (by decide)
theorem td_not (a : Nat) : nI a ^^^ (-1) = nI (a ^^^ 4294967295) := td_xor a 4294967295
theorem td_aODD (a : Nat) : nI a &&& 43690 = nI (a &&& 43690) := td_and a 43690
theorem td_aEVEN (a : Nat) : nI a &&& 87381 = nI (a &&& 87381) := td_and a 87381
theorem td_ALLa (a : Nat) : 131071 &&& nI a = nI (131071 &&& a) := td_and 131071 a
theorem td_aALL (a : Nat) : nI a &&& 131071 = nI (a &&& 131071) := td_and a 131071
theorem td_aEnds (a : Nat) : nI a &&& 65537 = nI (a &&& 65537) := td_and a 65537
theorem td_a1 (a : Nat) : nI a &&& 1 = nI (a &&& 1) := td_and a 1
theorem td_2m (a : Nat) : 2 * nI a = nI (2 * a) := pk_mul 2 a
theorem td_9m (a : Nat) : 9 * nI a = nI (9 * a) := pk_mul 9 a
theorem td_a2 (a : Nat) : nI a + 2 = nI (a + 2) := nI_add a 2
theorem td_ix (s j : Nat) : 17 * nI s + nI j = nI (17 * s + j) := by
  rw [← nI_add, ← pk_mul]
  rfl
theorem td_17 (j : Nat) : 17 + nI j = nI (17 + j) := nI_add 17 j
theorem td_d9 {p : Nat} (h : p < 2 ^ 31) : nI p / 9 = nI (p / 9) := pk_div (d := 9) h (by decide) (by decide)
theorem td_r9 {p : Nat} (h : p < 2 ^ 31) : nI p - nI p / 9 * 9 = nI (p % 9) := pk_rem (d := 9) h (by decide) (by decide)
theorem td_r2 {p : Nat} (h : p < 2 ^ 31) : nI p - nI p / 2 * 2 = nI (p % 2) := pk_rem (d := 2) h (by decide) (by decide)
theorem td_d3 {p : Nat} (h : p < 2 ^ 31) : nI p / 3 = nI (p / 3) := pk_div (d := 3) h (by decide) (by decide)
theorem td_r3 {p : Nat} (h : p < 2 ^ 31) : nI p - nI p / 3 * 3 = nI (p % 3) := pk_rem (d := 3) h (by decide) (by decide)
/-- a condition on an int, by the natural behind it -/
theorem td_z {x : Int32} {A B : Prop} (n : Nat) (f : n % 4294967296 = 0 → A) (g : ¬ n % 4294967296 = 0 → B) (hx : x = nI n := by rfl) : (x = 0 → A) ∧ (¬ x = 0 → B) := by
  subst hx
  rw [td_eq0]
  exact ⟨f, g⟩
theorem td_o {x : Int32} {A B : Prop} (n : Nat) (f : n % 4294967296 = 1 → A) (g : ¬ n % 4294967296 = 1 → B) (hx : x = nI n := by rfl) : (x = 1 → A) ∧ (¬ x = 1 → B) := by
  subst hx
  rw [td_eq1]
  exact ⟨f, g⟩
theorem td_q {x y : Int32} {A B : Prop} (n m : Nat) (f : n % 4294967296 = m % 4294967296 → A) (g : ¬ n % 4294967296 = m % 4294967296 → B) (hx : x = nI n := by rfl) (hy : y = nI m := by rfl) : (x = y → A) ∧ (¬ x = y → B) := by
  subst hx hy
  rw [td_eq]
  exact ⟨f, g⟩
end
section
/-! the pure model: rows are functions f : Nat → Nat -/
/-- n turns, counted up from 0 -/
noncomputable def td_fold {α : Type} (n : Nat) (st : Nat → α → α) (a : α) : α := Nat.rec (motive := fun _ => α) a st n
theorem td_fold_0 {α : Type} (st : Nat → α → α) (a : α) : td_fold 0 st a = a := rfl
theorem td_fold_s {α : Type} (n : Nat) (st : Nat → α → α) (a : α) : td_fold (n + 1) st a = st n (td_fold n st a) := rfl
/-- whether some turn below n has p: 1 or 0 -/
noncomputable def td_any (n : Nat) (p : Nat → Bool) : Nat := td_fold n (fun j v => if p j = true then 1 else v) 0
theorem td_any_0 {n : Nat} {p : Nat → Bool} (h : ∀ j, j < n → p j = false) : td_any n p = 0 := by
  induction n with
  | zero => rfl
  | succ n ih =>
    show (if p n = true then 1 else td_any n p) = 0
    rw [h n (by omega), ih (fun j hj => h j (by omega))]
    rfl
theorem td_any_1 {n : Nat} {p : Nat → Bool} {i : Nat} (hi : i < n) (h : p i = true) : td_any n p = 1 := by
  induction n with
  | zero => omega
  | succ n ih =>
    show (if p n = true then 1 else td_any n p) = 1
    by_cases e : i = n
    · rw [← e, h]
      rfl
    · rw [ih (by omega)]
      by_cases g : p n = true
      · rw [if_pos g]
      · rw [if_neg g]
/-- x isn't 0 as an int -/
def td_nz (x : Nat) : Bool := !(Nat.beq (x % 4294967296) 0)
theorem td_nz_f {x : Nat} (h : x % 4294967296 = 0) : td_nz x = false := by
  unfold td_nz
  rw [h]
  rfl
theorem td_nz_t {x : Nat} (h : ¬ x % 4294967296 = 0) : td_nz x = true := by
  unfold td_nz
  cases e : Nat.beq (x % 4294967296) 0
  · rfl
  · exact absurd (Nat.eq_of_beq_eq_true e) h
/-- x and y differ as ints -/
def td_ne (x y : Nat) : Bool := !(Nat.beq (x % 4294967296) (y % 4294967296))
theorem td_ne_f {x y : Nat} (h : x % 4294967296 = y % 4294967296) : td_ne x y = false := by
  unfold td_ne
  rw [h, Nat.beq_refl]
  rfl
theorem td_ne_t {x y : Nat} (h : ¬ x % 4294967296 = y % 4294967296) : td_ne x y = true := by
  unfold td_ne
  cases e : Nat.beq (x % 4294967296) (y % 4294967296)
  · rfl
  · exact absurd (Nat.eq_of_beq_eq_true e) h
theorem td_any_le (n : Nat) (p : Nat → Bool) : td_any n p ≤ 1 := by
  induction n with
  | zero => exact Nat.zero_le 1
  | succ n ih =>
    show (if p n = true then 1 else td_any n p) ≤ 1
    split
    · exact Nat.le_refl 1
    · exact ih
/-- the ones of a word -/
noncomputable def td_on (n : Nat) : Nat → Nat := Nat.rec (motive := fun _ => Nat → Nat) (fun _ => 0) (fun _ ih x => if x % 4294967296 = 0 then 0 else ih (x &&& (x + 4294967295)) + 1) n
theorem td_on_s (n x : Nat) : td_on (n + 1) x = if x % 4294967296 = 0 then 0 else td_on n (x &&& (x + 4294967295)) + 1 := rfl
theorem td_on_le (n x : Nat) : td_on n x ≤ n := by
  induction n generalizing x with
  | zero => exact Nat.le_refl 0
  | succ n ih =>
    rw [td_on_s]
    split
    · omega
    · have := ih (x &&& (x + 4294967295))
      omega
noncomputable def td_cnt (f : Nat → Nat) : Nat := td_fold 17 (fun j c => c + td_on 17 (f j)) 0
theorem td_cnt_le (f : Nat → Nat) : ∀ n, td_fold n (fun j c => c + td_on 17 (f j)) 0 ≤ 17 * n := by
  intro n
  induction n with
  | zero => exact Nat.le_refl 0
  | succ n ih =>
    rw [td_fold_s]
    have := td_on_le 17 (f n)
    omega
theorem td_cnt_lt (f : Nat → Nat) : td_cnt f ≤ 289 := td_cnt_le f 17
/-- the columns between two vertices -/
def td_cols (p q : Nat) : Nat := ((1 <<< (2 * max (p / 9) (q / 9) + 1)) - (1 <<< (2 * min (p / 9) (q / 9)))) &&& 43690
/-- slots -/
def td_up (F : Nat → Nat → Nat) (s : Nat) (g : Nat → Nat) : Nat → Nat → Nat := fun t => if t = s then g else F t
def td_uk (K : Nat → Nat) (s k : Nat) : Nat → Nat := fun t => if t = s then k else K t
def td_pic (K : Nat → Nat) (F : Nat → Nat → Nat) (a1 a2 : Nat → Int32) : Prop := (∀ s, s < 12 → a1 s = nI (K s)) ∧ (∀ s j, s < 12 → j < 17 → a2 (17 * s + j) = nI (F s j))
theorem td_pic_uk {K : Nat → Nat} {F : Nat → Nat → Nat} {a1 a2 : Nat → Int32} (h : td_pic K F a1 a2) (s k : Nat) : td_pic (td_uk K s k) F (upd a1 s (nI k)) a2 := by
  refine ⟨fun t ht => ?_, h.2⟩
  unfold td_uk
  by_cases e : t = s
  · rw [if_pos e, e, pk_us]
  · rw [if_neg e, pk_un e]
    exact h.1 t ht
/-- the same picture, its rows told otherwise -/
theorem td_pic_eq {K K' : Nat → Nat} {F F' : Nat → Nat → Nat} {a1 a2 : Nat → Int32} (h : td_pic K F a1 a2) (hk : ∀ s, s < 12 → K s = K' s) (hf : ∀ s, s < 12 → ∀ j, j < 17 → F s j = F' s j) : td_pic K' F' a1 a2 :=
  ⟨fun s hs => by rw [h.1 s hs, hk s hs], fun s j hs hj => by rw [h.2 s j hs hj, hf s hs j hj]⟩
/-- a row written -/
theorem td_put {F : Nat → Nat → Nat} {a : Nat → Int32} {s i : Nat} {f g : Nat → Nat} {x : Int32} (hi : i < 17) (h : ∀ t j, t < 12 → j < 17 → a (17 * t + j) = nI (td_up F s f t j)) (hx : x = nI (g i)) (hg : ∀ j, j < 17 → j ≠ i → g j = f j) :
    ∀ t j, t < 12 → j < 17 → upd a (17 * s + i) x (17 * t + j) = nI (td_up F s g t j) := by
  intro t j ht hj
  by_cases e : t = s
  · by_cases e2 : j = i
    · rw [e, e2, pk_us, hx]
      unfold td_up
      rw [if_pos rfl]
    · rw [pk_un (by omega), h t j ht hj]
      unfold td_up
      rw [if_pos e, if_pos e, hg j hj e2]
  · rw [pk_un (by omega), h t j ht hj]
    unfold td_up
    rw [if_neg e, if_neg e]
/-- rows of cells with wide added, between two rows of vertices -/
def td_rc (f : Nat → Nat) (m M w j : Nat) : Nat := if j % 2 = 1 ∧ 2 * m < j ∧ j < 2 * M then f j ||| w else f j
/-- rows of cells with wide taken away -/
def td_ct (f : Nat → Nat) (m M w j : Nat) : Nat := if j % 2 = 1 ∧ 2 * m < j ∧ j < 2 * M then f j &&& (w ^^^ 4294967295) else f j
/-- a row of vertices with a word added -/
def td_ln (f : Nat → Nat) (y w j : Nat) : Nat := if j = y then f j ||| w else f j
/-! insides and rims -/
def td_U (f : Nat → Nat) (j : Nat) : Nat := if j + 1 < 17 then f (j + 1) else 0
def td_D (f : Nat → Nat) (j : Nat) : Nat := if j = 0 then 0 else f (j - 1)
def td_wh (u d : Nat) : Nat := (((u <<< 1) &&& td_sr u 1) &&& (d <<< 1)) &&& td_sr d 1
def td_an (u d : Nat) : Nat := (((u <<< 1) ||| td_sr u 1) ||| (d <<< 1)) ||| td_sr d 1
def td_ue (s u d : Nat) : Nat := (((s <<< 1) ^^^ td_sr s 1) ^^^ u) ^^^ d
def td_ae (s u d : Nat) : Nat := (((s <<< 1) ||| td_sr s 1) ||| u) ||| d
def td_in (k : Nat) (f : Nat → Nat) (j : Nat) : Nat :=
  if k = 3 then (if j % 2 = 1 then f j ||| ((f j <<< 1) &&& td_sr (f j) 1) else (td_U f j &&& td_D f j) ||| td_wh (td_U f j) (td_D f j))
  else if k = 2 then (if j % 2 = 0 then f j ||| (td_ae (f j) (td_U f j) (td_D f j) &&& (td_ue (f j) (td_U f j) (td_D f j) ^^^ 4294967295)) else f j)
  else f j
def td_rim (k : Nat) (f : Nat → Nat) (j : Nat) : Nat :=
  if k = 3 then (if j % 2 = 1 then (f j <<< 1) ^^^ td_sr (f j) 1 else (td_U f j ^^^ td_D f j) ||| (td_an (td_U f j) (td_D f j) &&& (td_wh (td_U f j) (td_D f j) ^^^ 4294967295)))
  else if k = 2 then (if j % 2 = 0 then td_ue (f j) (td_U f j) (td_D f j) else 0)
  else 0
def td_body (i r : Nat → Nat) (j : Nat) : Nat := i j ||| r j
def td_out (i r : Nat → Nat) (j : Nat) : Nat := 131071 &&& (td_body i r j ^^^ 4294967295)
def td_part (p : Nat) (i r : Nat → Nat) (j : Nat) : Nat := if p = 0 then i j else if p = 1 then r j else td_out i r j
def td_dim (c j : Nat) : Nat := if c % 4294967296 = 0 then 0 else if j % 2 = 1 then (if (c &&& 43690) % 4294967296 = 0 then 2 else 3) else (if (c &&& 43690) % 4294967296 = 0 then 1 else 2)
theorem td_dim_le (c j : Nat) : td_dim c j ≤ 3 := by
  unfold td_dim
  split
  · omega
  · split
    · split <;> omega
    · split <;> omega
def td_mx (a b : Nat) : Nat := if a ≤ b then b else a
/-- the meeting of two parts -/
noncomputable def td_mt (p q : Nat) (i r i' r' : Nat → Nat) (n : Nat) : Nat := td_fold n (fun j m => td_mx (td_dim (td_part p i r j &&& td_part q i' r' j) j) m) 0
theorem td_mt_s (p q : Nat) (i r i' r' : Nat → Nat) (n : Nat) : td_mt p q i r i' r' (n + 1) = td_mx (td_dim (td_part p i r n &&& td_part q i' r' n) n) (td_mt p q i r i' r' n) := rfl
theorem td_mt_le (p q : Nat) (i r i' r' : Nat → Nat) (n : Nat) : td_mt p q i r i' r' n ≤ 3 := by
  induction n with
  | zero => exact Nat.zero_le 3
  | succ n ih =>
    rw [td_mt_s]
    have := td_dim_le (td_part p i r n &&& td_part q i' r' n) n
    unfold td_mx
    split <;> omega
noncomputable def td_meet (p q : Nat) (i r i' r' : Nat → Nat) : Nat := if p = 2 ∧ q = 2 then 3 else td_mt p q i r i' r' 17
theorem td_meet_le (p q : Nat) (i r i' r' : Nat → Nat) : td_meet p q i r i' r' ≤ 3 := by
  unfold td_meet
  split
  · exact Nat.le_refl 3
  · exact td_mt_le p q i r i' r' 17
/-- the two bodies are the same: 1 or 0 -/
noncomputable def td_same (i r i' r' : Nat → Nat) : Nat := if td_any 17 (fun j => td_ne (td_body i r j) (td_body i' r' j)) = 0 then 1 else 0
noncomputable def td_bm (i r i' r' : Nat → Nat) : Nat := ((td_meet 0 0 i r i' r' ||| td_meet 0 1 i r i' r') ||| td_meet 1 0 i r i' r') ||| td_meet 1 1 i r i' r'
noncomputable def td_f2 (i r i' r' : Nat → Nat) : Nat := td_meet 0 2 i r i' r' ||| td_meet 1 2 i r i' r'
noncomputable def td_s1 (i r i' r' : Nat → Nat) : Nat := td_meet 2 0 i r i' r' ||| td_meet 2 1 i r i' r'
noncomputable def td_hd1 (i r i' r' : Nat → Nat) : Nat := if td_bm i r i' r' % 4294967296 = 0 then 1 else 0
noncomputable def td_hd2 (i r i' r' : Nat → Nat) : Nat := if td_meet 0 0 i r i' r' = 0 then (if td_bm i r i' r' % 4294967296 = 0 then 0 else 1) else 0
noncomputable def td_hd3 (i r i' r' : Nat → Nat) : Nat := if td_meet 0 0 i r i' r' = 0 then 0 else if td_f2 i r i' r' % 4294967296 = 0 then 1 else 0
noncomputable def td_hd4 (i r i' r' : Nat → Nat) : Nat := if td_s1 i r i' r' % 4294967296 = 0 then 1 else 0
noncomputable def td_hd5 (k k' : Nat) (i r i' r' : Nat → Nat) : Nat := if td_meet 0 0 i r i' r' = 0 then 0 else if max k k' ≤ td_meet 0 0 i r i' r' then 0 else if td_meet 0 2 i r i' r' = 0 then 0 else 1
noncomputable def td_hd6 (k k' : Nat) (i r i' r' : Nat → Nat) : Nat := if k = k' then (if td_meet 0 0 i r i' r' = k then (if td_meet 0 2 i r i' r' = 0 then 0 else if td_meet 2 0 i r i' r' = 0 then 0 else 1) else 0) else 0
noncomputable def td_hold (n k k' : Nat) (i r i' r' : Nat → Nat) : Nat :=
  if n = 0 then td_same i r i' r'
  else if n = 1 then td_hd1 i r i' r'
  else if n = 2 then td_hd2 i r i' r'
  else if n = 3 then td_hd3 i r i' r'
  else if n = 4 then td_hd4 i r i' r'
  else if n = 5 then td_hd5 k k' i r i' r'
  else td_hd6 k k' i r i' r'
theorem td_hold_le (n k k' : Nat) (i r i' r' : Nat → Nat) : td_hold n k k' i r i' r' ≤ 1 := by
  unfold td_hold td_same td_hd1 td_hd2 td_hd3 td_hd4 td_hd5 td_hd6
  repeat' split
  all_goals omega
noncomputable def td_is (n k : Nat) (f : Nat → Nat) (k' : Nat) (f' : Nat → Nat) : Nat := td_hold n k k' (td_in k f) (td_rim k f) (td_in k' f') (td_rim k' f')
noncomputable def td_rt (i r i' r' : Nat → Nat) (n : Nat) : Nat := td_fold n (fun c v => 4 * v + td_meet (c / 3) (c % 3) i r i' r') 0
noncomputable def td_rel (k : Nat) (f : Nat → Nat) (k' : Nat) (f' : Nat → Nat) : Nat := td_rt (td_in k f) (td_rim k f) (td_in k' f') (td_rim k' f') 9
/-! distances -/
def td_sh (i r i' r' : Nat → Nat) (x u j : Nat) : Nat :=
  (((((td_body i r j &&& 87381) <<< (2 * x)) ||| td_sr (td_body i r j &&& 87381) (2 * x)) &&& 87381) &&& ((if j + 2 * u < 17 then td_body i' r' (j + 2 * u) else 0) ||| (if 2 * u ≤ j then td_body i' r' (j - 2 * u) else 0)))
noncomputable def td_sm (i r i' r' : Nat → Nat) (x u : Nat) : Nat := td_any 9 (fun j => td_nz (td_sh i r i' r' x u (2 * j)))
noncomputable def td_l1 (i r i' r' : Nat → Nat) (x b n : Nat) : Nat := td_fold n (fun u b => if b ≤ x * x + u * u then b else if td_sm i r i' r' x u = 0 then b else x * x + u * u) b
theorem td_l1_s (i r i' r' : Nat → Nat) (x b n : Nat) : td_l1 i r i' r' x b (n + 1) = if td_l1 i r i' r' x b n ≤ x * x + n * n then td_l1 i r i' r' x b n else if td_sm i r i' r' x n = 0 then td_l1 i r i' r' x b n else x * x + n * n := rfl
theorem td_l1_le (i r i' r' : Nat → Nat) (x b n : Nat) : td_l1 i r i' r' x b n ≤ b := by
  induction n with
  | zero => exact Nat.le_refl b
  | succ n ih =>
    rw [td_l1_s]
    split
    · exact ih
    · split
      · exact ih
      · omega
noncomputable def td_l2 (i r i' r' : Nat → Nat) (n : Nat) : Nat := td_fold n (fun x b => td_l1 i r i' r' x b 9) 1000
theorem td_l2_s (i r i' r' : Nat → Nat) (n : Nat) : td_l2 i r i' r' (n + 1) = td_l1 i r i' r' n (td_l2 i r i' r' n) 9 := by
  unfold td_l2
  exact td_fold_s n _ _
theorem td_l2_le (i r i' r' : Nat → Nat) (n : Nat) : td_l2 i r i' r' n ≤ 1000 := by
  induction n with
  | zero => exact Nat.le_refl 1000
  | succ n ih =>
    rw [td_l2_s]
    exact Nat.le_trans (td_l1_le i r i' r' n _ 9) ih
noncomputable def td_ap (k : Nat) (f : Nat → Nat) (k' : Nat) (f' : Nat → Nat) : Nat := td_l2 (td_in k f) (td_rim k f) (td_in k' f') (td_rim k' f') 9
theorem td_ap_le (k : Nat) (f : Nat → Nat) (k' : Nat) (f' : Nat → Nat) : td_ap k f k' f' ≤ 1000 := td_l2_le _ _ _ _ 9
/-! growing over the grid -/
def td_nb (s d u : Nat) : Nat := (((s ||| (s <<< 1)) ||| td_sr s 1) ||| d) ||| u
/-- a sweep: the new row j -/
noncomputable def td_sw (g w : Nat → Nat) (j : Nat) : Nat :=
  Nat.rec (motive := fun _ => Nat) (td_nb (w 0) 0 (td_U w 0) &&& g 0) (fun i v => td_nb (w (i + 1)) v (td_U w (i + 1)) &&& g (i + 1)) j
theorem td_sw_0 (g w : Nat → Nat) : td_sw g w 0 = td_nb (w 0) 0 (td_U w 0) &&& g 0 := rfl
theorem td_sw_s (g w : Nat → Nat) (i : Nat) : td_sw g w (i + 1) = td_nb (w (i + 1)) (td_sw g w i) (td_U w (i + 1)) &&& g (i + 1) := rfl
theorem td_sw_j (g w : Nat → Nat) (j : Nat) : td_sw g w j = td_nb (w j) (td_D (td_sw g w) j) (td_U w j) &&& g j := by
  cases j with
  | zero => rfl
  | succ i => rfl
/-- whether a sweep changed something below row n: 1 or 0 -/
noncomputable def td_ch (g w : Nat → Nat) (n : Nat) : Nat := td_any n (fun j => td_ne (td_sw g w j) (w j))
noncomputable def td_sp (n : Nat) (g : Nat → Nat) : (Nat → Nat) → Nat → Nat :=
  Nat.rec (motive := fun _ => (Nat → Nat) → Nat → Nat) (fun w => w) (fun _ ih w => if td_ch g w 17 = 0 then td_sw g w else ih (td_sw g w)) n
theorem td_sp_0 (g w : Nat → Nat) : td_sp 0 g w = w := rfl
theorem td_sp_s (n : Nat) (g w : Nat → Nat) : td_sp (n + 1) g w = if td_ch g w 17 = 0 then td_sw g w else td_sp n g (td_sw g w) := rfl
/-- what is left of the ground -/
def td_tk (g w : Nat → Nat) (j : Nat) : Nat := g j &&& (w j ^^^ 4294967295)
/-- the ground's first element in row j alone -/
def td_sd (g : Nat → Nat) (j t : Nat) : Nat := if t = j then g j &&& (4294967296 - g j % 4294967296) else 0
noncomputable def td_p1 (j n : Nat) : (Nat → Nat) × Nat → (Nat → Nat) × Nat :=
  Nat.rec (motive := fun _ => (Nat → Nat) × Nat → (Nat → Nat) × Nat) (fun s => s) (fun _ ih s => if s.1 j % 4294967296 = 0 then s else ih (td_tk s.1 (td_sp 300 s.1 (td_sd s.1 j)), s.2 + 1)) n
theorem td_p1_0 (j : Nat) (s : (Nat → Nat) × Nat) : td_p1 j 0 s = s := rfl
theorem td_p1_s (j n : Nat) (s : (Nat → Nat) × Nat) : td_p1 j (n + 1) s = if s.1 j % 4294967296 = 0 then s else td_p1 j n (td_tk s.1 (td_sp 300 s.1 (td_sd s.1 j)), s.2 + 1) := rfl
noncomputable def td_p2 (g : Nat → Nat) (n : Nat) : (Nat → Nat) × Nat := td_fold n (fun j s => td_p1 j 17 s) (g, 0)
theorem td_p2_s (g : Nat → Nat) (n : Nat) : td_p2 g (n + 1) = td_p1 n 17 (td_p2 g n) := rfl
noncomputable def td_cp (g : Nat → Nat) : Nat := (td_p2 g 17).2
noncomputable def td_pcs (k : Nat) (f : Nat → Nat) : Nat := td_cp (if k = 3 then td_in k f else td_body (td_in k f) (td_rim k f))
/-- the ground that the holes are -/
def td_h0 (f : Nat → Nat) (j : Nat) : Nat := td_out (td_in 3 f) (td_rim 3 f) j
def td_h1 (f : Nat → Nat) (j : Nat) : Nat := td_h0 f j &&& (if j = 0 ∨ j = 16 then 131071 else 65537)
noncomputable def td_hg (f : Nat → Nat) : Nat → Nat := td_tk (td_h0 f) (td_sp 300 (td_h0 f) (td_h1 f))
noncomputable def td_hs (f : Nat → Nat) : Nat := td_cp (td_hg f)
/-! the rest -/
def td_pt (k : Nat) (f : Nat → Nat) (i j : Nat) : Nat := if (td_sr (td_in k f j) i &&& 1) % 4294967296 = 1 then 0 else if (td_sr (td_rim k f j) i &&& 1) % 4294967296 = 1 then 1 else 2
def td_ol (f : Nat → Nat) (j : Nat) : Nat := td_rim 3 f j &&& (if j % 2 = 0 then 43690 else 87381)
noncomputable def td_rm (f : Nat → Nat) : Nat := td_cnt (td_ol f)
def td_gr (f : Nat → Nat) (j : Nat) : Nat := ((((if j < 2 then 0 else f (j - 2)) ||| f j) ||| (if j + 2 < 17 then f (j + 2) else 0)))
def td_gw (f : Nat → Nat) (j : Nat) : Nat := if j % 2 = 1 then ((td_gr f j ||| (td_gr f j <<< 2)) ||| td_sr (td_gr f j) 2) &&& 43690 else f j
noncomputable def td_fl (f : Nat → Nat) (j : Nat) : Nat := if j % 2 = 1 then f j ||| (td_hg f j &&& 43690) else f j
def td_xx (f : Nat → Nat) (j : Nat) : Nat := f j ^^^ f j
noncomputable def td_nr (K : Nat → Nat) (F : Nat → Nat → Nat) (s n : Nat) : Nat × Nat :=
  td_fold n (fun o p => if o = s then p else if K o = 0 then p else if p.2 ≤ td_ap (K s) (F s) (K o) (F o) then p else (o, td_ap (K s) (F s) (K o) (F o))) (4294967289, 1000)
/-- whether a slot reaches into a word of row j -/
def td_rch (k : Nat) (f : Nat → Nat) (w j : Nat) : Nat := td_body (td_in k f) (td_rim k f) j &&& w
noncomputable def td_iw (K : Nat → Nat) (F : Nat → Nat → Nat) (w j n : Nat) : Nat → Nat :=
  Nat.rec (motive := fun _ => Nat → Nat) (fun _ => 4294967289) (fun _ ih s => if K s = 0 then ih (s + 1) else if td_rch (K s) (F s) w j % 4294967296 = 0 then ih (s + 1) else s) n
theorem td_iw_s (K : Nat → Nat) (F : Nat → Nat → Nat) (w j n s : Nat) : td_iw K F w j (n + 1) s = if K s = 0 then td_iw K F w j n (s + 1) else if td_rch (K s) (F s) w j % 4294967296 = 0 then td_iw K F w j n (s + 1) else s := rfl
end
section
/-! walks: the small methods -/
section
variable {a1 a2 a3 a4 a5 a6 : Nat → Int32}
theorem td_slotB {A B : Prop} {s : Nat} (hs : s < 12) (h : B) : wpX_isSlot (fun r => (r = 0 → A) ∧ (¬ r = 0 → B)) () (nI s) :=
  pk_lt s 0 (fun z => absurd z (by omega)) (fun _ => pk_le 12 s (fun z => absurd z (by omega)) (fun _ => br_f (by decide) h))
theorem td_vertB {A B : Prop} {s : Nat} (hs : s < 81) (h : B) : wpX_isVertex (fun r => (r = 0 → A) ∧ (¬ r = 0 → B)) () (nI s) :=
  pk_lt s 0 (fun z => absurd z (by omega)) (fun _ => pk_le 81 s (fun z => absurd z (by omega)) (fun _ => br_f (by decide) h))
theorem td_takesB {A B : Prop} {s k c : Nat} (hs : s < 12) (ha : a1 s = nI c) (hc : c = 0 ∨ c = k) (h : B) : wpX_takes (fun r => (r = 0 → A) ∧ (¬ r = 0 → B)) (a1, a2, a3, a4, a5, a6) (nI s) (nI k) := by
  have h1 : ((1 : Int32) = 0 → A) ∧ (¬ (1 : Int32) = 0 → B) := br_f (by decide) h
  have e : (nI s).toNatClampNeg = s := nI_clamp (by omega)
  refine ⟨pk_in s 12 hs, ?_⟩
  rw [e, ha]
  rcases hc with hc | hc
  · exact br_t (by rw [hc]; rfl) h1
  · refine ⟨fun _ => h1, fun _ => ⟨pk_in s 12 hs, ?_⟩⟩
    exact br_t (by rw [hc]) h1
theorem td_flatB {A B : Prop} {p q : Nat} (hp : p < 81) (hq : q < 81) (h1 : p / 9 ≠ q / 9) (h2 : p % 9 ≠ q % 9) (h : A) : wpX_flat (fun r => (r = 0 → A) ∧ (¬ r = 0 → B)) () (nI p) (nI q) :=
  ⟨by decide, by decide, pk_eq (p / 9) (q / 9) (fun z => absurd z h1) (fun _ => ⟨by decide, by decide, pk_eq (p % 9) (q % 9) (fun z => absurd z h2) (fun _ => br_t rfl h) (td_r9 (by omega)) (td_r9 (by omega))⟩) (td_d9 (by omega)) (td_d9 (by omega))⟩
theorem td_les {post : Int32 → Prop} {a b : Nat} (ha : a < 2 ^ 31) (hb : b < 2 ^ 31) (h : post (nI (min a b))) : wpX_lesser post () (nI a) (nI b) :=
  pk_le b a (fun z => by rw [Nat.min_eq_right z] at h; exact h) (fun z => by rw [Nat.min_eq_left (Nat.le_of_lt z)] at h; exact h)
theorem td_gre {post : Int32 → Prop} {a b : Nat} (ha : a < 2 ^ 31) (hb : b < 2 ^ 31) (h : post (nI (max a b))) : wpX_greater post () (nI a) (nI b) :=
  pk_le a b (fun z => by rw [Nat.max_eq_right z] at h; exact h) (fun z => by rw [Nat.max_eq_left (Nat.le_of_lt z)] at h; exact h)
theorem td_span {post : Int32 → Prop} {a b : Nat} (hab : a ≤ b) (hb : b < 31) (h : post (nI ((1 <<< (b + 1)) - (1 <<< a)))) : wpX_span post () (nI a) (nI b) := by
  refine pk_le a b (fun _ => ?_) (fun z => absurd z (by omega))
  rw [nI_1]
  show post ((nI 1 <<< (nI (b + 1) &&& 31)) - (nI 1 <<< (nI a &&& 31)))
  rw [td_shl 1 (by omega), td_shl 1 (by omega), pk_sub]
  · exact h
  · rw [Nat.shiftLeft_eq, Nat.shiftLeft_eq, Nat.one_mul, Nat.one_mul]
    exact Nat.pow_le_pow_right (by decide) (by omega)
theorem td_colsW {post : Int32 → Prop} {p q : Nat} (hp : p < 81) (hq : q < 81) (h : post (nI (td_cols p q))) : wpX_columns post () (nI p) (nI q) := by
  refine ⟨by decide, by decide, ?_⟩
  rw [td_d9 (show p < 2 ^ 31 by omega), td_d9 (show q < 2 ^ 31 by omega)]
  refine td_les (by omega) (by omega) ⟨by decide, by decide, ?_⟩
  refine td_gre (by omega) (by omega) ?_
  rw [td_2m, td_2m]
  refine td_span (by omega) (by omega) ?_
  rw [td_aODD]
  exact h
theorem td_ones {post : Int32 → Prop} {x : Nat} (h : post (nI (td_on 17 x))) : wpX_ones post () (nI x) := by
  refine pk_loop (σ := Nat × Nat) (fun n i s => wX_ones_6 post n (nI s.1) (nI s.2) (nI i)) (fun i s => post (nI (s.1 + td_on (17 - i) s.2))) 17 0 (0, x) (by omega) ?_ ?_ ?_
  · show post (nI (0 + td_on 17 x))
    rw [Nat.zero_add]
    exact h
  · intro n s hI
    exact pk_le 17 17 (fun _ => hI) (fun z => absurd z (by omega))
  · intro n i s hi hI hw
    have e : 17 - i = (16 - i) + 1 := by omega
    rw [e, td_on_s] at hI
    refine pk_le 17 i (fun z => absurd z (by omega)) (fun _ => ?_)
    refine td_z s.2 (fun z => ?_) (fun z => ?_)
    · rw [if_pos z] at hI
      exact hI
    · rw [if_neg z] at hI
      refine nm_r (by rw [td_dec, td_and]) (nm_r (nI_1 _) (nm_r (nI_1 _) ?_))
      refine hw (s.1 + 1, s.2 &&& (s.2 + 4294967295)) ?_
      show post (nI (s.1 + 1 + td_on (17 - (i + 1)) (s.2 &&& (s.2 + 4294967295))))
      rw [show 17 - (i + 1) = 16 - i by omega, show s.1 + 1 + td_on (16 - i) (s.2 &&& (s.2 + 4294967295)) = s.1 + (td_on (16 - i) (s.2 &&& (s.2 + 4294967295)) + 1) by omega]
      exact hI
theorem td_count {post : Int32 → Prop} {s : Nat} {f : Nat → Nat} (hs : s < 12) (hf : ∀ j, j < 17 → a2 (17 * s + j) = nI (f j)) (h : post (nI (td_cnt f))) : wpX_count post (a1, a2, a3, a4, a5, a6) (nI s) := by
  refine pk_loop (σ := Nat) (fun n i c => wX_count_4 post (nI s) a1 a2 a3 a4 a5 a6 n (nI c) (nI i)) (fun i c => c = td_fold i (fun j c => c + td_on 17 (f j)) 0) 17 0 0 (by omega) rfl ?_ ?_
  · intro n c hc
    exact pk_le 17 17 (fun _ => by rw [hc]; exact h) (fun z => absurd z (by omega))
  · intro n i c hi hc hw
    refine pk_le 17 i (fun z => absurd z (by omega)) (fun _ => ?_)
    rw [td_ix, nI_clamp (show 17 * s + i < 2 ^ 31 by omega), hf i hi]
    refine ⟨pk_in (17 * s + i) 204 (by omega), td_ones (nm_r (nI_add _ _) (nm_r (nI_1 _) (hw _ ?_)))⟩
    rw [hc, td_fold_s]
theorem td_rowI {post : Int32 → Prop} {s j : Nat} {f : Nat → Nat} (hs : s < 12) (hj : j < 17) (hf : ∀ j, j < 17 → a2 (17 * s + j) = nI (f j)) (h : post (nI (f j))) : wpX_row post (a1, a2, a3, a4, a5, a6) (nI s) (nI j) := by
  refine pk_lt j 0 (fun z => absurd z (by omega)) (fun _ => pk_lt j 17 (fun _ => ?_) (fun z => absurd z (by omega)))
  rw [td_ix, nI_clamp (show 17 * s + j < 2 ^ 31 by omega), hf j hj]
  exact ⟨pk_in (17 * s + j) 204 (by omega), h⟩
theorem td_rowU {post : Int32 → Prop} {s j : Nat} {f : Nat → Nat} (hs : s < 12) (hj : j < 17) (hf : ∀ j, j < 17 → a2 (17 * s + j) = nI (f j)) (h : post (nI (td_U f j))) : wpX_row post (a1, a2, a3, a4, a5, a6) (nI s) (nI j + 1) := by
  rw [nI_1]
  unfold td_U at h
  by_cases e : j + 1 < 17
  · rw [if_pos e] at h
    exact td_rowI hs e hf h
  · rw [if_neg e] at h
    exact pk_lt (j + 1) 0 (fun z => absurd z (by omega)) (fun _ => pk_lt (j + 1) 17 (fun z => absurd z e) (fun _ => h))
theorem td_rowD {post : Int32 → Prop} {s j : Nat} {f : Nat → Nat} (hs : s < 12) (hj : j < 17) (hf : ∀ j, j < 17 → a2 (17 * s + j) = nI (f j)) (h : post (nI (td_D f j))) : wpX_row post (a1, a2, a3, a4, a5, a6) (nI s) (nI j - 1) := by
  unfold td_D at h
  cases j with
  | zero =>
    rw [if_pos rfl] at h
    exact br_t (by decide) h
  | succ i =>
    rw [if_neg (by omega)] at h
    rw [nI_pred]
    exact td_rowI hs (by omega) hf h
theorem td_rowU2 {post : Int32 → Prop} {s j : Nat} {f : Nat → Nat} (hs : s < 12) (hj : j < 17) (hf : ∀ j, j < 17 → a2 (17 * s + j) = nI (f j)) (h : post (nI (if j + 2 < 17 then f (j + 2) else 0))) : wpX_row post (a1, a2, a3, a4, a5, a6) (nI s) (nI j + 2) := by
  rw [td_a2]
  by_cases e : j + 2 < 17
  · rw [if_pos e] at h
    exact td_rowI hs e hf h
  · rw [if_neg e] at h
    exact pk_lt (j + 2) 0 (fun z => absurd z (by omega)) (fun _ => pk_lt (j + 2) 17 (fun z => absurd z e) (fun _ => h))
theorem td_rowD2 {post : Int32 → Prop} {s j : Nat} {f : Nat → Nat} (hs : s < 12) (hj : j < 17) (hf : ∀ j, j < 17 → a2 (17 * s + j) = nI (f j)) (h : post (nI (if j < 2 then 0 else f (j - 2)))) : wpX_row post (a1, a2, a3, a4, a5, a6) (nI s) (nI j - 2) := by
  by_cases e : j < 2
  · rw [if_pos e] at h
    exact br_t (pk_sneg (b := 2) (by decide) e) h
  · rw [if_neg e] at h
    rw [show nI j - 2 = nI (j - 2) from pk_sub (b := 2) (by omega)]
    exact td_rowI hs (by omega) hf h
theorem td_pairB {A : Prop} {B : Int32 → Prop} {s t c d : Nat} (hs : s < 12) (ht : t < 12) (ha : a1 s = nI c) (hb : a1 t = nI d) (hc : c ≠ 0) (hd : d ≠ 0) (hc4 : c < 4) (hd4 : d < 4) (h : A) : wpX_pairRefusal (fun r => (r = 0 → A) ∧ (¬ r = 0 → B r)) (a1, a2, a3, a4, a5, a6) (nI s) (nI t) := by
  refine td_slotB hs (td_slotB ht ⟨pk_in s 12 hs, ?_⟩)
  rw [nI_clamp (show s < 2 ^ 31 by omega), nI_clamp (show t < 2 ^ 31 by omega), ha, hb]
  exact pk_eq c 0 (fun z => absurd z hc) (fun _ => ⟨pk_in t 12 ht, pk_eq d 0 (fun z => absurd z hd) (fun _ => br_t rfl h)⟩)
theorem td_areaB {A : Prop} {B : Int32 → Prop} {s : Nat} (hs : s < 12) (ha : a1 s = nI 3) (h : A) : wpX_areaRefusal (fun r => (r = 0 → A) ∧ (¬ r = 0 → B r)) (a1, a2, a3, a4, a5, a6) (nI s) := by
  refine td_slotB hs ⟨pk_in s 12 hs, ?_⟩
  rw [nI_clamp (show s < 2 ^ 31 by omega), ha]
  exact br_f (by decide) ⟨pk_in s 12 hs, br_t rfl (br_t rfl h)⟩
theorem td_kind {post : Int32 → Prop} {s k : Nat} (hs : s < 12) (ha : a1 s = nI k) (h : post (nI k)) : wpX_kind post (a1, a2, a3, a4, a5, a6) (nI s) := by
  refine td_slotB hs ⟨pk_in s 12 hs, ?_⟩
  rw [nI_clamp (show s < 2 ^ 31 by omega), ha]
  exact h
theorem td_size {post : Int32 → Prop} {s : Nat} {f : Nat → Nat} (hs : s < 12) (hf : ∀ j, j < 17 → a2 (17 * s + j) = nI (f j)) (h : post (nI (td_cnt f))) : wpX_size post (a1, a2, a3, a4, a5, a6) (nI s) :=
  td_slotB hs (td_count hs hf h)
end
end
section
/-! walks: insides and rims -/
section
variable {a1 a2 a3 a4 a5 a6 : Nat → Int32}
theorem td_uu (f : Nat → Int32) (k : Nat) (x y : Int32) : upd (upd f k x) k y = upd f k y := by
  funext j
  by_cases e : j = k
  · rw [e, pk_us, pk_us]
  · rw [pk_un e, pk_un e, pk_un e]
theorem td_lArea {post : St2 → Prop} {s j t : Nat} {f : Nat → Nat} (hs : s < 12) (hj : j < 17) (ht : t < 34) (hf : ∀ j, j < 17 → a2 (17 * s + j) = nI (f j))
    (h : post (a1, a2, upd a3 t (nI (td_in 3 f j)), upd a4 t (nI (td_rim 3 f j)), a5, a6)) : wpX_layArea post (a1, a2, a3, a4, a5, a6) (nI s) (nI j) (nI t) := by
  have et : (nI t).toNatClampNeg = t := nI_clamp (by omega)
  refine ⟨by decide, ?_⟩
  rw [td_r2 (show j < 2 ^ 31 by omega), et]
  refine pk_eq (j % 2) 1 (fun z => ?_) (fun z => ?_)
  · refine td_rowI hs hj hf ?_
    refine nm_r (td_shl1 _) (nm_r (td_shr1 _) ⟨pk_in t 34 ht, nm_r (e' := upd a3 t (nI (td_in 3 f j))) ?_ ⟨pk_in t 34 ht, nm_r (e' := upd a4 t (nI (td_rim 3 f j))) ?_ h⟩⟩)
    · rw [td_and, td_or]
      unfold td_in
      rw [if_pos rfl, if_pos z]
    · rw [td_xor]
      unfold td_rim
      rw [if_pos rfl, if_pos z]
  · refine td_rowU hs hj hf (td_rowD hs hj hf ?_)
    refine nm_r (e' := nI (td_wh (td_U f j) (td_D f j))) ?_ (nm_r (e' := nI (td_an (td_U f j) (td_D f j))) ?_ ⟨pk_in t 34 ht, nm_r (e' := upd a3 t (nI (td_in 3 f j))) ?_ ⟨pk_in t 34 ht, nm_r (e' := upd a4 t (nI (td_rim 3 f j))) ?_ h⟩⟩)
    · simp only [td_shl1, td_shr1, td_and, td_wh]
    · simp only [td_shl1, td_shr1, td_or, td_an]
    · rw [td_and, td_or]
      unfold td_in
      rw [if_pos rfl, if_neg z]
    · rw [td_xor, td_not, td_and, td_or]
      unfold td_rim
      rw [if_pos rfl, if_neg z]
theorem td_lLine {post : St2 → Prop} {s j t : Nat} {f : Nat → Nat} (hs : s < 12) (hj : j < 17) (ht : t < 34) (hf : ∀ j, j < 17 → a2 (17 * s + j) = nI (f j))
    (h : post (a1, a2, upd a3 t (nI (td_in 2 f j)), upd a4 t (nI (td_rim 2 f j)), a5, a6)) : wpX_layLine post (a1, a2, a3, a4, a5, a6) (nI s) (nI j) (nI t) := by
  have et : (nI t).toNatClampNeg = t := nI_clamp (by omega)
  unfold wpX_layLine
  refine td_rowI hs hj hf ?_
  rw [td_r2 (show j < 2 ^ 31 by omega), et]
  refine ⟨pk_in t 34 ht, nm_e ⟨pk_in t 34 ht, nm_e ⟨by decide, ?_⟩⟩⟩
  refine pk_eq (j % 2) 0 (fun z => ?_) (fun z => ?_)
  · refine td_rowU hs hj hf (td_rowD hs hj hf ?_)
    refine nm_r (e' := nI (td_ue (f j) (td_U f j) (td_D f j))) ?_ (nm_r (e' := nI (td_ae (f j) (td_U f j) (td_D f j))) ?_ ⟨pk_in t 34 ht, nm_r (e' := upd a3 t (nI (td_in 2 f j))) ?_ ⟨pk_in t 34 ht, nm_r (e' := upd a4 t (nI (td_rim 2 f j))) ?_ h⟩⟩)
    · simp only [td_shl1, td_shr1, td_xor, td_ue]
    · simp only [td_shl1, td_shr1, td_or, td_ae]
    · rw [td_uu, td_not, td_and, td_or]
      unfold td_in
      rw [if_neg (by decide), if_pos rfl, if_pos z]
    · rw [td_uu]
      unfold td_rim
      rw [if_neg (by decide), if_pos rfl, if_pos z]
  · unfold td_in td_rim at h
    rw [if_neg (by decide), if_pos rfl, if_neg z, if_neg (by decide), if_pos rfl, if_neg z] at h
    exact h
theorem td_lay {post : St2 → Prop} {s w k : Nat} {f : Nat → Nat} (hs : s < 12) (hw : w < 2) (hk4 : k < 4) (ha : a1 s = nI k) (hf : ∀ j, j < 17 → a2 (17 * s + j) = nI (f j))
    (H : ∀ b3 b4, (∀ j, j < 17 → b3 (17 * w + j) = nI (td_in k f j) ∧ b4 (17 * w + j) = nI (td_rim k f j)) → (∀ m, m < 17 * w ∨ 17 * w + 17 ≤ m → b3 m = a3 m ∧ b4 m = a4 m) → post (a1, a2, b3, b4, a5, a6)) : wpX_lay post (a1, a2, a3, a4, a5, a6) (nI s) (nI w) := by
  refine pk_loop (σ := (Nat → Int32) × (Nat → Int32)) (fun n i b => wX_lay_2 post (nI s) (nI w) n (nI i) a1 a2 b.1 b.2 a5 a6)
    (fun i b => (∀ j, j < i → b.1 (17 * w + j) = nI (td_in k f j) ∧ b.2 (17 * w + j) = nI (td_rim k f j)) ∧ (∀ m, m < 17 * w ∨ 17 * w + i ≤ m → b.1 m = a3 m ∧ b.2 m = a4 m)) 17 0 (a3, a4) (by omega) ⟨fun j hj => absurd hj (by omega), fun m _ => ⟨rfl, rfl⟩⟩ ?_ ?_
  · intro n b hI
    exact pk_le 17 17 (fun _ => H b.1 b.2 hI.1 hI.2) (fun z => absurd z (by omega))
  · intro n i b hi hI hw'
    have nx : wX_lay_2 post (nI s) (nI w) n (nI (i + 1)) a1 a2 (upd b.1 (17 * w + i) (nI (td_in k f i))) (upd b.2 (17 * w + i) (nI (td_rim k f i))) a5 a6 := by
      refine hw' (upd b.1 (17 * w + i) (nI (td_in k f i)), upd b.2 (17 * w + i) (nI (td_rim k f i))) ⟨fun j hj => ?_, fun m hm => ?_⟩
      · show upd b.1 (17 * w + i) (nI (td_in k f i)) (17 * w + j) = _ ∧ upd b.2 (17 * w + i) (nI (td_rim k f i)) (17 * w + j) = _
        by_cases e : j = i
        · rw [e, pk_us, pk_us]
          exact ⟨rfl, rfl⟩
        · rw [pk_un (by omega), pk_un (by omega)]
          exact hI.1 j (by omega)
      · show upd b.1 (17 * w + i) (nI (td_in k f i)) m = _ ∧ upd b.2 (17 * w + i) (nI (td_rim k f i)) m = _
        rw [pk_un (by omega), pk_un (by omega)]
        exact hI.2 m (by omega)
    refine pk_le 17 i (fun z => absurd z (by omega)) (fun _ => nm_r (td_ix w i) ⟨pk_in s 12 hs, ?_⟩)
    rw [nI_clamp (show s < 2 ^ 31 by omega), ha]
    refine pk_eq k 3 (fun e => ?_) (fun e => ⟨pk_in s 12 hs, pk_eq k 2 (fun e2 => ?_) (fun e2 => ?_)⟩)
    · subst e
      exact td_lArea hs hi (by omega) hf (nm_r (nI_1 i) nx)
    · subst e2
      exact td_lLine hs hi (by omega) hf (nm_r (nI_1 i) nx)
    · rw [td_ix, nI_clamp (show 17 * s + i < 2 ^ 31 by omega), nI_clamp (show 17 * w + i < 2 ^ 31 by omega), hf i hi]
      refine ⟨pk_in (17 * s + i) 204 (by omega), pk_in (17 * w + i) 34 (by omega), nm_r (e' := upd b.1 (17 * w + i) (nI (td_in k f i))) ?_ ⟨pk_in (17 * w + i) 34 (by omega), nm_r (e' := upd b.2 (17 * w + i) (nI (td_rim k f i))) ?_ (nm_r (nI_1 i) nx)⟩⟩
      · unfold td_in
        rw [if_neg e, if_neg e2]
      · unfold td_rim
        rw [if_neg e, if_neg e2]
        rfl
end
end
section
/-! walks: meetings -/
section
variable {a1 a2 a3 a4 a5 a6 : Nat → Int32}
/-- both shapes are laid down -/
def td_laid (i r i' r' : Nat → Nat) (a3 a4 : Nat → Int32) : Prop := ∀ j, j < 17 → (a3 j = nI (i j) ∧ a4 j = nI (r j)) ∧ (a3 (17 + j) = nI (i' j) ∧ a4 (17 + j) = nI (r' j))
theorem td_laid_of {i r i' r' : Nat → Nat} {b3 b4 c3 c4 : Nat → Int32} (h : ∀ j, j < 17 → b3 (17 * 0 + j) = nI (i j) ∧ b4 (17 * 0 + j) = nI (r j)) (g : ∀ j, j < 17 → c3 (17 * 1 + j) = nI (i' j) ∧ c4 (17 * 1 + j) = nI (r' j)) (g2 : ∀ m, m < 17 * 1 ∨ 17 * 1 + 17 ≤ m → c3 m = b3 m ∧ c4 m = b4 m) : td_laid i r i' r' c3 c4 := by
  intro j hj
  have h1 := h j hj
  have g1 := g j hj
  rw [Nat.mul_zero, Nat.zero_add] at h1
  rw [Nat.mul_one] at g1
  have e := g2 j (by omega)
  exact ⟨⟨by rw [e.1]; exact h1.1, by rw [e.2]; exact h1.2⟩, g1⟩
theorem td_bodyW {post : Int32 → Prop} {t x y : Nat} (ht : t < 34) (hi : a3 t = nI x) (hr : a4 t = nI y) (h : post (nI (x ||| y))) : wpX_body post (a1, a2, a3, a4, a5, a6) (nI t) := by
  refine ⟨pk_in t 34 ht, pk_in t 34 ht, ?_⟩
  rw [nI_clamp (show t < 2 ^ 31 by omega), hi, hr, td_or]
  exact h
theorem td_outW {post : Int32 → Prop} {t x y : Nat} (ht : t < 34) (hi : a3 t = nI x) (hr : a4 t = nI y) (h : post (nI (131071 &&& ((x ||| y) ^^^ 4294967295)))) : wpX_outside post (a1, a2, a3, a4, a5, a6) (nI t) := by
  unfold wpX_outside
  refine td_bodyW ht hi hr ?_
  rw [td_not, td_ALLa]
  exact h
theorem td_outW2 {post : Int32 → Prop} {t j : Nat} {i r : Nat → Nat} (ht : t < 34) (hi : a3 t = nI (i j)) (hr : a4 t = nI (r j)) (h : post (nI (td_out i r j))) : wpX_outside post (a1, a2, a3, a4, a5, a6) (nI t) := by
  rw [td_out, td_body] at h
  exact td_outW ht hi hr h
theorem td_partW {post : Int32 → Prop} {w p j : Nat} {i r : Nat → Nat} (hw : w < 2) (hj : j < 17) (hp : p < 3) (hi : a3 (17 * w + j) = nI (i j)) (hr : a4 (17 * w + j) = nI (r j)) (h : post (nI (td_part p i r j))) : wpX_partOf post (a1, a2, a3, a4, a5, a6) (nI w) (nI p) (nI j) := by
  refine nm_r (td_ix w j) ?_
  have e : (nI (17 * w + j)).toNatClampNeg = 17 * w + j := nI_clamp (by omega)
  unfold td_part at h
  refine pk_eq p 0 (fun z => ?_) (fun z => pk_eq p 1 (fun z2 => ?_) (fun z2 => ?_))
  · rw [e, hi]
    rw [if_pos z] at h
    exact ⟨pk_in (17 * w + j) 34 (by omega), h⟩
  · rw [e, hr]
    rw [if_neg z, if_pos z2] at h
    exact ⟨pk_in (17 * w + j) 34 (by omega), h⟩
  · rw [if_neg z, if_neg z2] at h
    exact td_outW2 (by omega) hi hr h
theorem td_dimW {post : Int32 → Prop} {c j : Nat} (hj : j < 17) (h : post (nI (td_dim c j))) : wpX_dimensionIn post () (nI c) (nI j) := by
  unfold td_dim at h
  refine td_z c (fun z => by rw [if_pos z] at h; exact h) (fun z => ⟨by decide, ?_⟩)
  rw [if_neg z] at h
  rw [td_r2 (show j < 2 ^ 31 by omega), td_aODD]
  refine pk_eq (j % 2) 1 (fun z1 => ?_) (fun z1 => ?_)
  · rw [if_pos z1] at h
    exact td_z (c &&& 43690) (fun z2 => by rw [if_pos z2] at h; exact h) (fun z2 => by rw [if_neg z2] at h; exact h)
  · rw [if_neg z1] at h
    exact td_z (c &&& 43690) (fun z2 => by rw [if_pos z2] at h; exact h) (fun z2 => by rw [if_neg z2] at h; exact h)
theorem td_meetW {post : Int32 → Prop} {p q : Nat} {i r i' r' : Nat → Nat} (hp : p < 3) (hq : q < 3) (hl : td_laid i r i' r' a3 a4) (h : post (nI (td_meet p q i r i' r'))) : wpX_meeting post (a1, a2, a3, a4, a5, a6) (nI p) (nI q) := by
  have main : post (nI (td_mt p q i r i' r' 17)) → ∃ n, wX_meeting_17 post (nI p) (nI q) a1 a2 a3 a4 a5 a6 n 0 0 := by
    intro h
    refine pk_loop (σ := Nat) (fun n j m => wX_meeting_17 post (nI p) (nI q) a1 a2 a3 a4 a5 a6 n (nI m) (nI j)) (fun j m => m = td_mt p q i r i' r' j) 17 0 0 (by omega) rfl ?_ ?_
    · intro n m hm
      exact pk_le 17 17 (fun _ => by rw [hm]; exact h) (fun z => absurd z (by omega))
    · intro n j m hj hm hw
      have l := hl j hj
      have b1 : m ≤ 3 := by rw [hm]; exact td_mt_le p q i r i' r' j
      have b2 := td_dim_le (td_part p i r j &&& td_part q i' r' j) j
      have l1 : a3 (17 * 0 + j) = nI (i j) := by rw [Nat.mul_zero, Nat.zero_add]; exact l.1.1
      have l2 : a4 (17 * 0 + j) = nI (r j) := by rw [Nat.mul_zero, Nat.zero_add]; exact l.1.2
      refine pk_le 17 j (fun z => absurd z (by omega)) (fun _ => td_partW (w := 0) (by omega) hj hp l1 l2 (td_partW (w := 1) (by omega) hj hq l.2.1 l.2.2 (nm_r (td_and _ _) (td_dimW hj ?_))))
      refine pk_le (td_dim (td_part p i r j &&& td_part q i' r' j) j) m (fun z => nm_r (nI_1 j) (hw m ?_)) (fun z => nm_r (nI_1 j) (hw _ ?_))
      · rw [td_mt_s, ← hm]
        unfold td_mx
        rw [if_pos z]
      · rw [td_mt_s, ← hm]
        unfold td_mx
        rw [if_neg (by omega)]
  unfold td_meet at h
  refine pk_eq p 2 (fun z => pk_eq q 2 (fun z2 => ?_) (fun z2 => main ?_)) (fun z => main ?_)
  · rw [if_pos ⟨z, z2⟩] at h
    exact h
  · rw [if_neg (fun t => z2 t.2)] at h
    exact h
  · rw [if_neg (fun t => z t.1)] at h
    exact h
theorem td_sameW {post : Int32 → Prop} {i r i' r' : Nat → Nat} (hl : td_laid i r i' r' a3 a4) (h : post (nI (td_same i r i' r'))) : wpX_sameBodies post (a1, a2, a3, a4, a5, a6) := by
  unfold td_same at h
  refine pk_loop (σ := Unit) (fun n j _ => wX_sameBodies_2 post a1 a2 a3 a4 a5 a6 n (nI j)) (fun j _ => ∀ t, t < j → td_ne (td_body i r t) (td_body i' r' t) = false) 17 0 () (by omega) (fun t ht => absurd ht (by omega)) ?_ ?_
  · intro n _ hI
    refine pk_le 17 17 (fun _ => ?_) (fun z => absurd z (by omega))
    rw [td_any_0 hI, if_pos rfl] at h
    exact h
  · intro n j _ hj hI hw
    have l := hl j hj
    refine pk_le 17 j (fun z => absurd z (by omega)) (fun _ => td_bodyW (by omega) l.1.1 l.1.2 ?_)
    rw [td_17]
    refine td_bodyW (by omega) l.2.1 l.2.2 ?_
    refine td_q (i j ||| r j) (i' j ||| r' j) (fun z => nm_r (nI_1 j) (hw () ?_)) (fun z => ?_)
    · exact lt_s hI (td_ne_f z)
    · rw [td_any_1 (p := fun j => td_ne (td_body i r j) (td_body i' r' j)) hj (td_ne_t z), if_neg (by decide)] at h
      exact h
end
end
section
/-! walks: the relations' names -/
section
variable {a1 a2 a3 a4 a5 a6 : Nat → Int32}
theorem td_bmW {post : Int32 → Prop} {i r i' r' : Nat → Nat} (hl : td_laid i r i' r' a3 a4) (h : (td_bm i r i' r' % 4294967296 = 0 → post 0) ∧ (¬ td_bm i r i' r' % 4294967296 = 0 → post 1)) : wpX_bodiesMeet post (a1, a2, a3, a4, a5, a6) := by
  unfold wpX_bodiesMeet
  refine td_meetW (p := 0) (q := 0) (by omega) (by omega) hl (td_meetW (p := 0) (q := 1) (by omega) (by omega) hl (td_meetW (p := 1) (q := 0) (by omega) (by omega) hl (td_meetW (p := 1) (q := 1) (by omega) (by omega) hl ?_)))
  exact nm_r (e' := nI (td_bm i r i' r')) (by rw [td_or, td_or, td_or, td_bm]) (td_z (td_bm i r i' r') h.1 h.2)
theorem td_f2W {post : Int32 → Prop} {i r i' r' : Nat → Nat} (hl : td_laid i r i' r' a3 a4) (h : (td_f2 i r i' r' % 4294967296 = 0 → post 1) ∧ (¬ td_f2 i r i' r' % 4294967296 = 0 → post 0)) : wpX_firstInSecond post (a1, a2, a3, a4, a5, a6) := by
  unfold wpX_firstInSecond
  refine td_meetW (p := 0) (q := 2) (by omega) (by omega) hl (td_meetW (p := 1) (q := 2) (by omega) (by omega) hl ?_)
  exact nm_r (e' := nI (td_f2 i r i' r')) (by rw [td_or, td_f2]) (td_z (td_f2 i r i' r') h.1 h.2)
theorem td_s1W {post : Int32 → Prop} {i r i' r' : Nat → Nat} (hl : td_laid i r i' r' a3 a4) (h : (td_s1 i r i' r' % 4294967296 = 0 → post 1) ∧ (¬ td_s1 i r i' r' % 4294967296 = 0 → post 0)) : wpX_secondInFirst post (a1, a2, a3, a4, a5, a6) := by
  unfold wpX_secondInFirst
  refine td_meetW (p := 2) (q := 0) (by omega) (by omega) hl (td_meetW (p := 2) (q := 1) (by omega) (by omega) hl ?_)
  exact nm_r (e' := nI (td_s1 i r i' r')) (by rw [td_or, td_s1]) (td_z (td_s1 i r i' r') h.1 h.2)
theorem td_nar {v : Nat} (h : v ≤ 1) : narrow .boolean (.int (nI v)) = .int (nI v) := by
  rcases (by omega : v = 0 ∨ v = 1) with e | e
  · rw [e]
    rfl
  · rw [e]
    rfl
theorem td_same_le (i r i' r' : Nat → Nat) : td_same i r i' r' ≤ 1 := by
  unfold td_same
  split <;> omega
theorem td_hold_1 (k k' : Nat) (i r i' r' : Nat → Nat) : td_hold 1 k k' i r i' r' = td_hd1 i r i' r' := by
  unfold td_hold
  rw [if_neg (by decide), if_pos rfl]
theorem td_hold_2 (k k' : Nat) (i r i' r' : Nat → Nat) : td_hold 2 k k' i r i' r' = td_hd2 i r i' r' := by
  unfold td_hold
  rw [if_neg (by decide), if_neg (by decide), if_pos rfl]
theorem td_hold_3 (k k' : Nat) (i r i' r' : Nat → Nat) : td_hold 3 k k' i r i' r' = td_hd3 i r i' r' := by
  unfold td_hold
  rw [if_neg (by decide), if_neg (by decide), if_neg (by decide), if_pos rfl]
theorem td_hold_4 (k k' : Nat) (i r i' r' : Nat → Nat) : td_hold 4 k k' i r i' r' = td_hd4 i r i' r' := by
  unfold td_hold
  rw [if_neg (by decide), if_neg (by decide), if_neg (by decide), if_neg (by decide), if_pos rfl]
theorem td_hold_5 (k k' : Nat) (i r i' r' : Nat → Nat) : td_hold 5 k k' i r i' r' = td_hd5 k k' i r i' r' := by
  unfold td_hold
  rw [if_neg (by decide), if_neg (by decide), if_neg (by decide), if_neg (by decide), if_neg (by decide), if_pos rfl]
theorem td_hold_6 (k k' : Nat) (i r i' r' : Nat → Nat) : td_hold 6 k k' i r i' r' = td_hd6 k k' i r i' r' := by
  unfold td_hold
  rw [if_neg (by decide), if_neg (by decide), if_neg (by decide), if_neg (by decide), if_neg (by decide), if_neg (by decide)]
theorem td_hold_0 (k k' : Nat) (i r i' r' : Nat → Nat) : td_hold 0 k k' i r i' r' = td_same i r i' r' := by
  unfold td_hold
  rw [if_pos rfl]
theorem td_holdW {post : Int32 → Prop} {n k k' : Nat} {i r i' r' : Nat → Nat} (hn : n ≤ 6) (hk : k < 4) (hk' : k' < 4) (hl : td_laid i r i' r' a3 a4) (h : post (nI (td_hold n k k' i r i' r'))) : wpX_holds post (a1, a2, a3, a4, a5, a6) (nI n) (nI k) (nI k') := by
  have b00 := td_meet_le 0 0 i r i' r'
  have b02 := td_meet_le 0 2 i r i' r'
  have b20 := td_meet_le 2 0 i r i' r'
  unfold wpX_holds
  refine td_meetW (p := 0) (q := 0) (by omega) (by omega) hl ?_
  refine pk_lt n 0 (fun z => absurd z (by omega)) (fun _ => pk_lt 5 n (fun z => ?_) (fun z => ?_))
  · have e : n = 6 := by omega
    subst e
    have g : post (nI (td_hd6 k k' i r i' r')) := by rw [← td_hold_6 k k']; exact h
    unfold td_hd6 at g
    refine td_meetW (p := 0) (q := 2) (by omega) (by omega) hl (td_meetW (p := 2) (q := 0) (by omega) (by omega) hl ?_)
    refine pk_eq k k' (fun z1 => pk_eq (td_meet 0 0 i r i' r') k (fun z2 => pk_eq (td_meet 0 2 i r i' r') 0 (fun z3 => ?_) (fun z3 => pk_eq (td_meet 2 0 i r i' r') 0 (fun z4 => ?_) (fun z4 => ?_))) (fun z2 => ?_)) (fun z1 => ?_)
    · rw [if_pos z1, if_pos z2, if_pos z3] at g
      exact g
    · rw [if_pos z1, if_pos z2, if_neg z3, if_pos z4] at g
      exact g
    · rw [if_pos z1, if_pos z2, if_neg z3, if_neg z4] at g
      exact g
    · rw [if_pos z1, if_neg z2] at g
      exact g
    · rw [if_neg z1] at g
      exact g
  · refine pk_eq n 0 (fun e => ?_) (fun e0 => pk_eq n 1 (fun e => ?_) (fun e1 => pk_eq n 2 (fun e => ?_) (fun e2 => pk_eq n 3 (fun e => ?_) (fun e3 => pk_eq n 4 (fun e => ?_) (fun e4 => pk_eq n 5 (fun e => ?_) (fun e5 => trivial))))))
    · subst e
      have g : post (nI (td_same i r i' r')) := by rw [← td_hold_0 k k']; exact h
      exact td_sameW hl ⟨td_nar (td_same_le i r i' r'), g⟩
    · subst e
      have g : post (nI (td_hd1 i r i' r')) := by rw [← td_hold_1 k k']; exact h
      unfold td_hd1 at g
      refine td_bmW hl ⟨fun z1 => br_t rfl ?_, fun z1 => br_f (by decide) ?_⟩
      · rw [if_pos z1] at g
        exact g
      · rw [if_neg z1] at g
        exact g
    · subst e
      have g : post (nI (td_hd2 i r i' r')) := by rw [← td_hold_2 k k']; exact h
      unfold td_hd2 at g
      refine pk_eq (td_meet 0 0 i r i' r') 0 (fun z2 => td_bmW hl ⟨fun z1 => br_t rfl ?_, fun z1 => br_f (by decide) ?_⟩) (fun z2 => ?_)
      · rw [if_pos z2, if_pos z1] at g
        exact g
      · rw [if_pos z2, if_neg z1] at g
        exact g
      · rw [if_neg z2] at g
        exact g
    · subst e
      have g : post (nI (td_hd3 i r i' r')) := by rw [← td_hold_3 k k']; exact h
      unfold td_hd3 at g
      refine pk_eq (td_meet 0 0 i r i' r') 0 (fun z2 => ?_) (fun z2 => td_f2W hl ⟨fun z1 => br_f (by decide) ?_, fun z1 => br_t rfl ?_⟩)
      · rw [if_pos z2] at g
        exact g
      · rw [if_neg z2, if_pos z1] at g
        exact g
      · rw [if_neg z2, if_neg z1] at g
        exact g
    · subst e
      have g : post (nI (td_hd4 i r i' r')) := by rw [← td_hold_4 k k']; exact h
      unfold td_hd4 at g
      refine td_s1W hl ⟨fun z1 => ⟨td_nar (v := 1) (by omega), ?_⟩, fun z1 => ⟨td_nar (v := 0) (by omega), ?_⟩⟩
      · rw [if_pos z1] at g
        exact g
      · rw [if_neg z1] at g
        exact g
    · subst e
      have g : post (nI (td_hd5 k k' i r i' r')) := by rw [← td_hold_5 k k']; exact h
      unfold td_hd5 at g
      refine td_gre (by omega) (by omega) (td_meetW (p := 0) (q := 2) (by omega) (by omega) hl ?_)
      refine pk_eq (td_meet 0 0 i r i' r') 0 (fun z1 => ?_) (fun z1 => pk_le (max k k') (td_meet 0 0 i r i' r') (fun z2 => ?_) (fun z2 => pk_eq (td_meet 0 2 i r i' r') 0 (fun z3 => ?_) (fun z3 => ?_)))
      · rw [if_pos z1] at g
        exact g
      · rw [if_neg z1, if_pos z2] at g
        exact g
      · rw [if_neg z1, if_neg (by omega), if_pos z3] at g
        exact g
      · rw [if_neg z1, if_neg (by omega), if_neg z3] at g
        exact g
end
end
section
/-! walks: is, relate -/
section
variable {a1 a2 a3 a4 a5 a6 : Nat → Int32}
theorem td_isW {post : Int32 → St2 → Prop} {K : Nat → Nat} {F : Nat → Nat → Nat} {s t n k k' : Nat} {f f' : Nat → Nat} (h : td_pic K F a1 a2) (hs : s < 12) (ht : t < 12) (hn : n ≤ 6) (ek : K s = k) (ef : F s = f) (ek' : K t = k') (ef' : F t = f') (hk : k ≠ 0) (hk' : k' ≠ 0) (hk4 : k < 4) (hk4' : k' < 4)
    (H : ∀ b3 b4, post (nI (td_is n k f k' f')) (a1, a2, b3, b4, a5, a6)) : wpX_is post (a1, a2, a3, a4, a5, a6) (nI s) (nI t) (nI n) := by
  subst ek ef ek' ef'
  unfold wpX_is
  refine td_pairB hs ht (h.1 s hs) (h.1 t ht) hk hk' hk4 hk4' ?_
  refine pk_lt n 0 (fun z => absurd z (by omega)) (fun _ => pk_le n 6 (fun _ => ?_) (fun z => absurd z (by omega)))
  refine td_lay (w := 0) hs (by omega) hk4 (h.1 s hs) (fun j hj => h.2 s j hs hj) (fun b3 b4 h1 _ => ?_)
  refine td_lay (w := 1) ht (by omega) hk4' (h.1 t ht) (fun j hj => h.2 t j ht hj) (fun c3 c4 g1 g2 => ?_)
  have hl := td_laid_of h1 g1 g2
  refine ⟨pk_in s 12 hs, pk_in t 12 ht, ?_⟩
  rw [nI_clamp (show s < 2 ^ 31 by omega), nI_clamp (show t < 2 ^ 31 by omega), h.1 s hs, h.1 t ht]
  refine td_holdW hn hk4 hk4' hl ?_
  have le := td_hold_le n (K s) (K t) (td_in (K s) (F s)) (td_rim (K s) (F s)) (td_in (K t) (F t)) (td_rim (K t) (F t))
  have H' := H c3 c4
  unfold td_is at H'
  generalize td_hold n (K s) (K t) (td_in (K s) (F s)) (td_rim (K s) (F s)) (td_in (K t) (F t)) (td_rim (K t) (F t)) = v at le H' ⊢
  refine pk_eq v 0 (fun z => ?_) (fun z => ?_)
  · rw [z] at H'
    exact H'
  · rw [show v = 1 by omega] at H'
    exact H'
theorem td_rt_s (i r i' r' : Nat → Nat) (n : Nat) : td_rt i r i' r' (n + 1) = 4 * td_rt i r i' r' n + td_meet (n / 3) (n % 3) i r i' r' := by
  unfold td_rt
  exact td_fold_s n _ _
theorem td_relW {post : Int32 → St2 → Prop} {K : Nat → Nat} {F : Nat → Nat → Nat} {s t k k' : Nat} {f f' : Nat → Nat} (h : td_pic K F a1 a2) (hs : s < 12) (ht : t < 12) (ek : K s = k) (ef : F s = f) (ek' : K t = k') (ef' : F t = f') (hk : k ≠ 0) (hk' : k' ≠ 0) (hk4 : k < 4) (hk4' : k' < 4)
    (H : ∀ b3 b4, post (nI (td_rel k f k' f')) (a1, a2, b3, b4, a5, a6)) : wpX_relate post (a1, a2, a3, a4, a5, a6) (nI s) (nI t) := by
  subst ek ef ek' ef'
  unfold wpX_relate
  refine td_pairB hs ht (h.1 s hs) (h.1 t ht) hk hk' hk4 hk4' ?_
  refine td_lay (w := 0) hs (by omega) hk4 (h.1 s hs) (fun j hj => h.2 s j hs hj) (fun b3 b4 h1 _ => ?_)
  refine td_lay (w := 1) ht (by omega) hk4' (h.1 t ht) (fun j hj => h.2 t j ht hj) (fun c3 c4 g1 g2 => ?_)
  have hl := td_laid_of h1 g1 g2
  refine pk_loop (σ := Nat) (fun n c v => wX_relate_31 post a1 a2 c3 c4 a5 a6 n (nI v) (nI c)) (fun c v => v = td_rt (td_in (K s) (F s)) (td_rim (K s) (F s)) (td_in (K t) (F t)) (td_rim (K t) (F t)) c) 9 0 0 (by omega) rfl ?_ ?_
  · intro n v hv
    exact pk_le 9 9 (fun _ => by rw [hv]; exact H c3 c4) (fun z => absurd z (by omega))
  · intro n c v hc hv hw
    refine pk_le 9 c (fun z => absurd z (by omega)) (fun _ => ⟨by decide, by decide, ?_⟩)
    rw [td_r3 (show c < 2 ^ 31 by omega), td_d3 (show c < 2 ^ 31 by omega)]
    refine td_meetW (by omega) (by omega) hl (nm_r (e' := nI (4 * v + td_meet (c / 3) (c % 3) (td_in (K s) (F s)) (td_rim (K s) (F s)) (td_in (K t) (F t)) (td_rim (K t) (F t)))) ?_ (nm_r (nI_1 c) (hw _ ?_)))
    · rw [← nI_add, ← pk_mul]
      rfl
    · rw [hv, td_rt_s]
end
end
section
/-! walks: distances -/
section
variable {a1 a2 a3 a4 a5 a6 : Nat → Int32}
theorem td_smW {post : Int32 → Prop} {x u : Nat} {i r i' r' : Nat → Nat} (hx : x < 9) (hu : u < 9) (hl : td_laid i r i' r' a3 a4) (h : post (nI (td_sm i r i' r' x u))) : wpX_shiftedMeet post (a1, a2, a3, a4, a5, a6) (nI x) (nI u) := by
  unfold td_sm at h
  refine pk_loop (σ := Unit) (fun n j _ => wX_shiftedMeet_2 post (nI x) (nI u) a1 a2 a3 a4 a5 a6 n (nI (2 * j))) (fun j _ => ∀ t, t < j → td_nz (td_sh i r i' r' x u (2 * t)) = false) 9 0 () (by omega) (fun t ht => absurd ht (by omega)) ?_ ?_
  · intro n _ hI
    refine pk_le 17 (2 * 9) (fun _ => ?_) (fun z => absurd z (by omega))
    rw [td_any_0 hI] at h
    exact h
  · intro n j _ hj hI hw
    have k85 : ∀ A U, td_sh i r i' r' x u (2 * j) = (((((i (2 * j) ||| r (2 * j)) &&& 87381) <<< (2 * x)) ||| td_sr ((i (2 * j) ||| r (2 * j)) &&& 87381) (2 * x)) &&& 87381) &&& (A ||| U) →
        wX_shiftedMeet_85 post (wX_shiftedMeet_2 post (nI x) (nI u) a1 a2 a3 a4 a5 a6 n) (nI x) (nI u) (nI (2 * j)) (nI ((((i (2 * j) ||| r (2 * j)) &&& 87381) <<< (2 * x)) ||| td_sr ((i (2 * j) ||| r (2 * j)) &&& 87381) (2 * x))) (nI A) (nI U) a1 a2 a3 a4 a5 a6 := by
      intro A U e
      unfold wX_shiftedMeet_85
      rw [td_aEVEN, td_or, td_and, ← e]
      refine td_z (td_sh i r i' r' x u (2 * j)) (fun z => nm_r (show nI (2 * j) + 2 = nI (2 * (j + 1)) from by rw [td_a2, show 2 * j + 2 = 2 * (j + 1) by omega]) (hw () ?_)) (fun z => ?_)
      · exact lt_s hI (td_nz_f z)
      · rw [td_any_1 (p := fun j => td_nz (td_sh i r i' r' x u (2 * j))) hj (td_nz_t z)] at h
        exact h
    have k59 : ∀ A, (A = if 2 * j + 2 * u < 17 then (i' (2 * j + 2 * u) ||| r' (2 * j + 2 * u)) else 0) →
        wX_shiftedMeet_59 post (wX_shiftedMeet_2 post (nI x) (nI u) a1 a2 a3 a4 a5 a6 n) (nI x) (nI u) (nI (2 * j)) (nI ((((i (2 * j) ||| r (2 * j)) &&& 87381) <<< (2 * x)) ||| td_sr ((i (2 * j) ||| r (2 * j)) &&& 87381) (2 * x))) (nI A) a1 a2 a3 a4 a5 a6 := by
      intro A eA
      unfold wX_shiftedMeet_59
      rw [td_2m, td_17]
      by_cases hu2 : 2 * u ≤ 2 * j
      · have l := hl (2 * j - 2 * u) (by omega)
        rw [pk_sub hu2, pk_sub (show 2 * u ≤ 17 + 2 * j by omega), show 17 + 2 * j - 2 * u = 17 + (2 * j - 2 * u) by omega]
        refine br_f (nI_pos (by omega)) (td_bodyW (by omega) l.2.1 l.2.2 (k85 _ _ ?_))
        unfold td_sh td_body
        rw [eA, if_pos hu2]
      · refine br_t (pk_sneg (by omega) (by omega)) (k85 A 0 ?_)
        unfold td_sh td_body
        rw [eA, if_neg hu2]
    have l := hl (2 * j) (by omega)
    refine pk_le 17 (2 * j) (fun z => absurd z (by omega)) (fun _ => td_bodyW (by omega) l.1.1 l.1.2 (nm_r (td_aEVEN _) ?_))
    rw [td_2m, td_2m, td_17, nI_add, nI_add]
    refine nm_r (by rw [td_shl _ (by omega), td_shr _ (by omega), td_or]) ?_
    refine pk_le 17 (2 * j + 2 * u) (fun z => k59 0 (by rw [if_neg (by omega)])) (fun z => ?_)
    have l2 := hl (2 * j + 2 * u) (by omega)
    rw [show 17 + 2 * j + 2 * u = 17 + (2 * j + 2 * u) by omega]
    exact td_bodyW (by omega) l2.2.1 l2.2.2 (k59 _ (by rw [if_pos z]))
theorem td_lsW {post : Int32 → Prop} {i r i' r' : Nat → Nat} (hl : td_laid i r i' r' a3 a4) (h : post (nI (td_l2 i r i' r' 9))) : wpX_leastSquare post (a1, a2, a3, a4, a5, a6) := by
  refine pk_loop (σ := Nat) (fun n x b => wX_leastSquare_6 post a1 a2 a3 a4 a5 a6 n (nI b) (nI x)) (fun x b => b = td_l2 i r i' r' x) 9 0 1000 (by omega) rfl ?_ ?_
  · intro n b hb
    exact pk_lt 8 9 (fun _ => by rw [hb]; exact h) (fun z => absurd z (by omega))
  · intro n x b hx hb hw
    refine pk_lt 8 x (fun z => absurd z (by omega)) (fun _ => ?_)
    refine pk_loop (σ := Nat) (fun m u c => wX_leastSquare_14 post (wX_leastSquare_6 post a1 a2 a3 a4 a5 a6 n) (nI x) a1 a2 a3 a4 a5 a6 m (nI c) (nI u)) (fun u c => c = td_l1 i r i' r' x b u) 9 0 b (by omega) rfl ?_ ?_
    · intro m c hc
      exact pk_lt 8 9 (fun _ => nm_r (nI_1 x) (hw _ (by rw [hc, hb, td_l2_s]))) (fun z => absurd z (by omega))
    · intro m u c hu hc hw2
      have c1 : c ≤ 1000 := by
        rw [hc]
        refine Nat.le_trans (td_l1_le i r i' r' x b u) ?_
        rw [hb]
        exact td_l2_le i r i' r' x
      have q1 : x * x ≤ 8 * 8 := Nat.mul_le_mul (by omega) (by omega)
      have q2 : u * u ≤ 8 * 8 := Nat.mul_le_mul (by omega) (by omega)
      refine pk_lt 8 u (fun z => absurd z (by omega)) (fun _ => nm_r (e' := nI (x * x + u * u)) (by rw [pk_mul, pk_mul, nI_add]) ?_)
      refine pk_le c (x * x + u * u) (fun z => nm_r (nI_1 u) (hw2 _ ?_)) (fun z => td_smW hx hu hl ?_)
      · rw [td_l1_s, ← hc, if_pos z]
      · have s1 : td_sm i r i' r' x u ≤ 1 := td_any_le _ _
        refine pk_eq (td_sm i r i' r' x u) 0 (fun z2 => nm_r (nI_1 u) (hw2 _ ?_)) (fun z2 => nm_r (nI_1 u) (hw2 _ ?_))
        · rw [td_l1_s, ← hc, if_neg (by omega), if_pos z2]
        · rw [td_l1_s, ← hc, if_neg (by omega), if_neg z2]
theorem td_apW {post : Int32 → St2 → Prop} {K : Nat → Nat} {F : Nat → Nat → Nat} {s t k k' : Nat} {f f' : Nat → Nat} (h : td_pic K F a1 a2) (hs : s < 12) (ht : t < 12) (ek : K s = k) (ef : F s = f) (ek' : K t = k') (ef' : F t = f') (hk : k ≠ 0) (hk' : k' ≠ 0) (hk4 : k < 4) (hk4' : k' < 4)
    (H : ∀ b3 b4, post (nI (td_ap k f k' f')) (a1, a2, b3, b4, a5, a6)) : wpX_apart post (a1, a2, a3, a4, a5, a6) (nI s) (nI t) := by
  subst ek ef ek' ef'
  unfold wpX_apart
  refine td_pairB hs ht (h.1 s hs) (h.1 t ht) hk hk' hk4 hk4' ?_
  refine td_lay (w := 0) hs (by omega) hk4 (h.1 s hs) (fun j hj => h.2 s j hs hj) (fun b3 b4 h1 _ => ?_)
  refine td_lay (w := 1) ht (by omega) hk4' (h.1 t ht) (fun j hj => h.2 t j ht hj) (fun c3 c4 g1 g2 => ?_)
  exact td_lsW (td_laid_of h1 g1 g2) (H c3 c4)
end
end
section
/-! walks: growing over the grid, pieces, holes -/
section
variable {a1 a2 a3 a4 a5 a6 : Nat → Int32}
theorem td_ch_s (g w : Nat → Nat) (n : Nat) : td_ch g w (n + 1) = if td_ne (td_sw g w n) (w n) = true then 1 else td_ch g w n := rfl
theorem td_sweepW {post : St2 → Prop} {J : Int32 → Int32 → (Nat → Int32) → (Nat → Int32) → (Nat → Int32) → (Nat → Int32) → (Nat → Int32) → (Nat → Int32) → Prop} {x2 : Int32} {g w : Nat → Nat} (hg : ∀ j, j < 17 → a5 j = nI (g j)) (hw : ∀ j, j < 17 → a6 j = nI (w j))
    (H : ∀ b6, (∀ j, j < 17 → b6 j = nI (td_sw g w j)) → J (nI (td_ch g w 17)) (x2 + 1) a1 a2 a3 a4 a5 b6) : ∃ n, wX_spread_19 post J x2 n 0 0 a1 a2 a3 a4 a5 a6 := by
  refine pk_loop (σ := Nat × (Nat → Int32)) (fun n j s => wX_spread_19 post J x2 n (nI s.1) (nI j) a1 a2 a3 a4 a5 s.2)
    (fun j s => s.1 = td_ch g w j ∧ (∀ t, t < j → s.2 t = nI (td_sw g w t)) ∧ (∀ t, j ≤ t → t < 17 → s.2 t = nI (w t))) 17 0 (0, a6) (by omega) ⟨rfl, fun t ht => absurd ht (by omega), fun t _ ht => hw t ht⟩ ?_ ?_
  · intro n s hI
    refine pk_le 17 17 (fun _ => nm_e ?_) (fun z => absurd z (by omega))
    rw [hI.1]
    exact H s.2 hI.2.1
  · intro n j s hj hI hw'
    have e1 : (nI j).toNatClampNeg = j := nI_clamp (by omega)
    have s1 : s.1 ≤ 1 := by rw [hI.1]; exact td_any_le _ _
    have nx : ∀ v, v = td_ch g w (j + 1) → wX_spread_19 post J x2 n (nI v) (nI (j + 1)) a1 a2 a3 a4 a5 (upd s.2 j (nI (td_sw g w j))) := by
      intro v hv
      refine hw' (v, upd s.2 j (nI (td_sw g w j))) ⟨hv, fun t ht => ?_, fun t ht ht2 => ?_⟩
      · show upd s.2 j (nI (td_sw g w j)) t = _
        by_cases e : t = j
        · rw [e, pk_us]
        · rw [pk_un e]
          exact hI.2.1 t (by omega)
      · show upd s.2 j (nI (td_sw g w j)) t = _
        rw [pk_un (by omega)]
        exact hI.2.2 t (by omega) ht2
    have k80 : wX_spread_80 post J (wX_spread_19 post J x2 n) (nI s.1) x2 (nI j) (nI (w j)) (nI (td_U w j)) (nI (((w j ||| (w j <<< 1)) ||| td_sr (w j) 1) ||| td_D (td_sw g w) j)) a1 a2 a3 a4 a5 s.2 := by
      unfold wX_spread_80
      rw [e1, hg j hj]
      refine nm_r (td_or _ _) ⟨pk_in j 17 hj, pk_in j 17 hj, nm_r (e' := upd s.2 j (nI (td_sw g w j))) ?_ ?_⟩
      · rw [td_and, td_sw_j, td_nb]
      · refine pk_eq s.1 0 (fun z => ⟨pk_in j 17 hj, ?_⟩) (fun z => nm_r (nI_1 j) (nx 1 ?_))
        · rw [pk_us]
          refine td_q (td_sw g w j) (w j) (fun z2 => nm_r (nI_1 j) (nx 0 ?_)) (fun z2 => nm_r (nI_1 j) (nx 1 ?_))
          · rw [td_ch_s, td_ne_f z2, ← hI.1, z]
            rfl
          · rw [td_ch_s, td_ne_t z2]
            rfl
        · rw [td_ch_s, ← hI.1]
          split
          · rfl
          · omega
    have k61 : wX_spread_61 post J (wX_spread_19 post J x2 n) (nI s.1) x2 (nI j) (nI (w j)) (nI (td_D (td_sw g w) j)) (nI ((w j ||| (w j <<< 1)) ||| td_sr (w j) 1)) a1 a2 a3 a4 a5 s.2 := by
      unfold wX_spread_61
      rw [td_or, nI_1]
      refine pk_le 16 j (fun z => ?_) (fun z => ⟨pk_in (j + 1) 17 (by omega), ?_⟩)
      · have e : td_U w j = 0 := by
          unfold td_U
          rw [if_neg (by omega)]
        rw [e] at k80
        exact k80
      · have e : td_U w j = w (j + 1) := by
          unfold td_U
          rw [if_pos (by omega)]
        rw [e] at k80
        rw [nI_clamp (show j + 1 < 2 ^ 31 by omega), hI.2.2 (j + 1) (by omega) (by omega)]
        exact k80
    refine pk_le 17 j (fun z => absurd z (by omega)) (fun _ => ⟨pk_in j 17 hj, ?_⟩)
    rw [e1, hI.2.2 j (by omega) hj]
    refine nm_e ?_
    rw [td_shl1, td_shr1, td_or, td_or]
    refine pk_le j 0 (fun z => ?_) (fun z => ?_)
    · have e : td_D (td_sw g w) j = 0 := by
        unfold td_D
        rw [if_pos (by omega)]
      rw [e] at k61
      exact k61
    · have e : td_D (td_sw g w) j = td_sw g w (j - 1) := by
        unfold td_D
        rw [if_neg (by omega)]
      rw [e] at k61
      rw [show nI j - 1 = nI (j - 1) from pk_sub (b := 1) (by omega), nI_clamp (show j - 1 < 2 ^ 31 by omega), hI.2.1 (j - 1) (by omega)]
      exact ⟨pk_in (j - 1) 17 (by omega), k61⟩
theorem td_spW {post : St2 → Prop} {g w : Nat → Nat} (hg : ∀ j, j < 17 → a5 j = nI (g j)) (hw : ∀ j, j < 17 → a6 j = nI (w j))
    (H : ∀ b6, (∀ j, j < 17 → b6 j = nI (td_sp 300 g w j)) → post (a1, a2, a3, a4, a5, b6)) : wpX_spread post (a1, a2, a3, a4, a5, a6) := by
  refine pk_loop (σ := Nat × (Nat → Int32) × (Nat → Nat)) (fun n i s => wX_spread_4 post n (nI s.1) (nI i) a1 a2 a3 a4 a5 s.2.1)
    (fun i s => s.1 ≤ 1 ∧ (∀ j, j < 17 → s.2.1 j = nI (s.2.2 j)) ∧ (if s.1 = 0 then s.2.2 else td_sp (300 - i) g s.2.2) = td_sp 300 g w) 300 0 (1, a6, w) (by omega) ⟨Nat.le_refl 1, hw, ?_⟩ ?_ ?_
  · show (if 1 = 0 then w else td_sp (300 - 0) g w) = td_sp 300 g w
    rw [if_neg (by decide), Nat.sub_zero]
  · intro n s hI
    obtain ⟨f, b, v⟩ := s
    obtain ⟨h1, h2, h3⟩ := hI
    refine pk_le 300 300 (fun _ => H b ?_) (fun z => absurd z (by omega))
    have e : v = td_sp 300 g w := by
      rw [← h3]
      show v = if f = 0 then v else td_sp 0 g v
      split <;> rfl
    rw [← e]
    exact h2
  · intro n i s hi hI hw'
    obtain ⟨f, b, v⟩ := s
    obtain ⟨h1, h2, h3⟩ := hI
    have h1' : f ≤ 1 := h1
    have h3' : (if f = 0 then v else td_sp (300 - i) g v) = td_sp 300 g w := h3
    refine pk_le 300 i (fun z => absurd z (by omega)) (fun _ => pk_eq f 0 (fun z => H b ?_) (fun z => ?_))
    · rw [if_pos z] at h3'
      rw [← h3']
      exact h2
    · rw [if_neg z, show 300 - i = (299 - i) + 1 by omega, td_sp_s] at h3'
      refine td_sweepW hg h2 (fun b6 hb => ?_)
      rw [nI_1]
      refine hw' (td_ch g v 17, b6, td_sw g v) ⟨show td_ch g v 17 ≤ 1 from td_any_le _ _, hb, ?_⟩
      show (if td_ch g v 17 = 0 then td_sw g v else td_sp (300 - (i + 1)) g (td_sw g v)) = td_sp 300 g w
      rw [show 300 - (i + 1) = 299 - i by omega]
      exact h3'
theorem td_tkW {post : St2 → Prop} {g w : Nat → Nat} (hg : ∀ j, j < 17 → a5 j = nI (g j)) (hw : ∀ j, j < 17 → a6 j = nI (w j))
    (H : ∀ b5 b6, (∀ j, j < 17 → b5 j = nI (td_tk g w j)) → (∀ j, j < 17 → b6 j = nI 0) → post (a1, a2, a3, a4, b5, b6)) : wpX_takeAway post (a1, a2, a3, a4, a5, a6) := by
  refine pk_loop (σ := (Nat → Int32) × (Nat → Int32)) (fun n i s => wX_takeAway_2 post n (nI i) a1 a2 a3 a4 s.1 s.2)
    (fun i s => (∀ j, j < i → s.1 j = nI (td_tk g w j) ∧ s.2 j = nI 0) ∧ (∀ j, i ≤ j → j < 17 → s.1 j = nI (g j) ∧ s.2 j = nI (w j))) 17 0 (a5, a6) (by omega) ⟨fun j hj => absurd hj (by omega), fun j _ hj => ⟨hg j hj, hw j hj⟩⟩ ?_ ?_
  · intro n s hI
    exact pk_le 17 17 (fun _ => H s.1 s.2 (fun j hj => (hI.1 j hj).1) (fun j hj => (hI.1 j hj).2)) (fun z => absurd z (by omega))
  · intro n i s hi hI hw'
    have l := hI.2 i (by omega) hi
    refine pk_le 17 i (fun z => absurd z (by omega)) (fun _ => ⟨pk_in i 17 hi, pk_in i 17 hi, pk_in i 17 hi, ?_⟩)
    rw [nI_clamp (show i < 2 ^ 31 by omega), l.1, l.2]
    refine nm_r (e' := upd s.1 i (nI (td_tk g w i))) ?_ ⟨pk_in i 17 hi, nm_e (nm_r (nI_1 i) (hw' (upd s.1 i (nI (td_tk g w i)), upd s.2 i 0) ⟨fun j hj => ?_, fun j hj hj2 => ?_⟩))⟩
    · rw [td_not, td_and, td_tk]
    · show upd s.1 i (nI (td_tk g w i)) j = _ ∧ upd s.2 i 0 j = _
      by_cases e : j = i
      · rw [e, pk_us, pk_us]
        exact ⟨rfl, rfl⟩
      · rw [pk_un e, pk_un e]
        exact hI.1 j (by omega)
    · show upd s.1 i (nI (td_tk g w i)) j = _ ∧ upd s.2 i 0 j = _
      rw [pk_un (by omega), pk_un (by omega)]
      exact hI.2 j (by omega) hj2
theorem td_33 {post : Int32 → St2 → Prop} {J : Int32 → Int32 → (Nat → Int32) → (Nat → Int32) → (Nat → Int32) → (Nat → Int32) → (Nat → Int32) → (Nat → Int32) → Prop} {g : Nat → Nat} {c j : Nat} (hj : j < 17) (hg : ∀ t, t < 17 → a5 t = nI (g t)) (h0 : ∀ t, t < 17 → a6 t = nI 0)
    (H : ∀ b5 b6, (∀ t, t < 17 → b5 t = nI ((td_p1 j 17 (g, c)).1 t)) → (∀ t, t < 17 → b6 t = nI 0) → J (nI (td_p1 j 17 (g, c)).2) (nI (j + 1)) a1 a2 a3 a4 b5 b6) : ∃ n, wX_countPieces_33 post J (nI j) n (nI c) 0 a1 a2 a3 a4 a5 a6 := by
  refine pk_loop (σ := ((Nat → Nat) × Nat) × (Nat → Int32) × (Nat → Int32)) (fun n i s => wX_countPieces_33 post J (nI j) n (nI s.1.2) (nI i) a1 a2 a3 a4 s.2.1 s.2.2)
    (fun i s => (∀ t, t < 17 → s.2.1 t = nI (s.1.1 t)) ∧ (∀ t, t < 17 → s.2.2 t = nI 0) ∧ td_p1 j (17 - i) s.1 = td_p1 j 17 (g, c)) 17 0 ((g, c), a5, a6) (by omega) ⟨hg, h0, rfl⟩ ?_ ?_
  · intro n s hI
    obtain ⟨p, b5, b6⟩ := s
    obtain ⟨h1, h2, h3⟩ := hI
    have e : p = td_p1 j 17 (g, c) := h3
    refine pk_le 17 17 (fun _ => nm_r (nI_1 j) ?_) (fun z => absurd z (by omega))
    have H' := H b5 b6
    rw [← e] at H'
    exact H' h1 h2
  · intro n i s hi hI hw
    obtain ⟨p, b5, b6⟩ := s
    obtain ⟨h1, h2, h3⟩ := hI
    have h3' : td_p1 j (17 - i) p = td_p1 j 17 (g, c) := h3
    have h1' : ∀ t, t < 17 → b5 t = nI (p.1 t) := h1
    have h2' : ∀ t, t < 17 → b6 t = nI 0 := h2
    rw [show 17 - i = (16 - i) + 1 by omega, td_p1_s] at h3'
    show wX_countPieces_33 post J (nI j) (n + 1) (nI p.2) (nI i) a1 a2 a3 a4 b5 b6
    refine pk_le 17 i (fun z => absurd z (by omega)) (fun _ => ⟨pk_in j 17 hj, ?_⟩)
    rw [nI_clamp (show j < 2 ^ 31 by omega), h1' j hj]
    refine td_z (p.1 j) (fun z => nm_r (nI_1 j) ?_) (fun z => ⟨pk_in j 17 hj, pk_in j 17 hj, pk_in j 17 hj, ?_⟩)
    · rw [if_pos z] at h3'
      have H' := H b5 b6
      rw [← h3'] at H'
      exact H' h1' h2'
    · rw [if_neg z] at h3'
      refine nm_r (e' := upd b6 j (nI (td_sd p.1 j j))) ?_ (td_spW (g := p.1) (w := td_sd p.1 j) h1' ?_ (fun c6 hc => ?_))
      · rw [td_neg, td_and]
        unfold td_sd
        rw [if_pos rfl]
      · intro t ht
        by_cases e : t = j
        · rw [e, pk_us]
        · rw [pk_un e, h2' t ht]
          unfold td_sd
          rw [if_neg e]
      · refine td_tkW h1' hc (fun d5 d6 hd he => nm_r (nI_1 _) (nm_r (nI_1 i) ?_))
        refine hw ((td_tk p.1 (td_sp 300 p.1 (td_sd p.1 j)), p.2 + 1), d5, d6) ⟨hd, he, ?_⟩
        show td_p1 j (17 - (i + 1)) (td_tk p.1 (td_sp 300 p.1 (td_sd p.1 j)), p.2 + 1) = _
        rw [show 17 - (i + 1) = 16 - i by omega]
        exact h3'
theorem td_cpW {post : Int32 → St2 → Prop} {g : Nat → Nat} (hg : ∀ t, t < 17 → a5 t = nI (g t)) (H : ∀ b5 b6, post (nI (td_cp g)) (a1, a2, a3, a4, b5, b6)) : wpX_countPieces post (a1, a2, a3, a4, a5, a6) := by
  have main : ∀ b6, (∀ t, t < 17 → b6 t = nI 0) → ∃ n, wX_countPieces_25 post n 0 0 a1 a2 a3 a4 a5 b6 := by
    intro b6 hb
    refine pk_loop (σ := Nat × (Nat → Int32) × (Nat → Int32)) (fun n j s => wX_countPieces_25 post n (nI s.1) (nI j) a1 a2 a3 a4 s.2.1 s.2.2)
      (fun j s => s.1 = (td_p2 g j).2 ∧ (∀ t, t < 17 → s.2.1 t = nI ((td_p2 g j).1 t)) ∧ (∀ t, t < 17 → s.2.2 t = nI 0)) 17 0 (0, a5, b6) (by omega) ⟨rfl, hg, hb⟩ ?_ ?_
    · intro n s hI
      refine pk_le 17 17 (fun _ => ?_) (fun z => absurd z (by omega))
      rw [hI.1]
      exact H _ _
    · intro n j s hj hI hw
      refine pk_le 17 j (fun z => absurd z (by omega)) (fun _ => td_33 (g := (td_p2 g j).1) hj hI.2.1 hI.2.2 (fun c5 c6 h1 h2 => ?_))
      have ep : ((td_p2 g j).1, s.1) = td_p2 g j := Prod.ext rfl hI.1
      rw [ep, ← td_p2_s] at h1 ⊢
      exact hw ((td_p2 g (j + 1)).2, c5, c6) ⟨rfl, h1, h2⟩
  refine pk_loop (σ := Nat → Int32) (fun n i b6 => wX_countPieces_4 post 0 n (nI i) a1 a2 a3 a4 a5 b6) (fun i b6 => ∀ t, t < i → b6 t = nI 0) 17 0 a6 (by omega) (fun t ht => absurd ht (by omega)) ?_ ?_
  · intro n b6 hb
    exact pk_le 17 17 (fun _ => main b6 hb) (fun z => absurd z (by omega))
  · intro n i b6 hi hb hw
    refine pk_le 17 i (fun z => absurd z (by omega)) (fun _ => ⟨pk_in i 17 hi, ?_⟩)
    rw [nI_clamp (show i < 2 ^ 31 by omega)]
    refine nm_e (nm_r (nI_1 i) (hw _ (fun t ht => ?_)))
    by_cases e : t = i
    · rw [e, pk_us]
      rfl
    · rw [pk_un e]
      exact hb t (by omega)
theorem td_pcsW {post : Int32 → St2 → Prop} {K : Nat → Nat} {F : Nat → Nat → Nat} {s k : Nat} {f : Nat → Nat} (h : td_pic K F a1 a2) (hs : s < 12) (ek : K s = k) (ef : F s = f) (hk : k ≠ 0) (hk4 : k < 4)
    (H : ∀ b3 b4 b5 b6, post (nI (td_pcs k f)) (a1, a2, b3, b4, b5, b6)) : wpX_pieces post (a1, a2, a3, a4, a5, a6) (nI s) := by
  subst ek ef
  have hk1 := h.1 s hs
  have es : (nI s).toNatClampNeg = s := nI_clamp (by omega)
  unfold wpX_pieces
  refine td_slotB hs ⟨pk_in s 12 hs, ?_⟩
  rw [es, hk1]
  refine pk_eq (K s) 0 (fun z => absurd z hk) (fun _ => ?_)
  refine td_lay (w := 0) hs (by omega) hk4 hk1 (fun j hj => h.2 s j hs hj) (fun b3 b4 h1 _ => ?_)
  refine pk_loop (σ := Nat → Int32) (fun n i b5 => wX_pieces_29 post (nI s) n (nI i) a1 a2 b3 b4 b5 a6) (fun i b5 => ∀ t, t < i → b5 t = nI ((if K s = 3 then td_in (K s) (F s) else td_body (td_in (K s) (F s)) (td_rim (K s) (F s))) t)) 17 0 a5 (by omega) (fun t ht => absurd ht (by omega)) ?_ ?_
  · intro n b5 hb
    exact pk_le 17 17 (fun _ => td_cpW hb (fun c5 c6 => H b3 b4 c5 c6)) (fun z => absurd z (by omega))
  · intro n i b5 hi hb hw
    have l := h1 i hi
    rw [Nat.mul_zero, Nat.zero_add] at l
    have nx : wX_pieces_29 post (nI s) n (nI (i + 1)) a1 a2 b3 b4 (upd b5 i (nI ((if K s = 3 then td_in (K s) (F s) else td_body (td_in (K s) (F s)) (td_rim (K s) (F s))) i))) a6 := by
      refine hw _ (fun t ht => ?_)
      by_cases e : t = i
      · rw [e, pk_us]
      · rw [pk_un e]
        exact hb t (by omega)
    refine pk_le 17 i (fun z => absurd z (by omega)) (fun _ => ⟨pk_in s 12 hs, ?_⟩)
    rw [es, hk1]
    refine pk_eq (K s) 3 (fun e => ?_) (fun e => ?_)
    · rw [if_pos e] at nx
      rw [nI_clamp (show i < 2 ^ 31 by omega), l.1]
      exact ⟨pk_in i 34 (by omega), pk_in i 17 hi, nm_e (nm_r (nI_1 i) nx)⟩
    · rw [if_neg e] at nx
      refine td_bodyW (by omega) l.1 l.2 ⟨pk_in i 17 hi, ?_⟩
      rw [nI_clamp (show i < 2 ^ 31 by omega)]
      exact nm_e (nm_r (nI_1 i) nx)
theorem td_lhW {post : St2 → Prop} {K : Nat → Nat} {F : Nat → Nat → Nat} {s : Nat} {f : Nat → Nat} (h : td_pic K F a1 a2) (hs : s < 12) (ek : K s = 3) (ef : F s = f)
    (H : ∀ b3 b4 b5 b6, (∀ j, j < 17 → b5 j = nI (td_hg f j)) → post (a1, a2, b3, b4, b5, b6)) : wpX_layHoles post (a1, a2, a3, a4, a5, a6) (nI s) := by
  subst ef
  have hk1 := h.1 s hs
  rw [ek] at hk1
  unfold wpX_layHoles
  refine td_lay (w := 0) (k := 3) hs (by omega) (by omega) hk1 (fun j hj => h.2 s j hs hj) (fun b3 b4 h1 _ => ?_)
  refine pk_loop (σ := (Nat → Int32) × (Nat → Int32)) (fun n i b => wX_layHoles_8 post n (nI i) a1 a2 b3 b4 b.1 b.2) (fun i b => ∀ t, t < i → b.1 t = nI (td_h0 (F s) t) ∧ b.2 t = nI (td_h1 (F s) t)) 17 0 (a5, a6) (by omega) (fun t ht => absurd ht (by omega)) ?_ ?_
  · intro n b hb
    refine pk_le 17 17 (fun _ => td_spW (g := td_h0 (F s)) (w := td_h1 (F s)) (fun j hj => (hb j hj).1) (fun j hj => (hb j hj).2) (fun b6 h6 => td_tkW (g := td_h0 (F s)) (fun j hj => (hb j hj).1) h6 (fun c5 c6 h5 _ => H b3 b4 c5 c6 h5))) (fun z => absurd z (by omega))
  · intro n i b hi hb hw
    have l := h1 i hi
    rw [Nat.mul_zero, Nat.zero_add] at l
    have ei : (nI i).toNatClampNeg = i := nI_clamp (by omega)
    have nx : ∀ v, v = td_h1 (F s) i → wX_layHoles_8 post n (nI (i + 1)) a1 a2 b3 b4 (upd b.1 i (nI (td_h0 (F s) i))) (upd b.2 i (nI v)) := by
      intro v hv
      refine hw (upd b.1 i (nI (td_h0 (F s) i)), upd b.2 i (nI v)) (fun t ht => ?_)
      show upd b.1 i (nI (td_h0 (F s) i)) t = _ ∧ upd b.2 i (nI v) t = _
      by_cases e : t = i
      · rw [e, pk_us, pk_us, hv]
        exact ⟨rfl, rfl⟩
      · rw [pk_un e, pk_un e]
        exact hb t (by omega)
    refine pk_le 17 i (fun z => absurd z (by omega)) (fun _ => td_outW (by omega) l.1 l.2 ⟨pk_in i 17 hi, ?_⟩)
    rw [ei]
    refine nm_r (e' := upd b.1 i (nI (td_h0 (F s) i))) (by rw [td_h0, td_out, td_body]) ⟨pk_in i 17 hi, ?_⟩
    rw [pk_us, td_aALL, td_aEnds]
    refine pk_eq i 0 (fun z => ⟨pk_in i 17 hi, nm_e (nm_r (nI_1 i) (nx _ ?_))⟩) (fun z => pk_eq i 16 (fun z2 => ⟨pk_in i 17 hi, nm_e (nm_r (nI_1 i) (nx _ ?_))⟩) (fun z2 => ⟨pk_in i 17 hi, nm_e (nm_r (nI_1 i) (nx _ ?_))⟩))
    · unfold td_h1
      rw [if_pos (Or.inl z)]
    · unfold td_h1
      rw [if_pos (Or.inr z2)]
    · unfold td_h1
      rw [if_neg (by omega)]
theorem td_hsW {post : Int32 → St2 → Prop} {K : Nat → Nat} {F : Nat → Nat → Nat} {s : Nat} {f : Nat → Nat} (h : td_pic K F a1 a2) (hs : s < 12) (ek : K s = 3) (ef : F s = f)
    (H : ∀ b3 b4 b5 b6, post (nI (td_hs f)) (a1, a2, b3, b4, b5, b6)) : wpX_holes post (a1, a2, a3, a4, a5, a6) (nI s) := by
  have hk1 := h.1 s hs
  rw [ek] at hk1
  unfold wpX_holes
  exact td_areaB hs hk1 (td_lhW h hs ek ef (fun b3 b4 b5 b6 hb => td_cpW hb (fun c5 c6 => H b3 b4 c5 c6)))
end
end
section
/-! walks: the methods that change a shape, and the other questions -/
section
variable {a1 a2 a3 a4 a5 a6 : Nat → Int32}
theorem td_shlO {k : Nat} (hk : k < 32) : (1 : Int32) <<< (nI k &&& 31) = nI (1 <<< k) := td_shl 1 hk
theorem td_up_self {F : Nat → Nat → Nat} {s : Nat} {g : Nat → Nat} {a : Nat → Int32} (h : ∀ t j, t < 12 → j < 17 → a (17 * t + j) = nI (F t j)) (hg : ∀ j, j < 17 → g j = F s j) : ∀ t j, t < 12 → j < 17 → a (17 * t + j) = nI (td_up F s g t j) := by
  intro t j ht hj
  rw [h t j ht hj]
  unfold td_up
  by_cases e : t = s
  · rw [if_pos e, hg j hj, e]
  · rw [if_neg e]
theorem td_up_at {F : Nat → Nat → Nat} {s : Nat} {g : Nat → Nat} {a : Nat → Int32} (hs : s < 12) (h : ∀ t j, t < 12 → j < 17 → a (17 * t + j) = nI (td_up F s g t j)) : ∀ j, j < 17 → a (17 * s + j) = nI (g j) := by
  intro j hj
  rw [h s j hs hj]
  unfold td_up
  rw [if_pos rfl]
theorem td_up_eq {F : Nat → Nat → Nat} {s : Nat} {g g' : Nat → Nat} {a : Nat → Int32} (h : ∀ t j, t < 12 → j < 17 → a (17 * t + j) = nI (td_up F s g t j)) (hg : ∀ j, j < 17 → g j = g' j) : ∀ t j, t < 12 → j < 17 → a (17 * t + j) = nI (td_up F s g' t j) := by
  intro t j ht hj
  rw [h t j ht hj]
  unfold td_up
  by_cases e : t = s
  · rw [if_pos e, if_pos e, hg j hj]
  · rw [if_neg e, if_neg e]
theorem td_rectW {post : Int32 → St2 → Prop} {K : Nat → Nat} {F : Nat → Nat → Nat} {s p q k m M w : Nat} {f : Nat → Nat} (h : td_pic K F a1 a2) (hs : s < 12) (ek : K s = k) (ef : F s = f) (hk : k = 0 ∨ k = 3) (hp : p < 81) (hq : q < 81) (h1 : p / 9 ≠ q / 9) (h2 : p % 9 ≠ q % 9) (em : min (p % 9) (q % 9) = m) (eM : max (p % 9) (q % 9) = M) (ew : td_cols p q = w)
    (H : ∀ b1 b2, td_pic (td_uk K s 3) (td_up F s (td_rc f m M w)) b1 b2 → post (nI (td_cnt (td_rc f m M w))) (b1, b2, a3, a4, a5, a6)) :
    wpX_rectangle post (a1, a2, a3, a4, a5, a6) (nI s) (nI p) (nI q) := by
  subst ek ef em eM ew
  unfold wpX_rectangle
  refine td_slotB hs (td_takesB (k := 3) hs (h.1 s hs) hk (td_vertB hp (td_vertB hq (td_flatB hp hq h1 h2 ⟨pk_in s 12 hs, ?_⟩))))
  rw [nI_clamp (show s < 2 ^ 31 by omega)]
  refine nm_e (td_colsW hp hq ⟨by decide, by decide, ?_⟩)
  rw [td_r9 (show p < 2 ^ 31 by omega), td_r9 (show q < 2 ^ 31 by omega)]
  refine td_gre (by omega) (by omega) (nm_r (td_2m _) ⟨by decide, by decide, td_les (by omega) (by omega) (nm_r (e' := nI (2 * min (p % 9) (q % 9) + 1)) (by rw [td_2m, nI_1]) ?_)⟩)
  have hmM : min (p % 9) (q % 9) ≤ max (p % 9) (q % 9) := by omega
  have hM : max (p % 9) (q % 9) ≤ 8 := by omega
  generalize min (p % 9) (q % 9) = m at hmM H ⊢
  generalize max (p % 9) (q % 9) = M at hmM hM H ⊢
  generalize td_cols p q = w at H ⊢
  refine pk_loop (σ := Nat → Int32) (fun n i b2 => wX_rectangle_95 post (nI s) (nI w) (nI (2 * M)) n (nI (2 * m + 1 + 2 * i)) (upd a1 s 3) b2 a3 a4 a5 a6) (fun i b2 => ∀ t j, t < 12 → j < 17 → b2 (17 * t + j) = nI (td_up F s (td_rc (F s) m (m + i) w) t j)) (M - m) 0 a2 (by omega) ?_ ?_ ?_
  · refine td_up_self h.2 (fun j hj => ?_)
    unfold td_rc
    rw [if_neg (by omega)]
  · intro n b2 hb
    rw [show m + (M - m) = M by omega] at hb
    exact pk_le (2 * M) (2 * m + 1 + 2 * (M - m)) (fun _ => td_count hs (td_up_at hs hb) (H (upd a1 s 3) b2 ⟨(td_pic_uk h s 3).1, hb⟩)) (fun z => absurd z (by omega))
  · intro n i b2 hi hb hw
    refine pk_le (2 * M) (2 * m + 1 + 2 * i) (fun z => absurd z (by omega)) (fun _ => ?_)
    rw [td_ix, nI_clamp (show 17 * s + (2 * m + 1 + 2 * i) < 2 ^ 31 by omega)]
    refine ⟨pk_in (17 * s + (2 * m + 1 + 2 * i)) 204 (by omega), pk_in (17 * s + (2 * m + 1 + 2 * i)) 204 (by omega), nm_e (nm_r (e' := nI (2 * m + 1 + 2 * (i + 1))) (by rw [td_a2, show 2 * m + 1 + 2 * i + 2 = 2 * m + 1 + 2 * (i + 1) by omega]) (hw _ (td_put (by omega) hb ?_ ?_)))⟩
    · rw [td_up_at hs hb _ (show 2 * m + 1 + 2 * i < 17 by omega), td_or]
      unfold td_rc
      rw [if_neg (by omega), if_pos (by omega)]
    · intro j hj hne
      unfold td_rc
      by_cases c : j % 2 = 1 ∧ 2 * m < j ∧ j < 2 * (m + i)
      · rw [if_pos c, if_pos (by omega)]
      · rw [if_neg c, if_neg (by omega)]
theorem td_settle1 {post : Int32 → St2 → Prop} {s : Nat} {f : Nat → Nat} (hs : s < 12) (hf : ∀ j, j < 17 → a2 (17 * s + j) = nI (f j)) (hc : td_cnt f ≠ 0) (h : post (nI (td_cnt f)) (a1, a2, a3, a4, a5, a6)) : wpX_settle post (a1, a2, a3, a4, a5, a6) (nI s) := by
  unfold wpX_settle
  have := td_cnt_lt f
  exact td_count hs hf (pk_eq (td_cnt f) 0 (fun z => absurd z hc) (fun _ => h))
theorem td_settle0 {post : Int32 → St2 → Prop} {s : Nat} {f : Nat → Nat} (hs : s < 12) (hf : ∀ j, j < 17 → a2 (17 * s + j) = nI (f j)) (hc : td_cnt f = 0) (h : post (nI 0) (upd a1 s (nI 0), a2, a3, a4, a5, a6)) : wpX_settle post (a1, a2, a3, a4, a5, a6) (nI s) := by
  unfold wpX_settle
  refine td_count hs hf ?_
  rw [hc, nI_clamp (show s < 2 ^ 31 by omega)]
  exact br_t rfl ⟨pk_in s 12 hs, nm_e h⟩
theorem td_cutW {post : Int32 → St2 → Prop} {K : Nat → Nat} {F : Nat → Nat → Nat} {s p q m M w : Nat} {f : Nat → Nat} (h : td_pic K F a1 a2) (hs : s < 12) (ek : K s = 3) (ef : F s = f) (hp : p < 81) (hq : q < 81) (h1 : p / 9 ≠ q / 9) (h2 : p % 9 ≠ q % 9) (em : min (p % 9) (q % 9) = m) (eM : max (p % 9) (q % 9) = M) (ew : td_cols p q = w)
    (hc : td_cnt (td_ct f m M w) ≠ 0)
    (H : ∀ b2, td_pic K (td_up F s (td_ct f m M w)) a1 b2 → post (nI (td_cnt (td_ct f m M w))) (a1, b2, a3, a4, a5, a6)) :
    wpX_cut post (a1, a2, a3, a4, a5, a6) (nI s) (nI p) (nI q) := by
  subst ef em eM ew
  have hk1 := h.1 s hs
  rw [ek] at hk1
  unfold wpX_cut
  refine td_areaB hs hk1 (td_vertB hp (td_vertB hq (td_flatB hp hq h1 h2 (td_colsW hp hq ⟨by decide, by decide, ?_⟩))))
  rw [td_r9 (show p < 2 ^ 31 by omega), td_r9 (show q < 2 ^ 31 by omega)]
  refine td_gre (by omega) (by omega) (nm_r (td_2m _) ⟨by decide, by decide, td_les (by omega) (by omega) (nm_r (e' := nI (2 * min (p % 9) (q % 9) + 1)) (by rw [td_2m, nI_1]) ?_)⟩)
  have hmM : min (p % 9) (q % 9) ≤ max (p % 9) (q % 9) := by omega
  have hM : max (p % 9) (q % 9) ≤ 8 := by omega
  generalize min (p % 9) (q % 9) = m at hmM hc H ⊢
  generalize max (p % 9) (q % 9) = M at hmM hM hc H ⊢
  generalize td_cols p q = w at hc H ⊢
  refine pk_loop (σ := Nat → Int32) (fun n i b2 => wX_cut_82 post (nI s) (nI w) (nI (2 * M)) n (nI (2 * m + 1 + 2 * i)) a1 b2 a3 a4 a5 a6) (fun i b2 => ∀ t j, t < 12 → j < 17 → b2 (17 * t + j) = nI (td_up F s (td_ct (F s) m (m + i) w) t j)) (M - m) 0 a2 (by omega) ?_ ?_ ?_
  · refine td_up_self h.2 (fun j hj => ?_)
    unfold td_ct
    rw [if_neg (by omega)]
  · intro n b2 hb
    rw [show m + (M - m) = M by omega] at hb
    exact pk_le (2 * M) (2 * m + 1 + 2 * (M - m)) (fun _ => td_settle1 hs (td_up_at hs hb) hc (H b2 ⟨h.1, hb⟩)) (fun z => absurd z (by omega))
  · intro n i b2 hi hb hw
    refine pk_le (2 * M) (2 * m + 1 + 2 * i) (fun z => absurd z (by omega)) (fun _ => ?_)
    rw [td_ix, nI_clamp (show 17 * s + (2 * m + 1 + 2 * i) < 2 ^ 31 by omega)]
    refine ⟨pk_in (17 * s + (2 * m + 1 + 2 * i)) 204 (by omega), pk_in (17 * s + (2 * m + 1 + 2 * i)) 204 (by omega), nm_e (nm_r (e' := nI (2 * m + 1 + 2 * (i + 1))) (by rw [td_a2, show 2 * m + 1 + 2 * i + 2 = 2 * m + 1 + 2 * (i + 1) by omega]) (hw _ (td_put (by omega) hb ?_ ?_)))⟩
    · rw [td_up_at hs hb _ (show 2 * m + 1 + 2 * i < 17 by omega), td_not, td_and]
      unfold td_ct
      rw [if_neg (by omega), if_pos (by omega)]
    · intro j hj hne
      unfold td_ct
      by_cases c : j % 2 = 1 ∧ 2 * m < j ∧ j < 2 * (m + i)
      · rw [if_pos c, if_pos (by omega)]
      · rw [if_neg c, if_neg (by omega)]
theorem td_lineW {post : Int32 → St2 → Prop} {K : Nat → Nat} {F : Nat → Nat → Nat} {s p q k y w : Nat} {f : Nat → Nat} (h : td_pic K F a1 a2) (hs : s < 12) (ek : K s = k) (ef : F s = f) (hk : k = 0 ∨ k = 2) (hp : p < 81) (hq : q < 81) (h1 : p / 9 ≠ q / 9) (h2 : p % 9 = q % 9) (ey : p % 9 = y) (ew : td_cols p q = w)
    (H : ∀ b1 b2, td_pic (td_uk K s 2) (td_up F s (td_ln f (2 * y) w)) b1 b2 → post (nI (td_cnt (td_ln f (2 * y) w))) (b1, b2, a3, a4, a5, a6)) :
    wpX_line post (a1, a2, a3, a4, a5, a6) (nI s) (nI p) (nI q) := by
  subst ek ef ey ew
  unfold wpX_line
  refine td_slotB hs (td_takesB (k := 2) hs (h.1 s hs) hk (td_vertB hp (td_vertB hq ⟨by decide, nm_r (td_d9 (by omega)) ⟨by decide, nm_r (td_r9 (by omega)) ⟨by decide, nm_r (td_d9 (by omega)) ⟨by decide, nm_r (td_r9 (by omega)) ?_⟩⟩⟩⟩)))
  refine pk_eq (p / 9) (q / 9) (fun z => absurd z h1) (fun _ => ?_)
  unfold wX_line_74
  refine pk_eq (p % 9) (q % 9) (fun _ => ?_) (fun z => absurd h2 z)
  unfold wX_line_86
  refine br_f (by decide) ⟨pk_in s 12 hs, ?_⟩
  rw [nI_clamp (show s < 2 ^ 31 by omega)]
  refine nm_e (pk_eq (p % 9) (q % 9) (fun _ => ?_) (fun z => absurd h2 z))
  refine td_les (by omega) (by omega) (td_gre (by omega) (by omega) ?_)
  rw [td_2m, td_2m, td_2m, td_ix, nI_clamp (show 17 * s + 2 * (p % 9) < 2 ^ 31 by omega)]
  refine ⟨pk_in (17 * s + 2 * (p % 9)) 204 (by omega), td_span (by omega) (by omega) ⟨pk_in (17 * s + 2 * (p % 9)) 204 (by omega), nm_e ?_⟩⟩
  have hb : ∀ t j, t < 12 → j < 17 → upd a2 (17 * s + 2 * (p % 9)) (a2 (17 * s + 2 * (p % 9)) ||| (nI ((1 <<< (2 * max (p / 9) (q / 9) + 1)) - (1 <<< (2 * min (p / 9) (q / 9)))) &&& 43690)) (17 * t + j) = nI (td_up F s (td_ln (F s) (2 * (p % 9)) (td_cols p q)) t j) := by
    refine td_put (f := F s) (by omega) (td_up_self h.2 (fun j _ => rfl)) ?_ (fun j _ hne => ?_)
    · rw [h.2 s _ hs (show 2 * (p % 9) < 17 by omega), td_aODD, td_or]
      rw [td_ln, if_pos rfl, td_cols]
    · unfold td_ln
      rw [if_neg hne]
  exact td_count hs (td_up_at hs hb) (H _ _ ⟨(td_pic_uk h s 2).1, hb⟩)
theorem td_pointW {post : Int32 → St2 → Prop} {K : Nat → Nat} {F : Nat → Nat → Nat} {s p k : Nat} {f : Nat → Nat} (h : td_pic K F a1 a2) (hs : s < 12) (ek : K s = k) (ef : F s = f) (hk : k = 0 ∨ k = 1) (hp : p < 81)
    (H : ∀ b1 b2, td_pic (td_uk K s 1) (td_up F s (td_ln f (2 * (p % 9)) (1 <<< (2 * (p / 9))))) b1 b2 → post (nI (td_cnt (td_ln f (2 * (p % 9)) (1 <<< (2 * (p / 9)))))) (b1, b2, a3, a4, a5, a6)) :
    wpX_point post (a1, a2, a3, a4, a5, a6) (nI s) (nI p) := by
  subst ek ef
  unfold wpX_point
  refine td_slotB hs (td_takesB (k := 1) hs (h.1 s hs) hk (td_vertB hp ⟨pk_in s 12 hs, ?_⟩))
  rw [nI_clamp (show s < 2 ^ 31 by omega), td_r9 (show p < 2 ^ 31 by omega), td_d9 (show p < 2 ^ 31 by omega), td_2m, td_2m, td_ix, nI_clamp (show 17 * s + 2 * (p % 9) < 2 ^ 31 by omega), td_shlO (by omega)]
  refine nm_e ⟨by decide, pk_in (17 * s + 2 * (p % 9)) 204 (by omega), by decide, pk_in (17 * s + 2 * (p % 9)) 204 (by omega), nm_e ?_⟩
  have hb : ∀ t j, t < 12 → j < 17 → upd a2 (17 * s + 2 * (p % 9)) (a2 (17 * s + 2 * (p % 9)) ||| nI (1 <<< (2 * (p / 9)))) (17 * t + j) = nI (td_up F s (td_ln (F s) (2 * (p % 9)) (1 <<< (2 * (p / 9)))) t j) := by
    refine td_put (f := F s) (by omega) (td_up_self h.2 (fun j _ => rfl)) ?_ (fun j _ hne => ?_)
    · rw [h.2 s _ hs (show 2 * (p % 9) < 17 by omega), td_or]
      unfold td_ln
      rw [if_pos rfl]
    · unfold td_ln
      rw [if_neg hne]
  exact td_count hs (td_up_at hs hb) (H _ _ ⟨(td_pic_uk h s 1).1, hb⟩)
theorem td_olW {post : Int32 → St2 → Prop} {K : Nat → Nat} {F : Nat → Nat → Nat} {s t : Nat} {f : Nat → Nat} (h : td_pic K F a1 a2) (hs : s < 12) (ht : t < 12) (ek : K s = 3) (ef : F s = f)
    (H : ∀ b1 b2 b3 b4, td_pic (td_uk K t 2) (td_up F t (td_ol f)) b1 b2 → post (nI (td_cnt (td_ol f))) (b1, b2, b3, b4, a5, a6)) :
    wpX_outline post (a1, a2, a3, a4, a5, a6) (nI s) (nI t) := by
  subst ef
  have hk1 := h.1 s hs
  rw [ek] at hk1
  unfold wpX_outline
  refine td_slotB ht (td_areaB hs hk1 (td_lay (w := 0) (k := 3) hs (by omega) (by omega) hk1 (fun j hj => h.2 s j hs hj) (fun b3 b4 h1 _ => ⟨pk_in t 12 ht, ?_⟩)))
  rw [nI_clamp (show t < 2 ^ 31 by omega)]
  refine nm_e ?_
  refine pk_loop (σ := Nat → Int32) (fun n i b2 => wX_outline_37 post (nI t) n (nI i) (upd a1 t 2) b2 b3 b4 a5 a6) (fun i b2 => ∀ u j, u < 12 → j < 17 → b2 (17 * u + j) = nI (td_up F t (fun j => if j < i then td_ol (F s) j else F t j) u j)) 17 0 a2 (by omega) ?_ ?_ ?_
  · exact td_up_self h.2 (fun j hj => by rw [if_neg (by omega)])
  · intro n b2 hb
    have hb' := td_up_eq (g' := td_ol (F s)) hb (fun j hj => by rw [if_pos hj])
    exact pk_le 17 17 (fun _ => td_count ht (td_up_at ht hb') (H (upd a1 t 2) b2 b3 b4 ⟨(td_pic_uk h t 2).1, hb'⟩)) (fun z => absurd z (by omega))
  · intro n i b2 hi hb hw
    have l := h1 i hi
    rw [Nat.mul_zero, Nat.zero_add] at l
    have nx : ∀ v, v = td_ol (F s) i → wX_outline_37 post (nI t) n (nI (i + 1)) (upd a1 t 2) (upd b2 (17 * t + i) (nI v)) b3 b4 a5 a6 := by
      intro v hv
      refine hw _ (td_put (g := fun j => if j < i + 1 then td_ol (F s) j else F t j) hi hb ?_ (fun j hj hne => ?_))
      · rw [hv]
        show _ = nI (if i < i + 1 then td_ol (F s) i else F t i)
        rw [if_pos (by omega)]
      · show (if j < i + 1 then td_ol (F s) j else F t j) = if j < i then td_ol (F s) j else F t j
        by_cases c : j < i
        · rw [if_pos c, if_pos (by omega)]
        · rw [if_neg c, if_neg (by omega)]
    refine pk_le 17 i (fun z => absurd z (by omega)) (fun _ => ⟨pk_in i 34 (by omega), by decide, ?_⟩)
    rw [td_r2 (show i < 2 ^ 31 by omega), td_ix, nI_clamp (show 17 * t + i < 2 ^ 31 by omega), nI_clamp (show i < 2 ^ 31 by omega), l.2, td_aODD, td_aEVEN]
    refine pk_eq (i % 2) 0 (fun z => ⟨pk_in (17 * t + i) 204 (by omega), nm_e (nm_r (nI_1 i) (nx _ ?_))⟩) (fun z => ⟨pk_in (17 * t + i) 204 (by omega), nm_e (nm_r (nI_1 i) (nx _ ?_))⟩)
    · unfold td_ol
      rw [if_pos z]
    · unfold td_ol
      rw [if_neg z]
theorem td_gwW {post : Int32 → St2 → Prop} {K : Nat → Nat} {F : Nat → Nat → Nat} {s : Nat} {f : Nat → Nat} (h : td_pic K F a1 a2) (hs : s < 12) (ek : K s = 3) (ef : F s = f)
    (H : ∀ b2 b5, td_pic K (td_up F s (td_gw f)) a1 b2 → post (nI (td_cnt (td_gw f))) (a1, b2, a3, a4, b5, a6)) :
    wpX_grow post (a1, a2, a3, a4, a5, a6) (nI s) := by
  subst ef
  have hk1 := h.1 s hs
  rw [ek] at hk1
  have main : ∀ b5, (∀ i, i < 8 → b5 (1 + 2 * i) = nI (td_gw (F s) (1 + 2 * i))) → ∃ n, wX_grow_75 post (nI s) n 1 a1 a2 a3 a4 b5 a6 := by
    intro b5 h5
    refine pk_loop (σ := Nat → Int32) (fun n i b2 => wX_grow_75 post (nI s) n (nI (1 + 2 * i)) a1 b2 a3 a4 b5 a6) (fun i b2 => ∀ t j, t < 12 → j < 17 → b2 (17 * t + j) = nI (td_up F s (fun j => if j < 2 * i then td_gw (F s) j else F s j) t j)) 8 0 a2 (by omega) ?_ ?_ ?_
    · exact td_up_self h.2 (fun j hj => by rw [if_neg (by omega)])
    · intro n b2 hb
      have hb' := td_up_eq (g' := td_gw (F s)) hb (fun j hj => by
        by_cases c : j < 2 * 8
        · rw [if_pos c]
        · rw [if_neg c]
          unfold td_gw
          rw [if_neg (by omega)])
      exact pk_le 17 (1 + 2 * 8) (fun _ => td_count hs (td_up_at hs hb') (H b2 b5 ⟨h.1, hb'⟩)) (fun z => absurd z (by omega))
    · intro n i b2 hi hb hw
      refine pk_le 17 (1 + 2 * i) (fun z => absurd z (by omega)) (fun _ => ⟨pk_in (1 + 2 * i) 17 (by omega), ?_⟩)
      rw [td_ix, nI_clamp (show 17 * s + (1 + 2 * i) < 2 ^ 31 by omega), nI_clamp (show 1 + 2 * i < 2 ^ 31 by omega), h5 i hi]
      refine ⟨pk_in (17 * s + (1 + 2 * i)) 204 (by omega), nm_e (nm_r (e' := nI (1 + 2 * (i + 1))) (by rw [td_a2, show 1 + 2 * i + 2 = 1 + 2 * (i + 1) by omega]) (hw _ (td_put (g := fun j => if j < 2 * (i + 1) then td_gw (F s) j else F s j) (by omega) hb ?_ (fun j hj hne => ?_))))⟩
      · show _ = nI (if 1 + 2 * i < 2 * (i + 1) then td_gw (F s) (1 + 2 * i) else F s (1 + 2 * i))
        rw [if_pos (by omega)]
      · show (if j < 2 * (i + 1) then td_gw (F s) j else F s j) = if j < 2 * i then td_gw (F s) j else F s j
        by_cases c : j < 2 * i
        · rw [if_pos c, if_pos (by omega)]
        · rw [if_neg c]
          by_cases c2 : j < 2 * (i + 1)
          · rw [if_pos c2]
            unfold td_gw
            rw [if_neg (by omega)]
          · rw [if_neg c2]
  unfold wpX_grow
  refine td_areaB hs hk1 ?_
  refine pk_loop (σ := Nat → Int32) (fun n i b5 => wX_grow_14 post (nI s) n (nI (1 + 2 * i)) a1 a2 a3 a4 b5 a6) (fun i b5 => ∀ t, t < i → b5 (1 + 2 * t) = nI (td_gw (F s) (1 + 2 * t))) 8 0 a5 (by omega) (fun t ht => absurd ht (by omega)) ?_ ?_
  · intro n b5 hb
    exact pk_le 17 (1 + 2 * 8) (fun _ => main b5 hb) (fun z => absurd z (by omega))
  · intro n i b5 hi hb hw
    have hf : ∀ j, j < 17 → a2 (17 * s + j) = nI (F s j) := fun j hj => h.2 s j hs hj
    refine pk_le 17 (1 + 2 * i) (fun z => absurd z (by omega)) (fun _ => td_rowD2 hs (by omega) hf (td_rowI hs (by omega) hf (td_rowU2 hs (by omega) hf ?_)))
    refine nm_r (e' := nI (td_gr (F s) (1 + 2 * i))) (by rw [td_or, td_or, td_gr]) ⟨pk_in (1 + 2 * i) 17 (by omega), ?_⟩
    rw [nI_clamp (show 1 + 2 * i < 2 ^ 31 by omega), td_shl2, td_shr2, td_or, td_or, td_aODD]
    refine nm_e (nm_r (e' := nI (1 + 2 * (i + 1))) (by rw [td_a2, show 1 + 2 * i + 2 = 1 + 2 * (i + 1) by omega]) (hw _ (fun t ht => ?_)))
    by_cases e : t = i
    · rw [e, pk_us]
      unfold td_gw
      rw [if_pos (by omega)]
    · rw [pk_un (by omega)]
      exact hb t (by omega)
theorem td_flW {post : Int32 → St2 → Prop} {K : Nat → Nat} {F : Nat → Nat → Nat} {s : Nat} {f : Nat → Nat} (h : td_pic K F a1 a2) (hs : s < 12) (ek : K s = 3) (ef : F s = f)
    (H : ∀ b2 b3 b4 b5 b6, td_pic K (td_up F s (td_fl f)) a1 b2 → post (nI (td_cnt (td_fl f))) (a1, b2, b3, b4, b5, b6)) :
    wpX_fill post (a1, a2, a3, a4, a5, a6) (nI s) := by
  have hk1 := h.1 s hs
  rw [ek] at hk1
  unfold wpX_fill
  refine td_areaB hs hk1 (td_lhW h hs ek ef (fun b3 b4 b5 b6 h5 => ?_))
  subst ef
  refine pk_loop (σ := Nat → Int32) (fun n i b2 => wX_fill_19 post (nI s) n (nI (1 + 2 * i)) a1 b2 b3 b4 b5 b6) (fun i b2 => ∀ t j, t < 12 → j < 17 → b2 (17 * t + j) = nI (td_up F s (fun j => if j < 2 * i then td_fl (F s) j else F s j) t j)) 8 0 a2 (by omega) ?_ ?_ ?_
  · exact td_up_self h.2 (fun j hj => by rw [if_neg (by omega)])
  · intro n b2 hb
    have hb' := td_up_eq (g' := td_fl (F s)) hb (fun j hj => by
      by_cases c : j < 2 * 8
      · rw [if_pos c]
      · rw [if_neg c]
        unfold td_fl
        rw [if_neg (by omega)])
    exact pk_le 17 (1 + 2 * 8) (fun _ => td_count hs (td_up_at hs hb') (H b2 b3 b4 b5 b6 ⟨h.1, hb'⟩)) (fun z => absurd z (by omega))
  · intro n i b2 hi hb hw
    refine pk_le 17 (1 + 2 * i) (fun z => absurd z (by omega)) (fun _ => ?_)
    rw [td_ix, nI_clamp (show 17 * s + (1 + 2 * i) < 2 ^ 31 by omega), nI_clamp (show 1 + 2 * i < 2 ^ 31 by omega), h5 _ (show 1 + 2 * i < 17 by omega), td_aODD]
    refine ⟨pk_in (17 * s + (1 + 2 * i)) 204 (by omega), pk_in (1 + 2 * i) 17 (by omega), pk_in (17 * s + (1 + 2 * i)) 204 (by omega), nm_e (nm_r (e' := nI (1 + 2 * (i + 1))) (by rw [td_a2, show 1 + 2 * i + 2 = 1 + 2 * (i + 1) by omega]) (hw _ (td_put (g := fun j => if j < 2 * (i + 1) then td_fl (F s) j else F s j) (by omega) hb ?_ (fun j hj hne => ?_))))⟩
    · rw [td_up_at hs hb _ (show 1 + 2 * i < 17 by omega)]
      show nI (if 1 + 2 * i < 2 * i then td_fl (F s) (1 + 2 * i) else F s (1 + 2 * i)) ||| _ = nI (if 1 + 2 * i < 2 * (i + 1) then td_fl (F s) (1 + 2 * i) else F s (1 + 2 * i))
      rw [if_neg (by omega), if_pos (by omega), td_or]
      unfold td_fl
      rw [if_pos (by omega)]
    · show (if j < 2 * (i + 1) then td_fl (F s) j else F s j) = if j < 2 * i then td_fl (F s) j else F s j
      by_cases c : j < 2 * i
      · rw [if_pos c, if_pos (by omega)]
      · rw [if_neg c]
        by_cases c2 : j < 2 * (i + 1)
        · rw [if_pos c2]
          unfold td_fl
          rw [if_neg (by omega)]
        · rw [if_neg c2]
/-- combine a shape with itself: what is in one of them alone -/
theorem td_xxW {post : Int32 → St2 → Prop} {K : Nat → Nat} {F : Nat → Nat → Nat} {s k : Nat} {f : Nat → Nat} (h : td_pic K F a1 a2) (hs : s < 12) (ek : K s = k) (ef : F s = f) (hk : k ≠ 0) (hk4 : k < 4) (hc : td_cnt (td_xx f) = 0)
    (H : ∀ b1 b2, td_pic (td_uk K s 0) (td_up F s (td_xx f)) b1 b2 → post (nI 0) (b1, b2, a3, a4, a5, a6)) :
    wpX_combine post (a1, a2, a3, a4, a5, a6) (nI s) (nI s) (nI 3) := by
  subst ek ef
  have es : (nI s).toNatClampNeg = s := nI_clamp (by omega)
  unfold wpX_combine
  refine td_pairB hs hs (h.1 s hs) (h.1 s hs) hk hk hk4 hk4 ⟨pk_in s 12 hs, pk_in s 12 hs, br_t rfl (br_f (by decide) (br_t (by decide) ?_))⟩
  refine pk_loop (σ := Nat → Int32) (fun n i b2 => wX_combine_49 post (nI s) (nI s) (nI 3) n (nI i) a1 b2 a3 a4 a5 a6) (fun i b2 => ∀ t j, t < 12 → j < 17 → b2 (17 * t + j) = nI (td_up F s (fun j => if j < i then td_xx (F s) j else F s j) t j)) 17 0 a2 (by omega) ?_ ?_ ?_
  · exact td_up_self h.2 (fun j hj => by rw [if_neg (by omega)])
  · intro n b2 hb
    have hb' := td_up_eq (g' := td_xx (F s)) hb (fun j hj => by rw [if_pos hj])
    exact pk_le 17 17 (fun _ => td_settle0 hs (td_up_at hs hb') hc (H (upd a1 s (nI 0)) b2 ⟨(td_pic_uk h s 0).1, hb'⟩)) (fun z => absurd z (by omega))
  · intro n i b2 hi hb hw
    refine pk_le 17 i (fun z => absurd z (by omega)) (fun _ => ?_)
    rw [td_ix, nI_clamp (show 17 * s + i < 2 ^ 31 by omega), td_up_at hs hb i hi]
    have hp : vp_in (nI (17 * s + i)) 204 := pk_in (17 * s + i) 204 (by omega)
    refine ⟨hp, nm_e ⟨hp, nm_e (br_f (by decide) (br_f (by decide) (br_f (by decide) ⟨hp, nm_e (nm_r (nI_1 i) (hw _ (td_put (g := fun j => if j < i + 1 then td_xx (F s) j else F s j) hi hb ?_ (fun j hj hne => ?_))))⟩)))⟩⟩
    · rw [td_xor]
      show nI ((if i < i then td_xx (F s) i else F s i) ^^^ (if i < i then td_xx (F s) i else F s i)) = nI (if i < i + 1 then td_xx (F s) i else F s i)
      rw [if_neg (by omega), if_pos (by omega), td_xx]
    · show (if j < i + 1 then td_xx (F s) j else F s j) = if j < i then td_xx (F s) j else F s j
      by_cases c : j < i
      · rw [if_pos c, if_pos (by omega)]
      · rw [if_neg c, if_neg (by omega)]
theorem td_ptW {post : Int32 → St2 → Prop} {K : Nat → Nat} {F : Nat → Nat → Nat} {s i j k : Nat} {f : Nat → Nat} (h : td_pic K F a1 a2) (hs : s < 12) (ek : K s = k) (ef : F s = f) (hk : k ≠ 0) (hk4 : k < 4) (hi : i < 17) (hj : j < 17)
    (H : ∀ b3 b4, post (nI (td_pt k f i j)) (a1, a2, b3, b4, a5, a6)) :
    wpX_part post (a1, a2, a3, a4, a5, a6) (nI s) (nI i) (nI j) := by
  subst ek ef
  unfold wpX_part
  refine td_slotB hs ⟨pk_in s 12 hs, ?_⟩
  rw [nI_clamp (show s < 2 ^ 31 by omega), h.1 s hs]
  refine pk_eq (K s) 0 (fun z => absurd z hk) (fun _ => pk_lt i 0 (fun z => absurd z (by omega)) (fun _ => pk_le 17 i (fun z => absurd z (by omega)) (fun _ => pk_lt j 0 (fun z => absurd z (by omega)) (fun _ => pk_lt j 17 (fun _ => ?_) (fun z => absurd z (by omega))))))
  refine td_lay (w := 0) hs (by omega) hk4 (h.1 s hs) (fun j hj => h.2 s j hs hj) (fun b3 b4 h1 _ => ⟨pk_in j 34 (by omega), ?_⟩)
  have l := h1 j hj
  rw [Nat.mul_zero, Nat.zero_add] at l
  have H' := H b3 b4
  unfold td_pt at H'
  rw [nI_clamp (show j < 2 ^ 31 by omega), l.1, l.2, td_shr _ (by omega), td_shr _ (by omega), td_a1, td_a1]
  refine td_o _ (fun z => ?_) (fun z => ⟨pk_in j 34 (by omega), td_o _ (fun z2 => ?_) (fun z2 => ?_)⟩)
  · rw [if_pos z] at H'
    exact H'
  · rw [if_neg z, if_pos z2] at H'
    exact H'
  · rw [if_neg z, if_neg z2] at H'
    exact H'
theorem td_rmW {post : Int32 → St2 → Prop} {K : Nat → Nat} {F : Nat → Nat → Nat} {s : Nat} {f : Nat → Nat} (h : td_pic K F a1 a2) (hs : s < 12) (ek : K s = 3) (ef : F s = f)
    (H : ∀ b3 b4, post (nI (td_rm f)) (a1, a2, b3, b4, a5, a6)) :
    wpX_rim post (a1, a2, a3, a4, a5, a6) (nI s) := by
  subst ef
  have hk1 := h.1 s hs
  rw [ek] at hk1
  unfold wpX_rim
  refine td_areaB hs hk1 (td_lay (w := 0) (k := 3) hs (by omega) (by omega) hk1 (fun j hj => h.2 s j hs hj) (fun b3 b4 h1 _ => ?_))
  refine pk_loop (σ := Nat) (fun n j c => wX_rim_23 post a1 a2 b3 b4 a5 a6 n (nI c) (nI j)) (fun j c => c = td_fold j (fun j c => c + td_on 17 (td_ol (F s) j)) 0) 17 0 0 (by omega) rfl ?_ ?_
  · intro n c hc
    exact pk_le 17 17 (fun _ => by rw [hc]; exact H b3 b4) (fun z => absurd z (by omega))
  · intro n j c hj hc hw
    have l := h1 j hj
    rw [Nat.mul_zero, Nat.zero_add] at l
    have nx : ∀ x : Nat, x = td_ol (F s) j → wpX_ones (fun r_26 => ∀ x3_27 : Int32, x3_27 = nI c + r_26 → ∀ x4_28 : Int32, x4_28 = nI j + 1 → wX_rim_23 post a1 a2 b3 b4 a5 a6 n x3_27 x4_28) () (nI x) := by
      intro x hx
      refine td_ones (nm_r (nI_add _ _) (nm_r (nI_1 j) (hw _ ?_)))
      rw [hx, hc, td_fold_s]
    refine pk_le 17 j (fun z => absurd z (by omega)) (fun _ => ⟨pk_in j 34 (by omega), by decide, ?_⟩)
    rw [td_r2 (show j < 2 ^ 31 by omega), nI_clamp (show j < 2 ^ 31 by omega), l.2]
    refine pk_eq (j % 2) 0 (fun z => ?_) (fun z => ?_)
    · unfold wX_rim_52
      rw [td_aODD]
      refine nx _ ?_
      unfold td_ol
      rw [if_pos z]
    · unfold wX_rim_52
      rw [td_aEVEN]
      refine nx _ ?_
      unfold td_ol
      rw [if_neg z]
theorem td_nrW {post : Int32 → St2 → Prop} {K : Nat → Nat} {F : Nat → Nat → Nat} {s : Nat} (h : td_pic K F a1 a2) (hs : s < 12) (hk : K s ≠ 0) (hk4 : ∀ t, t < 12 → K t < 4)
    (H : ∀ b3 b4, post (nI (td_nr K F s 12).1) (a1, a2, b3, b4, a5, a6)) :
    wpX_nearest post (a1, a2, a3, a4, a5, a6) (nI s) := by
  have k4s := hk4 s hs
  unfold wpX_nearest
  refine td_slotB hs ⟨pk_in s 12 hs, ?_⟩
  rw [nI_clamp (show s < 2 ^ 31 by omega), h.1 s hs]
  refine pk_eq (K s) 0 (fun z => absurd z hk) (fun _ => ?_)
  refine pk_loop (σ := (Nat × Nat) × (Nat → Int32) × (Nat → Int32)) (fun n o p => wX_nearest_31 post (nI s) n (nI p.1.1) (nI p.1.2) (nI o) a1 a2 p.2.1 p.2.2 a5 a6) (fun o p => p.1 = td_nr K F s o ∧ p.1.2 ≤ 1000) 12 0 ((4294967289, 1000), a3, a4) (by omega) ⟨rfl, Nat.le_refl 1000⟩ ?_ ?_
  · intro n p hp
    refine pk_le 12 12 (fun _ => ?_) (fun z => absurd z (by omega))
    rw [hp.1]
    exact H _ _
  · intro n o p ho hp hw
    obtain ⟨⟨b, l⟩, b3, b4⟩ := p
    obtain ⟨e, hl⟩ := hp
    have e' : (b, l) = td_nr K F s o := e
    have hl' : l ≤ 1000 := hl
    have k4o := hk4 o ho
    have st : td_nr K F s (o + 1) = if o = s then (b, l) else if K o = 0 then (b, l) else if l ≤ td_ap (K s) (F s) (K o) (F o) then (b, l) else (o, td_ap (K s) (F s) (K o) (F o)) := by
      show (if o = s then td_nr K F s o else if K o = 0 then td_nr K F s o else if (td_nr K F s o).2 ≤ td_ap (K s) (F s) (K o) (F o) then td_nr K F s o else (o, td_ap (K s) (F s) (K o) (F o))) = _
      rw [← e']
    have la := td_ap_le (K s) (F s) (K o) (F o)
    show wX_nearest_31 post (nI s) (n + 1) (nI b) (nI l) (nI o) a1 a2 b3 b4 a5 a6
    refine pk_le 12 o (fun z => absurd z (by omega)) (fun _ => pk_eq o s (fun z => nm_r (nI_1 o) (hw ((b, l), b3, b4) ⟨?_, hl'⟩)) (fun z => ⟨pk_in o 12 ho, ?_⟩))
    · show (b, l) = td_nr K F s (o + 1)
      rw [st, if_pos z]
    · rw [nI_clamp (show o < 2 ^ 31 by omega), h.1 o ho]
      refine pk_eq (K o) 0 (fun z2 => nm_r (nI_1 o) (hw ((b, l), b3, b4) ⟨?_, hl'⟩)) (fun z2 => ?_)
      · show (b, l) = td_nr K F s (o + 1)
        rw [st, if_neg z, if_pos z2]
      · refine td_apW h hs ho rfl rfl rfl rfl hk z2 k4s k4o (fun c3 c4 => ?_)
        generalize td_ap (K s) (F s) (K o) (F o) = d at st la ⊢
        refine pk_le l d (fun z3 => nm_r (nI_1 o) (hw ((b, l), c3, c4) ⟨?_, hl'⟩)) (fun z3 => nm_r (nI_1 o) (hw ((o, d), c3, c4) ⟨?_, la⟩))
        · show (b, l) = td_nr K F s (o + 1)
          rw [st, if_neg z, if_neg z2, if_pos z3]
        · show (o, d) = td_nr K F s (o + 1)
          rw [st, if_neg z, if_neg z2, if_neg (by omega)]
theorem td_rchW {post : Int32 → St2 → Prop} {s w lo k : Nat} {f : Nat → Nat} (hs : s < 12) (hk4 : k < 4) (hlo : lo < 17) (ha : a1 s = nI k) (hf : ∀ j, j < 17 → a2 (17 * s + j) = nI (f j))
    (H : ∀ b3 b4, (td_rch k f w lo % 4294967296 = 0 → post 0 (a1, a2, b3, b4, a5, a6)) ∧ (¬ td_rch k f w lo % 4294967296 = 0 → post 1 (a1, a2, b3, b4, a5, a6))) :
    wpX_reaches post (a1, a2, a3, a4, a5, a6) (nI s) (nI w) (nI lo) (nI lo) := by
  unfold wpX_reaches
  refine td_lay (w := 0) hs (by omega) hk4 ha hf (fun b3 b4 h1 _ => ⟨2, ?_⟩)
  have l := h1 lo hlo
  rw [Nat.mul_zero, Nat.zero_add] at l
  have H' := H b3 b4
  refine pk_lt lo lo (fun z => absurd z (by omega)) (fun _ => td_bodyW (by omega) l.1 l.2 ?_)
  rw [td_and]
  refine td_z (td_rch k f w lo) (fun z => nm_r (nI_1 lo) ?_) (fun z => H'.2 z) (by rw [td_rch, td_body])
  exact pk_lt lo (lo + 1) (fun _ => H'.1 z) (fun z2 => absurd z2 (by omega))
/-- the first slot that has a given vertex -/
theorem td_iwW {post : Int32 → St2 → Prop} {K : Nat → Nat} {F : Nat → Nat → Nat} {v : Nat} (h : td_pic K F a1 a2) (hv : v < 81) (hk4 : ∀ t, t < 12 → K t < 4)
    (H : ∀ b3 b4, post (nI (td_iw K F ((1 <<< (2 * (v / 9) + 1)) - (1 <<< (2 * (v / 9)))) (2 * (v % 9)) 12 0)) (a1, a2, b3, b4, a5, a6)) :
    wpX_inWindow post (a1, a2, a3, a4, a5, a6) (nI v) (nI v) (nI 0) := by
  unfold wpX_inWindow
  refine td_vertB hv (td_vertB hv ⟨by decide, by decide, ?_⟩)
  rw [td_r9 (show v < 2 ^ 31 by omega), td_d9 (show v < 2 ^ 31 by omega)]
  refine td_les (by omega) (by omega) ⟨by decide, by decide, td_gre (by omega) (by omega) ?_⟩
  rw [Nat.min_self, Nat.max_self, td_2m]
  refine td_span (by omega) (by omega) ⟨by decide, by decide, td_les (by omega) (by omega) (nm_r (td_2m _) ⟨by decide, by decide, td_gre (by omega) (by omega) (nm_r (td_2m _) ?_)⟩)⟩
  rw [Nat.min_self, Nat.max_self]
  generalize (1 <<< (2 * (v / 9) + 1)) - (1 <<< (2 * (v / 9))) = w at H ⊢
  refine pk_loop (σ := (Nat → Int32) × (Nat → Int32)) (fun n o b => wX_inWindow_92 post (nI 0) (nI w) (nI (2 * (v % 9))) (nI (2 * (v % 9))) n (nI 0) (nI o) a1 a2 b.1 b.2 a5 a6) (fun o _ => ∀ b3 b4, post (nI (td_iw K F w (2 * (v % 9)) (12 - o) o)) (a1, a2, b3, b4, a5, a6)) 12 0 (a3, a4) (by omega) H ?_ ?_
  · intro n b hI
    exact pk_le 12 12 (fun _ => hI b.1 b.2) (fun z => absurd z (by omega))
  · intro n o b ho hI hw
    have hI' : ∀ b3 b4, post (nI (td_iw K F w (2 * (v % 9)) (12 - o) o)) (a1, a2, b3, b4, a5, a6) := hI
    rw [show 12 - o = (11 - o) + 1 by omega, td_iw_s] at hI'
    refine pk_le 12 o (fun z => absurd z (by omega)) (fun _ => ⟨pk_in o 12 ho, ?_⟩)
    have k4 := hk4 o ho
    have nx : (∀ b3 b4, post (nI (td_iw K F w (2 * (v % 9)) (11 - o) (o + 1))) (a1, a2, b3, b4, a5, a6)) → ∀ b3 b4, wX_inWindow_92 post (nI 0) (nI w) (nI (2 * (v % 9))) (nI (2 * (v % 9))) n (nI 0) (nI (o + 1)) a1 a2 b3 b4 a5 a6 := by
      intro hn b3 b4
      refine hw (b3, b4) ?_
      show ∀ b3 b4, post (nI (td_iw K F w (2 * (v % 9)) (12 - (o + 1)) (o + 1))) (a1, a2, b3, b4, a5, a6)
      rw [show 12 - (o + 1) = 11 - o by omega]
      exact hn
    rw [nI_clamp (show o < 2 ^ 31 by omega), h.1 o ho]
    refine pk_eq (K o) 0 (fun z => nm_r (nI_1 o) ?_) (fun z => ?_)
    · rw [if_pos z] at hI'
      exact nx hI' b.1 b.2
    · rw [if_neg z] at hI'
      refine td_rchW (k := K o) (f := F o) ho k4 (by omega) (h.1 o ho) (fun j hj => h.2 o j ho hj) (fun b3 b4 => ⟨fun z2 => br_t rfl (nm_r (nI_1 o) ?_), fun z2 => br_f (by decide) (br_t rfl ?_)⟩)
      · rw [if_pos z2] at hI'
        exact nx hI' b3 b4
      · rw [if_neg z2] at hI'
        exact hI' b3 b4
end
end
section
/-! the shapes of the law, and what the model answers about them (computed in the kernel) -/
def td_zr : Nat → Nat := fun _ => 0
def td_R1 (a : Nat) : Nat → Nat := td_rc td_zr 2 5 (td_cols 2 (9 * a + 5))
def td_R4 (x y : Nat) : Nat → Nat := td_rc td_zr 2 5 (td_cols (9 * x + 2) (9 * y + 5))
def td_L2 (r : Nat) : Nat → Nat := td_ln td_zr (2 * r) (td_cols r (72 + r))
def td_g1 : Nat → Nat := td_rc td_zr 0 8 (td_cols 0 80)
def td_g2 : Nat → Nat := td_ct td_g1 1 7 (td_cols 10 70)
def td_g3 : Nat → Nat := td_rc td_g2 3 5 (td_cols 30 50)
def td_g4 : Nat → Nat := td_gw td_g3
noncomputable def td_g5 : Nat → Nat := td_fl td_g4
def td_P3 : Nat → Nat := td_ln td_zr (2 * (40 % 9)) (1 <<< (2 * (40 / 9)))
def td_K0 : Nat → Nat := fun _ => 0
def td_F0 : Nat → Nat → Nat := fun _ => td_zr
def td_K1 : Nat → Nat := td_uk td_K0 1 3
def td_F1 (a : Nat) : Nat → Nat → Nat := td_up td_F0 1 (td_R1 a)
def td_K2 : Nat → Nat := td_uk td_K1 4 3
def td_F2 (a x y : Nat) : Nat → Nat → Nat := td_up (td_F1 a) 4 (td_R4 x y)
def td_K3 : Nat → Nat := td_uk td_K2 2 2
def td_F3 (a x y r : Nat) : Nat → Nat → Nat := td_up (td_F2 a x y) 2 (td_L2 r)
def td_K4 : Nat → Nat := td_uk td_K3 0 2
def td_F4 (a x y r : Nat) : Nat → Nat → Nat := td_up (td_F3 a x y r) 0 (td_ol (td_R1 a))
def td_K5 : Nat → Nat := td_uk td_K4 5 3
def td_F5 (a x y r : Nat) : Nat → Nat → Nat := td_up (td_F4 a x y r) 5 td_g1
def td_F6 (a x y r : Nat) : Nat → Nat → Nat := td_up (td_F5 a x y r) 5 td_g2
def td_K7 : Nat → Nat := td_uk td_K5 5 3
def td_F7 (a x y r : Nat) : Nat → Nat → Nat := td_up (td_F6 a x y r) 5 td_g3
def td_K8 : Nat → Nat := td_uk td_K7 3 1
def td_F8 (a x y r : Nat) : Nat → Nat → Nat := td_up (td_F7 a x y r) 3 td_P3
def td_F9 (a x y r : Nat) : Nat → Nat → Nat := td_up (td_F8 a x y r) 5 td_g4
noncomputable def td_F10 (a x y r : Nat) : Nat → Nat → Nat := td_up (td_F9 a x y r) 5 td_g5
def td_mid (u : Nat) : Nat := if 2 + u = 3 ∨ 2 + u = 4 then 1 else 0
set_option maxRecDepth 100000 in
theorem td_e1 : ∀ i, i < 4 → ∀ x, x < 6 → ∀ v, v < 2 →
    td_is 1 3 (td_R1 (1 + i)) 3 (td_R4 x (x + (1 + v))) = (if x ≤ 1 + i then 0 else 1)
    ∧ td_is 2 3 (td_R1 (1 + i)) 3 (td_R4 x (x + (1 + v))) = (if x = 1 + i then 1 else 0)
    ∧ td_is 3 3 (td_R4 x (x + (1 + v))) 3 (td_R1 (1 + i)) = (if 1 + i < x + (1 + v) then 0 else 1)
    ∧ td_is 4 3 (td_R1 (1 + i)) 3 (td_R4 x (x + (1 + v))) = (if 1 + i < x + (1 + v) then 0 else 1)
    ∧ td_is 0 3 (td_R1 (1 + i)) 3 (td_R4 x (x + (1 + v))) = (if x = 0 ∧ x + (1 + v) = 1 + i then 1 else 0)
    ∧ td_is 4 3 (td_R4 x (x + (1 + v))) 3 (td_R1 (1 + i)) = (if x = 0 ∧ 1 + i ≤ x + (1 + v) then 1 else 0) := by decide +kernel
set_option maxRecDepth 100000 in
theorem td_e2 : ∀ i, i < 4 → ∀ x, x < 6 → ∀ v, v < 2 →
    td_is 6 3 (td_R1 (1 + i)) 3 (td_R4 x (x + (1 + v))) = (if 1 + i ≤ x then 0 else if 1 + i < x + (1 + v) then (if x = 0 ∧ 1 + i ≤ x + (1 + v) then 0 else 1) else 0)
    ∧ td_is 5 3 (td_R1 (1 + i)) 3 (td_R4 x (x + (1 + v))) = 0
    ∧ td_ap 3 (td_R1 (1 + i)) 3 (td_R4 x (x + (1 + v))) = (if x ≤ 1 + i then 0 else (x - (1 + i)) * (x - (1 + i))) := by decide +kernel
set_option maxRecDepth 100000 in
theorem td_e3 : ∀ i, i < 4 → ∀ x, x < 6 → ∀ v, v < 2 →
    td_sr (td_rel 3 (td_R1 (1 + i)) 3 (td_R4 x (x + (1 + v)))) 16 &&& 3 = (if 1 + i ≤ x then 0 else 3)
    ∧ td_rel 3 (td_R1 (1 + i)) 3 (td_R4 x (x + (1 + v))) &&& 3 = 3
    ∧ (x = 0 ∨ td_sr (td_rel 3 (td_R1 (1 + i)) 3 (td_R4 x (x + (1 + v)))) 12 &&& 3 = 3) := by decide +kernel
set_option maxRecDepth 100000 in
theorem td_e4 : ∀ u, u < 4 → td_cnt (td_L2 (2 + u)) = 8 ∧ td_pt 2 (td_L2 (2 + u)) 0 (2 * (2 + u)) = 1 ∧ td_pt 2 (td_L2 (2 + u)) 16 (2 * (2 + u)) = 1 ∧ td_pt 2 (td_L2 (2 + u)) 4 (2 * (2 + u)) = 0 ∧ td_pcs 2 (td_L2 (2 + u)) = 1 := by decide +kernel
set_option maxRecDepth 100000 in
theorem td_e5 : ∀ i, i < 4 → ∀ u, u < 4 → td_is 5 2 (td_L2 (2 + u)) 3 (td_R1 (1 + i)) = td_mid u ∧ td_is 2 2 (td_L2 (2 + u)) 3 (td_R1 (1 + i)) = 1 - td_mid u ∧ td_is 1 2 (td_L2 (2 + u)) 3 (td_R1 (1 + i)) = 0 := by decide +kernel
set_option maxRecDepth 100000 in
theorem td_e6 : ∀ i, i < 4 → ∀ x, x < 6 → ∀ v, v < 2 → ∀ u, u < 4 → (td_nr td_K3 (td_F3 (1 + i) x (x + (1 + v)) (2 + u)) 2 12).1 = 1 := by decide +kernel
set_option maxRecDepth 100000 in
theorem td_e7 : ∀ i, i < 4 → td_cnt (td_ol (td_R1 (1 + i))) = 2 * (1 + i + 3) ∧ td_is 2 2 (td_ol (td_R1 (1 + i))) 3 (td_R1 (1 + i)) = 1 ∧ td_is 4 3 (td_R1 (1 + i)) 2 (td_ol (td_R1 (1 + i))) = 1 := by decide +kernel
set_option maxRecDepth 100000 in
theorem td_e8 : td_cnt td_g1 = 64 ∧ td_cnt td_g2 = 28 ∧ td_rm td_g2 = 56 ∧ td_cnt td_g3 = 32 ∧ td_cnt td_P3 = 1 ∧ td_is 3 1 td_P3 3 td_g3 = 1 ∧ td_pt 3 td_g3 8 8 = 0 ∧ td_cnt td_g4 = 64 := by decide +kernel
set_option maxRecDepth 100000 in
theorem td_eh2 : td_hs td_g2 = 1 := by decide +kernel
set_option maxRecDepth 100000 in
theorem td_ep2 : td_pcs 3 td_g2 = 1 := by decide +kernel
set_option maxRecDepth 100000 in
theorem td_eh3 : td_hs td_g3 = 1 := by decide +kernel
set_option maxRecDepth 100000 in
theorem td_ep3 : td_pcs 3 td_g3 = 2 := by decide +kernel
set_option maxRecDepth 100000 in
theorem td_eh4 : td_hs td_g4 = 0 := by decide +kernel
set_option maxRecDepth 100000 in
theorem td_ep4 : td_pcs 3 td_g4 = 1 := by decide +kernel
set_option maxRecDepth 100000 in
theorem td_ef4 : td_cnt td_g5 = 64 := by decide +kernel
set_option maxRecDepth 100000 in
theorem td_ex5 : td_cnt (td_xx td_g5) = 0 := by decide +kernel
set_option maxRecDepth 100000 in
theorem td_e9 : ∀ u, u < 4 → td_ap 1 td_P3 2 (td_L2 (2 + u)) = (if 2 + u < 4 then (4 - (2 + u)) * (4 - (2 + u)) else (2 + u - 4) * (2 + u - 4)) := by decide +kernel
theorem td_e9i : ∀ u, u < 4 → (nI (2 + u) - 4) * (nI (2 + u) - 4) = nI (if 2 + u < 4 then (4 - (2 + u)) * (4 - (2 + u)) else (2 + u - 4) * (2 + u - 4)) := by decide +kernel
set_option maxRecDepth 100000 in
theorem td_e10 : ∀ i, i < 4 → ∀ x, x < 6 → ∀ v, v < 2 → ∀ u, u < 4 → td_iw td_K8 (td_F8 (1 + i) x (x + (1 + v)) (2 + u)) ((1 <<< (2 * (0 / 9) + 1)) - (1 <<< (2 * (0 / 9)))) (2 * (0 % 9)) 12 0 = 5 := by decide +kernel
set_option maxRecDepth 100000 in
theorem td_e11 : ∀ i, i < 4 → ∀ x, x < 6 → ∀ v, v < 2 → ∀ u, u < 4 → td_iw td_K8 (td_F8 (1 + i) x (x + (1 + v)) (2 + u)) ((1 <<< (2 * (40 / 9) + 1)) - (1 <<< (2 * (40 / 9)))) (2 * (40 % 9)) 12 0 = (if 1 + i ≤ 3 then (if 2 + u = 4 then 2 else 3) else 0) := by decide +kernel
end
section
/-! the law, from its end backwards -/
section
variable {post : Int32 → St0 → Prop} {mc ms kc ks : Nat} {i x v u : Nat} {x3 z0 z1 : Int32} {a1 a2 a3 a4 a5 a6 : Nat → Int32}
theorem td_v {n m : Nat} {z : Int32} (h : n = m) (hz : z = nI m := by rfl) : nI n = z := by rw [h, hz]
theorem td_k3 : ∀ t, t < 12 → td_K3 t < 4 := by decide
theorem td_k8 : ∀ t, t < 12 → td_K8 t < 4 := by decide
theorem td_L850 {a y r : Nat} (hp : post 1 ()) (h : td_pic td_K8 (td_F8 a x y r) a1 a2) (hz : z1 = z0) : wL_lawOf_850 post mc ms z0 z1 kc ks a1 a2 a3 a4 a5 a6 := by
  refine br_t hz (td_gwW (s := 5) (f := td_g3) h (by omega) rfl rfl (fun b2 b5 h => br_t (td_v td_e8.2.2.2.2.2.2.2) ?_))
  have h9 : td_pic td_K8 (td_F9 a x y r) a1 b2 := h
  refine td_hsW (s := 5) (f := td_g4) h9 (by omega) rfl rfl (fun c3 c4 c5 c6 => br_t (td_v td_eh4) ?_)
  refine td_pcsW (s := 5) (k := 3) (f := td_g4) h9 (by omega) rfl rfl (by decide) (by decide) (fun c3 c4 c5 c6 => br_t (td_v td_ep4) ?_)
  refine td_flW (s := 5) (f := td_g4) h9 (by omega) rfl rfl (fun b2 c3 c4 c5 c6 h => br_t (td_v td_ef4) ?_)
  have h10 : td_pic td_K8 (td_F10 a x y r) a1 b2 := h
  refine td_xxW (s := 5) (k := 3) (f := td_g5) h10 (by omega) rfl rfl (by decide) (by decide) td_ex5 (fun b1 b2 h => br_t rfl ?_)
  exact td_kind (s := 5) (k := 0) (by omega) (h.1 5 (by omega)) (br_t rfl hp)
theorem td_L567b {a y : Nat} (hp : post 1 ()) (hu : u < 4) (e11 : td_iw td_K8 (td_F8 a x y (2 + u)) ((1 <<< (2 * (40 / 9) + 1)) - (1 <<< (2 * (40 / 9)))) (2 * (40 % 9)) 12 0 = (if a ≤ 3 then (if 2 + u = 4 then 2 else 3) else 0)) (ha : a < 5)
    (h : td_pic td_K8 (td_F8 a x y (2 + u)) a1 a2) : wpX_inWindow (fun r_794 w => match w with | (am8261_797, am8262_800, am8263_803, am8264_806, am8265_809, am8266_812) => (((nI a ≤ 3 → (((nI (2 + u) = 4 → (wL_lawOf_850 post mc ms 2 r_794 kc ks am8261_797 am8262_800 am8263_803 am8264_806 am8265_809 am8266_812)) ∧ (¬ nI (2 + u) = 4 → (wL_lawOf_850 post mc ms 3 r_794 kc ks am8261_797 am8262_800 am8263_803 am8264_806 am8265_809 am8266_812))))) ∧ (¬ nI a ≤ 3 → (wL_lawOf_850 post mc ms 0 r_794 kc ks am8261_797 am8262_800 am8263_803 am8264_806 am8265_809 am8266_812))))) (a1, a2, a3, a4, a5, a6) 40 40 0 := by
  refine td_iwW (v := 40) h (by omega) td_k8 (fun b3 b4 => ?_)
  refine pk_le a 3 (fun z => pk_eq (2 + u) 4 (fun z2 => td_L850 hp h (td_v (m := 2) ?_)) (fun z2 => td_L850 hp h (td_v (m := 3) ?_))) (fun z => td_L850 hp h (td_v (m := 0) ?_))
  · rw [e11, if_pos z, if_pos z2]
  · rw [e11, if_pos z, if_neg z2]
  · rw [e11, if_neg (by omega)]
theorem td_L567 (hp : post 1 ()) (hi : i < 4) (hx : x < 6) (hv : v < 2) (hu : u < 4) (h : td_pic td_K3 (td_F3 (1 + i) x (x + (1 + v)) (2 + u)) a1 a2) (hz : z1 = z0) : wL_lawOf_567 post mc ms (nI (1 + i)) (nI (2 + u)) z0 z1 kc ks a1 a2 a3 a4 a5 a6 := by
  have e5 := td_e5 i hi u hu
  have e7 := td_e7 i hi
  refine br_t hz (td_isW (s := 2) (t := 1) (n := 1) (k := 2) (f := td_L2 (2 + u)) (k' := 3) (f' := td_R1 (1 + i)) h (by omega) (by omega) (by omega) rfl rfl rfl rfl (by decide) (by decide) (by decide) (by decide) (fun b3 b4 => br_t (td_v e5.2.2) ?_))
  refine td_nrW (s := 2) h (by omega) (by decide) td_k3 (fun b3 b4 => br_t (td_v (td_e6 i hi x hx v hv u hu)) ?_)
  refine td_olW (s := 1) (t := 0) (f := td_R1 (1 + i)) h (by omega) (by omega) rfl rfl (fun b1 b2 b3 b4 h => br_t (td_v e7.1 (by rw [show nI (1 + i) + 3 = nI (1 + i + 3) from nI_add _ 3, td_2m])) ?_)
  have h4 : td_pic td_K4 (td_F4 (1 + i) x (x + (1 + v)) (2 + u)) b1 b2 := h
  refine td_isW (s := 0) (t := 1) (n := 2) (k := 2) (f := td_ol (td_R1 (1 + i))) (k' := 3) (f' := td_R1 (1 + i)) h4 (by omega) (by omega) (by omega) rfl rfl rfl rfl (by decide) (by decide) (by decide) (by decide) (fun b3 b4 => br_t (td_v e7.2.1) ?_)
  refine td_isW (s := 1) (t := 0) (n := 4) (k := 3) (f := td_R1 (1 + i)) (k' := 2) (f' := td_ol (td_R1 (1 + i))) h4 (by omega) (by omega) (by omega) rfl rfl rfl rfl (by decide) (by decide) (by decide) (by decide) (fun b3 b4 => br_t (td_v e7.2.2) ?_)
  refine td_kind (s := 0) (k := 2) (by omega) (h4.1 0 (by omega)) (br_t rfl ?_)
  refine td_rectW (s := 5) (p := 0) (q := 80) (k := 0) (f := td_zr) (m := 0) (M := 8) (w := td_cols 0 80) h4 (by omega) rfl rfl (Or.inl rfl) (by omega) (by omega) (by decide) (by decide) rfl rfl rfl (fun b1 b2 h => ?_)
  have h5 : td_pic td_K5 (td_F5 (1 + i) x (x + (1 + v)) (2 + u)) b1 b2 := h
  refine td_size (s := 5) (f := td_g1) (by omega) (fun j hj => h5.2 5 j (by omega) hj) (br_t (td_v td_e8.1) ?_)
  refine td_cutW (s := 5) (p := 10) (q := 70) (f := td_g1) (m := 1) (M := 7) (w := td_cols 10 70) h5 (by omega) rfl rfl (by omega) (by omega) (by decide) (by decide) rfl rfl rfl (by rw [show td_cnt (td_ct td_g1 1 7 (td_cols 10 70)) = 28 from td_e8.2.1]; decide) (fun b2 h => br_t (td_v td_e8.2.1) ?_)
  have h6 : td_pic td_K5 (td_F6 (1 + i) x (x + (1 + v)) (2 + u)) b1 b2 := h
  refine td_hsW (s := 5) (f := td_g2) h6 (by omega) rfl rfl (fun c3 c4 c5 c6 => br_t (td_v td_eh2) ?_)
  refine td_pcsW (s := 5) (k := 3) (f := td_g2) h6 (by omega) rfl rfl (by decide) (by decide) (fun c3 c4 c5 c6 => br_t (td_v td_ep2) ?_)
  refine td_rmW (s := 5) (f := td_g2) h6 (by omega) rfl rfl (fun c3 c4 => br_t (td_v td_e8.2.2.1) ?_)
  refine td_rectW (s := 5) (p := 30) (q := 50) (k := 3) (f := td_g2) (m := 3) (M := 5) (w := td_cols 30 50) h6 (by omega) rfl rfl (Or.inr rfl) (by omega) (by omega) (by decide) (by decide) rfl rfl rfl (fun b1 b2 h => br_t (td_v td_e8.2.2.2.1) ?_)
  have h7 : td_pic td_K7 (td_F7 (1 + i) x (x + (1 + v)) (2 + u)) b1 b2 := h
  refine td_pcsW (s := 5) (k := 3) (f := td_g3) h7 (by omega) rfl rfl (by decide) (by decide) (fun c3 c4 c5 c6 => br_t (td_v td_ep3) ?_)
  refine td_hsW (s := 5) (f := td_g3) h7 (by omega) rfl rfl (fun c3 c4 c5 c6 => br_t (td_v td_eh3) ?_)
  refine td_pointW (s := 3) (p := 40) (k := 0) (f := td_zr) h7 (by omega) rfl rfl (Or.inl rfl) (by omega) (fun b1 b2 h => br_t (td_v td_e8.2.2.2.2.1) ?_)
  have h8 : td_pic td_K8 (td_F8 (1 + i) x (x + (1 + v)) (2 + u)) b1 b2 := h
  refine td_isW (s := 3) (t := 5) (n := 3) (k := 1) (f := td_P3) (k' := 3) (f' := td_g3) h8 (by omega) (by omega) (by omega) rfl rfl rfl rfl (by decide) (by decide) (by decide) (by decide) (fun b3 b4 => br_t (td_v td_e8.2.2.2.2.2.1) ?_)
  refine td_ptW (s := 5) (i := 8) (j := 8) (k := 3) (f := td_g3) h8 (by omega) rfl rfl (by decide) (by decide) (by omega) (by omega) (fun b3 b4 => br_t (td_v td_e8.2.2.2.2.2.2.1) ?_)
  refine td_apW (s := 3) (t := 2) (k := 1) (f := td_P3) (k' := 2) (f' := td_L2 (2 + u)) h8 (by omega) (by omega) rfl rfl rfl rfl (by decide) (by decide) (by decide) (by decide) (fun b3 b4 => br_t (td_v (td_e9 u hu) (td_e9i u hu)) ?_)
  refine td_iwW (v := 0) h8 (by omega) td_k8 (fun b3 b4 => br_t (td_v (td_e10 i hi x hx v hv u hu)) ?_)
  exact td_L567b hp hu (td_e11 i hi x hx v hv u hu) (by omega) h8
theorem td_L546 {m : Nat} (hm : m = td_mid u) (hp : post 1 ()) (hi : i < 4) (hx : x < 6) (hv : v < 2) (hu : u < 4) (h : td_pic td_K3 (td_F3 (1 + i) x (x + (1 + v)) (2 + u)) a1 a2) (hz : z1 = z0) : wL_lawOf_546 post mc ms (nI (1 + i)) (nI (2 + u)) (nI m) z0 z1 kc ks a1 a2 a3 a4 a5 a6 := by
  have e5 := td_e5 i hi u hu
  have m1 : m ≤ 1 := by
    rw [hm]
    unfold td_mid
    split <;> omega
  refine br_t hz (td_isW (s := 2) (t := 1) (n := 2) (k := 2) (f := td_L2 (2 + u)) (k' := 3) (f' := td_R1 (1 + i)) h (by omega) (by omega) (by omega) rfl rfl rfl rfl (by decide) (by decide) (by decide) (by decide) (fun b3 b4 => ?_))
  exact pk_eq m 0 (fun z => td_L567 hp hi hx hv hu h (td_v (m := 1) (by omega))) (fun z => td_L567 hp hi hx hv hu h (td_v (m := 0) (by omega)))
theorem td_L526 {m : Nat} (hm : m = td_mid u) (hp : post 1 ()) (hi : i < 4) (hx : x < 6) (hv : v < 2) (hu : u < 4) (h : td_pic td_K3 (td_F3 (1 + i) x (x + (1 + v)) (2 + u)) a1 a2) : wL_lawOf_526 post mc ms (nI (1 + i)) (nI (2 + u)) (nI m) kc ks a1 a2 a3 a4 a5 a6 := by
  have e5 := td_e5 i hi u hu
  have m1 : m ≤ 1 := by
    rw [hm]
    unfold td_mid
    split <;> omega
  refine td_isW (s := 2) (t := 1) (n := 5) (k := 2) (f := td_L2 (2 + u)) (k' := 3) (f' := td_R1 (1 + i)) h (by omega) (by omega) (by omega) rfl rfl rfl rfl (by decide) (by decide) (by decide) (by decide) (fun b3 b4 => ?_)
  exact pk_eq m 0 (fun z => td_L546 hm hp hi hx hv hu h (td_v (m := 0) (by omega))) (fun z => td_L546 hm hp hi hx hv hu h (td_v (m := 1) (by omega)))
theorem td_L427 (hp : post 1 ()) (hi : i < 4) (hx : x < 6) (hv : v < 2) (h : td_pic td_K2 (td_F2 (1 + i) x (x + (1 + v))) a1 a2) : wL_lawOf_427 post mc ms x3 (nI (1 + i)) kc ks a1 a2 a3 a4 a5 a6 := by
  obtain ⟨u, hu, e3⟩ := pk_andE x3 2 (m := 3) (by decide)
  have hu : u < 4 := hu
  have e4 := td_e4 u hu
  refine nm_r (e' := nI (2 + u)) (by rw [e3]; exact nI_add 2 u) ?_
  rw [show (72 : Int32) + nI (2 + u) = nI (72 + (2 + u)) from nI_add 72 _, td_2m]
  refine td_lineW (s := 2) (p := 2 + u) (q := 72 + (2 + u)) (k := 0) (f := td_zr) (y := 2 + u) (w := td_cols (2 + u) (72 + (2 + u))) h (by omega) rfl rfl (Or.inl rfl) (by omega) (by omega) (by omega) (by omega) (by omega) rfl (fun b1 b2 h => br_t (td_v e4.1) ?_)
  have h3 : td_pic td_K3 (td_F3 (1 + i) x (x + (1 + v)) (2 + u)) b1 b2 := h
  refine td_ptW (s := 2) (i := 0) (j := 2 * (2 + u)) (k := 2) (f := td_L2 (2 + u)) h3 (by omega) rfl rfl (by decide) (by decide) (by omega) (by omega) (fun b3 b4 => br_t (td_v e4.2.1) ?_)
  refine td_ptW (s := 2) (i := 16) (j := 2 * (2 + u)) (k := 2) (f := td_L2 (2 + u)) h3 (by omega) rfl rfl (by decide) (by decide) (by omega) (by omega) (fun b3 b4 => br_t (td_v e4.2.2.1) ?_)
  refine td_ptW (s := 2) (i := 4) (j := 2 * (2 + u)) (k := 2) (f := td_L2 (2 + u)) h3 (by omega) rfl rfl (by decide) (by decide) (by omega) (by omega) (fun b3 b4 => br_t (td_v e4.2.2.2.1) ?_)
  refine td_pcsW (s := 2) (k := 2) (f := td_L2 (2 + u)) h3 (by omega) rfl rfl (by decide) (by decide) (fun c3 c4 c5 c6 => br_t (td_v e4.2.2.2.2) ?_)
  refine pk_eq (2 + u) 3 (fun z => ?_) (fun z => pk_eq (2 + u) 4 (fun z2 => ?_) (fun z2 => ?_))
  · exact td_L526 (m := 1) (by unfold td_mid; rw [if_pos (Or.inl z)]) hp hi hx hv hu h3
  · exact td_L526 (m := 1) (by unfold td_mid; rw [if_pos (Or.inr z2)]) hp hi hx hv hu h3
  · exact td_L526 (m := 0) (by unfold td_mid; rw [if_neg (by omega)]) hp hi hx hv hu h3
theorem td_L398 (hp : post 1 ()) (hi : i < 4) (hx : x < 6) (hv : v < 2) (h : td_pic td_K2 (td_F2 (1 + i) x (x + (1 + v))) a1 a2) (hz : z1 = z0) : wL_lawOf_398 post mc ms x3 (nI (1 + i)) (nI x) (nI (td_rel 3 (td_R1 (1 + i)) 3 (td_R4 x (x + (1 + v))))) z0 z1 kc ks a1 a2 a3 a4 a5 a6 := by
  have e := td_e3 i hi x hx v hv
  refine br_t hz (br_t ?_ (pk_le x 0 (fun _ => td_L427 hp hi hx hv h) (fun z => br_t ?_ (td_L427 hp hi hx hv h))))
  · rw [show (3 : Int32) = nI 3 from rfl, td_and, e.2.1]
  · rcases e.2.2 with e0 | e1
    · omega
    · rw [show ((12 : Int32) &&& 31) = nI 12 &&& 31 from rfl, td_shr _ (by omega), show (3 : Int32) = nI 3 from rfl, td_and, e1]
theorem td_L367 {g11 : Nat} (e11 : g11 = if 1 + i ≤ x then 0 else 1) (hp : post 1 ()) (hi : i < 4) (hx : x < 6) (hv : v < 2) (h : td_pic td_K2 (td_F2 (1 + i) x (x + (1 + v))) a1 a2) (hz : z1 = z0) : wL_lawOf_367 post mc ms x3 (nI (1 + i)) (nI x) (nI g11) z0 z1 kc ks a1 a2 a3 a4 a5 a6 := by
  have e := (td_e3 i hi x hx v hv).1
  have m1 : g11 ≤ 1 := by
    rw [e11]
    split <;> omega
  refine br_t hz (td_relW (s := 1) (t := 4) (k := 3) (f := td_R1 (1 + i)) (k' := 3) (f' := td_R4 x (x + (1 + v))) h (by omega) (by omega) rfl rfl rfl rfl (by decide) (by decide) (by decide) (by decide) (fun b3 b4 => ?_))
  refine pk_eq g11 0 (fun z => td_L398 hp hi hx hv h ?_) (fun z => td_L398 hp hi hx hv h ?_)
  · rw [show ((16 : Int32) &&& 31) = nI 16 &&& 31 from rfl, td_shr _ (by omega), show (3 : Int32) = nI 3 from rfl, td_and, e, if_pos]
    · rfl
    · by_cases c : 1 + i ≤ x
      · exact c
      · rw [if_neg c] at e11
        omega
  · rw [show ((16 : Int32) &&& 31) = nI 16 &&& 31 from rfl, td_shr _ (by omega), show (3 : Int32) = nI 3 from rfl, td_and, e, if_neg]
    intro c
    rw [if_pos c] at e11
    omega
theorem td_L326 {g9 g11 : Nat} (e9 : g9 = if x ≤ 1 + i then 0 else 1) (e11 : g11 = if 1 + i ≤ x then 0 else 1) (hp : post 1 ()) (hi : i < 4) (hx : x < 6) (hv : v < 2) (h : td_pic td_K2 (td_F2 (1 + i) x (x + (1 + v))) a1 a2) (hz : z1 = z0) : wL_lawOf_326 post mc ms x3 (nI (1 + i)) (nI x) (nI g9) (nI g11) z0 z1 kc ks a1 a2 a3 a4 a5 a6 := by
  have e := td_e2 i hi x hx v hv
  have m1 : g9 ≤ 1 := by
    rw [e9]
    split <;> omega
  refine br_t hz (td_isW (s := 1) (t := 4) (n := 5) (k := 3) (f := td_R1 (1 + i)) (k' := 3) (f' := td_R4 x (x + (1 + v))) h (by omega) (by omega) (by omega) rfl rfl rfl rfl (by decide) (by decide) (by decide) (by decide) (fun b3 b4 => br_t (td_v e.2.1) ?_))
  refine td_apW (s := 1) (t := 4) (k := 3) (f := td_R1 (1 + i)) (k' := 3) (f' := td_R4 x (x + (1 + v))) h (by omega) (by omega) rfl rfl rfl rfl (by decide) (by decide) (by decide) (by decide) (fun b3 b4 => ?_)
  refine pk_eq g9 0 (fun z => td_L367 e11 hp hi hx hv h (td_v (m := 0) ?_)) (fun z => td_L367 e11 hp hi hx hv h (td_v (m := (x - (1 + i)) * (x - (1 + i))) ?_ ?_))
  · rw [e.2.2, if_pos]
    by_cases c : x ≤ 1 + i
    · exact c
    · rw [if_neg c] at e9
      omega
  · rw [e.2.2, if_neg]
    intro c
    rw [if_pos c] at e9
    omega
  · have c : 1 + i ≤ x := by
      by_cases c : x ≤ 1 + i
      · rw [if_pos c] at e9
        omega
      · omega
    rw [pk_sub c, pk_mul]
theorem td_L294 {g9 g11 g12 g14 : Nat} (e9 : g9 = if x ≤ 1 + i then 0 else 1) (e11 : g11 = if 1 + i ≤ x then 0 else 1) (e12 : g12 = if 1 + i < x + (1 + v) then 0 else 1) (e14 : g14 = if x = 0 ∧ 1 + i ≤ x + (1 + v) then 1 else 0) (hp : post 1 ()) (hi : i < 4) (hx : x < 6) (hv : v < 2) (h : td_pic td_K2 (td_F2 (1 + i) x (x + (1 + v))) a1 a2) (hz : z1 = z0) : wL_lawOf_294 post mc ms x3 (nI (1 + i)) (nI x) (nI g9) (nI g11) (nI g12) (nI g14) z0 z1 kc ks a1 a2 a3 a4 a5 a6 := by
  have e := (td_e2 i hi x hx v hv).1
  have m1 : g11 ≤ 1 := by
    rw [e11]
    split <;> omega
  have m2 : g12 ≤ 1 := by
    rw [e12]
    split <;> omega
  have m4 : g14 ≤ 1 := by
    rw [e14]
    split <;> omega
  have ee : td_is 6 3 (td_R1 (1 + i)) 3 (td_R4 x (x + (1 + v))) = if g11 = 0 then 0 else if g12 = 0 then (if g14 = 0 then 1 else 0) else 0 := by
    rw [e, e11, e12, e14]
    by_cases c1 : 1 + i ≤ x
    · rw [if_pos c1, if_pos c1, if_pos rfl]
    · rw [if_neg c1, if_neg c1, if_neg (show ¬ (1 : Nat) = 0 by decide)]
      by_cases c2 : 1 + i < x + (1 + v)
      · rw [if_pos c2, if_pos c2, if_pos (show (0 : Nat) = 0 from rfl)]
        by_cases c3 : x = 0 ∧ 1 + i ≤ x + (1 + v)
        · rw [if_pos c3, if_pos c3, if_neg (show ¬ (1 : Nat) = 0 by decide)]
        · rw [if_neg c3, if_neg c3, if_pos (show (0 : Nat) = 0 from rfl)]
      · rw [if_neg c2, if_neg c2, if_neg (show ¬ (1 : Nat) = 0 by decide)]
  refine br_t hz (td_isW (s := 1) (t := 4) (n := 6) (k := 3) (f := td_R1 (1 + i)) (k' := 3) (f' := td_R4 x (x + (1 + v))) h (by omega) (by omega) (by omega) rfl rfl rfl rfl (by decide) (by decide) (by decide) (by decide) (fun b3 b4 => ?_))
  refine pk_eq g11 0 (fun z => td_L326 e9 e11 hp hi hx hv h (td_v (m := 0) ?_)) (fun z => pk_eq g12 0 (fun z2 => pk_eq g14 0 (fun z3 => td_L326 e9 e11 hp hi hx hv h (td_v (m := 1) ?_)) (fun z3 => td_L326 e9 e11 hp hi hx hv h (td_v (m := 0) ?_))) (fun z2 => td_L326 e9 e11 hp hi hx hv h (td_v (m := 0) ?_)))
  · rw [ee, if_pos z]
  · rw [ee, if_neg z, if_pos z2, if_pos z3]
  · rw [ee, if_neg z, if_pos z2, if_neg z3]
  · rw [ee, if_neg z, if_neg z2]
theorem td_L271 {g9 g11 g12 g14 : Nat} (e9 : g9 = if x ≤ 1 + i then 0 else 1) (e11 : g11 = if 1 + i ≤ x then 0 else 1) (e12 : g12 = if 1 + i < x + (1 + v) then 0 else 1) (e14 : g14 = if x = 0 ∧ 1 + i ≤ x + (1 + v) then 1 else 0) (hp : post 1 ()) (hi : i < 4) (hx : x < 6) (hv : v < 2) (h : td_pic td_K2 (td_F2 (1 + i) x (x + (1 + v))) a1 a2) (hz : z1 = z0) : wL_lawOf_271 post mc ms x3 (nI (1 + i)) (nI x) (nI g9) (nI g11) (nI g12) (nI g14) z0 z1 kc ks a1 a2 a3 a4 a5 a6 := by
  have e := (td_e1 i hi x hx v hv).2.2.2.2.2
  rw [← e14] at e
  have m : g14 ≤ 1 := by
    rw [e14]
    split <;> omega
  refine br_t hz (td_isW (s := 4) (t := 1) (n := 4) (k := 3) (f := td_R4 x (x + (1 + v))) (k' := 3) (f' := td_R1 (1 + i)) h (by omega) (by omega) (by omega) rfl rfl rfl rfl (by decide) (by decide) (by decide) (by decide) (fun b3 b4 => ?_))
  exact pk_eq g14 0 (fun z => td_L294 e9 e11 e12 e14 hp hi hx hv h (td_v (m := 0) (by omega))) (fun z => td_L294 e9 e11 e12 e14 hp hi hx hv h (td_v (m := 1) (by omega)))
theorem td_L250 {g9 g11 g12 g13 g14 : Nat} (e9 : g9 = if x ≤ 1 + i then 0 else 1) (e11 : g11 = if 1 + i ≤ x then 0 else 1) (e12 : g12 = if 1 + i < x + (1 + v) then 0 else 1) (e13 : g13 = if x = 0 ∧ x + (1 + v) = 1 + i then 1 else 0) (e14 : g14 = if x = 0 ∧ 1 + i ≤ x + (1 + v) then 1 else 0) (hp : post 1 ()) (hi : i < 4) (hx : x < 6) (hv : v < 2) (h : td_pic td_K2 (td_F2 (1 + i) x (x + (1 + v))) a1 a2) (hz : z1 = z0) : wL_lawOf_250 post mc ms x3 (nI (1 + i)) (nI x) (nI g9) (nI g11) (nI g12) (nI g13) (nI g14) z0 z1 kc ks a1 a2 a3 a4 a5 a6 := by
  have e := (td_e1 i hi x hx v hv).2.2.2.2.1
  rw [← e13] at e
  have m : g13 ≤ 1 := by
    rw [e13]
    split <;> omega
  refine br_t hz (td_isW (s := 1) (t := 4) (n := 0) (k := 3) (f := td_R1 (1 + i)) (k' := 3) (f' := td_R4 x (x + (1 + v))) h (by omega) (by omega) (by omega) rfl rfl rfl rfl (by decide) (by decide) (by decide) (by decide) (fun b3 b4 => ?_))
  exact pk_eq g13 0 (fun z => td_L271 e9 e11 e12 e14 hp hi hx hv h (td_v (m := 0) (by omega))) (fun z => td_L271 e9 e11 e12 e14 hp hi hx hv h (td_v (m := 1) (by omega)))
theorem td_L229 {g9 g11 g12 g13 g14 : Nat} (e9 : g9 = if x ≤ 1 + i then 0 else 1) (e11 : g11 = if 1 + i ≤ x then 0 else 1) (e12 : g12 = if 1 + i < x + (1 + v) then 0 else 1) (e13 : g13 = if x = 0 ∧ x + (1 + v) = 1 + i then 1 else 0) (e14 : g14 = if x = 0 ∧ 1 + i ≤ x + (1 + v) then 1 else 0) (hp : post 1 ()) (hi : i < 4) (hx : x < 6) (hv : v < 2) (h : td_pic td_K2 (td_F2 (1 + i) x (x + (1 + v))) a1 a2) (hz : z1 = z0) : wL_lawOf_229 post mc ms x3 (nI (1 + i)) (nI x) (nI g9) (nI g11) (nI g12) (nI g13) (nI g14) z0 z1 kc ks a1 a2 a3 a4 a5 a6 := by
  have e := (td_e1 i hi x hx v hv).2.2.2.1
  rw [← e12] at e
  have m : g12 ≤ 1 := by
    rw [e12]
    split <;> omega
  refine br_t hz (td_isW (s := 1) (t := 4) (n := 4) (k := 3) (f := td_R1 (1 + i)) (k' := 3) (f' := td_R4 x (x + (1 + v))) h (by omega) (by omega) (by omega) rfl rfl rfl rfl (by decide) (by decide) (by decide) (by decide) (fun b3 b4 => ?_))
  exact pk_eq g12 0 (fun z => td_L250 e9 e11 e12 e13 e14 hp hi hx hv h (td_v (m := 0) (by omega))) (fun z => td_L250 e9 e11 e12 e13 e14 hp hi hx hv h (td_v (m := 1) (by omega)))
theorem td_L208 {g9 g11 g12 g13 g14 : Nat} (e9 : g9 = if x ≤ 1 + i then 0 else 1) (e11 : g11 = if 1 + i ≤ x then 0 else 1) (e12 : g12 = if 1 + i < x + (1 + v) then 0 else 1) (e13 : g13 = if x = 0 ∧ x + (1 + v) = 1 + i then 1 else 0) (e14 : g14 = if x = 0 ∧ 1 + i ≤ x + (1 + v) then 1 else 0) (hp : post 1 ()) (hi : i < 4) (hx : x < 6) (hv : v < 2) (h : td_pic td_K2 (td_F2 (1 + i) x (x + (1 + v))) a1 a2) (hz : z1 = z0) : wL_lawOf_208 post mc ms x3 (nI (1 + i)) (nI x) (nI g9) (nI g11) (nI g12) (nI g13) (nI g14) z0 z1 kc ks a1 a2 a3 a4 a5 a6 := by
  have e := (td_e1 i hi x hx v hv).2.2.1
  rw [← e12] at e
  have m : g12 ≤ 1 := by
    rw [e12]
    split <;> omega
  refine br_t hz (td_isW (s := 4) (t := 1) (n := 3) (k := 3) (f := td_R4 x (x + (1 + v))) (k' := 3) (f' := td_R1 (1 + i)) h (by omega) (by omega) (by omega) rfl rfl rfl rfl (by decide) (by decide) (by decide) (by decide) (fun b3 b4 => ?_))
  exact pk_eq g12 0 (fun z => td_L229 e9 e11 e12 e13 e14 hp hi hx hv h (td_v (m := 0) (by omega))) (fun z => td_L229 e9 e11 e12 e13 e14 hp hi hx hv h (td_v (m := 1) (by omega)))
theorem td_L187 {g9 g10 g11 g12 g13 g14 : Nat} (e9 : g9 = if x ≤ 1 + i then 0 else 1) (e10 : g10 = if x = 1 + i then 1 else 0) (e11 : g11 = if 1 + i ≤ x then 0 else 1) (e12 : g12 = if 1 + i < x + (1 + v) then 0 else 1) (e13 : g13 = if x = 0 ∧ x + (1 + v) = 1 + i then 1 else 0) (e14 : g14 = if x = 0 ∧ 1 + i ≤ x + (1 + v) then 1 else 0) (hp : post 1 ()) (hi : i < 4) (hx : x < 6) (hv : v < 2) (h : td_pic td_K2 (td_F2 (1 + i) x (x + (1 + v))) a1 a2) (hz : z1 = z0) : wL_lawOf_187 post mc ms x3 (nI (1 + i)) (nI x) (nI g9) (nI g10) (nI g11) (nI g12) (nI g13) (nI g14) z0 z1 kc ks a1 a2 a3 a4 a5 a6 := by
  have e := (td_e1 i hi x hx v hv).2.1
  rw [← e10] at e
  have m : g10 ≤ 1 := by
    rw [e10]
    split <;> omega
  refine br_t hz (td_isW (s := 1) (t := 4) (n := 2) (k := 3) (f := td_R1 (1 + i)) (k' := 3) (f' := td_R4 x (x + (1 + v))) h (by omega) (by omega) (by omega) rfl rfl rfl rfl (by decide) (by decide) (by decide) (by decide) (fun b3 b4 => ?_))
  exact pk_eq g10 0 (fun z => td_L208 e9 e11 e12 e13 e14 hp hi hx hv h (td_v (m := 0) (by omega))) (fun z => td_L208 e9 e11 e12 e13 e14 hp hi hx hv h (td_v (m := 1) (by omega)))
theorem td_L167 {g9 g10 g11 g12 g13 g14 : Nat} (e9 : g9 = if x ≤ 1 + i then 0 else 1) (e10 : g10 = if x = 1 + i then 1 else 0) (e11 : g11 = if 1 + i ≤ x then 0 else 1) (e12 : g12 = if 1 + i < x + (1 + v) then 0 else 1) (e13 : g13 = if x = 0 ∧ x + (1 + v) = 1 + i then 1 else 0) (e14 : g14 = if x = 0 ∧ 1 + i ≤ x + (1 + v) then 1 else 0) (hp : post 1 ()) (hi : i < 4) (hx : x < 6) (hv : v < 2) (h : td_pic td_K2 (td_F2 (1 + i) x (x + (1 + v))) a1 a2) : wL_lawOf_167 post mc ms x3 (nI (1 + i)) (nI x) (nI g9) (nI g10) (nI g11) (nI g12) (nI g13) (nI g14) kc ks a1 a2 a3 a4 a5 a6 := by
  have e := (td_e1 i hi x hx v hv).1
  rw [← e9] at e
  have m : g9 ≤ 1 := by
    rw [e9]
    split <;> omega
  refine td_isW (s := 1) (t := 4) (n := 1) (k := 3) (f := td_R1 (1 + i)) (k' := 3) (f' := td_R4 x (x + (1 + v))) h (by omega) (by omega) (by omega) rfl rfl rfl rfl (by decide) (by decide) (by decide) (by decide) (fun b3 b4 => ?_)
  exact pk_eq g9 0 (fun z => td_L187 e9 e10 e11 e12 e13 e14 hp hi hx hv h (td_v (m := 0) (by omega))) (fun z => td_L187 e9 e10 e11 e12 e13 e14 hp hi hx hv h (td_v (m := 1) (by omega)))
theorem td_L148 {g9 g10 g11 g12 g13 : Nat} (e9 : g9 = if x ≤ 1 + i then 0 else 1) (e10 : g10 = if x = 1 + i then 1 else 0) (e11 : g11 = if 1 + i ≤ x then 0 else 1) (e12 : g12 = if 1 + i < x + (1 + v) then 0 else 1) (e13 : g13 = if x = 0 ∧ x + (1 + v) = 1 + i then 1 else 0) (hp : post 1 ()) (hi : i < 4) (hx : x < 6) (hv : v < 2) (h : td_pic td_K2 (td_F2 (1 + i) x (x + (1 + v))) a1 a2) : wL_lawOf_148 post mc ms x3 (nI (1 + i)) (nI x) (nI (x + (1 + v))) (nI g9) (nI g10) (nI g11) (nI g12) (nI g13) kc ks a1 a2 a3 a4 a5 a6 := by
  refine pk_eq x 0 (fun z => pk_lt (x + (1 + v)) (1 + i) (fun z2 => td_L167 (g14 := 0) e9 e10 e11 e12 e13 ?_ hp hi hx hv h) (fun z2 => td_L167 (g14 := 1) e9 e10 e11 e12 e13 ?_ hp hi hx hv h)) (fun z => td_L167 (g14 := 0) e9 e10 e11 e12 e13 ?_ hp hi hx hv h)
  · rw [if_neg (by omega)]
  · rw [if_pos (by omega)]
  · rw [if_neg (by omega)]
theorem td_L129 {g9 g10 g11 g12 : Nat} (e9 : g9 = if x ≤ 1 + i then 0 else 1) (e10 : g10 = if x = 1 + i then 1 else 0) (e11 : g11 = if 1 + i ≤ x then 0 else 1) (e12 : g12 = if 1 + i < x + (1 + v) then 0 else 1) (hp : post 1 ()) (hi : i < 4) (hx : x < 6) (hv : v < 2) (h : td_pic td_K2 (td_F2 (1 + i) x (x + (1 + v))) a1 a2) : wL_lawOf_129 post mc ms x3 (nI (1 + i)) (nI x) (nI (x + (1 + v))) (nI g9) (nI g10) (nI g11) (nI g12) kc ks a1 a2 a3 a4 a5 a6 := by
  refine pk_eq x 0 (fun z => pk_eq (x + (1 + v)) (1 + i) (fun z2 => td_L148 (g13 := 1) e9 e10 e11 e12 ?_ hp hi hx hv h) (fun z2 => td_L148 (g13 := 0) e9 e10 e11 e12 ?_ hp hi hx hv h)) (fun z => td_L148 (g13 := 0) e9 e10 e11 e12 ?_ hp hi hx hv h)
  · rw [if_pos ⟨z, z2⟩]
  · rw [if_neg (fun t => z2 t.2)]
  · rw [if_neg (fun t => z t.1)]
theorem td_L115 {g9 g10 g11 : Nat} (e9 : g9 = if x ≤ 1 + i then 0 else 1) (e10 : g10 = if x = 1 + i then 1 else 0) (e11 : g11 = if 1 + i ≤ x then 0 else 1) (hp : post 1 ()) (hi : i < 4) (hx : x < 6) (hv : v < 2) (h : td_pic td_K2 (td_F2 (1 + i) x (x + (1 + v))) a1 a2) : wL_lawOf_115 post mc ms x3 (nI (1 + i)) (nI x) (nI (x + (1 + v))) (nI g9) (nI g10) (nI g11) kc ks a1 a2 a3 a4 a5 a6 := by
  refine pk_lt (1 + i) (x + (1 + v)) (fun z => td_L129 (g12 := 0) e9 e10 e11 ?_ hp hi hx hv h) (fun z => td_L129 (g12 := 1) e9 e10 e11 ?_ hp hi hx hv h)
  · rw [if_pos z]
  · rw [if_neg (by omega)]
theorem td_L101 {g9 g10 : Nat} (e9 : g9 = if x ≤ 1 + i then 0 else 1) (e10 : g10 = if x = 1 + i then 1 else 0) (hp : post 1 ()) (hi : i < 4) (hx : x < 6) (hv : v < 2) (h : td_pic td_K2 (td_F2 (1 + i) x (x + (1 + v))) a1 a2) : wL_lawOf_101 post mc ms x3 (nI (1 + i)) (nI x) (nI (x + (1 + v))) (nI g9) (nI g10) kc ks a1 a2 a3 a4 a5 a6 := by
  refine pk_le (1 + i) x (fun z => td_L115 (g11 := 0) e9 e10 ?_ hp hi hx hv h) (fun z => td_L115 (g11 := 1) e9 e10 ?_ hp hi hx hv h)
  · rw [if_pos z]
  · rw [if_neg (by omega)]
theorem td_L87 {g9 : Nat} (e9 : g9 = if x ≤ 1 + i then 0 else 1) (hp : post 1 ()) (hi : i < 4) (hx : x < 6) (hv : v < 2) (h : td_pic td_K2 (td_F2 (1 + i) x (x + (1 + v))) a1 a2) : wL_lawOf_87 post mc ms x3 (nI (1 + i)) (nI x) (nI (x + (1 + v))) (nI g9) kc ks a1 a2 a3 a4 a5 a6 := by
  refine pk_eq x (1 + i) (fun z => td_L101 (g10 := 1) e9 ?_ hp hi hx hv h) (fun z => td_L101 (g10 := 0) e9 ?_ hp hi hx hv h)
  · rw [if_pos z]
  · rw [if_neg z]
theorem td_pic0 : td_pic td_K0 td_F0 (upd (fun _ => 0) 0 0) (fun _ => 0) := by
  refine ⟨fun s _ => ?_, fun s j _ _ => rfl⟩
  by_cases e : s = 0
  · rw [e, pk_us]
    rfl
  · rw [pk_un e]
    rfl
theorem td_lawOf {p0 p1 p2 p3 : Int32} (hp : post 1 ()) : wpL_lawOf post 7 324 () p0 p1 p2 p3 := by
  obtain ⟨i, hi, e0⟩ := pk_andE p0 2 (m := 3) (by decide)
  obtain ⟨v, hv, e1⟩ := pk_andE p1 1 (m := 1) (by decide)
  obtain ⟨b, hb, e2⟩ := pk_andE p2 3 (m := 7) (by decide)
  have hi : i < 4 := hi
  have hv : v < 2 := hv
  have hb : b < 8 := hb
  have hx : b % 6 < 6 := Nat.mod_lt _ (by decide)
  refine ⟨by omega, by omega, 6, 318, by omega, by omega, ?_⟩
  refine ⟨by omega, by omega, by omega, by omega, by omega, by omega, by omega, by omega, by omega, by omega, by omega, by omega, nm_e ?_⟩
  refine nm_r (e' := nI (1 + i)) (by rw [e0]; exact nI_add 1 i) ⟨by decide, nm_r (e' := nI (b % 6)) (by rw [e2]; exact pk_rem (d := 6) (by omega) (by decide) (by decide)) ?_⟩
  refine nm_r (e' := nI (1 + v)) (by rw [e1]; exact nI_add 1 v) (nm_r (nI_add _ _) ?_)
  generalize b % 6 = x at hx ⊢
  rw [td_9m, td_9m, td_9m, show ∀ n, nI n + 5 = nI (n + 5) from fun n => nI_add n 5, show ∀ n, nI n + 5 = nI (n + 5) from fun n => nI_add n 5, show ∀ n, nI n + 2 = nI (n + 2) from fun n => nI_add n 2]
  refine td_rectW (s := 1) (p := 2) (q := 9 * (1 + i) + 5) (k := 0) (f := td_zr) (m := 2) (M := 5) (w := td_cols 2 (9 * (1 + i) + 5)) td_pic0 (by omega) rfl rfl (Or.inl rfl) (by omega) (by omega) (by omega) (by omega) (by omega) (by omega) rfl (fun b1 b2 h => ?_)
  have h1 : td_pic td_K1 (td_F1 (1 + i)) b1 b2 := h
  refine td_rectW (s := 4) (p := 9 * x + 2) (q := 9 * (x + (1 + v)) + 5) (k := 0) (f := td_zr) (m := 2) (M := 5) (w := td_cols (9 * x + 2) (9 * (x + (1 + v)) + 5)) h1 (by omega) rfl rfl (Or.inl rfl) (by omega) (by omega) (by omega) (by omega) (by omega) (by omega) rfl (fun c1 c2 h => ?_)
  have h2 : td_pic td_K2 (td_F2 (1 + i) x (x + (1 + v))) c1 c2 := h
  refine pk_le x (1 + i) (fun z => td_L87 (g9 := 0) ?_ hp hi hx hv h2) (fun z => td_L87 (g9 := 1) ?_ hp hi hx hv h2)
  · rw [if_pos z]
  · rw [if_neg (by omega)]
theorem td_cellW {ps : Int32 → Prop} {L : Nat} {xs : Nat → Int32} {p : Int32} {j : Nat} (hL : L ≤ 4) (hj : j < 4) (h : ∀ y, ps y) (hpj : p = nI j := by rfl) : wpL_cellAt ps L xs () p :=
  pk_le L j (fun _ => h 0) (fun z => ⟨pk_in j L z hpj, h _⟩) rfl hpj
end
theorem i_vc (xs : Nat → Int32) (L : Nat) (hL : L ≤ 4) : wpL_law (fun r => r = 1) L xs :=
  td_cellW (j := 0) hL (by omega) (fun _ => td_cellW (j := 1) hL (by omega) (fun _ => td_cellW (j := 2) hL (by omega) (fun _ => td_cellW (j := 3) hL (by omega) (fun _ => ⟨7, 324, by omega, by omega, td_lawOf rfl⟩))))
end
