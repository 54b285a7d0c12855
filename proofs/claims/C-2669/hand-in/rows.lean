section
/-! pure rows to paste: stores, nI and lN arithmetic, masks, shifts, narrowing, branches by naturals (pk_le, pk_lt, pk_eq), loops (lp1 .. lp16: the measure of the state; rp1 ..: recursion), negatives. Take what you need -/
theorem pk_us {f : Nat → Int32} {k : Nat} {x : Int32} : upd f k x k = x := if_pos rfl
theorem pk_un {f : Nat → Int32} {k j : Nat} {x : Int32} (h : j ≠ k) : upd f k x j = f j := if_neg h
theorem pk_sub {a b : Nat} (h : b ≤ a) : nI a - nI b = nI (a - b) := by
  obtain ⟨c, rfl⟩ : ∃ c, a = c + b := ⟨a - b, by omega⟩
  rw [← nI_add, Int32.add_sub_cancel, Nat.add_sub_cancel]
theorem pk_m1 (n : Nat) : nI (n + 1) + (-1) = nI n := by
  rw [← nI_1, Int32.add_assoc, show (1 : Int32) + (-1) = 0 from rfl, Int32.add_zero]
theorem pk_mul (a b : Nat) : nI a * nI b = nI (a * b) := (Int32.ofNat_mul a b).symm
theorem pk_ix (x : Int32) {n : Nat} (hn : n < 2 ^ 31) : x < 0 ∨ nI n ≤ x ∨ ∃ j : Nat, j < n ∧ x = nI j := by
  by_cases h : x < 0
  · exact Or.inl h
  · obtain ⟨j, hj, rfl⟩ := nI_of h
    by_cases h2 : j < n
    · exact Or.inr (Or.inr ⟨j, h2, rfl⟩)
    · exact Or.inr (Or.inl (nI_le (by omega) hj))
theorem pk_le {x y : Int32} {A B : Prop} (a b : Nat) (f : a ≤ b → A) (g : b < a → B) (hx : x = nI a := by rfl) (hy : y = nI b := by rfl) (ha : a < 2 ^ 31 := by omega) (hb : b < 2 ^ 31 := by omega) : (x ≤ y → A) ∧ (¬ x ≤ y → B) := by
  subst hx hy
  rw [nI_leI ha hb]
  exact ⟨f, fun z => g (by omega)⟩
theorem pk_lt {x y : Int32} {A B : Prop} (a b : Nat) (f : a < b → A) (g : b ≤ a → B) (hx : x = nI a := by rfl) (hy : y = nI b := by rfl) (ha : a < 2 ^ 31 := by omega) (hb : b < 2 ^ 31 := by omega) : (x < y → A) ∧ (¬ x < y → B) := by
  subst hx hy
  rw [nI_ltI ha hb]
  exact ⟨f, fun z => g (by omega)⟩
theorem pk_eq {x y : Int32} {A B : Prop} (a b : Nat) (f : a = b → A) (g : a ≠ b → B) (hx : x = nI a := by rfl) (hy : y = nI b := by rfl) (ha : a < 2 ^ 31 := by omega) (hb : b < 2 ^ 31 := by omega) : (x = y → A) ∧ (¬ x = y → B) := by
  subst hx hy
  rw [nI_eq ha hb]
  exact ⟨f, g⟩
theorem pk_in {x : Int32} (n N : Nat) (h : n < N) (hx : x = nI n := by rfl) (hN : N < 2 ^ 31 := by omega) : vp_in x N := by
  subst hx
  exact vp_in_nI h hN
theorem pk_cl {x : Int32} (n : Nat) (hx : x = nI n := by rfl) (h : n < 2 ^ 31 := by omega) : x.toNatClampNeg = n := by
  subst hx
  exact nI_clamp h
theorem pk_tn {n : Nat} (h : n < 2 ^ 32) : (nI n).toBitVec.toNat = n := Nat.mod_eq_of_lt h
theorem pk_and (x : Int32) {m : Int32} (k : Nat) (hm : m.toBitVec.toNat = 2 ^ k - 1) : x &&& m = nI (x.toBitVec.toNat % 2 ^ k) := by
  apply Int32.toBitVec_inj.mp
  apply BitVec.eq_of_toNat_eq
  rw [Int32.toBitVec_and, BitVec.toNat_and, hm, Nat.and_two_pow_sub_one_eq_mod]
  show _ = (BitVec.ofNat 32 _).toNat
  rw [BitVec.toNat_ofNat]
  exact (Nat.mod_eq_of_lt (Nat.lt_of_le_of_lt (Nat.mod_le _ _) x.toBitVec.isLt)).symm
theorem pk_andN {n : Nat} (h : n < 2 ^ 32) {m : Int32} (k : Nat) (hm : m.toBitVec.toNat = 2 ^ k - 1) : nI n &&& m = nI (n % 2 ^ k) := by
  rw [pk_and _ k hm, pk_tn h]
theorem pk_vb (z : Int32) : vp_nar .byte z.toInt8.toInt32 = z.toInt8.toInt32 := by rw [vp_nar_byte]; simp
def bt (x : Int32) (i : Nat) : Bool := x.toBitVec.getLsbD i
theorem b_ext {x y : Int32} (h : ∀ i, i < 32 → bt x i = bt y i) : x = y := Int32.toBitVec_inj.mp (BitVec.eq_of_getLsbD_eq (fun i hi => h i hi))
theorem b_or (x y : Int32) (i : Nat) : bt (x ||| y) i = (bt x i || bt y i) := by unfold bt; rw [Int32.toBitVec_or, BitVec.getLsbD_or]
theorem b_and (x y : Int32) (i : Nat) : bt (x &&& y) i = (bt x i && bt y i) := by unfold bt; rw [Int32.toBitVec_and, BitVec.getLsbD_and]
theorem b_xor (x y : Int32) (i : Nat) : bt (x ^^^ y) i = (bt x i ^^ bt y i) := by unfold bt; rw [Int32.toBitVec_xor, BitVec.getLsbD_xor]
theorem b_big {x : Int32} {i : Nat} (h : 32 ≤ i) : bt x i = false := BitVec.getLsbD_of_ge _ _ h
theorem b_0 (i : Nat) : bt 0 i = false := BitVec.getLsbD_zero
theorem s_l : ∀ n, n < 32 → ((nI n &&& 31).toBitVec.smod 32).toNat = n := by decide +kernel
theorem b_shl (n : Nat) (hn : n < 32) (x : Int32) {i : Nat} (hi : i < 32) : bt (x <<< (nI n &&& 31)) i = (decide (n ≤ i) && bt x (i - n)) := by
  unfold bt
  rw [Int32.toBitVec_shiftLeft]
  show (x.toBitVec <<< ((nI n &&& 31).toBitVec.smod 32).toNat).getLsbD i = _
  rw [s_l n hn, BitVec.getLsbD_shiftLeft]
  rcases Nat.lt_or_ge i n with h | h
  · simp [h, Nat.not_le.mpr h]
  · simp [hi, h, Nat.not_lt.mpr h]
theorem b_sshr (n : Nat) (hn : n < 32) (x : Int32) {i : Nat} (hi : i < 32) : bt (x >>> (nI n &&& 31)) i = if n + i < 32 then bt x (n + i) else bt x 31 := by
  unfold bt
  rw [Int32.toBitVec_shiftRight]
  show (x.toBitVec.sshiftRight ((nI n &&& 31).toBitVec.smod 32).toNat).getLsbD i = _
  rw [s_l n hn, BitVec.getLsbD_sshiftRight, BitVec.msb_eq_getLsbD_last]
  simp [hi]
end
section
/-! small facts: indices, bytes, bits, counts, unions -/
theorem tc_line {c x : Nat} (hx : x < 16) : (nI c * 4) + (nI x &&& 3) = nI (4 * c + x % 4) := by
  rw [show (4 : Int32) = nI 4 from rfl, pk_mul, pk_andN (n := x) (m := 3) (by omega) 2 (by decide), nI_add]
  exact congrArg nI (by omega)
theorem tc_ix3 (c j : Nat) : (nI c * 3) + nI j = nI (3 * c + j) := by
  rw [show (3 : Int32) = nI 3 from rfl, pk_mul, nI_add]
  exact congrArg nI (by omega)
theorem tc_ix3m (c j : Nat) : ((nI c * 3) + nI (j + 1)) - 1 = nI (3 * c + j) := by
  rw [tc_ix3, show 3 * c + (j + 1) = 3 * c + j + 1 from rfl, nI_pred]
theorem tc_ix4 (c j : Nat) : (4 * nI c) + nI j = nI (4 * c + j) := by
  rw [show (4 : Int32) = nI 4 from rfl, pk_mul, nI_add]
theorem tc_ixA (a k : Nat) : (nI a * 16) + nI k = nI (16 * a + k) := by
  rw [show (16 : Int32) = nI 16 from rfl, pk_mul, nI_add]
  exact congrArg nI (by omega)
theorem tc_ixB (a k : Nat) : (16 * nI a) + nI k = nI (16 * a + k) := by
  rw [show (16 : Int32) = nI 16 from rfl, pk_mul, nI_add]
theorem tc_b8 : ∀ n, n < 20 → (nI n).toInt8.toInt32 = nI n := by decide +kernel
theorem tc_nb {n : Nat} (h : n < 20) : vp_nar .byte (nI n).toInt8.toInt32 = nI n := by rw [pk_vb, tc_b8 n h]
theorem tc_nc {n : Nat} (h : n < 20) : vp_nar .byte (nI n) = nI n := by rw [vp_nar_byte, tc_b8 n h]
theorem tc_n0 : vp_nar .byte 0 = 0 := tc_nc (n := 0) (by decide)
theorem tc_n1 : vp_nar .byte 1 = 1 := tc_nc (n := 1) (by decide)
theorem tc_n3 : vp_nar .byte 3 = 3 := tc_nc (n := 3) (by decide)
theorem tc_m1 : vp_nar .byte ((1 : Int32).toInt8.toInt32) = 1 := tc_nb (n := 1) (by decide)
theorem tc_m2 : vp_nar .byte ((2 : Int32).toInt8.toInt32) = 2 := tc_nb (n := 2) (by decide)
theorem tc_uu {f : Nat → Int32} {k : Nat} {a b : Int32} : upd (upd f k a) k b = upd f k b := by
  funext j
  by_cases e : j = k
  · subst e; rw [pk_us, pk_us]
  · rw [pk_un e, pk_un e, pk_un e]
theorem tc_ui {f : Nat → Int32} {k : Nat} : upd f k (f k) = f := by
  funext j
  by_cases e : j = k
  · subst e; rw [pk_us]
  · rw [pk_un e]
theorem tc_ui' {f : Nat → Int32} {k : Nat} {a : Int32} (h : f k = a) : upd f k a = f := by
  subst h; exact tc_ui
theorem tc_inj {a b : Nat} (ha : a < 16) (hb : b < 16) (h : nI a = nI b) : a = b := (nI_eq (by omega) (by omega)).mp h
def tc_up (L : Nat → Nat) (k v : Nat) : Nat → Nat := fun j => if j = k then v else L j
theorem tc_ps {f : Nat → Nat} {k : Nat} {x : Nat} : tc_up f k x k = x := if_pos rfl
theorem tc_pn {f : Nat → Nat} {k j : Nat} {x : Nat} (h : j ≠ k) : tc_up f k x j = f j := if_neg h
/-! bits -/
def tc_b (x : Nat) : Int32 := (1 : Int32) <<< (nI x &&& 31)
theorem tc_bb : ∀ x, x < 32 → ∀ i, i < 32 → bt (tc_b x) i = decide (i = x) := by decide +kernel
theorem tc_b1 : ∀ i, i < 32 → bt 1 i = decide (i = 0) := by decide +kernel
theorem tc_bor (s : Int32) {x i : Nat} (hx : x < 32) (hi : i < 32) : bt (s ||| tc_b x) i = (bt s i || decide (i = x)) := by
  rw [b_or, tc_bb x hx i hi]
theorem tc_same {s : Int32} {x : Nat} (hx : x < 32) (h : bt s x = true) : s ||| tc_b x = s := by
  apply b_ext
  intro i hi
  rw [tc_bor s hx hi]
  by_cases e : i = x
  · subst e; rw [h]; rfl
  · simp [e]
theorem tc_bitN (s : Int32) {x : Nat} (hx : x < 32) : (s >>> (nI x &&& 31)) &&& 1 = if bt s x = true then 1 else 0 := by
  have h := b_sshr x hx s (i := 0) (by decide)
  rw [if_pos (by omega), Nat.add_zero] at h
  rw [← h]
  generalize s >>> (nI x &&& 31) = y
  apply b_ext
  intro i hi
  rw [b_and, tc_b1 i hi]
  by_cases hb : bt y 0 = true
  · rw [if_pos hb, tc_b1 i hi]
    by_cases e : i = 0
    · subst e; rw [hb]; rfl
    · simp [e]
  · rw [if_neg hb, b_0]
    by_cases e : i = 0
    · subst e; simp [hb]
    · simp [e]
theorem tc_bit0 (s : Int32) {x : Nat} (hx : x < 32) : (s >>> (nI x &&& 31)) &&& 1 = 0 ↔ ¬ bt s x = true := by
  rw [tc_bitN s hx]
  by_cases h : bt s x = true
  · rw [if_pos h]; exact ⟨fun e => absurd e (by decide), fun e => absurd h e⟩
  · rw [if_neg h]; exact ⟨fun _ => h, fun _ => rfl⟩
theorem tc_bit1 (s : Int32) {x : Nat} (hx : x < 32) : (s >>> (nI x &&& 31)) &&& 1 = 1 ↔ bt s x = true := by
  rw [tc_bitN s hx]
  by_cases h : bt s x = true
  · rw [if_pos h]; exact ⟨fun _ => h, fun _ => rfl⟩
  · rw [if_neg h]; exact ⟨fun e => absurd e (by decide), fun e => absurd e h⟩
/-! the number of bits below n -/
def tc_cn (s : Int32) : Nat → Nat
  | 0 => 0
  | n + 1 => tc_cn s n + (if bt s n = true then 1 else 0)
theorem tc_cn_le (s : Int32) : ∀ n, tc_cn s n ≤ n := by
  intro n
  induction n with
  | zero => exact Nat.le_refl _
  | succ n ih =>
    show tc_cn s n + (if bt s n = true then 1 else 0) ≤ n + 1
    split <;> omega
theorem tc_cn_0 : ∀ n, tc_cn 0 n = 0 := by
  intro n
  induction n with
  | zero => rfl
  | succ n ih =>
    show tc_cn 0 n + (if bt 0 n = true then 1 else 0) = 0
    rw [ih, b_0]; rfl
theorem tc_cn_or {s : Int32} {x : Nat} (hx : x < 32) (hb : ¬ bt s x = true) : ∀ n, n ≤ 32 → tc_cn (s ||| tc_b x) n = tc_cn s n + (if x < n then 1 else 0) := by
  intro n
  induction n with
  | zero => intro _; rfl
  | succ n ih =>
    intro hn
    show tc_cn (s ||| tc_b x) n + (if bt (s ||| tc_b x) n = true then 1 else 0) = tc_cn s n + (if bt s n = true then 1 else 0) + (if x < n + 1 then 1 else 0)
    rw [ih (by omega), tc_bor s hx (by omega)]
    by_cases e : n = x
    · subst e
      rw [if_neg (Nat.lt_irrefl n), if_neg hb, if_pos (Nat.lt_succ_self n), if_pos (by simp)]
    · by_cases g : x < n
      · rw [if_pos g, if_pos (show x < n + 1 by omega)]
        simp [e]; omega
      · rw [if_neg g, if_neg (show ¬ x < n + 1 by omega)]
        simp [e]
theorem tc_cn16 {s : Int32} {x : Nat} (hx : x < 16) (hb : ¬ bt s x = true) : tc_cn (s ||| tc_b x) 16 = tc_cn s 16 + 1 := by
  rw [tc_cn_or (by omega) hb 16 (by omega), if_pos hx]
theorem tc_cnlt {s : Int32} {x : Nat} (hx : x < 16) (hb : ¬ bt s x = true) : tc_cn s 16 < 16 := by
  have h := tc_cn_le (s ||| tc_b x) 16
  rw [tc_cn16 hx hb] at h
  omega
/-! the union of the first n sets -/
def tc_or (f : Nat → Int32) : Nat → Int32
  | 0 => 0
  | n + 1 => tc_or f n ||| f n
theorem tc_or_bt (f : Nat → Int32) (x : Nat) : ∀ n, bt (tc_or f n) x = true ↔ ∃ l, l < n ∧ bt (f l) x = true := by
  intro n
  induction n with
  | zero =>
    show bt 0 x = true ↔ _
    rw [b_0]
    exact ⟨fun h => absurd h (by decide), fun ⟨l, hl, _⟩ => absurd hl (Nat.not_lt_zero l)⟩
  | succ n ih =>
    show bt (tc_or f n ||| f n) x = true ↔ _
    rw [b_or, Bool.or_eq_true, ih]
    constructor
    · rintro (⟨l, hl, h⟩ | h)
      · exact ⟨l, by omega, h⟩
      · exact ⟨n, by omega, h⟩
    · rintro ⟨l, hl, h⟩
      by_cases e : l = n
      · subst e; exact Or.inr h
      · exact Or.inl ⟨l, by omega, h⟩
theorem tc_or_eq {f g : Nat → Int32} : ∀ n, (∀ l, l < n → f l = g l) → tc_or f n = tc_or g n := by
  intro n
  induction n with
  | zero => intro _; rfl
  | succ n ih =>
    intro h
    show tc_or f n ||| f n = tc_or g n ||| g n
    rw [ih (fun l hl => h l (by omega)), h n (by omega)]
/-! rivals -/
def tc_rv (th : Nat → Int32) (c x : Nat) : Nat → Int32
  | 0 => 0
  | d + 1 => if d = c then tc_rv th c x d else if bt (th d) x = true then tc_rv th c x d ||| tc_b d else tc_rv th c x d
theorem tc_rv_z {th : Nat → Int32} {c x : Nat} : ∀ n, (∀ d, d < n → d ≠ c → ¬ bt (th d) x = true) → tc_rv th c x n = 0 := by
  intro n
  induction n with
  | zero => intro _; rfl
  | succ n ih =>
    intro h
    have i := ih (fun d hd => h d (by omega))
    show (if n = c then tc_rv th c x n else if bt (th n) x = true then tc_rv th c x n ||| tc_b n else tc_rv th c x n) = 0
    by_cases e : n = c
    · rw [if_pos e, i]
    · rw [if_neg e, if_neg (h n (by omega) e), i]
theorem tc_or0 {a : Int32} {d : Nat} (hd : d < 32) : a ||| tc_b d ≠ 0 := by
  intro h
  have h2 := tc_bor a hd hd
  rw [h, b_0] at h2
  simp at h2
theorem tc_rv_n {th : Nat → Int32} {c x : Nat} : ∀ n, n ≤ 32 → tc_rv th c x n = 0 → ∀ d, d < n → d ≠ c → ¬ bt (th d) x = true := by
  intro n
  induction n with
  | zero => intro _ _ d hd; exact absurd hd (Nat.not_lt_zero d)
  | succ n ih =>
    intro hn h d hd hc hb
    have h' : (if n = c then tc_rv th c x n else if bt (th n) x = true then tc_rv th c x n ||| tc_b n else tc_rv th c x n) = 0 := h
    by_cases e : n = c
    · rw [if_pos e] at h'
      exact ih (by omega) h' d (by omega) hc hb
    · rw [if_neg e] at h'
      by_cases g : bt (th n) x = true
      · rw [if_pos g] at h'
        exact tc_or0 (by omega) h'
      · rw [if_neg g] at h'
        by_cases q : d = n
        · subst q; exact g hb
        · exact ih (by omega) h' d (by omega) hc hb
theorem tc_rv_eq {th tg : Nat → Int32} {c x : Nat} : ∀ n, (∀ d, d < n → th d = tg d) → tc_rv th c x n = tc_rv tg c x n := by
  intro n
  induction n with
  | zero => intro _; rfl
  | succ n ih =>
    intro h
    show (if n = c then tc_rv th c x n else if bt (th n) x = true then tc_rv th c x n ||| tc_b n else tc_rv th c x n) = (if n = c then tc_rv tg c x n else if bt (tg n) x = true then tc_rv tg c x n ||| tc_b n else tc_rv tg c x n)
    rw [ih (fun d hd => h d (by omega)), h n (by omega)]
end
section
/-! the caches, with no program in sight -/
def tc_H (ta st : Nat → Int32) (c x : Nat) : Prop := st (4 * c + x % 4) ≠ 0 ∧ ta (4 * c + x % 4) = nI x
def tc_CI (me ta st da N : Nat → Int32) : Prop :=
  (∀ i, i < 16 → st i ≠ 0 → ∃ x, x < 16 ∧ ta i = nI x ∧ x % 4 = i % 4) ∧
  (∀ c d x, c < 4 → d < 4 → x < 16 → c ≠ d → tc_H ta st c x → tc_H ta st d x → st (4 * c + x % 4) = 1) ∧
  (∀ c x, c < 4 → x < 16 → tc_H ta st c x → da (4 * c + x % 4) = N x) ∧
  (∀ x, x < 16 → (∀ c, c < 4 → tc_H ta st c x → st (4 * c + x % 4) ≠ 3) → me x = N x)
section
variable {me ta st da N : Nat → Int32}
theorem tc_ci0 : tc_CI (fun _ => 0) (fun _ => 0) (fun _ => 0) (fun _ => 0) (fun _ => 0) :=
  ⟨fun _ _ h => absurd rfl h, fun _ _ _ _ _ _ _ h => absurd rfl h.1, fun _ _ _ _ _ => rfl, fun _ _ _ => rfl⟩
/-- a changed line goes back to memory -/
theorem tc_ciW (I : tc_CI me ta st da N) {i : Nat} (hi : i < 16) (h3 : st i = 3) : ∃ t, t < 16 ∧ ta i = nI t ∧ da i = N t := by
  obtain ⟨t, ht, e, m⟩ := I.1 i hi (by rw [h3]; decide)
  have ei : 4 * (i / 4) + t % 4 = i := by omega
  have h := I.2.2.1 (i / 4) t (by omega) ht ⟨by rw [ei, h3]; decide, by rw [ei]; exact e⟩
  rw [ei] at h
  exact ⟨t, ht, e, h⟩
theorem tc_ciU (I : tc_CI me ta st da N) (t : Nat) : tc_CI (upd me t (N t)) ta st da N := by
  refine ⟨I.1, I.2.1, I.2.2.1, fun x hx h => ?_⟩
  by_cases e : x = t
  · subst e; rw [pk_us]
  · rw [pk_un e]; exact I.2.2.2 x hx h
/-- what holds x at d is shared from now on -/
theorem tc_ciS (I : tc_CI me ta st da N) {d x : Nat} (hd : d < 4) (hx : x < 16) (H : tc_H ta st d x) (hm : st (4 * d + x % 4) = 3 → me x = N x) : tc_CI me ta (upd st (4 * d + x % 4) 1) da N := by
  obtain ⟨IT, IE, IV, IM⟩ := I
  have HH : ∀ e y, tc_H ta (upd st (4 * d + x % 4) 1) e y → tc_H ta st e y := by
    intro e y h
    by_cases q : 4 * e + y % 4 = 4 * d + x % 4
    · exact ⟨by rw [q]; exact H.1, h.2⟩
    · exact ⟨by have := h.1; rw [pk_un q] at this; exact this, h.2⟩
  have HK : ∀ e y, tc_H ta st e y → tc_H ta (upd st (4 * d + x % 4) 1) e y := by
    intro e y h
    by_cases q : 4 * e + y % 4 = 4 * d + x % 4
    · exact ⟨by rw [q, pk_us]; decide, h.2⟩
    · exact ⟨by rw [pk_un q]; exact h.1, h.2⟩
  refine ⟨?_, ?_, ?_, ?_⟩
  · intro i hi h
    by_cases q : i = 4 * d + x % 4
    · exact ⟨x, hx, by rw [q]; exact H.2, by omega⟩
    · rw [pk_un q] at h; exact IT i hi h
  · intro e f y he hf hy n h1 h2
    by_cases q : 4 * e + y % 4 = 4 * d + x % 4
    · rw [q, pk_us]
    · rw [pk_un q]; exact IE e f y he hf hy n (HH e y h1) (HH f y h2)
  · intro e y he hy h
    exact IV e y he hy (HH e y h)
  · intro y hy h
    by_cases g : st (4 * d + x % 4) = 3 ∧ y = x
    · rw [g.2]; exact hm g.1
    · refine IM y hy (fun e he h2 h3 => ?_)
      by_cases q : 4 * e + y % 4 = 4 * d + x % 4
      · have t1 := h2.2
        rw [q, H.2] at t1
        rw [q] at h3
        exact g ⟨h3, (tc_inj hx hy t1).symm⟩
      · have := h e he (HK e y h2)
        rw [pk_un q] at this
        exact this h3
/-- line 4 c + x mod 4 takes x in -/
theorem tc_ciF (I : tc_CI me ta st da N) {c x : Nat} (hc : c < 4) (hx : x < 16) (s : Int32) (s0 : s ≠ 0) (s3 : s ≠ 3)
    (hL : st (4 * c + x % 4) = 3 → ∀ t, t < 16 → ta (4 * c + x % 4) = nI t → me t = N t) (hm : me x = N x)
    (h1 : ∀ e, e < 4 → e ≠ c → tc_H ta st e x → st (4 * e + x % 4) = 1) (hs : s ≠ 1 → ∀ e, e < 4 → e ≠ c → ¬ tc_H ta st e x) :
    tc_CI me (upd ta (4 * c + x % 4) (nI x)) (upd st (4 * c + x % 4) s) (upd da (4 * c + x % 4) (me x)) N ∧ tc_H (upd ta (4 * c + x % 4) (nI x)) (upd st (4 * c + x % 4) s) c x := by
  obtain ⟨IT, IE, IV, IM⟩ := I
  have HL : ∀ e y, y < 16 → 4 * e + y % 4 = 4 * c + x % 4 → tc_H (upd ta (4 * c + x % 4) (nI x)) (upd st (4 * c + x % 4) s) e y → e = c ∧ y = x := by
    intro e y hy q h
    have t1 := h.2
    rw [q, pk_us] at t1
    exact ⟨by omega, (tc_inj hx hy t1).symm⟩
  have HN : ∀ e y, 4 * e + y % 4 ≠ 4 * c + x % 4 → (tc_H (upd ta (4 * c + x % 4) (nI x)) (upd st (4 * c + x % 4) s) e y ↔ tc_H ta st e y) := by
    intro e y q
    unfold tc_H
    rw [pk_un q, pk_un q]
  refine ⟨⟨?_, ?_, ?_, ?_⟩, ⟨by rw [pk_us]; exact s0, by rw [pk_us]⟩⟩
  · intro i hi h
    by_cases q : i = 4 * c + x % 4
    · exact ⟨x, hx, by rw [q, pk_us], by omega⟩
    · rw [pk_un q] at h; rw [pk_un q]; exact IT i hi h
  · intro e f y he hf hy n k1 k2
    by_cases q : 4 * e + y % 4 = 4 * c + x % 4
    · obtain ⟨q1, q2⟩ := HL e y hy q k1
      subst q1; subst q2
      rw [pk_us]
      by_cases g : s = 1
      · exact g
      · exact absurd ((HN f y (by omega)).mp k2) (hs g f hf (by omega))
    · rw [pk_un q]
      have k1' := (HN e y q).mp k1
      by_cases p : 4 * f + y % 4 = 4 * c + x % 4
      · obtain ⟨q1, q2⟩ := HL f y hy p k2
        subst q1; subst q2
        exact h1 e he n k1'
      · exact IE e f y he hf hy n k1' ((HN f y p).mp k2)
  · intro e y he hy k
    by_cases q : 4 * e + y % 4 = 4 * c + x % 4
    · obtain ⟨q1, q2⟩ := HL e y hy q k
      subst q1; subst q2
      rw [pk_us]; exact hm
    · rw [pk_un q]; exact IV e y he hy ((HN e y q).mp k)
  · intro y hy k
    by_cases g : y = x
    · rw [g]; exact hm
    · by_cases g2 : st (4 * c + x % 4) = 3 ∧ ta (4 * c + x % 4) = nI y
      · exact hL g2.1 y hy g2.2
      · refine IM y hy (fun e he h2 h3 => ?_)
        by_cases q : 4 * e + y % 4 = 4 * c + x % 4
        · have t1 := h2.2
          rw [q] at t1 h3
          exact g2 ⟨h3, t1⟩
        · have := k e he ((HN e y q).mpr h2)
          rw [pk_un q] at this
          exact this h3
/-- another holder of what c holds goes -/
theorem tc_ciI (I : tc_CI me ta st da N) {c d x : Nat} (hc : c < 4) (hd : d < 4) (hx : x < 16) (n : d ≠ c) (Hc : tc_H ta st c x) (Hd : tc_H ta st d x) : tc_CI me ta (upd st (4 * d + x % 4) 0) da N := by
  obtain ⟨IT, IE, IV, IM⟩ := I
  have s1 := IE d c x hd hc hx n Hd Hc
  have HH : ∀ e y, tc_H ta (upd st (4 * d + x % 4) 0) e y → 4 * e + y % 4 ≠ 4 * d + x % 4 ∧ tc_H ta st e y := by
    intro e y h
    by_cases q : 4 * e + y % 4 = 4 * d + x % 4
    · have := h.1
      rw [q, pk_us] at this
      exact absurd rfl this
    · exact ⟨q, by have := h.1; rw [pk_un q] at this; exact this, h.2⟩
  refine ⟨?_, ?_, ?_, ?_⟩
  · intro i hi h
    by_cases q : i = 4 * d + x % 4
    · rw [q, pk_us] at h; exact absurd rfl h
    · rw [pk_un q] at h; exact IT i hi h
  · intro e f y he hf hy k h1 h2
    rw [pk_un (HH e y h1).1]
    exact IE e f y he hf hy k (HH e y h1).2 (HH f y h2).2
  · intro e y he hy h
    exact IV e y he hy (HH e y h).2
  · intro y hy h
    refine IM y hy (fun e he h2 h3 => ?_)
    by_cases q : 4 * e + y % 4 = 4 * d + x % 4
    · rw [q, s1] at h3; exact absurd h3 (by decide)
    · have := h e he ⟨by rw [pk_un q]; exact h2.1, h2.2⟩
      rw [pk_un q] at this
      exact this h3
/-- the only holder writes -/
theorem tc_ciP (I : tc_CI me ta st da N) {c x : Nat} (hc : c < 4) (hx : x < 16) (Hc : tc_H ta st c x) (hn : ∀ e, e < 4 → e ≠ c → ¬ tc_H ta st e x) (v : Int32) :
    tc_CI me ta (upd st (4 * c + x % 4) 3) (upd da (4 * c + x % 4) v) (upd N x v) := by
  obtain ⟨IT, IE, IV, IM⟩ := I
  have HH : ∀ e y, tc_H ta (upd st (4 * c + x % 4) 3) e y → tc_H ta st e y := by
    intro e y h
    by_cases q : 4 * e + y % 4 = 4 * c + x % 4
    · exact ⟨by rw [q]; exact Hc.1, h.2⟩
    · exact ⟨by have := h.1; rw [pk_un q] at this; exact this, h.2⟩
  have HK : ∀ e y, tc_H ta st e y → tc_H ta (upd st (4 * c + x % 4) 3) e y := by
    intro e y h
    by_cases q : 4 * e + y % 4 = 4 * c + x % 4
    · exact ⟨by rw [q, pk_us]; decide, h.2⟩
    · exact ⟨by rw [pk_un q]; exact h.1, h.2⟩
  have HX : ∀ e y, y < 16 → tc_H ta st e y → 4 * e + y % 4 = 4 * c + x % 4 → e = c ∧ y = x := by
    intro e y hy h q
    have t1 := h.2
    rw [q, Hc.2] at t1
    exact ⟨by omega, (tc_inj hx hy t1).symm⟩
  refine ⟨?_, ?_, ?_, ?_⟩
  · intro i hi h
    by_cases q : i = 4 * c + x % 4
    · exact ⟨x, hx, by rw [q]; exact Hc.2, by omega⟩
    · rw [pk_un q] at h; exact IT i hi h
  · intro e f y he hf hy k h1 h2
    by_cases q : 4 * e + y % 4 = 4 * c + x % 4
    · obtain ⟨q1, q2⟩ := HX e y hy (HH e y h1) q
      subst q1; subst q2
      exact absurd (HH f y h2) (hn f hf (fun z => k z.symm))
    · rw [pk_un q]
      exact IE e f y he hf hy k (HH e y h1) (HH f y h2)
  · intro e y he hy h
    by_cases q : 4 * e + y % 4 = 4 * c + x % 4
    · obtain ⟨q1, q2⟩ := HX e y hy (HH e y h) q
      subst q1; subst q2
      rw [pk_us, pk_us]
    · have g : y ≠ x := by
        intro z
        subst z
        exact hn e he (fun z => q (by rw [z])) (HH e y h)
      rw [pk_un q, pk_un g]
      exact IV e y he hy (HH e y h)
  · intro y hy h
    by_cases g : y = x
    · subst g
      have := h c hc (HK c y Hc)
      rw [pk_us] at this
      exact absurd rfl this
    · rw [pk_un g]
      refine IM y hy (fun e he h2 h3 => ?_)
      by_cases q : 4 * e + y % 4 = 4 * c + x % 4
      · exact g (HX e y hy h2 q).2
      · have := h e he (HK e y h2)
        rw [pk_un q] at this
        exact this h3
end
end
section
/-! the walks of the caches -/
section
variable {me ta st da le ra wa ls lc lo N : Nat → Int32}
theorem hx_line {post : Int32 → Prop} {c x : Nat} (hx : x < 16) (h : post (nI (4 * c + x % 4))) : wpX_lineOf post (nI c) (nI x) := by
  unfold wpX_lineOf
  rw [tc_line hx]
  exact h
theorem hx_holds {post : Int32 → Prop} {c x : Nat} (hc : c < 4) (hx : x < 16) (h1 : tc_H ta st c x → post 1) (h0 : ¬ tc_H ta st c x → post 0) :
    wpX_holds post (me, ta, st, da, le, ra, wa, ls, lc, lo) (nI c) (nI x) := by
  unfold wpX_holds
  dsimp only
  refine hx_line hx ?_
  have hi : vp_in (nI (4 * c + x % 4)) 16 := vp_in_nI (by omega) (by decide)
  rw [nI_clamp (show 4 * c + x % 4 < 2 ^ 31 by omega)]
  exact ⟨hi, br_c (fun z => h0 (fun H => H.1 z)) (fun z => ⟨hi, br_c (fun t => h1 ⟨z, t⟩) (fun t => h0 (fun H => t H.2))⟩)⟩
theorem hx_newL {post : Int32 → Prop} (I : tc_CI me ta st da N) {x : Nat} (hx : x < 16) (h : post (N x)) : ∀ d c n, c + d = 4 → d < n → (∀ e, e < c → tc_H ta st e x → st (4 * e + x % 4) ≠ 3) →
    wX_newest_2 post (nI x) me ta st da le ra wa ls lc lo n (nI c) := by
  intro d
  induction d with
  | zero =>
    intro c n hcd hn hp
    obtain ⟨n, rfl⟩ : ∃ m, n = m + 1 := ⟨n - 1, by omega⟩
    rw [wX_newest_2]
    refine br_t (nI_le (a := 4) (by omega) (by omega)) ⟨vp_in_nI hx (by decide), ?_⟩
    rw [nI_clamp (show x < 2 ^ 31 by omega), I.2.2.2 x hx (fun e he => hp e (by omega))]
    exact h
  | succ d ih =>
    intro c n hcd hn hp
    obtain ⟨n, rfl⟩ : ∃ m, n = m + 1 := ⟨n - 1, by omega⟩
    rw [wX_newest_2]
    refine br_f (nI_ge (b := 4) (by omega) (by decide)) ?_
    refine hx_line hx ?_
    have hi : vp_in (nI (4 * c + x % 4)) 16 := vp_in_nI (by omega) (by decide)
    refine hx_holds (by omega) hx (fun H => ?_) (fun H => ?_)
    · refine br_f (by decide) ⟨hi, ?_⟩
      rw [nI_clamp (show 4 * c + x % 4 < 2 ^ 31 by omega)]
      refine br_c (fun s => ⟨hi, ?_⟩) (fun s => nm_r (nI_1 c) (ih (c + 1) n (by omega) (by omega) ?_))
      · rw [I.2.2.1 c x (by omega) hx H]; exact h
      · intro e he
        by_cases q : e = c
        · subst q; exact fun _ => s
        · exact hp e (by omega)
    · refine br_t rfl (nm_r (nI_1 c) (ih (c + 1) n (by omega) (by omega) ?_))
      intro e he
      by_cases q : e = c
      · subst q; exact fun H' => absurd H' H
      · exact hp e (by omega)
theorem hx_newest {post : Int32 → Prop} (I : tc_CI me ta st da N) {x : Nat} (hx : x < 16) (h : post (N x)) : wpX_newest post (me, ta, st, da, le, ra, wa, ls, lc, lo) (nI x) := by
  unfold wpX_newest
  exact ⟨5, hx_newL I hx h 4 0 5 rfl (by decide) (fun e he => absurd he (Nat.not_lt_zero e))⟩
theorem hx_wb {post : SX → Prop} (I : tc_CI me ta st da N) {i : Nat} (hi : i < 16)
    (h : ∀ me', tc_CI me' ta st da N → (∀ y, me y = N y → me' y = N y) → (st i = 3 → ∀ t, t < 16 → ta i = nI t → me' t = N t) → post (me', ta, st, da, le, ra, wa, ls, lc, lo)) :
    wpX_writeBack post (me, ta, st, da, le, ra, wa, ls, lc, lo) (nI i) := by
  unfold wpX_writeBack
  dsimp only
  have hi' : vp_in (nI i) 16 := vp_in_nI hi (by decide)
  rw [nI_clamp (show i < 2 ^ 31 by omega)]
  refine ⟨hi', br_c (fun s => ?_) (fun s => h me I (fun _ z => z) (fun z => absurd z s))⟩
  obtain ⟨t, ht, e, ed⟩ := tc_ciW I hi s
  rw [e, nI_clamp (show t < 2 ^ 31 by omega), ed]
  refine ⟨hi', hi', vp_in_nI ht (by decide), nm_e (h _ (tc_ciU I t) (fun y z => ?_) (fun _ t' ht' e' => ?_))⟩
  · by_cases q : y = t
    · subst q; rw [pk_us]
    · rw [pk_un q]; exact z
  · rw [e] at e'
    have q := tc_inj ht ht' e'
    subst q; rw [pk_us]
theorem hx_fetL {post : SX → Prop} {c x : Nat} (hc : c < 4) (hx : x < 16)
    (h : ∀ me' ta' st' da', tc_CI me' ta' st' da' N → tc_H ta' st' c x → post (me', ta', st', da', le, ra, wa, ls, lc, lo)) :
    ∀ k d n, d + k = 4 → k < n → ∀ me st sh, tc_CI me ta st da N → ¬ tc_H ta st c x →
      (st (4 * c + x % 4) = 3 → ∀ t, t < 16 → ta (4 * c + x % 4) = nI t → me t = N t) →
      (∀ e, e < d → e ≠ c → tc_H ta st e x → st (4 * e + x % 4) = 1) →
      (sh = 0 → ∀ e, e < d → e ≠ c → ¬ tc_H ta st e x) →
      wX_fetch_27 post (nI c) (nI x) (nI (4 * c + x % 4)) n sh (nI d) me ta st da le ra wa ls lc lo := by
  intro k
  induction k with
  | zero =>
    intro d n hdk hn me st sh I hH hL h1 h0
    obtain ⟨n, rfl⟩ : ∃ m, n = m + 1 := ⟨n - 1, by omega⟩
    rw [wX_fetch_27]
    have hi : vp_in (nI (4 * c + x % 4)) 16 := vp_in_nI (by omega) (by decide)
    have hm : me x = N x := I.2.2.2 x hx (fun e he H => by
      rw [h1 e (by omega) (fun z => hH (by rw [← z]; exact H)) H]; decide)
    refine br_t (nI_le (a := 4) (by omega) (by omega)) ⟨hi, ?_⟩
    rw [nI_clamp (show 4 * c + x % 4 < 2 ^ 31 by omega), nI_clamp (show x < 2 ^ 31 by omega), tc_nb (n := x) (by omega), tc_m1, tc_m2]
    refine nm_e ⟨vp_in_nI hx (by decide), hi, nm_e (br_c (fun z => ⟨hi, nm_e ?_⟩) (fun z => ⟨hi, nm_e ?_⟩))⟩
    · obtain ⟨I', H'⟩ := tc_ciF I hc hx 2 (by decide) (by decide) hL hm (fun e he => h1 e (by omega)) (fun _ e he => h0 z e (by omega))
      exact h _ _ _ _ I' H'
    · obtain ⟨I', H'⟩ := tc_ciF I hc hx 1 (by decide) (by decide) hL hm (fun e he => h1 e (by omega)) (fun q => absurd rfl q)
      exact h _ _ _ _ I' H'
  | succ k ih =>
    intro d n hdk hn me st sh I hH hL h1 h0
    obtain ⟨n, rfl⟩ : ∃ m, n = m + 1 := ⟨n - 1, by omega⟩
    rw [wX_fetch_27]
    refine br_f (nI_ge (b := 4) (by omega) (by decide)) ?_
    refine pk_eq d c (fun e => ?_) (fun e => ?_)
    · subst e
      refine nm_r (nI_1 d) (ih (d + 1) n (by omega) (by omega) me st sh I hH hL (fun e he ne => h1 e (by omega) ne) (fun z e he ne => h0 z e (by omega) ne))
    · refine hx_holds (by omega) hx (fun H => ?_) (fun H => ?_)
      · refine br_f (by decide) ?_
        refine hx_line hx ?_
        refine hx_wb I (by omega) (fun me' I' hk h3 => ?_)
        have hi : vp_in (nI (4 * d + x % 4)) 16 := vp_in_nI (by omega) (by decide)
        refine ⟨hi, ?_⟩
        rw [nI_clamp (show 4 * d + x % 4 < 2 ^ 31 by omega), tc_n1]
        refine nm_e (nm_r (nI_1 d) (ih (d + 1) n (by omega) (by omega) me' (upd st (4 * d + x % 4) 1) 1 ?_ ?_ ?_ ?_ ?_))
        · exact tc_ciS I' (by omega) hx H (fun s => h3 s x hx H.2)
        · intro H'
          have := H'.1
          rw [pk_un (show 4 * c + x % 4 ≠ 4 * d + x % 4 by omega)] at this
          exact hH ⟨this, H'.2⟩
        · intro s t ht et
          rw [pk_un (show 4 * c + x % 4 ≠ 4 * d + x % 4 by omega)] at s
          exact hk t (hL s t ht et)
        · intro e' he' ne H'
          by_cases q : e' = d
          · subst q; rw [pk_us]
          · have := H'.1
            rw [pk_un (show 4 * e' + x % 4 ≠ 4 * d + x % 4 by omega)] at this
            rw [pk_un (show 4 * e' + x % 4 ≠ 4 * d + x % 4 by omega)]
            exact h1 e' (by omega) ne ⟨this, H'.2⟩
        · intro z; exact absurd z (by decide)
      · refine br_t rfl (nm_r (nI_1 d) (ih (d + 1) n (by omega) (by omega) me st sh I hH hL ?_ ?_))
        · intro e' he' ne H'
          by_cases q : e' = d
          · subst q; exact absurd H' H
          · exact h1 e' (by omega) ne H'
        · intro z e' he' ne H'
          by_cases q : e' = d
          · subst q; exact H H'
          · exact h0 z e' (by omega) ne H'
theorem hx_fetch {post : SX → Prop} (I : tc_CI me ta st da N) {c x : Nat} (hc : c < 4) (hx : x < 16)
    (h : ∀ me' ta' st' da', tc_CI me' ta' st' da' N → tc_H ta' st' c x → post (me', ta', st', da', le, ra, wa, ls, lc, lo)) :
    wpX_fetch post (me, ta, st, da, le, ra, wa, ls, lc, lo) (nI c) (nI x) := by
  unfold wpX_fetch
  dsimp only
  refine hx_holds hc hx (fun H => ?_) (fun H => ?_)
  · exact br_f (by decide) (h me ta st da I H)
  · refine br_t rfl ?_
    refine hx_line hx ?_
    refine hx_wb I (by omega) (fun me' I' hk h3 => ?_)
    exact ⟨5, hx_fetL hc hx h 4 0 5 rfl (by decide) me' st 0 I' H h3 (fun e he => absurd he (Nat.not_lt_zero e)) (fun _ e he => absurd he (Nat.not_lt_zero e))⟩
theorem hx_sto71 {post : SX → Prop} {c x : Nat} (hc : c < 4) (hx : x < 16) {v : Int32} (I : tc_CI me ta st da N) (Hc : tc_H ta st c x) (hn : ∀ e, e < 4 → e ≠ c → ¬ tc_H ta st e x)
    (h : ∀ st' da', tc_CI me ta st' da' (upd N x v) → post (me, ta, st', da', le, ra, wa, ls, lc, lo)) :
    wX_store_71 post v (nI (4 * c + x % 4)) me ta st da le ra wa ls lc lo := by
  unfold wX_store_71
  have hi : vp_in (nI (4 * c + x % 4)) 16 := vp_in_nI (by omega) (by decide)
  rw [nI_clamp (show 4 * c + x % 4 < 2 ^ 31 by omega), tc_n3]
  exact ⟨hi, nm_e ⟨hi, nm_e (h _ _ (tc_ciP I hc hx Hc hn v))⟩⟩
theorem hx_stoL {post : SX → Prop} {c x : Nat} (hc : c < 4) (hx : x < 16) {v : Int32}
    (h : ∀ st' da', tc_CI me ta st' da' (upd N x v) → post (me, ta, st', da', le, ra, wa, ls, lc, lo)) :
    ∀ k d n, d + k = 4 → k < n → ∀ st, tc_CI me ta st da N → tc_H ta st c x → (∀ e, e < d → e ≠ c → ¬ tc_H ta st e x) →
      wX_store_27 post (nI c) (nI x) v (nI (4 * c + x % 4)) n (nI d) me ta st da le ra wa ls lc lo := by
  intro k
  induction k with
  | zero =>
    intro d n hdk hn st I Hc h0
    obtain ⟨n, rfl⟩ : ∃ m, n = m + 1 := ⟨n - 1, by omega⟩
    rw [wX_store_27]
    exact br_t (nI_le (a := 4) (by omega) (by omega)) (hx_sto71 hc hx I Hc (fun e he => h0 e (by omega)) h)
  | succ k ih =>
    intro d n hdk hn st I Hc h0
    obtain ⟨n, rfl⟩ : ∃ m, n = m + 1 := ⟨n - 1, by omega⟩
    rw [wX_store_27]
    refine br_f (nI_ge (b := 4) (by omega) (by decide)) ?_
    refine pk_eq d c (fun e => ?_) (fun e => ?_)
    · subst e
      exact nm_r (nI_1 d) (ih (d + 1) n (by omega) (by omega) st I Hc (fun e he ne => h0 e (by omega) ne))
    · refine hx_holds (by omega) hx (fun H => ?_) (fun H => ?_)
      · refine br_f (by decide) ?_
        refine hx_line hx ?_
        have hi : vp_in (nI (4 * d + x % 4)) 16 := vp_in_nI (by omega) (by decide)
        refine ⟨hi, ?_⟩
        rw [nI_clamp (show 4 * d + x % 4 < 2 ^ 31 by omega), tc_n0]
        refine nm_e (nm_r (nI_1 d) (ih (d + 1) n (by omega) (by omega) (upd st (4 * d + x % 4) 0) ?_ ?_ ?_))
        · exact tc_ciI I hc (by omega) hx e Hc H
        · exact ⟨by rw [pk_un (show 4 * c + x % 4 ≠ 4 * d + x % 4 by omega)]; exact Hc.1, Hc.2⟩
        · intro e' he' ne H'
          by_cases q : e' = d
          · subst q
            have := H'.1
            rw [pk_us] at this
            exact this rfl
          · have := H'.1
            rw [pk_un (show 4 * e' + x % 4 ≠ 4 * d + x % 4 by omega)] at this
            exact h0 e' (by omega) ne ⟨this, H'.2⟩
      · refine br_t rfl (nm_r (nI_1 d) (ih (d + 1) n (by omega) (by omega) st I Hc ?_))
        intro e' he' ne H'
        by_cases q : e' = d
        · subst q; exact H H'
        · exact h0 e' (by omega) ne H'
theorem hx_store {post : SX → Prop} (I : tc_CI me ta st da N) {c x : Nat} (hc : c < 4) (hx : x < 16) {v : Int32}
    (h : ∀ me' ta' st' da', tc_CI me' ta' st' da' (upd N x v) → post (me', ta', st', da', le, ra, wa, ls, lc, lo)) :
    wpX_store post (me, ta, st, da, le, ra, wa, ls, lc, lo) (nI c) (nI x) v := by
  unfold wpX_store
  dsimp only
  refine hx_fetch I hc hx (fun me' ta' st' da' I' H' => ?_)
  refine hx_line hx ?_
  have hi : vp_in (nI (4 * c + x % 4)) 16 := vp_in_nI (by omega) (by decide)
  refine ⟨hi, ?_⟩
  rw [nI_clamp (show 4 * c + x % 4 < 2 ^ 31 by omega)]
  refine br_c (fun s => ?_) (fun s => ?_)
  · exact ⟨5, hx_stoL hc hx (fun st' da' J => h _ _ st' da' J) 4 0 5 rfl (by decide) st' I' H' (fun e he => absurd he (Nat.not_lt_zero e))⟩
  · refine hx_sto71 hc hx I' H' (fun e he ne H => s ?_) (fun st' da' J => h _ _ st' da' J)
    exact I'.2.1 c e x hc he hx (fun z => ne z.symm) H' H
end
end
section
/-! the walks of the sets, of both sides -/
def tc_sX (a : Nat → Int32) (L : Nat → Nat) (d : Nat) : Int32 := tc_or (fun j => a (3 * d + j)) (L d)
def tc_sY (a : Nat → Int32) (L : Nat → Nat) (d : Nat) : Int32 := tc_or (fun j => a (4 * d + (j + 1))) (L d)
def tc_LV (le : Nat → Int32) (L : Nat → Nat) : Prop := ∀ c, c < 4 → L c ≤ 3 ∧ le c = nI (L c)
theorem tc_o0 (s : Int32) : s ||| 0 = s := b_ext (fun i _ => by rw [b_or, b_0, Bool.or_false])
section
variable {me ta st da le ra wa ls lc lo mY rY wY vY : Nat → Int32} {L : Nat → Nat}
theorem hx_rsL {post : Int32 → Prop} {c l : Nat} (hc : c < 4) (hl : l ≤ 3) (el : le c = nI l) (h : post (tc_or (fun j => ra (3 * c + j)) l)) :
    ∀ d j n, j + d = l → d < n → wX_readSet_4 post (nI c) me ta st da le ra wa ls lc lo n (tc_or (fun j => ra (3 * c + j)) j) (nI j) := by
  intro d
  induction d with
  | zero =>
    intro j n hj hn
    obtain ⟨n, rfl⟩ : ∃ m, n = m + 1 := ⟨n - 1, by omega⟩
    rw [wX_readSet_4]
    refine ⟨vp_in_nI hc (by decide), ?_⟩
    rw [nI_clamp (show c < 2 ^ 31 by omega), el]
    have e : j = l := by omega
    subst e
    exact br_t (nI_le (Nat.le_refl j) (by omega)) h
  | succ d ih =>
    intro j n hj hn
    obtain ⟨n, rfl⟩ : ∃ m, n = m + 1 := ⟨n - 1, by omega⟩
    rw [wX_readSet_4]
    refine ⟨vp_in_nI hc (by decide), ?_⟩
    rw [nI_clamp (show c < 2 ^ 31 by omega), el, tc_ix3, nI_clamp (show 3 * c + j < 2 ^ 31 by omega)]
    exact br_f (nI_ge (by omega) (by omega)) ⟨vp_in_nI (by omega) (by decide), nm_r (e' := tc_or (fun j => ra (3 * c + j)) (j + 1)) rfl (nm_r (nI_1 j) (ih (j + 1) n (by omega) (by omega)))⟩
theorem hx_wsL {post : Int32 → Prop} {c l : Nat} (hc : c < 4) (hl : l ≤ 3) (el : le c = nI l) (h : post (tc_or (fun j => wa (3 * c + j)) l)) :
    ∀ d j n, j + d = l → d < n → wX_writtenSet_4 post (nI c) me ta st da le ra wa ls lc lo n (tc_or (fun j => wa (3 * c + j)) j) (nI j) := by
  intro d
  induction d with
  | zero =>
    intro j n hj hn
    obtain ⟨n, rfl⟩ : ∃ m, n = m + 1 := ⟨n - 1, by omega⟩
    rw [wX_writtenSet_4]
    refine ⟨vp_in_nI hc (by decide), ?_⟩
    rw [nI_clamp (show c < 2 ^ 31 by omega), el]
    have e : j = l := by omega
    subst e
    exact br_t (nI_le (Nat.le_refl j) (by omega)) h
  | succ d ih =>
    intro j n hj hn
    obtain ⟨n, rfl⟩ : ∃ m, n = m + 1 := ⟨n - 1, by omega⟩
    rw [wX_writtenSet_4]
    refine ⟨vp_in_nI hc (by decide), ?_⟩
    rw [nI_clamp (show c < 2 ^ 31 by omega), el, tc_ix3, nI_clamp (show 3 * c + j < 2 ^ 31 by omega)]
    exact br_f (nI_ge (by omega) (by omega)) ⟨vp_in_nI (by omega) (by decide), nm_r (e' := tc_or (fun j => wa (3 * c + j)) (j + 1)) rfl (nm_r (nI_1 j) (ih (j + 1) n (by omega) (by omega)))⟩
theorem hy_rsL {post : Int32 → Prop} {c l : Nat} (hc : c < 4) (hl : l ≤ 3) (el : le c = nI l) (h : post (tc_or (fun j => rY (4 * c + (j + 1))) l)) :
    ∀ d j n, j + d = l → d < n → wY_readSet_4 post (nI c) mY le rY wY vY n (tc_or (fun j => rY (4 * c + (j + 1))) j) (nI (j + 1)) := by
  intro d
  induction d with
  | zero =>
    intro j n hj hn
    obtain ⟨n, rfl⟩ : ∃ m, n = m + 1 := ⟨n - 1, by omega⟩
    rw [wY_readSet_4]
    refine ⟨vp_in_nI hc (by decide), ?_⟩
    rw [nI_clamp (show c < 2 ^ 31 by omega), el]
    have e : j = l := by omega
    subst e
    exact br_t (nI_lt (Nat.lt_succ_self j) (by omega)) h
  | succ d ih =>
    intro j n hj hn
    obtain ⟨n, rfl⟩ : ∃ m, n = m + 1 := ⟨n - 1, by omega⟩
    rw [wY_readSet_4]
    refine ⟨vp_in_nI hc (by decide), ?_⟩
    rw [nI_clamp (show c < 2 ^ 31 by omega), el, tc_ix4, nI_clamp (show 4 * c + (j + 1) < 2 ^ 31 by omega)]
    exact br_f (nI_nlt (by omega) (by omega)) ⟨vp_in_nI (by omega) (by decide), nm_r (e' := tc_or (fun j => rY (4 * c + (j + 1))) (j + 1)) rfl (nm_r (nI_1 (j + 1)) (ih (j + 1) n (by omega) (by omega)))⟩
theorem hy_wsL {post : Int32 → Prop} {c l : Nat} (hc : c < 4) (hl : l ≤ 3) (el : le c = nI l) (h : post (tc_or (fun j => wY (4 * c + (j + 1))) l)) :
    ∀ d j n, j + d = l → d < n → wY_writeSet_4 post (nI c) mY le rY wY vY n (tc_or (fun j => wY (4 * c + (j + 1))) j) (nI (j + 1)) := by
  intro d
  induction d with
  | zero =>
    intro j n hj hn
    obtain ⟨n, rfl⟩ : ∃ m, n = m + 1 := ⟨n - 1, by omega⟩
    rw [wY_writeSet_4]
    refine ⟨vp_in_nI hc (by decide), ?_⟩
    rw [nI_clamp (show c < 2 ^ 31 by omega), el]
    have e : j = l := by omega
    subst e
    exact br_t (nI_lt (Nat.lt_succ_self j) (by omega)) h
  | succ d ih =>
    intro j n hj hn
    obtain ⟨n, rfl⟩ : ∃ m, n = m + 1 := ⟨n - 1, by omega⟩
    rw [wY_writeSet_4]
    refine ⟨vp_in_nI hc (by decide), ?_⟩
    rw [nI_clamp (show c < 2 ^ 31 by omega), el, tc_ix4, nI_clamp (show 4 * c + (j + 1) < 2 ^ 31 by omega)]
    exact br_f (nI_nlt (by omega) (by omega)) ⟨vp_in_nI (by omega) (by decide), nm_r (e' := tc_or (fun j => wY (4 * c + (j + 1))) (j + 1)) rfl (nm_r (nI_1 (j + 1)) (ih (j + 1) n (by omega) (by omega)))⟩
theorem hx_rs {post : Int32 → Prop} (V : tc_LV le L) {c : Nat} (hc : c < 4) (h : post (tc_sX ra L c)) : wpX_readSet post (me, ta, st, da, le, ra, wa, ls, lc, lo) (nI c) := by
  unfold wpX_readSet
  exact ⟨L c + 1, hx_rsL hc (V c hc).1 (V c hc).2 h (L c) 0 (L c + 1) (by omega) (by omega)⟩
theorem hx_ws {post : Int32 → Prop} (V : tc_LV le L) {c : Nat} (hc : c < 4) (h : post (tc_sX wa L c)) : wpX_writtenSet post (me, ta, st, da, le, ra, wa, ls, lc, lo) (nI c) := by
  unfold wpX_writtenSet
  exact ⟨L c + 1, hx_wsL hc (V c hc).1 (V c hc).2 h (L c) 0 (L c + 1) (by omega) (by omega)⟩
theorem hy_rs {post : Int32 → Prop} (V : tc_LV le L) {c : Nat} (hc : c < 4) (h : post (tc_sY rY L c)) : wpY_readSet post (mY, le, rY, wY, vY) (nI c) := by
  unfold wpY_readSet
  exact ⟨L c + 1, hy_rsL hc (V c hc).1 (V c hc).2 h (L c) 0 (L c + 1) (by omega) (by omega)⟩
theorem hy_ws {post : Int32 → Prop} (V : tc_LV le L) {c : Nat} (hc : c < 4) (h : post (tc_sY wY L c)) : wpY_writeSet post (mY, le, rY, wY, vY) (nI c) := by
  unfold wpY_writeSet
  exact ⟨L c + 1, hy_wsL hc (V c hc).1 (V c hc).2 h (L c) 0 (L c + 1) (by omega) (by omega)⟩
/-! rivals -/
theorem hx_rv35 {post : Int32 → Prop} {J : Int32 → Int32 → Prop} {c x d : Nat} (hc : c < 4) (hd : d < 4) (hx : x < 16) {w s t : Int32}
    (h : J (if d = c then s else if bt t x = true then s ||| tc_b d else s) (nI (d + 1))) :
    wX_rivalsOf_35 post J (nI c) (nI x) w s (nI d) t me ta st da le ra wa ls lc lo := by
  unfold wX_rivalsOf_35
  refine pk_eq d c (fun e => ?_) (fun e => ?_)
  · rw [if_pos e] at h
    exact nm_r (tc_o0 s) (nm_r (nI_1 d) h)
  · rw [if_neg e] at h
    by_cases g : bt t x = true
    · rw [if_pos g] at h
      exact br_f (fun z => (tc_bit0 t (by omega)).mp z g) (nm_r (e' := s ||| tc_b d) rfl (nm_r (nI_1 d) h))
    · rw [if_neg g] at h
      exact br_t ((tc_bit0 t (by omega)).mpr g) (nm_r (tc_o0 s) (nm_r (nI_1 d) h))
theorem hx_rvL {post : Int32 → Prop} (V : tc_LV le L) {c x : Nat} (hc : c < 4) (hx : x < 16) {w : Int32} {th : Nat → Int32}
    (hw : (w = 0 ∧ ∀ d, d < 4 → th d = tc_sX wa L d) ∨ (¬ w = 0 ∧ ∀ d, d < 4 → th d = tc_sX wa L d ||| tc_sX ra L d)) (h : post (tc_rv th c x 4)) :
    ∀ k d n, d + k = 4 → k < n → wX_rivalsOf_6 post (nI c) (nI x) w me ta st da le ra wa ls lc lo n (tc_rv th c x d) (nI d) := by
  intro k
  induction k with
  | zero =>
    intro d n hd hn
    obtain ⟨n, rfl⟩ : ∃ m, n = m + 1 := ⟨n - 1, by omega⟩
    rw [wX_rivalsOf_6]
    have e : d = 4 := by omega
    subst e
    exact br_t (nI_le (a := 4) (by omega) (by omega)) h
  | succ k ih =>
    intro d n hd hn
    obtain ⟨n, rfl⟩ : ∃ m, n = m + 1 := ⟨n - 1, by omega⟩
    rw [wX_rivalsOf_6]
    have i := ih (d + 1) n (by omega) (by omega)
    refine br_f (nI_ge (b := 4) (by omega) (by decide)) ?_
    refine hx_ws V (by omega) ?_
    rcases hw with ⟨w0, ht⟩ | ⟨w0, ht⟩
    · refine br_t w0 (hx_rv35 hc (by omega) hx ?_)
      rw [← ht d (by omega)]
      exact i
    · refine br_f w0 (hx_rs V (by omega) (nm_e (hx_rv35 hc (by omega) hx ?_)))
      rw [← ht d (by omega)]
      exact i
theorem hx_rv {post : Int32 → Prop} (V : tc_LV le L) {c x : Nat} (hc : c < 4) (hx : x < 16) {w : Int32} {th : Nat → Int32}
    (hw : (w = 0 ∧ ∀ d, d < 4 → th d = tc_sX wa L d) ∨ (¬ w = 0 ∧ ∀ d, d < 4 → th d = tc_sX wa L d ||| tc_sX ra L d)) (h : post (tc_rv th c x 4)) :
    wpX_rivalsOf post (me, ta, st, da, le, ra, wa, ls, lc, lo) (nI c) (nI x) w := by
  unfold wpX_rivalsOf
  exact ⟨5, hx_rvL V hc hx hw h 4 0 5 rfl (by decide)⟩
theorem hy_rv38 {post : Int32 → Prop} {J : Int32 → Int32 → Prop} {c x d : Nat} (hc : c < 4) (hd : d < 4) (hx : x < 16) {w s t : Int32}
    (h : J (if d = c then s else if bt t x = true then s ||| tc_b d else s) (nI (d + 1))) :
    wY_others_38 post J (nI c) (nI x) w s (nI d) t mY le rY wY vY := by
  unfold wY_others_38
  refine pk_eq d c (fun e => ?_) (fun e => ?_)
  · rw [if_pos e] at h
    exact nm_r (nI_1 d) h
  · rw [if_neg e] at h
    by_cases g : bt t x = true
    · rw [if_pos g] at h
      exact br_t ((tc_bit1 t (by omega)).mpr g) (nm_r (e' := s ||| tc_b d) rfl (nm_r (nI_1 d) h))
    · rw [if_neg g] at h
      exact br_f (fun z => g ((tc_bit1 t (by omega)).mp z)) (nm_r (nI_1 d) h)
theorem hy_rvL {post : Int32 → Prop} (V : tc_LV le L) {c x : Nat} (hc : c < 4) (hx : x < 16) {w : Int32} {th : Nat → Int32}
    (hw : (¬ w = 0 ∧ ∀ d, th d = tc_sY wY L d) ∨ (w = 0 ∧ ∀ d, th d = tc_sY wY L d ||| tc_sY rY L d)) (h : post (tc_rv th c x 4)) :
    ∀ k d n, d + k = 4 → k < n → wY_others_6 post (nI c) (nI x) w mY le rY wY vY n (tc_rv th c x d) (nI d) := by
  intro k
  induction k with
  | zero =>
    intro d n hd hn
    obtain ⟨n, rfl⟩ : ∃ m, n = m + 1 := ⟨n - 1, by omega⟩
    rw [wY_others_6]
    have e : d = 4 := by omega
    subst e
    exact br_t (nI_le (a := 4) (by omega) (by omega)) h
  | succ k ih =>
    intro d n hd hn
    obtain ⟨n, rfl⟩ : ∃ m, n = m + 1 := ⟨n - 1, by omega⟩
    rw [wY_others_6]
    have i := ih (d + 1) n (by omega) (by omega)
    refine br_f (nI_ge (b := 4) (by omega) (by decide)) ?_
    rcases hw with ⟨w0, ht⟩ | ⟨w0, ht⟩
    · refine br_f w0 (hy_ws V (by omega) (hy_rv38 hc (by omega) hx ?_))
      rw [← ht d]
      exact i
    · refine br_t w0 (hy_ws V (by omega) (hy_rs V (by omega) (hy_rv38 hc (by omega) hx ?_)))
      rw [← ht d]
      exact i
theorem hy_rv {post : Int32 → Prop} (V : tc_LV le L) {c x : Nat} (hc : c < 4) (hx : x < 16) {w : Int32} {th : Nat → Int32}
    (hw : (¬ w = 0 ∧ ∀ d, th d = tc_sY wY L d) ∨ (w = 0 ∧ ∀ d, th d = tc_sY wY L d ||| tc_sY rY L d)) (h : post (tc_rv th c x 4)) :
    wpY_others post (mY, le, rY, wY, vY) (nI c) (nI x) w := by
  unfold wpY_others
  exact ⟨5, hy_rvL V hc hx hw h 4 0 5 rfl (by decide)⟩
/-! the writer -/
theorem hx_wrL {post : Int32 → Prop} (V : tc_LV le L) {x : Nat} (hx : x < 16) (h1 : ∀ c, c < 4 → bt (tc_sX wa L c) x = true → post (nI c))
    (h0 : (∀ c, c < 4 → ¬ bt (tc_sX wa L c) x = true) → post (-1)) :
    ∀ k d n, d + k = 4 → k < n → (∀ e, e < d → ¬ bt (tc_sX wa L e) x = true) → wX_writerOf_2 post (nI x) me ta st da le ra wa ls lc lo n (nI d) := by
  intro k
  induction k with
  | zero =>
    intro d n hd hn hp
    obtain ⟨n, rfl⟩ : ∃ m, n = m + 1 := ⟨n - 1, by omega⟩
    rw [wX_writerOf_2]
    exact br_t (nI_le (a := 4) (by omega) (by omega)) (h0 (fun c hc => hp c (by omega)))
  | succ k ih =>
    intro d n hd hn hp
    obtain ⟨n, rfl⟩ : ∃ m, n = m + 1 := ⟨n - 1, by omega⟩
    rw [wX_writerOf_2]
    refine br_f (nI_ge (b := 4) (by omega) (by decide)) (hx_ws V (by omega) ?_)
    by_cases g : bt (tc_sX wa L d) x = true
    · exact br_f (fun z => (tc_bit0 _ (by omega)).mp z g) (h1 d (by omega) g)
    · refine br_t ((tc_bit0 _ (by omega)).mpr g) (nm_r (nI_1 d) (ih (d + 1) n (by omega) (by omega) ?_))
      intro e he
      by_cases q : e = d
      · subst q; exact g
      · exact hp e (by omega)
theorem hx_writer {post : Int32 → Prop} (V : tc_LV le L) {x : Nat} (hx : x < 16) (h1 : ∀ c, c < 4 → bt (tc_sX wa L c) x = true → post (nI c))
    (h0 : (∀ c, c < 4 → ¬ bt (tc_sX wa L c) x = true) → post (-1)) : wpX_writerOf post (me, ta, st, da, le, ra, wa, ls, lc, lo) (nI x) := by
  unfold wpX_writerOf
  exact ⟨5, hx_wrL V hx h1 h0 4 0 5 rfl (by decide) (fun e he => absurd he (Nat.not_lt_zero e))⟩
/-! cores and cells -/
theorem hx_coY {post : Int32 → Prop} {c : Nat} (hc : c < 4) (h : post 1) : wpX_isCore post (nI c) :=
  br_f (nI_pos (by omega)) (br_f (nI_ge (b := 4) hc (by decide)) h)
theorem hx_ceY {post : Int32 → Prop} {x : Nat} (hx : x < 16) (h : post 1) : wpX_isCell post (nI x) :=
  br_f (nI_pos (by omega)) (br_f (nI_ge (b := 16) hx (by decide)) h)
theorem hx_coN {post : Int32 → Prop} {v : Int32} (hv : v < 0 ∨ nI 4 ≤ v) (h : post 0) : wpX_isCore post v := by
  unfold wpX_isCore
  by_cases g : v < 0
  · exact br_t g h
  · exact br_f g (br_t (hv.resolve_left g) h)
theorem hx_ceN {post : Int32 → Prop} {v : Int32} (hv : v < 0 ∨ nI 16 ≤ v) (h : post 0) : wpX_isCell post v := by
  unfold wpX_isCell
  by_cases g : v < 0
  · exact br_t g h
  · exact br_f g (br_t (hv.resolve_left g) h)
theorem hy_coY {post : Int32 → Prop} {c : Nat} (hc : c < 4) (h : post 1) : wpY_core post (mY, le, rY, wY, vY) (nI c) :=
  br_f (nI_pos (by omega)) (br_f (nI_nlt (b := c) (a := 3) (by omega) (by decide)) h)
theorem hy_ceY {post : Int32 → Prop} {x : Nat} (hx : x < 16) (h : post 1) : wpY_cell post (mY, le, rY, wY, vY) (nI x) :=
  br_f (nI_pos (by omega)) (br_f (nI_nlt (b := x) (a := 15) (by omega) (by decide)) h)
theorem hy_coN {post : Int32 → Prop} {v : Int32} (hv : v < 0 ∨ nI 4 ≤ v) (h : post 0) : wpY_core post (mY, le, rY, wY, vY) v := by
  unfold wpY_core
  by_cases g : v < 0
  · exact br_t g h
  · have q : (3 : Int32) < v := Int32.lt_of_lt_of_le (by decide) (hv.resolve_left g)
    exact br_f g (br_t q h)
theorem hy_ceN {post : Int32 → Prop} {v : Int32} (hv : v < 0 ∨ nI 16 ≤ v) (h : post 0) : wpY_cell post (mY, le, rY, wY, vY) v := by
  unfold wpY_cell
  by_cases g : v < 0
  · exact br_t g h
  · have q : (15 : Int32) < v := Int32.lt_of_lt_of_le (by decide) (hv.resolve_left g)
    exact br_f g (br_t q h)
theorem tc_co (v : Int32) : (v < 0 ∨ nI 4 ≤ v) ∨ ∃ c, c < 4 ∧ v = nI c := by
  rcases pk_ix v (n := 4) (by decide) with h | h | h
  · exact Or.inl (Or.inl h)
  · exact Or.inl (Or.inr h)
  · exact Or.inr h
theorem tc_ce (v : Int32) : (v < 0 ∨ nI 16 ≤ v) ∨ ∃ c, c < 16 ∧ v = nI c := by
  rcases pk_ix v (n := 16) (by decide) with h | h | h
  · exact Or.inl (Or.inl h)
  · exact Or.inl (Or.inr h)
  · exact Or.inr h
end
end
section
/-! levels, logs and views, with no program in sight -/
def tc_vw (mY wY vY : Nat → Int32) (c x : Nat) : Nat → Int32
  | 0 => mY x
  | l + 1 => if bt (wY (4 * c + (l + 1))) x = true then vY (16 * (4 * c + (l + 1)) + x) else tc_vw mY wY vY c x l
def tc_WR (wY : Nat → Int32) (L : Nat → Nat) (c x : Nat) : Prop := ∃ l, l < L c ∧ bt (wY (4 * c + (l + 1))) x = true
def tc_LG (ls lc lo : Nat → Int32) (a : Nat) (s : Int32) (o : Nat → Int32) : Prop :=
  ls a = nI (tc_cn s 16) ∧
  (∀ k, k < tc_cn s 16 → ∃ y, y < 16 ∧ lc (16 * a + k) = nI y ∧ bt s y = true ∧ lo (16 * a + k) = o y) ∧
  (∀ y, y < 16 → bt s y = true → ∃ k, k < tc_cn s 16 ∧ lc (16 * a + k) = nI y)
def tc_Q (le ra wa ls lc lo mY rY wY vY : Nat → Int32) (L : Nat → Nat) (N : Nat → Int32) : Prop :=
  tc_LV le L ∧
  (∀ c l, c < 4 → l < L c → ra (3 * c + l) = rY (4 * c + (l + 1)) ∧ wa (3 * c + l) = wY (4 * c + (l + 1)) ∧ tc_LG ls lc lo (3 * c + l) (wY (4 * c + (l + 1))) (fun y => tc_vw mY wY vY c y l)) ∧
  (∀ c x, c < 4 → x < 16 → tc_WR wY L c x → N x = tc_vw mY wY vY c x (L c)) ∧
  (∀ x, x < 16 → (∀ c, c < 4 → ¬ tc_WR wY L c x) → N x = mY x) ∧
  (∀ c d x, c < 4 → d < 4 → x < 16 → tc_WR wY L c x → tc_WR wY L d x → c = d)
section
variable {le ra wa ls lc lo mY rY wY vY N : Nat → Int32} {L : Nat → Nat}
theorem tc_vw_eq {m' w' v' : Nat → Int32} {c x : Nat} : ∀ n, m' x = mY x → (∀ j, j < n → bt (w' (4 * c + (j + 1))) x = bt (wY (4 * c + (j + 1))) x) →
    (∀ j, j < n → bt (wY (4 * c + (j + 1))) x = true → v' (16 * (4 * c + (j + 1)) + x) = vY (16 * (4 * c + (j + 1)) + x)) → tc_vw m' w' v' c x n = tc_vw mY wY vY c x n := by
  intro n
  induction n with
  | zero => intro h _ _; exact h
  | succ n ih =>
    intro h hw hv
    have i := ih h (fun j hj => hw j (by omega)) (fun j hj => hv j (by omega))
    show (if bt (w' (4 * c + (n + 1))) x = true then v' (16 * (4 * c + (n + 1)) + x) else tc_vw m' w' v' c x n) = (if bt (wY (4 * c + (n + 1))) x = true then vY (16 * (4 * c + (n + 1)) + x) else tc_vw mY wY vY c x n)
    rw [hw n (by omega), i]
    by_cases g : bt (wY (4 * c + (n + 1))) x = true
    · rw [if_pos g, if_pos g, hv n (by omega) g]
    · rw [if_neg g, if_neg g]
theorem tc_vw_t {c x l : Nat} (g : bt (wY (4 * c + (l + 1))) x = true) : tc_vw mY wY vY c x (l + 1) = vY (16 * (4 * c + (l + 1)) + x) := if_pos g
theorem tc_vw_f {c x l : Nat} (g : ¬ bt (wY (4 * c + (l + 1))) x = true) : tc_vw mY wY vY c x (l + 1) = tc_vw mY wY vY c x l := if_neg g
theorem tc_vw_0 {c x : Nat} : ∀ n, (∀ j, j < n → ¬ bt (wY (4 * c + (j + 1))) x = true) → tc_vw mY wY vY c x n = mY x := by
  intro n
  induction n with
  | zero => intro _; rfl
  | succ n ih =>
    intro h
    rw [tc_vw_f (h n (by omega))]
    exact ih (fun j hj => h j (by omega))
theorem tc_LG_eq {ls' lc' lo' o o' : Nat → Int32} {a : Nat} {s : Int32} (h : tc_LG ls lc lo a s o) (h1 : ls' a = ls a) (h2 : ∀ k, k < 16 → lc' (16 * a + k) = lc (16 * a + k) ∧ lo' (16 * a + k) = lo (16 * a + k))
    (h3 : ∀ y, y < 16 → bt s y = true → o' y = o y) : tc_LG ls' lc' lo' a s o' := by
  have z := tc_cn_le s 16
  refine ⟨by rw [h1]; exact h.1, fun k hk => ?_, fun y hy hb => ?_⟩
  · obtain ⟨y, hy, e1, hb, e2⟩ := h.2.1 k hk
    exact ⟨y, hy, by rw [(h2 k (by omega)).1]; exact e1, hb, by rw [(h2 k (by omega)).2, e2, h3 y hy hb]⟩
  · obtain ⟨k, hk, e1⟩ := h.2.2 y hy hb
    exact ⟨k, hk, by rw [(h2 k (by omega)).1]; exact e1⟩
theorem tc_LG_0 {o : Nat → Int32} {a : Nat} (h : ls a = 0) : tc_LG ls lc lo a 0 o := by
  unfold tc_LG
  rw [tc_cn_0]
  refine ⟨h, fun k hk => absurd hk (Nat.not_lt_zero k), fun y _ hb => ?_⟩
  rw [b_0] at hb
  cases hb
theorem tc_LG_add {o : Nat → Int32} {a x : Nat} {s : Int32} (h : tc_LG ls lc lo a s o) (hx : x < 16) (hb : ¬ bt s x = true) :
    tc_LG (upd ls a (nI (tc_cn s 16 + 1))) (upd lc (16 * a + tc_cn s 16) (nI x)) (upd lo (16 * a + tc_cn s 16) (o x)) a (s ||| tc_b x) o := by
  unfold tc_LG
  rw [tc_cn16 hx hb]
  refine ⟨pk_us, fun k hk => ?_, fun y hy hy2 => ?_⟩
  · by_cases q : k = tc_cn s 16
    · subst q
      exact ⟨x, hx, pk_us, by rw [tc_bor s (by omega) (by omega)]; simp, pk_us⟩
    · obtain ⟨y, hy, e1, e2, e3⟩ := h.2.1 k (by omega)
      have n : 16 * a + k ≠ 16 * a + tc_cn s 16 := by omega
      exact ⟨y, hy, by rw [pk_un n]; exact e1, by rw [tc_bor s (by omega) (by omega), e2]; rfl, by rw [pk_un n]; exact e3⟩
  · by_cases q : y = x
    · subst q
      exact ⟨tc_cn s 16, by omega, pk_us⟩
    · rw [tc_bor s (by omega) (by omega)] at hy2
      have e : bt s y = true := by simpa [q] using hy2
      obtain ⟨k, hk, e1⟩ := h.2.2 y hy e
      exact ⟨k, by omega, by rw [pk_un (show 16 * a + k ≠ 16 * a + tc_cn s 16 by omega)]; exact e1⟩
/-! the relation's parts -/
theorem tc_qw (Q : tc_Q le ra wa ls lc lo mY rY wY vY L N) {c : Nat} (hc : c < 4) : tc_sX wa L c = tc_sY wY L c := tc_or_eq _ (fun l hl => (Q.2.1 c l hc hl).2.1)
theorem tc_qr (Q : tc_Q le ra wa ls lc lo mY rY wY vY L N) {c : Nat} (hc : c < 4) : tc_sX ra L c = tc_sY rY L c := tc_or_eq _ (fun l hl => (Q.2.1 c l hc hl).1)
theorem tc_wr (x c : Nat) : bt (tc_sY wY L c) x = true ↔ tc_WR wY L c x := tc_or_bt _ x _
theorem tc_qN (Q : tc_Q le ra wa ls lc lo mY rY wY vY L N) {c x : Nat} (hc : c < 4) (hx : x < 16) (h : ∀ d, d < 4 → d ≠ c → ¬ tc_WR wY L d x) : N x = tc_vw mY wY vY c x (L c) := by
  by_cases g : tc_WR wY L c x
  · exact Q.2.2.1 c x hc hx g
  · rw [tc_vw_0 (L c) (fun j hj hb => g ⟨j, hj, hb⟩)]
    refine Q.2.2.2.1 x hx (fun d hd => ?_)
    by_cases e : d = c
    · subst e; exact g
    · exact h d hd e
theorem tc_Q0 : tc_Q (fun _ => 0) (fun _ => 0) (fun _ => 0) (fun _ => 0) (fun _ => 0) (fun _ => 0) (fun _ => 0) (fun _ => 0) (fun _ => 0) (fun _ => 0) (fun _ => 0) (fun _ => 0) := by
  refine ⟨fun c _ => ⟨Nat.zero_le 3, rfl⟩, fun c l _ hl => absurd hl (Nat.not_lt_zero l), ?_, fun x _ _ => rfl, ?_⟩
  · rintro c x _ _ ⟨l, hl, _⟩
    exact absurd hl (Nat.not_lt_zero l)
  · rintro c d x _ _ _ ⟨l, hl, _⟩
    exact absurd hl (Nat.not_lt_zero l)
theorem tc_Qbegin (Q : tc_Q le ra wa ls lc lo mY rY wY vY L N) {c l : Nat} (hc : c < 4) (el : L c = l) (hl : l < 3) :
    tc_Q (upd le c (nI (l + 1))) (upd ra (3 * c + l) 0) (upd wa (3 * c + l) 0) (upd ls (3 * c + l) 0) lc lo mY (upd rY (4 * c + (l + 1)) 0) (upd wY (4 * c + (l + 1)) 0) vY (tc_up L c (l + 1)) N := by
  obtain ⟨V, Q2, Q3, Q4, Q5⟩ := Q
  have wne : ∀ d j, d < 4 → j < L d → 4 * d + (j + 1) ≠ 4 * c + (l + 1) := by
    intro d j hd hj q
    have := (V d hd).1
    have e : d = c := by omega
    subst e
    omega
  have HV : ∀ d x, d < 4 → ∀ n, n ≤ L d → tc_vw mY (upd wY (4 * c + (l + 1)) 0) vY d x n = tc_vw mY wY vY d x n := by
    intro d x hd n hn
    refine tc_vw_eq n rfl (fun j hj => ?_) (fun _ _ _ => rfl)
    rw [pk_un (wne d j hd (by omega))]
  have HW : ∀ d x, d < 4 → tc_WR (upd wY (4 * c + (l + 1)) 0) (tc_up L c (l + 1)) d x → tc_WR wY L d x := by
    rintro d x hd ⟨j, hj, hb⟩
    by_cases e : d = c
    · subst e
      rw [tc_ps] at hj
      by_cases q : j = l
      · subst q
        rw [pk_us, b_0] at hb
        cases hb
      · rw [pk_un (show 4 * d + (j + 1) ≠ 4 * d + (l + 1) by omega)] at hb
        exact ⟨j, by omega, hb⟩
    · rw [tc_pn e] at hj
      rw [pk_un (wne d j hd hj)] at hb
      exact ⟨j, hj, hb⟩
  have HK : ∀ d x, d < 4 → tc_WR wY L d x → tc_WR (upd wY (4 * c + (l + 1)) 0) (tc_up L c (l + 1)) d x := by
    rintro d x hd ⟨j, hj, hb⟩
    refine ⟨j, ?_, by rw [pk_un (wne d j hd hj)]; exact hb⟩
    by_cases e : d = c
    · subst e; rw [tc_ps]; omega
    · rw [tc_pn e]; exact hj
  refine ⟨?_, ?_, ?_, ?_, ?_⟩
  · intro d hd
    by_cases e : d = c
    · subst e; rw [tc_ps, pk_us]; exact ⟨by omega, rfl⟩
    · rw [tc_pn e, pk_un e]; exact V d hd
  · intro d j hd hj
    by_cases q : d = c ∧ j = l
    · obtain ⟨q1, q2⟩ := q
      subst q1; subst q2
      rw [pk_us, pk_us, pk_us, pk_us]
      exact ⟨rfl, rfl, tc_LG_0 pk_us⟩
    · have hj' : j < L d := by
        by_cases e : d = c
        · subst e
          rw [tc_ps] at hj
          have : j ≠ l := fun z => q ⟨rfl, z⟩
          omega
        · rw [tc_pn e] at hj; exact hj
      have b1 := (V d hd).1
      have n3 : 3 * d + j ≠ 3 * c + l := by
        intro z
        exact q ⟨by omega, by omega⟩
      have n4 := wne d j hd hj'
      rw [pk_un n3, pk_un n3, pk_un n4, pk_un n4]
      obtain ⟨r1, r2, r3⟩ := Q2 d j hd hj'
      exact ⟨r1, r2, tc_LG_eq r3 (pk_un n3) (fun k _ => ⟨rfl, rfl⟩) (fun y _ _ => HV d y hd j (by omega))⟩
  · intro d x hd hx h
    have h' := HW d x hd h
    rw [Q3 d x hd hx h']
    by_cases e : d = c
    · subst e
      rw [tc_ps, tc_vw_f (by rw [pk_us, b_0]; decide), el]
      exact (HV d x hd l (by omega)).symm
    · rw [tc_pn e]
      exact (HV d x hd (L d) (by omega)).symm
  · intro x hx h
    exact Q4 x hx (fun d hd z => h d hd (HK d x hd z))
  · intro d e x hd he hx h1 h2
    exact Q5 d e x hd he hx (HW d x hd h1) (HW e x he h2)
theorem tc_Qread (Q : tc_Q le ra wa ls lc lo mY rY wY vY L N) {c l x : Nat} (hc : c < 4) (el : L c = l + 1) :
    tc_Q le (upd ra (3 * c + l) (ra (3 * c + l) ||| tc_b x)) wa ls lc lo mY (upd rY (4 * c + (l + 1)) (rY (4 * c + (l + 1)) ||| tc_b x)) wY vY L N := by
  obtain ⟨V, Q2, Q3, Q4, Q5⟩ := Q
  refine ⟨V, ?_, Q3, Q4, Q5⟩
  intro d j hd hj
  obtain ⟨r1, r2, r3⟩ := Q2 d j hd hj
  refine ⟨?_, r2, r3⟩
  by_cases q : d = c ∧ j = l
  · obtain ⟨q1, q2⟩ := q
    subst q1; subst q2
    rw [pk_us, pk_us, r1]
  · have b1 := (V d hd).1
    have b2 := (V c hc).1
    have n3 : 3 * d + j ≠ 3 * c + l := by
      intro z
      exact q ⟨by omega, by omega⟩
    have n4 : 4 * d + (j + 1) ≠ 4 * c + (l + 1) := by
      intro z
      exact q ⟨by omega, by omega⟩
    rw [pk_un n3, pk_un n4]
    exact r1
theorem tc_Qw0 (Q : tc_Q le ra wa ls lc lo mY rY wY vY L N) {c x : Nat} (v : Int32) (hc : c < 4) (hx : x < 16) (el : L c = 0) (h : ∀ d, d < 4 → d ≠ c → ¬ tc_WR wY L d x) :
    tc_Q le ra wa ls lc lo (upd mY x v) rY wY vY L (upd N x v) := by
  obtain ⟨V, Q2, Q3, Q4, Q5⟩ := Q
  have hn : ∀ d, d < 4 → ¬ tc_WR wY L d x := by
    intro d hd
    by_cases e : d = c
    · subst e
      rintro ⟨j, hj, _⟩
      omega
    · exact h d hd e
  have HV : ∀ d y n, y ≠ x → tc_vw (upd mY x v) wY vY d y n = tc_vw mY wY vY d y n := by
    intro d y n e
    exact tc_vw_eq n (pk_un e) (fun _ _ => rfl) (fun _ _ _ => rfl)
  refine ⟨V, ?_, ?_, ?_, Q5⟩
  · intro d j hd hj
    obtain ⟨r1, r2, r3⟩ := Q2 d j hd hj
    refine ⟨r1, r2, tc_LG_eq r3 rfl (fun _ _ => ⟨rfl, rfl⟩) (fun y hy hb => ?_)⟩
    exact HV d y j (fun z => hn d hd ⟨j, hj, by rw [← z]; exact hb⟩)
  · intro d y hd hy hw
    have e : y ≠ x := fun z => hn d hd (by rw [← z]; exact hw)
    rw [pk_un e, HV d y _ e]
    exact Q3 d y hd hy hw
  · intro y hy hw
    by_cases e : y = x
    · subst e; rw [pk_us, pk_us]
    · rw [pk_un e, pk_un e]; exact Q4 y hy hw
theorem tc_QwL (Q : tc_Q le ra wa ls lc lo mY rY wY vY L N) {c l x : Nat} (v : Int32) (hc : c < 4) (hx : x < 16) (el : L c = l + 1) (h : ∀ d, d < 4 → d ≠ c → ¬ tc_WR wY L d x)
    {wa' ls' lc' lo' : Nat → Int32} (hwa : wa' (3 * c + l) = wY (4 * c + (l + 1)) ||| tc_b x) (hlog : tc_LG ls' lc' lo' (3 * c + l) (wY (4 * c + (l + 1)) ||| tc_b x) (fun y => tc_vw mY wY vY c y l))
    (hoth : ∀ a, a ≠ 3 * c + l → wa' a = wa a ∧ ls' a = ls a ∧ ∀ k, k < 16 → lc' (16 * a + k) = lc (16 * a + k) ∧ lo' (16 * a + k) = lo (16 * a + k)) :
    tc_Q le ra wa' ls' lc' lo' mY rY (upd wY (4 * c + (l + 1)) (wY (4 * c + (l + 1)) ||| tc_b x)) (upd vY (16 * (4 * c + (l + 1)) + x) v) L (upd N x v) := by
  obtain ⟨V, Q2, Q3, Q4, Q5⟩ := Q
  have b2 := (V c hc).1
  have wne : ∀ d j, d < 4 → j < L d → ¬ (d = c ∧ j = l) → 4 * d + (j + 1) ≠ 4 * c + (l + 1) := by
    intro d j hd hj q z
    have := (V d hd).1
    exact q ⟨by omega, by omega⟩
  have HB : ∀ d j y, d < 4 → j < L d → y < 16 → ¬ (d = c ∧ y = x) → bt (upd wY (4 * c + (l + 1)) (wY (4 * c + (l + 1)) ||| tc_b x) (4 * d + (j + 1))) y = bt (wY (4 * d + (j + 1))) y := by
    intro d j y hd hj hy q
    by_cases e : d = c ∧ j = l
    · obtain ⟨q1, q2⟩ := e
      subst q1; subst q2
      rw [pk_us, tc_bor _ (by omega) (by omega)]
      have : y ≠ x := fun z => q ⟨rfl, z⟩
      simp [this]
    · rw [pk_un (wne d j hd hj e)]
  have HV : ∀ d y n, d < 4 → y < 16 → n ≤ L d → ¬ (d = c ∧ y = x) → tc_vw mY (upd wY (4 * c + (l + 1)) (wY (4 * c + (l + 1)) ||| tc_b x)) (upd vY (16 * (4 * c + (l + 1)) + x) v) d y n = tc_vw mY wY vY d y n := by
    intro d y n hd hy hn q
    refine tc_vw_eq n rfl (fun j hj => HB d j y hd (by omega) hy q) (fun j hj _ => pk_un ?_)
    intro z
    have := (V d hd).1
    exact q ⟨by omega, by omega⟩
  have HVl : ∀ y, y < 16 → tc_vw mY (upd wY (4 * c + (l + 1)) (wY (4 * c + (l + 1)) ||| tc_b x)) (upd vY (16 * (4 * c + (l + 1)) + x) v) c y l = tc_vw mY wY vY c y l := by
    intro y hy
    refine tc_vw_eq l rfl (fun j hj => ?_) (fun j hj _ => pk_un (by omega))
    rw [pk_un (show 4 * c + (j + 1) ≠ 4 * c + (l + 1) by omega)]
  have HW : ∀ d y, d < 4 → y < 16 → ¬ (d = c ∧ y = x) → (tc_WR (upd wY (4 * c + (l + 1)) (wY (4 * c + (l + 1)) ||| tc_b x)) L d y ↔ tc_WR wY L d y) := by
    intro d y hd hy q
    constructor
    · rintro ⟨j, hj, hb⟩
      exact ⟨j, hj, by rw [← HB d j y hd hj hy q]; exact hb⟩
    · rintro ⟨j, hj, hb⟩
      exact ⟨j, hj, by rw [HB d j y hd hj hy q]; exact hb⟩
  have Hx : ∀ d, d < 4 → tc_WR (upd wY (4 * c + (l + 1)) (wY (4 * c + (l + 1)) ||| tc_b x)) L d x → d = c := by
    intro d hd hw
    by_cases e : d = c
    · exact e
    · exact absurd ((HW d x hd hx (fun z => e z.1)).mp hw) (h d hd e)
  have Hc : tc_WR (upd wY (4 * c + (l + 1)) (wY (4 * c + (l + 1)) ||| tc_b x)) L c x := by
    refine ⟨l, by omega, ?_⟩
    rw [pk_us, tc_bor _ (by omega) (by omega)]
    simp
  refine ⟨V, ?_, ?_, ?_, ?_⟩
  · intro d j hd hj
    obtain ⟨r1, r2, r3⟩ := Q2 d j hd hj
    by_cases q : d = c ∧ j = l
    · obtain ⟨q1, q2⟩ := q
      subst q1; subst q2
      rw [pk_us]
      exact ⟨r1, hwa, tc_LG_eq hlog rfl (fun _ _ => ⟨rfl, rfl⟩) (fun y hy _ => HVl y hy)⟩
    · have b1 := (V d hd).1
      have n3 : 3 * d + j ≠ 3 * c + l := by
        intro z
        exact q ⟨by omega, by omega⟩
      rw [pk_un (wne d j hd hj q), (hoth _ n3).1]
      refine ⟨r1, r2, tc_LG_eq r3 (hoth _ n3).2.1 (hoth _ n3).2.2 (fun y hy hb => ?_)⟩
      by_cases g : d = c
      · subst g
        have : j < l := by
          have : j ≠ l := fun z => q ⟨rfl, z⟩
          omega
        refine tc_vw_eq j rfl (fun i hi => ?_) (fun i hi _ => pk_un (by omega))
        rw [pk_un (show 4 * d + (i + 1) ≠ 4 * d + (l + 1) by omega)]
      · exact HV d y j hd hy (by omega) (fun z => g z.1)
  · intro d y hd hy hw
    by_cases q : y = x
    · subst q
      have e := Hx d hd hw
      subst e
      rw [pk_us, el, tc_vw_t (by rw [pk_us, tc_bor _ (by omega) (by omega)]; simp), pk_us]
    · rw [pk_un q, HV d y _ hd hy (Nat.le_refl _) (fun z => q z.2)]
      exact Q3 d y hd hy ((HW d y hd hy (fun z => q z.2)).mp hw)
  · intro y hy hw
    by_cases q : y = x
    · subst q
      exact absurd Hc (hw c hc)
    · rw [pk_un q]
      exact Q4 y hy (fun d hd z => hw d hd ((HW d y hd hy (fun z => q z.2)).mpr z))
  · intro d e y hd he hy h1 h2
    by_cases q : y = x
    · subst q
      rw [Hx d hd h1, Hx e he h2]
    · exact Q5 d e y hd he hy ((HW d y hd hy (fun z => q z.2)).mp h1) ((HW e y he hy (fun z => q z.2)).mp h2)
theorem tc_Qend0 (Q : tc_Q le ra wa ls lc lo mY rY wY vY L N) {c : Nat} (hc : c < 4) (el : L c = 1) {m' : Nat → Int32}
    (hm : ∀ y, y < 16 → m' y = if bt (wY (4 * c + 1)) y = true then vY (16 * (4 * c + 1) + y) else mY y) :
    tc_Q (upd le c (nI 0)) ra wa ls lc lo m' rY wY vY (tc_up L c 0) N := by
  obtain ⟨V, Q2, Q3, Q4, Q5⟩ := Q
  have Hc : ∀ y, tc_WR wY L c y ↔ bt (wY (4 * c + 1)) y = true := by
    intro y
    constructor
    · rintro ⟨j, hj, hb⟩
      have : j = 0 := by omega
      subst this
      exact hb
    · intro hb
      exact ⟨0, by omega, hb⟩
  have HW : ∀ d y, tc_WR wY (tc_up L c 0) d y → d ≠ c ∧ tc_WR wY L d y := by
    rintro d y ⟨j, hj, hb⟩
    by_cases e : d = c
    · subst e; rw [tc_ps] at hj; exact absurd hj (Nat.not_lt_zero j)
    · rw [tc_pn e] at hj; exact ⟨e, j, hj, hb⟩
  have HM : ∀ d y, d < 4 → y < 16 → d ≠ c → tc_WR wY L d y → m' y = mY y := by
    intro d y hd hy e hw
    rw [hm y hy, if_neg]
    intro hb
    exact e (Q5 d c y hd hc hy hw ((Hc y).mpr hb))
  refine ⟨?_, ?_, ?_, ?_, ?_⟩
  · intro d hd
    by_cases e : d = c
    · subst e; rw [tc_ps, pk_us]; exact ⟨by omega, rfl⟩
    · rw [tc_pn e, pk_un e]; exact V d hd
  · intro d j hd hj
    have e : d ≠ c := by
      intro e
      subst e; rw [tc_ps] at hj; exact absurd hj (Nat.not_lt_zero j)
    rw [tc_pn e] at hj
    obtain ⟨r1, r2, r3⟩ := Q2 d j hd hj
    exact ⟨r1, r2, tc_LG_eq r3 rfl (fun _ _ => ⟨rfl, rfl⟩) (fun y hy hb => tc_vw_eq j (HM d y hd hy e ⟨j, hj, hb⟩) (fun _ _ => rfl) (fun _ _ _ => rfl))⟩
  · intro d y hd hy hw
    obtain ⟨e, hw'⟩ := HW d y hw
    rw [Q3 d y hd hy hw', tc_pn e]
    exact (tc_vw_eq _ (HM d y hd hy e hw') (fun _ _ => rfl) (fun _ _ _ => rfl)).symm
  · intro y hy hw
    rw [hm y hy]
    by_cases g : bt (wY (4 * c + 1)) y = true
    · rw [if_pos g, Q3 c y hc hy ((Hc y).mpr g), el]
      exact tc_vw_t (l := 0) g
    · rw [if_neg g]
      refine Q4 y hy (fun d hd z => ?_)
      by_cases e : d = c
      · subst e; exact g ((Hc y).mp z)
      · obtain ⟨j, hj, hb⟩ := z
        exact hw d hd ⟨j, by rw [tc_pn e]; exact hj, hb⟩
  · intro d e y hd he hy h1 h2
    exact Q5 d e y hd he hy (HW d y h1).2 (HW e y h2).2
theorem tc_QendL (Q : tc_Q le ra wa ls lc lo mY rY wY vY L N) {c m : Nat} (hc : c < 4) (el : L c = m + 2) {wa' ls' lc' lo' w' v' : Nat → Int32} {u : Int32}
    (hu : ∀ y, y < 16 → (bt u y = true ↔ bt (wY (4 * c + (m + 1))) y = true ∨ bt (wY (4 * c + (m + 2))) y = true))
    (hwa : wa' (3 * c + m) = u) (hw : w' (4 * c + (m + 1)) = u) (hwn : ∀ a, a ≠ 4 * c + (m + 1) → w' a = wY a)
    (hv1 : ∀ y, y < 16 → bt (wY (4 * c + (m + 2))) y = true → v' (16 * (4 * c + (m + 1)) + y) = vY (16 * (4 * c + (m + 2)) + y))
    (hv2 : ∀ y, y < 16 → ¬ bt (wY (4 * c + (m + 2))) y = true → v' (16 * (4 * c + (m + 1)) + y) = vY (16 * (4 * c + (m + 1)) + y))
    (hv3 : ∀ a y, y < 16 → a ≠ 4 * c + (m + 1) → v' (16 * a + y) = vY (16 * a + y))
    (hlog : tc_LG ls' lc' lo' (3 * c + m) u (fun y => tc_vw mY wY vY c y m))
    (hoth : ∀ a, a ≠ 3 * c + m → wa' a = wa a ∧ ls' a = ls a ∧ ∀ k, k < 16 → lc' (16 * a + k) = lc (16 * a + k) ∧ lo' (16 * a + k) = lo (16 * a + k)) :
    tc_Q (upd le c (nI (m + 1))) (upd ra (3 * c + m) (ra (3 * c + m) ||| ra (3 * c + (m + 1)))) wa' ls' lc' lo' mY (upd rY (4 * c + (m + 1)) (rY (4 * c + (m + 1)) ||| rY (4 * c + (m + 2)))) w' v' (tc_up L c (m + 1)) N := by
  obtain ⟨V, Q2, Q3, Q4, Q5⟩ := Q
  have b2 := (V c hc).1
  have wne : ∀ d j, d < 4 → j < L d → ¬ (d = c ∧ j = m) → 4 * d + (j + 1) ≠ 4 * c + (m + 1) := by
    intro d j hd hj q z
    have := (V d hd).1
    exact q ⟨by omega, by omega⟩
  have HV : ∀ d y n, d < 4 → y < 16 → n ≤ L d → (d = c → n ≤ m) → tc_vw mY w' v' d y n = tc_vw mY wY vY d y n := by
    intro d y n hd hy hn q
    have ne : ∀ j, j < n → 4 * d + (j + 1) ≠ 4 * c + (m + 1) := by
      intro j hj
      refine wne d j hd (by omega) (fun z => ?_)
      have := q z.1
      omega
    exact tc_vw_eq n rfl (fun j hj => by rw [hwn _ (ne j hj)]) (fun j hj _ => hv3 _ y hy (ne j hj))
  have HVm : ∀ y, y < 16 → tc_vw mY w' v' c y (m + 1) = tc_vw mY wY vY c y (m + 2) := by
    intro y hy
    by_cases g : bt (wY (4 * c + (m + 2))) y = true
    · rw [tc_vw_t (l := m + 1) g, tc_vw_t (l := m) (by rw [hw]; exact (hu y hy).mpr (Or.inr g))]
      exact hv1 y hy g
    · rw [tc_vw_f (l := m + 1) g]
      by_cases g1 : bt (wY (4 * c + (m + 1))) y = true
      · rw [tc_vw_t (l := m) g1, tc_vw_t (l := m) (by rw [hw]; exact (hu y hy).mpr (Or.inl g1))]
        exact hv2 y hy g
      · rw [tc_vw_f (l := m) g1, tc_vw_f (l := m) (by rw [hw]; exact fun z => ((hu y hy).mp z).elim g1 g)]
        exact HV c y m hc hy (by omega) (fun _ => Nat.le_refl m)
  have HW : ∀ d y, d < 4 → y < 16 → (tc_WR w' (tc_up L c (m + 1)) d y ↔ tc_WR wY L d y) := by
    intro d y hd hy
    by_cases e : d = c
    · subst e
      constructor
      · rintro ⟨j, hj, hb⟩
        rw [tc_ps] at hj
        by_cases q : j = m
        · subst q
          rw [hw] at hb
          rcases (hu y hy).mp hb with z | z
          · exact ⟨j, by omega, z⟩
          · exact ⟨j + 1, by omega, z⟩
        · rw [hwn _ (show 4 * d + (j + 1) ≠ 4 * d + (m + 1) by omega)] at hb
          exact ⟨j, by omega, hb⟩
      · rintro ⟨j, hj, hb⟩
        by_cases q : j < m
        · exact ⟨j, by rw [tc_ps]; omega, by rw [hwn _ (show 4 * d + (j + 1) ≠ 4 * d + (m + 1) by omega)]; exact hb⟩
        · refine ⟨m, by rw [tc_ps]; omega, ?_⟩
          rw [hw]
          by_cases q2 : j = m
          · subst q2; exact (hu y hy).mpr (Or.inl hb)
          · have : j = m + 1 := by omega
            subst this
            exact (hu y hy).mpr (Or.inr hb)
    · constructor
      · rintro ⟨j, hj, hb⟩
        rw [tc_pn e] at hj
        rw [hwn _ (wne d j hd hj (fun z => e z.1))] at hb
        exact ⟨j, hj, hb⟩
      · rintro ⟨j, hj, hb⟩
        exact ⟨j, by rw [tc_pn e]; exact hj, by rw [hwn _ (wne d j hd hj (fun z => e z.1))]; exact hb⟩
  refine ⟨?_, ?_, ?_, ?_, ?_⟩
  · intro d hd
    by_cases e : d = c
    · subst e; rw [tc_ps, pk_us]; exact ⟨by omega, rfl⟩
    · rw [tc_pn e, pk_un e]; exact V d hd
  · intro d j hd hj
    have hj' : j < L d := by
      by_cases e : d = c
      · subst e; rw [tc_ps] at hj; omega
      · rw [tc_pn e] at hj; exact hj
    obtain ⟨r1, r2, r3⟩ := Q2 d j hd hj'
    by_cases q : d = c ∧ j = m
    · obtain ⟨q1, q2⟩ := q
      subst q1; subst q2
      rw [pk_us, pk_us, hw, r1, (Q2 d (j + 1) hd (by omega)).1]
      exact ⟨rfl, hwa, tc_LG_eq hlog rfl (fun _ _ => ⟨rfl, rfl⟩) (fun y hy _ => HV d y j hd hy (by omega) (fun _ => Nat.le_refl j))⟩
    · have b1 := (V d hd).1
      have n3 : 3 * d + j ≠ 3 * c + m := by
        intro z
        exact q ⟨by omega, by omega⟩
      have n4 := wne d j hd hj' q
      rw [pk_un n3, pk_un n4, hwn _ n4, (hoth _ n3).1]
      refine ⟨r1, r2, tc_LG_eq r3 (hoth _ n3).2.1 (hoth _ n3).2.2 (fun y hy hb => HV d y j hd hy (by omega) (fun e => ?_))⟩
      subst e
      rw [tc_ps] at hj
      omega
  · intro d y hd hy h
    rw [Q3 d y hd hy ((HW d y hd hy).mp h)]
    by_cases e : d = c
    · subst e
      rw [tc_ps, el, HVm y hy]
    · rw [tc_pn e]
      exact (HV d y _ hd hy (Nat.le_refl _) (fun z => absurd z e)).symm
  · intro y hy h
    exact Q4 y hy (fun d hd z => h d hd ((HW d y hd hy).mpr z))
  · intro d e y hd he hy h1 h2
    exact Q5 d e y hd he hy ((HW d y hd hy).mp h1) ((HW e y he hy).mp h2)
theorem tc_Qundo (Q : tc_Q le ra wa ls lc lo mY rY wY vY L N) {c l : Nat} (hc : c < 4) (el : L c = l + 1) {N' : Nat → Int32}
    (h1 : ∀ y, y < 16 → bt (wY (4 * c + (l + 1))) y = true → N' y = tc_vw mY wY vY c y l) (h2 : ∀ y, y < 16 → ¬ bt (wY (4 * c + (l + 1))) y = true → N' y = N y) :
    tc_Q (upd le c (nI l)) ra wa ls lc lo mY rY wY vY (tc_up L c l) N' := by
  obtain ⟨V, Q2, Q3, Q4, Q5⟩ := Q
  have b2 := (V c hc).1
  have HL : ∀ d j, j < tc_up L c l d → j < L d := by
    intro d j hj
    by_cases e : d = c
    · subst e; rw [tc_ps] at hj; omega
    · rw [tc_pn e] at hj; exact hj
  have HW : ∀ d y, tc_WR wY (tc_up L c l) d y → tc_WR wY L d y := by
    rintro d y ⟨j, hj, hb⟩
    exact ⟨j, HL d j hj, hb⟩
  refine ⟨?_, ?_, ?_, ?_, ?_⟩
  · intro d hd
    by_cases e : d = c
    · subst e; rw [tc_ps, pk_us]; exact ⟨by omega, rfl⟩
    · rw [tc_pn e, pk_un e]; exact V d hd
  · intro d j hd hj
    exact Q2 d j hd (HL d j hj)
  · intro d y hd hy h
    have h' := HW d y h
    by_cases e : d = c
    · subst e
      rw [tc_ps]
      by_cases g : bt (wY (4 * d + (l + 1))) y = true
      · exact h1 y hy g
      · rw [h2 y hy g, Q3 d y hd hy h', el, tc_vw_f g]
    · rw [tc_pn e, h2 y hy (fun g => e (Q5 d c y hd hc hy h' ⟨l, by omega, g⟩))]
      exact Q3 d y hd hy h'
  · intro y hy h
    by_cases g : bt (wY (4 * c + (l + 1))) y = true
    · rw [h1 y hy g]
      exact tc_vw_0 l (fun j hj hb => h c hc ⟨j, by rw [tc_ps]; exact hj, hb⟩)
    · rw [h2 y hy g]
      refine Q4 y hy ?_
      rintro d hd ⟨j, hj, hb⟩
      by_cases e : d = c
      · subst e
        by_cases q : j = l
        · subst q; exact g hb
        · exact h d hd ⟨j, by rw [tc_ps]; omega, hb⟩
      · exact h d hd ⟨j, by rw [tc_pn e]; exact hj, hb⟩
  · intro d e y hd he hy k1 k2
    exact Q5 d e y hd he hy (HW d y k1) (HW e y k2)
end
end
section
/-! the walks of X over levels and logs -/
section
variable {me ta st da le ra wa ls lc lo mY rY wY vY N : Nat → Int32} {L : Nat → Nat}
theorem hx_bef22 {post : Int32 → Prop} {J : Int32 → Prop} {c x l a : Nat} {s : Int32} {o : Nat → Int32} (G : tc_LG ls lc lo a s o) (ha : a < 12) (hx : x < 16)
    (h1 : bt s x = true → post (o x)) (h0 : ¬ bt s x = true → J (nI (l + 1))) :
    ∀ d k n, k + d = tc_cn s 16 → d < n → (∀ i, i < k → lc (16 * a + i) ≠ nI x) → wX_before_22 post J (nI c) (nI x) (nI l) (nI a) me ta st da le ra wa ls lc lo n (nI k) := by
  have z := tc_cn_le s 16
  intro d
  induction d with
  | zero =>
    intro k n hk hn hp
    obtain ⟨n, rfl⟩ : ∃ m, n = m + 1 := ⟨n - 1, by omega⟩
    rw [wX_before_22]
    refine ⟨vp_in_nI ha (by decide), ?_⟩
    rw [nI_clamp (show a < 2 ^ 31 by omega), G.1]
    refine br_t (nI_le (by omega) (by omega)) (nm_r (nI_1 l) (h0 (fun hb => ?_)))
    obtain ⟨i, hi, e⟩ := G.2.2 x hx hb
    exact hp i (by omega) e
  | succ d ih =>
    intro k n hk hn hp
    obtain ⟨n, rfl⟩ : ∃ m, n = m + 1 := ⟨n - 1, by omega⟩
    rw [wX_before_22]
    refine ⟨vp_in_nI ha (by decide), ?_⟩
    obtain ⟨y, hy, e1, hb, e2⟩ := G.2.1 k (by omega)
    rw [nI_clamp (show a < 2 ^ 31 by omega), G.1, tc_ixA, nI_clamp (show 16 * a + k < 2 ^ 31 by omega), e1, e2]
    have hi : vp_in (nI (16 * a + k)) 192 := vp_in_nI (by omega) (by decide)
    refine br_f (nI_ge (by omega) (by omega)) ⟨hi, pk_eq y x (fun e => ⟨hi, ?_⟩) (fun e => nm_r (nI_1 k) (ih (k + 1) n (by omega) (by omega) ?_))⟩
    · subst e; exact h1 hb
    · intro i hi2 e3
      by_cases q : i = k
      · subst q
        rw [e1] at e3
        exact e (tc_inj hy hx e3)
      · exact hp i (by omega) e3
theorem hx_befL {post : Int32 → Prop} (Q : tc_Q le ra wa ls lc lo mY rY wY vY L N) {c x : Nat} (hc : c < 4) (hx : x < 16) (W : tc_WR wY L c x) (h : post (mY x)) :
    ∀ d l n, l + d = L c → d < n → (∀ j, j < l → ¬ bt (wY (4 * c + (j + 1))) x = true) → wX_before_2 post (nI c) (nI x) me ta st da le ra wa ls lc lo n (nI l) := by
  have b := (Q.1 c hc).1
  intro d
  induction d with
  | zero =>
    intro l n hl hn hp
    obtain ⟨j, hj, hb⟩ := W
    exact absurd hb (hp j (by omega))
  | succ d ih =>
    intro l n hl hn hp
    obtain ⟨n, rfl⟩ : ∃ m, n = m + 1 := ⟨n - 1, by omega⟩
    rw [wX_before_2]
    refine ⟨vp_in_nI hc (by decide), ?_⟩
    rw [nI_clamp (show c < 2 ^ 31 by omega), (Q.1 c hc).2]
    refine br_f (nI_ge (by omega) (by omega)) (nm_r (tc_ix3 c l) ⟨17, ?_⟩)
    have z := tc_cn_le (wY (4 * c + (l + 1))) 16
    refine hx_bef22 (Q.2.1 c l hc (by omega)).2.2 (by omega) hx (fun _ => ?_) (fun g => ?_) (tc_cn (wY (4 * c + (l + 1))) 16) 0 17 (by omega) (by omega) (fun i hi => absurd hi (Nat.not_lt_zero i))
    · show post (tc_vw mY wY vY c x l)
      rw [tc_vw_0 l hp]
      exact h
    · refine ih (l + 1) n (by omega) (by omega) (fun j hj => ?_)
      by_cases q : j = l
      · subst q; exact g
      · exact hp j (by omega)
theorem hx_before {post : Int32 → Prop} (Q : tc_Q le ra wa ls lc lo mY rY wY vY L N) {c x : Nat} (hc : c < 4) (hx : x < 16) (W : tc_WR wY L c x) (h : post (mY x)) :
    wpX_before post (me, ta, st, da, le, ra, wa, ls, lc, lo) (nI c) (nI x) := by
  unfold wpX_before
  exact ⟨L c + 1, hx_befL Q hc hx W h (L c) 0 (L c + 1) (by omega) (by omega) (fun j hj => absurd hj (Nat.not_lt_zero j))⟩
theorem hx_com {post : Int32 → Prop} (I : tc_CI me ta st da N) (Q : tc_Q le ra wa ls lc lo mY rY wY vY L N) {x : Nat} (hx : x < 16) (h : post (mY x)) :
    wpX_committedIn post (me, ta, st, da, le, ra, wa, ls, lc, lo) (nI x) := by
  unfold wpX_committedIn
  dsimp only
  refine hx_writer Q.1 hx (fun c hc g => ?_) (fun g => ?_)
  · refine br_t (nI_pos' (by omega)) (hx_before Q hc hx ?_ h)
    rw [tc_qw Q hc] at g
    exact (tc_wr x c).mp g
  · refine br_f (by decide) (hx_newest I hx ?_)
    rw [Q.2.2.2.1 x hx (fun c hc w => g c hc (by rw [tc_qw Q hc]; exact (tc_wr x c).mpr w))]
    exact h
theorem hx_note0 {post : SX → Prop} {c x : Nat} (hc : c < 4) (el : le c = nI 0) (h : post (me, ta, st, da, le, ra, wa, ls, lc, lo)) :
    wpX_noteRead post (me, ta, st, da, le, ra, wa, ls, lc, lo) (nI c) (nI x) := by
  unfold wpX_noteRead
  dsimp only
  rw [nI_clamp (show c < 2 ^ 31 by omega), el]
  exact ⟨vp_in_nI hc (by decide), br_t (by decide) h⟩
theorem hx_noteL {post : SX → Prop} {c x l : Nat} (hc : c < 4) (hl : l < 3) (el : le c = nI (l + 1)) (h : post (me, ta, st, da, le, upd ra (3 * c + l) (ra (3 * c + l) ||| tc_b x), wa, ls, lc, lo)) :
    wpX_noteRead post (me, ta, st, da, le, ra, wa, ls, lc, lo) (nI c) (nI x) := by
  unfold wpX_noteRead
  dsimp only
  rw [nI_clamp (show c < 2 ^ 31 by omega), el, tc_ix3m, nI_clamp (show 3 * c + l < 2 ^ 31 by omega)]
  have hi : vp_in (nI (3 * c + l)) 12 := vp_in_nI (by omega) (by decide)
  exact ⟨vp_in_nI hc (by decide), br_f (nI_nle (by omega) (by omega)) ⟨vp_in_nI hc (by decide), hi, hi, nm_e h⟩⟩
theorem hx_log {post : SX → Prop} {a x z : Nat} {old : Int32} (ha : a < 12) (hx : x < 16) (hz : z < 16) (ez : ls a = nI z)
    (h : post (me, ta, st, da, le, ra, upd wa a (wa a ||| tc_b x), upd ls a (nI (z + 1)), upd lc (16 * a + z) (nI x), upd lo (16 * a + z) old)) :
    wpX_log post (me, ta, st, da, le, ra, wa, ls, lc, lo) (nI a) (nI x) old := by
  unfold wpX_log
  dsimp only
  rw [nI_clamp (show a < 2 ^ 31 by omega), ez, tc_ixA, nI_clamp (show 16 * a + z < 2 ^ 31 by omega), tc_nb (n := x) (by omega), nI_1 z, tc_nb (n := z + 1) (by omega)]
  have h1 : vp_in (nI a) 12 := vp_in_nI ha (by decide)
  have h2 : vp_in (nI (16 * a + z)) 192 := vp_in_nI (by omega) (by decide)
  exact ⟨h1, h2, nm_e ⟨h1, h2, nm_e ⟨h1, h1, nm_e ⟨h1, h1, nm_e h⟩⟩⟩⟩
theorem hx_c53 {post : SX → Prop} (I : tc_CI me ta st da N) {c x : Nat} (hc : c < 4) (hx : x < 16) {v : Int32}
    (h : ∀ me' ta' st' da', tc_CI me' ta' st' da' (upd N x v) → post (me', ta', st', da', le, ra, wa, ls, lc, lo)) :
    wX_change_53 post (nI c) (nI x) v me ta st da le ra wa ls lc lo := by
  unfold wX_change_53
  exact hx_store I hc hx h
theorem hx_chg0 {post : SX → Prop} (I : tc_CI me ta st da N) {c x : Nat} (hc : c < 4) (hx : x < 16) {v : Int32} (el : le c = nI 0)
    (h : ∀ me' ta' st' da', tc_CI me' ta' st' da' (upd N x v) → post (me', ta', st', da', le, ra, wa, ls, lc, lo)) :
    wpX_change post (me, ta, st, da, le, ra, wa, ls, lc, lo) (nI c) (nI x) v := by
  unfold wpX_change
  dsimp only
  rw [nI_clamp (show c < 2 ^ 31 by omega), el]
  exact ⟨vp_in_nI hc (by decide), br_t (by decide) (hx_c53 I hc hx h)⟩
theorem hx_chgL {post : SX → Prop} (I : tc_CI me ta st da N) {c x l : Nat} (hc : c < 4) (hx : x < 16) (hl : l < 3) {v s : Int32} {o : Nat → Int32} (el : le c = nI (l + 1)) (es : wa (3 * c + l) = s)
    (G : tc_LG ls lc lo (3 * c + l) s o) (ho : ¬ bt s x = true → N x = o x)
    (h : ∀ me' ta' st' da' wa' ls' lc' lo', tc_CI me' ta' st' da' (upd N x v) → wa' (3 * c + l) = s ||| tc_b x → tc_LG ls' lc' lo' (3 * c + l) (s ||| tc_b x) o →
      (∀ a, a ≠ 3 * c + l → wa' a = wa a ∧ ls' a = ls a ∧ ∀ k, k < 16 → lc' (16 * a + k) = lc (16 * a + k) ∧ lo' (16 * a + k) = lo (16 * a + k)) →
      post (me', ta', st', da', le, ra, wa', ls', lc', lo')) :
    wpX_change post (me, ta, st, da, le, ra, wa, ls, lc, lo) (nI c) (nI x) v := by
  unfold wpX_change
  dsimp only
  have h4 : vp_in (nI c) 4 := vp_in_nI hc (by decide)
  rw [nI_clamp (show c < 2 ^ 31 by omega), el]
  refine ⟨h4, br_f (nI_nle (by omega) (by omega)) ⟨h4, nm_r (tc_ix3m c l) ⟨vp_in_nI (by omega) (by decide), ?_⟩⟩⟩
  rw [nI_clamp (show 3 * c + l < 2 ^ 31 by omega), es]
  by_cases g : bt s x = true
  · refine br_f (fun z => (tc_bit0 s (by omega)).mp z g) (hx_c53 I hc hx (fun me' ta' st' da' I' => ?_))
    refine h me' ta' st' da' wa ls lc lo I' ?_ ?_ (fun _ _ => ⟨rfl, rfl, fun _ _ => ⟨rfl, rfl⟩⟩)
    · rw [tc_same (by omega) g]; exact es
    · rw [tc_same (by omega) g]; exact G
  · have zl := tc_cnlt hx g
    refine br_t ((tc_bit0 s (by omega)).mpr g) (hx_newest I hx (hx_log (by omega) hx zl G.1 (hx_c53 I hc hx (fun me' ta' st' da' I' => ?_))))
    refine h me' ta' st' da' _ _ _ _ I' ?_ (?_ : tc_LG _ _ _ (3 * c + l) (s ||| tc_b x) o) (fun a ha => ⟨pk_un ha, pk_un ha, fun k hk => ⟨pk_un (by omega), pk_un (by omega)⟩⟩)
    · dsimp only; rw [pk_us, es]
    · rw [ho g]
      exact tc_LG_add G hx g
theorem hx_undL {post : SX → Prop} {c a l : Nat} (hc : c < 4) (ha : a < 12) (hl : l < 3) {s : Int32} {o : Nat → Int32} (el : le c = nI (l + 1)) (G : tc_LG ls lc lo a s o)
    (h : ∀ me' ta' st' da' N', tc_CI me' ta' st' da' N' → (∀ y, y < 16 → bt s y = true → N' y = o y) → (∀ y, y < 16 → ¬ bt s y = true → N' y = N y) → post (me', ta', st', da', upd le c (nI l), ra, wa, ls, lc, lo)) :
    ∀ k n, k < n → k ≤ tc_cn s 16 → ∀ me ta st da N', tc_CI me ta st da N' → (∀ y, y < 16 → N' y = N y ∨ (bt s y = true ∧ N' y = o y)) →
      (∀ i, k ≤ i → i < tc_cn s 16 → ∀ y, y < 16 → lc (16 * a + i) = nI y → N' y = o y) →
      wX_undo_22 post (nI c) (nI a) n (nI k - 1) me ta st da le ra wa ls lc lo := by
  have z := tc_cn_le s 16
  have h4 : vp_in (nI c) 4 := vp_in_nI hc (by decide)
  intro k
  induction k with
  | zero =>
    intro n hn _ me ta st da N' I p1 p2
    obtain ⟨n, rfl⟩ : ∃ m, n = m + 1 := ⟨n - 1, by omega⟩
    rw [wX_undo_22]
    refine br_t (by decide) ⟨h4, h4, ?_⟩
    rw [nI_clamp (show c < 2 ^ 31 by omega), el, nI_pred, tc_nb (n := l) (by omega)]
    refine nm_e (h me ta st da N' I (fun y hy hb => ?_) (fun y hy hb => ?_))
    · obtain ⟨i, hi, e⟩ := G.2.2 y hy hb
      exact p2 i (Nat.zero_le i) hi y hy e
    · exact (p1 y hy).resolve_right (fun q => hb q.1)
  | succ k ih =>
    intro n hn hk me ta st da N' I p1 p2
    obtain ⟨n, rfl⟩ : ∃ m, n = m + 1 := ⟨n - 1, by omega⟩
    rw [wX_undo_22]
    obtain ⟨y, hy, e1, hb, e2⟩ := G.2.1 k (by omega)
    have hi : vp_in (nI (16 * a + k)) 192 := vp_in_nI (by omega) (by decide)
    rw [nI_pred]
    refine br_f (nI_pos (by omega)) ?_
    rw [tc_ixA, nI_clamp (show 16 * a + k < 2 ^ 31 by omega), e1, e2]
    refine ⟨hi, hi, hx_store I hc hy (fun me' ta' st' da' I' => ?_)⟩
    refine nm_r (e' := nI k - 1) (Int32.sub_eq_add_neg _ _).symm (ih n (by omega) (by omega) me' ta' st' da' _ I' (fun y' hy' => ?_) (fun i hi1 hi2 y' hy' e' => ?_))
    · by_cases q : y' = y
      · subst q; rw [pk_us]; exact Or.inr ⟨hb, rfl⟩
      · rw [pk_un q]; exact p1 y' hy'
    · by_cases q : y' = y
      · subst q; rw [pk_us]
      · rw [pk_un q]
        by_cases q2 : i = k
        · subst q2
          rw [e1] at e'
          exact absurd (tc_inj hy hy' e').symm q
        · exact p2 i (by omega) hi2 y' hy' e'
theorem hx_undo {post : SX → Prop} (I : tc_CI me ta st da N) (Q : tc_Q le ra wa ls lc lo mY rY wY vY L N) {c l : Nat} (hc : c < 4) (el : L c = l + 1)
    (h : ∀ me' ta' st' da' N', tc_CI me' ta' st' da' N' → tc_Q (upd le c (nI l)) ra wa ls lc lo mY rY wY vY (tc_up L c l) N' → post (me', ta', st', da', upd le c (nI l), ra, wa, ls, lc, lo)) :
    wpX_undo post (me, ta, st, da, le, ra, wa, ls, lc, lo) (nI c) := by
  have b := (Q.1 c hc).1
  have ec := (Q.1 c hc).2
  rw [el] at ec
  have G := (Q.2.1 c l hc (by omega)).2.2
  have z := tc_cn_le (wY (4 * c + (l + 1))) 16
  unfold wpX_undo
  dsimp only
  rw [nI_clamp (show c < 2 ^ 31 by omega), ec]
  refine ⟨vp_in_nI hc (by decide), nm_r (tc_ix3m c l) ⟨vp_in_nI (by omega) (by decide), ?_⟩⟩
  rw [nI_clamp (show 3 * c + l < 2 ^ 31 by omega), G.1]
  refine nm_e ⟨17, hx_undL hc (by omega) (by omega) ec G (N := N) (fun me' ta' st' da' N' I' q1 q2 => h me' ta' st' da' N' I' (tc_Qundo Q hc el q1 q2)) (tc_cn (wY (4 * c + (l + 1))) 16) 17 (by omega) (Nat.le_refl _) me ta st da N I (fun _ _ => Or.inl rfl) (fun i hi1 hi2 => absurd hi2 (by omega))⟩
theorem hx_endL {post : Int32 → SX → Prop} {c a1 a2 r : Nat} (hc : c < 4) (h1 : a1 < 12) (h2 : a2 < 12) (hne : a2 ≠ a1) {s1 s2 : Int32} {o o2 : Nat → Int32} (el : le c = nI r)
    {wa0 ls0 lc0 lo0 : Nat → Int32} (G2 : tc_LG ls0 lc0 lo0 a2 s2 o2) (hoo : ∀ y, y < 16 → ¬ bt s1 y = true → o2 y = o y)
    (h : ∀ s wa ls lc lo, tc_LG ls lc lo a1 s o → wa a1 = s → (∀ y, y < 32 → (bt s y = true ↔ bt s1 y = true ∨ (y < 16 ∧ bt s2 y = true))) →
      (∀ a, a ≠ a1 → wa a = wa0 a ∧ ls a = ls0 a ∧ ∀ k, k < 16 → lc (16 * a + k) = lc0 (16 * a + k) ∧ lo (16 * a + k) = lo0 (16 * a + k)) →
      post (nI r) (me, ta, st, da, le, ra, wa, ls, lc, lo)) :
    ∀ d k n, k + d = tc_cn s2 16 → d < n → ∀ s wa ls lc lo, tc_LG ls lc lo a1 s o → wa a1 = s → (∀ y, y < 32 → bt s y = true → bt s1 y = true ∨ (y < 16 ∧ bt s2 y = true)) → (∀ y, y < 32 → bt s1 y = true → bt s y = true) →
      (∀ i, i < k → ∀ y, y < 16 → lc0 (16 * a2 + i) = nI y → bt s y = true) →
      (∀ a, a ≠ a1 → wa a = wa0 a ∧ ls a = ls0 a ∧ ∀ k, k < 16 → lc (16 * a + k) = lc0 (16 * a + k) ∧ lo (16 * a + k) = lo0 (16 * a + k)) →
      wX_end_71 post (nI c) (nI a2) (nI a1) n (nI k) me ta st da le ra wa ls lc lo := by
  have z2 := tc_cn_le s2 16
  have h4 : vp_in (nI c) 4 := vp_in_nI hc (by decide)
  have i1 : vp_in (nI a1) 12 := vp_in_nI h1 (by decide)
  have i2 : vp_in (nI a2) 12 := vp_in_nI h2 (by decide)
  intro d
  induction d with
  | zero =>
    intro k n hk hn s wa ls lc lo G e1 p1 p2 p3 p4
    obtain ⟨n, rfl⟩ : ∃ m, n = m + 1 := ⟨n - 1, by omega⟩
    rw [wX_end_71]
    refine ⟨i2, ?_⟩
    rw [nI_clamp (show a2 < 2 ^ 31 by omega), (p4 a2 hne).2.1, G2.1]
    refine br_t (nI_le (by omega) (by omega)) ⟨h4, ?_⟩
    rw [nI_clamp (show c < 2 ^ 31 by omega), el]
    refine h s wa ls lc lo G e1 (fun y hy => ⟨p1 y hy, fun q => q.elim (p2 y hy) (fun q => ?_)⟩) p4
    obtain ⟨i, hi, e⟩ := G2.2.2 y q.1 q.2
    exact p3 i (by omega) y q.1 e
  | succ d ih =>
    intro k n hk hn s wa ls lc lo G e1 p1 p2 p3 p4
    obtain ⟨n, rfl⟩ : ∃ m, n = m + 1 := ⟨n - 1, by omega⟩
    obtain ⟨y, hy, q1, q2, q3⟩ := G2.2.1 k (by omega)
    have hi : vp_in (nI (16 * a2 + k)) 192 := vp_in_nI (by omega) (by decide)
    have pc := (p4 a2 hne).2.2 k (by omega)
    rw [wX_end_71]
    refine ⟨i2, ?_⟩
    rw [nI_clamp (show a2 < 2 ^ 31 by omega), (p4 a2 hne).2.1, G2.1, tc_ixA, nI_clamp (show 16 * a2 + k < 2 ^ 31 by omega), pc.1, pc.2, q1, q3, nI_clamp (show a1 < 2 ^ 31 by omega), e1]
    refine br_f (nI_ge (by omega) (by omega)) ⟨hi, nm_e ⟨i1, ?_⟩⟩
    by_cases g : bt s y = true
    · refine br_f (fun z => (tc_bit0 s (by omega)).mp z g) (nm_r (nI_1 k) (ih (k + 1) n (by omega) (by omega) s wa ls lc lo G e1 p1 p2 (fun i hi2 y' hy' e' => ?_) p4))
      by_cases q : i = k
      · subst q
        rw [q1] at e'
        rw [← tc_inj hy hy' e']
        exact g
      · exact p3 i (by omega) y' hy' e'
    · have zl := tc_cnlt hy g
      have eo : o2 y = o y := hoo y hy (fun w => g (p2 y (by omega) w))
      rw [eo]
      refine br_t ((tc_bit0 s (by omega)).mpr g) ⟨hi, hx_log h1 hy zl G.1 (nm_r (nI_1 k) (ih (k + 1) n (by omega) (by omega) (s ||| tc_b y) _ _ _ _ (tc_LG_add G hy g) ?_ ?_ ?_ ?_ ?_))⟩
      · rw [pk_us, e1]
      · intro y' hy' hb
        rw [tc_bor s (by omega) hy'] at hb
        by_cases q : y' = y
        · subst q; exact Or.inr ⟨hy, q2⟩
        · exact p1 y' hy' (by simpa [q] using hb)
      · intro y' hy' hb
        rw [tc_bor s (by omega) hy', p2 y' hy' hb]
        rfl
      · intro i hi2 y' hy' e'
        rw [tc_bor s (by omega) (by omega)]
        by_cases q : i = k
        · subst q
          rw [q1] at e'
          rw [← tc_inj hy hy' e']
          simp
        · rw [p3 i (by omega) y' hy' e']
          rfl
      · intro a ha
        obtain ⟨t1, t2, t3⟩ := p4 a ha
        refine ⟨by rw [pk_un ha]; exact t1, by rw [pk_un ha]; exact t2, fun k' hk' => ?_⟩
        rw [pk_un (show 16 * a + k' ≠ 16 * a1 + tc_cn s 16 by omega), pk_un (show 16 * a + k' ≠ 16 * a1 + tc_cn s 16 by omega)]
        exact t3 k' hk'
end
end
section
/-! the walks of Y -/
section
variable {le mY rY wY vY N : Nat → Int32} {L : Nat → Nat}
theorem hy_seeL {post : Int32 → Prop} {c x : Nat} (hc : c < 4) (hx : x < 16) : ∀ l n, l < n → l ≤ 3 → post (tc_vw mY wY vY c x l) → wY_sees_25 post (nI c) (nI x) mY le rY wY vY n (nI l) := by
  intro l
  induction l with
  | zero =>
    intro n hn _ h
    obtain ⟨n, rfl⟩ : ∃ m, n = m + 1 := ⟨n - 1, by omega⟩
    rw [wY_sees_25]
    refine br_t (by decide) ⟨vp_in_nI hx (by decide), ?_⟩
    rw [nI_clamp (show x < 2 ^ 31 by omega)]
    exact h
  | succ l ih =>
    intro n hn hl h
    obtain ⟨n, rfl⟩ : ∃ m, n = m + 1 := ⟨n - 1, by omega⟩
    rw [wY_sees_25]
    refine br_f (nI_nlt (b := 1) (by omega) (by omega)) ?_
    rw [tc_ix4, tc_ixB, nI_clamp (show 4 * c + (l + 1) < 2 ^ 31 by omega), nI_clamp (show 16 * (4 * c + (l + 1)) + x < 2 ^ 31 by omega)]
    refine ⟨vp_in_nI (by omega) (by decide), ?_⟩
    by_cases g : bt (wY (4 * c + (l + 1))) x = true
    · rw [tc_vw_t g] at h
      exact br_t ((tc_bit1 _ (by omega)).mpr g) ⟨vp_in_nI (by omega) (by decide), h⟩
    · rw [tc_vw_f g] at h
      exact br_f (fun z => g ((tc_bit1 _ (by omega)).mp z)) (nm_r (pk_m1 l) (ih n (by omega) (by omega) h))
theorem hy_sees {post : Int32 → Prop} (V : tc_LV le L) {c x : Nat} (hc : c < 4) (hx : x < 16) (h : post (tc_vw mY wY vY c x (L c))) : wpY_sees post (mY, le, rY, wY, vY) (nI c) (nI x) := by
  unfold wpY_sees
  dsimp only
  refine hy_coY hc (br_f (by decide) (hy_ceY hx (br_f (by decide) ⟨vp_in_nI hc (by decide), ?_⟩)))
  rw [nI_clamp (show c < 2 ^ 31 by omega), (V c hc).2]
  exact nm_e ⟨L c + 1, hy_seeL hc hx (L c) (L c + 1) (by omega) (V c hc).1 h⟩
theorem hy_put0 {post : SY → Prop} {c x : Nat} (hc : c < 4) (hx : x < 16) {v : Int32} (el : le c = nI 0) (h : post (upd mY x v, le, rY, wY, vY)) : wpY_put post (mY, le, rY, wY, vY) (nI c) (nI x) v := by
  unfold wpY_put
  dsimp only
  rw [nI_clamp (show c < 2 ^ 31 by omega), nI_clamp (show x < 2 ^ 31 by omega), el]
  exact ⟨vp_in_nI hc (by decide), br_t rfl ⟨vp_in_nI hx (by decide), nm_e h⟩⟩
theorem hy_putL {post : SY → Prop} {c x l : Nat} (hc : c < 4) (hx : x < 16) (hl : l < 3) {v : Int32} (el : le c = nI (l + 1))
    (h : post (mY, le, rY, upd wY (4 * c + (l + 1)) (wY (4 * c + (l + 1)) ||| tc_b x), upd vY (16 * (4 * c + (l + 1)) + x) v)) : wpY_put post (mY, le, rY, wY, vY) (nI c) (nI x) v := by
  unfold wpY_put
  dsimp only
  rw [nI_clamp (show c < 2 ^ 31 by omega), el]
  have h4 : vp_in (nI c) 4 := vp_in_nI hc (by decide)
  have hi : vp_in (nI (4 * c + (l + 1))) 16 := vp_in_nI (by omega) (by decide)
  refine ⟨h4, br_f (nI_ne0 (by omega) (by omega)) ⟨h4, nm_r (tc_ix4 c (l + 1)) ⟨hi, hi, ?_⟩⟩⟩
  rw [tc_ixB, nI_clamp (show 4 * c + (l + 1) < 2 ^ 31 by omega), nI_clamp (show 16 * (4 * c + (l + 1)) + x < 2 ^ 31 by omega)]
  exact nm_e ⟨vp_in_nI (by omega) (by decide), nm_e h⟩
/-- a reading: nobody else has written x -/
theorem hy_read0 {post : Int32 → SY → Prop} (V : tc_LV le L) {c x : Nat} (hc : c < 4) (hx : x < 16) (hr : tc_rv (tc_sY wY L) c x 4 = 0) (el : L c = 0) (h : post 0 (mY, le, rY, wY, vY)) :
    wpY_read post (mY, le, rY, wY, vY) (nI c) (nI x) := by
  have ec := (V c hc).2
  rw [el] at ec
  have h4 : vp_in (nI c) 4 := vp_in_nI hc (by decide)
  have hi : vp_in (nI (4 * c + 0)) 16 := vp_in_nI (by omega) (by decide)
  unfold wpY_read
  dsimp only
  refine hy_coY hc (br_f (by decide) (hy_ceY hx (br_f (by decide) (hy_rv V hc hx (th := tc_sY wY L) (Or.inl ⟨by decide, fun _ => rfl⟩) ?_))))
  refine br_t hr ⟨h4, ?_⟩
  rw [nI_clamp (show c < 2 ^ 31 by omega), ec, tc_ix4]
  refine nm_e ⟨h4, br_t (by decide) ⟨hi, hi, nm_r (e' := rY) tc_ui h⟩⟩
theorem hy_readL {post : Int32 → SY → Prop} (V : tc_LV le L) {c x l : Nat} (hc : c < 4) (hx : x < 16) (hr : tc_rv (tc_sY wY L) c x 4 = 0) (el : L c = l + 1)
    (h : post 0 (mY, le, upd rY (4 * c + (l + 1)) (rY (4 * c + (l + 1)) ||| tc_b x), wY, vY)) :
    wpY_read post (mY, le, rY, wY, vY) (nI c) (nI x) := by
  have b := (V c hc).1
  have ec := (V c hc).2
  rw [el] at ec
  have h4 : vp_in (nI c) 4 := vp_in_nI hc (by decide)
  have hi : vp_in (nI (4 * c + (l + 1))) 16 := vp_in_nI (by omega) (by decide)
  unfold wpY_read
  dsimp only
  refine hy_coY hc (br_f (by decide) (hy_ceY hx (br_f (by decide) (hy_rv V hc hx (th := tc_sY wY L) (Or.inl ⟨by decide, fun _ => rfl⟩) ?_))))
  refine br_t hr ⟨h4, ?_⟩
  rw [nI_clamp (show c < 2 ^ 31 by omega), ec]
  refine nm_r (tc_ix4 c (l + 1)) ⟨h4, br_f (nI_nle (by omega) (by omega)) ?_⟩
  rw [nI_clamp (show 4 * c + (l + 1) < 2 ^ 31 by omega)]
  exact ⟨hi, hi, nm_e h⟩
theorem hy_end0L {post : Int32 → SY → Prop} {c : Nat} (hc : c < 4) (el : le c = nI 0)
    (h : ∀ m', (∀ y, y < 16 → m' y = if bt (wY (4 * c + 1)) y = true then vY (16 * (4 * c + 1) + y) else mY y) → post (nI 0) (m', le, rY, wY, vY)) :
    ∀ d x n, x + d = 16 → d < n → ∀ m', (∀ y, y < 16 → m' y = if y < x ∧ bt (wY (4 * c + 1)) y = true then vY (16 * (4 * c + 1) + y) else mY y) →
      wY_end_42 post (nI c) (nI (4 * c + 1)) n (nI x) m' le rY wY vY := by
  have h4 : vp_in (nI c) 4 := vp_in_nI hc (by decide)
  have hi : vp_in (nI (4 * c + 1)) 16 := vp_in_nI (by omega) (by decide)
  have hj : vp_in (nI (4 * c)) 16 := vp_in_nI (by omega) (by decide)
  intro d
  induction d with
  | zero =>
    intro x n hxd hn m' hm
    obtain ⟨n, rfl⟩ : ∃ m, n = m + 1 := ⟨n - 1, by omega⟩
    rw [wY_end_42]
    refine br_t (nI_le (a := 16) (by omega) (by omega)) ⟨h4, ?_⟩
    rw [nI_clamp (show c < 2 ^ 31 by omega), el, nI_pred]
    refine br_t (by decide) ⟨hj, hj, nm_r (e' := rY) tc_ui ⟨h4, h m' (fun y hy => ?_)⟩⟩
    rw [hm y hy]
    have : y < x := by omega
    simp [this]
  | succ d ih =>
    intro x n hxd hn m' hm
    obtain ⟨n, rfl⟩ : ∃ m, n = m + 1 := ⟨n - 1, by omega⟩
    rw [wY_end_42]
    refine br_f (nI_ge (b := 16) (by omega) (by decide)) ⟨hi, ?_⟩
    rw [nI_clamp (show 4 * c + 1 < 2 ^ 31 by omega)]
    by_cases g : bt (wY (4 * c + 1)) x = true
    · rw [tc_ixB, nI_clamp (show 16 * (4 * c + 1) + x < 2 ^ 31 by omega)]
      refine br_t ((tc_bit1 _ (by omega)).mpr g) ⟨vp_in_nI (by omega) (by decide), hy_put0 hc (by omega) el (nm_r (nI_1 x) (ih (x + 1) n (by omega) (by omega) _ (fun y hy => ?_)))⟩
      by_cases q : y = x
      · subst q
        rw [pk_us, if_pos ⟨Nat.lt_succ_self y, g⟩]
      · rw [pk_un q, hm y hy]
        by_cases q2 : y < x
        · simp [q2, show y < x + 1 by omega]
        · simp [q2, show ¬ y < x + 1 by omega]
    · refine br_f (fun z => g ((tc_bit1 _ (by omega)).mp z)) (nm_r (nI_1 x) (ih (x + 1) n (by omega) (by omega) m' (fun y hy => ?_)))
      rw [hm y hy]
      by_cases q : y = x
      · subst q
        rw [if_neg (fun z => g z.2), if_neg (fun z => g z.2)]
      · by_cases q2 : y < x
        · simp [q2, show y < x + 1 by omega]
        · simp [q2, show ¬ y < x + 1 by omega]
theorem hy_endLL {post : Int32 → SY → Prop} {c m : Nat} (hc : c < 4) (hm : m < 2) (el : le c = nI (m + 1))
    (h : ∀ w' v', (∀ y, y < 32 → (bt (w' (4 * c + (m + 1))) y = true ↔ bt (wY (4 * c + (m + 1))) y = true ∨ (y < 16 ∧ bt (wY (4 * c + (m + 2))) y = true))) →
      (∀ a, a ≠ 4 * c + (m + 1) → w' a = wY a) →
      (∀ y, y < 16 → v' (16 * (4 * c + (m + 1)) + y) = if bt (wY (4 * c + (m + 2))) y = true then vY (16 * (4 * c + (m + 2)) + y) else vY (16 * (4 * c + (m + 1)) + y)) →
      (∀ a y, y < 16 → a ≠ 4 * c + (m + 1) → v' (16 * a + y) = vY (16 * a + y)) →
      post (nI (m + 1)) (mY, le, upd rY (4 * c + (m + 1)) (rY (4 * c + (m + 1)) ||| rY (4 * c + (m + 2))), w', v')) :
    ∀ d x n, x + d = 16 → d < n → ∀ w' v', (∀ y, y < 32 → (bt (w' (4 * c + (m + 1))) y = true ↔ bt (wY (4 * c + (m + 1))) y = true ∨ (y < x ∧ bt (wY (4 * c + (m + 2))) y = true))) →
      (∀ a, a ≠ 4 * c + (m + 1) → w' a = wY a) →
      (∀ y, y < 16 → v' (16 * (4 * c + (m + 1)) + y) = if y < x ∧ bt (wY (4 * c + (m + 2))) y = true then vY (16 * (4 * c + (m + 2)) + y) else vY (16 * (4 * c + (m + 1)) + y)) →
      (∀ a y, y < 16 → a ≠ 4 * c + (m + 1) → v' (16 * a + y) = vY (16 * a + y)) →
      wY_end_42 post (nI c) (nI (4 * c + (m + 2))) n (nI x) mY le rY w' v' := by
  have h4 : vp_in (nI c) 4 := vp_in_nI hc (by decide)
  have hi : vp_in (nI (4 * c + (m + 2))) 16 := vp_in_nI (by omega) (by decide)
  have hj : vp_in (nI (4 * c + (m + 1))) 16 := vp_in_nI (by omega) (by decide)
  have ep : nI (4 * c + (m + 2)) - 1 = nI (4 * c + (m + 1)) := nI_pred (4 * c + (m + 1))
  intro d
  induction d with
  | zero =>
    intro x n hxd hn w' v' p1 p2 p3 p4
    obtain ⟨n, rfl⟩ : ∃ m, n = m + 1 := ⟨n - 1, by omega⟩
    have ex : x = 16 := by omega
    subst ex
    rw [wY_end_42]
    refine br_t (nI_le (a := 16) (by omega) (by omega)) ⟨h4, ?_⟩
    rw [nI_clamp (show c < 2 ^ 31 by omega), el, ep, nI_clamp (show 4 * c + (m + 1) < 2 ^ 31 by omega), nI_clamp (show 4 * c + (m + 2) < 2 ^ 31 by omega)]
    refine br_f (nI_nle (by omega) (by omega)) ⟨hj, hi, hj, nm_e ⟨h4, h w' v' p1 p2 (fun y hy => ?_) p4⟩⟩
    rw [p3 y hy]
    simp [hy]
  | succ d ih =>
    intro x n hxd hn w' v' p1 p2 p3 p4
    obtain ⟨n, rfl⟩ : ∃ m, n = m + 1 := ⟨n - 1, by omega⟩
    have e2 : w' (4 * c + (m + 2)) = wY (4 * c + (m + 2)) := p2 _ (by omega)
    rw [wY_end_42]
    refine br_f (nI_ge (b := 16) (by omega) (by decide)) ⟨hi, ?_⟩
    rw [nI_clamp (show 4 * c + (m + 2) < 2 ^ 31 by omega), e2]
    by_cases g : bt (wY (4 * c + (m + 2))) x = true
    · rw [tc_ixB, nI_clamp (show 16 * (4 * c + (m + 2)) + x < 2 ^ 31 by omega), p4 (4 * c + (m + 2)) x (by omega) (by omega)]
      refine br_t ((tc_bit1 _ (by omega)).mpr g) ⟨vp_in_nI (by omega) (by decide), hy_putL hc (by omega) (by omega) el (nm_r (nI_1 x) (ih (x + 1) n (by omega) (by omega) _ _ (fun y hy => ?_) (fun a ha => ?_) (fun y hy => ?_) (fun a y hy ha => ?_)))⟩
      · rw [pk_us, tc_bor _ (by omega) hy, Bool.or_eq_true, p1 y hy]
        constructor
        · rintro ((z | z) | z)
          · exact Or.inl z
          · exact Or.inr ⟨by omega, z.2⟩
          · have e : y = x := by simpa using z
            subst e
            exact Or.inr ⟨by omega, g⟩
        · rintro (z | z)
          · exact Or.inl (Or.inl z)
          · by_cases q : y = x
            · exact Or.inr (by simpa using q)
            · exact Or.inl (Or.inr ⟨by omega, z.2⟩)
      · rw [pk_un ha]; exact p2 a ha
      · by_cases q : y = x
        · subst q
          rw [pk_us, if_pos ⟨Nat.lt_succ_self y, g⟩]
        · rw [pk_un (show 16 * (4 * c + (m + 1)) + y ≠ 16 * (4 * c + (m + 1)) + x by omega), p3 y hy]
          by_cases q2 : y < x
          · simp [q2, show y < x + 1 by omega]
          · simp [q2, show ¬ y < x + 1 by omega]
      · rw [pk_un (show 16 * a + y ≠ 16 * (4 * c + (m + 1)) + x by omega)]
        exact p4 a y hy ha
    · refine br_f (fun z => g ((tc_bit1 _ (by omega)).mp z)) (nm_r (nI_1 x) (ih (x + 1) n (by omega) (by omega) w' v' (fun y hy => ?_) p2 (fun y hy => ?_) p4))
      · rw [p1 y hy]
        constructor
        · rintro (z | z)
          · exact Or.inl z
          · exact Or.inr ⟨by omega, z.2⟩
        · rintro (z | z)
          · exact Or.inl z
          · by_cases q : y = x
            · subst q; exact absurd z.2 g
            · exact Or.inr ⟨by omega, z.2⟩
      · rw [p3 y hy]
        by_cases q : y = x
        · subst q
          rw [if_neg (fun z => g z.2), if_neg (fun z => g z.2)]
        · by_cases q2 : y < x
          · simp [q2, show y < x + 1 by omega]
          · simp [q2, show ¬ y < x + 1 by omega]
end
end
section
/-! the relation, and the methods that read -/
def i_Rel (k : Nat) (u : SX) (v : SY) : Prop := match u, v with
  | (me, ta, st, da, le, ra, wa, ls, lc, lo), (mY, lY, rY, wY, vY) => le = lY ∧ ∃ L : Nat → Nat, ∃ N : Nat → Int32, tc_CI me ta st da N ∧ tc_Q le ra wa ls lc lo mY rY wY vY L N
theorem tc_mk {k : Nat} {me ta st da le ra wa ls lc lo mY rY wY vY N : Nat → Int32} {L : Nat → Nat} (C : tc_CI me ta st da N) (Q : tc_Q le ra wa ls lc lo mY rY wY vY L N) :
    i_Rel k (me, ta, st, da, le, ra, wa, ls, lc, lo) (mY, le, rY, wY, vY) := by
  show le = le ∧ ∃ L : Nat → Nat, ∃ N : Nat → Int32, tc_CI me ta st da N ∧ tc_Q le ra wa ls lc lo mY rY wY vY L N
  exact ⟨rfl, L, N, C, Q⟩
theorem tc_el {k : Nat} {u : SX} {v : SY} {P : SX → SY → Prop}
    (h : ∀ (me ta st da le ra wa ls lc lo mY rY wY vY : Nat → Int32) (L : Nat → Nat) (N : Nat → Int32), tc_CI me ta st da N → tc_Q le ra wa ls lc lo mY rY wY vY L N → P (me, ta, st, da, le, ra, wa, ls, lc, lo) (mY, le, rY, wY, vY))
    (I : i_Rel k u v) : P u v := by
  obtain ⟨me, ta, st, da, le, ra, wa, ls, lc, lo⟩ := u
  obtain ⟨mY, lY, rY, wY, vY⟩ := v
  obtain ⟨e, L, N, C, Q⟩ := I
  subst e
  exact h me ta st da le ra wa ls lc lo mY rY wY vY L N C Q
theorem i_up {k : Nat} {u : SX} {v : SY} (h : i_Rel k u v) : i_Rel (k + 4) u v := h
theorem i_vc0 : wpX_init (fun u => wpY_init (fun v => i_Rel 0 u v)) := by
  unfold wpX_init wpY_init
  exact tc_mk tc_ci0 tc_Q0
theorem i_vc_begin {k : Nat} {u : SX} {v : SY} (I : i_Rel k u v) (hk : k + 4 ≤ 2048) (v1 : Int32) : wpX_begin (fun r u' => wpY_begin (fun r' v' => r' = r ∧ i_Rel (k + 4) u' v') v v1) u v1 := by
  refine tc_el (P := fun u v => wpX_begin (fun r u' => wpY_begin (fun r' v' => r' = r ∧ i_Rel (k + 4) u' v') v v1) u v1) ?_ I
  intro me ta st da le ra wa ls lc lo mY rY wY vY L N C Q
  unfold wpX_begin
  dsimp only
  rcases tc_co v1 with b | ⟨c, hc, rfl⟩
  · refine hx_coN b (br_t rfl ?_)
    unfold wpY_begin
    dsimp only
    exact hy_coN b (br_t rfl ⟨rfl, tc_mk C Q⟩)
  · have b := (Q.1 c hc).1
    have ec := (Q.1 c hc).2
    have h4 : vp_in (nI c) 4 := vp_in_nI hc (by decide)
    refine hx_coY hc (br_f (by decide) ⟨h4, ?_⟩)
    rw [nI_clamp (show c < 2 ^ 31 by omega), ec]
    by_cases hl : L c < 3
    · refine br_t (nI_lt (b := 3) hl (by decide)) ⟨h4, nm_r (tc_ix3 c (L c)) ?_⟩
      have hi : vp_in (nI (3 * c + L c)) 12 := vp_in_nI (by omega) (by decide)
      have hj : vp_in (nI (4 * c + (L c + 1))) 16 := vp_in_nI (by omega) (by decide)
      rw [nI_clamp (show 3 * c + L c < 2 ^ 31 by omega), tc_n0, nI_1 (L c), tc_nb (n := L c + 1) (by omega)]
      refine ⟨hi, nm_e ⟨hi, nm_e ⟨hi, nm_e ⟨h4, h4, nm_e ⟨h4, ?_⟩⟩⟩⟩⟩
      rw [pk_us]
      unfold wpY_begin
      dsimp only
      refine hy_coY hc (br_f (by decide) ⟨h4, ?_⟩)
      rw [nI_clamp (show c < 2 ^ 31 by omega), ec, nI_1 (L c)]
      refine br_f (fun z => absurd ((nI_eq (b := 3) (by omega) (by decide)).mp z) (by omega)) ⟨h4, h4, nm_e ⟨h4, ?_⟩⟩
      rw [pk_us, tc_ix4, nI_clamp (show 4 * c + (L c + 1) < 2 ^ 31 by omega)]
      exact ⟨hj, nm_e ⟨h4, hj, nm_e ⟨h4, rfl, tc_mk C (tc_Qbegin Q hc rfl hl)⟩⟩⟩
    · have e3 : L c = 3 := by omega
      refine br_f (nI_nlt (b := 3) (by omega) (by omega)) ?_
      unfold wpY_begin
      dsimp only
      refine hy_coY hc (br_f (by decide) ⟨h4, ?_⟩)
      rw [nI_clamp (show c < 2 ^ 31 by omega), ec, e3]
      exact br_t rfl ⟨rfl, tc_mk C Q⟩
theorem i_vc_read {k : Nat} {u : SX} {v : SY} (I : i_Rel k u v) (hk : k + 4 ≤ 2048) (v1 : Int32) (v2 : Int32) : wpX_read (fun r u' => wpY_read (fun r' v' => r' = r ∧ i_Rel (k + 4) u' v') v v1 v2) u v1 v2 := by
  refine tc_el (P := fun u v => wpX_read (fun r u' => wpY_read (fun r' v' => r' = r ∧ i_Rel (k + 4) u' v') v v1 v2) u v1 v2) ?_ I
  intro me ta st da le ra wa ls lc lo mY rY wY vY L N C Q
  unfold wpX_read
  dsimp only
  rcases tc_co v1 with b | ⟨c, hc, rfl⟩
  · refine hx_coN b (br_t rfl ?_)
    unfold wpY_read
    dsimp only
    exact hy_coN b (br_t rfl ⟨rfl, tc_mk C Q⟩)
  · refine hx_coY hc (br_f (by decide) ?_)
    rcases tc_ce v2 with b | ⟨x, hx, rfl⟩
    · refine hx_ceN b (br_t rfl ?_)
      unfold wpY_read
      dsimp only
      exact hy_coY hc (br_f (by decide) (hy_ceN b (br_t rfl ⟨rfl, tc_mk C Q⟩)))
    · refine hx_ceY hx (br_f (by decide) (hx_rv Q.1 hc hx (th := tc_sY wY L) (Or.inl ⟨rfl, fun d hd => (tc_qw Q hd).symm⟩) ?_))
      by_cases r : tc_rv (tc_sY wY L) c x 4 = 0
      · refine br_t r (hx_fetch C hc hx (fun me' ta' st' da' C' H' => ?_))
        have b := (Q.1 c hc).1
        have ec := (Q.1 c hc).2
        cases hL : L c with
        | zero =>
          rw [hL] at ec
          refine hx_note0 hc ec ?_
          exact hy_read0 Q.1 hc hx r hL ⟨rfl, tc_mk C' Q⟩
        | succ l =>
          rw [hL] at ec
          refine hx_noteL hc (by omega) ec ?_
          exact hy_readL Q.1 hc hx r hL ⟨rfl, tc_mk C' (tc_Qread Q hc hL)⟩
      · refine br_f r ?_
        unfold wpY_read
        dsimp only
        exact hy_coY hc (br_f (by decide) (hy_ceY hx (br_f (by decide) (hy_rv Q.1 hc hx (th := tc_sY wY L) (Or.inl ⟨by decide, fun _ => rfl⟩) (br_f r ⟨rfl, tc_mk C Q⟩)))))
theorem tc_m1n {c : Nat} (hc : c < 4) : ¬ (-1 : Int32) = nI c := by
  intro z
  have h : 0 ≤ nI c := nI_pos' (by omega)
  rw [← z] at h
  exact absurd h (by decide)
theorem i_vc_sees {k : Nat} {u : SX} {v : SY} (I : i_Rel k u v) (hk : k + 4 ≤ 2048) (v1 : Int32) (v2 : Int32) : wpX_sees (fun r => wpY_sees (fun r' => r' = r ∧ i_Rel (k + 4) u v) v v1 v2) u v1 v2 := by
  refine tc_el (P := fun u v => wpX_sees (fun r => wpY_sees (fun r' => r' = r ∧ i_Rel (k + 4) u v) v v1 v2) u v1 v2) ?_ I
  intro me ta st da le ra wa ls lc lo mY rY wY vY L N C Q
  unfold wpX_sees
  dsimp only
  rcases tc_co v1 with b | ⟨c, hc, rfl⟩
  · refine hx_coN b (br_t rfl ?_)
    unfold wpY_sees
    dsimp only
    exact hy_coN b (br_t rfl ⟨rfl, tc_mk C Q⟩)
  · refine hx_coY hc (br_f (by decide) ?_)
    rcases tc_ce v2 with b | ⟨x, hx, rfl⟩
    · refine hx_ceN b (br_t rfl ?_)
      unfold wpY_sees
      dsimp only
      exact hy_coY hc (br_f (by decide) (hy_ceN b (br_t rfl ⟨rfl, tc_mk C Q⟩)))
    · have nw : ¬ tc_WR wY L c x → tc_vw mY wY vY c x (L c) = mY x := fun h => tc_vw_0 (L c) (fun j hj hb => h ⟨j, hj, hb⟩)
      refine hx_ceY hx (br_f (by decide) (hx_writer Q.1 hx (fun d hd g => ?_) (fun g => ?_)))
      · rw [tc_qw Q hd] at g
        have W := (tc_wr x d).mp g
        refine pk_eq d c (fun e => ?_) (fun e => ?_)
        · subst e
          refine hx_newest C hx ?_
          exact hy_sees Q.1 hd hx ⟨(Q.2.2.1 d x hd hx W).symm, tc_mk C Q⟩
        · refine hx_com C Q hx ?_
          exact hy_sees Q.1 hc hx ⟨nw (fun w => e (Q.2.2.2.2 d c x hd hc hx W w)), tc_mk C Q⟩
      · refine br_f (tc_m1n hc) (hx_com C Q hx ?_)
        exact hy_sees Q.1 hc hx ⟨nw (fun w => g c hc (by rw [tc_qw Q hc]; exact (tc_wr x c).mpr w)), tc_mk C Q⟩
theorem i_vc_level {k : Nat} {u : SX} {v : SY} (I : i_Rel k u v) (hk : k + 4 ≤ 2048) (v1 : Int32) : wpX_level (fun r => wpY_level (fun r' => r' = r ∧ i_Rel (k + 4) u v) v v1) u v1 := by
  refine tc_el (P := fun u v => wpX_level (fun r => wpY_level (fun r' => r' = r ∧ i_Rel (k + 4) u v) v v1) u v1) ?_ I
  intro me ta st da le ra wa ls lc lo mY rY wY vY L N C Q
  unfold wpX_level wpY_level
  dsimp only
  rcases tc_co v1 with b | ⟨c, hc, rfl⟩
  · exact hx_coN b (br_t rfl (hy_coN b (br_t rfl ⟨rfl, tc_mk C Q⟩)))
  · have h4 : vp_in (nI c) 4 := vp_in_nI hc (by decide)
    exact hx_coY hc (br_f (by decide) ⟨h4, hy_coY hc (br_f (by decide) ⟨h4, rfl, tc_mk C Q⟩)⟩)
theorem i_vc_committed {k : Nat} {u : SX} {v : SY} (I : i_Rel k u v) (hk : k + 4 ≤ 2048) (v1 : Int32) : wpX_committed (fun r => wpY_committed (fun r' => r' = r ∧ i_Rel (k + 4) u v) v v1) u v1 := by
  refine tc_el (P := fun u v => wpX_committed (fun r => wpY_committed (fun r' => r' = r ∧ i_Rel (k + 4) u v) v v1) u v1) ?_ I
  intro me ta st da le ra wa ls lc lo mY rY wY vY L N C Q
  unfold wpX_committed wpY_committed
  dsimp only
  rcases tc_ce v1 with b | ⟨x, hx, rfl⟩
  · exact hx_ceN b (br_t rfl (hy_ceN b (br_t rfl ⟨rfl, tc_mk C Q⟩)))
  · refine hx_ceY hx (br_f (by decide) (hx_com C Q hx (hy_ceY hx (br_f (by decide) ⟨vp_in_nI hx (by decide), ?_⟩))))
    rw [nI_clamp (show x < 2 ^ 31 by omega)]
    exact ⟨rfl, tc_mk C Q⟩
theorem i_vc_readBy {k : Nat} {u : SX} {v : SY} (I : i_Rel k u v) (hk : k + 4 ≤ 2048) (v1 : Int32) : wpX_readBy (fun r => wpY_readBy (fun r' => r' = r ∧ i_Rel (k + 4) u v) v v1) u v1 := by
  refine tc_el (P := fun u v => wpX_readBy (fun r => wpY_readBy (fun r' => r' = r ∧ i_Rel (k + 4) u v) v v1) u v1) ?_ I
  intro me ta st da le ra wa ls lc lo mY rY wY vY L N C Q
  unfold wpX_readBy wpY_readBy
  dsimp only
  rcases tc_co v1 with b | ⟨c, hc, rfl⟩
  · exact hx_coN b (br_t rfl (hy_coN b (br_t rfl ⟨rfl, tc_mk C Q⟩)))
  · exact hx_coY hc (br_f (by decide) (hx_rs Q.1 hc (hy_coY hc (br_f (by decide) (hy_rs Q.1 hc ⟨(tc_qr Q hc).symm, tc_mk C Q⟩)))))
theorem i_vc_writtenBy {k : Nat} {u : SX} {v : SY} (I : i_Rel k u v) (hk : k + 4 ≤ 2048) (v1 : Int32) : wpX_writtenBy (fun r => wpY_writtenBy (fun r' => r' = r ∧ i_Rel (k + 4) u v) v v1) u v1 := by
  refine tc_el (P := fun u v => wpX_writtenBy (fun r => wpY_writtenBy (fun r' => r' = r ∧ i_Rel (k + 4) u v) v v1) u v1) ?_ I
  intro me ta st da le ra wa ls lc lo mY rY wY vY L N C Q
  unfold wpX_writtenBy wpY_writtenBy
  dsimp only
  rcases tc_co v1 with b | ⟨c, hc, rfl⟩
  · exact hx_coN b (br_t rfl (hy_coN b (br_t rfl ⟨rfl, tc_mk C Q⟩)))
  · exact hx_coY hc (br_f (by decide) (hx_ws Q.1 hc (hy_coY hc (br_f (by decide) (hy_ws Q.1 hc ⟨(tc_qw Q hc).symm, tc_mk C Q⟩)))))
theorem i_vc_rivals {k : Nat} {u : SX} {v : SY} (I : i_Rel k u v) (hk : k + 4 ≤ 2048) (v1 : Int32) (v2 : Int32) (v3 : Int32) : wpX_rivals (fun r => wpY_rivals (fun r' => r' = r ∧ i_Rel (k + 4) u v) v v1 v2 v3) u v1 v2 v3 := by
  refine tc_el (P := fun u v => wpX_rivals (fun r => wpY_rivals (fun r' => r' = r ∧ i_Rel (k + 4) u v) v v1 v2 v3) u v1 v2 v3) ?_ I
  intro me ta st da le ra wa ls lc lo mY rY wY vY L N C Q
  unfold wpX_rivals wpY_rivals
  dsimp only
  rcases tc_co v1 with b | ⟨c, hc, rfl⟩
  · exact hx_coN b (br_t rfl (hy_coN b (br_t rfl ⟨rfl, tc_mk C Q⟩)))
  · rcases tc_ce v2 with b | ⟨x, hx, rfl⟩
    · exact hx_coY hc (br_f (by decide) (hx_ceN b (br_t rfl (hy_coY hc (br_f (by decide) (hy_ceN b (br_t rfl ⟨rfl, tc_mk C Q⟩)))))))
    · refine hx_coY hc (br_f (by decide) (hx_ceY hx (br_f (by decide) ?_)))
      by_cases e0 : v3 = 0
      · refine br_t e0 ?_
        unfold wX_rivals_23
        refine br_f (by rw [e0]; decide) ?_
        unfold wX_rivals_36
        refine hx_rv Q.1 hc hx (th := tc_sY wY L) (Or.inl ⟨rfl, fun d hd => (tc_qw Q hd).symm⟩) ?_
        refine hy_coY hc (br_f (by decide) (hy_ceY hx (br_f (by decide) (br_t e0 ?_))))
        unfold wY_rivals_25
        refine br_t e0 ?_
        unfold wY_rivals_37
        exact hy_rv Q.1 hc hx (th := tc_sY wY L) (Or.inl ⟨by decide, fun _ => rfl⟩) ⟨rfl, tc_mk C Q⟩
      · by_cases e1 : v3 = 1
        · refine br_f e0 (br_t e1 ?_)
          unfold wX_rivals_23
          refine br_t e1 ?_
          unfold wX_rivals_36
          refine hx_rv Q.1 hc hx (th := fun d => tc_sY wY L d ||| tc_sY rY L d) (Or.inr ⟨by decide, fun d hd => by rw [tc_qw Q hd, tc_qr Q hd]⟩) ?_
          refine hy_coY hc (br_f (by decide) (hy_ceY hx (br_f (by decide) (br_f e0 (br_t e1 ?_)))))
          unfold wY_rivals_25
          refine br_f e0 ?_
          unfold wY_rivals_37
          exact hy_rv Q.1 hc hx (th := fun d => tc_sY wY L d ||| tc_sY rY L d) (Or.inr ⟨rfl, fun _ => rfl⟩) ⟨rfl, tc_mk C Q⟩
        · exact br_f e0 (br_f e1 (hy_coY hc (br_f (by decide) (hy_ceY hx (br_f (by decide) (br_f e0 (br_f e1 ⟨rfl, tc_mk C Q⟩)))))))
/-! digest -/
def tc_dg (m : Nat → Int32) : Nat → Int32
  | 0 => 0
  | n + 1 => tc_dg m n + (nI (n + 1) * m n)
section
variable {me ta st da le ra wa ls lc lo mY rY wY vY N : Nat → Int32} {L : Nat → Nat}
theorem hx_digL {post : Int32 → Prop} (C : tc_CI me ta st da N) (Q : tc_Q le ra wa ls lc lo mY rY wY vY L N) (h : post (tc_dg mY 16)) :
    ∀ d x n, x + d = 16 → d < n → wX_digest_4 post me ta st da le ra wa ls lc lo n (tc_dg mY x) (nI x) := by
  intro d
  induction d with
  | zero =>
    intro x n hx hn
    obtain ⟨n, rfl⟩ : ∃ m, n = m + 1 := ⟨n - 1, by omega⟩
    have e : x = 16 := by omega
    subst e
    rw [wX_digest_4]
    exact br_t (nI_le (a := 16) (by omega) (by omega)) h
  | succ d ih =>
    intro x n hx hn
    obtain ⟨n, rfl⟩ : ∃ m, n = m + 1 := ⟨n - 1, by omega⟩
    rw [wX_digest_4]
    refine br_f (nI_ge (b := 16) (by omega) (by decide)) (hx_com C Q (by omega) ?_)
    rw [nI_1 x]
    exact nm_r (e' := tc_dg mY (x + 1)) rfl (nm_e (ih (x + 1) n (by omega) (by omega)))
theorem hy_digL {post : Int32 → Prop} (h : post (tc_dg mY 16)) :
    ∀ d x n, x + d = 16 → d < n → wY_digest_4 post mY le rY wY vY n (tc_dg mY x) (nI x) := by
  intro d
  induction d with
  | zero =>
    intro x n hx hn
    obtain ⟨n, rfl⟩ : ∃ m, n = m + 1 := ⟨n - 1, by omega⟩
    have e : x = 16 := by omega
    subst e
    rw [wY_digest_4]
    exact br_t (nI_le (a := 16) (by omega) (by omega)) h
  | succ d ih =>
    intro x n hx hn
    obtain ⟨n, rfl⟩ : ∃ m, n = m + 1 := ⟨n - 1, by omega⟩
    rw [wY_digest_4]
    refine br_f (nI_ge (b := 16) (by omega) (by decide)) ⟨vp_in_nI (by omega) (by decide), ?_⟩
    rw [nI_1 x, nI_clamp (show x < 2 ^ 31 by omega)]
    exact nm_r (e' := tc_dg mY (x + 1)) rfl (nm_e (ih (x + 1) n (by omega) (by omega)))
end
theorem i_vc_digest {k : Nat} {u : SX} {v : SY} (I : i_Rel k u v) (hk : k + 4 ≤ 2048) : wpX_digest (fun r => wpY_digest (fun r' => r' = r ∧ i_Rel (k + 4) u v) v) u := by
  refine tc_el (P := fun u v => wpX_digest (fun r => wpY_digest (fun r' => r' = r ∧ i_Rel (k + 4) u v) v) u) ?_ I
  intro me ta st da le ra wa ls lc lo mY rY wY vY L N C Q
  unfold wpX_digest wpY_digest
  dsimp only
  exact ⟨17, hx_digL C Q ⟨17, hy_digL ⟨rfl, tc_mk C Q⟩ 16 0 17 rfl (by decide)⟩ 16 0 17 rfl (by decide)⟩
end
section
/-! write and add -/
section
variable {me ta st da le ra wa ls lc lo mY rY wY vY N : Nat → Int32} {L : Nat → Nat}
theorem tc_norv {c x : Nat} (h : tc_rv (fun d => tc_sY wY L d ||| tc_sY rY L d) c x 4 = 0) : ∀ d, d < 4 → d ≠ c → ¬ tc_WR wY L d x := by
  intro d hd hn w
  refine tc_rv_n 4 (by decide) h d hd hn ?_
  show bt (tc_sY wY L d ||| tc_sY rY L d) x = true
  rw [b_or, (tc_wr x d).mpr w]
  rfl
theorem tc_norw {c x : Nat} (h : ∀ d, d < 4 → d ≠ c → ¬ tc_WR wY L d x) : tc_rv (tc_sY wY L) c x 4 = 0 :=
  tc_rv_z 4 (fun d hd hn w => h d hd hn ((tc_wr x d).mp w))
/-- X's change and Y's put, from related states -/
theorem tc_chg {post : SX → Prop} (C : tc_CI me ta st da N) (Q : tc_Q le ra wa ls lc lo mY rY wY vY L N) {c x : Nat} {v : Int32} (hc : c < 4) (hx : x < 16) (hn : ∀ d, d < 4 → d ≠ c → ¬ tc_WR wY L d x) {k : Nat}
    (h : ∀ u', (∀ postY : SY → Prop, (∀ v', i_Rel k u' v' → postY v') → wpY_put postY (mY, le, rY, wY, vY) (nI c) (nI x) v) → post u') :
    wpX_change post (me, ta, st, da, le, ra, wa, ls, lc, lo) (nI c) (nI x) v := by
  have b := (Q.1 c hc).1
  have ec := (Q.1 c hc).2
  cases hL : L c with
  | zero =>
    rw [hL] at ec
    refine hx_chg0 C hc hx ec (fun me' ta' st' da' C' => h _ (fun postY hp => ?_))
    exact hy_put0 hc hx ec (hp _ (tc_mk C' (tc_Qw0 Q v hc hx hL hn)))
  | succ l =>
    rw [hL] at ec
    obtain ⟨q1, q2, q3⟩ := Q.2.1 c l hc (by omega)
    refine hx_chgL C hc hx (by omega) ec q2 q3 (fun g => ?_) (fun me' ta' st' da' wa' ls' lc' lo' C' r1 r2 r3 => h _ (fun postY hp => ?_))
    · rw [tc_qN Q hc hx hn, hL]
      exact tc_vw_f g
    · exact hy_putL hc hx (by omega) ec (hp _ (tc_mk C' (tc_QwL Q v hc hx hL hn r1 r2 r3)))
end
theorem i_vc_write {k : Nat} {u : SX} {v : SY} (I : i_Rel k u v) (hk : k + 4 ≤ 2048) (v1 : Int32) (v2 : Int32) (v3 : Int32) : wpX_write (fun r u' => wpY_write (fun r' v' => r' = r ∧ i_Rel (k + 4) u' v') v v1 v2 v3) u v1 v2 v3 := by
  refine tc_el (P := fun u v => wpX_write (fun r u' => wpY_write (fun r' v' => r' = r ∧ i_Rel (k + 4) u' v') v v1 v2 v3) u v1 v2 v3) ?_ I
  intro me ta st da le ra wa ls lc lo mY rY wY vY L N C Q
  unfold wpX_write wpY_write
  dsimp only
  rcases tc_co v1 with b | ⟨c, hc, rfl⟩
  · exact hx_coN b (br_t rfl (hy_coN b (br_t rfl ⟨rfl, tc_mk C Q⟩)))
  · rcases tc_ce v2 with b | ⟨x, hx, rfl⟩
    · exact hx_coY hc (br_f (by decide) (hx_ceN b (br_t rfl (hy_coY hc (br_f (by decide) (hy_ceN b (br_t rfl ⟨rfl, tc_mk C Q⟩)))))))
    · refine hx_coY hc (br_f (by decide) (hx_ceY hx (br_f (by decide) ?_)))
      refine hx_rv Q.1 hc hx (th := fun d => tc_sY wY L d ||| tc_sY rY L d) (Or.inr ⟨by decide, fun d hd => by rw [tc_qw Q hd, tc_qr Q hd]⟩) ?_
      by_cases r : tc_rv (fun d => tc_sY wY L d ||| tc_sY rY L d) c x 4 = 0
      · refine br_t r (tc_chg C Q hc hx (tc_norv r) (k := k + 4) (fun u' h => ?_))
        obtain ⟨me', ta', st', da', le', ra', wa', ls', lc', lo'⟩ := u'
        refine hy_coY hc (br_f (by decide) (hy_ceY hx (br_f (by decide) (hy_rv Q.1 hc hx (th := fun d => tc_sY wY L d ||| tc_sY rY L d) (Or.inr ⟨rfl, fun _ => rfl⟩) (br_t r (h _ (fun v' R => ?_)))))))
        obtain ⟨m', l', r', w', y'⟩ := v'
        exact ⟨rfl, R⟩
      · exact br_f r (hy_coY hc (br_f (by decide) (hy_ceY hx (br_f (by decide) (hy_rv Q.1 hc hx (th := fun d => tc_sY wY L d ||| tc_sY rY L d) (Or.inr ⟨rfl, fun _ => rfl⟩) (br_f r ⟨rfl, tc_mk C Q⟩))))))
theorem i_vc_add {k : Nat} {u : SX} {v : SY} (I : i_Rel k u v) (hk : k + 4 ≤ 2048) (v1 : Int32) (v2 : Int32) (v3 : Int32) : wpX_add (fun r u' => wpY_add (fun r' v' => r' = r ∧ i_Rel (k + 4) u' v') v v1 v2 v3) u v1 v2 v3 := by
  refine tc_el (P := fun u v => wpX_add (fun r u' => wpY_add (fun r' v' => r' = r ∧ i_Rel (k + 4) u' v') v v1 v2 v3) u v1 v2 v3) ?_ I
  intro me ta st da le ra wa ls lc lo mY rY wY vY L N C Q
  unfold wpX_add wpY_add
  dsimp only
  rcases tc_co v1 with b | ⟨c, hc, rfl⟩
  · exact hx_coN b (br_t rfl (hy_coN b (br_t rfl ⟨rfl, tc_mk C Q⟩)))
  · rcases tc_ce v2 with b | ⟨x, hx, rfl⟩
    · exact hx_coY hc (br_f (by decide) (hx_ceN b (br_t rfl (hy_coY hc (br_f (by decide) (hy_ceN b (br_t rfl ⟨rfl, tc_mk C Q⟩)))))))
    · refine hx_coY hc (br_f (by decide) (hx_ceY hx (br_f (by decide) ?_)))
      refine hx_rv Q.1 hc hx (th := fun d => tc_sY wY L d ||| tc_sY rY L d) (Or.inr ⟨by decide, fun d hd => by rw [tc_qw Q hd, tc_qr Q hd]⟩) ?_
      by_cases r : tc_rv (fun d => tc_sY wY L d ||| tc_sY rY L d) c x 4 = 0
      · have hn := tc_norv r
        have r2 := tc_norw hn
        have eN := tc_qN Q hc hx hn
        have b := (Q.1 c hc).1
        have ec := (Q.1 c hc).2
        have hi : vp_in (nI (4 * c + x % 4)) 16 := vp_in_nI (by omega) (by decide)
        refine br_t r (hx_fetch C hc hx (fun me1 ta1 st1 da1 C1 H1 => ?_))
        have eD := C1.2.2.1 c x hc hx H1
        cases hL : L c with
        | zero =>
          rw [hL] at ec
          refine hx_note0 hc ec (hx_line hx ⟨hi, ?_⟩)
          dsimp only
          rw [nI_clamp (show 4 * c + x % 4 < 2 ^ 31 by omega), eD]
          refine nm_e (tc_chg C1 Q hc hx hn (k := k + 4) (fun u' h => ?_))
          obtain ⟨me', ta', st', da', le', ra', wa', ls', lc', lo'⟩ := u'
          refine hy_coY hc (br_f (by decide) (hy_ceY hx (br_f (by decide) (hy_rv Q.1 hc hx (th := fun d => tc_sY wY L d ||| tc_sY rY L d) (Or.inr ⟨rfl, fun _ => rfl⟩) (br_t r (hy_sees Q.1 hc hx ?_))))))
          rw [← eN]
          refine nm_e (hy_read0 Q.1 hc hx r2 hL (h _ (fun v' R => ?_)))
          obtain ⟨m', l', r', w', y'⟩ := v'
          exact ⟨rfl, R⟩
        | succ l =>
          rw [hL] at ec
          refine hx_noteL hc (by omega) ec (hx_line hx ⟨hi, ?_⟩)
          dsimp only
          rw [nI_clamp (show 4 * c + x % 4 < 2 ^ 31 by omega), eD]
          refine nm_e (tc_chg C1 (tc_Qread Q hc hL) hc hx hn (k := k + 4) (fun u' h => ?_))
          obtain ⟨me', ta', st', da', le', ra', wa', ls', lc', lo'⟩ := u'
          refine hy_coY hc (br_f (by decide) (hy_ceY hx (br_f (by decide) (hy_rv Q.1 hc hx (th := fun d => tc_sY wY L d ||| tc_sY rY L d) (Or.inr ⟨rfl, fun _ => rfl⟩) (br_t r (hy_sees Q.1 hc hx ?_))))))
          rw [← eN]
          refine nm_e (hy_readL Q.1 hc hx r2 hL (h _ (fun v' R => ?_)))
          obtain ⟨m', l', r', w', y'⟩ := v'
          exact ⟨rfl, R⟩
      · exact br_f r (hy_coY hc (br_f (by decide) (hy_ceY hx (br_f (by decide) (hy_rv Q.1 hc hx (th := fun d => tc_sY wY L d ||| tc_sY rY L d) (Or.inr ⟨rfl, fun _ => rfl⟩) (br_f r ⟨rfl, tc_mk C Q⟩))))))
end
section
/-! end, giveUp, giveAllUp -/
theorem i_vc_end {k : Nat} {u : SX} {v : SY} (I : i_Rel k u v) (hk : k + 4 ≤ 2048) (v1 : Int32) : wpX_end (fun r u' => wpY_end (fun r' v' => r' = r ∧ i_Rel (k + 4) u' v') v v1) u v1 := by
  refine tc_el (P := fun u v => wpX_end (fun r u' => wpY_end (fun r' v' => r' = r ∧ i_Rel (k + 4) u' v') v v1) u v1) ?_ I
  intro me ta st da le ra wa ls lc lo mY rY wY vY L N C Q
  unfold wpX_end
  dsimp only
  rcases tc_co v1 with b | ⟨c, hc, rfl⟩
  · refine hx_coN b (br_t rfl ?_)
    unfold wpY_end
    dsimp only
    exact hy_coN b (br_t rfl ⟨rfl, tc_mk C Q⟩)
  · have b := (Q.1 c hc).1
    have ec := (Q.1 c hc).2
    have h4 : vp_in (nI c) 4 := vp_in_nI hc (by decide)
    refine hx_coY hc (br_f (by decide) ⟨h4, ?_⟩)
    rw [nI_clamp (show c < 2 ^ 31 by omega)]
    rcases Nat.lt_or_ge (L c) 1 with hL | hL
    · have e0 : le c = 0 := by
        rw [ec, show L c = 0 by omega]; rfl
      refine br_t e0 ?_
      unfold wpY_end
      dsimp only
      refine hy_coY hc (br_f (by decide) ⟨h4, ?_⟩)
      rw [nI_clamp (show c < 2 ^ 31 by omega)]
      exact br_t e0 ⟨rfl, tc_mk C Q⟩
    · obtain ⟨l, hl⟩ : ∃ l, L c = l + 1 := ⟨L c - 1, by omega⟩
      rw [hl] at ec
      have n0 : ¬ le c = 0 := by rw [ec]; exact nI_ne0 (by omega) (by omega)
      refine br_f n0 ⟨h4, h4, ?_⟩
      rw [ec, nI_pred, tc_nb (n := l) (by omega)]
      refine nm_e ⟨h4, ?_⟩
      rw [pk_us]
      cases l with
      | zero =>
        refine br_t (by decide) ⟨h4, ?_⟩
        unfold wpY_end
        dsimp only
        refine hy_coY hc (br_f (by decide) ⟨h4, ?_⟩)
        rw [nI_clamp (show c < 2 ^ 31 by omega)]
        refine br_f n0 ⟨h4, ?_⟩
        rw [ec, tc_ix4, nI_pred]
        refine nm_e ⟨h4, h4, nm_e ⟨17, hy_end0L hc pk_us (fun m' hm => ⟨rfl, tc_mk C (tc_Qend0 Q hc hl hm)⟩) 16 0 17 rfl (by decide) mY (fun y hy => ?_)⟩⟩
        rw [if_neg (fun z => absurd z.1 (Nat.not_lt_zero y))]
      | succ m =>
        have hj : vp_in (nI (3 * c + m)) 12 := vp_in_nI (by omega) (by decide)
        have hj2 : vp_in (nI (3 * c + (m + 1))) 12 := vp_in_nI (by omega) (by decide)
        have ep : nI (3 * c + (m + 1)) - 1 = nI (3 * c + m) := nI_pred (3 * c + m)
        refine br_f (nI_nle (by omega) (by omega)) ⟨h4, ?_⟩
        rw [tc_ix3]
        refine nm_e (nm_r ep ⟨hj, hj2, hj, ?_⟩)
        rw [nI_clamp (show 3 * c + m < 2 ^ 31 by omega), nI_clamp (show 3 * c + (m + 1) < 2 ^ 31 by omega)]
        obtain ⟨q1, q2, q3⟩ := Q.2.1 c m hc (by omega)
        obtain ⟨t1, t2, t3⟩ := Q.2.1 c (m + 1) hc (by omega)
        refine nm_e ⟨17, ?_⟩
        have z := tc_cn_le (wY (4 * c + (m + 1 + 1))) 16
        refine hx_endL (le := upd le c (nI (m + 1))) (r := m + 1) (s1 := wY (4 * c + (m + 1))) (s2 := wY (4 * c + (m + 1 + 1))) (o := fun y => tc_vw mY wY vY c y m) (o2 := fun y => tc_vw mY wY vY c y (m + 1)) (wa0 := wa) (ls0 := ls) (lc0 := lc) (lo0 := lo) hc (by omega) (by omega) (by omega) pk_us t3 (fun y hy g => tc_vw_f g) ?_ (tc_cn (wY (4 * c + (m + 1 + 1))) 16) 0 17 (by omega) (by omega) (wY (4 * c + (m + 1))) wa ls lc lo q3 q2 (fun y _ g => Or.inl g) (fun y _ g => g) (fun i hi => absurd hi (Nat.not_lt_zero i)) (fun _ _ => ⟨rfl, rfl, fun _ _ => ⟨rfl, rfl⟩⟩)
        intro s wa' ls' lc' lo' G es hb hoth
        unfold wpY_end
        dsimp only
        refine hy_coY hc (br_f (by decide) ⟨h4, ?_⟩)
        rw [nI_clamp (show c < 2 ^ 31 by omega)]
        refine br_f n0 ⟨h4, ?_⟩
        rw [ec, tc_ix4, nI_pred]
        refine nm_e ⟨h4, h4, nm_e ⟨17, hy_endLL (m := m) hc (by omega) pk_us (fun w' v' p1 p2 p3 p4 => ⟨rfl, tc_mk (L := tc_up L c (m + 1)) C ?_⟩) 16 0 17 rfl (by decide) wY vY (fun y hy => ?_) (fun _ _ => rfl) (fun y hy => ?_) (fun _ _ _ _ => rfl)⟩⟩
        · exact ⟨Or.inl, fun q => q.elim id (fun q => absurd q.1 (Nat.not_lt_zero y))⟩
        · rw [if_neg (fun z => absurd z.1 (Nat.not_lt_zero y))]
        · have e : w' (4 * c + (m + 1)) = s := by
            apply b_ext
            intro i hi
            have h := (p1 i hi).trans (hb i hi).symm
            cases h1 : bt (w' (4 * c + (m + 1))) i <;> cases h2 : bt s i
            · rfl
            · exact absurd (h.mpr h2) (by rw [h1]; decide)
            · exact absurd (h.mp h1) (by rw [h2]; decide)
            · rfl
          refine tc_QendL Q hc hl (u := s) (fun y hy => ?_) es e p2 (fun y hy g => ?_) (fun y hy g => ?_) p4 G hoth
          · rw [hb y (by omega)]
            exact ⟨fun q => q.elim Or.inl (fun q => Or.inr q.2), fun q => q.elim Or.inl (fun q => Or.inr ⟨hy, q⟩)⟩
          · rw [p3 y hy, if_pos g]
          · rw [p3 y hy, if_neg g]
theorem i_vc_giveUp {k : Nat} {u : SX} {v : SY} (I : i_Rel k u v) (hk : k + 4 ≤ 2048) (v1 : Int32) : wpX_giveUp (fun r u' => wpY_giveUp (fun r' v' => r' = r ∧ i_Rel (k + 4) u' v') v v1) u v1 := by
  refine tc_el (P := fun u v => wpX_giveUp (fun r u' => wpY_giveUp (fun r' v' => r' = r ∧ i_Rel (k + 4) u' v') v v1) u v1) ?_ I
  intro me ta st da le ra wa ls lc lo mY rY wY vY L N C Q
  unfold wpX_giveUp wpY_giveUp
  dsimp only
  rcases tc_co v1 with b | ⟨c, hc, rfl⟩
  · exact hx_coN b (br_t rfl (hy_coN b (br_t rfl ⟨rfl, tc_mk C Q⟩)))
  · have b := (Q.1 c hc).1
    have ec := (Q.1 c hc).2
    have h4 : vp_in (nI c) 4 := vp_in_nI hc (by decide)
    refine hx_coY hc (br_f (by decide) ⟨h4, ?_⟩)
    rw [nI_clamp (show c < 2 ^ 31 by omega)]
    rcases Nat.lt_or_ge (L c) 1 with hL | hL
    · have e0 : le c = 0 := by
        rw [ec, show L c = 0 by omega]; rfl
      exact br_t e0 (hy_coY hc (br_f (by decide) ⟨h4, br_t e0 ⟨rfl, tc_mk C Q⟩⟩))
    · obtain ⟨l, hl⟩ : ∃ l, L c = l + 1 := ⟨L c - 1, by omega⟩
      rw [hl] at ec
      have n0 : ¬ le c = 0 := by rw [ec]; exact nI_ne0 (by omega) (by omega)
      refine br_f n0 (hx_undo C Q hc hl (fun me' ta' st' da' N' C' Q' => ⟨h4, hy_coY hc (br_f (by decide) ⟨h4, br_f n0 ⟨h4, h4, ?_⟩⟩)⟩))
      rw [ec, nI_pred]
      exact nm_e ⟨h4, rfl, tc_mk C' Q'⟩
section
variable {me ta st da le ra wa ls lc lo mY rY wY vY N : Nat → Int32} {L : Nat → Nat}
theorem hx_gauL {post : Int32 → SX → Prop} {c z : Nat} {le1 : Nat → Int32} (hc : c < 4) (hz : z ≤ 3)
    (h : ∀ me' ta' st' da' L' N', tc_CI me' ta' st' da' N' → tc_Q le1 ra wa ls lc lo mY rY wY vY L' N' → post (nI z) (me', ta', st', da', le1, ra, wa, ls, lc, lo)) :
    ∀ d j n, j + d = z → d < n → ∀ me ta st da le L N, tc_CI me ta st da N → tc_Q le ra wa ls lc lo mY rY wY vY L N → L c = d → upd le c (nI 0) = le1 →
      wX_giveAllUp_18 post (nI c) (nI z) n (nI j) me ta st da le ra wa ls lc lo := by
  intro d
  induction d with
  | zero =>
    intro j n hj hn me ta st da le L N C Q hL e
    obtain ⟨n, rfl⟩ : ∃ m, n = m + 1 := ⟨n - 1, by omega⟩
    have ec := (Q.1 c hc).2
    rw [hL] at ec
    rw [tc_ui' ec] at e
    subst e
    rw [wX_giveAllUp_18]
    exact br_t (nI_le (by omega) (by omega)) (h _ _ _ _ _ _ C Q)
  | succ d ih =>
    intro j n hj hn me ta st da le L N C Q hL e
    obtain ⟨n, rfl⟩ : ∃ m, n = m + 1 := ⟨n - 1, by omega⟩
    rw [wX_giveAllUp_18]
    refine br_f (nI_ge (by omega) (by omega)) (hx_undo C Q hc hL (fun me' ta' st' da' N' C' Q' => ?_))
    exact nm_r (nI_1 j) (ih (j + 1) n (by omega) (by omega) me' ta' st' da' _ _ N' C' Q' tc_ps (by rw [tc_uu]; exact e))
end
theorem i_vc_giveAllUp {k : Nat} {u : SX} {v : SY} (I : i_Rel k u v) (hk : k + 4 ≤ 2048) (v1 : Int32) : wpX_giveAllUp (fun r u' => wpY_giveAllUp (fun r' v' => r' = r ∧ i_Rel (k + 4) u' v') v v1) u v1 := by
  refine tc_el (P := fun u v => wpX_giveAllUp (fun r u' => wpY_giveAllUp (fun r' v' => r' = r ∧ i_Rel (k + 4) u' v') v v1) u v1) ?_ I
  intro me ta st da le ra wa ls lc lo mY rY wY vY L N C Q
  unfold wpX_giveAllUp wpY_giveAllUp
  dsimp only
  rcases tc_co v1 with b | ⟨c, hc, rfl⟩
  · exact hx_coN b (br_t rfl (hy_coN b (br_t rfl ⟨rfl, tc_mk C Q⟩)))
  · have b := (Q.1 c hc).1
    have ec := (Q.1 c hc).2
    have h4 : vp_in (nI c) 4 := vp_in_nI hc (by decide)
    refine hx_coY hc (br_f (by decide) ⟨h4, ?_⟩)
    rw [nI_clamp (show c < 2 ^ 31 by omega), ec]
    refine nm_e ⟨L c + 1, ?_⟩
    refine hx_gauL (le1 := upd le c (nI 0)) hc b (fun me' ta' st' da' L' N' C' Q' => ?_) (L c) 0 (L c + 1) (by omega) (by omega) me ta st da le L N C Q rfl rfl
    refine hy_coY hc (br_f (by decide) ⟨h4, nm_e ⟨h4, nm_e ⟨?_, tc_mk C' Q'⟩⟩⟩)
    first | rfl | exact ec
end
