section
/-! rows taken from kit/rows (starting text): stores, numbers, branches, bits -/
theorem pk_us {f : Nat → Int32} {k : Nat} {x : Int32} : upd f k x k = x := if_pos rfl
theorem pk_un {f : Nat → Int32} {k j : Nat} {x : Int32} (h : j ≠ k) : upd f k x j = f j := if_neg h
theorem pk_sub {a b : Nat} (h : b ≤ a) : nI a - nI b = nI (a - b) := by
  obtain ⟨c, rfl⟩ : ∃ c, a = c + b := ⟨a - b, by omega⟩
  rw [← nI_add, Int32.add_sub_cancel, Nat.add_sub_cancel]
theorem pk_m1 (n : Nat) : nI (n + 1) + (-1) = nI n := by
  rw [← nI_1, Int32.add_assoc, show (1 : Int32) + (-1) = 0 from rfl, Int32.add_zero]
theorem pk_mul (a b : Nat) : nI a * nI b = nI (a * b) := (Int32.ofNat_mul a b).symm
theorem pk_div {a d : Nat} (ha : a < 2 ^ 31) (h0 : 0 < d) (hd : d < 2 ^ 31) : nI a / nI d = nI (a / d) := by
  apply Int32.toInt_inj.mp
  rw [lg_idiv_nonneg (by rw [nI_toInt ha]; omega) (by rw [nI_toInt hd]; omega), nI_toInt ha, nI_toInt hd, nI_toInt (Nat.lt_of_le_of_lt (Nat.div_le_self a d) ha)]
  first | rfl | exact (Int.natCast_ediv _ _).symm
theorem pk_rem {a d : Nat} (ha : a < 2 ^ 31) (h0 : 0 < d) (hd : d < 2 ^ 31) : nI a - nI a / nI d * nI d = nI (a % d) := by
  rw [pk_div ha h0 hd, pk_mul, pk_sub (Nat.div_mul_le_self a d)]
  exact congrArg nI (by have := Nat.div_add_mod' a d; omega)
theorem pk_sub_toInt {a b : Nat} (ha : a < 2 ^ 30) (hb : b < 2 ^ 30) : (nI a - nI b).toInt = (a : Int) - b := by
  rw [Int32.toInt_sub, nI_toInt (by omega), nI_toInt (by omega)]
  exact Int.bmod_eq_of_le (by omega) (by omega)
theorem pk_sneg {a b : Nat} (hb : b < 2 ^ 30) (h : a < b) : nI a - nI b < 0 := by
  rw [Int32.lt_iff_toInt_lt, pk_sub_toInt (by omega) hb, show (0 : Int32).toInt = 0 from by decide]
  omega
theorem pk_ix (x : Int32) {n : Nat} (hn : n < 2 ^ 31) : x < 0 ∨ nI n ≤ x ∨ ∃ j : Nat, j < n ∧ x = nI j := by
  by_cases h : x < 0
  · exact Or.inl h
  · obtain ⟨j, hj, rfl⟩ := nI_of h
    by_cases h2 : j < n
    · exact Or.inr (Or.inr ⟨j, h2, rfl⟩)
    · exact Or.inr (Or.inl (nI_le (by omega) hj))
theorem pk_le {x y : Int32} {A B : Prop} (a b : Nat) (f : a ≤ b → A) (g : b < a → B) (hx : x = nI a := by rfl) (hy : y = nI b := by rfl) (ha : a < 2 ^ 31 := by omega) (hb : b < 2 ^ 31 := by omega) : (x ≤ y → A) ∧ (¬ x ≤ y → B) := by
  subst hx hy
  rw [nI_leI ha hb]
  exact ⟨f, fun z => g (by omega)⟩
theorem pk_lt {x y : Int32} {A B : Prop} (a b : Nat) (f : a < b → A) (g : b ≤ a → B) (hx : x = nI a := by rfl) (hy : y = nI b := by rfl) (ha : a < 2 ^ 31 := by omega) (hb : b < 2 ^ 31 := by omega) : (x < y → A) ∧ (¬ x < y → B) := by
  subst hx hy
  rw [nI_ltI ha hb]
  exact ⟨f, fun z => g (by omega)⟩
theorem pk_eq {x y : Int32} {A B : Prop} (a b : Nat) (f : a = b → A) (g : a ≠ b → B) (hx : x = nI a := by rfl) (hy : y = nI b := by rfl) (ha : a < 2 ^ 31 := by omega) (hb : b < 2 ^ 31 := by omega) : (x = y → A) ∧ (¬ x = y → B) := by
  subst hx hy
  rw [nI_eq ha hb]
  exact ⟨f, g⟩
theorem pk_in {x : Int32} (n N : Nat) (h : n < N) (hx : x = nI n := by rfl) (hN : N < 2 ^ 31 := by omega) : vp_in x N := by
  subst hx
  exact vp_in_nI h hN
theorem pk_cl {x : Int32} (n : Nat) (hx : x = nI n := by rfl) (h : n < 2 ^ 31 := by omega) : x.toNatClampNeg = n := by
  subst hx
  exact nI_clamp h
theorem pk_tn {n : Nat} (h : n < 2 ^ 32) : (nI n).toBitVec.toNat = n := Nat.mod_eq_of_lt h
theorem pk_and (x : Int32) {m : Int32} (k : Nat) (hm : m.toBitVec.toNat = 2 ^ k - 1) : x &&& m = nI (x.toBitVec.toNat % 2 ^ k) := by
  apply Int32.toBitVec_inj.mp
  apply BitVec.eq_of_toNat_eq
  rw [Int32.toBitVec_and, BitVec.toNat_and, hm, Nat.and_two_pow_sub_one_eq_mod]
  show _ = (BitVec.ofNat 32 _).toNat
  rw [BitVec.toNat_ofNat]
  exact (Nat.mod_eq_of_lt (Nat.lt_of_le_of_lt (Nat.mod_le _ _) x.toBitVec.isLt)).symm
theorem pk_andN {n : Nat} (h : n < 2 ^ 32) {m : Int32} (k : Nat) (hm : m.toBitVec.toNat = 2 ^ k - 1) : nI n &&& m = nI (n % 2 ^ k) := by
  rw [pk_and _ k hm, pk_tn h]
theorem pk_vb (z : Int32) : vp_nar .byte z.toInt8.toInt32 = z.toInt8.toInt32 := by rw [vp_nar_byte]; simp
def bt (x : Int32) (i : Nat) : Bool := x.toBitVec.getLsbD i
theorem b_ext {x y : Int32} (h : ∀ i, i < 32 → bt x i = bt y i) : x = y := Int32.toBitVec_inj.mp (BitVec.eq_of_getLsbD_eq (fun i hi => h i hi))
theorem b_or (x y : Int32) (i : Nat) : bt (x ||| y) i = (bt x i || bt y i) := by unfold bt; rw [Int32.toBitVec_or, BitVec.getLsbD_or]
theorem b_and (x y : Int32) (i : Nat) : bt (x &&& y) i = (bt x i && bt y i) := by unfold bt; rw [Int32.toBitVec_and, BitVec.getLsbD_and]
theorem b_xor (x y : Int32) (i : Nat) : bt (x ^^^ y) i = (bt x i ^^ bt y i) := by unfold bt; rw [Int32.toBitVec_xor, BitVec.getLsbD_xor]
theorem b_big {x : Int32} {i : Nat} (h : 32 ≤ i) : bt x i = false := BitVec.getLsbD_of_ge _ _ h
theorem b_m1 : ∀ i, i < 32 → bt (-1) i = true := by decide +kernel
theorem b_0 (i : Nat) : bt 0 i = false := BitVec.getLsbD_zero
theorem s_l : ∀ n, n < 32 → ((nI n &&& 31).toBitVec.smod 32).toNat = n := by decide +kernel
theorem b_shl (n : Nat) (hn : n < 32) (x : Int32) {i : Nat} (hi : i < 32) : bt (x <<< (nI n &&& 31)) i = (decide (n ≤ i) && bt x (i - n)) := by
  unfold bt
  rw [Int32.toBitVec_shiftLeft]
  show (x.toBitVec <<< ((nI n &&& 31).toBitVec.smod 32).toNat).getLsbD i = _
  rw [s_l n hn, BitVec.getLsbD_shiftLeft]
  rcases Nat.lt_or_ge i n with h | h
  · simp [h, Nat.not_le.mpr h]
  · simp [hi, h, Nat.not_lt.mpr h]
theorem b_sshr (n : Nat) (hn : n < 32) (x : Int32) {i : Nat} (hi : i < 32) : bt (x >>> (nI n &&& 31)) i = if n + i < 32 then bt x (n + i) else bt x 31 := by
  unfold bt
  rw [Int32.toBitVec_shiftRight]
  show (x.toBitVec.sshiftRight ((nI n &&& 31).toBitVec.smod 32).toNat).getLsbD i = _
  rw [s_l n hn, BitVec.getLsbD_sshiftRight, BitVec.msb_eq_getLsbD_last]
  simp [hi]
end
section
/-! counts and sums over naturals -/
def pu_cnt (p : Nat → Bool) : Nat → Nat
  | 0 => 0
  | n + 1 => pu_cnt p n + (if p n = true then 1 else 0)
def pu_sum (f : Nat → Nat) : Nat → Nat
  | 0 => 0
  | n + 1 => pu_sum f n + f n
def pu_all (p : Nat → Bool) : Nat → Bool
  | 0 => true
  | n + 1 => pu_all p n && p n
def pu_any (p : Nat → Bool) : Nat → Bool
  | 0 => false
  | n + 1 => pu_any p n || p n
theorem pu_nm {α : Sort _} {e : α} {P : α → Prop} (e' : α) (he : e = e') (h : P e') : ∀ x, x = e → P x := fun x hx => by rw [hx, he]; exact h
theorem pu_bt {x : Bool} (h : ¬ x = false) : x = true := by cases x <;> first | rfl | exact absurd rfl h
theorem pu_bf {x : Bool} (h : ¬ x = true) : x = false := by cases x <;> first | rfl | exact absurd rfl h
theorem pu_cnt_t {p : Nat → Bool} {n : Nat} (h : p n = true) : pu_cnt p (n + 1) = pu_cnt p n + 1 := by rw [pu_cnt, if_pos h]
theorem pu_cnt_f {p : Nat → Bool} {n : Nat} (h : p n = false) : pu_cnt p (n + 1) = pu_cnt p n := by rw [pu_cnt, if_neg (by rw [h]; exact Bool.false_ne_true)]; rfl
theorem pu_cnt_s (p : Nat → Bool) (n : Nat) : pu_cnt p (n + 1) = pu_cnt p n + (if p n = true then 1 else 0) := rfl
theorem pu_sum_s (f : Nat → Nat) (n : Nat) : pu_sum f (n + 1) = pu_sum f n + f n := rfl
theorem pu_cnt_le (p : Nat → Bool) : ∀ n, pu_cnt p n ≤ n := by
  intro n
  induction n with
  | zero => exact Nat.le_refl 0
  | succ n ih =>
    rw [pu_cnt]
    split <;> omega
theorem pu_cnt_mono {p q : Nat → Bool} : ∀ n, (∀ e, e < n → p e = true → q e = true) → pu_cnt p n ≤ pu_cnt q n := by
  intro n
  induction n with
  | zero => intro _; exact Nat.le_refl 0
  | succ n ih =>
    intro h
    have h1 := ih (fun e he => h e (by omega))
    by_cases hp : p n = true
    · rw [pu_cnt_t hp, pu_cnt_t (h n (by omega) hp)]; omega
    · rw [pu_cnt_f (pu_bf hp), pu_cnt]; omega
theorem pu_cnt_lt {p q : Nat → Bool} {x : Nat} : ∀ n, (∀ e, e < n → p e = true → q e = true) → x < n → q x = true → p x = false → pu_cnt p n < pu_cnt q n := by
  intro n
  induction n with
  | zero => intro _ h; omega
  | succ n ih =>
    intro h hx hq hp
    by_cases e : x = n
    · subst e
      have h1 := pu_cnt_mono x (fun e he => h e (by omega))
      rw [pu_cnt_f hp, pu_cnt_t hq]; omega
    · have h1 := ih (fun e he => h e (by omega)) (by omega) hq hp
      by_cases hp : p n = true
      · rw [pu_cnt_t hp, pu_cnt_t (h n (by omega) hp)]; omega
      · rw [pu_cnt_f (pu_bf hp), pu_cnt_s q]; omega
theorem pu_cnt_ext {p q : Nat → Bool} : ∀ n, (∀ e, e < n → p e = q e) → pu_cnt p n = pu_cnt q n := by
  intro n
  induction n with
  | zero => intro _; rfl
  | succ n ih =>
    intro h
    rw [pu_cnt, pu_cnt, ih (fun e he => h e (by omega)), h n (by omega)]
theorem pu_cnt_ge {p : Nat → Bool} {a : Nat} : ∀ b, a ≤ b → (∀ e, a ≤ e → e < b → p e = false) → pu_cnt p b = pu_cnt p a := by
  intro b
  induction b with
  | zero => intro h _; rw [show a = 0 by omega]
  | succ b ih =>
    intro h hf
    by_cases e : a = b + 1
    · rw [e]
    · rw [pu_cnt_f (hf b (by omega) (by omega)), ih (by omega) (fun e h1 h2 => hf e h1 (by omega))]
theorem pu_cnt_up {p : Nat → Bool} {a : Nat} : ∀ b, a ≤ b → pu_cnt p a ≤ pu_cnt p b := by
  intro b
  induction b with
  | zero => intro h; rw [show a = 0 by omega]; exact Nat.le_refl _
  | succ b ih =>
    intro h
    by_cases e : a = b + 1
    · rw [e]; exact Nat.le_refl _
    · have := ih (by omega)
      rw [pu_cnt_s]; omega
theorem pu_sum_ext {f g : Nat → Nat} : ∀ n, (∀ e, e < n → f e = g e) → pu_sum f n = pu_sum g n := by
  intro n
  induction n with
  | zero => intro _; rfl
  | succ n ih =>
    intro h
    rw [pu_sum, pu_sum, ih (fun e he => h e (by omega)), h n (by omega)]
theorem pu_sum_le {f g : Nat → Nat} : ∀ n, (∀ e, e < n → f e ≤ g e) → pu_sum f n ≤ pu_sum g n := by
  intro n
  induction n with
  | zero => intro _; exact Nat.le_refl 0
  | succ n ih =>
    intro h
    have h1 := ih (fun e he => h e (by omega))
    have h2 := h n (by omega)
    rw [pu_sum, pu_sum]; omega
theorem pu_sum_cap {f : Nat → Nat} (m : Nat) : ∀ n, (∀ e, e < n → f e ≤ m) → pu_sum f n ≤ n * m := by
  intro n
  induction n with
  | zero => intro _; exact Nat.zero_le _
  | succ n ih =>
    intro h
    have h1 := ih (fun e he => h e (by omega))
    have h2 := h n (by omega)
    rw [pu_sum, Nat.succ_mul]; omega
theorem pu_sum_up {f : Nat → Nat} {a : Nat} : ∀ b, a ≤ b → pu_sum f a ≤ pu_sum f b := by
  intro b
  induction b with
  | zero => intro h; rw [show a = 0 by omega]; exact Nat.le_refl _
  | succ b ih =>
    intro h
    by_cases e : a = b + 1
    · rw [e]; exact Nat.le_refl _
    · have := ih (by omega)
      rw [pu_sum_s]; omega
theorem pu_sum_0 : ∀ n, pu_sum (fun _ => 0) n = 0 := by
  intro n
  induction n with
  | zero => rfl
  | succ n ih => rw [pu_sum, ih]
theorem pu_sum_z {f : Nat → Nat} (n : Nat) (h : ∀ e, e < n → f e = 0) : pu_sum f n = 0 := by
  rw [pu_sum_ext (g := fun _ => 0) n h, pu_sum_0]
theorem pu_sum_add (f g : Nat → Nat) : ∀ n, pu_sum (fun i => f i + g i) n = pu_sum f n + pu_sum g n := by
  intro n
  induction n with
  | zero => rfl
  | succ n ih =>
    rw [pu_sum, pu_sum, pu_sum, ih]; omega
theorem pu_sum_one {a x : Nat} : ∀ n, a < n → pu_sum (fun t => if t = a then x else 0) n = x := by
  intro n
  induction n with
  | zero => intro h; omega
  | succ n ih =>
    intro h
    by_cases e : a = n
    · subst e
      rw [pu_sum, if_pos rfl, pu_sum_z a (fun e he => if_neg (by omega)), Nat.zero_add]
    · rw [pu_sum, ih (by omega), if_neg (by omega)]; rfl
theorem pu_sum_cnt (p : Nat → Bool) : ∀ n, pu_sum (fun t => if p t = true then 1 else 0) n = pu_cnt p n := by
  intro n
  induction n with
  | zero => rfl
  | succ n ih => rw [pu_sum, pu_cnt, ih]
theorem pu_any_iff {p : Nat → Bool} : ∀ n, pu_any p n = true ↔ ∃ k, k < n ∧ p k = true := by
  intro n
  induction n with
  | zero => exact ⟨fun h => absurd h Bool.false_ne_true, fun ⟨k, hk, _⟩ => by omega⟩
  | succ n ih =>
    rw [pu_any, Bool.or_eq_true, ih]
    constructor
    · rintro (⟨k, hk, h⟩ | h)
      · exact ⟨k, by omega, h⟩
      · exact ⟨n, by omega, h⟩
    · rintro ⟨k, hk, h⟩
      by_cases e : k = n
      · subst e; exact Or.inr h
      · exact Or.inl ⟨k, by omega, h⟩
theorem pu_all_iff {p : Nat → Bool} : ∀ n, pu_all p n = true ↔ ∀ k, k < n → p k = true := by
  intro n
  induction n with
  | zero => exact ⟨fun _ k hk => by omega, fun _ => rfl⟩
  | succ n ih =>
    rw [pu_all, Bool.and_eq_true, ih]
    constructor
    · rintro ⟨h1, h2⟩ k hk
      by_cases e : k = n
      · subst e; exact h2
      · exact h1 k (by omega)
    · intro h
      exact ⟨fun k hk => h k (by omega), h n (by omega)⟩
theorem pu_all_f {p : Nat → Bool} {n k : Nat} (hk : k < n) (h : p k = false) : pu_all p n = false := by
  apply pu_bf
  intro e
  have := (pu_all_iff n).mp e k hk
  rw [h] at this
  exact Bool.false_ne_true this
theorem pu_perm {iw : Nat → Nat} {N : Nat} (g : Nat → Nat) : ∀ m, (∀ k, k < m → iw k < N) → (∀ i j, i < m → j < m → iw i = iw j → i = j) → pu_sum (fun k => g (iw k)) m = pu_sum (fun t => if pu_any (fun k => decide (iw k = t)) m = true then g t else 0) N := by
  intro m
  induction m with
  | zero =>
    intro _ _
    exact (pu_sum_z N (fun e _ => if_neg Bool.false_ne_true)).symm
  | succ m ih =>
    intro hN hi
    have h1 := ih (fun k hk => hN k (by omega)) (fun i j h1 h2 => hi i j (by omega) (by omega))
    have e : ∀ t, t < N → (if pu_any (fun k => decide (iw k = t)) (m + 1) = true then g t else 0) = (if pu_any (fun k => decide (iw k = t)) m = true then g t else 0) + (if t = iw m then g (iw m) else 0) := by
      intro t _
      by_cases z : t = iw m
      · subst z
        have h2 : ¬ pu_any (fun k => decide (iw k = iw m)) m = true := by
          rw [pu_any_iff]
          rintro ⟨k, hk, h⟩
          have := hi k m (by omega) (by omega) (of_decide_eq_true h)
          omega
        have h3 : pu_any (fun k => decide (iw k = iw m)) (m + 1) = true := (pu_any_iff _).mpr ⟨m, by omega, decide_eq_true rfl⟩
        rw [if_pos h3, if_neg h2, if_pos rfl, Nat.zero_add]
      · have h3 : pu_any (fun k => decide (iw k = t)) (m + 1) = pu_any (fun k => decide (iw k = t)) m := by
          rw [pu_any, decide_eq_false (fun h => z h.symm), Bool.or_false]
        rw [h3, if_neg z, Nat.add_zero]
    rw [pu_sum_ext N e, pu_sum_add, pu_sum_one N (hN m (by omega)), ← h1]
    rfl
theorem pu_items {q iw : Nat → Nat} {it : Nat} (hw : ∀ k, k < it → iw k < 8 ∧ 0 < q (iw k)) (hi : ∀ i j, i < it → j < it → iw i = iw j → i = j) (hq : ∀ t, t < 8 → 0 < q t → ∃ k, k < it ∧ iw k = t) (g : Nat → Nat) : pu_sum (fun k => g (iw k)) it = pu_sum (fun t => if 0 < q t then g t else 0) 8 := by
  rw [pu_perm (N := 8) g it (fun k hk => (hw k hk).1) hi]
  apply pu_sum_ext
  intro t ht
  by_cases z : 0 < q t
  · obtain ⟨k, hk, e⟩ := hq t ht z
    rw [if_pos z, if_pos ((pu_any_iff it).mpr ⟨k, hk, decide_eq_true e⟩)]
  · rw [if_neg z, if_neg]
    rw [pu_any_iff]
    rintro ⟨k, hk, e⟩
    have e := of_decide_eq_true e
    subst e
    exact z (hw k hk).2
/-! the abstract collection -/
def pu_st (k len : Nat) : Nat := 256 * k / (k + 2 + len / 4)
def pu_len (c : Nat → Nat) (d : Nat) : Nat := pu_sum (fun t => c (8 * d + t)) 8
def pu_h (lv : Nat → Bool) (c : Nat → Nat) (t d : Nat) : Bool := lv d && decide (0 < c (8 * d + t))
def pu_hold (lv : Nat → Bool) (c : Nat → Nat) (t : Nat) : Nat := pu_cnt (pu_h lv c t) 24
def pu_live (lv : Nat → Bool) : Nat := pu_cnt lv 24
def pu_bo (q : Nat) : Nat := (q - 1) % 10
def pu_kd (q : Nat) : Nat := if q = 0 then 0 else if q = 1 then 3 else if q < 11 then 1 else 2
def pu_wt (lv : Nat → Bool) (c q : Nat → Nat) (t : Nat) : Nat := pu_bo (q t) * (64 * (pu_live lv + 1) / (pu_hold lv c t + 1))
def pu_part (lv : Nat → Bool) (c q : Nat → Nat) (d t : Nat) : Nat := pu_wt lv c q t * pu_st (c (8 * d + t)) (pu_len c d)
def pu_worth (lv : Nat → Bool) (c q : Nat → Nat) (d : Nat) : Nat := pu_sum (fun t => if 1 < q t then pu_part lv c q d t else 0) 8
def pu_ok (q : Nat) (has : Bool) : Bool := !(decide (q = 1) && has) && !(decide (11 < q) && !has)
def pu_hit (q : Nat) (has : Bool) : Bool := decide (1 < q) && has
def pu_m (c q : Nat → Nat) (d : Nat) : Bool := pu_all (fun t => pu_ok (q t) (decide (0 < c (8 * d + t)))) 8 && pu_any (fun t => pu_hit (q t) (decide (0 < c (8 * d + t)))) 8
def pu_M (lv : Nat → Bool) (c q : Nat → Nat) (d : Nat) : Bool := lv d && pu_m c q d
def pu_beats (W : Nat → Nat) (e d : Nat) : Bool := decide (W d < W e) || (decide (W e = W d) && decide (e < d))
def pu_ah (M : Nat → Bool) (W : Nat → Nat) (F d : Nat) : Nat := pu_cnt (fun e => M e && pu_beats W e d) F
def pu_b : Bool → Int32
  | true => 1
  | false => 0
theorem pu_len_le {c : Nat → Nat} (h : ∀ k, c k ≤ 7) (d : Nat) : pu_len c d ≤ 56 := pu_sum_cap 7 8 (fun _ _ => h _)
theorem pu_st_le (k len : Nat) : pu_st k len ≤ 256 := by
  unfold pu_st
  generalize len / 4 = m
  apply Nat.le_of_lt_succ
  rw [Nat.div_lt_iff_lt_mul (by omega)]
  omega
theorem pu_st_0 (len : Nat) : pu_st 0 len = 0 := by
  unfold pu_st
  rw [Nat.mul_zero, Nat.zero_div]
theorem pu_rar_le (a b : Nat) (h : a ≤ 24) : 64 * (a + 1) / (b + 1) ≤ 1600 := by
  have := Nat.div_le_self (64 * (a + 1)) (b + 1)
  omega
theorem pu_wt_le (lv : Nat → Bool) (c q : Nat → Nat) (t : Nat) : pu_wt lv c q t ≤ 14400 := by
  have h1 : pu_bo (q t) ≤ 9 := by unfold pu_bo; omega
  have h2 := pu_rar_le (pu_live lv) (pu_hold lv c t) (pu_cnt_le _ _)
  exact Nat.mul_le_mul h1 h2
theorem pu_part_le (lv : Nat → Bool) (c q : Nat → Nat) (d t : Nat) : pu_part lv c q d t ≤ 3686400 := Nat.mul_le_mul (pu_wt_le lv c q t) (pu_st_le _ _)
theorem pu_worth_le (lv : Nat → Bool) (c q : Nat → Nat) (d : Nat) : pu_worth lv c q d ≤ 29491200 := by
  refine pu_sum_cap 3686400 8 ?_
  intro e _
  split
  · exact pu_part_le ..
  · exact Nat.zero_le _
end
section
/-! the first p at or behind F; 1000 if there is none below 24 -/
def pu_nxa (p : Nat → Bool) : Nat → Nat → Nat
  | 0, _ => 1000
  | n + 1, F => if p F = true then F else pu_nxa p n (F + 1)
def pu_nx (p : Nat → Bool) (F : Nat) : Nat := pu_nxa p (24 - F) F
theorem pu_nxa_s {p : Nat → Bool} (hp : ∀ d, 24 ≤ d → p d = false) : ∀ n F, 24 ≤ n + F → (pu_nxa p n F = 1000 ∧ ∀ d, F ≤ d → p d = false) ∨ (F ≤ pu_nxa p n F ∧ p (pu_nxa p n F) = true ∧ ∀ d, F ≤ d → d < pu_nxa p n F → p d = false) := by
  intro n
  induction n with
  | zero => intro F h; exact Or.inl ⟨rfl, fun d hd => hp d (by omega)⟩
  | succ n ih =>
    intro F h
    by_cases z : p F = true
    · have e : pu_nxa p (n + 1) F = F := by rw [pu_nxa, if_pos z]
      rw [e]
      exact Or.inr ⟨Nat.le_refl F, z, fun d h1 h2 => by omega⟩
    · have e : pu_nxa p (n + 1) F = pu_nxa p n (F + 1) := by rw [pu_nxa, if_neg z]
      rw [e]
      have st : ∀ d, F ≤ d → d = F ∨ F + 1 ≤ d := fun d _ => by omega
      rcases ih (F + 1) (by omega) with ⟨h1, h2⟩ | ⟨h1, h2, h3⟩
      · refine Or.inl ⟨h1, fun d hd => ?_⟩
        rcases st d hd with rfl | h4
        · exact pu_bf z
        · exact h2 d h4
      · refine Or.inr ⟨by omega, h2, fun d hd h5 => ?_⟩
        rcases st d hd with rfl | h4
        · exact pu_bf z
        · exact h3 d h4 h5
theorem pu_nx_s {p : Nat → Bool} (hp : ∀ d, 24 ≤ d → p d = false) (F : Nat) : (pu_nx p F = 1000 ∧ ∀ d, F ≤ d → p d = false) ∨ (pu_nx p F < 24 ∧ F ≤ pu_nx p F ∧ p (pu_nx p F) = true ∧ ∀ d, F ≤ d → d < pu_nx p F → p d = false) := by
  rcases pu_nxa_s hp (24 - F) F (by omega) with h | ⟨h1, h2, h3⟩
  · exact Or.inl h
  · refine Or.inr ⟨?_, h1, h2, h3⟩
    apply Nat.lt_of_not_le
    intro h
    have := hp _ h
    unfold pu_nx at this
    rw [h2] at this
    exact Bool.false_ne_true this.symm
theorem pu_nx_1 {p : Nat → Bool} (hp : ∀ d, 24 ≤ d → p d = false) {F : Nat} (h : ∀ d, F ≤ d → p d = false) : pu_nx p F = 1000 := by
  rcases pu_nx_s hp F with h1 | ⟨h1, h2, h3, h4⟩
  · exact h1.1
  · rw [h _ h2] at h3
    exact absurd h3 Bool.false_ne_true
theorem pu_nx_2 {p : Nat → Bool} (hp : ∀ d, 24 ≤ d → p d = false) {F D : Nat} (h : F ≤ D) (hD : p D = true) (hF : ∀ d, F ≤ d → d < D → p d = false) : pu_nx p F = D := by
  rcases pu_nx_s hp F with h1 | ⟨h1, h2, h3, h4⟩
  · rw [h1.2 D h] at hD
    exact absurd hD Bool.false_ne_true
  · rcases Nat.lt_trichotomy (pu_nx p F) D with z | z | z
    · rw [hF _ h2 z] at h3
      exact absurd h3 Bool.false_ne_true
    · exact z
    · rw [h4 _ h z] at hD
      exact absurd hD Bool.false_ne_true
theorem pu_nx_le {p : Nat → Bool} (hp : ∀ d, 24 ≤ d → p d = false) (F : Nat) : pu_nx p F ≤ 1000 := by
  rcases pu_nx_s hp F with h1 | ⟨h1, h2, h3, h4⟩ <;> omega
theorem pu_nx_hit {p : Nat → Bool} (hp : ∀ d, 24 ≤ d → p d = false) {F e : Nat} (h : F ≤ e) (he : p e = true) : pu_nx p F ≤ e := by
  rcases pu_nx_s hp F with h1 | ⟨h1, h2, h3, h4⟩
  · rw [h1.2 e h] at he
    exact absurd he Bool.false_ne_true
  · apply Nat.le_of_not_lt
    intro z
    rw [h4 e h z] at he
    exact absurd he Bool.false_ne_true
/-! who comes before whom -/
theorem pu_beats_iff {W : Nat → Nat} {e d : Nat} : pu_beats W e d = true ↔ W d < W e ∨ (W e = W d ∧ e < d) := by
  unfold pu_beats
  rw [Bool.or_eq_true, Bool.and_eq_true, decide_eq_true_eq, decide_eq_true_eq, decide_eq_true_eq]
theorem pu_beats_f {W : Nat → Nat} {e d : Nat} (h : ¬ (W d < W e ∨ (W e = W d ∧ e < d))) : pu_beats W e d = false := pu_bf (fun z => h (pu_beats_iff.mp z))
theorem pu_and_t {a b : Bool} : (a && b) = true ↔ a = true ∧ b = true := by rw [Bool.and_eq_true]
theorem pu_and_f2 {a b : Bool} (h : b = false) : (a && b) = false := by rw [h, Bool.and_false]
theorem pu_and_f1 {a b : Bool} (h : a = false) : (a && b) = false := by rw [h, Bool.false_and]
theorem pu_ah_lt {M : Nat → Bool} {W : Nat → Nat} {N d d' : Nat} (hd : d < N) (hM : M d = true) (hb : pu_beats W d d' = true) : pu_ah M W N d < pu_ah M W N d' := by
  refine pu_cnt_lt (x := d) N (fun e _ h => ?_) hd (pu_and_t.mpr ⟨hM, hb⟩) (pu_and_f2 (pu_beats_f (by omega)))
  obtain ⟨h1, h2⟩ := pu_and_t.mp h
  refine pu_and_t.mpr ⟨h1, ?_⟩
  rw [pu_beats_iff] at hb h2 ⊢
  omega
theorem pu_ah_inj {M : Nat → Bool} {W : Nat → Nat} {N d d' : Nat} (hd : d < N) (hM : M d = true) (hd' : d' < N) (hM' : M d' = true) (h : pu_ah M W N d = pu_ah M W N d') : d = d' := by
  by_cases z : d = d'
  · exact z
  · by_cases b : pu_beats W d d' = true
    · have := pu_ah_lt hd hM b
      omega
    · have b' : pu_beats W d' d = true := by
        rw [pu_beats_iff] at b ⊢
        omega
      have := pu_ah_lt hd' hM' b'
      omega
theorem pu_ah_cnt {M : Nat → Bool} {W : Nat → Nat} {N d : Nat} (hd : d < N) (hM : M d = true) : pu_ah M W N d < pu_cnt M N :=
  pu_cnt_lt (x := d) N (fun e _ h => (pu_and_t.mp h).1) hd hM (pu_and_f2 (pu_beats_f (by omega)))
/-! the ten best of those below F -/
def pu_top (M : Nat → Bool) (W : Nat → Nat) (F fo : Nat) (bd : Nat → Nat) : Prop := (fo = pu_cnt M F ∧ fo ≤ 10 ∨ fo = 10 ∧ 10 ≤ pu_cnt M F) ∧ (∀ p, p < fo → bd p < F ∧ M (bd p) = true ∧ pu_ah M W F (bd p) = p) ∧ (∀ p, p + 1 < fo → W (bd (p + 1)) ≤ W (bd p))
theorem pu_top_0 (M : Nat → Bool) (W bd : Nat → Nat) : pu_top M W 0 0 bd := ⟨Or.inl ⟨rfl, by omega⟩, fun p hp => by omega, fun p hp => by omega⟩
theorem pu_top_fo {M : Nat → Bool} {W bd : Nat → Nat} {F fo : Nat} (h : pu_top M W F fo bd) : fo ≤ 10 := by
  have := h.1
  omega
theorem pu_top_mono {M : Nat → Bool} {W bd : Nat → Nat} {F fo : Nat} (h : pu_top M W F fo bd) : ∀ j p, p + j < fo → W (bd (p + j)) ≤ W (bd p) := by
  intro j
  induction j with
  | zero => intro p _; exact Nat.le_refl _
  | succ j ih =>
    intro p hp
    exact Nat.le_trans (h.2.2 (p + j) hp) (ih p (by omega))
theorem pu_top_ext {M : Nat → Bool} {W bd bd' : Nat → Nat} {F fo : Nat} (h : pu_top M W F fo bd) (e : ∀ p, p < fo → bd' p = bd p) : pu_top M W F fo bd' := by
  obtain ⟨h1, h2, h3⟩ := h
  refine ⟨h1, fun p hp => ?_, fun p hp => ?_⟩
  · rw [e p hp]; exact h2 p hp
  · rw [e p (by omega), e (p + 1) hp]; exact h3 p hp
theorem pu_top_skip {M : Nat → Bool} {W bd : Nat → Nat} {F fo : Nat} (h : pu_top M W F fo bd) (hs : M F = false ∨ (fo = 10 ∧ W F ≤ W (bd 9))) : pu_top M W (F + 1) fo bd := by
  obtain ⟨h1, h2, h3⟩ := id h
  rcases hs with hs | ⟨h10, hw⟩
  · refine ⟨by rw [pu_cnt_f hs]; exact h1, fun p hp => ?_, h3⟩
    obtain ⟨g1, g2, g3⟩ := h2 p hp
    exact ⟨by omega, g2, by rw [pu_ah, pu_cnt_f (pu_and_f1 hs)]; exact g3⟩
  · have hc := pu_cnt_up (p := M) (F + 1) (Nat.le_succ F)
    refine ⟨by omega, fun p hp => ?_, h3⟩
    obtain ⟨g1, g2, g3⟩ := h2 p hp
    have hm := pu_top_mono h (9 - p) p (by omega)
    rw [show p + (9 - p) = 9 by omega] at hm
    exact ⟨by omega, g2, by rw [pu_ah, pu_cnt_f (pu_and_f2 (pu_beats_f (by omega)))]; exact g3⟩
theorem pu_top_skips {M : Nat → Bool} {W bd : Nat → Nat} {fo : Nat} : ∀ m F, pu_top M W F fo bd → (∀ e, F ≤ e → e < F + m → M e = false ∨ (fo = 10 ∧ W e ≤ W (bd 9))) → pu_top M W (F + m) fo bd := by
  intro m
  induction m with
  | zero => intro F h _; exact h
  | succ m ih =>
    intro F h hs
    have := ih (F + 1) (pu_top_skip h (hs F (Nat.le_refl F) (by omega))) (fun e h1 h2 => hs e (by omega) (by omega))
    rw [show F + (m + 1) = F + 1 + m by omega]
    exact this
theorem pu_top_to {M : Nat → Bool} {W bd : Nat → Nat} {fo F G : Nat} (h : pu_top M W F fo bd) (hG : F ≤ G) (hs : ∀ e, F ≤ e → e < G → M e = false ∨ (fo = 10 ∧ W e ≤ W (bd 9))) : pu_top M W G fo bd := by
  have := pu_top_skips (G - F) F h (fun e h1 h2 => hs e h1 (by omega))
  rw [show F + (G - F) = G by omega] at this
  exact this
def pu_ins (bd : Nat → Nat) (a x : Nat) : Nat → Nat := fun p => if p < a then bd p else if p = a then x else bd (p - 1)
theorem pu_ins_lt {bd : Nat → Nat} {a x p : Nat} (h : p < a) : pu_ins bd a x p = bd p := if_pos h
theorem pu_ins_eq {bd : Nat → Nat} {a x : Nat} : pu_ins bd a x a = x := by unfold pu_ins; rw [if_neg (by omega), if_pos rfl]
theorem pu_ins_gt {bd : Nat → Nat} {a x p : Nat} (h : a ≤ p) : pu_ins bd a x (p + 1) = bd p := by unfold pu_ins; rw [if_neg (by omega), if_neg (by omega)]; rfl
theorem pu_top_offer {M : Nat → Bool} {W bd : Nat → Nat} {F fo a : Nat} (h : pu_top M W F fo bd) (hM : M F = true) (ha : a ≤ fo) (ha10 : a < 10) (hlo : ∀ p, p < a → W F ≤ W (bd p)) (hhi : ∀ p, a ≤ p → p < fo → W (bd p) < W F) : pu_top M W (F + 1) (if fo < 10 then fo + 1 else fo) (pu_ins bd a F) := by
  obtain ⟨h1, h2, h3⟩ := id h
  have hfo := pu_top_fo h
  have hc : pu_cnt M (F + 1) = pu_cnt M F + 1 := pu_cnt_t hM
  have hself : pu_ah M W (F + 1) F = a := by
    rw [pu_ah, pu_cnt_f (pu_and_f2 (pu_beats_f (by omega)))]
    apply Nat.le_antisymm
    · by_cases z : a < fo
      · obtain ⟨g1, g2, g3⟩ := h2 a z
        have g4 := hhi a (Nat.le_refl a) z
        refine Nat.le_trans (pu_cnt_mono F (fun e he hh => ?_)) (Nat.le_of_eq g3)
        obtain ⟨k1, k2⟩ := pu_and_t.mp hh
        refine pu_and_t.mpr ⟨k1, ?_⟩
        rw [pu_beats_iff] at k2 ⊢
        omega
      · have e : a = pu_cnt M F := by omega
        rw [e]
        exact pu_cnt_mono F (fun e _ hh => (pu_and_t.mp hh).1)
    · by_cases z : a = 0
      · omega
      · obtain ⟨g1, g2, g3⟩ := h2 (a - 1) (by omega)
        have g4 := hlo (a - 1) (by omega)
        have : pu_ah M W F (bd (a - 1)) < pu_cnt (fun e => M e && pu_beats W e F) F := by
          refine pu_cnt_lt (x := bd (a - 1)) F (fun e he hh => ?_) g1 (pu_and_t.mpr ⟨g2, pu_beats_iff.mpr (by omega)⟩) (pu_and_f2 (pu_beats_f (by omega)))
          obtain ⟨k1, k2⟩ := pu_and_t.mp hh
          refine pu_and_t.mpr ⟨k1, ?_⟩
          rw [pu_beats_iff] at k2 ⊢
          omega
        omega
  have hN : (if fo < 10 then fo + 1 else fo) ≤ fo + 1 := by split <;> omega
  refine ⟨?_, fun p hp => ?_, fun p hp => ?_⟩
  · rw [hc]
    split <;> omega
  · rcases Nat.lt_trichotomy p a with z | z | z
    · obtain ⟨g1, g2, g3⟩ := h2 p (by omega)
      have g4 := hlo p z
      rw [pu_ins_lt z]
      exact ⟨by omega, g2, by rw [pu_ah, pu_cnt_f (pu_and_f2 (pu_beats_f (by omega)))]; exact g3⟩
    · subst z
      rw [pu_ins_eq]
      exact ⟨by omega, hM, hself⟩
    · obtain ⟨r, rfl⟩ : ∃ r, p = r + 1 := ⟨p - 1, by omega⟩
      obtain ⟨g1, g2, g3⟩ := h2 r (by omega)
      have g4 := hhi r (by omega) (by omega)
      rw [pu_ins_gt (by omega)]
      exact ⟨by omega, g2, by rw [pu_ah, pu_cnt_t (pu_and_t.mpr ⟨hM, pu_beats_iff.mpr (Or.inl g4)⟩)]; exact congrArg (· + 1) g3⟩
  · rcases Nat.lt_trichotomy (p + 1) a with z | z | z
    · rw [pu_ins_lt z, pu_ins_lt (by omega)]
      exact h3 p (by omega)
    · subst z
      rw [pu_ins_eq, pu_ins_lt (by omega)]
      exact hlo p (by omega)
    · rw [pu_ins_gt (p := p) (by omega)]
      by_cases y : p = a
      · subst y
        rw [pu_ins_eq]
        exact Nat.le_of_lt (hhi p (Nat.le_refl p) (by omega))
      · obtain ⟨r, rfl⟩ : ∃ r, p = r + 1 := ⟨p - 1, by omega⟩
        rw [pu_ins_gt (by omega)]
        exact h3 r (by omega)
theorem pu_top_no {M : Nat → Bool} {W bd : Nat → Nat} {F fo p d : Nat} (h : pu_top M W F fo bd) (hp : fo ≤ p) (h10 : p < 10) (hd : d < F) (hM : M d = true) : pu_ah M W F d ≠ p := by
  have h1 := h.1
  have := pu_ah_cnt (W := W) hd hM
  omega
theorem pu_top_yes {M : Nat → Bool} {W bd : Nat → Nat} {F fo p d : Nat} (h : pu_top M W F fo bd) (hp : p < fo) (hd : d < F) (hM : M d = true) (e : pu_ah M W F d = p) : d = bd p := by
  obtain ⟨g1, g2, g3⟩ := h.2.1 p hp
  exact pu_ah_inj hd hM g1 g2 (by rw [e, g3])
/-! lanes: the bounds of the lanes that have come no further -/
theorem pu_maxlane {D : Nat → Nat} {e : Nat} : ∀ n, (∃ k, k < n ∧ D k ≤ e) → ∃ k, k < n ∧ D k ≤ e ∧ ∀ j, j < n → D j ≤ e → D j ≤ D k := by
  intro n
  induction n with
  | zero => rintro ⟨k, hk, _⟩; omega
  | succ n ih =>
    rintro ⟨k, hk, hD⟩
    by_cases z : ∃ k, k < n ∧ D k ≤ e
    · obtain ⟨m, hm, h1, h2⟩ := ih z
      by_cases y : D n ≤ e ∧ D m ≤ D n
      · refine ⟨n, by omega, y.1, fun j hj hje => ?_⟩
        by_cases x : j = n
        · subst x; exact Nat.le_refl _
        · have := h2 j (by omega) hje
          omega
      · refine ⟨m, by omega, h1, fun j hj hje => ?_⟩
        by_cases x : j = n
        · subst x
          omega
        · exact h2 j (by omega) hje
    · have hkn : k = n := by
        apply Classical.byContradiction
        intro y
        exact z ⟨k, by omega, hD⟩
      subst hkn
      refine ⟨k, hk, hD, fun j hj hje => ?_⟩
      by_cases x : j = k
      · subst x; exact Nat.le_refl _
      · exact absurd ⟨j, by omega, hje⟩ z
def pu_S (D B : Nat → Nat) (n x : Nat) : Nat := pu_sum (fun j => if D j ≤ x then B j else 0) n
def pu_NC (D B : Nat → Nat) (n : Nat) (lim : Int32) (k r : Nat) : Prop := (r = 1000 ∨ ∃ j, j < k ∧ r = D j) ∧ (∀ j, j < k → D j < r → nI (pu_S D B n (D j)) ≤ lim) ∧ r ≤ 1000
def pu_LD (D : Nat → Nat) (k r : Nat) : Prop := (r = 1000 ∨ ∃ j, j < k ∧ r = D j) ∧ (∀ j, j < k → r ≤ D j) ∧ r ≤ 1000
theorem pu_NC_lim {D B : Nat → Nat} {n e r : Nat} {lim : Int32} (h : pu_NC D B n lim n r) (he : e < r) (hk : ∃ k, k < n ∧ D k ≤ e) : nI (pu_S D B n e) ≤ lim := by
  obtain ⟨k, h1, h2, h3⟩ := pu_maxlane n hk
  have e1 : pu_S D B n e = pu_S D B n (D k) := by
    refine pu_sum_ext n (fun j hj => ?_)
    by_cases z : D j ≤ e
    · rw [if_pos z, if_pos (h3 j hj z)]
    · rw [if_neg z, if_neg (by omega)]
  rw [e1]
  exact h.2.1 k h1 (by omega)
end
section
/-! small rows on numbers -/
theorem pu_ix8 (d t : Nat) : (8 : Int32) * nI d + nI t = nI (8 * d + t) := by
  show nI 8 * nI d + nI t = _
  rw [pk_mul, nI_add]
theorem pu_ix48 (t i : Nat) : (48 : Int32) * nI t + nI i = nI (48 * t + i) := by
  show nI 48 * nI t + nI i = _
  rw [pk_mul, nI_add]
theorem pu_2 (i : Nat) : nI i + 2 = nI (i + 2) := nI_add i 2
theorem pu_byte : ∀ m, m < 128 → (nI m).toInt8.toInt32 = nI m := by decide +kernel
theorem pu_nar {m : Nat} (h : m < 128) : vp_nar .byte ((nI m).toInt8.toInt32) = nI m := by rw [pk_vb, pu_byte m h]
theorem pu_narb (b : Bool) : vp_nar .boolean (pu_b b) = pu_b b := by cases b <;> rfl
theorem pu_narrow (b : Bool) : narrow .boolean (.int (pu_b b)) = .int (pu_b b) := by cases b <;> rfl
theorem pu_b_0 {b : Bool} (h : pu_b b = 0) : b = false := by
  cases b
  · rfl
  · exact absurd h (by decide)
theorem pu_b_1 {b : Bool} (h : ¬ pu_b b = 0) : b = true := by
  cases b
  · exact absurd rfl h
  · rfl
theorem pu_bc {b : Bool} {A B : Prop} (h0 : b = false → A) (h1 : b = true → B) : (pu_b b = 0 → A) ∧ (¬ pu_b b = 0 → B) := ⟨fun h => h0 (pu_b_0 h), fun h => h1 (pu_b_1 h)⟩
theorem pu_kd_c {q : Nat} (h : q ≤ 20 ∧ q ≠ 11) : (q = 0 ∧ pu_kd q = 0) ∨ (q = 1 ∧ pu_kd q = 3) ∨ (1 < q ∧ q < 11 ∧ pu_kd q = 1) ∨ (11 < q ∧ q ≤ 20 ∧ pu_kd q = 2) := by
  unfold pu_kd
  by_cases h0 : q = 0
  · rw [if_pos h0]; omega
  · rw [if_neg h0]
    by_cases h1 : q = 1
    · rw [if_pos h1]; omega
    · rw [if_neg h1]
      by_cases h2 : q < 11
      · rw [if_pos h2]; omega
      · rw [if_neg h2]; omega
theorem pu_h_t {lv : Nat → Bool} {c : Nat → Nat} {t d : Nat} : pu_h lv c t d = true ↔ lv d = true ∧ 0 < c (8 * d + t) := by
  unfold pu_h
  rw [Bool.and_eq_true, decide_eq_true_eq]
theorem pu_h_f {lv : Nat → Bool} {c : Nat → Nat} {t d : Nat} (h : ¬ (lv d = true ∧ 0 < c (8 * d + t))) : pu_h lv c t d = false := pu_bf (fun z => h (pu_h_t.mp z))
theorem pu_part_0 {lv : Nat → Bool} {c q : Nat → Nat} {d t : Nat} (h : c (8 * d + t) = 0) : pu_part lv c q d t = 0 := by
  unfold pu_part
  rw [h, pu_st_0, Nat.mul_zero]
end
section
section
variable {f_added : Int32} {a_draft a_table a_there a_kind a_boost : Nat → Int32}
variable {ad : Nat} {lv : Nat → Bool} {c dr q : Nat → Nat}
theorem yy_bw {post : Int32 → Prop} {p0 : Int32} (h0 : ∀ t, t < 8 → p0 = nI t → post 0) (h1 : (∀ t, t < 8 → p0 ≠ nI t) → post 1) : wpY_badWord post (f_added, a_draft, a_table, a_there, a_kind, a_boost) p0 := by
  unfold wpY_badWord
  refine br_c (fun h => h1 ?_) (fun h => br_c (fun h7 => ?_) (fun h7 => h1 ?_))
  · intro t ht e
    subst e
    exact nI_pos (by omega) h
  · obtain ⟨j, hj, rfl⟩ := nI_of2 (M := 7) (n := 7) (by decide) h h7
    exact h0 j (by omega) rfl
  · intro t ht e
    subst e
    exact h7 (nI_le (b := 7) (by omega) (by decide))
theorem yy_bad {post : Int32 → Prop} {p0 : Int32} (hT : ∀ d, d < 24 → a_there d = pu_b (lv d)) (h0 : ∀ d, d < 24 → p0 = nI d → lv d = true → post 0) (h1 : (∀ d, d < 24 → p0 = nI d → lv d = false) → post 1) : wpY_bad post (f_added, a_draft, a_table, a_there, a_kind, a_boost) p0 := by
  unfold wpY_bad
  refine br_c (fun h => h1 ?_) (fun h => br_c (fun h7 => h1 ?_) (fun h7 => ?_))
  · intro t ht e
    subst e
    exact absurd h (nI_pos (by omega))
  · intro t ht e
    subst e
    exact absurd h7 (nI_nlt (b := t) (a := 23) (by omega) (by decide))
  · obtain ⟨j, hj, rfl⟩ := nI_of2 (M := 23) (n := 23) (by decide) h (Int32.not_lt.mp h7)
    refine ⟨pk_in j 24 (by omega), ?_⟩
    rw [nI_clamp (by omega), hT j (by omega)]
    refine pu_bc (fun e => h1 ?_) (fun e => h0 j (by omega) rfl e)
    intro d hd e2
    rw [nI_eq (by omega) (by omega)] at e2
    rw [← e2]
    exact e
theorem yy_dl_l (hD : ∀ t, t < 8 → a_draft t = nI (dr t)) {post : Int32 → Prop} (k : post (nI (pu_sum dr 8))) : ∀ n i, i ≤ 8 → 8 - i < n → wY_draftLength_4 post f_added a_draft a_table a_there a_kind a_boost n (nI (pu_sum dr i)) (nI i) := by
  intro n
  induction n with
  | zero => intro i _ _; omega
  | succ n ih =>
    intro i hi hn
    rw [wY_draftLength_4]
    refine pk_le 8 i (fun h => ?_) (fun h => ⟨pk_in i 8 h, pu_nm (nI (pu_sum dr (i + 1))) ?_ (nm_r (nI_1 i) (ih (i + 1) (by omega) (by omega)))⟩)
    · rw [show i = 8 by omega]; exact k
    · rw [nI_clamp (by omega), hD i h, nI_add]; rfl
theorem yy_dl (hD : ∀ t, t < 8 → a_draft t = nI (dr t)) {post : Int32 → Prop} (k : post (nI (pu_sum dr 8))) : wpY_draftLength post (f_added, a_draft, a_table, a_there, a_kind, a_boost) := by
  unfold wpY_draftLength
  exact ⟨9, yy_dl_l hD k 9 0 (by omega) (by omega)⟩
theorem yy_lc_l (hT : ∀ d, d < 24 → a_there d = pu_b (lv d)) {post : Int32 → Prop} (k : post (nI (pu_live lv))) : ∀ n i, i ≤ 24 → 24 - i < n → wY_liveCount_4 post f_added a_draft a_table a_there a_kind a_boost n (nI (pu_cnt lv i)) (nI i) := by
  intro n
  induction n with
  | zero => intro i _ _; omega
  | succ n ih =>
    intro i hi hn
    rw [wY_liveCount_4]
    refine pk_le 24 i (fun h => ?_) (fun h => ⟨pk_in i 24 h, ?_⟩)
    · rw [show i = 24 by omega]; exact k
    · have H := ih (i + 1) (by omega) (by omega)
      rw [nI_clamp (by omega), hT i h]
      refine pu_bc (fun e => nm_r (nI_1 i) ?_) (fun e => pu_nm (nI (pu_cnt lv (i + 1))) ?_ (nm_r (nI_1 i) H))
      · rw [pu_cnt_f e] at H; exact H
      · rw [pu_cnt_t e]; exact nI_1 _
theorem yy_lc (hT : ∀ d, d < 24 → a_there d = pu_b (lv d)) {post : Int32 → Prop} (k : post (nI (pu_live lv))) : wpY_liveCount post (f_added, a_draft, a_table, a_there, a_kind, a_boost) := by
  unfold wpY_liveCount
  exact ⟨25, yy_lc_l hT k 25 0 (by omega) (by omega)⟩
theorem yy_ho_l (hT : ∀ d, d < 24 → a_there d = pu_b (lv d)) (hC : ∀ k, k < 192 → a_table k = nI (c k)) (hc : ∀ k, c k ≤ 7) {t : Nat} (ht : t < 8) {post : Int32 → Prop} (k : post (nI (pu_hold lv c t))) : ∀ n i, i ≤ 24 → 24 - i < n → wY_holders_4 post (nI t) f_added a_draft a_table a_there a_kind a_boost n (nI (pu_cnt (pu_h lv c t) i)) (nI i) := by
  intro n
  induction n with
  | zero => intro i _ _; omega
  | succ n ih =>
    intro i hi hn
    rw [wY_holders_4]
    refine pk_le 24 i (fun h => ?_) (fun h => ⟨pk_in i 24 h, ?_⟩)
    · rw [show i = 24 by omega]; exact k
    · have H := ih (i + 1) (by omega) (by omega)
      have h7 := hc (8 * i + t)
      rw [nI_clamp (show i < 2 ^ 31 by omega), hT i h, pu_ix8, nI_clamp (show 8 * i + t < 2 ^ 31 by omega), hC (8 * i + t) (by omega)]
      refine pu_bc (fun e => nm_r (nI_1 i) ?_) (fun e => ⟨pk_in (8 * i + t) 192 (by omega), pk_le (c (8 * i + t)) 0 (fun z => nm_r (nI_1 i) ?_) (fun z => pu_nm (nI (pu_cnt (pu_h lv c t) (i + 1))) ?_ (nm_r (nI_1 i) H))⟩)
      · rw [pu_cnt_f (pu_h_f (fun y => by rw [e] at y; exact Bool.false_ne_true y.1))] at H; exact H
      · rw [pu_cnt_f (pu_h_f (fun y => by omega))] at H; exact H
      · rw [pu_cnt_t (pu_h_t.mpr ⟨e, z⟩)]; exact nI_1 _
theorem yy_ho (hT : ∀ d, d < 24 → a_there d = pu_b (lv d)) (hC : ∀ k, k < 192 → a_table k = nI (c k)) (hc : ∀ k, c k ≤ 7) {t : Nat} (ht : t < 8) {post : Int32 → Prop} (k : post (nI (pu_hold lv c t))) : wpY_holders post (f_added, a_draft, a_table, a_there, a_kind, a_boost) (nI t) := by
  unfold wpY_holders
  exact ⟨25, yy_ho_l hT hC hc ht k 25 0 (by omega) (by omega)⟩
theorem yy_it_l (hK : ∀ t, t < 8 → a_kind t = nI (pu_kd (q t))) (hq : ∀ t, q t ≤ 20 ∧ q t ≠ 11) {post : Int32 → Prop} (k : post (nI (pu_cnt (fun t => decide (0 < q t)) 8))) : ∀ n i, i ≤ 8 → 8 - i < n → wY_items_4 post f_added a_draft a_table a_there a_kind a_boost n (nI (pu_cnt (fun t => decide (0 < q t)) i)) (nI i) := by
  intro n
  induction n with
  | zero => intro i _ _; omega
  | succ n ih =>
    intro i hi hn
    rw [wY_items_4]
    refine pk_le 8 i (fun h => ?_) (fun h => ⟨pk_in i 8 h, ?_⟩)
    · rw [show i = 8 by omega]; exact k
    · have H := ih (i + 1) (by omega) (by omega)
      have h7 := pu_kd_c (hq i)
      rw [nI_clamp (by omega), hK i h]
      refine pk_le (pu_kd (q i)) 0 (fun z => nm_r (nI_1 i) ?_) (fun z => pu_nm (nI (pu_cnt (fun t => decide (0 < q t)) (i + 1))) ?_ (nm_r (nI_1 i) H))
      · rw [pu_cnt_f (decide_eq_false (by omega))] at H; exact H
      · rw [pu_cnt_t (decide_eq_true (by omega))]; exact nI_1 _
theorem yy_it (hK : ∀ t, t < 8 → a_kind t = nI (pu_kd (q t))) (hq : ∀ t, q t ≤ 20 ∧ q t ≠ 11) {post : Int32 → Prop} (k : post (nI (pu_cnt (fun t => decide (0 < q t)) 8))) : wpY_items post (f_added, a_draft, a_table, a_there, a_kind, a_boost) := by
  unfold wpY_items
  exact ⟨9, yy_it_l hK hq k 9 0 (by omega) (by omega)⟩
/-! matches -/
theorem yy_m74 (hK : ∀ t, t < 8 → a_kind t = nI (pu_kd (q t))) (hq : ∀ t, q t ≤ 20 ∧ q t ≠ 11) {post : Int32 → Prop} {J : Int32 → Int32 → Prop} {x1 : Int32} {t : Nat} (ht : t < 8) {has any : Bool} (h1 : J (pu_b (any || pu_hit (q t) has)) (nI (t + 1))) : wY_matches_74 post J x1 (pu_b any) (nI t) (pu_b has) f_added a_draft a_table a_there a_kind a_boost := by
  unfold wY_matches_74
  have h7 := pu_kd_c (hq t)
  rw [nI_clamp (by omega), hK t ht, nI_1]
  refine pu_bc (fun e => nm_e ?_) (fun e => ⟨pk_in t 8 ht, ?_⟩)
  · subst e
    unfold pu_hit at h1
    rw [Bool.and_false, Bool.or_false] at h1
    exact h1
  · subst e
    unfold pu_hit at h1
    rw [Bool.and_true] at h1
    refine pk_eq (pu_kd (q t)) 1 (fun z => nm_e ?_) (fun z => ⟨pk_in t 8 ht, pk_eq (pu_kd (q t)) 2 (fun z2 => nm_e ?_) (fun z2 => nm_e ?_)⟩)
    · rw [decide_eq_true (show 1 < q t by omega), Bool.or_true] at h1; exact h1
    · rw [decide_eq_true (show 1 < q t by omega), Bool.or_true] at h1; exact h1
    · rw [decide_eq_false (show ¬ 1 < q t by omega), Bool.or_false] at h1; exact h1
theorem yy_m40 (hK : ∀ t, t < 8 → a_kind t = nI (pu_kd (q t))) (hq : ∀ t, q t ≤ 20 ∧ q t ≠ 11) {post : Int32 → Prop} {J : Int32 → Int32 → Prop} {x1 : Int32} {t : Nat} (ht : t < 8) {has any : Bool} (h0 : pu_ok (q t) has = false → post 0) (h1 : pu_ok (q t) has = true → J (pu_b (any || pu_hit (q t) has)) (nI (t + 1))) : wY_matches_40 post J x1 (pu_b any) (nI t) (pu_b has) f_added a_draft a_table a_there a_kind a_boost := by
  have h7 := pu_kd_c (hq t)
  have K57 : (q t ≠ 1 ∨ has = false) → wY_matches_57 post J x1 (pu_b any) (nI t) (pu_b has) f_added a_draft a_table a_there a_kind a_boost := by
    intro hne
    unfold wY_matches_57
    refine ⟨pk_in t 8 ht, ?_⟩
    rw [nI_clamp (by omega), hK t ht]
    refine pk_eq (pu_kd (q t)) 2 (fun z => pu_bc (fun e => h0 ?_) (fun e => yy_m74 hK hq ht (h1 ?_))) (fun z => yy_m74 hK hq ht (h1 ?_))
    · subst e; unfold pu_ok; rw [decide_eq_true (show 11 < q t by omega), decide_eq_false (show ¬ q t = 1 by omega)]; rfl
    · subst e; unfold pu_ok; rw [decide_eq_true (show 11 < q t by omega), decide_eq_false (show ¬ q t = 1 by omega)]; rfl
    · unfold pu_ok; rw [decide_eq_false (show ¬ 11 < q t by omega)]
      rcases hne with e | e
      · rw [decide_eq_false e]; rfl
      · rw [e, Bool.and_false]; rfl
  unfold wY_matches_40
  refine ⟨pk_in t 8 ht, ?_⟩
  rw [nI_clamp (by omega), hK t ht]
  refine pk_eq (pu_kd (q t)) 3 (fun z => pu_bc (fun e => K57 (Or.inr e)) (fun e => h0 ?_)) (fun z => K57 (Or.inl (by omega)))
  subst e; unfold pu_ok; rw [decide_eq_true (show q t = 1 by omega)]; rfl
theorem yy_m_l (hC : ∀ k, k < 192 → a_table k = nI (c k)) (hc : ∀ k, c k ≤ 7) (hK : ∀ t, t < 8 → a_kind t = nI (pu_kd (q t))) (hq : ∀ t, q t ≤ 20 ∧ q t ≠ 11) {d : Nat} (hd : d < 24) {post : Int32 → Prop} (k : post (pu_b (pu_m c q d))) : ∀ n i, i ≤ 8 → 8 - i < n → pu_all (fun t => pu_ok (q t) (decide (0 < c (8 * d + t)))) i = true → wY_matches_15 post (nI d) f_added a_draft a_table a_there a_kind a_boost n (pu_b (pu_any (fun t => pu_hit (q t) (decide (0 < c (8 * d + t)))) i)) (nI i) := by
  intro n
  induction n with
  | zero => intro i _ _; omega
  | succ n ih =>
    intro i hi hn ha
    rw [wY_matches_15]
    refine pk_le 8 i (fun h => ⟨pu_narrow _, ?_⟩) (fun h => ?_)
    · have e : i = 8 := by omega
      subst e
      unfold pu_m at k
      rw [ha, Bool.true_and] at k
      exact k
    · have h7 := hc (8 * d + i)
      have Q : ∀ has : Bool, decide (0 < c (8 * d + i)) = has → wY_matches_40 post (wY_matches_15 post (nI d) f_added a_draft a_table a_there a_kind a_boost n) (nI d) (pu_b (pu_any (fun t => pu_hit (q t) (decide (0 < c (8 * d + t)))) i)) (nI i) (pu_b has) f_added a_draft a_table a_there a_kind a_boost := by
        intro has eh
        refine yy_m40 hK hq h (fun z => ?_) (fun z => ?_)
        · have e : pu_m c q d = false := by
            unfold pu_m
            rw [pu_all_f h (by rw [eh]; exact z), Bool.false_and]
          rw [e] at k
          exact k
        · have H := ih (i + 1) (by omega) (by omega) (by rw [pu_all, ha, Bool.true_and, eh]; exact z)
          rw [pu_any, eh] at H
          exact H
      rw [pu_ix8, nI_clamp (by omega), hC (8 * d + i) (by omega)]
      refine ⟨pk_in (8 * d + i) 192 (by omega), pk_le (c (8 * d + i)) 0 (fun z => ?_) (fun z => ?_)⟩
      · exact Q false (decide_eq_false (by omega))
      · exact Q true (decide_eq_true (by omega))
theorem yy_m (hT : ∀ d, d < 24 → a_there d = pu_b (lv d)) (hC : ∀ k, k < 192 → a_table k = nI (c k)) (hc : ∀ k, c k ≤ 7) (hK : ∀ t, t < 8 → a_kind t = nI (pu_kd (q t))) (hq : ∀ t, q t ≤ 20 ∧ q t ≠ 11) {d : Nat} (hd : d < 24) {post : Int32 → Prop} (k : post (pu_b (pu_M lv c q d))) : wpY_matches post (f_added, a_draft, a_table, a_there, a_kind, a_boost) (nI d) := by
  unfold wpY_matches
  refine ⟨pk_in d 24 hd, ?_⟩
  rw [nI_clamp (by omega), hT d hd]
  unfold pu_M at k
  refine pu_bc (fun e => ?_) (fun e => ⟨9, ?_⟩)
  · rw [e] at k; exact k
  · rw [e, Bool.true_and] at k
    exact yy_m_l hC hc hK hq hd k 9 0 (by omega) (by omega) rfl
end
end
section
section
variable {f_added : Int32} {a_draft a_table a_there a_kind a_boost : Nat → Int32}
variable {ad : Nat} {lv : Nat → Bool} {c dr q : Nat → Nat}
theorem yy_w148 {post : Int32 → Prop} {J : Int32 → Int32 → Prop} {x1 x2 x3 : Int32} {t s r z b : Nat} (ht : t < 8) (hB : a_boost t = nI b) (k : J (nI (s + b * r * z)) (nI (t + 1))) : wY_worth_148 post J x1 x2 x3 (nI s) (nI t) (nI r) (nI z) f_added a_draft a_table a_there a_kind a_boost := by
  unfold wY_worth_148
  refine ⟨pk_in t 8 ht, pu_nm (nI (s + b * r * z)) ?_ (nm_r (nI_1 t) k)⟩
  rw [nI_clamp (by omega), hB, pk_mul, pk_mul, nI_add]
theorem yy_w117 {post : Int32 → Prop} {J : Int32 → Int32 → Prop} {x1 x3 : Int32} {t s r b k len : Nat} (ht : t < 8) (hB : a_boost t = nI b) (hk : k ≤ 7) (hl : len ≤ 56) (K : J (nI (s + b * r * pu_st k len)) (nI (t + 1))) : wY_worth_117 post J x1 (nI len) x3 (nI s) (nI t) (nI k) (nI r) f_added a_draft a_table a_there a_kind a_boost := by
  unfold wY_worth_117
  have e1 : nI k + 2 + nI len / 4 = nI (k + 2 + len / 4) := by
    show nI k + nI 2 + nI len / nI 4 = _
    rw [pk_div (by omega) (by omega) (by omega), nI_add, nI_add]
  have e2 : (256 : Int32) * nI k / nI (k + 2 + len / 4) = nI (pu_st k len) := by
    show nI 256 * nI k / _ = _
    rw [pk_mul, pk_div (by omega) (by omega) (by omega)]
    rfl
  refine ⟨by decide, nm_r e1 (pk_le 1 (k + 2 + len / 4) (fun _ => ⟨nI_ne0 (by omega) (by omega), ?_⟩) (fun z => absurd z (by omega)))⟩
  rw [e2]
  exact yy_w148 ht hB K
theorem yy_w84 (hT : ∀ d, d < 24 → a_there d = pu_b (lv d)) (hC : ∀ k, k < 192 → a_table k = nI (c k)) (hc : ∀ k, c k ≤ 7) {post : Int32 → Prop} {J : Int32 → Int32 → Prop} {x1 : Int32} {d t s : Nat} (ht : t < 8) (hB : a_boost t = nI (pu_bo (q t))) (K : J (nI (s + pu_part lv c q d t)) (nI (t + 1))) : wY_worth_84 post J x1 (nI (pu_len c d)) (nI (pu_live lv)) (nI s) (nI t) (nI (c (8 * d + t))) f_added a_draft a_table a_there a_kind a_boost := by
  unfold wY_worth_84
  have h7 := hc (8 * d + t)
  have hl := pu_len_le hc d
  have hlv : pu_live lv ≤ 24 := pu_cnt_le _ _
  have hho : pu_hold lv c t ≤ 24 := pu_cnt_le _ _
  refine pk_le (c (8 * d + t)) 0 (fun z => nm_r (nI_1 t) ?_) (fun z => yy_ho hT hC hc ht (br_t (nI_pos' (by omega)) ⟨?_, ?_⟩))
  · rw [pu_part_0 (by omega), Nat.add_zero] at K
    exact K
  · rw [nI_1]; exact nI_ne0 (by omega) (by omega)
  · have e : (64 : Int32) * (nI (pu_live lv) + 1) / (nI (pu_hold lv c t) + 1) = nI (64 * (pu_live lv + 1) / (pu_hold lv c t + 1)) := by
      show nI 64 * _ / _ = _
      rw [nI_1, nI_1, pk_mul, pk_div (by omega) (by omega) (by omega)]
    rw [e]
    exact yy_w117 ht hB h7 hl K
theorem yy_w41 (hT : ∀ d, d < 24 → a_there d = pu_b (lv d)) (hC : ∀ k, k < 192 → a_table k = nI (c k)) (hc : ∀ k, c k ≤ 7) (hK : ∀ t, t < 8 → a_kind t = nI (pu_kd (q t))) (hB : ∀ t, t < 8 → 0 < q t → a_boost t = nI (pu_bo (q t))) (hq : ∀ t, q t ≤ 20 ∧ q t ≠ 11) {d : Nat} (hd : d < 24) {post : Int32 → Prop} (k : post (nI (pu_worth lv c q d))) : ∀ n i, i ≤ 8 → 8 - i < n → wY_worth_41 post (nI d) (nI (pu_len c d)) (nI (pu_live lv)) f_added a_draft a_table a_there a_kind a_boost n (nI (pu_sum (fun t => if 1 < q t then pu_part lv c q d t else 0) i)) (nI i) := by
  intro n
  induction n with
  | zero => intro i _ _; omega
  | succ n ih =>
    intro i hi hn
    rw [wY_worth_41]
    refine pk_le 8 i (fun h => ?_) (fun h => ?_)
    · rw [show i = 8 by omega]; exact k
    · have H := ih (i + 1) (by omega) (by omega)
      have h7 := pu_kd_c (hq i)
      rw [pu_sum_s] at H
      rw [pu_ix8, nI_clamp (show i < 2 ^ 31 by omega), hK i h]
      refine ⟨pk_in (8 * d + i) 192 (by omega), nm_r (e' := nI (c (8 * d + i))) ?_ ⟨pk_in i 8 h, pk_eq (pu_kd (q i)) 1 (fun z => ?_) (fun z => ⟨pk_in i 8 h, pk_eq (pu_kd (q i)) 2 (fun z2 => ?_) (fun z2 => nm_r (nI_1 i) ?_)⟩)⟩⟩
      · rw [nI_clamp (by omega), hC (8 * d + i) (by omega)]
      · rw [if_pos (show 1 < q i by omega)] at H
        exact yy_w84 hT hC hc h (hB i h (by omega)) H
      · rw [if_pos (show 1 < q i by omega)] at H
        exact yy_w84 hT hC hc h (hB i h (by omega)) H
      · rw [if_neg (show ¬ 1 < q i by omega), Nat.add_zero] at H
        exact H
theorem yy_w_l (hT : ∀ d, d < 24 → a_there d = pu_b (lv d)) (hC : ∀ k, k < 192 → a_table k = nI (c k)) (hc : ∀ k, c k ≤ 7) (hK : ∀ t, t < 8 → a_kind t = nI (pu_kd (q t))) (hB : ∀ t, t < 8 → 0 < q t → a_boost t = nI (pu_bo (q t))) (hq : ∀ t, q t ≤ 20 ∧ q t ≠ 11) {d : Nat} (hd : d < 24) {post : Int32 → Prop} (k : post (nI (pu_worth lv c q d))) : ∀ n i, i ≤ 8 → 8 - i < n → wY_worth_4 post (nI d) f_added a_draft a_table a_there a_kind a_boost n (nI (pu_sum (fun t => c (8 * d + t)) i)) (nI i) := by
  intro n
  induction n with
  | zero => intro i _ _; omega
  | succ n ih =>
    intro i hi hn
    rw [wY_worth_4]
    refine pk_le 8 i (fun h => ?_) (fun h => ?_)
    · have e : i = 8 := by omega
      subst e
      exact yy_lc hT ⟨9, yy_w41 hT hC hc hK hB hq hd k 9 0 (by omega) (by omega)⟩
    · rw [pu_ix8]
      refine ⟨pk_in (8 * d + i) 192 (by omega), pu_nm (nI (pu_sum (fun t => c (8 * d + t)) (i + 1))) ?_ (nm_r (nI_1 i) (ih (i + 1) (by omega) (by omega)))⟩
      rw [nI_clamp (by omega), hC (8 * d + i) (by omega), nI_add]
      rfl
theorem yy_w (hT : ∀ d, d < 24 → a_there d = pu_b (lv d)) (hC : ∀ k, k < 192 → a_table k = nI (c k)) (hc : ∀ k, c k ≤ 7) (hK : ∀ t, t < 8 → a_kind t = nI (pu_kd (q t))) (hB : ∀ t, t < 8 → 0 < q t → a_boost t = nI (pu_bo (q t))) (hq : ∀ t, q t ≤ 20 ∧ q t ≠ 11) {d : Nat} (hd : d < 24) {post : Int32 → Prop} (k : post (nI (pu_worth lv c q d))) : wpY_worth post (f_added, a_draft, a_table, a_there, a_kind, a_boost) (nI d) := by
  unfold wpY_worth
  exact ⟨9, yy_w_l hT hC hc hK hB hq hd k 9 0 (by omega) (by omega)⟩
theorem yy_mg_l (hT : ∀ d, d < 24 → a_there d = pu_b (lv d)) (hC : ∀ k, k < 192 → a_table k = nI (c k)) (hc : ∀ k, c k ≤ 7) (hK : ∀ t, t < 8 → a_kind t = nI (pu_kd (q t))) (hq : ∀ t, q t ≤ 20 ∧ q t ≠ 11) {post : Int32 → Prop} (k : post (nI (pu_cnt (pu_M lv c q) 24))) : ∀ n i, i ≤ 24 → 24 - i < n → wY_matching_4 post f_added a_draft a_table a_there a_kind a_boost n (nI (pu_cnt (pu_M lv c q) i)) (nI i) := by
  intro n
  induction n with
  | zero => intro i _ _; omega
  | succ n ih =>
    intro i hi hn
    rw [wY_matching_4]
    refine pk_le 24 i (fun h => ?_) (fun h => ?_)
    · rw [show i = 24 by omega]; exact k
    · have H := ih (i + 1) (by omega) (by omega)
      refine yy_m hT hC hc hK hq h (pu_bc (fun e => nm_r (nI_1 i) ?_) (fun e => pu_nm (nI (pu_cnt (pu_M lv c q) (i + 1))) ?_ (nm_r (nI_1 i) H)))
      · rw [pu_cnt_f e] at H; exact H
      · rw [pu_cnt_t e]; exact nI_1 _
theorem yy_mg (hT : ∀ d, d < 24 → a_there d = pu_b (lv d)) (hC : ∀ k, k < 192 → a_table k = nI (c k)) (hc : ∀ k, c k ≤ 7) (hK : ∀ t, t < 8 → a_kind t = nI (pu_kd (q t))) (hq : ∀ t, q t ≤ 20 ∧ q t ≠ 11) {post : Int32 → Prop} (k : post (nI (pu_cnt (pu_M lv c q) 24))) : wpY_matching post (f_added, a_draft, a_table, a_there, a_kind, a_boost) := by
  unfold wpY_matching
  exact ⟨25, yy_mg_l hT hC hc hK hq k 25 0 (by omega) (by omega)⟩
theorem yy_sc_l (hT : ∀ d, d < 24 → a_there d = pu_b (lv d)) (hC : ∀ k, k < 192 → a_table k = nI (c k)) (hc : ∀ k, c k ≤ 7) (hK : ∀ t, t < 8 → a_kind t = nI (pu_kd (q t))) (hB : ∀ t, t < 8 → 0 < q t → a_boost t = nI (pu_bo (q t))) (hq : ∀ t, q t ≤ 20 ∧ q t ≠ 11) {b : Int32} {post : Int32 → Prop} (k : post (nI (pu_cnt (fun e => pu_M lv c q e && !decide (nI (pu_worth lv c q e) < b)) 24))) : ∀ n i, i ≤ 24 → 24 - i < n → wY_scoring_4 post b f_added a_draft a_table a_there a_kind a_boost n (nI (pu_cnt (fun e => pu_M lv c q e && !decide (nI (pu_worth lv c q e) < b)) i)) (nI i) := by
  intro n
  induction n with
  | zero => intro i _ _; omega
  | succ n ih =>
    intro i hi hn
    rw [wY_scoring_4]
    refine pk_le 24 i (fun h => ?_) (fun h => ?_)
    · rw [show i = 24 by omega]; exact k
    · have H := ih (i + 1) (by omega) (by omega)
      refine yy_m hT hC hc hK hq h (pu_bc (fun e => nm_r (nI_1 i) ?_) (fun e => yy_w hT hC hc hK hB hq h (br_c (fun z => nm_r (nI_1 i) ?_) (fun z => pu_nm (nI (pu_cnt (fun e => pu_M lv c q e && !decide (nI (pu_worth lv c q e) < b)) (i + 1))) ?_ (nm_r (nI_1 i) H)))))
      · rw [pu_cnt_f (by rw [e, Bool.false_and])] at H; exact H
      · rw [pu_cnt_f (by rw [decide_eq_true z, Bool.not_true, Bool.and_false])] at H; exact H
      · rw [pu_cnt_t (by rw [e, decide_eq_false z]; rfl)]; exact nI_1 _
theorem yy_sc (hT : ∀ d, d < 24 → a_there d = pu_b (lv d)) (hC : ∀ k, k < 192 → a_table k = nI (c k)) (hc : ∀ k, c k ≤ 7) (hK : ∀ t, t < 8 → a_kind t = nI (pu_kd (q t))) (hB : ∀ t, t < 8 → 0 < q t → a_boost t = nI (pu_bo (q t))) (hq : ∀ t, q t ≤ 20 ∧ q t ≠ 11) {b : Int32} {post : Int32 → Prop} (k : post (nI (pu_cnt (fun e => pu_M lv c q e && !decide (nI (pu_worth lv c q e) < b)) 24))) : wpY_scoring post (f_added, a_draft, a_table, a_there, a_kind, a_boost) b := by
  unfold wpY_scoring
  exact ⟨25, yy_sc_l hT hC hc hK hB hq k 25 0 (by omega) (by omega)⟩
theorem yy_ah_l (hT : ∀ d, d < 24 → a_there d = pu_b (lv d)) (hC : ∀ k, k < 192 → a_table k = nI (c k)) (hc : ∀ k, c k ≤ 7) (hK : ∀ t, t < 8 → a_kind t = nI (pu_kd (q t))) (hB : ∀ t, t < 8 → 0 < q t → a_boost t = nI (pu_bo (q t))) (hq : ∀ t, q t ≤ 20 ∧ q t ≠ 11) {d : Nat} (hd : d < 24) {post : Int32 → Prop} (k : post (nI (pu_ah (pu_M lv c q) (pu_worth lv c q) 24 d))) : ∀ n i, i ≤ 24 → 24 - i < n → wY_ahead_11 post (nI d) (nI (pu_worth lv c q d)) f_added a_draft a_table a_there a_kind a_boost n (nI (pu_ah (pu_M lv c q) (pu_worth lv c q) i d)) (nI i) := by
  intro n
  induction n with
  | zero => intro i _ _; omega
  | succ n ih =>
    intro i hi hn
    rw [wY_ahead_11]
    refine pk_le 24 i (fun h => ?_) (fun h => ?_)
    · rw [show i = 24 by omega]; exact k
    · have H := ih (i + 1) (by omega) (by omega)
      have w1 := pu_worth_le lv c q d
      have w2 := pu_worth_le lv c q i
      have no : pu_M lv c q i = false ∨ pu_beats (pu_worth lv c q) i d = false → wY_ahead_11 post (nI d) (nI (pu_worth lv c q d)) f_added a_draft a_table a_there a_kind a_boost n (nI (pu_ah (pu_M lv c q) (pu_worth lv c q) i d)) (nI (i + 1)) := by
        intro z
        unfold pu_ah at H ⊢
        rw [pu_cnt_f (by rcases z with z | z <;> rw [z]; exact Bool.false_and _; exact Bool.and_false _)] at H
        exact H
      have yes : pu_M lv c q i = true → pu_beats (pu_worth lv c q) i d = true → nI (pu_ah (pu_M lv c q) (pu_worth lv c q) i d) + 1 = nI (pu_ah (pu_M lv c q) (pu_worth lv c q) (i + 1) d) := by
        intro z1 z2
        unfold pu_ah
        rw [pu_cnt_t (by rw [z1, z2]; rfl)]
        exact nI_1 _
      exact yy_m hT hC hc hK hq h (pu_bc (fun e => nm_r (nI_1 i) (no (Or.inl e))) (fun e => yy_w hT hC hc hK hB hq h
        (pk_lt (pu_worth lv c q d) (pu_worth lv c q i) (fun z => nm_r (yes e (pu_beats_iff.mpr (Or.inl z))) (nm_r (nI_1 i) H))
          (fun z => pk_eq (pu_worth lv c q i) (pu_worth lv c q d) (fun z2 => pk_le d i (fun z3 => nm_r (nI_1 i) (no (Or.inr (pu_beats_f (by omega))))) (fun z3 => nm_r (yes e (pu_beats_iff.mpr (Or.inr ⟨z2, z3⟩))) (nm_r (nI_1 i) H)))
            (fun z2 => nm_r (nI_1 i) (no (Or.inr (pu_beats_f (by omega)))))))))
theorem yy_ah (hT : ∀ d, d < 24 → a_there d = pu_b (lv d)) (hC : ∀ k, k < 192 → a_table k = nI (c k)) (hc : ∀ k, c k ≤ 7) (hK : ∀ t, t < 8 → a_kind t = nI (pu_kd (q t))) (hB : ∀ t, t < 8 → 0 < q t → a_boost t = nI (pu_bo (q t))) (hq : ∀ t, q t ≤ 20 ∧ q t ≠ 11) {d : Nat} (hd : d < 24) {post : Int32 → Prop} (k : post (nI (pu_ah (pu_M lv c q) (pu_worth lv c q) 24 d))) : wpY_ahead post (f_added, a_draft, a_table, a_there, a_kind, a_boost) (nI d) := by
  unfold wpY_ahead
  exact yy_w hT hC hc hK hB hq hd ⟨25, yy_ah_l hT hC hc hK hB hq hd k 25 0 (by omega) (by omega)⟩
theorem yy_at_l (hT : ∀ d, d < 24 → a_there d = pu_b (lv d)) (hC : ∀ k, k < 192 → a_table k = nI (c k)) (hc : ∀ k, c k ≤ 7) (hK : ∀ t, t < 8 → a_kind t = nI (pu_kd (q t))) (hB : ∀ t, t < 8 → 0 < q t → a_boost t = nI (pu_bo (q t))) (hq : ∀ t, q t ≤ 20 ∧ q t ≠ 11) {p : Nat} (hp : p < 10) {post : Int32 → Prop} (k1 : ∀ d, d < 24 → pu_M lv c q d = true → pu_ah (pu_M lv c q) (pu_worth lv c q) 24 d = p → post (nI d)) (k2 : (∀ d, d < 24 → pu_M lv c q d = true → pu_ah (pu_M lv c q) (pu_worth lv c q) 24 d ≠ p) → post (-2)) : ∀ n i, i ≤ 24 → 24 - i < n → (∀ d, d < i → pu_M lv c q d = true → pu_ah (pu_M lv c q) (pu_worth lv c q) 24 d ≠ p) → wY_at_2 post (nI p) f_added a_draft a_table a_there a_kind a_boost n (nI i) := by
  intro n
  induction n with
  | zero => intro i _ _; omega
  | succ n ih =>
    intro i hi hn hno
    rw [wY_at_2]
    refine pk_le 24 i (fun h => ?_) (fun h => ?_)
    · have e : i = 24 := by omega
      subst e
      exact k2 hno
    · have hA : pu_ah (pu_M lv c q) (pu_worth lv c q) 24 i ≤ 24 := pu_cnt_le _ _
      have go : (pu_M lv c q i = true → pu_ah (pu_M lv c q) (pu_worth lv c q) 24 i ≠ p) → wY_at_2 post (nI p) f_added a_draft a_table a_there a_kind a_boost n (nI (i + 1)) := by
        intro z
        refine ih (i + 1) (by omega) (by omega) (fun d hd hM => ?_)
        by_cases e : d = i
        · subst e; exact z hM
        · exact hno d (by omega) hM
      refine yy_m hT hC hc hK hq h (pu_bc (fun e => nm_r (nI_1 i) (go (fun y => ?_))) (fun e => yy_ah hT hC hc hK hB hq h (pk_eq (pu_ah (pu_M lv c q) (pu_worth lv c q) 24 i) p (fun z => k1 i h e z) (fun z => nm_r (nI_1 i) (go (fun _ => z))))))
      rw [e] at y
      exact absurd y Bool.false_ne_true
theorem yy_at (hT : ∀ d, d < 24 → a_there d = pu_b (lv d)) (hC : ∀ k, k < 192 → a_table k = nI (c k)) (hc : ∀ k, c k ≤ 7) (hK : ∀ t, t < 8 → a_kind t = nI (pu_kd (q t))) (hB : ∀ t, t < 8 → 0 < q t → a_boost t = nI (pu_bo (q t))) (hq : ∀ t, q t ≤ 20 ∧ q t ≠ 11) {p : Nat} (hp : p < 10) {post : Int32 → Prop} (k1 : ∀ d, d < 24 → pu_M lv c q d = true → pu_ah (pu_M lv c q) (pu_worth lv c q) 24 d = p → post (nI d)) (k2 : (∀ d, d < 24 → pu_M lv c q d = true → pu_ah (pu_M lv c q) (pu_worth lv c q) 24 d ≠ p) → post (-2)) : wpY_at post (f_added, a_draft, a_table, a_there, a_kind, a_boost) (nI p) := by
  unfold wpY_at
  exact ⟨25, yy_at_l hT hC hc hK hB hq hp k1 k2 25 0 (by omega) (by omega) (fun d hd => by omega)⟩
end
end
section
/-! one bit of a word -/
theorem pu_bt1 : ∀ i, i < 32 → bt 1 i = decide (i = 0) := by decide +kernel
theorem pu_bit (x : Int32) {d : Nat} (hd : d < 32) : ((x >>> (nI d &&& 31)) &&& 1) = pu_b (bt x d) := by
  apply b_ext
  intro i hi
  rw [b_and, b_sshr d hd x hi, pu_bt1 i hi]
  by_cases z : i = 0
  · subst z
    rw [if_pos (by omega), decide_eq_true rfl, Bool.and_true, Nat.add_zero]
    cases bt x d
    · exact (b_0 0).symm
    · exact (pu_bt1 0 (by omega)).symm
  · rw [decide_eq_false z, Bool.and_false]
    cases bt x d
    · exact (b_0 i).symm
    · exact ((pu_bt1 i hi).trans (decide_eq_false z)).symm
theorem pu_set (x : Int32) {a d : Nat} (ha : a < 32) (hd : d < 32) : bt (x ||| ((1 : Int32) <<< (nI a &&& 31))) d = (bt x d || decide (d = a)) := by
  rw [b_or, b_shl a ha 1 hd]
  by_cases z : d = a
  · subst z
    rw [decide_eq_true (Nat.le_refl d), Nat.sub_self, pu_bt1 0 (by omega), decide_eq_true (p := d = d) rfl, decide_eq_true (p := 0 = 0) rfl]
    rfl
  · by_cases y : a ≤ d
    · rw [pu_bt1 (d - a) (by omega), decide_eq_false (show ¬ d - a = 0 by omega), decide_eq_false z, Bool.and_false]
    · rw [decide_eq_false y, decide_eq_false z, Bool.false_and]
theorem pu_clr (x : Int32) {a d : Nat} (ha : a < 32) (hd : d < 32) : bt (x &&& (((1 : Int32) <<< (nI a &&& 31)) ^^^ (-1))) d = (bt x d && !decide (d = a)) := by
  rw [b_and, b_xor, b_m1 d hd, b_shl a ha 1 hd]
  by_cases z : d = a
  · subst z
    rw [decide_eq_true (Nat.le_refl d), Nat.sub_self, pu_bt1 0 (by omega), decide_eq_true (p := d = d) rfl, decide_eq_true (p := 0 = 0) rfl]
    rfl
  · by_cases y : a ≤ d
    · rw [pu_bt1 (d - a) (by omega), decide_eq_false (show ¬ d - a = 0 by omega), decide_eq_false z, Bool.and_false]
      rfl
    · rw [decide_eq_false y, decide_eq_false z, Bool.false_and]
      rfl
theorem pu_addb (a : Nat) (b : Bool) : nI a + pu_b b = nI (a + (if b = true then 1 else 0)) := by
  cases b
  · exact Int32.add_zero _
  · exact nI_1 a
theorem pu_back (a b : Nat) : nI a - 1 + nI b = nI (a + b) - 1 := by
  rw [← nI_add]
  grind
theorem pu_pred {a : Nat} (h : 0 < a) : nI a - 1 = nI (a - 1) := pk_sub (b := 1) h
theorem pu_gap {D e : Nat} (h : e ≤ D) : nI D - (nI e - 1) = nI (D + 1 - e) := by
  rw [← pk_sub (a := D + 1) (b := e) (by omega), ← nI_1]
  grind
/-! a word's list of documents: entry i is document E (i + 1) - 1 -/
def xx_LI (D : Nat) (p : Nat → Bool) (cc : Nat → Nat) (t : Nat) (li en : Nat → Int32) (E : Nat → Nat) (ln : Nat) : Prop := en t = nI (2 * ln) ∧ E 0 = 0 ∧ E ln ≤ D ∧ (∀ i, i < ln → E i < E (i + 1) ∧ li (48 * t + 2 * i) = nI (E (i + 1) - E i) ∧ li (48 * t + 2 * i + 1) = nI (cc (E (i + 1) - 1)) ∧ 0 < cc (E (i + 1) - 1) ∧ ∀ d, E i ≤ d → d + 1 < E (i + 1) → p d = false) ∧ (∀ d, E ln ≤ d → d < D → p d = false)
theorem xx_LI_up {D : Nat} {p : Nat → Bool} {cc : Nat → Nat} {t : Nat} {li en : Nat → Int32} {E : Nat → Nat} {ln : Nat} (h : xx_LI D p cc t li en E ln) {i : Nat} : ∀ j, i ≤ j → j ≤ ln → E i ≤ E j := by
  intro j
  induction j with
  | zero => intro h1 _; rw [show i = 0 by omega]; exact Nat.le_refl _
  | succ j ih =>
    intro h1 h2
    by_cases z : i = j + 1
    · rw [z]; exact Nat.le_refl _
    · have a := ih (by omega) (by omega)
      have b := (h.2.2.2.1 j (by omega)).1
      omega
theorem xx_LI_ge {D : Nat} {p : Nat → Bool} {cc : Nat → Nat} {t : Nat} {li en : Nat → Int32} {E : Nat → Nat} {ln : Nat} (h : xx_LI D p cc t li en E ln) : ∀ j, j ≤ ln → j ≤ E j := by
  intro j
  induction j with
  | zero => intro _; omega
  | succ j ih =>
    intro h2
    have a := ih (by omega)
    have b := (h.2.2.2.1 j (by omega)).1
    omega
theorem xx_LI_D {D : Nat} {p : Nat → Bool} {cc : Nat → Nat} {t : Nat} {li en : Nat → Int32} {E : Nat → Nat} {ln : Nat} (h : xx_LI D p cc t li en E ln) {i : Nat} (hi : i ≤ ln) : i ≤ E i ∧ E i ≤ D ∧ ln ≤ D := by
  have h1 := xx_LI_up h ln hi (Nat.le_refl ln)
  have h2 := xx_LI_ge h i hi
  have h3 := xx_LI_ge h ln (Nat.le_refl ln)
  have h4 := h.2.2.1
  omega
theorem xx_LI_skip {D : Nat} {p : Nat → Bool} {cc : Nat → Nat} {t : Nat} {li en : Nat → Int32} {E : Nat → Nat} {ln : Nat} (h : xx_LI D p cc t li en E ln) (hp : p D = false) : xx_LI (D + 1) p cc t li en E ln := by
  obtain ⟨h1, h2, h3, h4, h5⟩ := h
  refine ⟨h1, h2, by omega, h4, fun d hd hd2 => ?_⟩
  by_cases z : d = D
  · rw [z]; exact hp
  · exact h5 d hd (by omega)
theorem xx_LI_app {D : Nat} {p : Nat → Bool} {cc : Nat → Nat} {t : Nat} {li en : Nat → Int32} {E : Nat → Nat} {ln : Nat} (h : xx_LI D p cc t li en E ln) (hc : 0 < cc D) : xx_LI (D + 1) p cc t (upd (upd li (48 * t + 2 * ln) (nI (D + 1 - E ln))) (48 * t + 2 * ln + 1) (nI (cc D))) (upd en t (nI (2 * ln + 2))) (fun i => if i = ln + 1 then D + 1 else E i) (ln + 1) := by
  obtain ⟨h1, h2, h3, h4, h5⟩ := h
  have eT : (fun i => if i = ln + 1 then D + 1 else E i) (ln + 1) = D + 1 := if_pos rfl
  have eF : ∀ i, i ≤ ln → (fun i => if i = ln + 1 then D + 1 else E i) i = E i := fun i hi => if_neg (by omega)
  generalize (fun i => if i = ln + 1 then D + 1 else E i) = E' at eT eF
  refine ⟨pk_us, by rw [eF 0 (by omega)]; exact h2, by rw [eT]; exact Nat.le_refl _, fun i hi => ?_, fun d hd hd2 => by omega⟩
  by_cases z : i = ln
  · subst z
    rw [eT, eF i (by omega)]
    refine ⟨by omega, ?_, ?_, hc, fun d h6 h7 => h5 d h6 (by omega)⟩
    · rw [pk_un (by omega), pk_us]
    · rw [pk_us]
      rfl
  · rw [eF i (by omega), eF (i + 1) (by omega), pk_un (by omega), pk_un (by omega), pk_un (by omega), pk_un (by omega)]
    exact h4 i (by omega)
theorem xx_LI_oth {D : Nat} {p : Nat → Bool} {cc : Nat → Nat} {t s m : Nat} {li en : Nat → Int32} {E : Nat → Nat} {ln : Nat} {x y z : Int32} (h : xx_LI D p cc s li en E ln) (hD : D ≤ 24) (hs : s ≠ t) (hm : m < 24) : xx_LI D p cc s (upd (upd li (48 * t + 2 * m) x) (48 * t + 2 * m + 1) y) (upd en t z) E ln := by
  have hl := (xx_LI_D h (Nat.le_refl ln)).2.2
  obtain ⟨h1, h2, h3, h4, h5⟩ := h
  refine ⟨by rw [pk_un hs]; exact h1, h2, h3, fun i hi => ?_, h5⟩
  rw [pk_un (by omega), pk_un (by omega), pk_un (by omega), pk_un (by omega)]
  exact h4 i hi
def xx_L (ad : Nat) (lv : Nat → Bool) (c : Nat → Nat) (li en : Nat → Int32) : Prop := ∀ t, t < 8 → ∃ E ln, xx_LI ad (pu_h lv c t) (fun d => c (8 * d + t)) t li en E ln
theorem xx_L_cong {ad : Nat} {lv lv' : Nat → Bool} {c c' : Nat → Nat} {li en : Nat → Int32} (h : xx_L ad lv c li en) (hc : ∀ d t, d < ad → t < 8 → c' (8 * d + t) = c (8 * d + t)) (hl : ∀ d, d < ad → lv' d = true → lv d = true) : xx_L ad lv' c' li en := by
  intro t ht
  obtain ⟨E, ln, hE⟩ := h t ht
  have hp : ∀ d, d < ad → pu_h lv c t d = false → pu_h lv' c' t d = false := by
    intro d hd z
    apply pu_h_f
    rintro ⟨y1, y2⟩
    rw [hc d t hd ht] at y2
    have := pu_h_t.mpr ⟨hl d hd y1, y2⟩
    rw [z] at this
    exact Bool.false_ne_true this
  have hD : ∀ i, i ≤ ln → E i ≤ ad := fun i hi => (xx_LI_D hE hi).2.1
  obtain ⟨h1, h2, h3, h4, h5⟩ := hE
  refine ⟨E, ln, h1, h2, h3, fun i hi => ?_, fun d hd hd2 => hp d hd2 (h5 d hd hd2)⟩
  obtain ⟨g1, g2, g3, g4, g5⟩ := h4 i hi
  have g6 := hD (i + 1) hi
  dsimp only at g3 g4 ⊢
  rw [hc (E (i + 1) - 1) t (by omega) ht]
  exact ⟨g1, g2, g3, g4, fun d h6 h7 => hp d (by omega) (g5 d h6 h7)⟩
/-! the items of a query -/
def xx_It (q : Nat → Nat) (it : Nat) (iw : Nat → Nat) (aw ab : Nat → Int32) : Prop := it ≤ 5 ∧ (∀ k, k < it → iw k < 8 ∧ 0 < q (iw k) ∧ aw k = nI (iw k) ∧ ab k = nI (q (iw k) - 1)) ∧ (∀ i j, i < it → j < it → iw i = iw j → i = j) ∧ (∀ t, t < 8 → 0 < q t → ∃ k, k < it ∧ iw k = t)
theorem xx_It_sum {q : Nat → Nat} {it : Nat} {iw : Nat → Nat} {aw ab : Nat → Int32} (h : xx_It q it iw aw ab) (g : Nat → Nat) : pu_sum (fun k => g (iw k)) it = pu_sum (fun t => if 0 < q t then g t else 0) 8 := by
  obtain ⟨h1, h2, h3, h4⟩ := h
  exact pu_items (fun k hk => ⟨(h2 k hk).1, (h2 k hk).2.1⟩) h3 h4 g
theorem xx_It_cnt {q : Nat → Nat} {it : Nat} {iw : Nat → Nat} {aw ab : Nat → Int32} (h : xx_It q it iw aw ab) : pu_cnt (fun t => decide (0 < q t)) 8 = it := by
  have e := xx_It_sum h (fun _ => 1)
  rw [← pu_sum_cnt]
  have e2 : pu_sum (fun t => if decide (0 < q t) = true then 1 else 0) 8 = pu_sum (fun t => if 0 < q t then 1 else 0) 8 := pu_sum_ext 8 (fun t _ => by
    by_cases z : 0 < q t
    · rw [if_pos z, if_pos (decide_eq_true z)]
    · rw [if_neg z, if_neg (by rw [decide_eq_false z]; exact Bool.false_ne_true)])
  rw [e2, ← e]
  have : ∀ n, pu_sum (fun _ => 1) n = n := by
    intro n
    induction n with
    | zero => rfl
    | succ n ih => rw [pu_sum, ih]
  exact this it
theorem xx_It_m {q : Nat → Nat} {it : Nat} {iw : Nat → Nat} {aw ab : Nat → Int32} (h : xx_It q it iw aw ab) (c : Nat → Nat) (d : Nat) : (pu_all (fun k => pu_ok (q (iw k)) (decide (0 < c (8 * d + iw k)))) it && pu_any (fun k => pu_hit (q (iw k)) (decide (0 < c (8 * d + iw k)))) it) = pu_m c q d := by
  obtain ⟨h1, h2, h3, h4⟩ := h
  unfold pu_m
  rw [Bool.eq_iff_iff, Bool.and_eq_true, Bool.and_eq_true, pu_all_iff, pu_any_iff, pu_all_iff, pu_any_iff]
  constructor
  · rintro ⟨a, k, hk, b⟩
    refine ⟨fun t ht => ?_, iw k, (h2 k hk).1, b⟩
    by_cases z : 0 < q t
    · obtain ⟨j, hj, rfl⟩ := h4 t ht z
      exact a j hj
    · have e : q t = 0 := by omega
      rw [e]
      rfl
  · rintro ⟨a, t, ht, b⟩
    refine ⟨fun k hk => a (iw k) (h2 k hk).1, ?_⟩
    have z : 0 < q t := by
      unfold pu_hit at b
      have := of_decide_eq_true (Bool.and_eq_true _ _ ▸ b).1
      omega
    obtain ⟨j, hj, rfl⟩ := h4 t ht z
    exact ⟨j, hj, b⟩
def xx_I (q : Nat → Nat) (fi : Int32) (aw ab : Nat → Int32) : Prop := ∃ it iw, fi = nI it ∧ xx_It q it iw aw ab
/-! the relation -/
def rr_P (ad : Nat) (lv : Nat → Bool) (c dr q : Nat → Nat) : Prop := ad ≤ 24 ∧ (∀ d, lv d = true → d < ad) ∧ (∀ k, c k ≤ 7) ∧ (∀ t, dr t ≤ 7) ∧ (∀ t, q t ≤ 20 ∧ q t ≠ 11)
def rr_X (ad : Nat) (lv : Nat → Bool) (c dr q : Nat → Nat) (u : SX) : Prop := match u with
  | (f_added, f_alive, f_items, f_lanes, f_found, a_lists, a_ends, a_counts, a_lengths, a_draft, a_itemWord, a_itemBoost, a_cursor, a_document, a_occurs, a_weight, a_bound, a_order, a_bestDocument, a_bestScore) => f_added = nI ad ∧ (∀ d, d < 24 → bt f_alive d = lv d) ∧ xx_I q f_items a_itemWord a_itemBoost ∧ xx_L ad lv c a_lists a_ends ∧ (∀ k, k < 192 → a_counts k = nI (c k)) ∧ (∀ d, d < ad → a_lengths d = nI (pu_len c d)) ∧ (∀ t, t < 8 → a_draft t = nI (dr t))
def rr_Y (ad : Nat) (lv : Nat → Bool) (c dr q : Nat → Nat) (v : SY) : Prop := match v with
  | (f_added, a_draft, a_table, a_there, a_kind, a_boost) => f_added = nI ad ∧ (∀ t, t < 8 → a_draft t = nI (dr t)) ∧ (∀ k, k < 192 → a_table k = nI (c k)) ∧ (∀ d, d < 24 → a_there d = pu_b (lv d)) ∧ (∀ t, t < 8 → a_kind t = nI (pu_kd (q t))) ∧ (∀ t, t < 8 → 0 < q t → a_boost t = nI (pu_bo (q t)))
theorem rr_eX {ad : Nat} {lv : Nat → Bool} {c dr q : Nat → Nat} {u : SX} {P : SX → Prop} (I : rr_X ad lv c dr q u) (h : ∀ (f_alive f_items f_lanes f_found : Int32) (a_lists a_ends a_counts a_lengths a_draft a_itemWord a_itemBoost a_cursor a_document a_occurs a_weight a_bound a_order a_bestDocument a_bestScore : Nat → Int32), (∀ d, d < 24 → bt f_alive d = lv d) → xx_I q f_items a_itemWord a_itemBoost → xx_L ad lv c a_lists a_ends → (∀ k, k < 192 → a_counts k = nI (c k)) → (∀ d, d < ad → a_lengths d = nI (pu_len c d)) → (∀ t, t < 8 → a_draft t = nI (dr t)) → P (nI ad, f_alive, f_items, f_lanes, f_found, a_lists, a_ends, a_counts, a_lengths, a_draft, a_itemWord, a_itemBoost, a_cursor, a_document, a_occurs, a_weight, a_bound, a_order, a_bestDocument, a_bestScore)) : P u := by
  obtain ⟨f_added, f_alive, f_items, f_lanes, f_found, a_lists, a_ends, a_counts, a_lengths, a_draft, a_itemWord, a_itemBoost, a_cursor, a_document, a_occurs, a_weight, a_bound, a_order, a_bestDocument, a_bestScore⟩ := u
  obtain ⟨rfl, h1, h2, h3, h4, h5, h6⟩ := I
  exact h f_alive f_items f_lanes f_found a_lists a_ends a_counts a_lengths a_draft a_itemWord a_itemBoost a_cursor a_document a_occurs a_weight a_bound a_order a_bestDocument a_bestScore h1 h2 h3 h4 h5 h6
theorem rr_eY {ad : Nat} {lv : Nat → Bool} {c dr q : Nat → Nat} {v : SY} {P : SY → Prop} (I : rr_Y ad lv c dr q v) (h : ∀ (a_draft a_table a_there a_kind a_boost : Nat → Int32), (∀ t, t < 8 → a_draft t = nI (dr t)) → (∀ k, k < 192 → a_table k = nI (c k)) → (∀ d, d < 24 → a_there d = pu_b (lv d)) → (∀ t, t < 8 → a_kind t = nI (pu_kd (q t))) → (∀ t, t < 8 → 0 < q t → a_boost t = nI (pu_bo (q t))) → P (nI ad, a_draft, a_table, a_there, a_kind, a_boost)) : P v := by
  obtain ⟨f_added, a_draft, a_table, a_there, a_kind, a_boost⟩ := v
  obtain ⟨rfl, h1, h2, h3, h4, h5⟩ := I
  exact h a_draft a_table a_there a_kind a_boost h1 h2 h3 h4 h5
def i_Rel (k : Nat) (u : SX) (v : SY) : Prop := ∃ ad lv c dr q, rr_P ad lv c dr q ∧ rr_X ad lv c dr q u ∧ rr_Y ad lv c dr q v
end
section
section
variable {f_added f_alive f_items f_lanes f_found : Int32} {a_lists a_ends a_counts a_lengths a_draft a_itemWord a_itemBoost a_cursor a_document a_occurs a_weight a_bound a_order a_bestDocument a_bestScore : Nat → Int32}
variable {ad : Nat} {lv : Nat → Bool} {c dr q : Nat → Nat}
theorem xx_wd {post : Int32 → Prop} {p0 : Int32} (h1 : ∀ t, t < 8 → p0 = nI t → post 1) (h0 : (∀ t, t < 8 → p0 ≠ nI t) → post 0) : wpX_isWord post p0 := by
  unfold wpX_isWord
  refine br_c (fun h => h0 ?_) (fun h => br_c (fun h7 => h0 ?_) (fun h7 => ?_))
  · intro t ht e
    subst e
    exact nI_pos (by omega) h
  · intro t ht e
    subst e
    exact nI_ge (b := 8) ht (by decide) h7
  · rcases pk_ix p0 (n := 8) (by decide) with z | z | ⟨j, hj, z⟩
    · exact absurd z h
    · exact absurd z h7
    · exact h1 j hj z
theorem xx_dl_l (hD : ∀ t, t < 8 → a_draft t = nI (dr t)) {post : Int32 → Prop} (k : post (nI (pu_sum dr 8))) : ∀ n i, i ≤ 8 → 8 - i < n → wX_draftLength_4 post f_added f_alive f_items f_lanes f_found a_lists a_ends a_counts a_lengths a_draft a_itemWord a_itemBoost a_cursor a_document a_occurs a_weight a_bound a_order a_bestDocument a_bestScore n (nI (pu_sum dr i)) (nI i) := by
  intro n
  induction n with
  | zero => intro i _ _; omega
  | succ n ih =>
    intro i hi hn
    rw [wX_draftLength_4]
    refine pk_le 8 i (fun h => ?_) (fun h => ⟨pk_in i 8 h, pu_nm (nI (pu_sum dr (i + 1))) ?_ (nm_r (nI_1 i) (ih (i + 1) (by omega) (by omega)))⟩)
    · rw [show i = 8 by omega]; exact k
    · rw [nI_clamp (by omega), hD i h, nI_add]; rfl
theorem xx_dl (hD : ∀ t, t < 8 → a_draft t = nI (dr t)) {post : Int32 → Prop} (k : post (nI (pu_sum dr 8))) : wpX_draftLength post (f_added, f_alive, f_items, f_lanes, f_found, a_lists, a_ends, a_counts, a_lengths, a_draft, a_itemWord, a_itemBoost, a_cursor, a_document, a_occurs, a_weight, a_bound, a_order, a_bestDocument, a_bestScore) := by
  unfold wpX_draftLength
  exact ⟨9, xx_dl_l hD k 9 0 (by omega) (by omega)⟩
theorem xx_lv (hv : ∀ d, d < 24 → bt f_alive d = lv d) (hl : ∀ d, lv d = true → d < ad) (had : ad ≤ 24) {post : Int32 → Prop} {p0 : Int32} (h1 : ∀ d, d < 24 → p0 = nI d → lv d = true → post 1) (h0 : (∀ d, d < 24 → p0 = nI d → lv d = false) → post 0) : wpX_isLive post (nI ad, f_alive, f_items, f_lanes, f_found, a_lists, a_ends, a_counts, a_lengths, a_draft, a_itemWord, a_itemBoost, a_cursor, a_document, a_occurs, a_weight, a_bound, a_order, a_bestDocument, a_bestScore) p0 := by
  unfold wpX_isLive
  refine br_c (fun h => h0 ?_) (fun h => br_c (fun h7 => h0 ?_) (fun h7 => ?_))
  · intro t ht e
    subst e
    exact absurd h (nI_pos (by omega))
  · intro t ht e
    subst e
    rw [nI_leI (by omega) (by omega)] at h7
    apply pu_bf
    intro z
    have := hl t z
    omega
  · rcases pk_ix p0 (n := ad) (by omega) with z | z | ⟨j, hj, z⟩
    · exact absurd z h
    · exact absurd z h7
    · subst z
      rw [pu_bit f_alive (by omega), hv j (by omega)]
      refine br_c (fun z => h1 j (by omega) rfl ?_) (fun z => h0 (fun d hd e => ?_))
      · apply pu_b_1
        rw [z]
        decide
      · rw [nI_eq (by omega) (by omega)] at e
        subst e
        apply pu_bf
        intro y
        rw [y] at z
        exact z rfl
theorem xx_lvn (hv : ∀ d, d < 24 → bt f_alive d = lv d) (hl : ∀ d, lv d = true → d < ad) (had : ad ≤ 24) {post : Int32 → Prop} {d : Nat} (hd : d < 24) (h : post (pu_b (lv d))) : wpX_isLive post (nI ad, f_alive, f_items, f_lanes, f_found, a_lists, a_ends, a_counts, a_lengths, a_draft, a_itemWord, a_itemBoost, a_cursor, a_document, a_occurs, a_weight, a_bound, a_order, a_bestDocument, a_bestScore) (nI d) := by
  refine xx_lv hv hl had (fun e he e1 e2 => ?_) (fun z => ?_)
  · rw [nI_eq (by omega) (by omega)] at e1
    subst e1
    rw [e2] at h
    exact h
  · rw [z d hd rfl] at h
    exact h
theorem xx_lc_l (hv : ∀ d, d < 24 → bt f_alive d = lv d) (hl : ∀ d, lv d = true → d < ad) (had : ad ≤ 24) {post : Int32 → Prop} (k : post (nI (pu_live lv))) : ∀ n i, i ≤ ad → ad - i < n → wX_liveCount_4 post (nI ad) f_alive f_items f_lanes f_found a_lists a_ends a_counts a_lengths a_draft a_itemWord a_itemBoost a_cursor a_document a_occurs a_weight a_bound a_order a_bestDocument a_bestScore n (nI (pu_cnt lv i)) (nI i) := by
  intro n
  induction n with
  | zero => intro i _ _; omega
  | succ n ih =>
    intro i hi hn
    rw [wX_liveCount_4]
    refine pk_le ad i (fun h => ?_) (fun h => ?_)
    · rw [show i = ad by omega, ← pu_cnt_ge 24 had (fun e h1 _ => pu_bf (fun z => by have := hl e z; omega))]
      exact k
    · refine pu_nm (nI (pu_cnt lv (i + 1))) ?_ (nm_r (nI_1 i) (ih (i + 1) (by omega) (by omega)))
      rw [pu_bit f_alive (by omega), hv i (by omega), pu_addb]
      rfl
theorem xx_lc (hv : ∀ d, d < 24 → bt f_alive d = lv d) (hl : ∀ d, lv d = true → d < ad) (had : ad ≤ 24) {post : Int32 → Prop} (k : post (nI (pu_live lv))) : wpX_liveCount post (nI ad, f_alive, f_items, f_lanes, f_found, a_lists, a_ends, a_counts, a_lengths, a_draft, a_itemWord, a_itemBoost, a_cursor, a_document, a_occurs, a_weight, a_bound, a_order, a_bestDocument, a_bestScore) := by
  unfold wpX_liveCount
  exact ⟨25, xx_lc_l hv hl had k 25 0 (by omega) (by omega)⟩
/-! reading a list -/
theorem xx_la_l {D : Nat} {p : Nat → Bool} {cc : Nat → Nat} {t : Nat} {E : Nat → Nat} {ln : Nat} (h : xx_LI D p cc t a_lists a_ends E ln) (hD : D ≤ 24) (ht : t < 8) {post : Int32 → Prop} (k : post (nI (E ln) - 1)) : ∀ n i, i ≤ ln → ln - i < n → wX_lastOf_4 post (nI t) f_added f_alive f_items f_lanes f_found a_lists a_ends a_counts a_lengths a_draft a_itemWord a_itemBoost a_cursor a_document a_occurs a_weight a_bound a_order a_bestDocument a_bestScore n (nI (E i) - 1) (nI (2 * i)) := by
  have hl := (xx_LI_D h (Nat.le_refl ln)).2.2
  intro n
  induction n with
  | zero => intro i _ _; omega
  | succ n ih =>
    intro i hi hn
    rw [wX_lastOf_4]
    refine ⟨pk_in t 8 ht, ?_⟩
    rw [nI_clamp (show t < 2 ^ 31 by omega), h.1, pu_ix48]
    refine pk_le (2 * ln) (2 * i) (fun z => ?_) (fun z => ?_)
    · rw [show i = ln by omega]; exact k
    · obtain ⟨g1, g2, _⟩ := h.2.2.2.1 i (by omega)
      refine ⟨pk_in (48 * t + 2 * i) 384 (by omega), pu_nm (nI (E (i + 1)) - 1) ?_ (nm_r (pu_2 (2 * i)) (ih (i + 1) (by omega) (by omega)))⟩
      rw [nI_clamp (by omega), g2, pu_back, show E i + (E (i + 1) - E i) = E (i + 1) by omega]
theorem xx_la {D : Nat} {p : Nat → Bool} {cc : Nat → Nat} {t : Nat} {E : Nat → Nat} {ln : Nat} (h : xx_LI D p cc t a_lists a_ends E ln) (hD : D ≤ 24) (ht : t < 8) {post : Int32 → Prop} (k : post (nI (E ln) - 1)) : wpX_lastOf post (f_added, f_alive, f_items, f_lanes, f_found, a_lists, a_ends, a_counts, a_lengths, a_draft, a_itemWord, a_itemBoost, a_cursor, a_document, a_occurs, a_weight, a_bound, a_order, a_bestDocument, a_bestScore) (nI t) := by
  unfold wpX_lastOf
  have H := xx_la_l h hD ht k (ln + 1) 0 (by omega) (by omega) (f_added := f_added) (f_alive := f_alive) (f_items := f_items) (f_lanes := f_lanes) (f_found := f_found) (a_counts := a_counts) (a_lengths := a_lengths) (a_draft := a_draft) (a_itemWord := a_itemWord) (a_itemBoost := a_itemBoost) (a_cursor := a_cursor) (a_document := a_document) (a_occurs := a_occurs) (a_weight := a_weight) (a_bound := a_bound) (a_order := a_order) (a_bestDocument := a_bestDocument) (a_bestScore := a_bestScore)
  rw [h.2.1] at H
  exact ⟨ln + 1, H⟩
theorem xx_ix_l {D : Nat} (hD : D < 24) (hC : ∀ k, k < 192 → a_counts k = nI (c k)) (hc : ∀ k, c k ≤ 7) {post : SX → Prop} (k : ∀ li en, xx_L (D + 1) lv c li en → post (f_added, f_alive, f_items, f_lanes, f_found, li, en, a_counts, a_lengths, a_draft, a_itemWord, a_itemBoost, a_cursor, a_document, a_occurs, a_weight, a_bound, a_order, a_bestDocument, a_bestScore)) : ∀ n t li en, t ≤ 8 → 8 - t < n → (∀ s, s < t → ∃ E ln, xx_LI (D + 1) (pu_h lv c s) (fun d => c (8 * d + s)) s li en E ln) → (∀ s, t ≤ s → s < 8 → ∃ E ln, xx_LI D (pu_h lv c s) (fun d => c (8 * d + s)) s li en E ln) → wX_index_2 post (nI D) f_added f_alive f_items f_lanes f_found n (nI t) li en a_counts a_lengths a_draft a_itemWord a_itemBoost a_cursor a_document a_occurs a_weight a_bound a_order a_bestDocument a_bestScore := by
  intro n
  induction n with
  | zero => intro t li en _ _; omega
  | succ n ih =>
    intro t li en hi hn hlo hhi
    rw [wX_index_2]
    refine pk_le 8 t (fun h => ?_) (fun h => ?_)
    · have e : t = 8 := by omega
      subst e
      exact k li en hlo
    · have h7 := hc (8 * D + t)
      obtain ⟨E, ln, hE⟩ := hhi t (Nat.le_refl t) h
      have hl := xx_LI_D hE (Nat.le_refl ln)
      rw [pu_ix8, nI_clamp (show 8 * D + t < 2 ^ 31 by omega), hC (8 * D + t) (by omega)]
      refine ⟨pk_in (8 * D + t) 192 (by omega), pk_le (c (8 * D + t)) 0 (fun z => nm_r (nI_1 t) (ih (t + 1) li en (by omega) (by omega) (fun s hs => ?_) (fun s h1 h2 => hhi s (by omega) h2))) (fun z => ?_)⟩
      · by_cases y : s = t
        · subst y
          exact ⟨E, ln, xx_LI_skip hE (pu_h_f (fun w => by omega))⟩
        · exact hlo s (by omega)
      · refine ⟨pk_in t 8 h, nm_r (e' := nI (48 * t + 2 * ln)) ?_ (xx_la hE (by omega) h ⟨pk_in (48 * t + 2 * ln) 384 (by omega), pu_nm (upd li (48 * t + 2 * ln) (nI (D + 1 - E ln))) ?_ ⟨pk_in (8 * D + t) 192 (by omega), ?_, pu_nm (upd (upd li (48 * t + 2 * ln) (nI (D + 1 - E ln))) (48 * t + 2 * ln + 1) (nI (c (8 * D + t)))) ?_ ⟨pk_in t 8 h, pk_in t 8 h, pu_nm (upd en t (nI (2 * ln + 2))) ?_ (nm_r (nI_1 t) (ih (t + 1) _ _ (by omega) (by omega) (fun s hs => ?_) (fun s h1 h2 => ?_)))⟩⟩⟩)⟩
        · rw [nI_clamp (by omega), hE.1, pu_ix48]
        · rw [nI_clamp (by omega), pu_gap hl.2.1, pu_nar (by omega)]
        · rw [nI_1]
          exact pk_in (48 * t + 2 * ln + 1) 384 (by omega)
        · rw [nI_1, nI_clamp (by omega), pu_nar (by omega)]
        · rw [nI_clamp (by omega), hE.1, pu_2]
        · by_cases y : s = t
          · subst y
            exact ⟨_, ln + 1, xx_LI_app hE z⟩
          · obtain ⟨E2, ln2, h2⟩ := hlo s (by omega)
            exact ⟨E2, ln2, xx_LI_oth h2 (by omega) y (by omega)⟩
        · obtain ⟨E2, ln2, h3⟩ := hhi s (by omega) h2
          exact ⟨E2, ln2, xx_LI_oth h3 (by omega) (by omega) (by omega)⟩
theorem xx_ix {D : Nat} (hD : D < 24) (hC : ∀ k, k < 192 → a_counts k = nI (c k)) (hc : ∀ k, c k ≤ 7) (hL : xx_L D lv c a_lists a_ends) {post : SX → Prop} (k : ∀ li en, xx_L (D + 1) lv c li en → post (f_added, f_alive, f_items, f_lanes, f_found, li, en, a_counts, a_lengths, a_draft, a_itemWord, a_itemBoost, a_cursor, a_document, a_occurs, a_weight, a_bound, a_order, a_bestDocument, a_bestScore)) : wpX_index post (f_added, f_alive, f_items, f_lanes, f_found, a_lists, a_ends, a_counts, a_lengths, a_draft, a_itemWord, a_itemBoost, a_cursor, a_document, a_occurs, a_weight, a_bound, a_order, a_bestDocument, a_bestScore) (nI D) := by
  unfold wpX_index
  exact ⟨9, xx_ix_l hD hC hc k 9 0 a_lists a_ends (by omega) (by omega) (fun s hs => by omega) (fun s _ hs => hL s hs)⟩
theorem xx_sp_l {t : Nat} {E : Nat → Nat} {ln : Nat} (h : xx_LI ad (pu_h lv c t) (fun d => c (8 * d + t)) t a_lists a_ends E ln) (hv : ∀ d, d < 24 → bt f_alive d = lv d) (hl : ∀ d, lv d = true → d < ad) (had : ad ≤ 24) (ht : t < 8) {post : Int32 → Prop} (k : post (nI (pu_hold lv c t))) : ∀ n i, i ≤ ln → ln - i < n → wX_spreadOf_7 post (nI t) f_added f_alive f_items f_lanes f_found a_lists a_ends a_counts a_lengths a_draft a_itemWord a_itemBoost a_cursor a_document a_occurs a_weight a_bound a_order a_bestDocument a_bestScore n (nI (E i) - 1) (nI (pu_cnt (pu_h lv c t) (E i))) (nI (2 * i)) := by
  have hln := (xx_LI_D h (Nat.le_refl ln))
  intro n
  induction n with
  | zero => intro i _ _; omega
  | succ n ih =>
    intro i hi hn
    rw [wX_spreadOf_7]
    refine ⟨pk_in t 8 ht, ?_⟩
    rw [nI_clamp (show t < 2 ^ 31 by omega), h.1, pu_ix48]
    refine pk_le (2 * ln) (2 * i) (fun z => ?_) (fun z => ?_)
    · have e : i = ln := by omega
      subst e
      have e2 : pu_cnt (pu_h lv c t) (E i) = pu_hold lv c t := by
        refine (pu_cnt_ge 24 (by omega) (fun e h1 h2 => ?_)).symm
        by_cases y : e < ad
        · exact h.2.2.2.2 e h1 y
        · exact pu_h_f (fun w => y (hl e w.1))
      rw [e2]
      exact k
    · obtain ⟨g1, g2, g3, g4, g5⟩ := h.2.2.2.1 i (by omega)
      have g6 := (xx_LI_D h (i := i + 1) (by omega)).2.1
      refine ⟨pk_in (48 * t + 2 * i) 384 (by omega), pu_nm (nI (E (i + 1)) - 1) ?_ (pu_nm (nI (pu_cnt (pu_h lv c t) (E (i + 1)))) ?_ (nm_r (pu_2 (2 * i)) (ih (i + 1) (by omega) (by omega))))⟩
      · rw [nI_clamp (by omega), g2, pu_back, show E i + (E (i + 1) - E i) = E (i + 1) by omega]
      · rw [pu_pred (by omega), pu_bit f_alive (by omega), hv _ (by omega), pu_addb]
        obtain ⟨e, he⟩ : ∃ e, E (i + 1) = e + 1 := ⟨E (i + 1) - 1, by omega⟩
        rw [he] at g4 g5 ⊢
        dsimp only at g4
        rw [Nat.add_sub_cancel] at g4 ⊢
        rw [pu_cnt_s, pu_cnt_ge (a := E i) e (by omega) (fun d h1 h2 => g5 d h1 (by omega))]
        have e3 : pu_h lv c t e = lv e := by unfold pu_h; rw [decide_eq_true g4, Bool.and_true]
        rw [e3]
theorem xx_sp (hL : xx_L ad lv c a_lists a_ends) (hv : ∀ d, d < 24 → bt f_alive d = lv d) (hl : ∀ d, lv d = true → d < ad) (had : ad ≤ 24) {t : Nat} (ht : t < 8) {post : Int32 → Prop} (k : post (nI (pu_hold lv c t))) : wpX_spreadOf post (f_added, f_alive, f_items, f_lanes, f_found, a_lists, a_ends, a_counts, a_lengths, a_draft, a_itemWord, a_itemBoost, a_cursor, a_document, a_occurs, a_weight, a_bound, a_order, a_bestDocument, a_bestScore) (nI t) := by
  obtain ⟨E, ln, h⟩ := hL t ht
  unfold wpX_spreadOf
  have H := xx_sp_l h hv hl had ht k (ln + 1) 0 (by omega) (by omega) (f_added := f_added) (f_items := f_items) (f_lanes := f_lanes) (f_found := f_found) (a_counts := a_counts) (a_lengths := a_lengths) (a_draft := a_draft) (a_itemWord := a_itemWord) (a_itemBoost := a_itemBoost) (a_cursor := a_cursor) (a_document := a_document) (a_occurs := a_occurs) (a_weight := a_weight) (a_bound := a_bound) (a_order := a_order) (a_bestDocument := a_bestDocument) (a_bestScore := a_bestScore)
  rw [h.2.1] at H
  exact ⟨ln + 1, H⟩
theorem xx_st {post : Int32 → Prop} {k len : Nat} (hk : k ≤ 7) (hl : len ≤ 56) (K : post (nI (pu_st k len))) : wpX_strength post (nI k) (nI len) := by
  unfold wpX_strength
  have e1 : nI k + 2 + nI len / 4 = nI (k + 2 + len / 4) := by
    show nI k + nI 2 + nI len / nI 4 = _
    rw [pk_div (by omega) (by omega) (by omega), nI_add, nI_add]
  have e2 : (256 : Int32) * nI k / nI (k + 2 + len / 4) = nI (pu_st k len) := by
    show nI 256 * nI k / _ = _
    rw [pk_mul, pk_div (by omega) (by omega) (by omega)]
    rfl
  rw [e1, e2]
  refine pk_lt 0 k (fun _ => ⟨by decide, nI_ne0 (by omega) (by omega), K⟩) (fun z => ?_)
  rw [show k = 0 by omega, pu_st_0] at K
  exact K
theorem xx_gr_l {t : Nat} {E : Nat → Nat} {ln : Nat} (h : xx_LI ad (pu_h lv c t) (fun d => c (8 * d + t)) t a_lists a_ends E ln) (hl : ∀ d, lv d = true → d < ad) (had : ad ≤ 24) (hc : ∀ k, c k ≤ 7) (hN : ∀ d, d < ad → a_lengths d = nI (pu_len c d)) (ht : t < 8) {post : Int32 → Prop} (k : ∀ g, g ≤ 256 → (∀ d, pu_h lv c t d = true → pu_st (c (8 * d + t)) (pu_len c d) ≤ g) → post (nI g)) : ∀ n i g, i ≤ ln → ln - i < n → g ≤ 256 → (∀ d, d < E i → pu_h lv c t d = true → pu_st (c (8 * d + t)) (pu_len c d) ≤ g) → wX_greatest_7 post (nI t) f_added f_alive f_items f_lanes f_found a_lists a_ends a_counts a_lengths a_draft a_itemWord a_itemBoost a_cursor a_document a_occurs a_weight a_bound a_order a_bestDocument a_bestScore n (nI (E i) - 1) (nI g) (nI (2 * i)) := by
  have hln := (xx_LI_D h (Nat.le_refl ln))
  intro n
  induction n with
  | zero => intro i g _ _; omega
  | succ n ih =>
    intro i g hi hn hg hall
    rw [wX_greatest_7]
    refine ⟨pk_in t 8 ht, ?_⟩
    rw [nI_clamp (show t < 2 ^ 31 by omega), h.1, pu_ix48]
    refine pk_le (2 * ln) (2 * i) (fun z => ?_) (fun z => ?_)
    · have e : i = ln := by omega
      subst e
      refine k g hg (fun d hd => ?_)
      by_cases y : d < E i
      · exact hall d y hd
      · rw [h.2.2.2.2 d (by omega) (hl d (pu_h_t.mp hd).1)] at hd
        exact absurd hd Bool.false_ne_true
    · obtain ⟨g1, g2, g3, g4, g5⟩ := h.2.2.2.1 i (by omega)
      have g6 := (xx_LI_D h (i := i + 1) (by omega)).2.1
      dsimp only at g3 g4
      have h7 := hc (8 * (E (i + 1) - 1) + t)
      have hle := pu_len_le hc (E (i + 1) - 1)
      have hst := pu_st_le (c (8 * (E (i + 1) - 1) + t)) (pu_len c (E (i + 1) - 1))
      have step : ∀ g', g ≤ g' → pu_st (c (8 * (E (i + 1) - 1) + t)) (pu_len c (E (i + 1) - 1)) ≤ g' → ∀ d, d < E (i + 1) → pu_h lv c t d = true → pu_st (c (8 * d + t)) (pu_len c d) ≤ g' := by
        intro g' a1 a2 d hd hh
        by_cases y : d < E i
        · exact Nat.le_trans (hall d y hh) a1
        · by_cases w : d + 1 < E (i + 1)
          · rw [g5 d (by omega) w] at hh
            exact absurd hh Bool.false_ne_true
          · rw [show d = E (i + 1) - 1 by omega]
            exact a2
      refine ⟨pk_in (48 * t + 2 * i) 384 (by omega), pu_nm (nI (E (i + 1)) - 1) ?_ ⟨?_, ?_, ?_⟩⟩
      · rw [nI_clamp (by omega), g2, pu_back, show E i + (E (i + 1) - E i) = E (i + 1) by omega]
      · rw [nI_1]
        exact pk_in (48 * t + 2 * i + 1) 384 (by omega)
      · rw [pu_pred (by omega)]
        exact pk_in (E (i + 1) - 1) 24 (by omega)
      · have eA : a_lists (nI (48 * t + 2 * i) + 1).toNatClampNeg = nI (c (8 * (E (i + 1) - 1) + t)) := by
          rw [nI_1, nI_clamp (by omega)]
          exact g3
        have eB : a_lengths (nI (E (i + 1)) - 1).toNatClampNeg = nI (pu_len c (E (i + 1) - 1)) := by
          rw [pu_pred (by omega), nI_clamp (by omega), hN _ (by omega)]
        rw [eA, eB]
        refine xx_st h7 hle (pk_le (pu_st (c (8 * (E (i + 1) - 1) + t)) (pu_len c (E (i + 1) - 1))) g (fun z => nm_r (pu_2 (2 * i)) (ih (i + 1) g (by omega) (by omega) hg (step g (Nat.le_refl g) z))) (fun z => nm_r (pu_2 (2 * i)) (ih (i + 1) _ (by omega) (by omega) hst (step _ (by omega) (Nat.le_refl _)))))
theorem xx_gr (hL : xx_L ad lv c a_lists a_ends) (hl : ∀ d, lv d = true → d < ad) (had : ad ≤ 24) (hc : ∀ k, c k ≤ 7) (hN : ∀ d, d < ad → a_lengths d = nI (pu_len c d)) {t : Nat} (ht : t < 8) {post : Int32 → Prop} (k : ∀ g, g ≤ 256 → (∀ d, pu_h lv c t d = true → pu_st (c (8 * d + t)) (pu_len c d) ≤ g) → post (nI g)) : wpX_greatest post (f_added, f_alive, f_items, f_lanes, f_found, a_lists, a_ends, a_counts, a_lengths, a_draft, a_itemWord, a_itemBoost, a_cursor, a_document, a_occurs, a_weight, a_bound, a_order, a_bestDocument, a_bestScore) (nI t) := by
  obtain ⟨E, ln, h⟩ := hL t ht
  unfold wpX_greatest
  have H := xx_gr_l h hl had hc hN ht k (ln + 1) 0 0 (by omega) (by omega) (by omega) (fun d hd => by rw [h.2.1] at hd; omega) (f_added := f_added) (f_alive := f_alive) (f_items := f_items) (f_lanes := f_lanes) (f_found := f_found) (a_counts := a_counts) (a_draft := a_draft) (a_itemWord := a_itemWord) (a_itemBoost := a_itemBoost) (a_cursor := a_cursor) (a_document := a_document) (a_occurs := a_occurs) (a_weight := a_weight) (a_bound := a_bound) (a_order := a_order) (a_bestDocument := a_bestDocument) (a_bestScore := a_bestScore)
  rw [h.2.1] at H
  exact ⟨ln + 1, H⟩
end
end
section
section
variable {f_added f_alive f_items f_lanes f_found : Int32} {a_lists a_ends a_counts a_lengths a_draft a_itemWord a_itemBoost a_cursor a_document a_occurs a_weight a_bound a_order a_bestDocument a_bestScore : Nat → Int32}
variable {ad : Nat} {lv : Nat → Bool} {c dr q : Nat → Nat} {it : Nat} {iw : Nat → Nat}
theorem xx_pl_l (hI : xx_It q it iw a_itemWord a_itemBoost) {post : Int32 → Prop} {p0 : Int32} (h1 : ∀ k, k < it → p0 = nI (iw k) → post (nI k)) (h0 : (∀ k, k < it → p0 ≠ nI (iw k)) → post (-1)) : ∀ n i, i ≤ it → it - i < n → (∀ k, k < i → p0 ≠ nI (iw k)) → wX_place_2 post p0 f_added f_alive (nI it) f_lanes f_found a_lists a_ends a_counts a_lengths a_draft a_itemWord a_itemBoost a_cursor a_document a_occurs a_weight a_bound a_order a_bestDocument a_bestScore n (nI i) := by
  have h5 := hI.1
  intro n
  induction n with
  | zero => intro i _ _; omega
  | succ n ih =>
    intro i hi hn hno
    rw [wX_place_2]
    refine pk_le it i (fun h => ?_) (fun h => ⟨pk_in i 5 (by omega), ?_⟩)
    · have e : i = it := by omega
      subst e
      exact h0 hno
    · rw [nI_clamp (by omega), (hI.2.1 i h).2.2.1]
      refine br_c (fun z => h1 i h z.symm) (fun z => nm_r (nI_1 i) (ih (i + 1) (by omega) (by omega) (fun k hk => ?_)))
      by_cases y : k = i
      · subst y
        exact fun e => z e.symm
      · exact hno k (by omega)
theorem xx_pl (hI : xx_It q it iw a_itemWord a_itemBoost) {post : Int32 → Prop} {p0 : Int32} (h1 : ∀ k, k < it → p0 = nI (iw k) → post (nI k)) (h0 : (∀ k, k < it → p0 ≠ nI (iw k)) → post (-1)) : wpX_place post (f_added, f_alive, nI it, f_lanes, f_found, a_lists, a_ends, a_counts, a_lengths, a_draft, a_itemWord, a_itemBoost, a_cursor, a_document, a_occurs, a_weight, a_bound, a_order, a_bestDocument, a_bestScore) p0 := by
  unfold wpX_place
  exact ⟨it + 1, xx_pl_l hI h1 h0 (it + 1) 0 (by omega) (by omega) (fun k hk => by omega)⟩
theorem xx_m72 {post : Int32 → Prop} {J : Int32 → Int32 → Prop} {x1 : Int32} {k Q : Nat} (hk : k < 5) (hb : a_itemBoost k = nI (Q - 1)) (h0 : 0 < Q) (h20 : Q ≤ 20) {has any : Bool} (h1 : J (pu_b (any || pu_hit Q has)) (nI (k + 1))) : wX_matches_72 post J x1 (pu_b any) (nI k) (pu_b has) f_added f_alive f_items f_lanes f_found a_lists a_ends a_counts a_lengths a_draft a_itemWord a_itemBoost a_cursor a_document a_occurs a_weight a_bound a_order a_bestDocument a_bestScore := by
  unfold wX_matches_72
  rw [nI_clamp (by omega), hb, nI_1]
  unfold pu_hit at h1
  refine pu_bc (fun e => ⟨pk_in k 5 hk, pk_le (Q - 1) 0 (fun z => nm_e ?_) (fun z => pu_bc (fun e2 => nm_e ?_) (fun e2 => nm_e ?_))⟩) (fun e => nm_e ?_)
  · subst e
    rw [decide_eq_false (show ¬ 1 < Q by omega), Bool.false_and] at h1
    exact h1
  · subst e e2
    rw [Bool.and_false] at h1
    exact h1
  · subst e e2
    rw [decide_eq_true (show 1 < Q by omega)] at h1
    exact h1
  · subst e
    exact h1
theorem xx_m36 {post : Int32 → Prop} {J : Int32 → Int32 → Prop} {x1 : Int32} {k Q : Nat} (hk : k < 5) (hb : a_itemBoost k = nI (Q - 1)) (h0 : 0 < Q) (h20 : Q ≤ 20 ∧ Q ≠ 11) {has any : Bool} (k0 : pu_ok Q has = false → post 0) (h1 : pu_ok Q has = true → J (pu_b (any || pu_hit Q has)) (nI (k + 1))) : wX_matches_36 post J x1 (pu_b any) (nI k) (pu_b has) f_added f_alive f_items f_lanes f_found a_lists a_ends a_counts a_lengths a_draft a_itemWord a_itemBoost a_cursor a_document a_occurs a_weight a_bound a_order a_bestDocument a_bestScore := by
  have K54 : (Q ≠ 1 ∨ has = false) → wX_matches_54 post J x1 (pu_b any) (nI k) (pu_b has) f_added f_alive f_items f_lanes f_found a_lists a_ends a_counts a_lengths a_draft a_itemWord a_itemBoost a_cursor a_document a_occurs a_weight a_bound a_order a_bestDocument a_bestScore := by
    intro hne
    unfold wX_matches_54
    refine ⟨pk_in k 5 hk, ?_⟩
    rw [nI_clamp (by omega), hb]
    refine pk_le (Q - 1) 10 (fun z => xx_m72 hk hb h0 h20.1 (h1 ?_)) (fun z => pu_bc (fun e => k0 ?_) (fun e => xx_m72 hk hb h0 h20.1 (h1 ?_)))
    · unfold pu_ok; rw [decide_eq_false (show ¬ 11 < Q by omega)]
      rcases hne with e | e
      · rw [decide_eq_false e]; rfl
      · rw [e, Bool.and_false]; rfl
    · subst e; unfold pu_ok; rw [decide_eq_true (show 11 < Q by omega), decide_eq_false (show ¬ Q = 1 by omega)]; rfl
    · subst e; unfold pu_ok; rw [decide_eq_true (show 11 < Q by omega), decide_eq_false (show ¬ Q = 1 by omega)]; rfl
  unfold wX_matches_36
  refine ⟨pk_in k 5 hk, ?_⟩
  rw [nI_clamp (by omega), hb]
  refine pk_eq (Q - 1) 0 (fun z => pu_bc (fun e => K54 (Or.inr e)) (fun e => k0 ?_)) (fun z => K54 (Or.inl (by omega)))
  subst e; unfold pu_ok; rw [decide_eq_true (show Q = 1 by omega)]; rfl
theorem xx_m_l (hI : xx_It q it iw a_itemWord a_itemBoost) (hq : ∀ t, q t ≤ 20 ∧ q t ≠ 11) (hC : ∀ k, k < 192 → a_counts k = nI (c k)) (hc : ∀ k, c k ≤ 7) {d : Nat} (hd : d < 24) {post : Int32 → Prop} (k : post (pu_b (pu_m c q d))) : ∀ n i, i ≤ it → it - i < n → pu_all (fun k => pu_ok (q (iw k)) (decide (0 < c (8 * d + iw k)))) i = true → wX_matches_4 post (nI d) f_added f_alive (nI it) f_lanes f_found a_lists a_ends a_counts a_lengths a_draft a_itemWord a_itemBoost a_cursor a_document a_occurs a_weight a_bound a_order a_bestDocument a_bestScore n (pu_b (pu_any (fun k => pu_hit (q (iw k)) (decide (0 < c (8 * d + iw k)))) i)) (nI i) := by
  have h5 := hI.1
  intro n
  induction n with
  | zero => intro i _ _; omega
  | succ n ih =>
    intro i hi hn ha
    rw [wX_matches_4]
    refine pk_le it i (fun h => ⟨pu_narrow _, ?_⟩) (fun h => ?_)
    · have e : i = it := by omega
      subst e
      rw [← xx_It_m hI, ha, Bool.true_and] at k
      exact k
    · obtain ⟨g1, g2, g3, g4⟩ := hI.2.1 i h
      have h7 := hc (8 * d + iw i)
      have Q : ∀ has : Bool, decide (0 < c (8 * d + iw i)) = has → wX_matches_36 post (wX_matches_4 post (nI d) f_added f_alive (nI it) f_lanes f_found a_lists a_ends a_counts a_lengths a_draft a_itemWord a_itemBoost a_cursor a_document a_occurs a_weight a_bound a_order a_bestDocument a_bestScore n) (nI d) (pu_b (pu_any (fun k => pu_hit (q (iw k)) (decide (0 < c (8 * d + iw k)))) i)) (nI i) (pu_b has) f_added f_alive (nI it) f_lanes f_found a_lists a_ends a_counts a_lengths a_draft a_itemWord a_itemBoost a_cursor a_document a_occurs a_weight a_bound a_order a_bestDocument a_bestScore := by
        intro has eh
        refine xx_m36 (by omega) g4 g2 (hq _) (fun z => ?_) (fun z => ?_)
        · have e : pu_m c q d = false := by
            rw [← xx_It_m hI, pu_all_f h (by rw [eh]; exact z), Bool.false_and]
          rw [e] at k
          exact k
        · have H := ih (i + 1) (by omega) (by omega) (by rw [pu_all, ha, Bool.true_and, eh]; exact z)
          rw [pu_any, eh] at H
          exact H
      rw [nI_clamp (show i < 2 ^ 31 by omega), g3, pu_ix8, nI_clamp (by omega), hC (8 * d + iw i) (by omega)]
      refine ⟨pk_in i 5 (by omega), pk_in (8 * d + iw i) 192 (by omega), pk_le (c (8 * d + iw i)) 0 (fun z => ?_) (fun z => ?_)⟩
      · exact Q false (decide_eq_false (by omega))
      · exact Q true (decide_eq_true (by omega))
theorem xx_m (hI : xx_It q it iw a_itemWord a_itemBoost) (hq : ∀ t, q t ≤ 20 ∧ q t ≠ 11) (hC : ∀ k, k < 192 → a_counts k = nI (c k)) (hc : ∀ k, c k ≤ 7) {d : Nat} (hd : d < 24) {post : Int32 → Prop} (k : post (pu_b (pu_m c q d))) : wpX_matches post (f_added, f_alive, nI it, f_lanes, f_found, a_lists, a_ends, a_counts, a_lengths, a_draft, a_itemWord, a_itemBoost, a_cursor, a_document, a_occurs, a_weight, a_bound, a_order, a_bestDocument, a_bestScore) (nI d) := by
  unfold wpX_matches
  exact ⟨it + 1, xx_m_l hI hq hC hc hd k (it + 1) 0 (by omega) (by omega) rfl⟩
theorem xx_mg_l (hI : xx_It q it iw a_itemWord a_itemBoost) (hq : ∀ t, q t ≤ 20 ∧ q t ≠ 11) (hC : ∀ k, k < 192 → a_counts k = nI (c k)) (hc : ∀ k, c k ≤ 7) (hv : ∀ d, d < 24 → bt f_alive d = lv d) (hl : ∀ d, lv d = true → d < ad) (had : ad ≤ 24) {post : Int32 → Prop} (k : post (nI (pu_cnt (pu_M lv c q) 24))) : ∀ n i, i ≤ ad → ad - i < n → wX_matching_4 post (nI ad) f_alive (nI it) f_lanes f_found a_lists a_ends a_counts a_lengths a_draft a_itemWord a_itemBoost a_cursor a_document a_occurs a_weight a_bound a_order a_bestDocument a_bestScore n (nI (pu_cnt (pu_M lv c q) i)) (nI i) := by
  intro n
  induction n with
  | zero => intro i _ _; omega
  | succ n ih =>
    intro i hi hn
    rw [wX_matching_4]
    refine pk_le ad i (fun h => ?_) (fun h => ?_)
    · rw [show i = ad by omega, ← pu_cnt_ge 24 had (fun e h1 _ => pu_bf (fun z => by have := hl e (pu_and_t.mp z).1; omega))]
      exact k
    · have H := ih (i + 1) (by omega) (by omega)
      have no : pu_M lv c q i = false → ∀ x, x = nI (pu_cnt (pu_M lv c q) i) + 0 → ∀ y, y = nI i + 1 → wX_matching_4 post (nI ad) f_alive (nI it) f_lanes f_found a_lists a_ends a_counts a_lengths a_draft a_itemWord a_itemBoost a_cursor a_document a_occurs a_weight a_bound a_order a_bestDocument a_bestScore n x y := by
        intro z
        rw [pu_cnt_f z] at H
        exact nm_r (Int32.add_zero _) (nm_r (nI_1 i) H)
      refine xx_lvn hv hl had (by omega) (pu_bc (fun e => no (by unfold pu_M; rw [e, Bool.false_and])) (fun e => xx_m hI hq hC hc (by omega) (pu_bc (fun e2 => no (by unfold pu_M; rw [e2, Bool.and_false])) (fun e2 => nm_r ?_ (nm_r (nI_1 i) H)))))
      rw [pu_cnt_t (by unfold pu_M; rw [e, e2]; rfl)]
      exact nI_1 _
theorem xx_mg (hI : xx_It q it iw a_itemWord a_itemBoost) (hq : ∀ t, q t ≤ 20 ∧ q t ≠ 11) (hC : ∀ k, k < 192 → a_counts k = nI (c k)) (hc : ∀ k, c k ≤ 7) (hv : ∀ d, d < 24 → bt f_alive d = lv d) (hl : ∀ d, lv d = true → d < ad) (had : ad ≤ 24) {post : Int32 → Prop} (k : post (nI (pu_cnt (pu_M lv c q) 24))) : wpX_matching post (nI ad, f_alive, nI it, f_lanes, f_found, a_lists, a_ends, a_counts, a_lengths, a_draft, a_itemWord, a_itemBoost, a_cursor, a_document, a_occurs, a_weight, a_bound, a_order, a_bestDocument, a_bestScore) := by
  unfold wpX_matching
  exact ⟨25, xx_mg_l hI hq hC hc hv hl had k 25 0 (by omega) (by omega)⟩
end
end
section
/-! a lane: its cursor stands at the first live document of its list that is at least F -/
def xx_ln (E : Nat → Nat) (ln : Nat) (p : Nat → Bool) (cc : Nat → Nat) (F : Nat) (cu dc oc : Int32) : Prop := (dc = 1000 ∧ ∀ d, F ≤ d → p d = false) ∨ ∃ i, 0 < i ∧ i ≤ ln ∧ cu = nI (2 * i) - 2 ∧ dc = nI (E i) - 1 ∧ F < E i ∧ p (E i - 1) = true ∧ (∀ d, F ≤ d → d + 1 < E i → p d = false) ∧ oc = nI (cc (E i - 1))
def xx_pre (E : Nat → Nat) (ln : Nat) (p : Nat → Bool) (cc : Nat → Nat) (F : Nat) (cu dc oc : Int32) : Prop := (dc = 1000 ∧ ∀ d, F ≤ d → p d = false) ∨ ∃ i, i ≤ ln ∧ cu = nI (2 * i) - 2 ∧ dc = nI (E i) - 1 ∧ (∀ d, F ≤ d → d + 1 < E i → p d = false) ∧ (0 < i → oc = nI (cc (E i - 1)))
theorem xx_ln_pre {E : Nat → Nat} {ln : Nat} {p : Nat → Bool} {cc : Nat → Nat} {F G : Nat} {cu dc oc : Int32} (h : xx_ln E ln p cc F cu dc oc) (hG : F ≤ G) : xx_pre E ln p cc G cu dc oc := by
  rcases h with ⟨h1, h2⟩ | ⟨i, h1, h2, h3, h4, h5, h6, h7, h8⟩
  · exact Or.inl ⟨h1, fun d hd => h2 d (by omega)⟩
  · exact Or.inr ⟨i, h2, h3, h4, fun d hd => h7 d (by omega), fun _ => h8⟩
theorem xx_ln_nx {E : Nat → Nat} {ln : Nat} {p : Nat → Bool} {cc : Nat → Nat} {F : Nat} {cu dc oc : Int32} (h : xx_ln E ln p cc F cu dc oc) (hp : ∀ d, 24 ≤ d → p d = false) : dc = nI (pu_nx p F) ∧ (pu_nx p F < 24 → oc = nI (cc (pu_nx p F))) := by
  rcases h with ⟨h1, h2⟩ | ⟨i, h1, h2, h3, h4, h5, h6, h7, h8⟩
  · have e := pu_nx_1 hp h2
    rw [e]
    exact ⟨h1, fun z => by omega⟩
  · have e := pu_nx_2 hp (F := F) (D := E i - 1) (by omega) h6 (fun d hd hd2 => h7 d hd (by omega))
    rw [e]
    exact ⟨by rw [h4]; exact pu_pred (by omega), fun _ => h8⟩
theorem pu_c2 (i : Nat) : nI (2 * i) - 2 + 2 = nI (2 * (i + 1)) - 2 := by
  rw [Int32.sub_add_cancel]
  exact (pk_sub (a := 2 * (i + 1)) (b := 2) (by omega)).symm
theorem pu_c3 (i : Nat) : nI (2 * i) - 2 + 2 = nI (2 * i) := Int32.sub_add_cancel _ _
section
variable {f_added f_alive f_items f_lanes f_found : Int32} {a_lists a_ends a_counts a_lengths a_draft a_itemWord a_itemBoost a_cursor a_document a_occurs a_weight a_bound a_order a_bestDocument a_bestScore : Nat → Int32}
variable {ad : Nat} {lv : Nat → Bool} {c dr q : Nat → Nat} {it : Nat} {iw : Nat → Nat}
theorem xx_adv {D : Nat} {p : Nat → Bool} {cc : Nat → Nat} {t : Nat} {E : Nat → Nat} {ln : Nat} (hE : xx_LI D p cc t a_lists a_ends E ln) (hD : D ≤ 24) (ht : t < 8) {k i : Nat} (hk : k < 5) (hi : i ≤ ln) (hcu : a_cursor k = nI (2 * i) - 2) (hdc : a_document k = nI (E i) - 1) {post : SX → Prop} {x2 : Int32} {J : (Nat → Int32) → (Nat → Int32) → (Nat → Int32) → (Nat → Int32) → (Nat → Int32) → (Nat → Int32) → (Nat → Int32) → (Nat → Int32) → (Nat → Int32) → (Nat → Int32) → (Nat → Int32) → (Nat → Int32) → (Nat → Int32) → (Nat → Int32) → (Nat → Int32) → Prop}
    (h1 : i < ln → J a_lists a_ends a_counts a_lengths a_draft a_itemWord a_itemBoost (upd a_cursor k (nI (2 * (i + 1)) - 2)) (upd a_document k (nI (E (i + 1)) - 1)) (upd a_occurs k (nI (cc (E (i + 1) - 1)))) a_weight a_bound a_order a_bestDocument a_bestScore) (h2 : i = ln → J a_lists a_ends a_counts a_lengths a_draft a_itemWord a_itemBoost (upd a_cursor k (nI (2 * (i + 1)) - 2)) (upd a_document k 1000) a_occurs a_weight a_bound a_order a_bestDocument a_bestScore) : wX_moveTo_42 post J (nI k) x2 (nI t) f_added f_alive f_items f_lanes f_found a_lists a_ends a_counts a_lengths a_draft a_itemWord a_itemBoost a_cursor a_document a_occurs a_weight a_bound a_order a_bestDocument a_bestScore := by
  have hl := (xx_LI_D hE (Nat.le_refl ln)).2.2
  unfold wX_moveTo_42
  rw [nI_clamp (show k < 2 ^ 31 by omega), nI_clamp (show t < 2 ^ 31 by omega)]
  have e3 : nI (2 * (i + 1)) - 2 = nI (2 * i) := pk_sub (a := 2 * (i + 1)) (b := 2) (by omega)
  have e4 : upd a_cursor k (nI (2 * (i + 1)) - 2) k = nI (2 * i) := by rw [pk_us, e3]
  refine ⟨pk_in k 5 hk, pk_in k 5 hk, pu_nm (upd a_cursor k (nI (2 * (i + 1)) - 2)) (by rw [hcu, pu_c2]) ⟨pk_in k 5 hk, pk_in t 8 ht, ?_⟩⟩
  rw [e4, hE.1, pu_ix48]
  refine pk_lt (2 * i) (2 * ln) (fun z => ?_) (fun z => ⟨pk_in k 5 hk, nm_e (h2 (by omega))⟩)
  obtain ⟨g1, g2, g3, g4, g5⟩ := hE.2.2.2.1 i (by omega)
  refine ⟨pk_in k 5 hk, pk_in k 5 hk, pk_in (48 * t + 2 * i) 384 (by omega), pk_in k 5 hk, pu_nm (upd a_document k (nI (E (i + 1)) - 1)) ?_ ⟨pk_in k 5 hk, ?_, pk_in k 5 hk, pu_nm (upd a_occurs k (nI (cc (E (i + 1) - 1)))) ?_ (h1 (by omega))⟩⟩
  · rw [hdc, nI_clamp (by omega), g2, pu_back, show E i + (E (i + 1) - E i) = E (i + 1) by omega]
  · rw [nI_1]
    exact pk_in (48 * t + 2 * i + 1) 384 (by omega)
  · rw [nI_1, nI_clamp (by omega), g3]
theorem xx_mv_l {t : Nat} {E : Nat → Nat} {ln : Nat} (hE : xx_LI ad (pu_h lv c t) (fun d => c (8 * d + t)) t a_lists a_ends E ln) (hv : ∀ d, d < 24 → bt f_alive d = lv d) (hl : ∀ d, lv d = true → d < ad) (had : ad ≤ 24) (ht : t < 8) {k F : Nat} (hk : k < 5) (hF : F ≤ 24) {post : SX → Prop} {cu0 dc0 oc0 : Nat → Int32}
    (K : ∀ cu dc oc, (∀ j, j ≠ k → cu j = cu0 j ∧ dc j = dc0 j ∧ oc j = oc0 j) → xx_ln E ln (pu_h lv c t) (fun d => c (8 * d + t)) F (cu k) (dc k) (oc k) → post (nI ad, f_alive, f_items, f_lanes, f_found, a_lists, a_ends, a_counts, a_lengths, a_draft, a_itemWord, a_itemBoost, cu, dc, oc, a_weight, a_bound, a_order, a_bestDocument, a_bestScore)) : ∀ n i cu dc oc, i ≤ ln → ln - i + 1 < n → (∀ j, j ≠ k → cu j = cu0 j ∧ dc j = dc0 j ∧ oc j = oc0 j) → cu k = nI (2 * i) - 2 → dc k = nI (E i) - 1 → (∀ d, F ≤ d → d + 1 < E i → pu_h lv c t d = false) → (0 < i → oc k = nI (c (8 * (E i - 1) + t))) → wX_moveTo_7 post (nI k) (nI F) (nI t) (nI ad) f_alive f_items f_lanes f_found n a_lists a_ends a_counts a_lengths a_draft a_itemWord a_itemBoost cu dc oc a_weight a_bound a_order a_bestDocument a_bestScore := by
  intro n
  induction n with
  | zero => intro i cu dc oc _ _; omega
  | succ n ih =>
    intro i cu dc oc hi hn hoth hcu hdc hno hoc
    have hEi := xx_LI_D hE hi
    rw [wX_moveTo_7]
    have adv : (E i ≤ F ∨ lv (E i - 1) = false) → wX_moveTo_42 post (wX_moveTo_7 post (nI k) (nI F) (nI t) (nI ad) f_alive f_items f_lanes f_found n) (nI k) (nI F) (nI t) (nI ad) f_alive f_items f_lanes f_found a_lists a_ends a_counts a_lengths a_draft a_itemWord a_itemBoost cu dc oc a_weight a_bound a_order a_bestDocument a_bestScore := by
      intro hlast
      have hthis : ∀ d, F ≤ d → d < E i → pu_h lv c t d = false := by
        intro d h1 h2
        by_cases y : d + 1 < E i
        · exact hno d h1 y
        · rcases hlast with z | z
          · omega
          · rw [show d = E i - 1 by omega]
            exact pu_h_f (fun w => by rw [z] at w; exact Bool.false_ne_true w.1)
      have hoth' : ∀ (x y z : Int32), ∀ j, j ≠ k → upd cu k x j = cu0 j ∧ upd dc k y j = dc0 j ∧ upd oc k z j = oc0 j := by
        intro x y z j hj
        rw [pk_un hj, pk_un hj, pk_un hj]
        exact hoth j hj
      refine xx_adv hE had ht hk hi hcu hdc (fun z => ?_) (fun z => ?_)
      · obtain ⟨g1, g2, g3, g4, g5⟩ := hE.2.2.2.1 i z
        refine ih (i + 1) _ _ _ z (by omega) (hoth' _ _ _) pk_us pk_us (fun d h1 h2 => ?_) (fun _ => pk_us)
        by_cases y : d < E i
        · exact hthis d h1 y
        · exact g5 d (by omega) h2
      · subst z
        obtain ⟨m, rfl⟩ : ∃ m, n = m + 1 := ⟨n - 1, by omega⟩
        rw [wX_moveTo_7]
        refine ⟨pk_in k 5 hk, br_t ?_ (K _ _ _ (fun j hj => ?_) (Or.inl ⟨pk_us, fun d hd => ?_⟩))⟩
        · rw [nI_clamp (by omega), pk_us]
        · have := hoth' (nI (2 * (i + 1)) - 2) 1000 0 j hj
          exact ⟨this.1, this.2.1, (hoth j hj).2.2⟩
        · by_cases y : d < E i
          · exact hthis d hd y
          · by_cases w : d < ad
            · exact hE.2.2.2.2 d (by omega) w
            · exact pu_h_f (fun x => w (hl d x.1))
    refine ⟨pk_in k 5 hk, ?_⟩
    rw [nI_clamp (show k < 2 ^ 31 by omega), hdc]
    by_cases z : i = 0
    · subst z
      have e0 := hE.2.1
      rw [e0]
      exact br_f (by decide) ⟨pk_in k 5 hk, br_t (Int32.lt_of_lt_of_le (show nI 0 - 1 < 0 by decide) (nI_pos' (by omega))) (adv (Or.inl (by omega)))⟩
    · rw [pu_pred (by omega)]
      refine pk_eq (E i - 1) 1000 (fun z => absurd z (by omega)) (fun _ => ⟨pk_in k 5 hk, pk_lt (E i - 1) F (fun z => adv (Or.inl (by omega))) (fun y => ⟨pk_in k 5 hk, xx_lvn hv hl had (by omega) (pu_bc (fun w => adv (Or.inr w)) (fun w => K cu dc oc hoth (Or.inr ⟨i, by omega, hi, hcu, hdc, by omega, ?_, hno, hoc (by omega)⟩)))⟩)⟩)
      obtain ⟨m, rfl⟩ : ∃ m, i = m + 1 := ⟨i - 1, by omega⟩
      exact pu_h_t.mpr ⟨w, (hE.2.2.2.1 m (by omega)).2.2.2.1⟩
theorem xx_mv {t : Nat} {E : Nat → Nat} {ln : Nat} (hE : xx_LI ad (pu_h lv c t) (fun d => c (8 * d + t)) t a_lists a_ends E ln) (hv : ∀ d, d < 24 → bt f_alive d = lv d) (hl : ∀ d, lv d = true → d < ad) (had : ad ≤ 24) (ht : t < 8) {k F : Nat} (hk : k < 5) (hF : F ≤ 24) (ho : a_order k = nI t) (hpre : xx_pre E ln (pu_h lv c t) (fun d => c (8 * d + t)) F (a_cursor k) (a_document k) (a_occurs k)) {post : SX → Prop}
    (K : ∀ cu dc oc, (∀ j, j ≠ k → cu j = a_cursor j ∧ dc j = a_document j ∧ oc j = a_occurs j) → xx_ln E ln (pu_h lv c t) (fun d => c (8 * d + t)) F (cu k) (dc k) (oc k) → post (nI ad, f_alive, f_items, f_lanes, f_found, a_lists, a_ends, a_counts, a_lengths, a_draft, a_itemWord, a_itemBoost, cu, dc, oc, a_weight, a_bound, a_order, a_bestDocument, a_bestScore)) : wpX_moveTo post (nI ad, f_alive, f_items, f_lanes, f_found, a_lists, a_ends, a_counts, a_lengths, a_draft, a_itemWord, a_itemBoost, a_cursor, a_document, a_occurs, a_weight, a_bound, a_order, a_bestDocument, a_bestScore) (nI k) (nI F) := by
  unfold wpX_moveTo
  refine ⟨pk_in k 5 hk, nm_r (e' := nI t) (by rw [nI_clamp (by omega)]; exact ho) ?_⟩
  rcases hpre with ⟨h1, h2⟩ | ⟨i, h1, h2, h3, h4, h5⟩
  · refine ⟨1, ?_⟩
    rw [wX_moveTo_7]
    exact ⟨pk_in k 5 hk, br_t (by rw [nI_clamp (by omega)]; exact h1) (K _ _ _ (fun j _ => ⟨rfl, rfl, rfl⟩) (Or.inl ⟨h1, h2⟩))⟩
  · exact ⟨ln - i + 2, xx_mv_l hE hv hl had ht hk hF K (ln - i + 2) i a_cursor a_document a_occurs h1 (by omega) (fun j _ => ⟨rfl, rfl, rfl⟩) h2 h3 h4 h5⟩
end
/-! all lanes; F k: from where lane k has gone -/
def xx_LNS (ad : Nat) (lv : Nat → Bool) (c q : Nat → Nat) (F : Nat → Nat) (n : Nat) (w B : Nat → Nat) (li en cu dc oc wg bo od : Nat → Int32) : Prop := ∀ k, k < n → (w k < 8 ∧ 1 < q (w k) ∧ od k = nI (w k) ∧ wg k = nI (pu_wt lv c q (w k)) ∧ bo k = nI (B k) ∧ B k ≤ 3686400) ∧ (∀ d, pu_h lv c (w k) d = true → pu_part lv c q d (w k) ≤ B k) ∧ ∃ E ln, xx_LI ad (pu_h lv c (w k)) (fun d => c (8 * d + w k)) (w k) li en E ln ∧ xx_ln E ln (pu_h lv c (w k)) (fun d => c (8 * d + w k)) (F k) (cu k) (dc k) (oc k)
theorem xx_LNS_F {ad : Nat} {lv : Nat → Bool} {c q : Nat → Nat} {F F' : Nat → Nat} {n : Nat} {w B : Nat → Nat} {li en cu dc oc wg bo od : Nat → Int32} (h : xx_LNS ad lv c q F n w B li en cu dc oc wg bo od) (e : ∀ k, k < n → F' k = F k) : xx_LNS ad lv c q F' n w B li en cu dc oc wg bo od := by
  intro k hk
  rw [e k hk]
  exact h k hk
theorem xx_LNS_d {ad : Nat} {lv : Nat → Bool} {c q : Nat → Nat} {F : Nat → Nat} {n : Nat} {w B : Nat → Nat} {li en cu dc oc wg bo od : Nat → Int32} (h : xx_LNS ad lv c q F n w B li en cu dc oc wg bo od) (hl : ∀ d, lv d = true → d < ad) (had : ad ≤ 24) {k : Nat} (hk : k < n) : dc k = nI (pu_nx (pu_h lv c (w k)) (F k)) ∧ (pu_nx (pu_h lv c (w k)) (F k) < 24 → oc k = nI (c (8 * pu_nx (pu_h lv c (w k)) (F k) + w k))) := by
  obtain ⟨_, _, E, ln, h1, h2⟩ := h k hk
  exact xx_ln_nx h2 (fun d hd => pu_h_f (fun x => by have := hl d x.1; omega))
section
variable {f_added f_alive f_items f_lanes f_found : Int32} {a_lists a_ends a_counts a_lengths a_draft a_itemWord a_itemBoost a_cursor a_document a_occurs a_weight a_bound a_order a_bestDocument a_bestScore : Nat → Int32}
variable {ad : Nat} {lv : Nat → Bool} {c dr q : Nat → Nat} {it : Nat} {iw : Nat → Nat}
theorem xx_mvl {F : Nat → Nat} {n : Nat} {w B : Nat → Nat} (h : xx_LNS ad lv c q F n w B a_lists a_ends a_cursor a_document a_occurs a_weight a_bound a_order) (hn : n ≤ 5) (hv : ∀ d, d < 24 → bt f_alive d = lv d) (hl : ∀ d, lv d = true → d < ad) (had : ad ≤ 24) {k G : Nat} (hk : k < n) (hF : F k ≤ G) (hG : G ≤ 24) {post : SX → Prop}
    (K : ∀ cu dc oc, xx_LNS ad lv c q (fun j => if j = k then G else F j) n w B a_lists a_ends cu dc oc a_weight a_bound a_order → post (nI ad, f_alive, f_items, f_lanes, f_found, a_lists, a_ends, a_counts, a_lengths, a_draft, a_itemWord, a_itemBoost, cu, dc, oc, a_weight, a_bound, a_order, a_bestDocument, a_bestScore)) : wpX_moveTo post (nI ad, f_alive, f_items, f_lanes, f_found, a_lists, a_ends, a_counts, a_lengths, a_draft, a_itemWord, a_itemBoost, a_cursor, a_document, a_occurs, a_weight, a_bound, a_order, a_bestDocument, a_bestScore) (nI k) (nI G) := by
  obtain ⟨h0, _, E, ln, h1, h2⟩ := h k hk
  refine xx_mv h1 hv hl had h0.1 (by omega) hG h0.2.2.1 (xx_ln_pre h2 hF) (fun cu dc oc hoth hln => K cu dc oc (fun j hj => ?_))
  obtain ⟨j0, j1, jr⟩ := h j hj
  refine ⟨j0, j1, ?_⟩
  dsimp only
  by_cases z : j = k
  · subst z
    rw [if_pos rfl]
    exact ⟨E, ln, h1, hln⟩
  · rw [if_neg z, (hoth j z).1, (hoth j z).2.1, (hoth j z).2.2]
    exact jr
end
end
section
def pu_put {α : Type} (f : Nat → α) (n : Nat) (x : α) : Nat → α := fun k => if k = n then x else f k
theorem pu_put_s {α : Type} {f : Nat → α} {n : Nat} {x : α} : pu_put f n x n = x := if_pos rfl
theorem pu_put_n {α : Type} {f : Nat → α} {n k : Nat} {x : α} (h : k ≠ n) : pu_put f n x k = f k := if_neg h
theorem pu_bo_lo {q : Nat} (h : q - 1 ≤ 10) (h2 : q ≠ 11) : q - 1 = pu_bo q := by
  unfold pu_bo
  omega
theorem pu_bo_hi {q : Nat} (h : 10 < q - 1) (h2 : q ≤ 20) : nI (q - 1) - 10 = nI (pu_bo q) := by
  have e : nI (q - 1) - nI 10 = nI (q - 1 - 10) := pk_sub (by omega)
  have e2 : q - 1 - 10 = pu_bo q := by
    unfold pu_bo
    omega
  rw [e2] at e
  exact e
section
variable {f_added f_alive f_items f_lanes f_found : Int32} {a_lists a_ends a_counts a_lengths a_draft a_itemWord a_itemBoost a_cursor a_document a_occurs a_weight a_bound a_order a_bestDocument a_bestScore : Nat → Int32}
variable {ad : Nat} {lv : Nat → Bool} {c dr q : Nat → Nat} {it : Nat} {iw : Nat → Nat}
theorem xx_o65 (hv : ∀ d, d < 24 → bt f_alive d = lv d) (hl : ∀ d, lv d = true → d < ad) (had : ad ≤ 24) (hL : xx_L ad lv c a_lists a_ends) (hc : ∀ k, c k ≤ 7) (hN : ∀ d, d < ad → a_lengths d = nI (pu_len c d)) {n i t : Nat} (hn : n < 5) (ht : t < 8) (hqt : 1 < q t) {w B : Nat → Nat} (h : xx_LNS ad lv c q (fun _ => 0) n w B a_lists a_ends a_cursor a_document a_occurs a_weight a_bound a_order) {post : SX → Prop} {J : Int32 → Int32 → Int32 → Int32 → Int32 → Int32 → (Nat → Int32) → (Nat → Int32) → (Nat → Int32) → (Nat → Int32) → (Nat → Int32) → (Nat → Int32) → (Nat → Int32) → (Nat → Int32) → (Nat → Int32) → (Nat → Int32) → (Nat → Int32) → (Nat → Int32) → (Nat → Int32) → (Nat → Int32) → (Nat → Int32) → Prop}
    (K : ∀ b cu dc oc wg bo od, xx_LNS ad lv c q (fun _ => 0) (n + 1) (pu_put w n t) (pu_put B n b) a_lists a_ends cu dc oc wg bo od → J (nI (i + 1)) (nI ad) f_alive f_items (nI (n + 1)) f_found a_lists a_ends a_counts a_lengths a_draft a_itemWord a_itemBoost cu dc oc wg bo od a_bestDocument a_bestScore) : wX_openLanes_65 post J (nI (pu_live lv)) (nI i) (nI t) (nI (pu_bo (q t))) (nI ad) f_alive f_items (nI n) f_found a_lists a_ends a_counts a_lengths a_draft a_itemWord a_itemBoost a_cursor a_document a_occurs a_weight a_bound a_order a_bestDocument a_bestScore := by
  have hlv : pu_live lv ≤ 24 := pu_cnt_le _ _
  have hho : pu_hold lv c t ≤ 24 := pu_cnt_le _ _
  obtain ⟨E, ln, hE⟩ := hL t ht
  unfold wX_openLanes_65
  rw [nI_clamp (show n < 2 ^ 31 by omega)]
  refine xx_sp hL hv hl had ht ⟨?_, pu_nm (nI (64 * (pu_live lv + 1) / (pu_hold lv c t + 1))) ?_ ⟨pk_in n 5 hn, pu_nm (upd a_weight n (nI (pu_wt lv c q t))) ?_ (xx_gr hL hl had hc hN ht (fun g hg hgr => ⟨pk_in n 5 hn, pu_nm (upd a_bound n (nI (pu_wt lv c q t * g))) ?_ ⟨pk_in n 5 hn, nm_e ⟨pk_in n 5 hn, nm_e ⟨pk_in n 5 hn, nm_e (nm_r (nI_1 n) ?_)⟩⟩⟩⟩))⟩⟩
  · rw [nI_1]; exact nI_ne0 (by omega) (by omega)
  · show nI 64 * _ / _ = _
    rw [nI_1, nI_1, pk_mul, pk_div (by omega) (by omega) (by omega)]
  · rw [pk_mul]
    rfl
  · rw [pk_mul, pk_mul]
    rfl
  · rw [nI_pred]
    refine xx_mv (F := 0) hE hv hl had ht hn (by omega) pk_us ?_ (fun cu dc oc hoth hln => nm_r (nI_1 i) (K (pu_wt lv c q t * g) cu dc oc _ _ _ (fun j hj => ?_)))
    · refine Or.inr ⟨0, by omega, ?_, ?_, fun d h1 h2 => ?_, fun z => by omega⟩
      · rw [pk_us]
        decide
      · rw [pk_us, hE.2.1]
        decide
      · rw [hE.2.1] at h2
        omega
    · by_cases z : j = n
      · subst z
        rw [pu_put_s, pu_put_s, pk_us, pk_us, pk_us]
        refine ⟨⟨ht, hqt, rfl, rfl, rfl, ?_⟩, fun d hd => ?_, E, ln, hE, hln⟩
        · exact Nat.mul_le_mul (pu_wt_le lv c q t) hg
        · exact Nat.mul_le_mul (Nat.le_refl _) (hgr d hd)
      · rw [pu_put_n z, pu_put_n z, pk_un z, pk_un z, pk_un z, (hoth j z).1, (hoth j z).2.1, (hoth j z).2.2, pk_un z, pk_un z]
        exact h j (by omega)
theorem xx_ol_l (hv : ∀ d, d < 24 → bt f_alive d = lv d) (hl : ∀ d, lv d = true → d < ad) (had : ad ≤ 24) (hL : xx_L ad lv c a_lists a_ends) (hc : ∀ k, c k ≤ 7) (hN : ∀ d, d < ad → a_lengths d = nI (pu_len c d)) (hI : xx_It q it iw a_itemWord a_itemBoost) (hq : ∀ t, q t ≤ 20 ∧ q t ≠ 11) {post : SX → Prop}
    (K : ∀ n w B cu dc oc wg bo od, n ≤ 5 → xx_LNS ad lv c q (fun _ => 0) n w B a_lists a_ends cu dc oc wg bo od → (∀ g : Nat → Nat, pu_sum (fun k => g (w k)) n = pu_sum (fun t => if 1 < q t then g t else 0) 8) → post (nI ad, f_alive, nI it, nI n, f_found, a_lists, a_ends, a_counts, a_lengths, a_draft, a_itemWord, a_itemBoost, cu, dc, oc, wg, bo, od, a_bestDocument, a_bestScore)) : ∀ m i n w B cu dc oc wg bo od, i ≤ it → it - i < m → n ≤ i → xx_LNS ad lv c q (fun _ => 0) n w B a_lists a_ends cu dc oc wg bo od → (∀ g : Nat → Nat, pu_sum (fun k => g (w k)) n = pu_sum (fun k => if 1 < q (iw k) then g (iw k) else 0) i) → wX_openLanes_12 post (nI (pu_live lv)) m (nI i) (nI ad) f_alive (nI it) (nI n) f_found a_lists a_ends a_counts a_lengths a_draft a_itemWord a_itemBoost cu dc oc wg bo od a_bestDocument a_bestScore := by
  have h5 := hI.1
  intro m
  induction m with
  | zero => intro i n w B cu dc oc wg bo od _ _; omega
  | succ m ih =>
    intro i n w B cu dc oc wg bo od hi hm hni hS hg
    rw [wX_openLanes_12]
    refine pk_le it i (fun h => ?_) (fun h => ⟨pk_in i 5 (by omega), ?_⟩)
    · have e : i = it := by omega
      subst e
      refine K n w B cu dc oc wg bo od (by omega) hS (fun g => ?_)
      rw [hg g, xx_It_sum hI (fun t => if 1 < q t then g t else 0)]
      refine pu_sum_ext 8 (fun t _ => ?_)
      by_cases z : 0 < q t
      · rw [if_pos z]
      · rw [if_neg z, if_neg (by omega)]
    · obtain ⟨g1, g2, g3, g4⟩ := hI.2.1 i h
      have hqi := hq (iw i)
      rw [nI_clamp (by omega), g3, g4]
      have go : 1 < q (iw i) → wX_openLanes_65 post (wX_openLanes_12 post (nI (pu_live lv)) m) (nI (pu_live lv)) (nI i) (nI (iw i)) (nI (pu_bo (q (iw i)))) (nI ad) f_alive (nI it) (nI n) f_found a_lists a_ends a_counts a_lengths a_draft a_itemWord a_itemBoost cu dc oc wg bo od a_bestDocument a_bestScore := by
        intro z
        refine xx_o65 hv hl had hL hc hN (by omega) g1 z hS (fun b cu dc oc wg bo od hS' => ih (i + 1) (n + 1) _ _ cu dc oc wg bo od (by omega) (by omega) (by omega) hS' (fun g => ?_))
        rw [pu_sum_s, pu_sum_s, pu_put_s, if_pos z, ← hg g]
        refine congrArg (· + g (iw i)) (pu_sum_ext n (fun k hk => ?_))
        rw [pu_put_n (by omega)]
      refine pk_le (q (iw i) - 1) 0 (fun z => nm_r (nI_1 i) (ih (i + 1) n w B cu dc oc wg bo od (by omega) (by omega) (by omega) hS (fun g => ?_))) (fun z => ⟨pk_in i 5 (by omega), nm_e ⟨pk_in i 5 (by omega), pk_le (q (iw i) - 1) 10 (fun z2 => ⟨pk_in i 5 (by omega), ?_⟩) (fun z2 => ⟨pk_in i 5 (by omega), ?_⟩)⟩⟩)
      · rw [pu_sum_s, if_neg (by omega), Nat.add_zero]
        exact hg g
      · rw [pu_bo_lo z2 hqi.2]
        exact go (by omega)
      · rw [pu_bo_hi z2 hqi.1]
        exact go (by omega)
theorem xx_ol (hv : ∀ d, d < 24 → bt f_alive d = lv d) (hl : ∀ d, lv d = true → d < ad) (had : ad ≤ 24) (hL : xx_L ad lv c a_lists a_ends) (hc : ∀ k, c k ≤ 7) (hN : ∀ d, d < ad → a_lengths d = nI (pu_len c d)) (hI : xx_It q it iw a_itemWord a_itemBoost) (hq : ∀ t, q t ≤ 20 ∧ q t ≠ 11) {post : SX → Prop}
    (K : ∀ n w B cu dc oc wg bo od, n ≤ 5 → xx_LNS ad lv c q (fun _ => 0) n w B a_lists a_ends cu dc oc wg bo od → (∀ g : Nat → Nat, pu_sum (fun k => g (w k)) n = pu_sum (fun t => if 1 < q t then g t else 0) 8) → post (nI ad, f_alive, nI it, nI n, f_found, a_lists, a_ends, a_counts, a_lengths, a_draft, a_itemWord, a_itemBoost, cu, dc, oc, wg, bo, od, a_bestDocument, a_bestScore)) : wpX_openLanes post (nI ad, f_alive, nI it, f_lanes, f_found, a_lists, a_ends, a_counts, a_lengths, a_draft, a_itemWord, a_itemBoost, a_cursor, a_document, a_occurs, a_weight, a_bound, a_order, a_bestDocument, a_bestScore) := by
  unfold wpX_openLanes
  exact xx_lc hv hl had ⟨it + 1, xx_ol_l hv hl had hL hc hN hI hq K (it + 1) 0 0 (fun _ => 0) (fun _ => 0) a_cursor a_document a_occurs a_weight a_bound a_order (by omega) (by omega) (by omega) (fun k hk => by omega) (fun g => rfl)⟩
/-! the least document of the lanes, the next that has a chance -/
theorem xx_ld_l {D : Nat → Nat} {n : Nat} (hn : n ≤ 5) (hd : ∀ k, k < n → a_document k = nI (D k) ∧ D k ≤ 1000) {post : Int32 → Prop} (K : ∀ r, pu_LD D n r → post (nI r)) : ∀ m i r, i ≤ n → n - i < m → pu_LD D i r → wX_leastDocument_6 post f_added f_alive f_items (nI n) f_found a_lists a_ends a_counts a_lengths a_draft a_itemWord a_itemBoost a_cursor a_document a_occurs a_weight a_bound a_order a_bestDocument a_bestScore m (nI r) (nI i) := by
  intro m
  induction m with
  | zero => intro i r _ _; omega
  | succ m ih =>
    intro i r hi hm hr
    rw [wX_leastDocument_6]
    refine pk_le n i (fun h => ?_) (fun h => ⟨pk_in i 5 (by omega), ?_⟩)
    · have e : i = n := by omega
      subst e
      exact K r hr
    · obtain ⟨h1, h2⟩ := hd i h
      obtain ⟨r1, r2, r3⟩ := hr
      rw [nI_clamp (by omega), h1]
      refine pk_le r (D i) (fun z => nm_r (nI_1 i) (ih (i + 1) r (by omega) (by omega) ⟨?_, fun j hj => ?_, r3⟩)) (fun z => ⟨pk_in i 5 (by omega), nm_e (nm_r (nI_1 i) (ih (i + 1) (D i) (by omega) (by omega) ⟨Or.inr ⟨i, by omega, rfl⟩, fun j hj => ?_, h2⟩))⟩)
      · rcases r1 with r1 | ⟨j, hj, e⟩
        · exact Or.inl r1
        · exact Or.inr ⟨j, by omega, e⟩
      · by_cases y : j = i
        · subst y; exact z
        · exact r2 j (by omega)
      · by_cases y : j = i
        · subst y; exact Nat.le_refl _
        · have := r2 j (by omega)
          omega
theorem xx_ld {D : Nat → Nat} {n : Nat} (hn : n ≤ 5) (hd : ∀ k, k < n → a_document k = nI (D k) ∧ D k ≤ 1000) {post : Int32 → Prop} (K : ∀ r, pu_LD D n r → post (nI r)) : wpX_leastDocument post (f_added, f_alive, f_items, nI n, f_found, a_lists, a_ends, a_counts, a_lengths, a_draft, a_itemWord, a_itemBoost, a_cursor, a_document, a_occurs, a_weight, a_bound, a_order, a_bestDocument, a_bestScore) := by
  unfold wpX_leastDocument
  exact ⟨n + 1, xx_ld_l hn hd K (n + 1) 0 1000 (by omega) (by omega) ⟨Or.inl rfl, fun j hj => by omega, by omega⟩⟩
theorem xx_nc41 {D B : Nat → Nat} {n : Nat} (hn : n ≤ 5) (hd : ∀ k, k < n → a_document k = nI (D k) ∧ D k ≤ 1000) (hb : ∀ k, k < n → a_bound k = nI (B k) ∧ B k ≤ 3686400) {lim : Int32} {k r : Nat} (hk : k < n) (hr : r ≤ 1000) {post : Int32 → Prop} {J : Int32 → Int32 → Prop} (K1 : nI (pu_S D B n (D k)) ≤ lim → J (nI r) (nI (k + 1))) (K2 : r ≤ D k → J (nI r) (nI (k + 1))) (K3 : D k < r → J (nI (D k)) (nI (k + 1))) : ∀ m i, i ≤ n → n - i < m → wX_nextChance_41 post J lim (nI r) (nI k) f_added f_alive f_items (nI n) f_found a_lists a_ends a_counts a_lengths a_draft a_itemWord a_itemBoost a_cursor a_document a_occurs a_weight a_bound a_order a_bestDocument a_bestScore m (nI (pu_S D B i (D k))) (nI i) := by
  intro m
  induction m with
  | zero => intro i _ _; omega
  | succ m ih =>
    intro i hi hm
    obtain ⟨k1, k2⟩ := hd k hk
    rw [wX_nextChance_41]
    rw [nI_clamp (show k < 2 ^ 31 by omega), k1]
    refine pk_le n i (fun h => ?_) (fun h => ⟨pk_in i 5 (by omega), pk_in k 5 (by omega), ?_⟩)
    · have e : i = n := by omega
      subst e
      exact br_c (fun z => nm_r (nI_1 k) (K1 z)) (fun _ => ⟨pk_in k 5 (by omega), pk_le r (D k) (fun z => nm_r (nI_1 k) (K2 z)) (fun z => ⟨pk_in k 5 (by omega), nm_e (nm_r (nI_1 k) (K3 z))⟩)⟩)
    · obtain ⟨h1, h2⟩ := hd i h
      have H := ih (i + 1) (by omega) (by omega)
      rw [nI_clamp (by omega), h1, (hb i h).1]
      refine pk_lt (D k) (D i) (fun z => pu_nm (nI (pu_S D B (i + 1) (D k))) ?_ (nm_r (nI_1 i) H)) (fun z => ⟨pk_in i 5 (by omega), pu_nm (nI (pu_S D B (i + 1) (D k))) ?_ (nm_r (nI_1 i) H)⟩)
      · rw [Int32.add_zero]
        unfold pu_S
        rw [pu_sum_s, if_neg (by omega), Nat.add_zero]
      · rw [nI_add]
        unfold pu_S
        rw [pu_sum_s, if_pos z]
theorem xx_nc27 {D B : Nat → Nat} {n : Nat} (hn : n ≤ 5) (hd : ∀ k, k < n → a_document k = nI (D k) ∧ D k ≤ 1000) (hb : ∀ k, k < n → a_bound k = nI (B k) ∧ B k ≤ 3686400) {lim : Int32} {post : Int32 → Prop} (K : ∀ r, pu_NC D B n lim n r → post (nI r)) : ∀ m i r, i ≤ n → n - i < m → pu_NC D B n lim i r → wX_nextChance_27 post lim f_added f_alive f_items (nI n) f_found a_lists a_ends a_counts a_lengths a_draft a_itemWord a_itemBoost a_cursor a_document a_occurs a_weight a_bound a_order a_bestDocument a_bestScore m (nI r) (nI i) := by
  intro m
  induction m with
  | zero => intro i r _ _; omega
  | succ m ih =>
    intro i r hi hm hr
    rw [wX_nextChance_27]
    refine pk_le n i (fun h => ?_) (fun h => ?_)
    · have e : i = n := by omega
      subst e
      exact K r hr
    · have a1 : i + 1 ≤ n := by omega
      have a2 : n - (i + 1) < m := by omega
      have a3 : n - 0 < n + 1 := by omega
      have st : ∀ j, j < i + 1 → j = i ∨ j < i := fun j _ => by omega
      obtain ⟨r1, r2, r3⟩ := hr
      have r1' : r = 1000 ∨ ∃ j, j < i + 1 ∧ r = D j := by
        rcases r1 with r1 | ⟨j, hj, e⟩
        · exact Or.inl r1
        · exact Or.inr ⟨j, Nat.lt_succ_of_lt hj, e⟩
      refine ⟨n + 1, xx_nc41 hn hd hb h r3 (fun z => ih (i + 1) r a1 a2 ⟨r1', fun j hj hjr => ?_, r3⟩) (fun z => ih (i + 1) r a1 a2 ⟨r1', fun j hj hjr => ?_, r3⟩) (fun z => ih (i + 1) (D i) a1 a2 ⟨Or.inr ⟨i, Nat.lt_succ_self i, rfl⟩, fun j hj hjr => ?_, (hd i h).2⟩) (n + 1) 0 (Nat.zero_le n) a3⟩
      · rcases st j hj with rfl | hj
        · exact z
        · exact r2 j hj hjr
      · rcases st j hj with rfl | hj
        · exact absurd hjr (Nat.not_lt.mpr z)
        · exact r2 j hj hjr
      · rcases st j hj with rfl | hj
        · exact absurd hjr (Nat.lt_irrefl _)
        · exact r2 j hj (Nat.lt_trans hjr z)
theorem xx_nc {D B : Nat → Nat} {n : Nat} (hn : n ≤ 5) (hd : ∀ k, k < n → a_document k = nI (D k) ∧ D k ≤ 1000) (hb : ∀ k, k < n → a_bound k = nI (B k) ∧ B k ≤ 3686400) {post : Int32 → Prop} (K : ∀ lim r, (f_found = 10 → lim = a_bestScore 9) → (¬ f_found = 10 → lim = -1) → pu_NC D B n lim n r → post (nI r)) : wpX_nextChance post (f_added, f_alive, f_items, nI n, f_found, a_lists, a_ends, a_counts, a_lengths, a_draft, a_itemWord, a_itemBoost, a_cursor, a_document, a_occurs, a_weight, a_bound, a_order, a_bestDocument, a_bestScore) := by
  unfold wpX_nextChance
  have h0 : ∀ lim, pu_NC D B n lim 0 1000 := fun lim => ⟨Or.inl rfl, fun j hj => by omega, by omega⟩
  exact br_c (fun z => nm_e ⟨n + 1, xx_nc27 hn hd hb (fun r hr => K _ r (fun _ => rfl) (fun y => absurd z y) hr) (n + 1) 0 1000 (by omega) (by omega) (h0 _)⟩)
    (fun z => ⟨n + 1, xx_nc27 hn hd hb (fun r hr => K _ r (fun y => absurd y z) (fun _ => rfl) hr) (n + 1) 0 1000 (by omega) (by omega) (h0 _)⟩)
end
end
section
section
variable {f_added f_alive f_items f_lanes f_found : Int32} {a_lists a_ends a_counts a_lengths a_draft a_itemWord a_itemBoost a_cursor a_document a_occurs a_weight a_bound a_order a_bestDocument a_bestScore : Nat → Int32}
variable {ad : Nat} {lv : Nat → Bool} {c dr q : Nat → Nat} {it : Nat} {iw : Nat → Nat}
theorem xx_so_l {F : Nat → Nat} {n : Nat} {w B : Nat → Nat} (hS : xx_LNS ad lv c q F n w B a_lists a_ends a_cursor a_document a_occurs a_weight a_bound a_order) (hn : n ≤ 5) (hg : ∀ g : Nat → Nat, pu_sum (fun k => g (w k)) n = pu_sum (fun t => if 1 < q t then g t else 0) 8) (had : ad ≤ 24) (hC : ∀ k, k < 192 → a_counts k = nI (c k)) (hc : ∀ k, c k ≤ 7) (hN : ∀ d, d < ad → a_lengths d = nI (pu_len c d)) {d : Nat} (hd : d < ad) {post : Int32 → Prop} (K : post (nI (pu_worth lv c q d))) : ∀ m i, i ≤ n → n - i < m → wX_scoreOf_4 post (nI d) f_added f_alive f_items (nI n) f_found a_lists a_ends a_counts a_lengths a_draft a_itemWord a_itemBoost a_cursor a_document a_occurs a_weight a_bound a_order a_bestDocument a_bestScore m (nI (pu_sum (fun k => pu_part lv c q d (w k)) i)) (nI i) := by
  intro m
  induction m with
  | zero => intro i _ _; omega
  | succ m ih =>
    intro i hi hm
    rw [wX_scoreOf_4]
    refine pk_le n i (fun h => ?_) (fun h => ?_)
    · rw [show i = n by omega, hg (pu_part lv c q d)]
      exact K
    · obtain ⟨h0, _⟩ := hS i h
      have hlen := pu_len_le hc d
      rw [nI_clamp (show i < 2 ^ 31 by omega), h0.2.2.1, h0.2.2.2.1, pu_ix8, nI_clamp (show 8 * d + w i < 2 ^ 31 by omega), hC (8 * d + w i) (by omega), nI_clamp (show d < 2 ^ 31 by omega), hN d hd]
      refine ⟨pk_in i 5 (by omega), pk_in i 5 (by omega), pk_in (8 * d + w i) 192 (by omega), pk_in d 24 (by omega), xx_st (hc _) hlen (pu_nm (nI (pu_sum (fun k => pu_part lv c q d (w k)) (i + 1))) ?_ (nm_r (nI_1 i) (ih (i + 1) (by omega) (by omega))))⟩
      rw [pk_mul, nI_add]
      rfl
theorem xx_so {F : Nat → Nat} {n : Nat} {w B : Nat → Nat} (hS : xx_LNS ad lv c q F n w B a_lists a_ends a_cursor a_document a_occurs a_weight a_bound a_order) (hn : n ≤ 5) (hg : ∀ g : Nat → Nat, pu_sum (fun k => g (w k)) n = pu_sum (fun t => if 1 < q t then g t else 0) 8) (had : ad ≤ 24) (hC : ∀ k, k < 192 → a_counts k = nI (c k)) (hc : ∀ k, c k ≤ 7) (hN : ∀ d, d < ad → a_lengths d = nI (pu_len c d)) {d : Nat} (hd : d < ad) {post : Int32 → Prop} (K : post (nI (pu_worth lv c q d))) : wpX_scoreOf post (f_added, f_alive, f_items, nI n, f_found, a_lists, a_ends, a_counts, a_lengths, a_draft, a_itemWord, a_itemBoost, a_cursor, a_document, a_occurs, a_weight, a_bound, a_order, a_bestDocument, a_bestScore) (nI d) := by
  unfold wpX_scoreOf
  exact ⟨n + 1, xx_so_l hS hn hg had hC hc hN hd K (n + 1) 0 (by omega) (by omega)⟩
theorem xx_sh_l {F n : Nat} {w B : Nat → Nat} (hS : xx_LNS ad lv c q (fun _ => F) n w B a_lists a_ends a_cursor a_document a_occurs a_weight a_bound a_order) (hn : n ≤ 5) (hg : ∀ g : Nat → Nat, pu_sum (fun k => g (w k)) n = pu_sum (fun t => if 1 < q t then g t else 0) 8) (hl : ∀ d, lv d = true → d < ad) (had : ad ≤ 24) (hc : ∀ k, c k ≤ 7) (hN : ∀ d, d < ad → a_lengths d = nI (pu_len c d)) {d : Nat} (hd : lv d = true) (hF : F ≤ d) (hleast : ∀ k, k < n → d ≤ pu_nx (pu_h lv c (w k)) F) {post : Int32 → Prop} (K : post (nI (pu_worth lv c q d))) : ∀ m i, i ≤ n → n - i < m → wX_scoreHere_4 post (nI d) f_added f_alive f_items (nI n) f_found a_lists a_ends a_counts a_lengths a_draft a_itemWord a_itemBoost a_cursor a_document a_occurs a_weight a_bound a_order a_bestDocument a_bestScore m (nI (pu_sum (fun k => pu_part lv c q d (w k)) i)) (nI i) := by
  have hda := hl d hd
  intro m
  induction m with
  | zero => intro i _ _; omega
  | succ m ih =>
    intro i hi hm
    have hp : ∀ e, 24 ≤ e → pu_h lv c (w i) e = false := fun e he => pu_h_f (fun x => by have := hl e x.1; omega)
    rw [wX_scoreHere_4]
    refine pk_le n i (fun h => ?_) (fun h => ⟨pk_in i 5 (by omega), ?_⟩)
    · rw [show i = n by omega, hg (pu_part lv c q d)]
      exact K
    · obtain ⟨h0, _⟩ := hS i h
      obtain ⟨e1, e2⟩ := xx_LNS_d hS hl had h
      have hlen := pu_len_le hc d
      have hx := pu_nx_le hp F
      have hle := hleast i h
      have H := ih (i + 1) (by omega) (by omega)
      rw [nI_clamp (show i < 2 ^ 31 by omega), h0.2.2.2.1, e1, nI_clamp (show d < 2 ^ 31 by omega), hN d hda]
      refine pk_eq (pu_nx (pu_h lv c (w i)) F) d (fun z => ?_) (fun z => nm_r (nI_1 i) ?_)
      · rw [z] at e2
        rw [e2 (by omega)]
        refine ⟨pk_in i 5 (by omega), pk_in i 5 (by omega), pk_in d 24 (by omega), xx_st (hc _) hlen (pu_nm (nI (pu_sum (fun k => pu_part lv c q d (w k)) (i + 1))) ?_ (nm_r (nI_1 i) H))⟩
        rw [pk_mul, nI_add]
        rfl
      · have e3 : c (8 * d + w i) = 0 := by
          apply Classical.byContradiction
          intro y
          have := pu_nx_hit hp hF (pu_h_t.mpr ⟨hd, by omega⟩)
          omega
        rw [pu_sum_s, pu_part_0 e3, Nat.add_zero] at H
        exact H
theorem xx_sh {F n : Nat} {w B : Nat → Nat} (hS : xx_LNS ad lv c q (fun _ => F) n w B a_lists a_ends a_cursor a_document a_occurs a_weight a_bound a_order) (hn : n ≤ 5) (hg : ∀ g : Nat → Nat, pu_sum (fun k => g (w k)) n = pu_sum (fun t => if 1 < q t then g t else 0) 8) (hl : ∀ d, lv d = true → d < ad) (had : ad ≤ 24) (hc : ∀ k, c k ≤ 7) (hN : ∀ d, d < ad → a_lengths d = nI (pu_len c d)) {d : Nat} (hd : lv d = true) (hF : F ≤ d) (hleast : ∀ k, k < n → d ≤ pu_nx (pu_h lv c (w k)) F) {post : Int32 → Prop} (K : post (nI (pu_worth lv c q d))) : wpX_scoreHere post (f_added, f_alive, f_items, nI n, f_found, a_lists, a_ends, a_counts, a_lengths, a_draft, a_itemWord, a_itemBoost, a_cursor, a_document, a_occurs, a_weight, a_bound, a_order, a_bestDocument, a_bestScore) (nI d) := by
  unfold wpX_scoreHere
  exact ⟨n + 1, xx_sh_l hS hn hg hl had hc hN hd hF hleast K (n + 1) 0 (by omega) (by omega)⟩
/-! a document among the best -/
theorem xx_of75 {fo a d v : Nat} {sc bd : Nat → Nat} (ha : a ≤ fo) (ha10 : a < 10) (hfo : fo ≤ 10) (hlo : ∀ p, p < a → a_bestScore p = nI (sc p) ∧ a_bestDocument p = nI (bd p)) (hhi : ∀ p, a ≤ p → p < fo → p < 9 → a_bestScore (p + 1) = nI (sc p) ∧ a_bestDocument (p + 1) = nI (bd p)) {post : SX → Prop}
    (K : ∀ bs bo, (∀ p, p < (if fo < 10 then fo + 1 else fo) → bs p = nI (pu_ins sc a v p) ∧ bo p = nI (pu_ins bd a d p)) → post (f_added, f_alive, f_items, f_lanes, nI (if fo < 10 then fo + 1 else fo), a_lists, a_ends, a_counts, a_lengths, a_draft, a_itemWord, a_itemBoost, a_cursor, a_document, a_occurs, a_weight, a_bound, a_order, bo, bs)) : wX_offer_75 post (nI d) (nI v) (nI a) f_added f_alive f_items f_lanes (nI fo) a_lists a_ends a_counts a_lengths a_draft a_itemWord a_itemBoost a_cursor a_document a_occurs a_weight a_bound a_order a_bestDocument a_bestScore := by
  have KK : ∀ p, p < (if fo < 10 then fo + 1 else fo) → upd a_bestScore a (nI v) p = nI (pu_ins sc a v p) ∧ upd a_bestDocument a (nI d) p = nI (pu_ins bd a d p) := by
    intro p hp
    have hN : (if fo < 10 then fo + 1 else fo) ≤ fo + 1 ∧ (if fo < 10 then fo + 1 else fo) ≤ 10 := by split <;> omega
    rcases Nat.lt_trichotomy p a with z | z | z
    · rw [pk_un (by omega), pk_un (by omega), pu_ins_lt z, pu_ins_lt z]
      exact hlo p z
    · subst z
      rw [pk_us, pk_us, pu_ins_eq, pu_ins_eq]
      exact ⟨rfl, rfl⟩
    · obtain ⟨r, rfl⟩ : ∃ r, p = r + 1 := ⟨p - 1, by omega⟩
      rw [pk_un (by omega), pk_un (by omega), pu_ins_gt (by omega), pu_ins_gt (by omega)]
      exact hhi r (by omega) (by omega) (by omega)
  have H := K _ _ KK
  unfold wX_offer_75
  rw [nI_clamp (show a < 2 ^ 31 by omega)]
  refine pk_le 10 a (fun z => absurd z (by omega)) (fun _ => ⟨pk_in a 10 ha10, nm_e ⟨pk_in a 10 ha10, nm_e (pk_le 10 fo (fun z => nm_r (Int32.add_zero _) ?_) (fun z => nm_r (nI_1 fo) ?_))⟩⟩)
  · rw [if_neg (show ¬ fo < 10 by omega)] at H
    exact H
  · rw [if_pos z] at H
    exact H
theorem xx_of_l {fo d v : Nat} {sc bd : Nat → Nat} (hfo : fo ≤ 10) (hv : v < 2 ^ 31) (hsc : ∀ p, p < fo → sc p < 2 ^ 31) {post : SX → Prop}
    (K0 : fo = 10 → v ≤ sc 9 → ∀ bs bo, (∀ p, p < 10 → bs p = nI (sc p) ∧ bo p = nI (bd p)) → post (f_added, f_alive, f_items, f_lanes, nI fo, a_lists, a_ends, a_counts, a_lengths, a_draft, a_itemWord, a_itemBoost, a_cursor, a_document, a_occurs, a_weight, a_bound, a_order, bo, bs))
    (K : ∀ a bs bo, a ≤ fo → a < 10 → (0 < a → v ≤ sc (a - 1)) → (∀ p, a ≤ p → p < fo → sc p < v) → (∀ p, p < (if fo < 10 then fo + 1 else fo) → bs p = nI (pu_ins sc a v p) ∧ bo p = nI (pu_ins bd a d p)) → post (f_added, f_alive, f_items, f_lanes, nI (if fo < 10 then fo + 1 else fo), a_lists, a_ends, a_counts, a_lengths, a_draft, a_itemWord, a_itemBoost, a_cursor, a_document, a_occurs, a_weight, a_bound, a_order, bo, bs)) : ∀ m a bs bo, a ≤ fo → a < m → (∀ p, p < a → bs p = nI (sc p) ∧ bo p = nI (bd p)) → (∀ p, a ≤ p → p < fo → p < 9 → bs (p + 1) = nI (sc p) ∧ bo (p + 1) = nI (bd p)) → (∀ p, a ≤ p → p < fo → sc p < v) → wX_offer_19 post (nI d) (nI v) f_added f_alive f_items f_lanes (nI fo) m (nI a) a_lists a_ends a_counts a_lengths a_draft a_itemWord a_itemBoost a_cursor a_document a_occurs a_weight a_bound a_order bo bs := by
  intro m
  induction m with
  | zero => intro a bs bo _ _; omega
  | succ m ih =>
    intro a bs bo ha hm hlo hhi hup
    rw [wX_offer_19]
    have fin : (0 < a → v ≤ sc (a - 1)) → wX_offer_75 post (nI d) (nI v) (nI a) f_added f_alive f_items f_lanes (nI fo) a_lists a_ends a_counts a_lengths a_draft a_itemWord a_itemBoost a_cursor a_document a_occurs a_weight a_bound a_order bo bs := by
      intro hst
      by_cases z : a < 10
      · exact xx_of75 ha z hfo hlo hhi (fun bs' bo' hb => K a bs' bo' ha z hst hup hb)
      · have e : a = 10 := by omega
        subst e
        have ef : fo = 10 := by omega
        subst ef
        unfold wX_offer_75
        exact pk_le 10 10 (fun _ => K0 rfl (hst (by omega)) bs bo hlo) (fun z => absurd z (by omega))
    refine pk_le a 0 (fun z => fin (fun y => by omega)) (fun z => ?_)
    obtain ⟨r, rfl⟩ : ∃ r, a = r + 1 := ⟨a - 1, by omega⟩
    have hs := hsc r (by omega)
    rw [nI_pred, nI_clamp (show r < 2 ^ 31 by omega), (hlo r (by omega)).1, nI_clamp (show r + 1 < 2 ^ 31 by omega)]
    refine ⟨pk_in r 10 (by omega), pk_le v (sc r) (fun y => fin (fun _ => y)) (fun y => pk_le 10 (r + 1) (fun x => nm_r (pk_m1 r) ?_) (fun x => ⟨pk_in r 10 (by omega), pk_in (r + 1) 10 (by omega), nm_e ⟨pk_in r 10 (by omega), pk_in (r + 1) 10 (by omega), nm_e (nm_r (pk_m1 r) ?_)⟩⟩))⟩
    · refine ih r bs bo (by omega) (by omega) (fun p hp => hlo p (by omega)) (fun p h1 h2 h3 => ?_) (fun p h1 h2 => ?_)
      · omega
      · by_cases w : p = r
        · subst w; exact y
        · exact hup p (by omega) h2
    · refine ih r _ _ (by omega) (by omega) (fun p hp => ?_) (fun p h1 h2 h3 => ?_) (fun p h1 h2 => ?_)
      · rw [pk_un (by omega), pk_un (by omega)]
        exact hlo p (by omega)
      · by_cases w : p = r
        · subst w
          rw [pk_us, pk_us]
          exact ⟨rfl, (hlo p (by omega)).2⟩
        · rw [pk_un (by omega), pk_un (by omega)]
          exact hhi p (by omega) h2 h3
      · by_cases w : p = r
        · subst w; exact y
        · exact hup p (by omega) h2
theorem xx_of {fo d v : Nat} {sc bd : Nat → Nat} (hfo : fo ≤ 10) (hv : v < 2 ^ 31) (hsc : ∀ p, p < fo → sc p < 2 ^ 31) (hb : ∀ p, p < fo → a_bestScore p = nI (sc p) ∧ a_bestDocument p = nI (bd p)) {post : SX → Prop}
    (K0 : fo = 10 → v ≤ sc 9 → ∀ bs bo, (∀ p, p < 10 → bs p = nI (sc p) ∧ bo p = nI (bd p)) → post (f_added, f_alive, f_items, f_lanes, nI fo, a_lists, a_ends, a_counts, a_lengths, a_draft, a_itemWord, a_itemBoost, a_cursor, a_document, a_occurs, a_weight, a_bound, a_order, bo, bs))
    (K : ∀ a bs bo, a ≤ fo → a < 10 → (0 < a → v ≤ sc (a - 1)) → (∀ p, a ≤ p → p < fo → sc p < v) → (∀ p, p < (if fo < 10 then fo + 1 else fo) → bs p = nI (pu_ins sc a v p) ∧ bo p = nI (pu_ins bd a d p)) → post (f_added, f_alive, f_items, f_lanes, nI (if fo < 10 then fo + 1 else fo), a_lists, a_ends, a_counts, a_lengths, a_draft, a_itemWord, a_itemBoost, a_cursor, a_document, a_occurs, a_weight, a_bound, a_order, bo, bs)) : wpX_offer post (f_added, f_alive, f_items, f_lanes, nI fo, a_lists, a_ends, a_counts, a_lengths, a_draft, a_itemWord, a_itemBoost, a_cursor, a_document, a_occurs, a_weight, a_bound, a_order, a_bestDocument, a_bestScore) (nI d) (nI v) := by
  unfold wpX_offer
  have H := xx_of_l hfo hv hsc K0 K 11 fo a_bestScore a_bestDocument (Nat.le_refl fo) (by omega) hb (fun p h1 h2 => by omega) (fun p h1 h2 => by omega)
  refine pk_le 10 fo (fun z => ⟨11, ?_⟩) (fun z => ⟨11, H⟩)
  have e : fo = 10 := by omega
  subst e
  exact H
end
end
section
theorem pu_ins_W {W bd : Nat → Nat} {a d p : Nat} : pu_ins (fun p => W (bd p)) a (W d) p = W (pu_ins bd a d p) := by
  unfold pu_ins
  by_cases h : p < a
  · rw [if_pos h, if_pos h]
  · rw [if_neg h, if_neg h]
    by_cases h2 : p = a
    · rw [if_pos h2, if_pos h2]
    · rw [if_neg h2, if_neg h2]
theorem pu_M_hit {lv : Nat → Bool} {c q : Nat → Nat} {e : Nat} (h : pu_M lv c q e = true) : lv e = true ∧ ∃ t, t < 8 ∧ 1 < q t ∧ 0 < c (8 * e + t) := by
  unfold pu_M pu_m at h
  obtain ⟨h1, h2⟩ := pu_and_t.mp h
  obtain ⟨t, ht, h3⟩ := (pu_any_iff 8).mp (pu_and_t.mp h2).2
  unfold pu_hit at h3
  obtain ⟨h4, h5⟩ := pu_and_t.mp h3
  exact ⟨h1, t, ht, of_decide_eq_true h4, of_decide_eq_true h5⟩
theorem pu_lane_ex {q w : Nat → Nat} {n : Nat} (hg : ∀ g : Nat → Nat, pu_sum (fun k => g (w k)) n = pu_sum (fun t => if 1 < q t then g t else 0) 8) {t : Nat} (ht : t < 8) (hq : 1 < q t) : ∃ k, k < n ∧ w k = t := by
  apply Classical.byContradiction
  intro z
  have h1 := hg (fun s => if s = t then 1 else 0)
  have h2 : pu_sum (fun k => if w k = t then 1 else 0) n = 0 := pu_sum_z n (fun k hk => if_neg (fun e => z ⟨k, hk, e⟩))
  have h3 : pu_sum (fun s => if 1 < q s then (if s = t then 1 else 0) else 0) 8 = pu_sum (fun s => if s = t then 1 else 0) 8 := pu_sum_ext 8 (fun s _ => by
    by_cases y : s = t
    · subst y; rw [if_pos hq]
    · rw [if_neg y]
      split <;> rfl)
  rw [pu_sum_one 8 ht] at h3
  rw [h2, h3] at h1
  omega
theorem pu_lane_M {ad : Nat} {lv : Nat → Bool} {c q w : Nat → Nat} {n : Nat} (hl : ∀ d, lv d = true → d < ad) (had : ad ≤ 24) (hg : ∀ g : Nat → Nat, pu_sum (fun k => g (w k)) n = pu_sum (fun t => if 1 < q t then g t else 0) 8) {e F : Nat} (hM : pu_M lv c q e = true) (hF : F ≤ e) : ∃ k, k < n ∧ pu_nx (pu_h lv c (w k)) F ≤ e := by
  obtain ⟨h1, t, ht, h2, h3⟩ := pu_M_hit hM
  obtain ⟨k, hk, rfl⟩ := pu_lane_ex hg ht h2
  exact ⟨k, hk, pu_nx_hit (fun d hd => pu_h_f (fun x => by have := hl d x.1; omega)) hF (pu_h_t.mpr ⟨h1, h3⟩)⟩
theorem pu_lane_W {ad : Nat} {lv : Nat → Bool} {c q w B : Nat → Nat} {n : Nat} (hl : ∀ d, lv d = true → d < ad) (had : ad ≤ 24) (hg : ∀ g : Nat → Nat, pu_sum (fun k => g (w k)) n = pu_sum (fun t => if 1 < q t then g t else 0) 8) (hB : ∀ k, k < n → ∀ d, pu_h lv c (w k) d = true → pu_part lv c q d (w k) ≤ B k) {e F : Nat} (hv : lv e = true) (hF : F ≤ e) : pu_worth lv c q e ≤ pu_S (fun k => pu_nx (pu_h lv c (w k)) F) B n e := by
  have h1 := hg (pu_part lv c q e)
  have h2 : pu_worth lv c q e = pu_sum (fun k => pu_part lv c q e (w k)) n := h1.symm
  rw [h2]
  refine pu_sum_le n (fun k hk => ?_)
  dsimp only
  by_cases z : c (8 * e + w k) = 0
  · rw [pu_part_0 z]
    exact Nat.zero_le _
  · have hh : pu_h lv c (w k) e = true := pu_h_t.mpr ⟨hv, by omega⟩
    have hp : ∀ d, 24 ≤ d → pu_h lv c (w k) d = false := fun d hd => pu_h_f (fun x => by have := hl d x.1; omega)
    rw [if_pos (pu_nx_hit hp hF hh)]
    exact hB k hk e hh
theorem pu_S_le {D B : Nat → Nat} {n x : Nat} (hn : n ≤ 5) (hB : ∀ k, k < n → B k ≤ 3686400) : pu_S D B n x ≤ 18432000 := by
  have h := pu_sum_cap (f := fun j => if D j ≤ x then B j else 0) 3686400 n (fun k hk => by
    have := hB k hk
    split <;> omega)
  unfold pu_S
  omega
theorem pu_m1lt (x : Nat) (h : x < 2 ^ 31) : ¬ nI x ≤ -1 := by
  rw [Int32.le_iff_toInt_le, nI_toInt h, show (-1 : Int32).toInt = -1 from by decide]
  omega
section
variable {f_added f_alive f_items f_lanes f_found : Int32} {a_lists a_ends a_counts a_lengths a_draft a_itemWord a_itemBoost a_cursor a_document a_occurs a_weight a_bound a_order a_bestDocument a_bestScore : Nat → Int32}
variable {ad : Nat} {lv : Nat → Bool} {c dr q : Nat → Nat} {it : Nat} {iw : Nat → Nat}
theorem xx_f95 {F G n : Nat} {w B : Nat → Nat} (hn : n ≤ 5) (hv : ∀ d, d < 24 → bt f_alive d = lv d) (hl : ∀ d, lv d = true → d < ad) (had : ad ≤ 24) (hFG : F ≤ G) (hG : G ≤ 24) {post : SX → Prop} {J : Int32 → Int32 → Int32 → Int32 → Int32 → Int32 → (Nat → Int32) → (Nat → Int32) → (Nat → Int32) → (Nat → Int32) → (Nat → Int32) → (Nat → Int32) → (Nat → Int32) → (Nat → Int32) → (Nat → Int32) → (Nat → Int32) → (Nat → Int32) → (Nat → Int32) → (Nat → Int32) → (Nat → Int32) → (Nat → Int32) → Prop} {j : Nat}
    (K : ∀ cu dc oc, xx_LNS ad lv c q (fun _ => G) n w B a_lists a_ends cu dc oc a_weight a_bound a_order → J (nI (j + 1)) (nI ad) f_alive f_items (nI n) f_found a_lists a_ends a_counts a_lengths a_draft a_itemWord a_itemBoost cu dc oc a_weight a_bound a_order a_bestDocument a_bestScore) : ∀ m i cu dc oc, i ≤ n → n - i < m → xx_LNS ad lv c q (fun k => if k < i then G else F) n w B a_lists a_ends cu dc oc a_weight a_bound a_order → wX_findBest_95 post J (nI j) (nI G) m (nI i) (nI ad) f_alive f_items (nI n) f_found a_lists a_ends a_counts a_lengths a_draft a_itemWord a_itemBoost cu dc oc a_weight a_bound a_order a_bestDocument a_bestScore := by
  intro m
  induction m with
  | zero => intro i cu dc oc _ _; omega
  | succ m ih =>
    intro i cu dc oc hi hm hS
    rw [wX_findBest_95]
    refine pk_le n i (fun h => nm_r (nI_1 j) (K cu dc oc (xx_LNS_F hS (fun k hk => (if_pos (by omega)).symm)))) (fun h => xx_mvl hS hn hv hl had h (by rw [if_neg (by omega)]; exact hFG) hG (fun cu dc oc hS' => nm_r (nI_1 i) (ih (i + 1) cu dc oc (by omega) (by omega) (xx_LNS_F hS' (fun k hk => ?_)))))
    by_cases z : k = i
    · rw [if_pos z, if_pos (by omega)]
    · rw [if_neg z]
      by_cases y : k < i
      · rw [if_pos y, if_pos (by omega)]
      · rw [if_neg y, if_neg (by omega)]
theorem xx_f65 {F G n : Nat} {w B : Nat → Nat} (hn : n ≤ 5) (hv : ∀ d, d < 24 → bt f_alive d = lv d) (hl : ∀ d, lv d = true → d < ad) (had : ad ≤ 24) (hFG : F ≤ G + 1) (hG : G + 1 ≤ 24) {post : SX → Prop} {J : Int32 → Int32 → Int32 → Int32 → Int32 → Int32 → (Nat → Int32) → (Nat → Int32) → (Nat → Int32) → (Nat → Int32) → (Nat → Int32) → (Nat → Int32) → (Nat → Int32) → (Nat → Int32) → (Nat → Int32) → (Nat → Int32) → (Nat → Int32) → (Nat → Int32) → (Nat → Int32) → (Nat → Int32) → (Nat → Int32) → Prop} {j : Nat}
    (K : ∀ cu dc oc, xx_LNS ad lv c q (fun _ => G + 1) n w B a_lists a_ends cu dc oc a_weight a_bound a_order → J (nI (j + 1)) (nI ad) f_alive f_items (nI n) f_found a_lists a_ends a_counts a_lengths a_draft a_itemWord a_itemBoost cu dc oc a_weight a_bound a_order a_bestDocument a_bestScore) : ∀ m i cu dc oc, i ≤ n → n - i < m → xx_LNS ad lv c q (fun k => if k < i then G + 1 else F) n w B a_lists a_ends cu dc oc a_weight a_bound a_order → wX_findBest_65 post J (nI j) (nI G) m (nI i) (nI ad) f_alive f_items (nI n) f_found a_lists a_ends a_counts a_lengths a_draft a_itemWord a_itemBoost cu dc oc a_weight a_bound a_order a_bestDocument a_bestScore := by
  intro m
  induction m with
  | zero => intro i cu dc oc _ _; omega
  | succ m ih =>
    intro i cu dc oc hi hm hS
    rw [wX_findBest_65]
    rw [nI_1 G]
    refine pk_le n i (fun h => nm_r (nI_1 j) (K cu dc oc (xx_LNS_F hS (fun k hk => (if_pos (by omega)).symm)))) (fun h => xx_mvl hS hn hv hl had h (by rw [if_neg (by omega)]; exact hFG) hG (fun cu dc oc hS' => nm_r (nI_1 i) (ih (i + 1) cu dc oc (by omega) (by omega) (xx_LNS_F hS' (fun k hk => ?_)))))
    by_cases z : k = i
    · rw [if_pos z, if_pos (by omega)]
    · rw [if_neg z]
      by_cases y : k < i
      · rw [if_pos y, if_pos (by omega)]
      · rw [if_neg y, if_neg (by omega)]
theorem xx_s56 {F G n : Nat} {w B : Nat → Nat} (hn : n ≤ 5) (hv : ∀ d, d < 24 → bt f_alive d = lv d) (hl : ∀ d, lv d = true → d < ad) (had : ad ≤ 24) (hFG : F ≤ G + 1) (hG : G + 1 ≤ 24) {post : Int32 → SX → Prop} {J : Int32 → Int32 → Int32 → Int32 → Int32 → Int32 → Int32 → (Nat → Int32) → (Nat → Int32) → (Nat → Int32) → (Nat → Int32) → (Nat → Int32) → (Nat → Int32) → (Nat → Int32) → (Nat → Int32) → (Nat → Int32) → (Nat → Int32) → (Nat → Int32) → (Nat → Int32) → (Nat → Int32) → (Nat → Int32) → (Nat → Int32) → Prop} {j : Nat} {x1 s : Int32}
    (K : ∀ cu dc oc, xx_LNS ad lv c q (fun _ => G + 1) n w B a_lists a_ends cu dc oc a_weight a_bound a_order → J s (nI (j + 1)) (nI ad) f_alive f_items (nI n) f_found a_lists a_ends a_counts a_lengths a_draft a_itemWord a_itemBoost cu dc oc a_weight a_bound a_order a_bestDocument a_bestScore) : ∀ m i cu dc oc, i ≤ n → n - i < m → xx_LNS ad lv c q (fun k => if k < i then G + 1 else F) n w B a_lists a_ends cu dc oc a_weight a_bound a_order → wX_scoring_56 post J x1 s (nI j) (nI G) m (nI i) (nI ad) f_alive f_items (nI n) f_found a_lists a_ends a_counts a_lengths a_draft a_itemWord a_itemBoost cu dc oc a_weight a_bound a_order a_bestDocument a_bestScore := by
  intro m
  induction m with
  | zero => intro i cu dc oc _ _; omega
  | succ m ih =>
    intro i cu dc oc hi hm hS
    rw [wX_scoring_56]
    rw [nI_1 G]
    refine pk_le n i (fun h => nm_r (nI_1 j) (K cu dc oc (xx_LNS_F hS (fun k hk => (if_pos (by omega)).symm)))) (fun h => xx_mvl hS hn hv hl had h (by rw [if_neg (by omega)]; exact hFG) hG (fun cu dc oc hS' => nm_r (nI_1 i) (ih (i + 1) cu dc oc (by omega) (by omega) (xx_LNS_F hS' (fun k hk => ?_)))))
    by_cases z : k = i
    · rw [if_pos z, if_pos (by omega)]
    · rw [if_neg z]
      by_cases y : k < i
      · rw [if_pos y, if_pos (by omega)]
      · rw [if_neg y, if_neg (by omega)]
theorem xx_skip {F n fo r : Nat} {w B bd : Nat → Nat} {lim : Int32} {fd : Int32} {bs : Nat → Int32} (hn : n ≤ 5) (hl : ∀ d, lv d = true → d < ad) (had : ad ≤ 24) (hg : ∀ g : Nat → Nat, pu_sum (fun k => g (w k)) n = pu_sum (fun t => if 1 < q t then g t else 0) 8) (hB : ∀ k, k < n → B k ≤ 3686400 ∧ ∀ d, pu_h lv c (w k) d = true → pu_part lv c q d (w k) ≤ B k) (hfd : fd = nI fo) (hfo : fo ≤ 10) (h1 : fd = 10 → lim = bs 9) (h2 : ¬ fd = 10 → lim = -1) (hbs : ∀ p, p < fo → bs p = nI (pu_worth lv c q (bd p))) (hNC : pu_NC (fun k => pu_nx (pu_h lv c (w k)) F) B n lim n r) : ∀ e, F ≤ e → e < r → pu_M lv c q e = false ∨ (fo = 10 ∧ pu_worth lv c q e ≤ pu_worth lv c q (bd 9)) := by
  intro e hF her
  by_cases hM : pu_M lv c q e = true
  · refine Or.inr ?_
    have hS := pu_NC_lim hNC her (pu_lane_M hl had hg hM hF)
    have hW := pu_lane_W hl had hg (fun k hk => (hB k hk).2) (pu_M_hit hM).1 hF
    have hcap := pu_S_le (D := fun k => pu_nx (pu_h lv c (w k)) F) (x := e) hn (fun k hk => (hB k hk).1)
    have hw9 := pu_worth_le lv c q (bd 9)
    by_cases z : fo = 10
    · subst z
      rw [h1 hfd, hbs 9 (by omega), nI_leI (by omega) (by omega)] at hS
      exact ⟨rfl, by omega⟩
    · have y : ¬ fd = 10 := by
        rw [hfd]
        exact fun w => z ((nI_eq (b := 10) (by omega) (by decide)).mp w)
      rw [h2 y] at hS
      exact absurd hS (pu_m1lt _ (by omega))
  · exact Or.inl (pu_bf hM)
theorem xx_fb_l {n : Nat} {w B : Nat → Nat} (hn : n ≤ 5) (hv : ∀ d, d < 24 → bt f_alive d = lv d) (hl : ∀ d, lv d = true → d < ad) (had : ad ≤ 24) (hg : ∀ g : Nat → Nat, pu_sum (fun k => g (w k)) n = pu_sum (fun t => if 1 < q t then g t else 0) 8) (hI : xx_It q it iw a_itemWord a_itemBoost) (hq : ∀ t, q t ≤ 20 ∧ q t ≠ 11) (hC : ∀ k, k < 192 → a_counts k = nI (c k)) (hc : ∀ k, c k ≤ 7) (hN : ∀ d, d < ad → a_lengths d = nI (pu_len c d)) {post : SX → Prop}
    (K : ∀ fo bd cu dc oc bs bo, pu_top (pu_M lv c q) (pu_worth lv c q) 24 fo bd → (∀ p, p < fo → bs p = nI (pu_worth lv c q (bd p)) ∧ bo p = nI (bd p)) → post (nI ad, f_alive, nI it, nI n, nI fo, a_lists, a_ends, a_counts, a_lengths, a_draft, a_itemWord, a_itemBoost, cu, dc, oc, a_weight, a_bound, a_order, bo, bs)) : ∀ m j F fo bd cu dc oc bs bo, F ≤ 24 → 24 - F < m → j ≤ F → xx_LNS ad lv c q (fun _ => F) n w B a_lists a_ends cu dc oc a_weight a_bound a_order → pu_top (pu_M lv c q) (pu_worth lv c q) F fo bd → (∀ p, p < fo → bs p = nI (pu_worth lv c q (bd p)) ∧ bo p = nI (bd p)) → wX_findBest_11 post m (nI j) (nI ad) f_alive (nI it) (nI n) (nI fo) a_lists a_ends a_counts a_lengths a_draft a_itemWord a_itemBoost cu dc oc a_weight a_bound a_order bo bs := by
  intro m
  induction m with
  | zero => intro j F fo bd cu dc oc bs bo _ _; omega
  | succ m ih =>
    intro j F fo bd cu dc oc bs bo hF hm hj hS htop hbs
    have hp : ∀ k e, 24 ≤ e → pu_h lv c (w k) e = false := fun k e he => pu_h_f (fun x => by have := hl e x.1; omega)
    have hd : ∀ k, k < n → dc k = nI (pu_nx (pu_h lv c (w k)) F) ∧ pu_nx (pu_h lv c (w k)) F ≤ 1000 := fun k hk => ⟨(xx_LNS_d hS hl had hk).1, pu_nx_le (hp k) F⟩
    have hb : ∀ k, k < n → a_bound k = nI (B k) ∧ B k ≤ 3686400 := fun k hk => ⟨(hS k hk).1.2.2.2.2.1, (hS k hk).1.2.2.2.2.2⟩
    have hB : ∀ k, k < n → B k ≤ 3686400 ∧ ∀ d, pu_h lv c (w k) d = true → pu_part lv c q d (w k) ≤ B k := fun k hk => ⟨(hb k hk).2, (hS k hk).2.1⟩
    have hfo := pu_top_fo htop
    rw [wX_findBest_11]
    refine pk_le 125 j (fun z => absurd z (by omega)) (fun _ => xx_nc hn hd hb (fun lim r hl1 hl2 hNC => ?_))
    have hskip := xx_skip hn hl had hg hB rfl hfo hl1 hl2 (fun p hp => (hbs p hp).1) hNC
    have hr := hNC.2.2
    refine pk_eq r 1000 (fun z => ?_) (fun z => xx_ld hn hd (fun d hLD => ?_))
    · exact K fo bd cu dc oc bs bo (pu_top_to htop hF (fun e h1 h2 => hskip e h1 (by omega))) hbs
    · have hdr := hLD.2.2
      refine pk_eq d r (fun y => ?_) (fun y => ?_)
      · subst y
        obtain ⟨k, hk, ek⟩ : ∃ k, k < n ∧ d = pu_nx (pu_h lv c (w k)) F := by
          rcases hLD.1 with h | h
          · exact absurd h z
          · exact h
        have hd4 : d < 24 ∧ F ≤ d ∧ pu_h lv c (w k) d = true := by
          rcases pu_nx_s (hp k) F with h | h
          · rw [← ek] at h
            exact absurd h.1 z
          · rw [← ek] at h
            exact ⟨h.1, h.2.1, h.2.2.1⟩
        have hlvd := (pu_h_t.mp hd4.2.2).1
        have htd := pu_top_to htop hd4.2.1 hskip
        have hS0 : xx_LNS ad lv c q (fun k => if k < 0 then d + 1 else F) n w B a_lists a_ends cu dc oc a_weight a_bound a_order := xx_LNS_F hS (fun k _ => if_neg (by omega))
        have go : ∀ fo' bd' bs' bo', pu_top (pu_M lv c q) (pu_worth lv c q) (d + 1) fo' bd' → (∀ p, p < fo' → bs' p = nI (pu_worth lv c q (bd' p)) ∧ bo' p = nI (bd' p)) → ∃ n65, wX_findBest_65 post (wX_findBest_11 post m) (nI j) (nI d) n65 0 (nI ad) f_alive (nI it) (nI n) (nI fo') a_lists a_ends a_counts a_lengths a_draft a_itemWord a_itemBoost cu dc oc a_weight a_bound a_order bo' bs' := by
          intro fo' bd' bs' bo' ht' hb'
          exact ⟨n + 1, xx_f65 hn hv hl had (by omega) (by omega) (fun cu dc oc hS' => ih (j + 1) (d + 1) fo' bd' cu dc oc bs' bo' (by omega) (by omega) (by omega) hS' ht' hb') (n + 1) 0 cu dc oc (by omega) (by omega) hS0⟩
        have hmM : pu_M lv c q d = pu_m c q d := by
          unfold pu_M
          rw [hlvd, Bool.true_and]
        have hwd := pu_worth_le lv c q d
        refine xx_m hI hq hC hc hd4.1 (pu_bc (fun e => go fo bd bs bo (pu_top_skip htd (Or.inl (by rw [hmM]; exact e))) hbs) (fun e => xx_sh hS hn hg hl had hc hN hlvd hd4.2.1 hLD.2.1 (xx_of (sc := fun p => pu_worth lv c q (bd p)) (bd := bd) hfo (by omega) (fun p _ => by have := pu_worth_le lv c q (bd p); omega) hbs (fun e10 hv9 bs' bo' hb' => ?_) (fun a bs' bo' ha ha10 hlo hhi hb' => ?_))))
        · subst e10
          exact go 10 bd bs' bo' (pu_top_skip htd (Or.inr ⟨rfl, hv9⟩)) hb'
        · refine go _ (pu_ins bd a d) bs' bo' (pu_top_offer htd (by rw [hmM]; exact e) ha ha10 (fun p hp => ?_) hhi) (fun p hp => ?_)
          · have h1 := hlo (by omega)
            have h2 := pu_top_mono htd (a - 1 - p) p (by omega)
            rw [show p + (a - 1 - p) = a - 1 by omega] at h2
            exact Nat.le_trans h1 h2
          · rw [← pu_ins_W (W := pu_worth lv c q) (bd := bd) (a := a) (d := d) (p := p)]
            exact hb' p hp
      · obtain ⟨k, hk, ek⟩ : ∃ k, k < n ∧ r = pu_nx (pu_h lv c (w k)) F := by
          rcases hNC.1 with h | h
          · exact absurd h z
          · exact h
        have hr4 : r < 24 := by
          rcases pu_nx_s (hp k) F with h | h
          · rw [← ek] at h
            exact absurd h.1 z
          · rw [← ek] at h
            exact h.1
        have hdr2 : d ≤ r := by
          rw [ek]
          exact hLD.2.1 k hk
        have hFd : F ≤ d := by
          rcases hLD.1 with h | ⟨k2, hk2, ek2⟩
          · omega
          · rcases pu_nx_s (hp k2) F with h | h
            · dsimp only at ek2
              rw [h.1] at ek2
              omega
            · dsimp only at ek2
              rw [ek2]
              exact h.2.1
        exact ⟨n + 1, xx_f95 hn hv hl had (show F ≤ r by omega) (by omega) (fun cu dc oc hS' => ih (j + 1) r fo bd cu dc oc bs bo (by omega) (by omega) (by omega) hS' (pu_top_to htop (by omega) hskip) hbs) (n + 1) 0 cu dc oc (by omega) (by omega) (xx_LNS_F hS (fun k _ => if_neg (by omega)))⟩
theorem xx_fb (hv : ∀ d, d < 24 → bt f_alive d = lv d) (hl : ∀ d, lv d = true → d < ad) (had : ad ≤ 24) (hL : xx_L ad lv c a_lists a_ends) (hI : xx_It q it iw a_itemWord a_itemBoost) (hq : ∀ t, q t ≤ 20 ∧ q t ≠ 11) (hC : ∀ k, k < 192 → a_counts k = nI (c k)) (hc : ∀ k, c k ≤ 7) (hN : ∀ d, d < ad → a_lengths d = nI (pu_len c d)) {post : SX → Prop}
    (K : ∀ fl fo bd cu dc oc wg bou od bs bo, pu_top (pu_M lv c q) (pu_worth lv c q) 24 fo bd → (∀ p, p < fo → bs p = nI (pu_worth lv c q (bd p)) ∧ bo p = nI (bd p)) → post (nI ad, f_alive, nI it, fl, nI fo, a_lists, a_ends, a_counts, a_lengths, a_draft, a_itemWord, a_itemBoost, cu, dc, oc, wg, bou, od, bo, bs)) : wpX_findBest post (nI ad, f_alive, nI it, f_lanes, f_found, a_lists, a_ends, a_counts, a_lengths, a_draft, a_itemWord, a_itemBoost, a_cursor, a_document, a_occurs, a_weight, a_bound, a_order, a_bestDocument, a_bestScore) := by
  unfold wpX_findBest
  exact xx_ol hv hl had hL hc hN hI hq (fun n w B cu dc oc wg bou od hn hS hg => ⟨25, xx_fb_l hn hv hl had hg hI hq hC hc hN (fun fo bd cu dc oc bs bo => K (nI n) fo bd cu dc oc wg bou od bs bo) 25 0 0 0 (fun _ => 0) cu dc oc a_bestScore a_bestDocument (by omega) (by omega) (by omega) hS (pu_top_0 _ _ _) (fun p hp => by omega)⟩)
theorem xx_sg_l {n : Nat} {w B : Nat → Nat} (hn : n ≤ 5) (hv : ∀ d, d < 24 → bt f_alive d = lv d) (hl : ∀ d, lv d = true → d < ad) (had : ad ≤ 24) (hg : ∀ g : Nat → Nat, pu_sum (fun k => g (w k)) n = pu_sum (fun t => if 1 < q t then g t else 0) 8) (hI : xx_It q it iw a_itemWord a_itemBoost) (hq : ∀ t, q t ≤ 20 ∧ q t ≠ 11) (hC : ∀ k, k < 192 → a_counts k = nI (c k)) (hc : ∀ k, c k ≤ 7) (hN : ∀ d, d < ad → a_lengths d = nI (pu_len c d)) {b : Int32} {post : Int32 → SX → Prop}
    (K : ∀ cu dc oc, post (nI (pu_cnt (fun e => pu_M lv c q e && !decide (nI (pu_worth lv c q e) < b)) 24)) (nI ad, f_alive, nI it, nI n, f_found, a_lists, a_ends, a_counts, a_lengths, a_draft, a_itemWord, a_itemBoost, cu, dc, oc, a_weight, a_bound, a_order, a_bestDocument, a_bestScore)) : ∀ m j F cu dc oc, F ≤ 24 → 24 - F < m → j ≤ F → xx_LNS ad lv c q (fun _ => F) n w B a_lists a_ends cu dc oc a_weight a_bound a_order → wX_scoring_8 post b m (nI (pu_cnt (fun e => pu_M lv c q e && !decide (nI (pu_worth lv c q e) < b)) F)) (nI j) (nI ad) f_alive (nI it) (nI n) f_found a_lists a_ends a_counts a_lengths a_draft a_itemWord a_itemBoost cu dc oc a_weight a_bound a_order a_bestDocument a_bestScore := by
  intro m
  induction m with
  | zero => intro j F cu dc oc _ _; omega
  | succ m ih =>
    intro j F cu dc oc hF hm hj hS
    have hp : ∀ k e, 24 ≤ e → pu_h lv c (w k) e = false := fun k e he => pu_h_f (fun x => by have := hl e x.1; omega)
    have hd : ∀ k, k < n → dc k = nI (pu_nx (pu_h lv c (w k)) F) ∧ pu_nx (pu_h lv c (w k)) F ≤ 1000 := fun k hk => ⟨(xx_LNS_d hS hl had hk).1, pu_nx_le (hp k) F⟩
    rw [wX_scoring_8]
    refine pk_lt 48 j (fun z => absurd z (by omega)) (fun _ => xx_ld hn hd (fun d hLD => ?_))
    have hdr := hLD.2.2
    have hno : ∀ e, F ≤ e → e < d → (fun e => pu_M lv c q e && !decide (nI (pu_worth lv c q e) < b)) e = false := by
      intro e h1 h2
      refine pu_and_f1 (pu_bf (fun hM => ?_))
      obtain ⟨k, hk, hke⟩ := pu_lane_M hl had hg hM h1
      have := hLD.2.1 k hk
      dsimp only at this
      omega
    refine pk_eq d 1000 (fun z => ?_) (fun z => ?_)
    · have e : pu_cnt (fun e => pu_M lv c q e && !decide (nI (pu_worth lv c q e) < b)) 24 = pu_cnt (fun e => pu_M lv c q e && !decide (nI (pu_worth lv c q e) < b)) F := pu_cnt_ge 24 hF (fun e h1 h2 => hno e h1 (by omega))
      have H := K cu dc oc
      rw [e] at H
      exact H
    · obtain ⟨k, hk, ek⟩ : ∃ k, k < n ∧ d = pu_nx (pu_h lv c (w k)) F := by
        rcases hLD.1 with h | h
        · exact absurd h z
        · exact h
      have hd4 : d < 24 ∧ F ≤ d ∧ pu_h lv c (w k) d = true := by
        rcases pu_nx_s (hp k) F with h | h
        · rw [← ek] at h
          exact absurd h.1 z
        · rw [← ek] at h
          exact ⟨h.1, h.2.1, h.2.2.1⟩
      have hlvd := (pu_h_t.mp hd4.2.2).1
      have hmM : pu_M lv c q d = pu_m c q d := by
        unfold pu_M
        rw [hlvd, Bool.true_and]
      have ecnt : pu_cnt (fun e => pu_M lv c q e && !decide (nI (pu_worth lv c q e) < b)) d = pu_cnt (fun e => pu_M lv c q e && !decide (nI (pu_worth lv c q e) < b)) F := pu_cnt_ge d hd4.2.1 hno
      have go : ∀ s, s = nI (pu_cnt (fun e => pu_M lv c q e && !decide (nI (pu_worth lv c q e) < b)) (d + 1)) → ∃ n56, wX_scoring_56 post (wX_scoring_8 post b m) b s (nI j) (nI d) n56 0 (nI ad) f_alive (nI it) (nI n) f_found a_lists a_ends a_counts a_lengths a_draft a_itemWord a_itemBoost cu dc oc a_weight a_bound a_order a_bestDocument a_bestScore := by
        intro s es
        subst es
        exact ⟨n + 1, xx_s56 hn hv hl had (F := F) (by omega) (by omega) (fun cu dc oc hS' => ih (j + 1) (d + 1) cu dc oc (by omega) (by omega) (by omega) hS') (n + 1) 0 cu dc oc (by omega) (by omega) (xx_LNS_F hS (fun k _ => if_neg (by omega)))⟩
      refine xx_m hI hq hC hc hd4.1 (pu_bc (fun e => go _ ?_) (fun e => xx_so hS hn hg had hC hc hN (hl d hlvd) (br_c (fun y => go _ ?_) (fun y => nm_e (go _ ?_)))))
      · rw [pu_cnt_f (pu_and_f1 (by rw [hmM]; exact e)), ecnt]
      · rw [pu_cnt_f (pu_and_f2 (by rw [decide_eq_true y]; rfl)), ecnt]
      · rw [pu_cnt_t (pu_and_t.mpr ⟨by rw [hmM]; exact e, by rw [decide_eq_false y]; rfl⟩), ecnt]
        exact nI_1 _
theorem xx_sg (hv : ∀ d, d < 24 → bt f_alive d = lv d) (hl : ∀ d, lv d = true → d < ad) (had : ad ≤ 24) (hL : xx_L ad lv c a_lists a_ends) (hI : xx_It q it iw a_itemWord a_itemBoost) (hq : ∀ t, q t ≤ 20 ∧ q t ≠ 11) (hC : ∀ k, k < 192 → a_counts k = nI (c k)) (hc : ∀ k, c k ≤ 7) (hN : ∀ d, d < ad → a_lengths d = nI (pu_len c d)) {b : Int32} {post : Int32 → SX → Prop}
    (K : ∀ fl cu dc oc wg bou od, post (nI (pu_cnt (fun e => pu_M lv c q e && !decide (nI (pu_worth lv c q e) < b)) 24)) (nI ad, f_alive, nI it, fl, f_found, a_lists, a_ends, a_counts, a_lengths, a_draft, a_itemWord, a_itemBoost, cu, dc, oc, wg, bou, od, a_bestDocument, a_bestScore)) : wpX_scoring post (nI ad, f_alive, nI it, f_lanes, f_found, a_lists, a_ends, a_counts, a_lengths, a_draft, a_itemWord, a_itemBoost, a_cursor, a_document, a_occurs, a_weight, a_bound, a_order, a_bestDocument, a_bestScore) b := by
  unfold wpX_scoring
  exact xx_ol hv hl had hL hc hN hI hq (fun n w B cu dc oc wg bou od hn hS hg => ⟨25, xx_sg_l hn hv hl had hg hI hq hC hc hN (fun cu dc oc => K (nI n) cu dc oc wg bou od) 25 0 0 cu dc oc (by omega) (by omega) (by omega) hS⟩)
end
end
section
def pu_addc (c : Nat → Nat) (ad : Nat) (f : Nat → Nat) (t : Nat) : Nat → Nat := fun k => if 8 * ad ≤ k ∧ k < 8 * ad + t then f (k - 8 * ad) else c k
def pu_addl (lv : Nat → Bool) (ad : Nat) : Nat → Bool := fun d => lv d || decide (d = ad)
theorem pu_addc_0 {c f : Nat → Nat} {ad k : Nat} : pu_addc c ad f 0 k = c k := if_neg (by omega)
theorem pu_addc_in {c f : Nat → Nat} {ad t n : Nat} (h : t < n) : pu_addc c ad f n (8 * ad + t) = f t := by
  unfold pu_addc
  rw [if_pos (by omega), show 8 * ad + t - 8 * ad = t by omega]
theorem pu_addc_out {c f : Nat → Nat} {ad t d n : Nat} (h : d < ad) (ht : t < 8) : pu_addc c ad f n (8 * d + t) = c (8 * d + t) := if_neg (by omega)
theorem pu_addc_u {c f : Nat → Nat} {ad t : Nat} {cs : Nat → Int32} (h : ∀ k, k < 192 → cs k = nI (pu_addc c ad f t k)) : ∀ k, k < 192 → upd cs (8 * ad + t) (nI (f t)) k = nI (pu_addc c ad f (t + 1) k) := by
  intro k hk
  by_cases z : k = 8 * ad + t
  · subst z
    rw [pk_us, pu_addc_in (by omega)]
  · rw [pk_un z, h k hk]
    unfold pu_addc
    by_cases y : 8 * ad ≤ k ∧ k < 8 * ad + t
    · rw [if_pos y, if_pos (by omega)]
    · rw [if_neg y, if_neg (by omega)]
theorem pu_addc_le {c f : Nat → Nat} {ad t : Nat} (hc : ∀ k, c k ≤ 7) (hf : ∀ t, f t ≤ 7) (k : Nat) : pu_addc c ad f t k ≤ 7 := by
  unfold pu_addc
  split
  · exact hf _
  · exact hc k
theorem pu_len_new {c f : Nat → Nat} {ad : Nat} : pu_len (pu_addc c ad f 8) ad = pu_sum f 8 := pu_sum_ext 8 (fun t ht => pu_addc_in ht)
theorem pu_len_old {c f : Nat → Nat} {ad d : Nat} (h : d < ad) : pu_len (pu_addc c ad f 8) d = pu_len c d := pu_sum_ext 8 (fun t ht => pu_addc_out h ht)
theorem rr_P_add {ad : Nat} {lv : Nat → Bool} {c dr q f : Nat → Nat} (h : rr_P ad lv c dr q) (had : ad < 24) (hf : ∀ t, f t ≤ 7) : rr_P (ad + 1) (pu_addl lv ad) (pu_addc c ad f 8) dr q := by
  obtain ⟨h1, h2, h3, h4, h5⟩ := h
  refine ⟨by omega, fun d hd => ?_, pu_addc_le h3 hf, h4, h5⟩
  unfold pu_addl at hd
  rw [Bool.or_eq_true, decide_eq_true_eq] at hd
  rcases hd with hd | hd
  · have := h2 d hd
    omega
  · omega
def pu_am (s j t : Nat) : Nat := (s + 5 * j + 3 * t + j * t) % 11 - 3
theorem pu_am_le (s j t : Nat) : pu_am s j t ≤ 7 := by
  unfold pu_am
  omega
theorem pu_am_e {s j t : Nat} (hs : s ≤ 10) (hj : j ≤ 24) (ht : t < 8) : (((nI s + 5 * nI j) + 3 * nI t) + nI j * nI t) - (((nI s + 5 * nI j) + 3 * nI t) + nI j * nI t) / 11 * 11 = nI ((s + 5 * j + 3 * t + j * t) % 11) := by
  have hm : j * t ≤ 24 * 7 := Nat.mul_le_mul hj (by omega)
  have e : ((nI s + 5 * nI j) + 3 * nI t) + nI j * nI t = nI (s + 5 * j + 3 * t + j * t) := by
    show ((nI s + nI 5 * nI j) + nI 3 * nI t) + nI j * nI t = _
    rw [pk_mul, pk_mul, pk_mul, nI_add, nI_add, nI_add]
  rw [e]
  exact pk_rem (d := 11) (by omega) (by omega) (by omega)
theorem pu_am_c {x s j t : Nat} {y : Int32} {A B : Prop} (hx : (s + 5 * j + 3 * t + j * t) % 11 = x) (hy : y = nI x - 3) (h1 : y = nI (pu_am s j t) → A) (h2 : (0 : Int32) = nI (pu_am s j t) → B) : (0 ≤ y → A) ∧ (¬ 0 ≤ y → B) := by
  have hx11 : x < 11 := by omega
  refine br_c (fun z => h1 ?_) (fun z => h2 ?_)
  · by_cases w : 3 ≤ x
    · have e : pu_am s j t = x - 3 := by unfold pu_am; rw [hx]
      rw [e, hy]
      exact pk_sub (b := 3) w
    · have n := pk_sneg (a := x) (b := 3) (by omega) (by omega)
      rw [hy] at z
      exact absurd n (Int32.not_lt.mpr z)
  · by_cases w : 3 ≤ x
    · have e : nI x - 3 = nI (x - 3) := pk_sub (b := 3) w
      rw [hy, e] at z
      exact absurd (nI_pos' (by omega)) z
    · have e : pu_am s j t = 0 := by unfold pu_am; omega
      rw [e]
      rfl
section
variable {f_added f_alive f_items f_lanes f_found : Int32} {a_lists a_ends a_counts a_lengths a_draft a_itemWord a_itemBoost a_cursor a_document a_occurs a_weight a_bound a_order a_bestDocument a_bestScore : Nat → Int32}
variable {ad : Nat} {lv : Nat → Bool} {c dr q : Nat → Nat}
theorem xx_tail (hP : rr_P ad lv c dr q) (had : ad < 24) (hv : ∀ d, d < 24 → bt f_alive d = lv d) (hI : xx_I q f_items a_itemWord a_itemBoost) (hL : xx_L ad lv c a_lists a_ends) (hN : ∀ d, d < ad → a_lengths d = nI (pu_len c d)) (hD : ∀ t, t < 8 → a_draft t = nI (dr t)) {f : Nat → Nat} (hf : ∀ t, f t ≤ 7) (hC : ∀ k, k < 192 → a_counts k = nI (pu_addc c ad f 8 k)) {post : SX → Prop}
    (K : ∀ li en, rr_X (ad + 1) (pu_addl lv ad) (pu_addc c ad f 8) dr q (nI (ad + 1), f_alive ||| ((1 : Int32) <<< (nI ad &&& 31)), f_items, f_lanes, f_found, li, en, a_counts, upd a_lengths ad (nI (pu_sum f 8)), a_draft, a_itemWord, a_itemBoost, a_cursor, a_document, a_occurs, a_weight, a_bound, a_order, a_bestDocument, a_bestScore) → post (nI ad, f_alive, f_items, f_lanes, f_found, li, en, a_counts, upd a_lengths ad (nI (pu_sum f 8)), a_draft, a_itemWord, a_itemBoost, a_cursor, a_document, a_occurs, a_weight, a_bound, a_order, a_bestDocument, a_bestScore)) : wpX_index post (nI ad, f_alive, f_items, f_lanes, f_found, a_lists, a_ends, a_counts, upd a_lengths ad (nI (pu_sum f 8)), a_draft, a_itemWord, a_itemBoost, a_cursor, a_document, a_occurs, a_weight, a_bound, a_order, a_bestDocument, a_bestScore) (nI ad) := by
  have hP' := rr_P_add hP had hf
  refine xx_ix (lv := pu_addl lv ad) had hC hP'.2.2.1 (xx_L_cong hL (fun d t hd ht => pu_addc_out hd ht) (fun d hd z => ?_)) (fun li en hL' => K li en ⟨rfl, fun d hd => ?_, hI, hL', hC, fun d hd => ?_, hD⟩)
  · unfold pu_addl at z
    rw [decide_eq_false (show ¬ d = ad by omega), Bool.or_false] at z
    exact z
  · rw [pu_set f_alive (by omega) (by omega), hv d hd]
    rfl
  · by_cases z : d = ad
    · subst z
      rw [pk_us, pu_len_new]
    · rw [pk_un z, pu_len_old (by omega)]
      exact hN d (by omega)
theorem xx_add_l (hP : rr_P ad lv c dr q) (had : ad < 24) (hv : ∀ d, d < 24 → bt f_alive d = lv d) (hI : xx_I q f_items a_itemWord a_itemBoost) (hL : xx_L ad lv c a_lists a_ends) (hN : ∀ d, d < ad → a_lengths d = nI (pu_len c d)) (hD : ∀ t, t < 8 → a_draft t = nI (dr t)) {post : Int32 → SX → Prop}
    (K : ∀ u, rr_X (ad + 1) (pu_addl lv ad) (pu_addc c ad dr 8) dr q u → post (nI ad) u) : ∀ n i cs, i ≤ 8 → 8 - i < n → (∀ k, k < 192 → cs k = nI (pu_addc c ad dr i k)) → wX_add_13 post (nI ad) f_alive f_items f_lanes f_found n (nI i) a_lists a_ends cs a_lengths a_draft a_itemWord a_itemBoost a_cursor a_document a_occurs a_weight a_bound a_order a_bestDocument a_bestScore := by
  intro n
  induction n with
  | zero => intro i cs _ _; omega
  | succ n ih =>
    intro i cs hi hn hcs
    rw [wX_add_13]
    refine pk_le 8 i (fun h => ?_) (fun h => ⟨pk_in i 8 h, ?_⟩)
    · have e : i = 8 := by omega
      subst e
      refine xx_dl hD ⟨pk_in ad 24 had, nm_r (e' := upd a_lengths ad (nI (pu_sum dr 8))) (by rw [nI_clamp (by omega)]) (xx_tail hP had hv hI hL hN hD hP.2.2.2.1 hcs (fun li en hX => nm_e (nm_r (nI_1 ad) ?_)))⟩
      rw [nI_pred]
      exact K _ hX
    · rw [pu_ix8, nI_clamp (show i < 2 ^ 31 by omega), hD i h]
      refine ⟨pk_in (8 * ad + i) 192 (by omega), nm_r (e' := upd cs (8 * ad + i) (nI (dr i))) (by rw [nI_clamp (by omega)]) (nm_r (nI_1 i) (ih (i + 1) _ (by omega) (by omega) (pu_addc_u hcs)))⟩
theorem xx_am48 (hP : rr_P ad lv c dr q) (had : ad < 24) (hv : ∀ d, d < 24 → bt f_alive d = lv d) (hI : xx_I q f_items a_itemWord a_itemBoost) (hL : xx_L ad lv c a_lists a_ends) (hN : ∀ d, d < ad → a_lengths d = nI (pu_len c d)) (hD : ∀ t, t < 8 → a_draft t = nI (dr t)) {s j : Nat} (hs : s ≤ 10) (hj : j < 24) {x2 : Int32} {post : Int32 → SX → Prop} {J : Int32 → Int32 → Int32 → Int32 → Int32 → Int32 → (Nat → Int32) → (Nat → Int32) → (Nat → Int32) → (Nat → Int32) → (Nat → Int32) → (Nat → Int32) → (Nat → Int32) → (Nat → Int32) → (Nat → Int32) → (Nat → Int32) → (Nat → Int32) → (Nat → Int32) → (Nat → Int32) → (Nat → Int32) → (Nat → Int32) → Prop}
    (K : ∀ fa li en cs le, rr_X (ad + 1) (pu_addl lv ad) (pu_addc c ad (pu_am s j) 8) dr q (nI (ad + 1), fa, f_items, f_lanes, f_found, li, en, cs, le, a_draft, a_itemWord, a_itemBoost, a_cursor, a_document, a_occurs, a_weight, a_bound, a_order, a_bestDocument, a_bestScore) → J (nI (j + 1)) (nI (ad + 1)) fa f_items f_lanes f_found li en cs le a_draft a_itemWord a_itemBoost a_cursor a_document a_occurs a_weight a_bound a_order a_bestDocument a_bestScore) : ∀ n i cs, i ≤ 8 → 8 - i < n → (∀ k, k < 192 → cs k = nI (pu_addc c ad (pu_am s j) i k)) → wX_addMany_48 post J (nI s) x2 (nI j) (nI ad) f_alive f_items f_lanes f_found n (nI (pu_sum (pu_am s j) i)) (nI i) a_lists a_ends cs a_lengths a_draft a_itemWord a_itemBoost a_cursor a_document a_occurs a_weight a_bound a_order a_bestDocument a_bestScore := by
  intro n
  induction n with
  | zero => intro i cs _ _; omega
  | succ n ih =>
    intro i cs hi hn hcs
    rw [wX_addMany_48]
    refine pk_le 8 i (fun h => ?_) (fun h => ⟨by decide, ?_⟩)
    · have e : i = 8 := by omega
      subst e
      exact ⟨pk_in ad 24 had, nm_r (e' := upd a_lengths ad (nI (pu_sum (pu_am s j) 8))) (by rw [nI_clamp (by omega)]) (xx_tail hP had hv hI hL hN hD (pu_am_le s j) hcs (fun li en hX => nm_e (nm_r (nI_1 ad) (nm_r (nI_1 j) (K _ li en cs _ hX)))))⟩
    · have go : ∀ z0, z0 = nI (pu_am s j i) → wX_addMany_88 post J (wX_addMany_48 post J (nI s) x2 (nI j) (nI ad) f_alive f_items f_lanes f_found n) (nI s) x2 (nI j) (nI (pu_sum (pu_am s j) i)) (nI i) z0 (nI ad) f_alive f_items f_lanes f_found a_lists a_ends cs a_lengths a_draft a_itemWord a_itemBoost a_cursor a_document a_occurs a_weight a_bound a_order a_bestDocument a_bestScore := by
        intro z0 ez
        subst ez
        unfold wX_addMany_88
        rw [pu_ix8]
        exact ⟨pk_in (8 * ad + i) 192 (by omega), nm_r (e' := upd cs (8 * ad + i) (nI (pu_am s j i))) (by rw [nI_clamp (by omega)]) (nm_r (nI_add _ _) (nm_r (nI_1 i) (ih (i + 1) _ (by omega) (by omega) (pu_addc_u hcs))))⟩
      rw [pu_am_e hs (by omega) h]
      intro y ey
      exact pu_am_c rfl ey (fun e => go _ e) (fun e => go _ e)
theorem xx_td23 (hP : rr_P ad lv c dr q) (hv : ∀ d, d < 24 → bt f_alive d = lv d) (hI : xx_I q f_items a_itemWord a_itemBoost) (hC : ∀ k, k < 192 → a_counts k = nI (c k)) (hN : ∀ d, d < ad → a_lengths d = nI (pu_len c d)) (hD : ∀ t, t < 8 → a_draft t = nI (dr t)) {post : Int32 → SX → Prop}
    (K : ∀ u, rr_X ad lv c dr q u → post (nI (pu_live lv)) u) : ∀ n i li en, i ≤ ad → ad - i < n → xx_L i lv c li en → wX_tidy_23 post n (nI i) (nI ad) f_alive f_items f_lanes f_found li en a_counts a_lengths a_draft a_itemWord a_itemBoost a_cursor a_document a_occurs a_weight a_bound a_order a_bestDocument a_bestScore := by
  obtain ⟨had, hl, hc, hdr, hq⟩ := hP
  intro n
  induction n with
  | zero => intro i li en _ _; omega
  | succ n ih =>
    intro i li en hi hn hL
    rw [wX_tidy_23]
    refine pk_le ad i (fun h => ?_) (fun h => ?_)
    · have e : i = ad := by omega
      subst e
      exact xx_lc hv hl had (K _ ⟨rfl, hv, hI, hL, hC, hN, hD⟩)
    · refine xx_lvn hv hl had (by omega) (pu_bc (fun e => nm_r (nI_1 i) (ih (i + 1) li en (by omega) (by omega) (fun t ht => ?_))) (fun e => xx_ix (lv := lv) (by omega) hC hc hL (fun li en hL' => nm_r (nI_1 i) (ih (i + 1) li en (by omega) (by omega) hL'))))
      obtain ⟨E, ln, hE⟩ := hL t ht
      exact ⟨E, ln, xx_LI_skip hE (pu_h_f (fun x => by rw [e] at x; exact Bool.false_ne_true x.1))⟩
theorem xx_td2 (hP : rr_P ad lv c dr q) (hv : ∀ d, d < 24 → bt f_alive d = lv d) (hI : xx_I q f_items a_itemWord a_itemBoost) (hC : ∀ k, k < 192 → a_counts k = nI (c k)) (hN : ∀ d, d < ad → a_lengths d = nI (pu_len c d)) (hD : ∀ t, t < 8 → a_draft t = nI (dr t)) {post : Int32 → SX → Prop}
    (K : ∀ u, rr_X ad lv c dr q u → post (nI (pu_live lv)) u) : ∀ n i en, i ≤ 8 → 8 - i < n → (∀ t, t < i → en t = nI 0) → wX_tidy_2 post (nI ad) f_alive f_items f_lanes f_found n (nI i) a_lists en a_counts a_lengths a_draft a_itemWord a_itemBoost a_cursor a_document a_occurs a_weight a_bound a_order a_bestDocument a_bestScore := by
  intro n
  induction n with
  | zero => intro i en _ _; omega
  | succ n ih =>
    intro i en hi hn hen
    rw [wX_tidy_2]
    refine pk_le 8 i (fun h => ⟨ad + 1, ?_⟩) (fun h => ⟨pk_in i 8 h, nm_r (e' := upd en i 0) (by rw [nI_clamp (by omega)]) (nm_r (nI_1 i) (ih (i + 1) _ (by omega) (by omega) (fun t ht => ?_)))⟩)
    · refine xx_td23 hP hv hI hC hN hD K (ad + 1) 0 a_lists en (by omega) (by omega) (fun t ht => ⟨fun _ => 0, 0, hen t (by omega), rfl, Nat.le_refl 0, fun i hi => by omega, fun d h1 h2 => by omega⟩)
    · by_cases z : t = i
      · subst z
        exact pk_us
      · rw [pk_un z]
        exact hen t (by omega)
theorem xx_bl {x1 : Int32} {post : Int32 → SX → Prop} (K : ∀ dr', (∀ t, t < 8 → dr' t = nI 0) → post x1 (f_added, f_alive, f_items, f_lanes, f_found, a_lists, a_ends, a_counts, a_lengths, dr', a_itemWord, a_itemBoost, a_cursor, a_document, a_occurs, a_weight, a_bound, a_order, a_bestDocument, a_bestScore)) : ∀ n i df, i ≤ 8 → 8 - i < n → (∀ t, t < i → df t = nI 0) → wX_blank_7 post x1 f_added f_alive f_items f_lanes f_found n (nI i) a_lists a_ends a_counts a_lengths df a_itemWord a_itemBoost a_cursor a_document a_occurs a_weight a_bound a_order a_bestDocument a_bestScore := by
  intro n
  induction n with
  | zero => intro i en _ _; omega
  | succ n ih =>
    intro i df hi hn hdf
    rw [wX_blank_7]
    refine pk_le 8 i (fun h => K df (fun t ht => hdf t (by omega))) (fun h => ⟨pk_in i 8 h, nm_r (e' := upd df i 0) (by rw [nI_clamp (by omega)]) (nm_r (nI_1 i) (ih (i + 1) _ (by omega) (by omega) (fun t ht => ?_)))⟩)
    by_cases z : t = i
    · subst z
      exact pk_us
    · rw [pk_un z]
      exact hdf t (by omega)
theorem xx_dp {it k : Nat} {iw bw : Nat → Nat} (hit : it ≤ 5) (hk : k < it) {post : Int32 → SX → Prop} (K : ∀ aw ab, (∀ p, p < it - 1 → aw p = nI (if p < k then iw p else iw (p + 1)) ∧ ab p = nI (if p < k then bw p else bw (p + 1))) → post (nI (it - 1)) (f_added, f_alive, nI (it - 1), f_lanes, f_found, a_lists, a_ends, a_counts, a_lengths, a_draft, aw, ab, a_cursor, a_document, a_occurs, a_weight, a_bound, a_order, a_bestDocument, a_bestScore)) : ∀ n i aw ab, k < i → i ≤ it → it - i < n → (∀ p, p < it → p + 1 < i → aw p = nI (if p < k then iw p else iw (p + 1)) ∧ ab p = nI (if p < k then bw p else bw (p + 1))) → (∀ p, p < it → i ≤ p → aw p = nI (iw p) ∧ ab p = nI (bw p)) → wX_drop_16 post f_added f_alive (nI it) f_lanes f_found n (nI i) a_lists a_ends a_counts a_lengths a_draft aw ab a_cursor a_document a_occurs a_weight a_bound a_order a_bestDocument a_bestScore := by
  intro n
  induction n with
  | zero => intro i aw ab _ _ _; omega
  | succ n ih =>
    intro i aw ab hki hi hn hlo hhi
    rw [wX_drop_16]
    refine pk_le it i (fun h => nm_r (e' := nI (it - 1)) (pk_sub (b := 1) (by omega)) (K aw ab (fun p hp => hlo p (by omega) (by omega)))) (fun h => ?_)
    obtain ⟨r, rfl⟩ : ∃ r, i = r + 1 := ⟨i - 1, by omega⟩
    obtain ⟨h1, h2⟩ := hhi (r + 1) h (Nat.le_refl _)
    rw [nI_pred, nI_clamp (show r < 2 ^ 31 by omega), nI_clamp (show r + 1 < 2 ^ 31 by omega), h1, h2]
    refine ⟨pk_in (r + 1) 5 (by omega), pk_in r 5 (by omega), nm_e ⟨pk_in (r + 1) 5 (by omega), pk_in r 5 (by omega), nm_e (nm_r (nI_1 (r + 1)) (ih (r + 2) _ _ (by omega) (by omega) (by omega) (fun p hp hpr => ?_) (fun p hp hpr => ?_)))⟩⟩
    · by_cases z : p = r
      · subst z
        rw [pk_us, pk_us, if_neg (by omega), if_neg (by omega)]
        exact ⟨rfl, rfl⟩
      · rw [pk_un z, pk_un z]
        exact hlo p hp (by omega)
    · rw [pk_un (by omega), pk_un (by omega)]
      exact hhi p hp (by omega)
end
section
variable {f_added : Int32} {a_draft a_table a_there a_kind a_boost : Nat → Int32}
variable {ad : Nat} {lv : Nat → Bool} {c dr q : Nat → Nat}
theorem yy_bl {x1 : Int32} {post : Int32 → SY → Prop} (K : ∀ dr', (∀ t, t < 8 → dr' t = nI 0) → post x1 (f_added, dr', a_table, a_there, a_kind, a_boost)) : ∀ n i df, i ≤ 8 → 8 - i < n → (∀ t, t < i → df t = nI 0) → wY_blank_7 post x1 f_added n (nI i) df a_table a_there a_kind a_boost := by
  intro n
  induction n with
  | zero => intro i en _ _; omega
  | succ n ih =>
    intro i df hi hn hdf
    rw [wY_blank_7]
    refine pk_le 8 i (fun h => K df (fun t ht => hdf t (by omega))) (fun h => ⟨pk_in i 8 h, nm_r (e' := upd df i 0) (by rw [nI_clamp (by omega)]) (nm_r (nI_1 i) (ih (i + 1) _ (by omega) (by omega) (fun t ht => ?_)))⟩)
    by_cases z : t = i
    · subst z
      exact pk_us
    · rw [pk_un z]
      exact hdf t (by omega)
theorem yy_th (hT : ∀ d, d < 24 → a_there d = pu_b (lv d)) : ∀ d, d < 24 → upd a_there ad (vp_nar .boolean 1) d = pu_b (pu_addl lv ad d) := by
  intro d hd
  unfold pu_addl
  by_cases z : d = ad
  · subst z
    rw [pk_us, decide_eq_true rfl, Bool.or_true]
    exact pu_narb true
  · rw [pk_un z, decide_eq_false z, Bool.or_false]
    exact hT d hd
theorem yy_add_l (hP : rr_P ad lv c dr q) (had : ad < 24) (hD : ∀ t, t < 8 → a_draft t = nI (dr t)) (hT : ∀ d, d < 24 → a_there d = pu_b (lv d)) (hK : ∀ t, t < 8 → a_kind t = nI (pu_kd (q t))) (hB : ∀ t, t < 8 → 0 < q t → a_boost t = nI (pu_bo (q t))) {post : Int32 → SY → Prop}
    (K : ∀ v, rr_Y (ad + 1) (pu_addl lv ad) (pu_addc c ad dr 8) dr q v → post (nI ad) v) : ∀ n i cs, i ≤ 8 → 8 - i < n → (∀ k, k < 192 → cs k = nI (pu_addc c ad dr i k)) → wY_add_15 post (nI ad) (nI ad) n (nI i) a_draft cs a_there a_kind a_boost := by
  intro n
  induction n with
  | zero => intro i cs _ _; omega
  | succ n ih =>
    intro i cs hi hn hcs
    rw [wY_add_15]
    refine pk_le 8 i (fun h => ?_) (fun h => ⟨pk_in i 8 h, ?_⟩)
    · have e : i = 8 := by omega
      subst e
      exact ⟨pk_in ad 24 had, nm_r (e' := upd a_there ad (vp_nar .boolean 1)) (by rw [nI_clamp (by omega)]) (nm_r (nI_1 ad) (K _ ⟨rfl, hD, hcs, yy_th hT, hK, hB⟩))⟩
    · rw [pu_ix8, nI_clamp (show i < 2 ^ 31 by omega), hD i h]
      refine ⟨pk_in (8 * ad + i) 192 (by omega), nm_r (e' := upd cs (8 * ad + i) (nI (dr i))) (by rw [nI_clamp (by omega)]) (nm_r (nI_1 i) (ih (i + 1) _ (by omega) (by omega) (pu_addc_u hcs)))⟩
theorem yy_am53 (hP : rr_P ad lv c dr q) (had : ad < 24) (hD : ∀ t, t < 8 → a_draft t = nI (dr t)) (hT : ∀ d, d < 24 → a_there d = pu_b (lv d)) (hK : ∀ t, t < 8 → a_kind t = nI (pu_kd (q t))) (hB : ∀ t, t < 8 → 0 < q t → a_boost t = nI (pu_bo (q t))) {s j r : Nat} (hs : s ≤ 10) (hj : j < 24) {x2 : Int32} {post : Int32 → SY → Prop} {J : Int32 → Int32 → Int32 → (Nat → Int32) → (Nat → Int32) → (Nat → Int32) → (Nat → Int32) → (Nat → Int32) → Prop}
    (K : ∀ ta th, rr_Y (ad + 1) (pu_addl lv ad) (pu_addc c ad (pu_am s j) 8) dr q (nI (ad + 1), a_draft, ta, th, a_kind, a_boost) → J (nI (r + 1)) (nI (j + 1)) (nI (ad + 1)) a_draft ta th a_kind a_boost) : ∀ n i cs, i ≤ 8 → 8 - i < n → (∀ k, k < 192 → cs k = nI (pu_addc c ad (pu_am s j) i k)) → wY_addMany_53 post J (nI s) x2 (nI r) (nI j) (nI ad) (nI ad) n (nI i) a_draft cs a_there a_kind a_boost := by
  intro n
  induction n with
  | zero => intro i cs _ _; omega
  | succ n ih =>
    intro i cs hi hn hcs
    rw [wY_addMany_53]
    refine pk_le 8 i (fun h => ?_) (fun h => ⟨by decide, ?_⟩)
    · have e : i = 8 := by omega
      subst e
      exact ⟨pk_in ad 24 had, nm_r (e' := upd a_there ad (vp_nar .boolean 1)) (by rw [nI_clamp (by omega)]) (nm_r (nI_1 ad) (nm_r (nI_1 r) (nm_r (nI_1 j) (K _ _ ⟨rfl, hD, hcs, yy_th hT, hK, hB⟩))))⟩
    · have H := ih (i + 1) _ (by omega) (by omega) (pu_addc_u hcs)
      rw [pu_am_e hs (by omega) h, pu_ix8]
      intro y ey
      refine pu_am_c rfl ey (fun e => ⟨pk_in (8 * ad + i) 192 (by omega), nm_r (e' := upd cs (8 * ad + i) (nI (pu_am s j i))) ?_ (nm_r (nI_1 i) H)⟩) (fun e => ⟨pk_in (8 * ad + i) 192 (by omega), nm_r (e' := upd cs (8 * ad + i) (nI (pu_am s j i))) ?_ (nm_r (nI_1 i) H)⟩)
      · rw [nI_clamp (by omega), e]
      · rw [nI_clamp (by omega), e]
end
end
section
/-! a method a lemma, over the relation's halves -/
def pu_del (lv : Nat → Bool) (d : Nat) : Nat → Bool := fun e => lv e && !decide (e = d)
theorem pu_nI {a b : Nat} (h : nI a = nI b) (ha : a < 1000) (hb : b < 1000) : a = b := (nI_eq (by omega) (by omega)).mp h
theorem rr_P_del {ad : Nat} {lv : Nat → Bool} {c dr q : Nat → Nat} (h : rr_P ad lv c dr q) (d : Nat) : rr_P ad (pu_del lv d) c dr q := ⟨h.1, fun e he => h.2.1 e (pu_and_t.mp he).1, h.2.2⟩
theorem rr_P_dr {ad : Nat} {lv : Nat → Bool} {c dr dr' q : Nat → Nat} (h : rr_P ad lv c dr q) (hd : ∀ t, dr' t ≤ 7) : rr_P ad lv c dr' q := ⟨h.1, h.2.1, h.2.2.1, hd, h.2.2.2.2⟩
theorem rr_P_q {ad : Nat} {lv : Nat → Bool} {c dr q q' : Nat → Nat} (h : rr_P ad lv c dr q) (hq : ∀ t, q' t ≤ 20 ∧ q' t ≠ 11) : rr_P ad lv c dr q' := ⟨h.1, h.2.1, h.2.2.1, h.2.2.2.1, hq⟩
theorem pu_put_u {f : Nat → Nat} {a : Nat → Int32} {t x N : Nat} (h : ∀ k, k < N → a k = nI (f k)) : ∀ k, k < N → upd a t (nI x) k = nI (pu_put f t x k) := by
  intro k hk
  by_cases z : k = t
  · subst z
    rw [pk_us, pu_put_s]
  · rw [pk_un z, pu_put_n z]
    exact h k hk
theorem pu_rng {x : Int32} {n : Nat} (hn : n < 2 ^ 31) (h0 : ¬ x < 0) (h : x ≤ nI n) : ∃ j, j ≤ n ∧ x = nI j := nI_of2 (nI_toInt hn) h0 h
section
variable {ad : Nat} {lv : Nat → Bool} {c dr q : Nat → Nat}
theorem xl_write {u : SX} (hX : rr_X ad lv c dr q u) {p0 p1 : Int32} {post : Int32 → SX → Prop} (K0 : (∀ t, t < 8 → p0 ≠ nI t) → post (-1) u) (K1 : ∀ t, t < 8 → p0 = nI t → (∀ b, b ≤ 7 → p1 ≠ nI b) → post (-2) u) (K2 : ∀ t b u', t < 8 → b ≤ 7 → p0 = nI t → p1 = nI b → rr_X ad lv c (pu_put dr t b) q u' → post (nI (pu_sum (pu_put dr t b) 8)) u') : wpX_write post u p0 p1 := by
  obtain ⟨f_added, f_alive, f_items, f_lanes, f_found, a_lists, a_ends, a_counts, a_lengths, a_draft, a_itemWord, a_itemBoost, a_cursor, a_document, a_occurs, a_weight, a_bound, a_order, a_bestDocument, a_bestScore⟩ := u
  obtain ⟨rfl, hv, hI, hL, hC, hN, hD⟩ := hX
  unfold wpX_write
  refine xx_wd (fun t ht e => br_f (by decide) (br_c (fun z => K1 t ht e (fun b hb y => ?_)) (fun z => br_c (fun z2 => ?_) (fun z2 => K1 t ht e (fun b hb y => ?_))))) (fun h => br_t rfl (K0 h))
  · rw [y] at z
    exact nI_pos (by omega) z
  · obtain ⟨b, hb, eb⟩ := pu_rng (n := 7) (by decide) z z2
    subst e eb
    have hD' := pu_put_u (t := t) (x := b) hD
    refine ⟨pk_in t 8 ht, nm_r (e' := upd a_draft t (nI b)) (by rw [nI_clamp (by omega)]) (xx_dl hD' (K2 t b _ ht hb rfl rfl ⟨rfl, hv, hI, hL, hC, hN, hD'⟩))⟩
  · rw [y] at z2
    exact z2 (nI_le (b := 7) hb (by decide))
theorem yl_write {v : SY} (hY : rr_Y ad lv c dr q v) {p0 p1 : Int32} {post : Int32 → SY → Prop} (K0 : (∀ t, t < 8 → p0 ≠ nI t) → post (-1) v) (K1 : ∀ t, t < 8 → p0 = nI t → (∀ b, b ≤ 7 → p1 ≠ nI b) → post (-2) v) (K2 : ∀ t b v', t < 8 → b ≤ 7 → p0 = nI t → p1 = nI b → rr_Y ad lv c (pu_put dr t b) q v' → post (nI (pu_sum (pu_put dr t b) 8)) v') : wpY_write post v p0 p1 := by
  obtain ⟨f_added, a_draft, a_table, a_there, a_kind, a_boost⟩ := v
  obtain ⟨rfl, hD, hC, hT, hK, hB⟩ := hY
  unfold wpY_write
  refine yy_bw (fun t ht e => br_t rfl (br_c (fun z => K1 t ht e (fun b hb y => ?_)) (fun z => br_c (fun z2 => ?_) (fun z2 => K1 t ht e (fun b hb y => ?_))))) (fun h => br_f (by decide) (K0 h))
  · rw [y] at z
    exact nI_pos (by omega) z
  · obtain ⟨b, hb, eb⟩ := pu_rng (n := 7) (by decide) z z2
    subst e eb
    have hD' := pu_put_u (t := t) (x := b) hD
    refine ⟨pk_in t 8 ht, nm_r (e' := upd a_draft t (nI b)) (by rw [nI_clamp (by omega)]) (yy_dl hD' (K2 t b _ ht hb rfl rfl ⟨rfl, hD', hC, hT, hK, hB⟩))⟩
  · rw [y] at z2
    exact z2 (nI_le (b := 7) hb (by decide))
theorem xl_blank {u : SX} (hX : rr_X ad lv c dr q u) {post : Int32 → SX → Prop} (K : ∀ u', rr_X ad lv c (fun _ => 0) q u' → post (nI (pu_sum dr 8)) u') : wpX_blank post u := by
  obtain ⟨f_added, f_alive, f_items, f_lanes, f_found, a_lists, a_ends, a_counts, a_lengths, a_draft, a_itemWord, a_itemBoost, a_cursor, a_document, a_occurs, a_weight, a_bound, a_order, a_bestDocument, a_bestScore⟩ := u
  obtain ⟨rfl, hv, hI, hL, hC, hN, hD⟩ := hX
  unfold wpX_blank
  exact xx_dl hD ⟨9, xx_bl (fun dr' h => K _ ⟨rfl, hv, hI, hL, hC, hN, h⟩) 9 0 a_draft (by omega) (by omega) (fun t ht => by omega)⟩
theorem yl_blank {v : SY} (hY : rr_Y ad lv c dr q v) {post : Int32 → SY → Prop} (K : ∀ v', rr_Y ad lv c (fun _ => 0) q v' → post (nI (pu_sum dr 8)) v') : wpY_blank post v := by
  obtain ⟨f_added, a_draft, a_table, a_there, a_kind, a_boost⟩ := v
  obtain ⟨rfl, hD, hC, hT, hK, hB⟩ := hY
  unfold wpY_blank
  exact yy_dl hD ⟨9, yy_bl (fun dr' h => K _ ⟨rfl, h, hC, hT, hK, hB⟩) 9 0 a_draft (by omega) (by omega) (fun t ht => by omega)⟩
theorem xl_add {u : SX} (hP : rr_P ad lv c dr q) (hX : rr_X ad lv c dr q u) {post : Int32 → SX → Prop} (K0 : ad = 24 → post (-1) u) (K1 : ad < 24 → ∀ u', rr_X (ad + 1) (pu_addl lv ad) (pu_addc c ad dr 8) dr q u' → post (nI ad) u') : wpX_add post u := by
  obtain ⟨f_added, f_alive, f_items, f_lanes, f_found, a_lists, a_ends, a_counts, a_lengths, a_draft, a_itemWord, a_itemBoost, a_cursor, a_document, a_occurs, a_weight, a_bound, a_order, a_bestDocument, a_bestScore⟩ := u
  obtain ⟨rfl, hv, hI, hL, hC, hN, hD⟩ := hX
  have had := hP.1
  unfold wpX_add
  exact pk_eq ad 24 (fun z => K0 z) (fun z => ⟨9, xx_add_l hP (by omega) hv hI hL hN hD (K1 (by omega)) 9 0 a_counts (by omega) (by omega) (fun k hk => by rw [pu_addc_0]; exact hC k hk)⟩)
theorem yl_add {v : SY} (hP : rr_P ad lv c dr q) (hY : rr_Y ad lv c dr q v) {post : Int32 → SY → Prop} (K0 : ad = 24 → post (-1) v) (K1 : ad < 24 → ∀ v', rr_Y (ad + 1) (pu_addl lv ad) (pu_addc c ad dr 8) dr q v' → post (nI ad) v') : wpY_add post v := by
  obtain ⟨f_added, a_draft, a_table, a_there, a_kind, a_boost⟩ := v
  obtain ⟨rfl, hD, hC, hT, hK, hB⟩ := hY
  have had := hP.1
  unfold wpY_add
  exact pk_le ad 23 (fun z => ⟨9, yy_add_l hP (by omega) hD hT hK hB (K1 (by omega)) 9 0 a_table (by omega) (by omega) (fun k hk => by rw [pu_addc_0]; exact hC k hk)⟩) (fun z => K0 (by omega))
theorem xl_delete {u : SX} (hP : rr_P ad lv c dr q) (hX : rr_X ad lv c dr q u) {p0 : Int32} {post : Int32 → SX → Prop} (K0 : (∀ d, d < 24 → p0 = nI d → lv d = false) → post (-1) u) (K1 : ∀ d u', d < 24 → p0 = nI d → lv d = true → rr_X ad (pu_del lv d) c dr q u' → post (nI (pu_live (pu_del lv d))) u') : wpX_delete post u p0 := by
  obtain ⟨f_added, f_alive, f_items, f_lanes, f_found, a_lists, a_ends, a_counts, a_lengths, a_draft, a_itemWord, a_itemBoost, a_cursor, a_document, a_occurs, a_weight, a_bound, a_order, a_bestDocument, a_bestScore⟩ := u
  obtain ⟨rfl, hv, hI, hL, hC, hN, hD⟩ := hX
  unfold wpX_delete
  refine xx_lv hv hP.2.1 hP.1 (fun d hd e hlv => br_f (by decide) (nm_e ?_)) (fun h => br_t rfl (K0 h))
  subst e
  have hv' : ∀ e, e < 24 → bt (f_alive &&& (((1 : Int32) <<< (nI d &&& 31)) ^^^ (-1))) e = pu_del lv d e := by
    intro e he
    rw [pu_clr f_alive (by omega) (by omega), hv e he]
    rfl
  exact xx_lc hv' (rr_P_del hP d).2.1 hP.1 (K1 d _ hd rfl hlv ⟨rfl, hv', hI, xx_L_cong hL (fun _ _ _ _ => rfl) (fun e _ he => (pu_and_t.mp he).1), hC, hN, hD⟩)
theorem yl_delete {v : SY} (hY : rr_Y ad lv c dr q v) {p0 : Int32} {post : Int32 → SY → Prop} (K0 : (∀ d, d < 24 → p0 = nI d → lv d = false) → post (-1) v) (K1 : ∀ d v', d < 24 → p0 = nI d → lv d = true → rr_Y ad (pu_del lv d) c dr q v' → post (nI (pu_live (pu_del lv d))) v') : wpY_delete post v p0 := by
  obtain ⟨f_added, a_draft, a_table, a_there, a_kind, a_boost⟩ := v
  obtain ⟨rfl, hD, hC, hT, hK, hB⟩ := hY
  unfold wpY_delete
  refine yy_bad hT (fun d hd e hlv => br_t rfl ?_) (fun h => br_f (by decide) (K0 h))
  subst e
  have hT' : ∀ e, e < 24 → upd a_there d (vp_nar .boolean 0) e = pu_b (pu_del lv d e) := by
    intro e he
    unfold pu_del
    by_cases z : e = d
    · subst z
      rw [pk_us, decide_eq_true rfl, Bool.not_true, Bool.and_false]
      exact pu_narb false
    · rw [pk_un z, decide_eq_false z, Bool.not_false, Bool.and_true]
      exact hT e he
  exact ⟨pk_in d 24 hd, nm_r (e' := upd a_there d (vp_nar .boolean 0)) (by rw [nI_clamp (by omega)]) (yy_lc hT' (K1 d _ hd rfl hlv ⟨rfl, hD, hC, hT', hK, hB⟩))⟩
theorem xl_tidy {u : SX} (hP : rr_P ad lv c dr q) (hX : rr_X ad lv c dr q u) {post : Int32 → SX → Prop} (K : ∀ u', rr_X ad lv c dr q u' → post (nI (pu_live lv)) u') : wpX_tidy post u := by
  obtain ⟨f_added, f_alive, f_items, f_lanes, f_found, a_lists, a_ends, a_counts, a_lengths, a_draft, a_itemWord, a_itemBoost, a_cursor, a_document, a_occurs, a_weight, a_bound, a_order, a_bestDocument, a_bestScore⟩ := u
  obtain ⟨rfl, hv, hI, hL, hC, hN, hD⟩ := hX
  unfold wpX_tidy
  exact ⟨9, xx_td2 hP hv hI hC hN hD K 9 0 a_ends (by omega) (by omega) (fun t ht => by omega)⟩
theorem yl_tidy {v : SY} (hY : rr_Y ad lv c dr q v) {post : Int32 → Prop} (K : post (nI (pu_live lv))) : wpY_tidy post v := by
  obtain ⟨f_added, a_draft, a_table, a_there, a_kind, a_boost⟩ := v
  obtain ⟨rfl, hD, hC, hT, hK, hB⟩ := hY
  unfold wpY_tidy
  exact yy_lc hT K
theorem xl_live {u : SX} (hP : rr_P ad lv c dr q) (hX : rr_X ad lv c dr q u) {post : Int32 → Prop} (K : post (nI (pu_live lv))) : wpX_live post u := by
  obtain ⟨f_added, f_alive, f_items, f_lanes, f_found, a_lists, a_ends, a_counts, a_lengths, a_draft, a_itemWord, a_itemBoost, a_cursor, a_document, a_occurs, a_weight, a_bound, a_order, a_bestDocument, a_bestScore⟩ := u
  obtain ⟨rfl, hv, hI, hL, hC, hN, hD⟩ := hX
  unfold wpX_live
  exact xx_lc hv hP.2.1 hP.1 K
theorem yl_live {v : SY} (hY : rr_Y ad lv c dr q v) {post : Int32 → Prop} (K : post (nI (pu_live lv))) : wpY_live post v := by
  obtain ⟨f_added, a_draft, a_table, a_there, a_kind, a_boost⟩ := v
  obtain ⟨rfl, hD, hC, hT, hK, hB⟩ := hY
  unfold wpY_live
  exact yy_lc hT K
theorem xl_times {u : SX} (hP : rr_P ad lv c dr q) (hX : rr_X ad lv c dr q u) {p0 p1 : Int32} {post : Int32 → Prop} (K0 : (∀ t, t < 8 → p0 ≠ nI t) → post (-1)) (K1 : ∀ t, t < 8 → p0 = nI t → (∀ d, d < 24 → p1 = nI d → lv d = false) → post (-2)) (K2 : ∀ t d, t < 8 → d < 24 → p0 = nI t → p1 = nI d → lv d = true → post (nI (c (8 * d + t)))) : wpX_times post u p0 p1 := by
  obtain ⟨f_added, f_alive, f_items, f_lanes, f_found, a_lists, a_ends, a_counts, a_lengths, a_draft, a_itemWord, a_itemBoost, a_cursor, a_document, a_occurs, a_weight, a_bound, a_order, a_bestDocument, a_bestScore⟩ := u
  obtain ⟨rfl, hv, hI, hL, hC, hN, hD⟩ := hX
  unfold wpX_times
  refine xx_wd (fun t ht e => br_f (by decide) (xx_lv hv hP.2.1 hP.1 (fun d hd e2 hlv => br_f (by decide) ?_) (fun h => br_t rfl (K1 t ht e h)))) (fun h => br_t rfl (K0 h))
  subst e e2
  rw [pu_ix8, nI_clamp (by omega), hC (8 * d + t) (by omega)]
  exact ⟨pk_in (8 * d + t) 192 (by omega), K2 t d ht hd rfl rfl hlv⟩
theorem yl_times {v : SY} (hY : rr_Y ad lv c dr q v) {p0 p1 : Int32} {post : Int32 → Prop} (K0 : (∀ t, t < 8 → p0 ≠ nI t) → post (-1)) (K1 : ∀ t, t < 8 → p0 = nI t → (∀ d, d < 24 → p1 = nI d → lv d = false) → post (-2)) (K2 : ∀ t d, t < 8 → d < 24 → p0 = nI t → p1 = nI d → lv d = true → post (nI (c (8 * d + t)))) : wpY_times post v p0 p1 := by
  obtain ⟨f_added, a_draft, a_table, a_there, a_kind, a_boost⟩ := v
  obtain ⟨rfl, hD, hC, hT, hK, hB⟩ := hY
  unfold wpY_times
  refine yy_bw (fun t ht e => br_t rfl (yy_bad hT (fun d hd e2 hlv => br_t rfl ?_) (fun h => br_f (by decide) (K1 t ht e h)))) (fun h => br_f (by decide) (K0 h))
  subst e e2
  rw [pu_ix8, nI_clamp (by omega), hC (8 * d + t) (by omega)]
  exact ⟨pk_in (8 * d + t) 192 (by omega), K2 t d ht hd rfl rfl hlv⟩
theorem xl_spread {u : SX} (hP : rr_P ad lv c dr q) (hX : rr_X ad lv c dr q u) {p0 : Int32} {post : Int32 → Prop} (K0 : (∀ t, t < 8 → p0 ≠ nI t) → post (-1)) (K1 : ∀ t, t < 8 → p0 = nI t → post (nI (pu_hold lv c t))) : wpX_spread post u p0 := by
  obtain ⟨f_added, f_alive, f_items, f_lanes, f_found, a_lists, a_ends, a_counts, a_lengths, a_draft, a_itemWord, a_itemBoost, a_cursor, a_document, a_occurs, a_weight, a_bound, a_order, a_bestDocument, a_bestScore⟩ := u
  obtain ⟨rfl, hv, hI, hL, hC, hN, hD⟩ := hX
  unfold wpX_spread
  refine xx_wd (fun t ht e => br_f (by decide) ?_) (fun h => br_t rfl (K0 h))
  subst e
  exact xx_sp hL hv hP.2.1 hP.1 ht (K1 t ht rfl)
theorem yl_spread {v : SY} (hP : rr_P ad lv c dr q) (hY : rr_Y ad lv c dr q v) {p0 : Int32} {post : Int32 → Prop} (K0 : (∀ t, t < 8 → p0 ≠ nI t) → post (-1)) (K1 : ∀ t, t < 8 → p0 = nI t → post (nI (pu_hold lv c t))) : wpY_spread post v p0 := by
  obtain ⟨f_added, a_draft, a_table, a_there, a_kind, a_boost⟩ := v
  obtain ⟨rfl, hD, hC, hT, hK, hB⟩ := hY
  unfold wpY_spread
  refine yy_bw (fun t ht e => br_t rfl ?_) (fun h => br_f (by decide) (K0 h))
  subst e
  exact yy_ho hT hC hP.2.2.1 ht (K1 t ht rfl)
theorem xl_matching {u : SX} (hP : rr_P ad lv c dr q) (hX : rr_X ad lv c dr q u) {post : Int32 → Prop} (K : post (nI (pu_cnt (pu_M lv c q) 24))) : wpX_matching post u := by
  obtain ⟨f_added, f_alive, f_items, f_lanes, f_found, a_lists, a_ends, a_counts, a_lengths, a_draft, a_itemWord, a_itemBoost, a_cursor, a_document, a_occurs, a_weight, a_bound, a_order, a_bestDocument, a_bestScore⟩ := u
  obtain ⟨rfl, hv, ⟨it, iw, rfl, hI⟩, hL, hC, hN, hD⟩ := hX
  exact xx_mg hI hP.2.2.2.2 hC hP.2.2.1 hv hP.2.1 hP.1 K
theorem yl_matching {v : SY} (hP : rr_P ad lv c dr q) (hY : rr_Y ad lv c dr q v) {post : Int32 → Prop} (K : post (nI (pu_cnt (pu_M lv c q) 24))) : wpY_matching post v := by
  obtain ⟨f_added, a_draft, a_table, a_there, a_kind, a_boost⟩ := v
  obtain ⟨rfl, hD, hC, hT, hK, hB⟩ := hY
  exact yy_mg hT hC hP.2.2.1 hK hP.2.2.2.2 K
theorem xl_score {u : SX} (hP : rr_P ad lv c dr q) (hX : rr_X ad lv c dr q u) {p0 : Int32} {post : Int32 → SX → Prop} (K0 : (∀ d, d < 24 → p0 = nI d → lv d = false) → post (-1) u) (K1 : ∀ d u', d < 24 → p0 = nI d → lv d = true → rr_X ad lv c dr q u' → post (nI (pu_worth lv c q d)) u') : wpX_score post u p0 := by
  obtain ⟨f_added, f_alive, f_items, f_lanes, f_found, a_lists, a_ends, a_counts, a_lengths, a_draft, a_itemWord, a_itemBoost, a_cursor, a_document, a_occurs, a_weight, a_bound, a_order, a_bestDocument, a_bestScore⟩ := u
  obtain ⟨rfl, hv, ⟨it, iw, rfl, hI⟩, hL, hC, hN, hD⟩ := hX
  unfold wpX_score
  refine xx_lv hv hP.2.1 hP.1 (fun d hd e hlv => br_f (by decide) (xx_ol hv hP.2.1 hP.1 hL hP.2.2.1 hN hI hP.2.2.2.2 (fun n w B cu dc oc wg bo od hn hS hg => ?_))) (fun h => br_t rfl (K0 h))
  subst e
  exact xx_so hS hn hg hP.1 hC hP.2.2.1 hN (hP.2.1 d hlv) (K1 d _ hd rfl hlv ⟨rfl, hv, ⟨it, iw, rfl, hI⟩, hL, hC, hN, hD⟩)
theorem yl_score {v : SY} (hP : rr_P ad lv c dr q) (hY : rr_Y ad lv c dr q v) {p0 : Int32} {post : Int32 → Prop} (K0 : (∀ d, d < 24 → p0 = nI d → lv d = false) → post (-1)) (K1 : ∀ d, d < 24 → p0 = nI d → lv d = true → post (nI (pu_worth lv c q d))) : wpY_score post v p0 := by
  obtain ⟨f_added, a_draft, a_table, a_there, a_kind, a_boost⟩ := v
  obtain ⟨rfl, hD, hC, hT, hK, hB⟩ := hY
  unfold wpY_score
  refine yy_bad hT (fun d hd e hlv => br_t rfl ?_) (fun h => br_f (by decide) (K0 h))
  subst e
  exact yy_w hT hC hP.2.2.1 hK hB hP.2.2.2.2 hd (K1 d hd rfl hlv)
theorem xl_scoring {u : SX} (hP : rr_P ad lv c dr q) (hX : rr_X ad lv c dr q u) {b : Int32} {post : Int32 → SX → Prop} (K : ∀ u', rr_X ad lv c dr q u' → post (nI (pu_cnt (fun e => pu_M lv c q e && !decide (nI (pu_worth lv c q e) < b)) 24)) u') : wpX_scoring post u b := by
  obtain ⟨f_added, f_alive, f_items, f_lanes, f_found, a_lists, a_ends, a_counts, a_lengths, a_draft, a_itemWord, a_itemBoost, a_cursor, a_document, a_occurs, a_weight, a_bound, a_order, a_bestDocument, a_bestScore⟩ := u
  obtain ⟨rfl, hv, ⟨it, iw, rfl, hI⟩, hL, hC, hN, hD⟩ := hX
  exact xx_sg hv hP.2.1 hP.1 hL hI hP.2.2.2.2 hC hP.2.2.1 hN (fun fl cu dc oc wg bou od => K _ ⟨rfl, hv, ⟨it, iw, rfl, hI⟩, hL, hC, hN, hD⟩)
theorem yl_scoring {v : SY} (hP : rr_P ad lv c dr q) (hY : rr_Y ad lv c dr q v) {b : Int32} {post : Int32 → Prop} (K : post (nI (pu_cnt (fun e => pu_M lv c q e && !decide (nI (pu_worth lv c q e) < b)) 24))) : wpY_scoring post v b := by
  obtain ⟨f_added, a_draft, a_table, a_there, a_kind, a_boost⟩ := v
  obtain ⟨rfl, hD, hC, hT, hK, hB⟩ := hY
  exact yy_sc hT hC hP.2.2.1 hK hB hP.2.2.2.2 K
theorem xl_ranked {u : SX} (hP : rr_P ad lv c dr q) (hX : rr_X ad lv c dr q u) {p0 : Int32} {post : Int32 → SX → Prop} (K0 : (∀ p, p < 10 → p0 ≠ nI p) → post (-1) u) (K1 : ∀ p fo bd u', p < fo → p < 10 → p0 = nI p → pu_top (pu_M lv c q) (pu_worth lv c q) 24 fo bd → rr_X ad lv c dr q u' → post (nI (bd p)) u') (K2 : ∀ p fo bd u', fo ≤ p → p < 10 → p0 = nI p → pu_top (pu_M lv c q) (pu_worth lv c q) 24 fo bd → rr_X ad lv c dr q u' → post (-2) u') : wpX_ranked post u p0 := by
  obtain ⟨f_added, f_alive, f_items, f_lanes, f_found, a_lists, a_ends, a_counts, a_lengths, a_draft, a_itemWord, a_itemBoost, a_cursor, a_document, a_occurs, a_weight, a_bound, a_order, a_bestDocument, a_bestScore⟩ := u
  obtain ⟨rfl, hv, ⟨it, iw, rfl, hI⟩, hL, hC, hN, hD⟩ := hX
  unfold wpX_ranked
  refine br_c (fun z => K0 (fun p hp e => ?_)) (fun z => br_c (fun z2 => ?_) (fun z2 => K0 (fun p hp e => ?_)))
  · rw [e] at z
    exact nI_pos (by omega) z
  · obtain ⟨p, hp, e⟩ : ∃ p, p < 10 ∧ p0 = nI p := by
      rcases pk_ix p0 (n := 10) (by decide) with y | y | y
      · exact absurd y z
      · exact absurd z2 (Int32.not_lt.mpr y)
      · exact y
    subst e
    refine xx_fb hv hP.2.1 hP.1 hL hI hP.2.2.2.2 hC hP.2.2.1 hN (fun fl fo bd cu dc oc wg bou od bs bo htop hb => ?_)
    have hfo := pu_top_fo htop
    refine pk_le fo p (fun y => K2 p fo bd _ y hp rfl htop ⟨rfl, hv, ⟨it, iw, rfl, hI⟩, hL, hC, hN, hD⟩) (fun y => ⟨pk_in p 10 hp, ?_⟩)
    rw [nI_clamp (by omega), (hb p y).2]
    exact K1 p fo bd _ y hp rfl htop ⟨rfl, hv, ⟨it, iw, rfl, hI⟩, hL, hC, hN, hD⟩
  · rw [e] at z2
    exact z2 (nI_lt (b := 10) hp (by decide))
theorem xl_rankedScore {u : SX} (hP : rr_P ad lv c dr q) (hX : rr_X ad lv c dr q u) {p0 : Int32} {post : Int32 → SX → Prop} (K0 : (∀ p, p < 10 → p0 ≠ nI p) → post (-1) u) (K1 : ∀ p fo bd u', p < fo → p < 10 → p0 = nI p → pu_top (pu_M lv c q) (pu_worth lv c q) 24 fo bd → rr_X ad lv c dr q u' → post (nI (pu_worth lv c q (bd p))) u') (K2 : ∀ p fo bd u', fo ≤ p → p < 10 → p0 = nI p → pu_top (pu_M lv c q) (pu_worth lv c q) 24 fo bd → rr_X ad lv c dr q u' → post (-2) u') : wpX_rankedScore post u p0 := by
  obtain ⟨f_added, f_alive, f_items, f_lanes, f_found, a_lists, a_ends, a_counts, a_lengths, a_draft, a_itemWord, a_itemBoost, a_cursor, a_document, a_occurs, a_weight, a_bound, a_order, a_bestDocument, a_bestScore⟩ := u
  obtain ⟨rfl, hv, ⟨it, iw, rfl, hI⟩, hL, hC, hN, hD⟩ := hX
  unfold wpX_rankedScore
  refine br_c (fun z => K0 (fun p hp e => ?_)) (fun z => br_c (fun z2 => ?_) (fun z2 => K0 (fun p hp e => ?_)))
  · rw [e] at z
    exact nI_pos (by omega) z
  · obtain ⟨p, hp, e⟩ : ∃ p, p < 10 ∧ p0 = nI p := by
      rcases pk_ix p0 (n := 10) (by decide) with y | y | y
      · exact absurd y z
      · exact absurd z2 (Int32.not_lt.mpr y)
      · exact y
    subst e
    refine xx_fb hv hP.2.1 hP.1 hL hI hP.2.2.2.2 hC hP.2.2.1 hN (fun fl fo bd cu dc oc wg bou od bs bo htop hb => ?_)
    have hfo := pu_top_fo htop
    refine pk_le fo p (fun y => K2 p fo bd _ y hp rfl htop ⟨rfl, hv, ⟨it, iw, rfl, hI⟩, hL, hC, hN, hD⟩) (fun y => ⟨pk_in p 10 hp, ?_⟩)
    rw [nI_clamp (by omega), (hb p y).1]
    exact K1 p fo bd _ y hp rfl htop ⟨rfl, hv, ⟨it, iw, rfl, hI⟩, hL, hC, hN, hD⟩
  · rw [e] at z2
    exact z2 (nI_lt (b := 10) hp (by decide))
theorem yl_ranked {v : SY} (hP : rr_P ad lv c dr q) (hY : rr_Y ad lv c dr q v) {p0 : Int32} {post : Int32 → Prop} (K0 : (∀ p, p < 10 → p0 ≠ nI p) → post (-1)) (K1 : ∀ p d, p < 10 → p0 = nI p → d < 24 → pu_M lv c q d = true → pu_ah (pu_M lv c q) (pu_worth lv c q) 24 d = p → post (nI d)) (K2 : ∀ p, p < 10 → p0 = nI p → (∀ d, d < 24 → pu_M lv c q d = true → pu_ah (pu_M lv c q) (pu_worth lv c q) 24 d ≠ p) → post (-2)) : wpY_ranked post v p0 := by
  obtain ⟨f_added, a_draft, a_table, a_there, a_kind, a_boost⟩ := v
  obtain ⟨rfl, hD, hC, hT, hK, hB⟩ := hY
  unfold wpY_ranked
  refine br_c (fun z => K0 (fun p hp e => ?_)) (fun z => br_c (fun z2 => ?_) (fun z2 => K0 (fun p hp e => ?_)))
  · rw [e] at z
    exact nI_pos (by omega) z
  · obtain ⟨p, hp, e⟩ := pu_rng (n := 9) (by decide) z z2
    subst e
    exact yy_at hT hC hP.2.2.1 hK hB hP.2.2.2.2 (by omega) (fun d hd hM ha => K1 p d (by omega) rfl hd hM ha) (fun h => K2 p (by omega) rfl h)
  · rw [e] at z2
    exact z2 (nI_le (b := 9) (by omega) (by decide))
theorem yl_rankedScore {v : SY} (hP : rr_P ad lv c dr q) (hY : rr_Y ad lv c dr q v) {p0 : Int32} {post : Int32 → Prop} (K0 : (∀ p, p < 10 → p0 ≠ nI p) → post (-1)) (K1 : ∀ p d, p < 10 → p0 = nI p → d < 24 → pu_M lv c q d = true → pu_ah (pu_M lv c q) (pu_worth lv c q) 24 d = p → post (nI (pu_worth lv c q d))) (K2 : ∀ p, p < 10 → p0 = nI p → (∀ d, d < 24 → pu_M lv c q d = true → pu_ah (pu_M lv c q) (pu_worth lv c q) 24 d ≠ p) → post (-2)) : wpY_rankedScore post v p0 := by
  obtain ⟨f_added, a_draft, a_table, a_there, a_kind, a_boost⟩ := v
  obtain ⟨rfl, hD, hC, hT, hK, hB⟩ := hY
  unfold wpY_rankedScore
  refine br_c (fun z => K0 (fun p hp e => ?_)) (fun z => br_c (fun z2 => ?_) (fun z2 => K0 (fun p hp e => ?_)))
  · rw [e] at z
    exact nI_pos (by omega) z
  · obtain ⟨p, hp, e⟩ := pu_rng (n := 9) (by decide) z z2
    subst e
    exact yy_at hT hC hP.2.2.1 hK hB hP.2.2.2.2 (by omega) (fun d hd hM ha => br_t (nI_pos' (by omega)) (yy_w hT hC hP.2.2.1 hK hB hP.2.2.2.2 hd (K1 p d (by omega) rfl hd hM ha))) (fun h => br_f (by decide) (K2 p (by omega) rfl h))
  · rw [e] at z2
    exact z2 (nI_le (b := 9) (by omega) (by decide))
end
end
section
theorem xx_It_set {q : Nat → Nat} {it : Nat} {iw : Nat → Nat} {aw ab : Nat → Int32} (h : xx_It q it iw aw ab) {k t b : Nat} (hk : k < it) (e : iw k = t) : xx_It (pu_put q t (b + 1)) it iw (upd aw k (nI t)) (upd ab k (nI b)) := by
  obtain ⟨h1, h2, h3, h4⟩ := h
  refine ⟨h1, fun j hj => ?_, h3, fun s hs hq => ?_⟩
  · obtain ⟨g1, g2, g3, g4⟩ := h2 j hj
    by_cases z : j = k
    · subst z
      rw [e, pk_us, pk_us, pu_put_s]
      rw [e] at g1
      exact ⟨g1, by omega, rfl, rfl⟩
    · have y : iw j ≠ t := fun w => z (h3 j k hj hk (by rw [w, e]))
      rw [pk_un z, pk_un z, pu_put_n y]
      exact ⟨g1, g2, g3, g4⟩
  · by_cases z : s = t
    · subst z
      exact ⟨k, hk, e⟩
    · rw [pu_put_n z] at hq
      exact h4 s hs hq
theorem xx_It_new {q : Nat → Nat} {it : Nat} {iw : Nat → Nat} {aw ab : Nat → Int32} (h : xx_It q it iw aw ab) {t b : Nat} (hit : it < 5) (ht : t < 8) (hno : ∀ k, k < it → iw k ≠ t) : xx_It (pu_put q t (b + 1)) (it + 1) (pu_put iw it t) (upd aw it (nI t)) (upd ab it (nI b)) := by
  obtain ⟨h1, h2, h3, h4⟩ := h
  refine ⟨by omega, fun j hj => ?_, fun i j hi hj e => ?_, fun s hs hq => ?_⟩
  · by_cases z : j = it
    · subst z
      rw [pu_put_s, pk_us, pk_us, pu_put_s]
      exact ⟨ht, by omega, rfl, rfl⟩
    · obtain ⟨g1, g2, g3, g4⟩ := h2 j (by omega)
      rw [pu_put_n z, pk_un z, pk_un z, pu_put_n (hno j (by omega))]
      exact ⟨g1, g2, g3, g4⟩
  · by_cases zi : i = it
    · by_cases zj : j = it
      · rw [zi, zj]
      · rw [zi, pu_put_s, pu_put_n zj] at e
        exact absurd e.symm (hno j (by omega))
    · by_cases zj : j = it
      · rw [zj, pu_put_s, pu_put_n zi] at e
        exact absurd e (hno i (by omega))
      · rw [pu_put_n zi, pu_put_n zj] at e
        exact h3 i j (by omega) (by omega) e
  · by_cases z : s = t
    · subst z
      exact ⟨it, by omega, pu_put_s⟩
    · rw [pu_put_n z] at hq
      obtain ⟨k, hk, e⟩ := h4 s hs hq
      exact ⟨k, by omega, by rw [pu_put_n (by omega)]; exact e⟩
theorem xx_It_del {q : Nat → Nat} {it : Nat} {iw : Nat → Nat} {aw ab aw' ab' : Nat → Int32} (h : xx_It q it iw aw ab) {k t : Nat} (hk : k < it) (e : iw k = t) (hp : ∀ p, p < it - 1 → aw' p = nI (if p < k then iw p else iw (p + 1)) ∧ ab' p = nI (if p < k then q (iw p) - 1 else q (iw (p + 1)) - 1)) : xx_It (pu_put q t 0) (it - 1) (fun p => if p < k then iw p else iw (p + 1)) aw' ab' := by
  obtain ⟨h1, h2, h3, h4⟩ := h
  refine ⟨by omega, fun j hj => ?_, fun i j hi hj e2 => ?_, fun s hs hq => ?_⟩
  · obtain ⟨p1, p2⟩ := hp j hj
    dsimp only
    by_cases z : j < k
    · obtain ⟨g1, g2, g3, g4⟩ := h2 j (by omega)
      have y : iw j ≠ t := fun w => by have := h3 j k (by omega) hk (by rw [w, e]); omega
      rw [if_pos z] at p1 p2
      rw [if_pos z, pu_put_n y]
      exact ⟨g1, g2, p1, p2⟩
    · obtain ⟨g1, g2, g3, g4⟩ := h2 (j + 1) (by omega)
      have y : iw (j + 1) ≠ t := fun w => by have := h3 (j + 1) k (by omega) hk (by rw [w, e]); omega
      rw [if_neg z] at p1 p2
      rw [if_neg z, pu_put_n y]
      exact ⟨g1, g2, p1, p2⟩
  · dsimp only at e2
    by_cases zi : i < k
    · by_cases zj : j < k
      · rw [if_pos zi, if_pos zj] at e2
        exact h3 i j (by omega) (by omega) e2
      · rw [if_pos zi, if_neg zj] at e2
        have := h3 i (j + 1) (by omega) (by omega) e2
        omega
    · by_cases zj : j < k
      · rw [if_neg zi, if_pos zj] at e2
        have := h3 (i + 1) j (by omega) (by omega) e2
        omega
      · rw [if_neg zi, if_neg zj] at e2
        have := h3 (i + 1) (j + 1) (by omega) (by omega) e2
        omega
  · have hst : s ≠ t := by
      intro z
      subst z
      rw [pu_put_s] at hq
      omega
    rw [pu_put_n hst] at hq
    obtain ⟨m, hm, em⟩ := h4 s hs hq
    have hmk : m ≠ k := by
      intro z
      subst z
      exact hst (by rw [← em, e])
    by_cases z : m < k
    · exact ⟨m, by omega, by dsimp only; rw [if_pos z]; exact em⟩
    · obtain ⟨r, rfl⟩ : ∃ r, m = r + 1 := ⟨m - 1, by omega⟩
      exact ⟨r, by omega, by dsimp only; rw [if_neg (by omega)]; exact em⟩
section
variable {ad : Nat} {lv : Nat → Bool} {c dr q : Nat → Nat}
theorem xl_item {u : SX} (hX : rr_X ad lv c dr q u) {p0 p1 : Int32} {post : Int32 → SX → Prop} (K0 : (∀ t, t < 8 → p0 ≠ nI t) → post (-1) u) (K1 : ∀ t, t < 8 → p0 = nI t → (∀ b, b ≤ 19 → b ≠ 10 → p1 ≠ nI b) → post (-2) u) (K2 : ∀ t b, t < 8 → b ≤ 19 → b ≠ 10 → p0 = nI t → p1 = nI b → q t = 0 → pu_cnt (fun t => decide (0 < q t)) 8 = 5 → post (-3) u) (K3 : ∀ t b u', t < 8 → b ≤ 19 → b ≠ 10 → p0 = nI t → p1 = nI b → (0 < q t ∨ pu_cnt (fun t => decide (0 < q t)) 8 ≠ 5) → rr_X ad lv c dr (pu_put q t (b + 1)) u' → post (nI (pu_cnt (fun s => decide (0 < pu_put q t (b + 1) s)) 8)) u') : wpX_item post u p0 p1 := by
  obtain ⟨f_added, f_alive, f_items, f_lanes, f_found, a_lists, a_ends, a_counts, a_lengths, a_draft, a_itemWord, a_itemBoost, a_cursor, a_document, a_occurs, a_weight, a_bound, a_order, a_bestDocument, a_bestScore⟩ := u
  obtain ⟨rfl, hv, ⟨it, iw, rfl, hI⟩, hL, hC, hN, hD⟩ := hX
  have hcnt := xx_It_cnt hI
  have h5 := hI.1
  unfold wpX_item
  refine xx_wd (fun t ht e => br_f (by decide) (br_c (fun z => K1 t ht e (fun b hb _ y => ?_)) (fun z => br_c (fun z2 => K1 t ht e (fun b hb _ y => ?_)) (fun z2 => br_c (fun z3 => K1 t ht e (fun b hb hb10 y => ?_)) (fun z3 => ?_))))) (fun h => br_t rfl (K0 h))
  · rw [y] at z
    exact nI_pos (by omega) z
  · rw [y] at z2
    exact nI_nlt (b := b) (a := 19) hb (by decide) z2
  · rw [y] at z3
    exact hb10 ((nI_eq (b := 10) (by omega) (by decide)).mp z3)
  · obtain ⟨b, hb, eb⟩ := pu_rng (n := 19) (by decide) z (Int32.not_lt.mp z2)
    subst e eb
    have hb10 : b ≠ 10 := by
      intro w
      subst w
      exact z3 rfl
    refine xx_pl hI (fun k hk ek => br_t (nI_pos' (by omega)) ?_) (fun hno => br_f (by decide) ?_)
    · have ek' : iw k = t := (pu_nI ek (by omega) (by have := (hI.2.1 k hk).1; omega)).symm
      have hI' := xx_It_set (b := b) hI hk ek'
      have hq0 : 0 < q t := by rw [← ek']; exact (hI.2.1 k hk).2.1
      unfold wX_item_64
      rw [nI_clamp (show k < 2 ^ 31 by omega)]
      have H := K3 t b (nI ad, f_alive, nI it, f_lanes, f_found, a_lists, a_ends, a_counts, a_lengths, a_draft, upd a_itemWord k (nI t), upd a_itemBoost k (nI b), a_cursor, a_document, a_occurs, a_weight, a_bound, a_order, a_bestDocument, a_bestScore) ht hb hb10 rfl rfl (Or.inl hq0) ⟨rfl, hv, ⟨it, iw, rfl, hI'⟩, hL, hC, hN, hD⟩
      rw [xx_It_cnt hI'] at H
      exact ⟨pk_in k 5 (by omega), nm_e ⟨pk_in k 5 (by omega), nm_e H⟩⟩
    · have hno' : ∀ k, k < it → iw k ≠ t := fun k hk w => hno k hk (by rw [w])
      have hq0 : q t = 0 := by
        apply Classical.byContradiction
        intro w
        obtain ⟨k, hk, ek⟩ := hI.2.2.2 t ht (by omega)
        exact hno' k hk ek
      refine pk_eq it 5 (fun w => K2 t b ht hb hb10 rfl rfl hq0 (by rw [hcnt]; exact w)) (fun w => nm_r (nI_1 it) ?_)
      have hI' := xx_It_new (b := b) hI (by omega) ht hno'
      unfold wX_item_64
      rw [nI_clamp (show it < 2 ^ 31 by omega)]
      have H := K3 t b (nI ad, f_alive, nI (it + 1), f_lanes, f_found, a_lists, a_ends, a_counts, a_lengths, a_draft, upd a_itemWord it (nI t), upd a_itemBoost it (nI b), a_cursor, a_document, a_occurs, a_weight, a_bound, a_order, a_bestDocument, a_bestScore) ht hb hb10 rfl rfl (Or.inr (by rw [hcnt]; exact w)) ⟨rfl, hv, ⟨it + 1, _, rfl, hI'⟩, hL, hC, hN, hD⟩
      rw [xx_It_cnt hI'] at H
      exact ⟨pk_in it 5 (by omega), nm_e ⟨pk_in it 5 (by omega), nm_e H⟩⟩
theorem pu_kd_b {b : Nat} : pu_kd (b + 1) = if b = 0 then 3 else if b < 10 then 1 else 2 := by
  unfold pu_kd
  rw [if_neg (by omega)]
  by_cases h : b = 0
  · rw [if_pos h, if_pos (by omega)]
  · rw [if_neg h, if_neg (by omega)]
    by_cases h2 : b < 10
    · rw [if_pos h2, if_pos (by omega)]
    · rw [if_neg h2, if_neg (by omega)]
theorem pu_q_put {q : Nat → Nat} (hq : ∀ t, q t ≤ 20 ∧ q t ≠ 11) {t x : Nat} (hx : x ≤ 20 ∧ x ≠ 11) : ∀ s, pu_put q t x s ≤ 20 ∧ pu_put q t x s ≠ 11 := by
  intro s
  by_cases z : s = t
  · rw [z, pu_put_s]
    exact hx
  · rw [pu_put_n z]
    exact hq s
section
variable {f_added : Int32} {a_draft a_table a_there a_kind a_boost : Nat → Int32}
theorem yy_i73 (hP : rr_P ad lv c dr q) (hD : ∀ t, t < 8 → a_draft t = nI (dr t)) (hC : ∀ k, k < 192 → a_table k = nI (c k)) (hT : ∀ d, d < 24 → a_there d = pu_b (lv d)) (hK : ∀ t, t < 8 → a_kind t = nI (pu_kd (q t))) (hB : ∀ t, t < 8 → 0 < q t → a_boost t = nI (pu_bo (q t))) {t b : Nat} (ht : t < 8) (hb : b ≤ 19) (hb10 : b ≠ 10) {post : Int32 → SY → Prop} (K : ∀ v, rr_Y ad lv c dr (pu_put q t (b + 1)) v → post (nI (pu_cnt (fun s => decide (0 < pu_put q t (b + 1) s)) 8)) v) : wY_item_73 post (nI t) (nI b) (nI (pu_kd (b + 1))) (nI t) (nI ad) a_draft a_table a_there a_kind a_boost := by
  have hq' := pu_q_put hP.2.2.2.2 (t := t) (x := b + 1) (by omega)
  have hK' : ∀ s, s < 8 → upd a_kind t (nI (pu_kd (b + 1))) s = nI (pu_kd (pu_put q t (b + 1) s)) := by
    intro s hs
    by_cases z : s = t
    · subst z
      rw [pk_us, pu_put_s]
    · rw [pk_un z, pu_put_n z]
      exact hK s hs
  have hB' : ∀ s, s < 8 → 0 < pu_put q t (b + 1) s → upd a_boost t (nI (b % 10)) s = nI (pu_bo (pu_put q t (b + 1) s)) := by
    intro s hs h0
    by_cases z : s = t
    · subst z
      rw [pk_us, pu_put_s]
      rfl
    · rw [pu_put_n z] at h0
      rw [pk_un z, pu_put_n z]
      exact hB s hs h0
  unfold wY_item_73
  rw [nI_clamp (by omega)]
  refine ⟨pk_in t 8 ht, nm_e ⟨by decide, pk_in t 8 ht, nm_r (e' := upd a_boost t (nI (b % 10))) ?_ (yy_it hK' hq' (K _ ⟨rfl, hD, hC, hT, hK', hB'⟩))⟩⟩
  exact congrArg (upd a_boost t) (pk_rem (d := 10) (by omega) (by omega) (by omega))
end
theorem yl_item {v : SY} (hP : rr_P ad lv c dr q) (hY : rr_Y ad lv c dr q v) {p0 p1 : Int32} {post : Int32 → SY → Prop} (K0 : (∀ t, t < 8 → p0 ≠ nI t) → post (-1) v) (K1 : ∀ t, t < 8 → p0 = nI t → (∀ b, b ≤ 19 → b ≠ 10 → p1 ≠ nI b) → post (-2) v) (K2 : ∀ t b, t < 8 → b ≤ 19 → b ≠ 10 → p0 = nI t → p1 = nI b → q t = 0 → pu_cnt (fun t => decide (0 < q t)) 8 = 5 → post (-3) v) (K3 : ∀ t b v', t < 8 → b ≤ 19 → b ≠ 10 → p0 = nI t → p1 = nI b → (0 < q t ∨ pu_cnt (fun t => decide (0 < q t)) 8 ≠ 5) → rr_Y ad lv c dr (pu_put q t (b + 1)) v' → post (nI (pu_cnt (fun s => decide (0 < pu_put q t (b + 1) s)) 8)) v') : wpY_item post v p0 p1 := by
  obtain ⟨f_added, a_draft, a_table, a_there, a_kind, a_boost⟩ := v
  obtain ⟨rfl, hD, hC, hT, hK, hB⟩ := hY
  unfold wpY_item
  refine yy_bw (fun t ht e => br_t rfl (br_c (fun z => K1 t ht e (fun b hb _ y => ?_)) (fun z => br_c (fun z2 => K1 t ht e (fun b hb _ y => ?_)) (fun z2 => br_c (fun z3 => K1 t ht e (fun b hb hb10 y => ?_)) (fun z3 => ?_))))) (fun h => br_f (by decide) (K0 h))
  · rw [y] at z
    exact nI_pos (by omega) z
  · rw [y] at z2
    exact nI_nlt (b := b) (a := 19) hb (by decide) z2
  · rw [y] at z3
    exact hb10 ((nI_eq (b := 10) (by omega) (by decide)).mp z3)
  · obtain ⟨b, hb, eb⟩ := pu_rng (n := 19) (by decide) z (Int32.not_lt.mp z2)
    subst e eb
    have hb10 : b ≠ 10 := by
      intro w
      subst w
      exact z3 rfl
    have hkc := pu_kd_c (hP.2.2.2.2 t)
    have hc8 : pu_cnt (fun t => decide (0 < q t)) 8 ≤ 8 := pu_cnt_le _ _
    have go : (0 < q t ∨ pu_cnt (fun t => decide (0 < q t)) 8 ≠ 5) → wY_item_49 post (nI t) (nI b) (nI ad) a_draft a_table a_there a_kind a_boost := by
      intro h
      have H := yy_i73 hP hD hC hT hK hB ht hb hb10 (fun v' hY' => K3 t b v' ht hb hb10 rfl rfl h hY')
      rw [pu_kd_b] at H
      unfold wY_item_49
      refine pk_eq b 0 (fun w => ?_) (fun w => pk_le 10 b (fun w2 => ?_) (fun w2 => ?_))
      · rw [if_pos w] at H
        exact H
      · rw [if_neg w, if_neg (by omega)] at H
        exact H
      · rw [if_neg w, if_pos w2] at H
        exact H
    refine ⟨pk_in t 8 ht, ?_⟩
    rw [nI_clamp (by omega), hK t ht]
    exact pk_eq (pu_kd (q t)) 0 (fun w => yy_it hK hP.2.2.2.2 (pk_eq (pu_cnt (fun t => decide (0 < q t)) 8) 5 (fun w2 => K2 t b ht hb hb10 rfl rfl (by omega) w2) (fun w2 => go (Or.inr w2)))) (fun w => go (Or.inl (by omega)))
theorem xl_drop {u : SX} (hX : rr_X ad lv c dr q u) {p0 : Int32} {post : Int32 → SX → Prop} (K0 : (∀ t, t < 8 → p0 = nI t → q t = 0) → post (-1) u) (K1 : ∀ t u', t < 8 → p0 = nI t → 0 < q t → rr_X ad lv c dr (pu_put q t 0) u' → post (nI (pu_cnt (fun s => decide (0 < pu_put q t 0 s)) 8)) u') : wpX_drop post u p0 := by
  obtain ⟨f_added, f_alive, f_items, f_lanes, f_found, a_lists, a_ends, a_counts, a_lengths, a_draft, a_itemWord, a_itemBoost, a_cursor, a_document, a_occurs, a_weight, a_bound, a_order, a_bestDocument, a_bestScore⟩ := u
  obtain ⟨rfl, hv, ⟨it, iw, rfl, hI⟩, hL, hC, hN, hD⟩ := hX
  have h5 := hI.1
  unfold wpX_drop
  refine xx_pl hI (fun k hk ek => br_t (nI_pos' (by omega)) (nm_r (nI_1 k) ⟨it + 1, xx_dp (iw := iw) (bw := fun p => q (iw p) - 1) h5 hk (fun aw ab hp => ?_) (it + 1) (k + 1) a_itemWord a_itemBoost (by omega) (by omega) (by omega) (fun p hp hpk => ?_) (fun p hp hpk => ?_)⟩)) (fun hno => br_f (by decide) (K0 (fun t ht e => ?_)))
  · obtain ⟨g1, g2, g3, g4⟩ := hI.2.1 k hk
    have hI' := xx_It_del hI hk rfl hp
    have H := K1 (iw k) (nI ad, f_alive, nI (it - 1), f_lanes, f_found, a_lists, a_ends, a_counts, a_lengths, a_draft, aw, ab, a_cursor, a_document, a_occurs, a_weight, a_bound, a_order, a_bestDocument, a_bestScore) g1 ek g2 ⟨rfl, hv, ⟨it - 1, _, rfl, hI'⟩, hL, hC, hN, hD⟩
    rw [xx_It_cnt hI'] at H
    exact H
  · rw [if_pos (by omega), if_pos (by omega)]
    exact ⟨(hI.2.1 p hp).2.2.1, (hI.2.1 p hp).2.2.2⟩
  · exact ⟨(hI.2.1 p hp).2.2.1, (hI.2.1 p hp).2.2.2⟩
  · apply Classical.byContradiction
    intro w
    obtain ⟨k, hk, ek⟩ := hI.2.2.2 t ht (by omega)
    exact hno k hk (by rw [ek]; exact e)
theorem yl_drop {v : SY} (hP : rr_P ad lv c dr q) (hY : rr_Y ad lv c dr q v) {p0 : Int32} {post : Int32 → SY → Prop} (K0 : (∀ t, t < 8 → p0 = nI t → q t = 0) → post (-1) v) (K1 : ∀ t v', t < 8 → p0 = nI t → 0 < q t → rr_Y ad lv c dr (pu_put q t 0) v' → post (nI (pu_cnt (fun s => decide (0 < pu_put q t 0 s)) 8)) v') : wpY_drop post v p0 := by
  obtain ⟨f_added, a_draft, a_table, a_there, a_kind, a_boost⟩ := v
  obtain ⟨rfl, hD, hC, hT, hK, hB⟩ := hY
  unfold wpY_drop
  refine yy_bw (fun t ht e => br_t rfl ⟨?_, ?_⟩) (fun h => br_f (by decide) (K0 (fun t ht e => absurd e (h t ht))))
  · rw [e]
    exact pk_in t 8 ht
  · subst e
    have hkc := pu_kd_c (hP.2.2.2.2 t)
    rw [nI_clamp (by omega), hK t ht]
    refine pk_eq (pu_kd (q t)) 0 (fun w => K0 (fun s hs e => ?_)) (fun w => ⟨pk_in t 8 ht, nm_e ?_⟩)
    · have := pu_nI e (by omega) (by omega)
      subst this
      omega
    · have hq' := pu_q_put hP.2.2.2.2 (t := t) (x := 0) (by omega)
      have hK' : ∀ s, s < 8 → upd a_kind t 0 s = nI (pu_kd (pu_put q t 0 s)) := by
        intro s hs
        by_cases z : s = t
        · subst z
          rw [pk_us, pu_put_s]
          rfl
        · rw [pk_un z, pu_put_n z]
          exact hK s hs
      have hB' : ∀ s, s < 8 → 0 < pu_put q t 0 s → a_boost s = nI (pu_bo (pu_put q t 0 s)) := by
        intro s hs h0
        by_cases z : s = t
        · subst z
          rw [pu_put_s] at h0
          omega
        · rw [pu_put_n z] at h0 ⊢
          exact hB s hs h0
      exact yy_it hK' hq' (K1 t _ ht rfl (by omega) ⟨rfl, hD, hC, hT, hK', hB'⟩)
end
end
section
/-! addMany: both sides in step -/
def am_X (post : Int32 → SX → Prop) (s cnt n j : Nat) (u : SX) : Prop := match u with
  | (f_added, f_alive, f_items, f_lanes, f_found, a_lists, a_ends, a_counts, a_lengths, a_draft, a_itemWord, a_itemBoost, a_cursor, a_document, a_occurs, a_weight, a_bound, a_order, a_bestDocument, a_bestScore) => wX_addMany_28 post (nI s) (nI cnt) n (nI j) f_added f_alive f_items f_lanes f_found a_lists a_ends a_counts a_lengths a_draft a_itemWord a_itemBoost a_cursor a_document a_occurs a_weight a_bound a_order a_bestDocument a_bestScore
def am_Y (post : Int32 → SY → Prop) (s cnt n r j : Nat) (v : SY) : Prop := match v with
  | (f_added, a_draft, a_table, a_there, a_kind, a_boost) => wY_addMany_31 post (nI s) (nI cnt) n (nI r) (nI j) f_added a_draft a_table a_there a_kind a_boost
theorem am_full {lv : Nat → Bool} {c dr q : Nat → Nat} {s cnt r : Nat} (hcnt : cnt ≤ 24) {post : Int32 → SY → Prop} {v : SY} (hY : rr_Y 24 lv c dr q v) (K : post (nI r) v) : ∀ n j, j ≤ cnt → cnt - j < n → am_Y post s cnt n r j v := by
  obtain ⟨f_added, a_draft, a_table, a_there, a_kind, a_boost⟩ := v
  obtain ⟨rfl, hD, hC, hT, hK, hB⟩ := hY
  intro n
  induction n with
  | zero => intro j _ _; omega
  | succ n ih =>
    intro j hj hn
    unfold am_Y at ih ⊢
    rw [wY_addMany_31]
    exact pk_le cnt j (fun _ => K) (fun h => pk_le 24 24 (fun _ => nm_r (nI_1 j) (ih (j + 1) (by omega) (by omega))) (fun z => absurd z (by omega)))
theorem am_iter {dr q : Nat → Nat} {s cnt : Nat} (hs : s ≤ 10) (hcnt : cnt ≤ 24) : ∀ m j ad lv c, m + j = cnt → rr_P ad lv c dr q → ∃ r ad' lv' c', rr_P ad' lv' c' dr q ∧ (∀ (post : Int32 → SX → Prop) n u, m < n → rr_X ad lv c dr q u → (∀ u', rr_X ad' lv' c' dr q u' → post (nI r) u') → am_X post s cnt n j u) ∧ (∀ (post : Int32 → SY → Prop) n v, m < n → rr_Y ad lv c dr q v → (∀ v', rr_Y ad' lv' c' dr q v' → post (nI r) v') → am_Y post s cnt n j j v) := by
  intro m
  induction m with
  | zero =>
    intro j ad lv c hm hP
    refine ⟨j, ad, lv, c, hP, fun post n u hn hX K => ?_, fun post n v hn hY K => ?_⟩
    · obtain ⟨n, rfl⟩ : ∃ k, n = k + 1 := ⟨n - 1, by omega⟩
      have H := K u hX
      obtain ⟨f_added, f_alive, f_items, f_lanes, f_found, a_lists, a_ends, a_counts, a_lengths, a_draft, a_itemWord, a_itemBoost, a_cursor, a_document, a_occurs, a_weight, a_bound, a_order, a_bestDocument, a_bestScore⟩ := u
      unfold am_X
      rw [wX_addMany_28]
      exact pk_le cnt j (fun _ => H) (fun z => absurd z (by omega))
    · obtain ⟨n, rfl⟩ : ∃ k, n = k + 1 := ⟨n - 1, by omega⟩
      have H := K v hY
      obtain ⟨f_added, a_draft, a_table, a_there, a_kind, a_boost⟩ := v
      unfold am_Y
      rw [wY_addMany_31]
      exact pk_le cnt j (fun _ => H) (fun z => absurd z (by omega))
  | succ m ih =>
    intro j ad lv c hm hP
    have had := hP.1
    by_cases h24 : ad = 24
    · subst h24
      refine ⟨j, 24, lv, c, hP, fun post n u hn hX K => ?_, fun post n v hn hY K => am_full hcnt hY (K v hY) n j (by omega) (by omega)⟩
      obtain ⟨n, rfl⟩ : ∃ k, n = k + 1 := ⟨n - 1, by omega⟩
      have H := K u hX
      obtain ⟨f_added, f_alive, f_items, f_lanes, f_found, a_lists, a_ends, a_counts, a_lengths, a_draft, a_itemWord, a_itemBoost, a_cursor, a_document, a_occurs, a_weight, a_bound, a_order, a_bestDocument, a_bestScore⟩ := u
      obtain ⟨rfl, hv, hI, hL, hC, hN, hD⟩ := hX
      unfold am_X
      rw [wX_addMany_28]
      exact pk_le cnt j (fun z => absurd z (by omega)) (fun _ => pk_le 24 24 (fun _ => H) (fun z => absurd z (by omega)))
    · have hP' := rr_P_add hP (by omega) (pu_am_le s j)
      obtain ⟨r, ad', lv', c', hPr, hXr, hYr⟩ := ih (j + 1) (ad + 1) (pu_addl lv ad) (pu_addc c ad (pu_am s j) 8) (by omega) hP'
      refine ⟨r, ad', lv', c', hPr, fun post n u hn hX K => ?_, fun post n v hn hY K => ?_⟩
      · obtain ⟨n, rfl⟩ : ∃ k, n = k + 1 := ⟨n - 1, by omega⟩
        obtain ⟨f_added, f_alive, f_items, f_lanes, f_found, a_lists, a_ends, a_counts, a_lengths, a_draft, a_itemWord, a_itemBoost, a_cursor, a_document, a_occurs, a_weight, a_bound, a_order, a_bestDocument, a_bestScore⟩ := u
        obtain ⟨rfl, hv, hI, hL, hC, hN, hD⟩ := hX
        unfold am_X
        rw [wX_addMany_28]
        exact pk_le cnt j (fun z => absurd z (by omega)) (fun _ => pk_le 24 ad (fun z => absurd z (by omega)) (fun _ => ⟨9, xx_am48 hP (by omega) hv hI hL hN hD hs (by omega) (fun fa li en cs le hX' => hXr post n _ (by omega) hX' K) 9 0 a_counts (by omega) (by omega) (fun k hk => by rw [pu_addc_0]; exact hC k hk)⟩))
      · obtain ⟨n, rfl⟩ : ∃ k, n = k + 1 := ⟨n - 1, by omega⟩
        obtain ⟨f_added, a_draft, a_table, a_there, a_kind, a_boost⟩ := v
        obtain ⟨rfl, hD, hC, hT, hK, hB⟩ := hY
        unfold am_Y
        rw [wY_addMany_31]
        exact pk_le cnt j (fun z => absurd z (by omega)) (fun _ => pk_le 24 ad (fun z => absurd z (by omega)) (fun _ => ⟨9, yy_am53 hP (by omega) hD hT hK hB hs (by omega) (fun ta th hY' => hYr post n _ (by omega) hY' K) 9 0 a_table (by omega) (by omega) (fun k hk => by rw [pu_addc_0]; exact hC k hk)⟩))
theorem xl_addMany {u : SX} {p0 p1 : Int32} {post : Int32 → SX → Prop} (K0 : (∀ s, s ≤ 10 → p0 ≠ nI s) → post (-1) u) (K1 : ∀ s, s ≤ 10 → p0 = nI s → (∀ m, 1 ≤ m → m ≤ 24 → p1 ≠ nI m) → post (-2) u) (K2 : ∀ s m, s ≤ 10 → 1 ≤ m → m ≤ 24 → p0 = nI s → p1 = nI m → am_X post s m 25 0 u) : wpX_addMany post u p0 p1 := by
  obtain ⟨f_added, f_alive, f_items, f_lanes, f_found, a_lists, a_ends, a_counts, a_lengths, a_draft, a_itemWord, a_itemBoost, a_cursor, a_document, a_occurs, a_weight, a_bound, a_order, a_bestDocument, a_bestScore⟩ := u
  unfold wpX_addMany
  refine br_c (fun z => K0 (fun s hs y => ?_)) (fun z => br_c (fun z2 => ?_) (fun z2 => K0 (fun s hs y => ?_)))
  · rw [y] at z
    exact nI_pos (by omega) z
  · obtain ⟨s, hs, es⟩ := pu_rng (n := 10) (by decide) z z2
    refine br_c (fun w => K1 s hs es (fun m h1 h2 y => ?_)) (fun w => br_c (fun w2 => ?_) (fun w2 => K1 s hs es (fun m h1 h2 y => ?_)))
    · rw [y] at w
      exact nI_nlt (b := 1) h1 (by omega) w
    · have w0 : ¬ p1 < 0 := fun y => w (Int32.lt_of_lt_of_le y (by decide))
      obtain ⟨m, hm, em⟩ := pu_rng (n := 24) (by decide) w0 w2
      have hm1 : 1 ≤ m := by
        apply Nat.le_of_not_lt
        intro y
        rw [em] at w
        exact w (nI_lt (b := 1) y (by decide))
      have H := K2 s m hs hm1 hm es em
      subst es em
      exact ⟨25, H⟩
    · rw [y] at w2
      exact w2 (nI_le (b := 24) h2 (by decide))
  · rw [y] at z2
    exact z2 (nI_le (b := 10) hs (by decide))
theorem yl_addMany {v : SY} {p0 p1 : Int32} {post : Int32 → SY → Prop} (K0 : (∀ s, s ≤ 10 → p0 ≠ nI s) → post (-1) v) (K1 : ∀ s, s ≤ 10 → p0 = nI s → (∀ m, 1 ≤ m → m ≤ 24 → p1 ≠ nI m) → post (-2) v) (K2 : ∀ s m, s ≤ 10 → 1 ≤ m → m ≤ 24 → p0 = nI s → p1 = nI m → am_Y post s m 25 0 0 v) : wpY_addMany post v p0 p1 := by
  obtain ⟨f_added, a_draft, a_table, a_there, a_kind, a_boost⟩ := v
  unfold wpY_addMany
  refine br_c (fun z => K0 (fun s hs y => ?_)) (fun z => br_c (fun z2 => ?_) (fun z2 => K0 (fun s hs y => ?_)))
  · rw [y] at z
    exact nI_pos (by omega) z
  · obtain ⟨s, hs, es⟩ := pu_rng (n := 10) (by decide) z z2
    refine br_c (fun w => K1 s hs es (fun m h1 h2 y => ?_)) (fun w => br_c (fun w2 => ?_) (fun w2 => K1 s hs es (fun m h1 h2 y => ?_)))
    · rw [y] at w
      exact nI_nlt (b := 1) h1 (by omega) w
    · have w0 : ¬ p1 < 0 := fun y => w (Int32.lt_of_lt_of_le y (by decide))
      obtain ⟨m, hm, em⟩ := pu_rng (n := 24) (by decide) w0 w2
      have hm1 : 1 ≤ m := by
        apply Nat.le_of_not_lt
        intro y
        rw [em] at w
        exact w (nI_lt (b := 1) y (by decide))
      have H := K2 s m hs hm1 hm es em
      subst es em
      exact ⟨25, H⟩
    · rw [y] at w2
      exact w2 (nI_le (b := 24) h2 (by decide))
  · rw [y] at z2
    exact z2 (nI_le (b := 10) hs (by decide))
end
section
theorem i_up {k : Nat} {u : SX} {v : SY} (h : i_Rel k u v) : i_Rel (k + 3) u v := h
theorem i_vc0 : wpX_init (fun u => wpY_init (fun v => i_Rel 0 u v)) := by
  refine ⟨0, fun _ => false, fun _ => 0, fun _ => 0, fun _ => 0, ⟨by omega, fun d h => absurd h Bool.false_ne_true, fun _ => Nat.zero_le 7, fun _ => Nat.zero_le 7, fun _ => ⟨Nat.zero_le 20, (show ¬ (0 : Nat) = 11 by decide)⟩⟩, ⟨rfl, fun d _ => b_0 d, ⟨0, fun _ => 0, rfl, by omega, fun k hk => by omega, fun i j hi => by omega, fun t _ h => absurd h (Nat.lt_irrefl 0)⟩, fun t _ => ⟨fun _ => 0, 0, rfl, rfl, Nat.le_refl 0, fun i hi => by omega, fun d _ h => by omega⟩, fun _ _ => rfl, fun d h => by omega, fun _ _ => rfl⟩, ⟨rfl, fun _ _ => rfl, fun _ _ => rfl, fun _ _ => rfl, fun _ _ => rfl, fun t _ h => absurd h (Nat.lt_irrefl 0)⟩⟩
theorem i_vc_write {k : Nat} {u : SX} {v : SY} (I : i_Rel k u v) (hk : k + 3 ≤ 1536) (v1 : Int32) (v2 : Int32) : wpX_write (fun r u' => wpY_write (fun r' v' => r' = r ∧ i_Rel (k + 3) u' v') v v1 v2) u v1 v2 := by
  have I' := i_up I
  obtain ⟨ad, lv, c, dr, q, hP, hX, hY⟩ := I
  refine xl_write hX (fun h => yl_write hY (fun _ => ⟨rfl, I'⟩) (fun t ht e _ => absurd e (h t ht)) (fun t b _ ht _ e _ _ => absurd e (h t ht)))
    (fun t ht e h => yl_write hY (fun h' => absurd e (h' t ht)) (fun _ _ _ _ => ⟨rfl, I'⟩) (fun _ b _ _ hb _ e2 _ => absurd e2 (h b hb)))
    (fun t b u' ht hb e1 e2 hX' => yl_write hY (fun h' => absurd e1 (h' t ht)) (fun _ _ _ h => absurd e2 (h b hb)) (fun t' b' v' ht' hb' e1' e2' hY' => ?_))
  have et := pu_nI (e1'.symm.trans e1) (by omega) (by omega)
  have eb := pu_nI (e2'.symm.trans e2) (by omega) (by omega)
  subst et eb
  refine ⟨rfl, ad, lv, c, _, q, rr_P_dr hP (fun s => ?_), hX', hY'⟩
  by_cases z : s = t'
  · rw [z, pu_put_s]; exact hb
  · rw [pu_put_n z]; exact hP.2.2.2.1 s
theorem i_vc_blank {k : Nat} {u : SX} {v : SY} (I : i_Rel k u v) (hk : k + 3 ≤ 1536) : wpX_blank (fun r u' => wpY_blank (fun r' v' => r' = r ∧ i_Rel (k + 3) u' v') v) u := by
  obtain ⟨ad, lv, c, dr, q, hP, hX, hY⟩ := I
  exact xl_blank hX (fun u' hX' => yl_blank hY (fun v' hY' => ⟨rfl, ad, lv, c, _, q, rr_P_dr hP (fun _ => by omega), hX', hY'⟩))
theorem i_vc_add {k : Nat} {u : SX} {v : SY} (I : i_Rel k u v) (hk : k + 3 ≤ 1536) : wpX_add (fun r u' => wpY_add (fun r' v' => r' = r ∧ i_Rel (k + 3) u' v') v) u := by
  have I' := i_up I
  obtain ⟨ad, lv, c, dr, q, hP, hX, hY⟩ := I
  exact xl_add hP hX (fun z => yl_add hP hY (fun _ => ⟨rfl, I'⟩) (fun w => by omega)) (fun z u' hX' => yl_add hP hY (fun w => by omega) (fun _ v' hY' => ⟨rfl, _, _, _, dr, q, rr_P_add hP z hP.2.2.2.1, hX', hY'⟩))
theorem i_vc_addMany {k : Nat} {u : SX} {v : SY} (I : i_Rel k u v) (hk : k + 3 ≤ 1536) (v1 : Int32) (v2 : Int32) : wpX_addMany (fun r u' => wpY_addMany (fun r' v' => r' = r ∧ i_Rel (k + 3) u' v') v v1 v2) u v1 v2 := by
  have I' := i_up I
  obtain ⟨ad, lv, c, dr, q, hP, hX, hY⟩ := I
  refine xl_addMany (fun h => yl_addMany (fun _ => ⟨rfl, I'⟩) (fun s hs e _ => absurd e (h s hs)) (fun s m hs _ _ e _ => absurd e (h s hs)))
    (fun s hs e h => yl_addMany (fun h' => absurd e (h' s hs)) (fun _ _ _ _ => ⟨rfl, I'⟩) (fun _ m _ h1 h2 _ e2 => absurd e2 (h m h1 h2)))
    (fun s m hs h1 h2 e1 e2 => ?_)
  obtain ⟨r, ad', lv', c', hP', hXr, hYr⟩ := am_iter (dr := dr) (q := q) (cnt := m) hs h2 m 0 ad lv c (by omega) hP
  refine hXr _ 25 u (by omega) hX (fun u' hX' => yl_addMany (fun h' => absurd e1 (h' s hs)) (fun _ _ _ h => absurd e2 (h m h1 h2)) (fun s' m' hs' h1' h2' e1' e2' => ?_))
  have es := pu_nI (e1'.symm.trans e1) (by omega) (by omega)
  have em := pu_nI (e2'.symm.trans e2) (by omega) (by omega)
  subst es em
  exact hYr _ 25 v (by omega) hY (fun v' hY' => ⟨rfl, ad', lv', c', dr, q, hP', hX', hY'⟩)
theorem i_vc_delete {k : Nat} {u : SX} {v : SY} (I : i_Rel k u v) (hk : k + 3 ≤ 1536) (v1 : Int32) : wpX_delete (fun r u' => wpY_delete (fun r' v' => r' = r ∧ i_Rel (k + 3) u' v') v v1) u v1 := by
  have I' := i_up I
  obtain ⟨ad, lv, c, dr, q, hP, hX, hY⟩ := I
  refine xl_delete hP hX (fun h => yl_delete hY (fun _ => ⟨rfl, I'⟩) (fun d _ hd e hl _ => ?_)) (fun d u' hd e hl hX' => yl_delete hY (fun h => ?_) (fun d' v' hd' e' hl' hY' => ?_))
  · rw [h d hd e] at hl; exact absurd hl Bool.false_ne_true
  · rw [h d hd e] at hl; exact absurd hl Bool.false_ne_true
  · have ed := pu_nI (e'.symm.trans e) (by omega) (by omega)
    subst ed
    exact ⟨rfl, ad, _, c, dr, q, rr_P_del hP d', hX', hY'⟩
theorem i_vc_tidy {k : Nat} {u : SX} {v : SY} (I : i_Rel k u v) (hk : k + 3 ≤ 1536) : wpX_tidy (fun r u' => wpY_tidy (fun r' => r' = r ∧ i_Rel (k + 3) u' v) v) u := by
  obtain ⟨ad, lv, c, dr, q, hP, hX, hY⟩ := I
  exact xl_tidy hP hX (fun u' hX' => yl_tidy hY ⟨rfl, ad, lv, c, dr, q, hP, hX', hY⟩)
theorem i_vc_live {k : Nat} {u : SX} {v : SY} (I : i_Rel k u v) (hk : k + 3 ≤ 1536) : wpX_live (fun r => wpY_live (fun r' => r' = r ∧ i_Rel (k + 3) u v) v) u := by
  have I' := i_up I
  obtain ⟨ad, lv, c, dr, q, hP, hX, hY⟩ := I
  exact xl_live hP hX (yl_live hY ⟨rfl, I'⟩)
theorem i_vc_times {k : Nat} {u : SX} {v : SY} (I : i_Rel k u v) (hk : k + 3 ≤ 1536) (v1 : Int32) (v2 : Int32) : wpX_times (fun r => wpY_times (fun r' => r' = r ∧ i_Rel (k + 3) u v) v v1 v2) u v1 v2 := by
  have I' := i_up I
  obtain ⟨ad, lv, c, dr, q, hP, hX, hY⟩ := I
  refine xl_times hP hX (fun h => yl_times hY (fun _ => ⟨rfl, I'⟩) (fun t ht e _ => absurd e (h t ht)) (fun t _ ht _ e _ _ => absurd e (h t ht)))
    (fun t ht e h => yl_times hY (fun h' => absurd e (h' t ht)) (fun _ _ _ _ => ⟨rfl, I'⟩) (fun _ d _ hd _ e2 hl => ?_))
    (fun t d ht hd e e2 hl => yl_times hY (fun h' => absurd e (h' t ht)) (fun _ _ _ h => ?_) (fun t' d' ht' hd' e' e2' _ => ?_))
  · rw [h d hd e2] at hl; exact absurd hl Bool.false_ne_true
  · rw [h d hd e2] at hl; exact absurd hl Bool.false_ne_true
  · have et := pu_nI (e'.symm.trans e) (by omega) (by omega)
    have ed := pu_nI (e2'.symm.trans e2) (by omega) (by omega)
    subst et ed
    exact ⟨rfl, I'⟩
theorem i_vc_spread {k : Nat} {u : SX} {v : SY} (I : i_Rel k u v) (hk : k + 3 ≤ 1536) (v1 : Int32) : wpX_spread (fun r => wpY_spread (fun r' => r' = r ∧ i_Rel (k + 3) u v) v v1) u v1 := by
  have I' := i_up I
  obtain ⟨ad, lv, c, dr, q, hP, hX, hY⟩ := I
  refine xl_spread hP hX (fun h => yl_spread hP hY (fun _ => ⟨rfl, I'⟩) (fun t ht e => absurd e (h t ht))) (fun t ht e => yl_spread hP hY (fun h => absurd e (h t ht)) (fun t' ht' e' => ?_))
  have et := pu_nI (e'.symm.trans e) (by omega) (by omega)
  subst et
  exact ⟨rfl, I'⟩
theorem i_vc_item {k : Nat} {u : SX} {v : SY} (I : i_Rel k u v) (hk : k + 3 ≤ 1536) (v1 : Int32) (v2 : Int32) : wpX_item (fun r u' => wpY_item (fun r' v' => r' = r ∧ i_Rel (k + 3) u' v') v v1 v2) u v1 v2 := by
  have I' := i_up I
  obtain ⟨ad, lv, c, dr, q, hP, hX, hY⟩ := I
  have A1 : ∀ {t t' : Nat}, t < 8 → t' < 8 → v1 = nI t → v1 = nI t' → t' = t := fun h1 h2 e e' => pu_nI (e'.symm.trans e) (by omega) (by omega)
  have A2 : ∀ {b b' : Nat}, b ≤ 19 → b' ≤ 19 → v2 = nI b → v2 = nI b' → b' = b := fun h1 h2 e e' => pu_nI (e'.symm.trans e) (by omega) (by omega)
  refine xl_item hX (fun h => yl_item hP hY (fun _ => ⟨rfl, I'⟩) (fun t ht e _ => absurd e (h t ht)) (fun t _ ht _ _ e _ _ _ => absurd e (h t ht)) (fun t _ _ ht _ _ e _ _ _ => absurd e (h t ht)))
    (fun t ht e h => yl_item hP hY (fun h' => absurd e (h' t ht)) (fun _ _ _ _ => ⟨rfl, I'⟩) (fun _ b _ hb hb10 _ e2 _ _ => absurd e2 (h b hb hb10)) (fun _ b _ _ hb hb10 _ e2 _ _ => absurd e2 (h b hb hb10)))
    (fun t b ht hb hb10 e1 e2 hq hc => yl_item hP hY (fun h' => absurd e1 (h' t ht)) (fun _ _ _ h => absurd e2 (h b hb hb10)) (fun _ _ _ _ _ _ _ _ _ => ⟨rfl, I'⟩) (fun t' b' v' ht' _ _ e1' _ hor _ => ?_))
    (fun t b u' ht hb hb10 e1 e2 hor hX' => yl_item hP hY (fun h' => absurd e1 (h' t ht)) (fun _ _ _ h => absurd e2 (h b hb hb10)) (fun t' b' ht' _ _ e1' _ hq hc => ?_) (fun t' b' v' ht' hb' _ e1' e2' _ hY' => ?_))
  · rw [A1 ht ht' e1 e1'] at hor
    omega
  · rw [A1 ht ht' e1 e1'] at hq
    omega
  · have et := A1 ht ht' e1 e1'
    have eb := A2 hb hb' e2 e2'
    subst et eb
    exact ⟨rfl, ad, lv, c, dr, _, rr_P_q hP (pu_q_put hP.2.2.2.2 (by omega)), hX', hY'⟩
theorem i_vc_drop {k : Nat} {u : SX} {v : SY} (I : i_Rel k u v) (hk : k + 3 ≤ 1536) (v1 : Int32) : wpX_drop (fun r u' => wpY_drop (fun r' v' => r' = r ∧ i_Rel (k + 3) u' v') v v1) u v1 := by
  have I' := i_up I
  obtain ⟨ad, lv, c, dr, q, hP, hX, hY⟩ := I
  refine xl_drop hX (fun h => yl_drop hP hY (fun _ => ⟨rfl, I'⟩) (fun t _ ht e hq _ => ?_)) (fun t u' ht e hq hX' => yl_drop hP hY (fun h => ?_) (fun t' v' ht' e' _ hY' => ?_))
  · have := h t ht e
    omega
  · have := h t ht e
    omega
  · have et := pu_nI (e'.symm.trans e) (by omega) (by omega)
    subst et
    exact ⟨rfl, ad, lv, c, dr, _, rr_P_q hP (pu_q_put hP.2.2.2.2 (by omega)), hX', hY'⟩
theorem i_vc_matching {k : Nat} {u : SX} {v : SY} (I : i_Rel k u v) (hk : k + 3 ≤ 1536) : wpX_matching (fun r => wpY_matching (fun r' => r' = r ∧ i_Rel (k + 3) u v) v) u := by
  have I' := i_up I
  obtain ⟨ad, lv, c, dr, q, hP, hX, hY⟩ := I
  exact xl_matching hP hX (yl_matching hP hY ⟨rfl, I'⟩)
theorem i_vc_score {k : Nat} {u : SX} {v : SY} (I : i_Rel k u v) (hk : k + 3 ≤ 1536) (v1 : Int32) : wpX_score (fun r u' => wpY_score (fun r' => r' = r ∧ i_Rel (k + 3) u' v) v v1) u v1 := by
  have I' := i_up I
  obtain ⟨ad, lv, c, dr, q, hP, hX, hY⟩ := I
  refine xl_score hP hX (fun h => yl_score hP hY (fun _ => ⟨rfl, I'⟩) (fun d hd e hl => ?_)) (fun d u' hd e hl hX' => yl_score hP hY (fun h => ?_) (fun d' hd' e' _ => ?_))
  · rw [h d hd e] at hl; exact absurd hl Bool.false_ne_true
  · rw [h d hd e] at hl; exact absurd hl Bool.false_ne_true
  · have ed := pu_nI (e'.symm.trans e) (by omega) (by omega)
    subst ed
    exact ⟨rfl, ad, lv, c, dr, q, hP, hX', hY⟩
theorem i_vc_ranked {k : Nat} {u : SX} {v : SY} (I : i_Rel k u v) (hk : k + 3 ≤ 1536) (v1 : Int32) : wpX_ranked (fun r u' => wpY_ranked (fun r' => r' = r ∧ i_Rel (k + 3) u' v) v v1) u v1 := by
  have I' := i_up I
  obtain ⟨ad, lv, c, dr, q, hP, hX, hY⟩ := I
  refine xl_ranked hP hX (fun h => yl_ranked hP hY (fun _ => ⟨rfl, I'⟩) (fun p _ hp e _ _ _ => absurd e (h p hp)) (fun p hp e _ => absurd e (h p hp)))
    (fun p fo bd u' hlt hp e htop hX' => yl_ranked hP hY (fun h => absurd e (h p hp)) (fun p' d hp' e' hd hM ha => ?_) (fun p' hp' e' hno => ?_))
    (fun p fo bd u' hge hp e htop hX' => yl_ranked hP hY (fun h => absurd e (h p hp)) (fun p' d hp' e' hd hM ha => ?_) (fun _ _ _ _ => ⟨rfl, ad, lv, c, dr, q, hP, hX', hY⟩))
  · have ep := pu_nI (e'.symm.trans e) (by omega) (by omega)
    subst ep
    rw [pu_top_yes htop hlt hd hM ha]
    exact ⟨rfl, ad, lv, c, dr, q, hP, hX', hY⟩
  · have ep := pu_nI (e'.symm.trans e) (by omega) (by omega)
    subst ep
    obtain ⟨g1, g2, g3⟩ := htop.2.1 p' hlt
    exact absurd g3 (hno (bd p') g1 g2)
  · have ep := pu_nI (e'.symm.trans e) (by omega) (by omega)
    subst ep
    exact absurd ha (pu_top_no htop hge hp hd hM)
theorem i_vc_rankedScore {k : Nat} {u : SX} {v : SY} (I : i_Rel k u v) (hk : k + 3 ≤ 1536) (v1 : Int32) : wpX_rankedScore (fun r u' => wpY_rankedScore (fun r' => r' = r ∧ i_Rel (k + 3) u' v) v v1) u v1 := by
  have I' := i_up I
  obtain ⟨ad, lv, c, dr, q, hP, hX, hY⟩ := I
  refine xl_rankedScore hP hX (fun h => yl_rankedScore hP hY (fun _ => ⟨rfl, I'⟩) (fun p _ hp e _ _ _ => absurd e (h p hp)) (fun p hp e _ => absurd e (h p hp)))
    (fun p fo bd u' hlt hp e htop hX' => yl_rankedScore hP hY (fun h => absurd e (h p hp)) (fun p' d hp' e' hd hM ha => ?_) (fun p' hp' e' hno => ?_))
    (fun p fo bd u' hge hp e htop hX' => yl_rankedScore hP hY (fun h => absurd e (h p hp)) (fun p' d hp' e' hd hM ha => ?_) (fun _ _ _ _ => ⟨rfl, ad, lv, c, dr, q, hP, hX', hY⟩))
  · have ep := pu_nI (e'.symm.trans e) (by omega) (by omega)
    subst ep
    rw [pu_top_yes htop hlt hd hM ha]
    exact ⟨rfl, ad, lv, c, dr, q, hP, hX', hY⟩
  · have ep := pu_nI (e'.symm.trans e) (by omega) (by omega)
    subst ep
    obtain ⟨g1, g2, g3⟩ := htop.2.1 p' hlt
    exact absurd g3 (hno (bd p') g1 g2)
  · have ep := pu_nI (e'.symm.trans e) (by omega) (by omega)
    subst ep
    exact absurd ha (pu_top_no htop hge hp hd hM)
theorem i_vc_scoring {k : Nat} {u : SX} {v : SY} (I : i_Rel k u v) (hk : k + 3 ≤ 1536) (v1 : Int32) : wpX_scoring (fun r u' => wpY_scoring (fun r' => r' = r ∧ i_Rel (k + 3) u' v) v v1) u v1 := by
  obtain ⟨ad, lv, c, dr, q, hP, hX, hY⟩ := I
  exact xl_scoring hP hX (fun u' hX' => yl_scoring hP hY ⟨rfl, ad, lv, c, dr, q, hP, hX', hY⟩)
end
