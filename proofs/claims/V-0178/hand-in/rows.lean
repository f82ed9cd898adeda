section
/-! pure rows to paste: stores, nI and lN arithmetic, masks, shifts, narrowing, branches by naturals (pk_le, pk_lt, pk_eq), loops (lp1 .. lp16: the measure of the state; rp1 ..: recursion), negatives. Take what you need -/
theorem pk_us {f : Nat → Int32} {k : Nat} {x : Int32} : upd f k x k = x := if_pos rfl
theorem pk_un {f : Nat → Int32} {k j : Nat} {x : Int32} (h : j ≠ k) : upd f k x j = f j := if_neg h
theorem pk_sub {a b : Nat} (h : b ≤ a) : nI a - nI b = nI (a - b) := by
  obtain ⟨c, rfl⟩ : ∃ c, a = c + b := ⟨a - b, by omega⟩
  rw [← nI_add, Int32.add_sub_cancel, Nat.add_sub_cancel]
theorem pk_m1 (n : Nat) : nI (n + 1) + (-1) = nI n := by
  rw [← nI_1, Int32.add_assoc, show (1 : Int32) + (-1) = 0 from rfl, Int32.add_zero]
theorem pk_mul (a b : Nat) : nI a * nI b = nI (a * b) := (Int32.ofNat_mul a b).symm
theorem pk_div {a d : Nat} (ha : a < 2 ^ 31) (h0 : 0 < d) (hd : d < 2 ^ 31) : nI a / nI d = nI (a / d) := by
  apply Int32.toInt_inj.mp
  rw [lg_idiv_nonneg (by rw [nI_toInt ha]; omega) (by rw [nI_toInt hd]; omega), nI_toInt ha, nI_toInt hd, nI_toInt (Nat.lt_of_le_of_lt (Nat.div_le_self a d) ha)]
  first | rfl | exact (Int.natCast_ediv _ _).symm
theorem pk_rem {a d : Nat} (ha : a < 2 ^ 31) (h0 : 0 < d) (hd : d < 2 ^ 31) : nI a - nI a / nI d * nI d = nI (a % d) := by
  rw [pk_div ha h0 hd, pk_mul, pk_sub (Nat.div_mul_le_self a d)]
  exact congrArg nI (by have := Nat.div_add_mod' a d; omega)
theorem pk_sub_toInt {a b : Nat} (ha : a < 2 ^ 30) (hb : b < 2 ^ 30) : (nI a - nI b).toInt = (a : Int) - b := by
  rw [Int32.toInt_sub, nI_toInt (by omega), nI_toInt (by omega)]
  exact Int.bmod_eq_of_le (by omega) (by omega)
theorem pk_sneg {a b : Nat} (hb : b < 2 ^ 30) (h : a < b) : nI a - nI b < 0 := by
  rw [Int32.lt_iff_toInt_lt, pk_sub_toInt (by omega) hb, show (0 : Int32).toInt = 0 from by decide]
  omega
theorem pk_ix (x : Int32) {n : Nat} (hn : n < 2 ^ 31) : x < 0 ∨ nI n ≤ x ∨ ∃ j : Nat, j < n ∧ x = nI j := by
  by_cases h : x < 0
  · exact Or.inl h
  · obtain ⟨j, hj, rfl⟩ := nI_of h
    by_cases h2 : j < n
    · exact Or.inr (Or.inr ⟨j, h2, rfl⟩)
    · exact Or.inr (Or.inl (nI_le (by omega) hj))
theorem pk_le {x y : Int32} {A B : Prop} (a b : Nat) (f : a ≤ b → A) (g : b < a → B) (hx : x = nI a := by rfl) (hy : y = nI b := by rfl) (ha : a < 2 ^ 31 := by omega) (hb : b < 2 ^ 31 := by omega) : (x ≤ y → A) ∧ (¬ x ≤ y → B) := by
  subst hx hy
  rw [nI_leI ha hb]
  exact ⟨f, fun z => g (by omega)⟩
theorem pk_lt {x y : Int32} {A B : Prop} (a b : Nat) (f : a < b → A) (g : b ≤ a → B) (hx : x = nI a := by rfl) (hy : y = nI b := by rfl) (ha : a < 2 ^ 31 := by omega) (hb : b < 2 ^ 31 := by omega) : (x < y → A) ∧ (¬ x < y → B) := by
  subst hx hy
  rw [nI_ltI ha hb]
  exact ⟨f, fun z => g (by omega)⟩
theorem pk_eq {x y : Int32} {A B : Prop} (a b : Nat) (f : a = b → A) (g : a ≠ b → B) (hx : x = nI a := by rfl) (hy : y = nI b := by rfl) (ha : a < 2 ^ 31 := by omega) (hb : b < 2 ^ 31 := by omega) : (x = y → A) ∧ (¬ x = y → B) := by
  subst hx hy
  rw [nI_eq ha hb]
  exact ⟨f, g⟩
theorem pk_in {x : Int32} (n N : Nat) (h : n < N) (hx : x = nI n := by rfl) (hN : N < 2 ^ 31 := by omega) : vp_in x N := by
  subst hx
  exact vp_in_nI h hN
theorem pk_cl {x : Int32} (n : Nat) (hx : x = nI n := by rfl) (h : n < 2 ^ 31 := by omega) : x.toNatClampNeg = n := by
  subst hx
  exact nI_clamp h
theorem pk_tn {n : Nat} (h : n < 2 ^ 32) : (nI n).toBitVec.toNat = n := Nat.mod_eq_of_lt h
theorem pk_and (x : Int32) {m : Int32} (k : Nat) (hm : m.toBitVec.toNat = 2 ^ k - 1) : x &&& m = nI (x.toBitVec.toNat % 2 ^ k) := by
  apply Int32.toBitVec_inj.mp
  apply BitVec.eq_of_toNat_eq
  rw [Int32.toBitVec_and, BitVec.toNat_and, hm, Nat.and_two_pow_sub_one_eq_mod]
  show _ = (BitVec.ofNat 32 _).toNat
  rw [BitVec.toNat_ofNat]
  exact (Nat.mod_eq_of_lt (Nat.lt_of_le_of_lt (Nat.mod_le _ _) x.toBitVec.isLt)).symm
theorem pk_andN {n : Nat} (h : n < 2 ^ 32) {m : Int32} (k : Nat) (hm : m.toBitVec.toNat = 2 ^ k - 1) : nI n &&& m = nI (n % 2 ^ k) := by
  rw [pk_and _ k hm, pk_tn h]
theorem pk_andE (x : Int32) {m : Int32} (k : Nat) (hm : m.toBitVec.toNat = 2 ^ k - 1) : ∃ j : Nat, j < 2 ^ k ∧ x &&& m = nI j := ⟨_, Nat.mod_lt _ (Nat.two_pow_pos k), pk_and x k hm⟩
theorem pk_andIn (x : Int32) {m : Int32} (k : Nat) (hm : m.toBitVec.toNat = 2 ^ k - 1) (hk : k ≤ 30) : vp_in (x &&& m) (2 ^ k) := by
  obtain ⟨j, hj, e⟩ := pk_andE x k hm
  rw [e]
  exact vp_in_nI hj (Nat.lt_of_le_of_lt (Nat.pow_le_pow_right (by decide) hk) (by decide))
theorem pk_shl (a s : Int32) (k : Nat) (hs : (s.toBitVec.smod 32).toNat = k) : (a <<< s).toBitVec.toNat = a.toBitVec.toNat * 2 ^ k % 2 ^ 32 := by
  show (a.toBitVec <<< (s.toBitVec.smod 32).toNat).toNat = _
  rw [hs, BitVec.toNat_shiftLeft, Nat.shiftLeft_eq]
theorem pk_shlN {n : Nat} (s : Int32) (k : Nat) (hs : (s.toBitVec.smod 32).toNat = k) (h : n * 2 ^ k < 2 ^ 32) : nI n <<< s = nI (n * 2 ^ k) := by
  apply Int32.toBitVec_inj.mp
  apply BitVec.eq_of_toNat_eq
  have hn : n < 2 ^ 32 := Nat.lt_of_le_of_lt (Nat.le_mul_of_pos_right n (Nat.two_pow_pos k)) h
  rw [pk_shl _ _ k hs, pk_tn hn, pk_tn h, Nat.mod_eq_of_lt h]
theorem pk_shr (a s : Int32) (k : Nat) (hs : (s.toBitVec.smod 32).toNat = k) : (a >>> s).toInt = a.toInt >>> k := by
  show (a.toBitVec.sshiftRight (s.toBitVec.smod 32).toNat).toInt = _
  rw [hs, BitVec.toInt_sshiftRight]
  rfl
theorem pk_shrN {n : Nat} (h : n < 2 ^ 31) (s : Int32) (k : Nat) (hs : (s.toBitVec.smod 32).toNat = k) : nI n >>> s = nI (n / 2 ^ k) := by
  apply Int32.toInt_inj.mp
  have h2 : n / 2 ^ k ≤ n := Nat.div_le_self _ _
  rw [pk_shr _ _ k hs, nI_toInt h, nI_toInt (by omega), Int.shiftRight_eq_div_pow]
  rfl
theorem pk_ushr (x s : Int32) (k : Nat) (hs : ((s.toUInt32 &&& Int32.toUInt32 31).toBitVec % 32).toNat = k) : (x.toUInt32 >>> (s.toUInt32 &&& Int32.toUInt32 31)).toInt32.toBitVec.toNat = x.toBitVec.toNat / 2 ^ k := by
  have e : (x.toUInt32 >>> (s.toUInt32 &&& Int32.toUInt32 31)).toInt32.toBitVec = x.toBitVec >>> k := by
    rw [← hs]
    exact UInt32.toBitVec_shiftRight _ _
  rw [e, BitVec.toNat_ushiftRight, Nat.shiftRight_eq_div_pow]
theorem pk_ushrN {n : Nat} (hn : n < 2 ^ 32) (s : Int32) (k : Nat) (hs : ((s.toUInt32 &&& Int32.toUInt32 31).toBitVec % 32).toNat = k) : ((nI n).toUInt32 >>> (s.toUInt32 &&& Int32.toUInt32 31)).toInt32 = nI (n / 2 ^ k) := by
  apply Int32.toBitVec_inj.mp
  apply BitVec.eq_of_toNat_eq
  rw [pk_ushr _ s k hs, pk_tn hn, pk_tn (Nat.lt_of_le_of_lt (Nat.div_le_self _ _) hn)]
theorem sn_3 (a b : Nat) : nI a * 3 + nI b = nI (a * 3 + b) := by rw [show (3 : Int32) = nI 3 from rfl, pk_mul, nI_add]
theorem sn_21 (a b : Nat) : nI a * 21 + nI b = nI (a * 21 + b) := by rw [show (21 : Int32) = nI 21 from rfl, pk_mul, nI_add]
theorem sn_120 (a b : Nat) : nI a * 120 + nI b = nI (a * 120 + b) := by rw [show (120 : Int32) = nI 120 from rfl, pk_mul, nI_add]
theorem sn_121 (a b : Nat) : nI a * 121 + nI b = nI (a * 121 + b) := by rw [show (121 : Int32) = nI 121 from rfl, pk_mul, nI_add]
theorem sn_m21 (a : Nat) : nI a * 21 = nI (a * 21) := by rw [show (21 : Int32) = nI 21 from rfl, pk_mul]
theorem sn_m120 (a : Nat) : nI a * 120 = nI (a * 120) := by rw [show (120 : Int32) = nI 120 from rfl, pk_mul]
theorem sn_m121 (a : Nat) : nI a * 121 = nI (a * 121) := by rw [show (121 : Int32) = nI 121 from rfl, pk_mul]
theorem sn_m8 (a : Nat) : nI a * 8 = nI (a * 8) := by rw [show (8 : Int32) = nI 8 from rfl, pk_mul]
/-- the reference's number of a message: -1 for the root (0), its fact's index otherwise -/
def sw_mI (m : Nat) : Int32 := nI m - 1
theorem sw_mI_0 : sw_mI 0 = -1 := by decide
theorem sw_mI_s (m : Nat) : sw_mI (m + 1) = nI m := nI_pred m
theorem sw_mI_p {m : Nat} (h : 1 ≤ m) : sw_mI m = nI (m - 1) := by
  obtain ⟨k, rfl⟩ : ∃ k, m = k + 1 := ⟨m - 1, by omega⟩
  rw [sw_mI_s]; rfl
theorem sw_mI_toInt {m : Nat} (h : m < 2 ^ 31) : (sw_mI m).toInt = (m : Int) - 1 := by
  cases m with
  | zero => rw [sw_mI_0]; decide
  | succ k => rw [sw_mI_s, nI_toInt (by omega)]; omega
theorem sw_mI_eq {a b : Nat} (ha : a < 2 ^ 31) (hb : b < 2 ^ 31) : sw_mI a = sw_mI b ↔ a = b := by
  rw [← Int32.toInt_inj, sw_mI_toInt ha, sw_mI_toInt hb]; omega
theorem sw_mI_neg {a : Nat} (ha : a < 2 ^ 31) : sw_mI a < 0 ↔ a = 0 := by
  rw [Int32.lt_iff_toInt_lt, sw_mI_toInt ha, Int32.toInt_zero]; omega
theorem sw_mI_pos {a : Nat} (ha : a < 2 ^ 31) : 0 ≤ sw_mI a ↔ 1 ≤ a := by
  rw [Int32.le_iff_toInt_le, sw_mI_toInt ha, Int32.toInt_zero]; omega
theorem sw_mI_120 (s : Nat) {m : Nat} (h : 1 ≤ m) : nI s * 120 + sw_mI m = nI (s * 120 + (m - 1)) := by
  rw [sw_mI_p h, sn_120]
theorem sw_mI_1 (m : Nat) : sw_mI m + 1 = nI m := by
  cases m with
  | zero => rw [sw_mI_0]; decide
  | succ k => rw [sw_mI_s, nI_1]
theorem sn_neg1 : ¬ (0 : Int32) ≤ -1 := by decide
theorem sn_br {c c' A B : Prop} (e : c ↔ c') (f : c' → A) (g : ¬ c' → B) : (c → A) ∧ (¬ c → B) := ⟨fun h => f (e.mp h), fun h => g (fun k => h (e.mpr k))⟩
end
section
/-! a store's lists, by the parents p and the fields q of the ids 1 .. n -/
def sw_up (f : Nat → Nat) (k x : Nat) : Nat → Nat := fun j => if j = k then x else f j
theorem sw_us {f : Nat → Nat} {k x : Nat} : sw_up f k x k = x := if_pos rfl
theorem sw_un {f : Nat → Nat} {k j x : Nat} (h : j ≠ k) : sw_up f k x j = f j := if_neg h
def sw_L (p q : Nat → Nat) (m f : Nat) : Nat → List Nat
  | 0 => []
  | n + 1 => if p (n + 1) = m ∧ q (n + 1) = f then sw_L p q m f n ++ [n + 1] else sw_L p q m f n
section
variable {p q p' q' : Nat → Nat} {m f n j : Nat}
theorem sw_mem : j ∈ sw_L p q m f n ↔ 1 ≤ j ∧ j ≤ n ∧ p j = m ∧ q j = f := by
  induction n with
  | zero => simp only [sw_L, List.not_mem_nil, false_iff]; omega
  | succ n ih =>
    unfold sw_L
    by_cases h : p (n + 1) = m ∧ q (n + 1) = f
    · rw [if_pos h, List.mem_append, ih, List.mem_singleton]
      constructor
      · intro h1
        rcases h1 with h1 | h1
        · exact ⟨h1.1, by omega, h1.2.2⟩
        · subst h1; exact ⟨by omega, Nat.le_refl _, h⟩
      · intro h1
        by_cases e : j = n + 1
        · exact Or.inr e
        · exact Or.inl ⟨h1.1, by omega, h1.2.2⟩
    · rw [if_neg h, ih]
      constructor
      · intro h1; exact ⟨h1.1, by omega, h1.2.2⟩
      · intro h1
        have : j ≠ n + 1 := by intro e; subst e; exact h h1.2.2
        exact ⟨h1.1, by omega, h1.2.2⟩
theorem sw_srt : (sw_L p q m f n).Pairwise (· < ·) := by
  induction n with
  | zero => exact List.Pairwise.nil
  | succ n ih =>
    unfold sw_L
    by_cases h : p (n + 1) = m ∧ q (n + 1) = f
    · rw [if_pos h, List.pairwise_append]
      refine ⟨ih, List.pairwise_singleton _ _, fun a ha b hb => ?_⟩
      rw [List.mem_singleton] at hb
      have := (sw_mem.mp ha).2.1
      omega
    · rw [if_neg h]; exact ih
theorem sw_len : (sw_L p q m f n).length ≤ n := by
  induction n with
  | zero => exact Nat.le_refl _
  | succ n ih =>
    unfold sw_L
    by_cases h : p (n + 1) = m ∧ q (n + 1) = f
    · rw [if_pos h, List.length_append, List.length_singleton]; omega
    · rw [if_neg h]; omega
theorem sw_cong (h : ∀ j, 1 ≤ j → j ≤ n → p' j = p j ∧ q' j = q j) : sw_L p' q' m f n = sw_L p q m f n := by
  induction n with
  | zero => rfl
  | succ n ih =>
    unfold sw_L
    rw [ih (fun j a b => h j a (by omega)), (h (n + 1) (by omega) (Nat.le_refl _)).1, (h (n + 1) (by omega) (Nat.le_refl _)).2]
theorem sw_add (m' f' : Nat) : sw_L (sw_up p (n + 1) m) (sw_up q (n + 1) f) m' f' (n + 1) = if m = m' ∧ f = f' then sw_L p q m' f' n ++ [n + 1] else sw_L p q m' f' n := by
  rw [sw_L, sw_us, sw_us, sw_cong (p := p) (q := q)]
  intro j _ h
  exact ⟨sw_un (by omega), sw_un (by omega)⟩
theorem sw_add_s : sw_L (sw_up p (n + 1) m) (sw_up q (n + 1) f) m f (n + 1) = sw_L p q m f n ++ [n + 1] := by
  rw [sw_add, if_pos ⟨rfl, rfl⟩]
theorem sw_add_n {m' f' : Nat} (h : ¬ (m = m' ∧ f = f')) : sw_L (sw_up p (n + 1) m) (sw_up q (n + 1) f) m' f' (n + 1) = sw_L p q m' f' n := by
  rw [sw_add, if_neg h]
theorem sw_pre {a b : Nat} (h : a ≤ b) : ∃ l, sw_L p q m f b = sw_L p q m f a ++ l := by
  induction b with
  | zero => obtain rfl : a = 0 := by omega
            exact ⟨[], by rw [List.append_nil]⟩
  | succ b ih =>
    by_cases e : a = b + 1
    · subst e; exact ⟨[], by rw [List.append_nil]⟩
    · obtain ⟨l, hl⟩ := ih (by omega)
      rw [sw_L]
      by_cases h2 : p (b + 1) = m ∧ q (b + 1) = f
      · exact ⟨l ++ [b + 1], by rw [if_pos h2, hl, List.append_assoc]⟩
      · exact ⟨l, by rw [if_neg h2, hl]⟩
theorem sw_idx (h1 : 1 ≤ j) (hn : j ≤ n) : (sw_L p q (p j) (q j) n)[(sw_L p q (p j) (q j) (j - 1)).length]? = some j := by
  obtain ⟨l, hl⟩ := sw_pre (p := p) (q := q) (m := p j) (f := q j) hn
  obtain ⟨k, rfl⟩ : ∃ k, j = k + 1 := ⟨j - 1, by omega⟩
  have e : sw_L p q (p (k + 1)) (q (k + 1)) (k + 1) = sw_L p q (p (k + 1)) (q (k + 1)) k ++ [k + 1] := by
    rw [sw_L, if_pos ⟨rfl, rfl⟩]
  rw [hl, e, List.append_assoc, Nat.add_sub_cancel, List.getElem?_append_right (Nat.le_refl _), Nat.sub_self]
  rfl
end
theorem sw_nthinj {l : List Nat} (h : l.Pairwise (· < ·)) {i k x : Nat} (hi : l[i]? = some x) (hk : l[k]? = some x) : i = k := by
  rw [List.pairwise_iff_getElem] at h
  obtain ⟨a, ha⟩ := List.getElem?_eq_some_iff.mp hi
  obtain ⟨b, hb⟩ := List.getElem?_eq_some_iff.mp hk
  rcases Nat.lt_trichotomy i k with c | c | c
  · have := h i k a b c; omega
  · exact c
  · have := h k i b a c; omega
theorem sw_memnth {l : List Nat} {x : Nat} (h : x ∈ l) : ∃ i : Nat, l[i]? = some x := List.mem_iff_getElem?.mp h
theorem sw_nthmem {l : List Nat} {i x : Nat} (h : l[i]? = some x) : x ∈ l := List.mem_of_getElem? h
theorem sw_nthlt {l : List Nat} {i x : Nat} (h : l[i]? = some x) : i < l.length := (List.getElem?_eq_some_iff.mp h).1
theorem sw_nthex {l : List Nat} {i : Nat} (h : i < l.length) : ∃ x, l[i]? = some x := ⟨l[i], List.getElem?_eq_getElem h⟩
/-! different numbers below N are at most N -/
theorem sw_ph : ∀ (N n : Nat) (f : Nat → Nat), (∀ i, i < n → f i < N) → (∀ i j, i < n → j < n → f i = f j → i = j) → n ≤ N := by
  intro N
  induction N with
  | zero =>
    intro n f h _
    cases n with
    | zero => exact Nat.le_refl _
    | succ k => exact absurd (h 0 (by omega)) (by omega)
  | succ N ih =>
    intro n f h hi
    cases n with
    | zero => omega
    | succ k =>
      have := ih k (fun i => if f k < f i then f i - 1 else f i) (fun i hik => by
        have a := h i (by omega)
        have b := h k (by omega)
        have c : f i ≠ f k := fun e => by have := hi i k (by omega) (by omega) e; omega
        show (if f k < f i then f i - 1 else f i) < N
        split <;> omega) (fun i j a b e => by
        have e' : (if f k < f i then f i - 1 else f i) = (if f k < f j then f j - 1 else f j) := e
        have c : f i ≠ f k := fun e => by have := hi i k (by omega) (by omega) e; omega
        have c' : f j ≠ f k := fun e => by have := hi j k (by omega) (by omega) e; omega
        apply hi i j (by omega) (by omega)
        split at e' <;> split at e' <;> omega)
      omega
end
section
/-! renumberings of a store -/
def sw_Iso (n : Nat) (p q : Nat → Nat) (w : Nat → Int32) (n' : Nat) (p' q' : Nat → Nat) (w' : Nat → Int32) (s : Nat → Nat) : Prop :=
  s 0 = 0 ∧ (∀ m f, m ≤ n → sw_L p' q' (s m) f n' = (sw_L p q m f n).map s) ∧ (∀ j, j ≤ n → w' (s j) = w j)
/-- parents lie before their children -/
def sw_Up (n : Nat) (p : Nat → Nat) : Prop := ∀ j, 1 ≤ j → j ≤ n → p j < j
section
variable {n n' n2 : Nat} {p q p' q' p2 q2 : Nat → Nat} {w w' w2 : Nat → Int32} {s s' : Nat → Nat}
theorem sw_i1 (I : sw_Iso n p q w n' p' q' w' s) (U : sw_Up n p) {j : Nat} (h1 : 1 ≤ j) (h : j ≤ n) : 1 ≤ s j ∧ s j ≤ n' ∧ p' (s j) = s (p j) ∧ q' (s j) = q j := by
  have hm : s j ∈ sw_L p' q' (s (p j)) (q j) n' := by
    rw [I.2.1 (p j) (q j) (by have := U j h1 h; omega)]
    exact List.mem_map_of_mem (sw_mem.mpr ⟨h1, h, rfl, rfl⟩)
  exact sw_mem.mp hm
theorem sw_ile (I : sw_Iso n p q w n' p' q' w' s) (U : sw_Up n p) {j : Nat} (h : j ≤ n) : s j ≤ n' := by
  by_cases e : j = 0
  · subst e; rw [I.1]; omega
  · exact (sw_i1 I U (by omega) h).2.1
theorem sw_i0 (I : sw_Iso n p q w n' p' q' w' s) (U : sw_Up n p) {j : Nat} (h : j ≤ n) : s j = 0 ↔ j = 0 := by
  constructor
  · intro e
    by_cases z : j = 0
    · exact z
    · have := (sw_i1 I U (j := j) (by omega) h).1; omega
  · intro e; subst e; exact I.1
theorem sw_i2 (I : sw_Iso n p q w n' p' q' w' s) (U : sw_Up n p) : ∀ i j : Nat, i ≤ n → j ≤ n → s i = s j → i = j := by
  intro i
  induction i using Nat.strongRecOn with
  | ind i ih =>
    intro j hi hj e
    by_cases z : i = 0
    · subst z; rw [I.1] at e; exact ((sw_i0 I U hj).mp e.symm).symm
    · have zj : j ≠ 0 := fun z2 => z ((sw_i0 I U hi).mp (by rw [e, z2, I.1]))
      obtain ⟨a1, a2, a3, a4⟩ := sw_i1 I U (j := i) (by omega) hi
      obtain ⟨b1, b2, b3, b4⟩ := sw_i1 I U (j := j) (by omega) hj
      have ui := U i (by omega) hi
      have uj := U j (by omega) hj
      have ep : p i = p j := ih (p i) ui (p j) (by omega) (by omega) (by rw [← a3, ← b3, e])
      have eq : q i = q j := by rw [← a4, ← b4, e]
      obtain ⟨x, hx⟩ := sw_memnth (sw_mem.mpr ⟨(by omega : 1 ≤ i), hi, rfl, rfl⟩ : i ∈ sw_L p q (p i) (q i) n)
      obtain ⟨y, hy⟩ := sw_memnth (sw_mem.mpr ⟨(by omega : 1 ≤ j), hj, ep.symm, eq.symm⟩ : j ∈ sw_L p q (p i) (q i) n)
      have hl := I.2.1 (p i) (q i) (by omega)
      have hx' : (sw_L p' q' (s (p i)) (q i) n')[x]? = some (s i) := by rw [hl, List.getElem?_map, hx]; rfl
      have hy' : (sw_L p' q' (s (p i)) (q i) n')[y]? = some (s i) := by rw [hl, List.getElem?_map, hy, e]; rfl
      have := sw_nthinj sw_srt hx' hy'
      subst this
      exact Option.some.inj (hx.symm.trans hy)
theorem sw_i3 (I : sw_Iso n p q w n' p' q' w' s) (U' : sw_Up n' p') : ∀ j : Nat, j ≤ n' → ∃ i, i ≤ n ∧ s i = j := by
  intro j
  induction j using Nat.strongRecOn with
  | ind j ih =>
    intro hj
    by_cases z : j = 0
    · exact ⟨0, by omega, by rw [z, I.1]⟩
    · have u := U' j (by omega) hj
      obtain ⟨m, hm, em⟩ := ih (p' j) u (by omega)
      have hmem : j ∈ sw_L p' q' (s m) (q' j) n' := sw_mem.mpr ⟨by omega, hj, em.symm, rfl⟩
      rw [I.2.1 m (q' j) hm] at hmem
      obtain ⟨i, hi, e⟩ := List.mem_map.mp hmem
      exact ⟨i, (sw_mem.mp hi).2.1, e⟩
theorem sw_in (I : sw_Iso n p q w n' p' q' w' s) (U : sw_Up n p) (U' : sw_Up n' p') : n = n' := by
  have a : n + 1 ≤ n' + 1 := sw_ph (n' + 1) (n + 1) s (fun i h => by have := sw_ile I U (j := i) (by omega); omega)
    (fun i j hi hj e => sw_i2 I U i j (by omega) (by omega) e)
  have hc : ∀ j : Nat, ∃ i, j ≤ n' → i ≤ n ∧ s i = j := by
    intro j
    by_cases h : j ≤ n'
    · obtain ⟨i, hi⟩ := sw_i3 I U' j h; exact ⟨i, fun _ => hi⟩
    · exact ⟨0, fun z => absurd z h⟩
  have b : n' + 1 ≤ n + 1 := sw_ph (n + 1) (n' + 1) (fun j => (hc j).choose) (fun i h => by
      have := ((hc i).choose_spec (by omega)).1
      show (hc i).choose < n + 1
      exact Nat.lt_succ_of_le this)
    (fun i j hi hj e => by
      have e' : (hc i).choose = (hc j).choose := e
      have x := ((hc i).choose_spec (by omega)).2
      have y := ((hc j).choose_spec (by omega)).2
      rw [e'] at x
      exact x.symm.trans y)
  omega
theorem sw_irefl : sw_Iso n p q w n p q w (fun j => j) := ⟨rfl, fun m f _ => by rw [List.map_id'], fun _ _ => rfl⟩
theorem sw_itrans (I : sw_Iso n p q w n' p' q' w' s) (U : sw_Up n p) (J : sw_Iso n' p' q' w' n2 p2 q2 w2 s') : sw_Iso n p q w n2 p2 q2 w2 (fun j => s' (s j)) := by
  refine ⟨by show s' (s 0) = 0; rw [I.1, J.1], fun m f hm => ?_, fun j hj => ?_⟩
  · rw [J.2.1 (s m) f (sw_ile I U hm), I.2.1 m f hm, List.map_map]; rfl
  · rw [J.2.2 (s j) (sw_ile I U hj), I.2.2 j hj]
theorem sw_isymm (I : sw_Iso n p q w n' p' q' w' s) (U : sw_Up n p) (U' : sw_Up n' p') : ∃ t, sw_Iso n' p' q' w' n p q w t := by
  have hc : ∀ j : Nat, ∃ i, j ≤ n' → i ≤ n ∧ s i = j := by
    intro j
    by_cases h : j ≤ n'
    · obtain ⟨i, hi⟩ := sw_i3 I U' j h; exact ⟨i, fun _ => hi⟩
    · exact ⟨0, fun z => absurd z h⟩
  refine ⟨fun j => (hc j).choose, ?_⟩
  have ht : ∀ j, j ≤ n' → (hc j).choose ≤ n ∧ s (hc j).choose = j := fun j h => (hc j).choose_spec h
  have hi : ∀ i, i ≤ n → (hc (s i)).choose = i := fun i h => by
    have := ht (s i) (sw_ile I U h)
    exact sw_i2 I U _ _ this.1 h this.2
  refine ⟨?_, fun m f hm => ?_, fun j hj => ?_⟩
  · have := hi 0 (by omega); rw [I.1] at this; exact this
  · have hx := ht m hm
    have e := I.2.1 (hc m).choose f hx.1
    rw [hx.2] at e
    rw [e, List.map_map]
    have : (sw_L p q (hc m).choose f n).map ((fun j => (hc j).choose) ∘ s) = (sw_L p q (hc m).choose f n).map (fun j => j) := by
      apply List.map_congr_left
      intro a ha
      exact hi a (sw_mem.mp ha).2.1
    rw [this, List.map_id']
  · have hx := ht j hj
    have := I.2.2 _ hx.1
    rw [hx.2] at this
    exact this.symm
/-- a new id at the end of one list, on both sides -/
theorem sw_iadd (I : sw_Iso n p q w n p' q' w' s) (U : sw_Up n p) (U' : sw_Up n p') {m f : Nat} (hm : m ≤ n) (x : Int32) :
    sw_Iso (n + 1) (sw_up p (n + 1) m) (sw_up q (n + 1) f) (upd w (n + 1) x) (n + 1) (sw_up p' (n + 1) (s m)) (sw_up q' (n + 1) f) (upd w' (n + 1) x) (sw_up s (n + 1) (n + 1)) := by
  have h0 : sw_up s (n + 1) (n + 1) 0 = 0 := by rw [sw_un (by omega), I.1]
  have hs : ∀ j, j ≤ n → sw_up s (n + 1) (n + 1) j = s j := fun j hj => sw_un (by omega)
  have hmap : ∀ m' f', (sw_L p q m' f' n).map (sw_up s (n + 1) (n + 1)) = (sw_L p q m' f' n).map s := fun m' f' =>
    List.map_congr_left (fun a ha => hs a (sw_mem.mp ha).2.1)
  refine ⟨h0, fun m' f' hm' => ?_, fun j hj => ?_⟩
  · by_cases e : m' = n + 1
    · subst e
      rw [sw_us, sw_add_n (by intro z; have := sw_ile I U hm; omega), sw_add_n (by omega)]
      have a : sw_L p' q' (n + 1) f' n = [] := by
        apply List.eq_nil_iff_forall_not_mem.mpr
        intro a ha
        have h := sw_mem.mp ha
        have := U' a h.1 h.2.1
        omega
      have b : sw_L p q (n + 1) f' n = [] := by
        apply List.eq_nil_iff_forall_not_mem.mpr
        intro a ha
        have h := sw_mem.mp ha
        have := U a h.1 h.2.1
        omega
      rw [a, b]; rfl
    · rw [hs m' (by omega), sw_add, sw_add]
      by_cases c : m = m' ∧ f = f'
      · obtain ⟨rfl, rfl⟩ := c
        rw [if_pos ⟨rfl, rfl⟩, if_pos ⟨rfl, rfl⟩, List.map_append, hmap, I.2.1 m f hm]
        show _ = _ ++ [sw_up s (n + 1) (n + 1) (n + 1)]
        rw [sw_us]
      · rw [if_neg c, if_neg (fun z => c ⟨sw_i2 I U m m' hm (by omega) z.1, z.2⟩), hmap, I.2.1 m' f' (by omega)]
  · by_cases e : j = n + 1
    · subst e; rw [sw_us, pk_us, pk_us]
    · have := sw_ile I U (j := j) (by omega)
      rw [hs j (by omega), pk_un (by omega), pk_un e, I.2.2 j (by omega)]
/-- a value set, on both sides -/
theorem sw_iset (I : sw_Iso n p q w n' p' q' w' s) (U : sw_Up n p) {j : Nat} (hj : j ≤ n) (x : Int32) :
    sw_Iso n p q (upd w j x) n' p' q' (upd w' (s j) x) s := by
  refine ⟨I.1, I.2.1, fun i hi => ?_⟩
  by_cases e : i = j
  · subst e; rw [pk_us, pk_us]
  · rw [pk_un e, pk_un (fun z => e (sw_i2 I U i j hi hj z)), I.2.2 i hi]
end
end
section
/-! schemas, kinds, well-formed stores, and how X's and Y's arrays hold them -/
def sw_sc (v : Nat) (w : Nat → Int32) (j : Nat) : Nat := v * 3 + (w j).toNatClampNeg
def sw_kd (K : Nat → Nat) (F s f : Nat) : Nat := if 1 ≤ f ∧ f ≤ F then K (s * 21 + f) else 0
/-- id j is a message -/
def sw_ms (K : Nat → Nat) (F v : Nat) (p q : Nat → Nat) (w : Nat → Int32) (j : Nat) : Prop := j = 0 ∨ 10 ≤ sw_kd K F (sw_sc v w (p j)) (q j)
def sw_WF (K : Nat → Nat) (C F D v n : Nat) (p q : Nat → Nat) (w : Nat → Int32) (d : Nat → Nat) : Prop :=
  n ≤ C ∧ v < 3 ∧ d 0 = 0 ∧
  (∀ j, 1 ≤ j → j ≤ n → p j < j ∧ q j ≤ F ∧ sw_ms K F v p q w (p j) ∧ d j = d (p j) + 1 ∧ (1 ≤ q j → 1 ≤ sw_kd K F (sw_sc v w (p j)) (q j))) ∧
  (∀ j, j ≤ n → sw_ms K F v p q w j → (∃ t, t < 3 ∧ w j = nI t ∧ (1 ≤ j → t = (sw_kd K F (sw_sc v w (p j)) (q j) - 10) % 3)) ∧ d j ≤ D)
/-- the constants of both objects -/
def sw_Cx (K : Nat → Nat) (C F D : Nat) (f_capacity f_maxField f_maxDepth : Int32) (a_kinds : Nat → Int32) : Prop :=
  16 ≤ C ∧ C ≤ 120 ∧ 4 ≤ F ∧ F ≤ 20 ∧ 1 ≤ D ∧ D ≤ 6 ∧ f_capacity = nI C ∧ f_maxField = nI F ∧ f_maxDepth = nI D ∧ (∀ i, i < 189 → K i ≤ 15 ∧ a_kinds i = nI (K i))
/-- X's store t holds the store -/
def sx_R (K : Nat → Nat) (F t v n : Nat) (p q : Nat → Nat) (w : Nat → Int32) (d : Nat → Nat) (a_items a_word a_next a_schemaOf a_parentOf a_depthOf a_head a_tail a_length : Nat → Int32) : Prop :=
  a_items t = nI n ∧
  (∀ j, j ≤ n → (sw_ms K F v p q w j → a_schemaOf (t * 121 + j) = nI (sw_sc v w j)) ∧ (¬ sw_ms K F v p q w j → a_schemaOf (t * 121 + j) = -1)) ∧
  (∀ j, 1 ≤ j → j ≤ n → ¬ sw_ms K F v p q w j → a_word (t * 121 + j) = w j) ∧
  (∀ m, m ≤ n → sw_ms K F v p q w m → a_parentOf (t * 121 + m) = (if m = 0 then -1 else nI (t * 121 + p m)) ∧ a_depthOf (t * 121 + m) = nI (d m)) ∧
  (∀ m f, m ≤ n → sw_ms K F v p q w m → f ≤ 20 →
    a_length ((t * 121 + m) * 21 + f) = nI (sw_L p q m f n).length ∧
    (∀ j, (sw_L p q m f n)[0]? = some j → a_head ((t * 121 + m) * 21 + f) = nI (t * 121 + j)) ∧
    (∀ j, (sw_L p q m f n).getLast? = some j → a_tail ((t * 121 + m) * 21 + f) = nI (t * 121 + j)) ∧
    (∀ i j k : Nat, (sw_L p q m f n)[i]? = some j → (sw_L p q m f n)[i + 1]? = some k → a_next (t * 121 + j) = nI (t * 121 + k)))
/-- what other stores hold lasts -/
def sx_Fr (K : Nat → Nat) (F t : Nat) (a_items a_word a_next a_schemaOf a_parentOf a_depthOf a_head a_tail a_length a_items' a_word' a_next' a_schemaOf' a_parentOf' a_depthOf' a_head' a_tail' a_length' : Nat → Int32) : Prop :=
  ∀ t2 v n : Nat, ∀ p q : Nat → Nat, ∀ w : Nat → Int32, ∀ d : Nat → Nat, t2 < 3 → t2 ≠ t → n ≤ 120 → sx_R K F t2 v n p q w d a_items a_word a_next a_schemaOf a_parentOf a_depthOf a_head a_tail a_length → sx_R K F t2 v n p q w d a_items' a_word' a_next' a_schemaOf' a_parentOf' a_depthOf' a_head' a_tail' a_length'
/-- Y's slot s holds the store -/
def sy_R (s v n : Nat) (p q : Nat → Nat) (w : Nat → Int32) (b_version b_type b_items b_parent b_field b_val : Nat → Int32) : Prop :=
  b_version s = nI v ∧ b_type s = w 0 ∧ b_items s = nI n ∧
  (∀ i, i < n → b_parent (s * 120 + i) = sw_mI (p (i + 1)) ∧ b_field (s * 120 + i) = nI (q (i + 1)) ∧ b_val (s * 120 + i) = w (i + 1))
section
variable {K : Nat → Nat} {C F D v n : Nat} {p q d : Nat → Nat} {w : Nat → Int32}
theorem sw_up_of (W : sw_WF K C F D v n p q w d) : sw_Up n p := fun j a b => (W.2.2.2.1 j a b).1
theorem sw_sc_lt (W : sw_WF K C F D v n p q w d) {j : Nat} (h : j ≤ n) (hm : sw_ms K F v p q w j) : sw_sc v w j < 9 ∧ ∃ t, t < 3 ∧ w j = nI t ∧ sw_sc v w j = v * 3 + t := by
  obtain ⟨⟨t, ht, e, _⟩, _⟩ := W.2.2.2.2 j h hm
  have hv := W.2.1
  have e2 : sw_sc v w j = v * 3 + t := by rw [sw_sc, e, nI_clamp (by omega)]
  exact ⟨by omega, t, ht, e, e2⟩
theorem sw_kd_le {s f : Nat} (hK : ∀ i, i < 189 → K i ≤ 15) (hF : F ≤ 20) (hs : s < 9) : sw_kd K F s f ≤ 15 := by
  unfold sw_kd
  split
  · exact hK _ (by omega)
  · omega
theorem sw_kd_in {s f : Nat} (h1 : 1 ≤ f) (h2 : f ≤ F) : sw_kd K F s f = K (s * 21 + f) := if_pos ⟨h1, h2⟩
theorem sw_kd_out {s f : Nat} (h : ¬ (1 ≤ f ∧ f ≤ F)) : sw_kd K F s f = 0 := if_neg h
theorem sw_d_le (W : sw_WF K C F D v n p q w d) : ∀ j, j ≤ n → d j ≤ j := by
  intro j
  induction j using Nat.strongRecOn with
  | ind j ih =>
    intro h
    by_cases z : j = 0
    · subst z; rw [W.2.2.1]; omega
    · have a := W.2.2.2.1 j (by omega) h
      have := ih (p j) a.1 (by omega)
      have := a.2.2.2.1
      omega
theorem sw_ms0 : sw_ms K F v p q w 0 := Or.inl rfl
/-- no list without a kind -/
theorem sw_nok (W : sw_WF K C F D v n p q w d) {m f : Nat} (hf : 1 ≤ f) (hk : sw_kd K F (sw_sc v w m) f = 0) : sw_L p q m f n = [] := by
  apply List.eq_nil_iff_forall_not_mem.mpr
  intro a ha
  obtain ⟨h1, h2, e1, e2⟩ := sw_mem.mp ha
  have := (W.2.2.2.1 a h1 h2).2.2.2.2 (by omega)
  rw [e1, e2, hk] at this
  omega
theorem sw_nof (W : sw_WF K C F D v n p q w d) {m f : Nat} (hf : F < f) : sw_L p q m f n = [] := by
  apply List.eq_nil_iff_forall_not_mem.mpr
  intro a ha
  obtain ⟨h1, h2, e1, e2⟩ := sw_mem.mp ha
  have := (W.2.2.2.1 a h1 h2).2.1
  omega
/-- the members of a list: their kind is the list's -/
theorem sw_msL (W : sw_WF K C F D v n p q w d) {m f j : Nat} (h : j ∈ sw_L p q m f n) : sw_ms K F v p q w j ↔ 10 ≤ sw_kd K F (sw_sc v w m) f := by
  obtain ⟨h1, h2, e1, e2⟩ := sw_mem.mp h
  unfold sw_ms
  rw [e1, e2]
  constructor
  · intro z; rcases z with z | z
    · omega
    · exact z
  · exact Or.inr
end
section
variable {K : Nat → Nat} {C F D v n n' : Nat} {p q d p' q' d' : Nat → Nat} {w w' : Nat → Int32} {s : Nat → Nat}
theorem sw_iso_sc (I : sw_Iso n p q w n' p' q' w' s) {j : Nat} (h : j ≤ n) : sw_sc v w' (s j) = sw_sc v w j := by
  rw [sw_sc, sw_sc, I.2.2 j h]
theorem sw_iso_ms (I : sw_Iso n p q w n' p' q' w' s) (U : sw_Up n p) {j : Nat} (h : j ≤ n) : sw_ms K F v p' q' w' (s j) ↔ sw_ms K F v p q w j := by
  by_cases z : j = 0
  · subst z; rw [I.1]; exact ⟨fun _ => Or.inl rfl, fun _ => Or.inl rfl⟩
  · obtain ⟨a, b, c, e⟩ := sw_i1 I U (j := j) (by omega) h
    have u := U j (by omega) h
    unfold sw_ms
    rw [c, e, sw_iso_sc I (by omega)]
    constructor
    · intro y; rcases y with y | y
      · omega
      · exact Or.inr y
    · intro y; rcases y with y | y
      · omega
      · exact Or.inr y
theorem sw_iso_d (I : sw_Iso n p q w n' p' q' w' s) (W : sw_WF K C F D v n p q w d) (W' : sw_WF K C F D v n' p' q' w' d') : ∀ j, j ≤ n → d' (s j) = d j := by
  have U := sw_up_of W
  intro j
  induction j using Nat.strongRecOn with
  | ind j ih =>
    intro h
    by_cases z : j = 0
    · subst z; rw [I.1, W.2.2.1, W'.2.2.1]
    · obtain ⟨a, b, c, e⟩ := sw_i1 I U (j := j) (by omega) h
      have u := U j (by omega) h
      rw [(W.2.2.2.1 j (by omega) h).2.2.2.1, (W'.2.2.2.1 (s j) a b).2.2.2.1, c, ih (p j) u (by omega)]
theorem sw_iso_len (I : sw_Iso n p q w n' p' q' w' s) {m f : Nat} (h : m ≤ n) : (sw_L p' q' (s m) f n').length = (sw_L p q m f n).length := by
  rw [I.2.1 m f h, List.length_map]
theorem sw_iso_nth (I : sw_Iso n p q w n' p' q' w' s) {m f i : Nat} (h : m ≤ n) : (sw_L p' q' (s m) f n')[i]? = ((sw_L p q m f n)[i]?).map s := by
  rw [I.2.1 m f h, List.getElem?_map]
end
end
section
/-! a new id, a value set: well-formedness and representations -/
section
variable {K : Nat → Nat} {C F D v n : Nat} {p q d : Nat → Nat} {w : Nat → Int32}
theorem sw_sc_add {x : Int32} {j : Nat} (h : j ≤ n) : sw_sc v (upd w (n + 1) x) j = sw_sc v w j := by
  rw [sw_sc, sw_sc, pk_un (by omega)]
theorem sw_ms_add (U : sw_Up n p) {m f : Nat} {x : Int32} {j : Nat} (h : j ≤ n) : sw_ms K F v (sw_up p (n + 1) m) (sw_up q (n + 1) f) (upd w (n + 1) x) j ↔ sw_ms K F v p q w j := by
  unfold sw_ms
  by_cases z : j = 0
  · exact ⟨fun _ => Or.inl z, fun _ => Or.inl z⟩
  · rw [sw_un (by omega), sw_un (by omega), sw_sc_add (by have := U j (by omega) h; omega)]
theorem sw_ms_new {m f : Nat} {x : Int32} (hm : m ≤ n) : sw_ms K F v (sw_up p (n + 1) m) (sw_up q (n + 1) f) (upd w (n + 1) x) (n + 1) ↔ 10 ≤ sw_kd K F (sw_sc v w m) f := by
  unfold sw_ms
  rw [sw_us, sw_us, sw_sc_add hm]
  exact ⟨fun h => by rcases h with h | h
                     · omega
                     · exact h, Or.inr⟩
theorem sw_WF_add (W : sw_WF K C F D v n p q w d) {m f : Nat} (hm : m ≤ n) (hms : sw_ms K F v p q w m) (hf : f ≤ F) (hn : n < C)
    (hk : 1 ≤ f → 1 ≤ sw_kd K F (sw_sc v w m) f) {x : Int32} (hx : 10 ≤ sw_kd K F (sw_sc v w m) f → x = nI ((sw_kd K F (sw_sc v w m) f - 10) % 3) ∧ d m < D) :
    sw_WF K C F D v (n + 1) (sw_up p (n + 1) m) (sw_up q (n + 1) f) (upd w (n + 1) x) (sw_up d (n + 1) (d m + 1)) := by
  have U := sw_up_of W
  refine ⟨by omega, W.2.1, by rw [sw_un (by omega), W.2.2.1], fun j h1 h2 => ?_, fun j h2 hj => ?_⟩
  · by_cases e : j = n + 1
    · subst e
      rw [sw_us, sw_us, sw_us, sw_un (by omega), sw_sc_add hm]
      exact ⟨by omega, hf, (sw_ms_add U hm).mpr hms, rfl, hk⟩
    · have a := W.2.2.2.1 j h1 (by omega)
      rw [sw_un e, sw_un e, sw_un e, sw_un (by omega), sw_sc_add (by omega)]
      exact ⟨a.1, a.2.1, (sw_ms_add U (by omega)).mpr a.2.2.1, a.2.2.2⟩
  · by_cases e : j = n + 1
    · subst e
      have := hx ((sw_ms_new hm).mp hj)
      rw [pk_us, sw_us, sw_us, sw_us, sw_sc_add hm]
      exact ⟨⟨_, Nat.mod_lt _ (by omega), this.1, fun _ => rfl⟩, this.2⟩
    · obtain ⟨⟨t, ht, e1, e2⟩, e3⟩ := W.2.2.2.2 j (by omega) ((sw_ms_add U (by omega)).mp hj)
      rw [pk_un e, sw_un e, sw_un e, sw_un e]
      refine ⟨⟨t, ht, e1, fun h1 => ?_⟩, e3⟩
      rw [sw_sc_add (by have := U j h1 (by omega); omega)]; exact e2 h1
theorem sw_sc_set {x : Int32} {i j : Nat} (h : j ≠ i) : sw_sc v (upd w i x) j = sw_sc v w j := by
  rw [sw_sc, sw_sc, pk_un h]
theorem sw_ms_set (W : sw_WF K C F D v n p q w d) {i : Nat} (hi : ¬ sw_ms K F v p q w i) {x : Int32} {j : Nat} (h : j ≤ n) : sw_ms K F v p q (upd w i x) j ↔ sw_ms K F v p q w j := by
  unfold sw_ms
  by_cases z : j = 0
  · exact ⟨fun _ => Or.inl z, fun _ => Or.inl z⟩
  · have a := W.2.2.2.1 j (by omega) h
    rw [sw_sc_set (fun e => hi (by rw [← e]; exact a.2.2.1))]
theorem sw_WF_set (W : sw_WF K C F D v n p q w d) {i : Nat} (hi : ¬ sw_ms K F v p q w i) {x : Int32} : sw_WF K C F D v n p q (upd w i x) d := by
  refine ⟨W.1, W.2.1, W.2.2.1, fun j h1 h2 => ?_, fun j h2 hj => ?_⟩
  · have a := W.2.2.2.1 j h1 h2
    rw [sw_sc_set (fun e => hi (by rw [← e]; exact a.2.2.1))]
    exact ⟨a.1, a.2.1, (sw_ms_set W hi (by omega)).mpr a.2.2.1, a.2.2.2⟩
  · have a := (sw_ms_set W hi h2).mp hj
    obtain ⟨⟨t, ht, e1, e2⟩, e3⟩ := W.2.2.2.2 j h2 a
    rw [pk_un (fun e => hi (by rw [← e]; exact a))]
    refine ⟨⟨t, ht, e1, fun h1 => ?_⟩, e3⟩
    have b := W.2.2.2.1 j h1 h2
    rw [sw_sc_set (fun e => hi (by rw [← e]; exact b.2.2.1))]; exact e2 h1
theorem sw_WF_start {t : Nat} (ht : t < 3) (hv : v < 3) : sw_WF K C F D v 0 p q (fun _ => nI t) (fun _ => 0) := by
  refine ⟨by omega, hv, rfl, fun j h1 h2 => by omega, fun j hj _ => ⟨⟨t, ht, rfl, fun h1 => by omega⟩, Nat.zero_le _⟩⟩
theorem sw_L_new (U : sw_Up n p) {f : Nat} : sw_L p q (n + 1) f n = [] := by
  apply List.eq_nil_iff_forall_not_mem.mpr
  intro a ha
  have h := sw_mem.mp ha
  have := U a h.1 h.2.1
  omega
end
section
variable {K : Nat → Nat} {C F D v n t : Nat} {p q d : Nat → Nat} {w : Nat → Int32} {a_items a_word a_next a_schemaOf a_parentOf a_depthOf a_head a_tail a_length a_items' a_word' a_next' a_schemaOf' a_parentOf' a_depthOf' a_head' a_tail' a_length' : Nat → Int32}
theorem sx_add (R : sx_R K F t v n p q w d a_items a_word a_next a_schemaOf a_parentOf a_depthOf a_head a_tail a_length) (W : sw_WF K C F D v n p q w d) {m f : Nat} (hm : m ≤ n) (hms : sw_ms K F v p q w m) (hf : f ≤ 20) {x : Int32}
    (hI : a_items' t = nI (n + 1))
    (hw : ∀ j, j ≤ n → a_word' (t * 121 + j) = a_word (t * 121 + j) ∧ a_schemaOf' (t * 121 + j) = a_schemaOf (t * 121 + j) ∧ a_parentOf' (t * 121 + j) = a_parentOf (t * 121 + j) ∧ a_depthOf' (t * 121 + j) = a_depthOf (t * 121 + j))
    (hs : ¬ 10 ≤ sw_kd K F (sw_sc v w m) f → a_word' (t * 121 + (n + 1)) = x ∧ a_schemaOf' (t * 121 + (n + 1)) = -1)
    (hM : 10 ≤ sw_kd K F (sw_sc v w m) f → a_schemaOf' (t * 121 + (n + 1)) = nI (v * 3 + x.toNatClampNeg) ∧ a_parentOf' (t * 121 + (n + 1)) = nI (t * 121 + m) ∧ a_depthOf' (t * 121 + (n + 1)) = nI (d m + 1) ∧ ∀ f', f' ≤ 20 → a_length' ((t * 121 + (n + 1)) * 21 + f') = 0)
    (hl : ∀ m' f', m' ≤ n → f' ≤ 20 → ¬ (m = m' ∧ f = f') → a_length' ((t * 121 + m') * 21 + f') = a_length ((t * 121 + m') * 21 + f') ∧ a_head' ((t * 121 + m') * 21 + f') = a_head ((t * 121 + m') * 21 + f') ∧ a_tail' ((t * 121 + m') * 21 + f') = a_tail ((t * 121 + m') * 21 + f'))
    (hl2 : a_length' ((t * 121 + m) * 21 + f) = nI ((sw_L p q m f n).length + 1) ∧ a_tail' ((t * 121 + m) * 21 + f) = nI (t * 121 + (n + 1)) ∧ (sw_L p q m f n = [] → a_head' ((t * 121 + m) * 21 + f) = nI (t * 121 + (n + 1))) ∧ (sw_L p q m f n ≠ [] → a_head' ((t * 121 + m) * 21 + f) = a_head ((t * 121 + m) * 21 + f)))
    (hn : ∀ j, j ≤ n → (sw_L p q m f n).getLast? ≠ some j → a_next' (t * 121 + j) = a_next (t * 121 + j))
    (hn2 : ∀ j, (sw_L p q m f n).getLast? = some j → a_next' (t * 121 + j) = nI (t * 121 + (n + 1))) :
    sx_R K F t v (n + 1) (sw_up p (n + 1) m) (sw_up q (n + 1) f) (upd w (n + 1) x) (sw_up d (n + 1) (d m + 1)) a_items' a_word' a_next' a_schemaOf' a_parentOf' a_depthOf' a_head' a_tail' a_length' := by
  have U := sw_up_of W
  obtain ⟨r1, r2, r3, r4, r5⟩ := R
  refine ⟨hI, fun j hj => ?_, fun j h1 hj hns => ?_, fun j hj hj2 => ?_, fun m' f' hj hj2 hf' => ?_⟩
  · by_cases e : j = n + 1
    · subst e
      rw [sw_ms_new hm]
      refine ⟨fun k => ?_, fun k => (hs k).2⟩
      rw [(hM k).1, sw_sc, pk_us]
    · rw [sw_ms_add U (by omega), (hw j (by omega)).2.1, sw_sc_add (by omega)]
      exact r2 j (by omega)
  · by_cases e : j = n + 1
    · subst e
      rw [sw_ms_new hm] at hns
      rw [pk_us, (hs hns).1]
    · rw [sw_ms_add U (by omega)] at hns
      rw [pk_un e, (hw j (by omega)).1, r3 j h1 (by omega) hns]
  · by_cases e : j = n + 1
    · subst e
      rw [sw_ms_new hm] at hj2
      obtain ⟨_, a, b, _⟩ := hM hj2
      rw [if_neg (by omega), sw_us, sw_us]
      exact ⟨a, b⟩
    · rw [sw_ms_add U (by omega)] at hj2
      rw [sw_un e, sw_un e, (hw j (by omega)).2.2.1, (hw j (by omega)).2.2.2]
      exact r4 j (by omega) hj2
  · by_cases e : m' = n + 1
    · subst e
      rw [sw_ms_new hm] at hj2
      have z : sw_L (sw_up p (n + 1) m) (sw_up q (n + 1) f) (n + 1) f' (n + 1) = [] := by
        rw [sw_add_n (by omega), sw_L_new U]
      rw [z]
      refine ⟨(hM hj2).2.2.2 f' hf', fun j hh => ?_, fun j hh => ?_, fun i j k hh => ?_⟩
      · cases hh
      · cases hh
      · rw [List.getElem?_nil] at hh; cases hh
    · rw [sw_ms_add U (by omega)] at hj2
      obtain ⟨c1, c2, c3, c4⟩ := r5 m' f' (by omega) hj2 hf'
      by_cases g : m = m' ∧ f = f'
      · obtain ⟨rfl, rfl⟩ := g
        rw [sw_add_s]
        refine ⟨by rw [hl2.1, List.length_append, List.length_singleton], fun j hh => ?_, fun j hh => ?_, fun i j k hi hk => ?_⟩
        · by_cases z : sw_L p q m f n = []
          · rw [z] at hh
            have : n + 1 = j := Option.some.inj hh
            rw [← this]; exact hl2.2.2.1 z
          · rw [hl2.2.2.2 z]
            apply c2
            rw [List.getElem?_append_left (List.length_pos_iff.mpr z)] at hh
            exact hh
        · rw [List.getLast?_concat] at hh
          rw [← Option.some.inj hh]; exact hl2.2.1
        · have hlt := sw_nthlt hk
          rw [List.length_append, List.length_singleton] at hlt
          rw [List.getElem?_append_left (by omega)] at hi
          have hjm := (sw_mem.mp (sw_nthmem hi))
          by_cases y : i + 1 < (sw_L p q m f n).length
          · rw [List.getElem?_append_left y] at hk
            rw [hn j (by omega)]
            · exact c4 i j k hi hk
            · intro hla
              rw [List.getLast?_eq_getElem?] at hla
              have := sw_nthinj sw_srt hi hla
              omega
          · rw [List.getElem?_append_right (by omega)] at hk
            have e0 : i + 1 - (sw_L p q m f n).length = 0 := by omega
            rw [e0] at hk
            have : n + 1 = k := Option.some.inj hk
            rw [← this]
            apply hn2
            rw [List.getLast?_eq_getElem?]
            have : (sw_L p q m f n).length - 1 = i := by omega
            rw [this]; exact hi
      · rw [sw_add_n g]
        obtain ⟨b1, b2, b3⟩ := hl m' f' (by omega) hf' g
        rw [b1, b2, b3]
        refine ⟨c1, c2, c3, fun i j k hi hk => ?_⟩
        have hjm := sw_mem.mp (sw_nthmem hi)
        rw [hn j (by omega)]
        · exact c4 i j k hi hk
        · intro hla
          have hz := sw_mem.mp (List.mem_of_getLast? hla)
          exact g ⟨hz.2.2.1.symm.trans hjm.2.2.1, hz.2.2.2.symm.trans hjm.2.2.2⟩
theorem sx_set (R : sx_R K F t v n p q w d a_items a_word a_next a_schemaOf a_parentOf a_depthOf a_head a_tail a_length) (W : sw_WF K C F D v n p q w d) {i : Nat} (hi1 : 1 ≤ i) (hi : ¬ sw_ms K F v p q w i) {x : Int32} :
    sx_R K F t v n p q (upd w i x) d a_items (upd a_word (t * 121 + i) x) a_next a_schemaOf a_parentOf a_depthOf a_head a_tail a_length := by
  obtain ⟨r1, r2, r3, r4, r5⟩ := R
  refine ⟨r1, fun j hj => ?_, fun j h1 hj hns => ?_, fun j hj hj2 => ?_, fun m' f' hj hj2 hf' => ?_⟩
  · have a := r2 j hj
    rw [sw_ms_set W hi hj]
    refine ⟨fun k => ?_, a.2⟩
    rw [sw_sc_set (fun e => hi (by rw [← e]; exact k))]
    exact a.1 k
  · rw [sw_ms_set W hi hj] at hns
    by_cases e : j = i
    · subst e; rw [pk_us, pk_us]
    · rw [pk_un (by omega), pk_un e]; exact r3 j h1 hj hns
  · exact r4 j hj ((sw_ms_set W hi hj).mp hj2)
  · exact r5 m' f' hj ((sw_ms_set W hi hj).mp hj2) hf'
/-- arrays that differ in store t's cells alone -/
def sx_Out (t : Nat) (a_items a_word a_next a_schemaOf a_parentOf a_depthOf a_head a_tail a_length a_items' a_word' a_next' a_schemaOf' a_parentOf' a_depthOf' a_head' a_tail' a_length' : Nat → Int32) : Prop :=
  (∀ i, i ≠ t → a_items' i = a_items i) ∧
  (∀ c, (c < t * 121 ∨ t * 121 + 121 ≤ c) → a_word' c = a_word c ∧ a_next' c = a_next c ∧ a_schemaOf' c = a_schemaOf c ∧ a_parentOf' c = a_parentOf c ∧ a_depthOf' c = a_depthOf c) ∧
  (∀ c, (c < t * 121 * 21 ∨ (t * 121 + 121) * 21 ≤ c) → a_head' c = a_head c ∧ a_tail' c = a_tail c ∧ a_length' c = a_length c)
theorem sx_Fr_of (O : sx_Out t a_items a_word a_next a_schemaOf a_parentOf a_depthOf a_head a_tail a_length a_items' a_word' a_next' a_schemaOf' a_parentOf' a_depthOf' a_head' a_tail' a_length') : sx_Fr K F t a_items a_word a_next a_schemaOf a_parentOf a_depthOf a_head a_tail a_length a_items' a_word' a_next' a_schemaOf' a_parentOf' a_depthOf' a_head' a_tail' a_length' := by
  intro t2 v n p q w d h3 hne hn R
  obtain ⟨o1, o2, o3⟩ := O
  obtain ⟨r1, r2, r3, r4, r5⟩ := R
  have cell : ∀ j, j ≤ n → (t2 * 121 + j < t * 121 ∨ t * 121 + 121 ≤ t2 * 121 + j) := fun j hj => by omega
  have lst : ∀ j f, j ≤ n → f ≤ 20 → ((t2 * 121 + j) * 21 + f < t * 121 * 21 ∨ (t * 121 + 121) * 21 ≤ (t2 * 121 + j) * 21 + f) := fun j f hj hf => by omega
  refine ⟨by rw [o1 t2 hne, r1], fun j hj => ?_, fun j h1 hj hns => ?_, fun j hj hj2 => ?_, fun m' f' hj hj2 hf' => ?_⟩
  · rw [(o2 _ (cell j hj)).2.2.1]; exact r2 j hj
  · rw [(o2 _ (cell j hj)).1]; exact r3 j h1 hj hns
  · rw [(o2 _ (cell j hj)).2.2.2.1, (o2 _ (cell j hj)).2.2.2.2]; exact r4 j hj hj2
  · obtain ⟨c1, c2, c3, c4⟩ := r5 m' f' hj hj2 hf'
    obtain ⟨b1, b2, b3⟩ := o3 _ (lst m' f' hj hf')
    rw [b1, b2, b3]
    refine ⟨c1, c2, c3, fun i j k hi hk => ?_⟩
    rw [(o2 _ (cell j (sw_mem.mp (sw_nthmem hi)).2.1)).2.1]
    exact c4 i j k hi hk
theorem sx_Fr_refl : sx_Fr K F t a_items a_word a_next a_schemaOf a_parentOf a_depthOf a_head a_tail a_length a_items a_word a_next a_schemaOf a_parentOf a_depthOf a_head a_tail a_length := fun _ _ _ _ _ _ _ _ _ _ R => R
end
section
variable {s v n : Nat} {p q : Nat → Nat} {w : Nat → Int32} {b_version b_type b_items b_parent b_field b_val b_version' b_type' b_items' b_parent' b_field' b_val' : Nat → Int32}
theorem sy_add (R : sy_R s v n p q w b_version b_type b_items b_parent b_field b_val) {m f : Nat} {x : Int32} :
    sy_R s v (n + 1) (sw_up p (n + 1) m) (sw_up q (n + 1) f) (upd w (n + 1) x) b_version b_type (upd b_items s (nI (n + 1))) (upd b_parent (s * 120 + n) (sw_mI m)) (upd b_field (s * 120 + n) (nI f)) (upd b_val (s * 120 + n) x) := by
  obtain ⟨r1, r2, r3, r4⟩ := R
  refine ⟨r1, by rw [r2, pk_un (by omega)], pk_us, fun i hi => ?_⟩
  by_cases e : i = n
  · subst e; rw [pk_us, pk_us, pk_us, sw_us, sw_us, pk_us]; exact ⟨rfl, rfl, rfl⟩
  · rw [pk_un (by omega), pk_un (by omega), pk_un (by omega), sw_un (by omega), sw_un (by omega), pk_un (by omega)]
    exact r4 i (by omega)
theorem sy_set (R : sy_R s v n p q w b_version b_type b_items b_parent b_field b_val) {i : Nat} (h : 1 ≤ i) {x : Int32} :
    sy_R s v n p q (upd w i x) b_version b_type b_items b_parent b_field (upd b_val (s * 120 + (i - 1)) x) := by
  obtain ⟨r1, r2, r3, r4⟩ := R
  refine ⟨r1, by rw [r2, pk_un (by omega)], r3, fun j hj => ?_⟩
  have a := r4 j hj
  by_cases e : j + 1 = i
  · subst e; rw [pk_us]; exact ⟨a.1, a.2.1, pk_us⟩
  · rw [pk_un (by omega), pk_un e]; exact a
theorem sy_congr (R : sy_R s v n p q w b_version b_type b_items b_parent b_field b_val) (h1 : b_version' s = b_version s) (h2 : b_type' s = b_type s) (h3 : b_items' s = b_items s)
    (h4 : ∀ i, i < n → b_parent' (s * 120 + i) = b_parent (s * 120 + i) ∧ b_field' (s * 120 + i) = b_field (s * 120 + i) ∧ b_val' (s * 120 + i) = b_val (s * 120 + i)) : sy_R s v n p q w b_version' b_type' b_items' b_parent' b_field' b_val' := by
  obtain ⟨r1, r2, r3, r4⟩ := R
  refine ⟨by rw [h1, r1], by rw [h2, r2], by rw [h3, r3], fun i hi => ?_⟩
  obtain ⟨a, b, c⟩ := h4 i hi
  rw [a, b, c]; exact r4 i hi
end
end
section
/-! comparisons by toInt, and X's small methods -/
theorem sn_le (c : Nat) (z : Int32) (hc : c < 2 ^ 31 := by omega) : nI c ≤ z ↔ (c : Int) ≤ z.toInt := by rw [Int32.le_iff_toInt_le, nI_toInt hc]
theorem sn_ge (c : Nat) (z : Int32) (hc : c < 2 ^ 31 := by omega) : z ≤ nI c ↔ z.toInt ≤ (c : Int) := by rw [Int32.le_iff_toInt_le, nI_toInt hc]
theorem sn_lt (c : Nat) (z : Int32) (hc : c < 2 ^ 31 := by omega) : nI c < z ↔ (c : Int) < z.toInt := by rw [Int32.lt_iff_toInt_lt, nI_toInt hc]
theorem sn_gt (c : Nat) (z : Int32) (hc : c < 2 ^ 31 := by omega) : z < nI c ↔ z.toInt < (c : Int) := by rw [Int32.lt_iff_toInt_lt, nI_toInt hc]
theorem sn_of {z : Int32} {c : Nat} (h0 : 0 ≤ z.toInt) (h : z.toInt < c) : ∃ a, a < c ∧ z = nI a := by
  have hz : ¬ z < 0 := fun y => by
    have := (sn_gt 0 z).mp y
    omega
  obtain ⟨j, hj, rfl⟩ := nI_of hz
  rw [nI_toInt hj] at h
  exact ⟨j, by omega, rfl⟩
/-- the place in a list by an int; what X and Y answer -/
def sw_at (l : List Nat) (x : Int32) : Option Nat := if x < 0 then none else l[x.toNatClampNeg]?
def sw_oX (t : Nat) : Option Nat → Int32
  | none => -1
  | some j => nI (t * 121 + j)
def sw_oY : Option Nat → Int32
  | none => -1
  | some j => sw_mI j
theorem sw_at_neg {l : List Nat} {x : Int32} (h : x < 0) : sw_at l x = none := if_pos h
theorem sw_at_nI {l : List Nat} {a : Nat} (h : a < 2 ^ 31) : sw_at l (nI a) = l[a]? := by
  rw [sw_at, if_neg (nI_pos h), nI_clamp h]
theorem sw_at_mem {l : List Nat} {x : Int32} {j : Nat} (h : sw_at l x = some j) : j ∈ l := by
  unfold sw_at at h
  split at h
  · cases h
  · exact sw_nthmem h
theorem sw_at_map {l : List Nat} {s : Nat → Nat} {x : Int32} : sw_at (l.map s) x = (sw_at l x).map s := by
  unfold sw_at
  split
  · rfl
  · rw [List.getElem?_map]
section
variable {f_capacity f_maxField f_maxDepth f_spare f_writeAt f_level f_readAt f_broken : Int32} {a_kinds a_held a_storeOf a_cursor a_items a_word a_next a_schemaOf a_parentOf a_depthOf a_head a_tail a_length a_bytes a_filled a_sizeOf a_placeOf a_match a_regionEnd a_regionMessage : Nat → Int32} {K : Nat → Nat} {C F D v n t : Nat} {p q d : Nat → Nat} {w : Nat → Int32} {post : Int32 → Prop}
theorem sx_isSchema {x y : Int32} (h0 : ¬ (0 ≤ x.toInt ∧ x.toInt < 3 ∧ 0 ≤ y.toInt ∧ y.toInt < 3) → post 0) (h1 : (0 ≤ x.toInt ∧ x.toInt < 3 ∧ 0 ≤ y.toInt ∧ y.toInt < 3) → post 1) : wpX_isSchema post (f_capacity, f_maxField, f_maxDepth, f_spare, f_writeAt, f_level, f_readAt, f_broken, a_kinds, a_held, a_storeOf, a_cursor, a_items, a_word, a_next, a_schemaOf, a_parentOf, a_depthOf, a_head, a_tail, a_length, a_bytes, a_filled, a_sizeOf, a_placeOf, a_match, a_regionEnd, a_regionMessage) x y := by
  unfold wpX_isSchema
  exact sn_br (sn_gt 0 x) (fun a => h0 (by omega)) (fun a => sn_br (sn_le 3 x) (fun b => h0 (by omega)) (fun b => sn_br (sn_gt 0 y) (fun c => h0 (by omega)) (fun c => sn_br (sn_le 3 y) (fun e => h0 (by omega)) (fun e => h1 (by omega)))))
theorem sx_isSlot {x : Int32} (h0 : ¬ (0 ≤ x.toInt ∧ x.toInt < 2) → post 0) (h1 : (0 ≤ x.toInt ∧ x.toInt < 2) → post 1) : wpX_isSlot post (f_capacity, f_maxField, f_maxDepth, f_spare, f_writeAt, f_level, f_readAt, f_broken, a_kinds, a_held, a_storeOf, a_cursor, a_items, a_word, a_next, a_schemaOf, a_parentOf, a_depthOf, a_head, a_tail, a_length, a_bytes, a_filled, a_sizeOf, a_placeOf, a_match, a_regionEnd, a_regionMessage) x := by
  unfold wpX_isSlot
  exact sn_br (sn_gt 0 x) (fun a => h0 (by omega)) (fun a => sn_br (sn_le 2 x) (fun b => h0 (by omega)) (fun b => h1 (by omega)))
theorem sx_isBuffer {x : Int32} (h0 : ¬ (0 ≤ x.toInt ∧ x.toInt < 2) → post 0) (h1 : (0 ≤ x.toInt ∧ x.toInt < 2) → post 1) : wpX_isBuffer post (f_capacity, f_maxField, f_maxDepth, f_spare, f_writeAt, f_level, f_readAt, f_broken, a_kinds, a_held, a_storeOf, a_cursor, a_items, a_word, a_next, a_schemaOf, a_parentOf, a_depthOf, a_head, a_tail, a_length, a_bytes, a_filled, a_sizeOf, a_placeOf, a_match, a_regionEnd, a_regionMessage) x := by
  unfold wpX_isBuffer
  exact sn_br (sn_gt 0 x) (fun a => h0 (by omega)) (fun a => sn_br (sn_le 2 x) (fun b => h0 (by omega)) (fun b => h1 (by omega)))
theorem sx_isField (hF : f_maxField = nI F) (hF2 : F ≤ 20) {x : Int32} (h0 : ¬ (1 ≤ x.toInt ∧ x.toInt ≤ F) → post 0) (h1 : (1 ≤ x.toInt ∧ x.toInt ≤ F) → post 1) : wpX_isField post (f_capacity, f_maxField, f_maxDepth, f_spare, f_writeAt, f_level, f_readAt, f_broken, a_kinds, a_held, a_storeOf, a_cursor, a_items, a_word, a_next, a_schemaOf, a_parentOf, a_depthOf, a_head, a_tail, a_length, a_bytes, a_filled, a_sizeOf, a_placeOf, a_match, a_regionEnd, a_regionMessage) x := by
  subst hF
  unfold wpX_isField
  exact sn_br (sn_gt 1 x) (fun a => h0 (by omega)) (fun a => sn_br (sn_lt F x) (fun b => h0 (by omega)) (fun b => h1 (by omega)))
theorem sx_isScalar {k : Nat} (hk : k < 2 ^ 31) (h0 : ¬ (1 ≤ k ∧ k ≤ 9) → post 0) (h1 : (1 ≤ k ∧ k ≤ 9) → post 1) : wpX_isScalar post (f_capacity, f_maxField, f_maxDepth, f_spare, f_writeAt, f_level, f_readAt, f_broken, a_kinds, a_held, a_storeOf, a_cursor, a_items, a_word, a_next, a_schemaOf, a_parentOf, a_depthOf, a_head, a_tail, a_length, a_bytes, a_filled, a_sizeOf, a_placeOf, a_match, a_regionEnd, a_regionMessage) (nI k) := by
  unfold wpX_isScalar
  exact pk_lt k 1 (fun a => h0 (by omega)) (fun a => pk_lt 9 k (fun b => h0 (by omega)) (fun b => h1 (by omega)))
theorem sx_isScalarList {k : Nat} (hk : k < 2 ^ 31) (h0 : ¬ (4 ≤ k ∧ k ≤ 9) → post 0) (h1 : (4 ≤ k ∧ k ≤ 9) → post 1) : wpX_isScalarList post (f_capacity, f_maxField, f_maxDepth, f_spare, f_writeAt, f_level, f_readAt, f_broken, a_kinds, a_held, a_storeOf, a_cursor, a_items, a_word, a_next, a_schemaOf, a_parentOf, a_depthOf, a_head, a_tail, a_length, a_bytes, a_filled, a_sizeOf, a_placeOf, a_match, a_regionEnd, a_regionMessage) (nI k) := by
  unfold wpX_isScalarList
  exact pk_lt k 4 (fun a => h0 (by omega)) (fun a => pk_lt 9 k (fun b => h0 (by omega)) (fun b => h1 (by omega)))
theorem sx_kindIn (X : sw_Cx K C F D f_capacity f_maxField f_maxDepth a_kinds) (W : sw_WF K C F D v n p q w d) (R : sx_R K F t v n p q w d a_items a_word a_next a_schemaOf a_parentOf a_depthOf a_head a_tail a_length) (ht : t < 3) {m f : Nat} (hm : m ≤ n) (hms : sw_ms K F v p q w m) (hf : f < 2 ^ 31) (h : post (nI (sw_kd K F (sw_sc v w m) f))) : wpX_kindIn post (f_capacity, f_maxField, f_maxDepth, f_spare, f_writeAt, f_level, f_readAt, f_broken, a_kinds, a_held, a_storeOf, a_cursor, a_items, a_word, a_next, a_schemaOf, a_parentOf, a_depthOf, a_head, a_tail, a_length, a_bytes, a_filled, a_sizeOf, a_placeOf, a_match, a_regionEnd, a_regionMessage) (nI (t * 121 + m)) (nI f) := by
  obtain ⟨x1, x2, x3, x4, x5, x6, e1, e2, e3, x7⟩ := X
  have hn := W.1
  unfold wpX_kindIn
  refine sx_isField e2 x4 (fun a => br_t rfl ?_) (fun a => br_f (by decide) ?_)
  · rw [nI_toInt hf] at a
    rw [sw_kd_out (by omega)] at h
    exact h
  · rw [nI_toInt hf] at a
    have hs := (sw_sc_lt W hm hms).1
    have ec : (nI (t * 121 + m)).toNatClampNeg = t * 121 + m := nI_clamp (by omega)
    rw [ec, (R.2.1 m hm).1 hms, sn_21, nI_clamp (by omega), (x7 _ (by omega)).2]
    rw [sw_kd_in (by omega) (by omega)] at h
    exact ⟨vp_in_nI (by omega) (by omega), vp_in_nI (by omega) (by omega), h⟩
theorem sx_cellAt_37 {l : List Nat} (hl : ∀ i j k : Nat, l[i]? = some j → l[i + 1]? = some k → a_next (t * 121 + j) = nI (t * 121 + k)) (hb : ∀ j, j ∈ l → t * 121 + j < 363) {x : Nat} (hx : x < 2 ^ 31) {j0 : Nat} (he : l[x]? = some j0) (h : post (nI (t * 121 + j0))) :
    ∀ k i j : Nat, i + k = x → l[i]? = some j → wX_cellAt_37 post (nI x) f_capacity f_maxField f_maxDepth f_spare f_writeAt f_level f_readAt f_broken a_kinds a_held a_storeOf a_cursor a_items a_word a_next a_schemaOf a_parentOf a_depthOf a_head a_tail a_length a_bytes a_filled a_sizeOf a_placeOf a_match a_regionEnd a_regionMessage (k + 1) (nI (t * 121 + j)) (nI i) := by
  intro k
  induction k with
  | zero =>
    intro i j hi hj
    obtain rfl : i = x := by omega
    rw [hj] at he
    obtain rfl : j = j0 := Option.some.inj he
    exact br_t (nI_le (Nat.le_refl _) hx) h
  | succ k ih =>
    intro i j hi hj
    refine br_f (nI_ge (by omega) hx) ?_
    have hjl := hb j (sw_nthmem hj)
    obtain ⟨j', hj'⟩ := sw_nthex (l := l) (i := i + 1) (by have := sw_nthlt he; omega)
    refine ⟨vp_in_nI hjl (by omega), ?_⟩
    rw [nI_clamp (by omega), hl i j j' hj hj', nI_1]
    exact nm_e (nm_e (ih (i + 1) j' (by omega) hj'))
theorem sx_cellAt (W : sw_WF K C F D v n p q w d) (hC : C ≤ 120) (R : sx_R K F t v n p q w d a_items a_word a_next a_schemaOf a_parentOf a_depthOf a_head a_tail a_length) (ht : t < 3) {m f : Nat} (hm : m ≤ n) (hms : sw_ms K F v p q w m) (hf : f ≤ 20) {x : Int32} (h : post (sw_oX t (sw_at (sw_L p q m f n) x))) : wpX_cellAt post (f_capacity, f_maxField, f_maxDepth, f_spare, f_writeAt, f_level, f_readAt, f_broken, a_kinds, a_held, a_storeOf, a_cursor, a_items, a_word, a_next, a_schemaOf, a_parentOf, a_depthOf, a_head, a_tail, a_length, a_bytes, a_filled, a_sizeOf, a_placeOf, a_match, a_regionEnd, a_regionMessage) (nI (t * 121 + m)) (nI f) x := by
  have hn := W.1
  obtain ⟨c1, c2, c3, c4⟩ := R.2.2.2.2 m f hm hms hf
  have hlen := sw_len (p := p) (q := q) (m := m) (f := f) (n := n)
  unfold wpX_cellAt
  rw [sn_21]
  refine nm_e ?_
  refine br_c (fun a => ?_) (fun a => ?_)
  · rw [sw_at_neg a] at h; exact h
  · obtain ⟨i, hi, rfl⟩ := nI_of a
    rw [sw_at_nI hi] at h
    refine ⟨vp_in_nI (by omega) (by omega), ?_⟩
    rw [nI_clamp (by omega), c1]
    refine pk_lt i _ (fun b => ?_) (fun b => ?_)
    · obtain ⟨j, hj⟩ := sw_nthex b
      obtain ⟨j0, hj0⟩ := sw_nthex (l := sw_L p q m f n) (i := 0) (by omega)
      rw [hj] at h
      refine ⟨vp_in_nI (by omega) (by omega), ?_⟩
      rw [c2 j0 hj0]
      refine nm_e ⟨i + 1, ?_⟩
      exact sx_cellAt_37 c4 (fun j hj => by have := sw_mem.mp hj; omega) hi hj h i 0 j0 (by omega) hj0
    · rw [List.getElem?_eq_none b] at h
      exact h
end
end
section
/-! Y's small methods -/
section
variable {g_capacity g_maxField g_maxDepth g_outLen g_regions g_pos g_bad : Int32} {b_kinds b_held b_version b_type b_cursor b_items b_parent b_field b_val b_bytes b_length b_out b_encStart b_encLen b_partner b_regMsg b_regStart b_regEnd : Nat → Int32} {K : Nat → Nat} {C F D v n s : Nat} {p q d : Nat → Nat} {w : Nat → Int32} {post : Int32 → Prop}
theorem sy_typeOf (R : sy_R s v n p q w b_version b_type b_items b_parent b_field b_val) (hs : s < 3) (hn : n ≤ 120) {m : Nat} (hm : m ≤ n) (h : post (w m)) : wpY_typeOf post (g_capacity, g_maxField, g_maxDepth, g_outLen, g_regions, g_pos, g_bad, b_kinds, b_held, b_version, b_type, b_cursor, b_items, b_parent, b_field, b_val, b_bytes, b_length, b_out, b_encStart, b_encLen, b_partner, b_regMsg, b_regStart, b_regEnd) (nI s) (sw_mI m) := by
  obtain ⟨r1, r2, r3, r4⟩ := R
  unfold wpY_typeOf
  refine sn_br (sw_mI_pos (a := m) (by omega)) (fun a => ?_) (fun a => ?_)
  · rw [sw_mI_120 s a, nI_clamp (by omega), (r4 (m - 1) (by omega)).2.2]
    refine ⟨vp_in_nI (by omega) (by omega), ?_⟩
    have : m - 1 + 1 = m := by omega
    rw [this]; exact h
  · obtain rfl : m = 0 := by omega
    rw [nI_clamp (by omega), r2]
    exact ⟨vp_in_nI hs (by omega), h⟩
theorem sy_kindIn (X : sw_Cx K C F D g_capacity g_maxField g_maxDepth b_kinds) (W : sw_WF K C F D v n p q w d) (R : sy_R s v n p q w b_version b_type b_items b_parent b_field b_val) (hs : s < 3) {m f : Nat} (hm : m ≤ n) (hms : sw_ms K F v p q w m) (hf : f < 2 ^ 31) (h : post (nI (sw_kd K F (sw_sc v w m) f))) : wpY_kindIn post (g_capacity, g_maxField, g_maxDepth, g_outLen, g_regions, g_pos, g_bad, b_kinds, b_held, b_version, b_type, b_cursor, b_items, b_parent, b_field, b_val, b_bytes, b_length, b_out, b_encStart, b_encLen, b_partner, b_regMsg, b_regStart, b_regEnd) (nI s) (sw_mI m) (nI f) := by
  obtain ⟨x1, x2, x3, x4, x5, x6, e1, e2, e3, x7⟩ := X
  have hn := W.1
  unfold wpY_kindIn
  obtain ⟨hs9, t, ht, ew, es⟩ := sw_sc_lt W hm hms
  refine sy_typeOf R hs (by omega) hm ?_
  rw [e2]
  refine pk_lt f 1 (fun a => ?_) (fun a => pk_le f F (fun b => ?_) (fun b => ?_))
  · rw [sw_kd_out (by omega)] at h; exact h
  · rw [sw_kd_in a b] at h
    rw [nI_clamp (by omega), R.1, ew, sn_3, ← es, sn_21, nI_clamp (by omega), (x7 _ (by omega)).2]
    exact ⟨vp_in_nI hs (by omega), vp_in_nI (by omega) (by omega), h⟩
  · rw [sw_kd_out (by omega)] at h; exact h
theorem sy_lies (W : sw_WF K C F D v n p q w d) (hC : C ≤ 120) (hF : F ≤ 20) (R : sy_R s v n p q w b_version b_type b_items b_parent b_field b_val) (hs : s < 3) {i m f : Nat} (hi : i < n) (hm : m < 2 ^ 31) (hf : f < 2 ^ 31) (h1 : p (i + 1) = m ∧ q (i + 1) = f → post 1) (h0 : ¬ (p (i + 1) = m ∧ q (i + 1) = f) → post 0) : wpY_lies post (g_capacity, g_maxField, g_maxDepth, g_outLen, g_regions, g_pos, g_bad, b_kinds, b_held, b_version, b_type, b_cursor, b_items, b_parent, b_field, b_val, b_bytes, b_length, b_out, b_encStart, b_encLen, b_partner, b_regMsg, b_regStart, b_regEnd) (nI s) (nI i) (sw_mI m) (nI f) := by
  have hn := W.1
  obtain ⟨a1, a2, a3⟩ := R.2.2.2 i hi
  have ww := W.2.2.2.1 (i + 1) (by omega) (by omega)
  unfold wpY_lies
  dsimp only
  rw [sn_120, nI_clamp (by omega), a1, a2]
  refine ⟨vp_in_nI (by omega) (by omega), ?_⟩
  refine sn_br (sw_mI_eq (by omega) hm) (fun e => ⟨vp_in_nI (by omega) (by omega), ?_⟩) (fun e => h0 (fun z => e z.1))
  exact sn_br (nI_eq (by omega) hf) (fun e2 => h1 ⟨e, e2⟩) (fun e2 => h0 (fun z => e2 z.2))
theorem sy_countIn_6 (W : sw_WF K C F D v n p q w d) (hC : C ≤ 120) (hF : F ≤ 20) (R : sy_R s v n p q w b_version b_type b_items b_parent b_field b_val) (hs : s < 3) {m f : Nat} (hm : m < 2 ^ 31) (hf : f < 2 ^ 31) (h : post (nI (sw_L p q m f n).length)) :
    ∀ k i : Nat, i + k = n → wY_countIn_6 post (nI s) (sw_mI m) (nI f) g_capacity g_maxField g_maxDepth g_outLen g_regions g_pos g_bad b_kinds b_held b_version b_type b_cursor b_items b_parent b_field b_val b_bytes b_length b_out b_encStart b_encLen b_partner b_regMsg b_regStart b_regEnd (k + 1) (nI (sw_L p q m f i).length) (nI i) := by
  have hn := W.1
  intro k
  induction k with
  | zero =>
    intro i hi
    obtain rfl : i = n := by omega
    unfold wY_countIn_6
    rw [nI_clamp (by omega), R.2.2.1]
    exact ⟨vp_in_nI hs (by omega), br_t (nI_le (Nat.le_refl _) (by omega)) h⟩
  | succ k ih =>
    intro i hi
    have e := ih (i + 1) (by omega)
    rw [wY_countIn_6, nI_clamp (by omega), R.2.2.1]
    refine ⟨vp_in_nI hs (by omega), br_f (nI_ge (by omega) (by omega)) ?_⟩
    refine sy_lies W hC hF R hs (by omega) hm hf (fun z => br_f (by decide) ?_) (fun z => br_t rfl ?_)
    · rw [sw_L, if_pos z, List.length_append, List.length_singleton] at e
      rw [nI_1, nI_1]
      exact nm_e (nm_e e)
    · rw [sw_L, if_neg z] at e
      rw [nI_1]
      exact nm_e e
theorem sy_countIn (W : sw_WF K C F D v n p q w d) (hC : C ≤ 120) (hF : F ≤ 20) (R : sy_R s v n p q w b_version b_type b_items b_parent b_field b_val) (hs : s < 3) {m f : Nat} (hm : m < 2 ^ 31) (hf : f < 2 ^ 31) (h : post (nI (sw_L p q m f n).length)) : wpY_countIn post (g_capacity, g_maxField, g_maxDepth, g_outLen, g_regions, g_pos, g_bad, b_kinds, b_held, b_version, b_type, b_cursor, b_items, b_parent, b_field, b_val, b_bytes, b_length, b_out, b_encStart, b_encLen, b_partner, b_regMsg, b_regStart, b_regEnd) (nI s) (sw_mI m) (nI f) :=
  ⟨n + 1, sy_countIn_6 W hC hF R hs hm hf h n 0 (by omega)⟩
theorem sy_find_6 (W : sw_WF K C F D v n p q w d) (hC : C ≤ 120) (hF : F ≤ 20) (R : sy_R s v n p q w b_version b_type b_items b_parent b_field b_val) (hs : s < 3) {m f : Nat} (hm : m < 2 ^ 31) (hf : f < 2 ^ 31) {x : Int32} (h : post (sw_oY (sw_at (sw_L p q m f n) x))) :
    ∀ k i : Nat, i + k = n → (∀ a, a < (sw_L p q m f i).length → ¬ nI a = x) → wY_find_6 post (nI s) (sw_mI m) (nI f) x g_capacity g_maxField g_maxDepth g_outLen g_regions g_pos g_bad b_kinds b_held b_version b_type b_cursor b_items b_parent b_field b_val b_bytes b_length b_out b_encStart b_encLen b_partner b_regMsg b_regStart b_regEnd (k + 1) (nI (sw_L p q m f i).length) (nI i) := by
  have hn := W.1
  intro k
  induction k with
  | zero =>
    intro i hi hx
    obtain rfl : i = n := by omega
    unfold wY_find_6
    rw [nI_clamp (by omega), R.2.2.1]
    refine ⟨vp_in_nI hs (by omega), br_t (nI_le (Nat.le_refl _) (by omega)) ?_⟩
    have e : sw_at (sw_L p q m f i) x = none := by
      by_cases z : x < 0
      · exact sw_at_neg z
      · obtain ⟨b, hb, rfl⟩ := nI_of z
        rw [sw_at_nI hb]
        apply List.getElem?_eq_none
        apply Nat.le_of_not_lt
        intro hlt
        exact hx b hlt rfl
    rw [e] at h
    exact h
  | succ k ih =>
    intro i hi hx
    have e := ih (i + 1) (by omega)
    have hlen := sw_len (p := p) (q := q) (m := m) (f := f) (n := i)
    rw [wY_find_6, nI_clamp (by omega), R.2.2.1]
    refine ⟨vp_in_nI hs (by omega), br_f (nI_ge (by omega) (by omega)) ?_⟩
    refine sy_lies W hC hF R hs (by omega) hm hf (fun z => br_f (by decide) ?_) (fun z => br_t rfl ?_)
    · refine br_c (fun y => ?_) (fun y => ?_)
      · subst y
        rw [sw_at_nI (by omega)] at h
        have ei := sw_idx (p := p) (q := q) (n := n) (j := i + 1) (by omega) (by omega)
        rw [z.1, z.2, Nat.add_sub_cancel] at ei
        rw [ei] at h
        have h' : post (sw_mI (i + 1)) := h
        rw [sw_mI_s] at h'
        exact h'
      · rw [sw_L, if_pos z, List.length_append, List.length_singleton] at e
        rw [nI_1, nI_1]
        refine nm_e (nm_e (e (fun a ha => ?_)))
        by_cases c : a = (sw_L p q m f i).length
        · rw [c]; exact y
        · exact hx a (by omega)
    · rw [sw_L, if_neg z] at e
      rw [nI_1]
      exact nm_e (e hx)
theorem sy_find (W : sw_WF K C F D v n p q w d) (hC : C ≤ 120) (hF : F ≤ 20) (R : sy_R s v n p q w b_version b_type b_items b_parent b_field b_val) (hs : s < 3) {m f : Nat} (hm : m < 2 ^ 31) (hf : f < 2 ^ 31) {x : Int32} (h : post (sw_oY (sw_at (sw_L p q m f n) x))) : wpY_find post (g_capacity, g_maxField, g_maxDepth, g_outLen, g_regions, g_pos, g_bad, b_kinds, b_held, b_version, b_type, b_cursor, b_items, b_parent, b_field, b_val, b_bytes, b_length, b_out, b_encStart, b_encLen, b_partner, b_regMsg, b_regStart, b_regEnd) (nI s) (sw_mI m) (nI f) x :=
  ⟨n + 1, sy_find_6 W hC hF R hs hm hf h n 0 (by omega) (fun a ha => absurd ha (Nat.not_lt_zero a))⟩
theorem sy_depthOf_8 (W : sw_WF K C F D v n p q w d) (hC : C ≤ 120) (R : sy_R s v n p q w b_version b_type b_items b_parent b_field b_val) (hs : s < 3) :
    ∀ k i m : Nat, d m = k → m ≤ n → i + k ≤ 120 → post (nI (i + k)) → wY_depthOf_8 post (nI s) g_capacity g_maxField g_maxDepth g_outLen g_regions g_pos g_bad b_kinds b_held b_version b_type b_cursor b_items b_parent b_field b_val b_bytes b_length b_out b_encStart b_encLen b_partner b_regMsg b_regStart b_regEnd (k + 1) (nI i) (sw_mI m) (nI i) := by
  have hn := W.1
  intro k
  induction k with
  | zero =>
    intro i m hd hm hi h
    have z : m = 0 := by
      apply Classical.byContradiction
      intro z
      have := (W.2.2.2.1 m (by omega) hm).2.2.2.1
      omega
    subst z
    exact pk_le 120 i (fun _ => h) (fun _ => br_t (by decide) h)
  | succ k ih =>
    intro i m hd hm hi h
    have z : m ≠ 0 := by
      intro z
      rw [z, W.2.2.1] at hd
      omega
    have a := W.2.2.2.1 m (by omega) hm
    rw [wY_depthOf_8]
    refine pk_le 120 i (fun c => by omega) (fun _ => br_f (fun c => z ((sw_mI_neg (by omega)).mp c)) ?_)
    rw [sw_mI_120 s (by omega), nI_clamp (by omega), (R.2.2.2 (m - 1) (by omega)).1, nI_1]
    refine ⟨vp_in_nI (by omega) (by omega), nm_e (nm_e (nm_e ?_))⟩
    have e : m - 1 + 1 = m := by omega
    rw [e]
    refine ih (i + 1) (p m) (by omega) (by omega) (by omega) ?_
    have e2 : i + 1 + k = i + (k + 1) := by omega
    rw [e2]; exact h
theorem sy_depthOf (W : sw_WF K C F D v n p q w d) (hC : C ≤ 120) (R : sy_R s v n p q w b_version b_type b_items b_parent b_field b_val) (hs : s < 3) {m : Nat} (hm : m ≤ n) (h : post (nI (d m))) : wpY_depthOf post (g_capacity, g_maxField, g_maxDepth, g_outLen, g_regions, g_pos, g_bad, b_kinds, b_held, b_version, b_type, b_cursor, b_items, b_parent, b_field, b_val, b_bytes, b_length, b_out, b_encStart, b_encLen, b_partner, b_regMsg, b_regStart, b_regEnd) (nI s) (sw_mI m) := by
  refine ⟨d m + 1, ?_⟩
  have hn := W.1
  have := sw_d_le W m hm
  refine sy_depthOf_8 W hC R hs (d m) 0 m rfl hm (by omega) ?_
  rw [Nat.zero_add]; exact h
end
section
variable {g_capacity g_maxField g_maxDepth g_outLen g_regions g_pos g_bad : Int32} {b_kinds b_held b_version b_type b_cursor b_items b_parent b_field b_val b_bytes b_length b_out b_encStart b_encLen b_partner b_regMsg b_regStart b_regEnd : Nat → Int32} {v n s : Nat} {p q : Nat → Nat} {w : Nat → Int32} {post : SY → Prop}
theorem sy_addP (R : sy_R s v n p q w b_version b_type b_items b_parent b_field b_val) (hs : s < 3) (hn : n < 120) {m f : Nat} {x : Int32}
    (h : post (g_capacity, g_maxField, g_maxDepth, g_outLen, g_regions, g_pos, g_bad, b_kinds, b_held, b_version, b_type, b_cursor, upd b_items s (nI (n + 1)), upd b_parent (s * 120 + n) (sw_mI m), upd b_field (s * 120 + n) (nI f), upd b_val (s * 120 + n) x, b_bytes, b_length, b_out, b_encStart, b_encLen, b_partner, b_regMsg, b_regStart, b_regEnd)) : wpY_add post (g_capacity, g_maxField, g_maxDepth, g_outLen, g_regions, g_pos, g_bad, b_kinds, b_held, b_version, b_type, b_cursor, b_items, b_parent, b_field, b_val, b_bytes, b_length, b_out, b_encStart, b_encLen, b_partner, b_regMsg, b_regStart, b_regEnd) (nI s) (sw_mI m) (nI f) x := by
  have hI := R.2.2.1
  have e1 : (nI s).toNatClampNeg = s := nI_clamp (by omega)
  have e2 : (nI (s * 120 + n)).toNatClampNeg = s * 120 + n := nI_clamp (by omega)
  unfold wpY_add
  dsimp only
  rw [e1, hI, sn_120, nI_1]
  refine ⟨vp_in_nI hs (by omega), pk_lt n 120 (fun _ => ⟨vp_in_nI hs (by omega), nm_e ?_⟩) (fun c => by omega)⟩
  rw [e2]
  exact ⟨vp_in_nI (by omega) (by omega), nm_e ⟨vp_in_nI (by omega) (by omega), nm_e ⟨vp_in_nI (by omega) (by omega), nm_e ⟨vp_in_nI hs (by omega), vp_in_nI hs (by omega), nm_e h⟩⟩⟩⟩
end
end
section
/-! X's methods that change a store -/
section
variable {f_capacity f_maxField f_maxDepth f_spare f_writeAt f_level f_readAt f_broken : Int32} {a_kinds a_held a_storeOf a_cursor a_items a_word a_next a_schemaOf a_parentOf a_depthOf a_head a_tail a_length a_bytes a_filled a_sizeOf a_placeOf a_match a_regionEnd a_regionMessage : Nat → Int32} {K : Nat → Nat} {C F D v n t : Nat} {p q d : Nat → Nat} {w : Nat → Int32}
theorem sx_init_39 {post : SX → Prop} {c : Nat} (hc : c < 363) {h0 t0 l0 : Nat → Int32}
    (h : ∀ a_head' a_tail' a_length' : Nat → Int32, (∀ f, f < 21 → a_length' (c * 21 + f) = 0) → (∀ a, (a < c * 21 ∨ c * 21 + 21 ≤ a) → a_head' a = h0 a ∧ a_tail' a = t0 a ∧ a_length' a = l0 a) → post (f_capacity, f_maxField, f_maxDepth, f_spare, f_writeAt, f_level, f_readAt, f_broken, a_kinds, a_held, a_storeOf, a_cursor, a_items, a_word, a_next, a_schemaOf, a_parentOf, a_depthOf, a_head', a_tail', a_length', a_bytes, a_filled, a_sizeOf, a_placeOf, a_match, a_regionEnd, a_regionMessage)) :
    ∀ (k i : Nat) (a_head a_tail a_length : Nat → Int32), i + k = 21 → (∀ f, f < i → a_length (c * 21 + f) = 0) → (∀ a, (a < c * 21 ∨ c * 21 + 21 ≤ a) → a_head a = h0 a ∧ a_tail a = t0 a ∧ a_length a = l0 a) →
      wX_initMessage_39 post (nI c) f_capacity f_maxField f_maxDepth f_spare f_writeAt f_level f_readAt f_broken (k + 1) (nI i) a_kinds a_held a_storeOf a_cursor a_items a_word a_next a_schemaOf a_parentOf a_depthOf a_head a_tail a_length a_bytes a_filled a_sizeOf a_placeOf a_match a_regionEnd a_regionMessage := by
  intro k
  induction k with
  | zero =>
    intro i a_head a_tail a_length hi h1 h2
    obtain rfl : i = 21 := by omega
    exact br_t (nI_le (a := 21) (b := 21) (Nat.le_refl _) (by omega)) (h _ _ _ h1 h2)
  | succ k ih =>
    intro i a_head a_tail a_length hi h1 h2
    rw [wX_initMessage_39]
    dsimp only
    rw [sn_21, nI_clamp (by omega), nI_1]
    refine br_f (nI_ge (b := 21) (by omega) (by omega)) ⟨vp_in_nI (by omega) (by omega), nm_e ⟨vp_in_nI (by omega) (by omega), nm_e ⟨vp_in_nI (by omega) (by omega), nm_e (nm_e ?_)⟩⟩⟩
    refine ih (i + 1) _ _ _ (by omega) (fun f hf => ?_) (fun a ha => ?_)
    · by_cases e : f = i
      · subst e; exact pk_us
      · rw [pk_un (by omega)]; exact h1 f (by omega)
    · rw [pk_un (by omega), pk_un (by omega), pk_un (by omega)]; exact h2 a ha
theorem sx_initMessage {post : SX → Prop} {c : Nat} (hc : c < 363) {x y z : Int32}
    (h : ∀ a_head' a_tail' a_length' : Nat → Int32, (∀ f, f < 21 → a_length' (c * 21 + f) = 0) → (∀ a, (a < c * 21 ∨ c * 21 + 21 ≤ a) → a_head' a = a_head a ∧ a_tail' a = a_tail a ∧ a_length' a = a_length a) → post (f_capacity, f_maxField, f_maxDepth, f_spare, f_writeAt, f_level, f_readAt, f_broken, a_kinds, a_held, a_storeOf, a_cursor, a_items, upd a_word c 0, upd a_next c (-1), upd a_schemaOf c x, upd a_parentOf c y, upd a_depthOf c z, a_head', a_tail', a_length', a_bytes, a_filled, a_sizeOf, a_placeOf, a_match, a_regionEnd, a_regionMessage)) :
    wpX_initMessage post (f_capacity, f_maxField, f_maxDepth, f_spare, f_writeAt, f_level, f_readAt, f_broken, a_kinds, a_held, a_storeOf, a_cursor, a_items, a_word, a_next, a_schemaOf, a_parentOf, a_depthOf, a_head, a_tail, a_length, a_bytes, a_filled, a_sizeOf, a_placeOf, a_match, a_regionEnd, a_regionMessage) (nI c) x y z := by
  have e : (nI c).toNatClampNeg = c := nI_clamp (by omega)
  have hi : vp_in (nI c) 363 := vp_in_nI hc (by omega)
  unfold wpX_initMessage
  dsimp only
  rw [e]
  refine ⟨hi, nm_e ⟨hi, nm_e ⟨hi, nm_e ⟨hi, nm_e ⟨hi, nm_e ⟨22, ?_⟩⟩⟩⟩⟩⟩
  exact sx_init_39 hc h 21 0 _ _ _ (by omega) (fun f hf => absurd hf (Nat.not_lt_zero f)) (fun a _ => ⟨rfl, rfl, rfl⟩)
theorem sx_resetStore {post : SX → Prop} (ht : t < 3) {x : Nat} (hx : x < 3) (hv : v < 3)
    (h : ∀ a_items' a_word' a_next' a_schemaOf' a_parentOf' a_depthOf' a_head' a_tail' a_length' : Nat → Int32, sx_R K F t v 0 p q (fun _ => nI x) (fun _ => 0) a_items' a_word' a_next' a_schemaOf' a_parentOf' a_depthOf' a_head' a_tail' a_length' → sx_Fr K F t a_items a_word a_next a_schemaOf a_parentOf a_depthOf a_head a_tail a_length a_items' a_word' a_next' a_schemaOf' a_parentOf' a_depthOf' a_head' a_tail' a_length' → post (f_capacity, f_maxField, f_maxDepth, f_spare, f_writeAt, f_level, f_readAt, f_broken, a_kinds, a_held, a_storeOf, a_cursor, a_items', a_word', a_next', a_schemaOf', a_parentOf', a_depthOf', a_head', a_tail', a_length', a_bytes, a_filled, a_sizeOf, a_placeOf, a_match, a_regionEnd, a_regionMessage)) :
    wpX_resetStore post (f_capacity, f_maxField, f_maxDepth, f_spare, f_writeAt, f_level, f_readAt, f_broken, a_kinds, a_held, a_storeOf, a_cursor, a_items, a_word, a_next, a_schemaOf, a_parentOf, a_depthOf, a_head, a_tail, a_length, a_bytes, a_filled, a_sizeOf, a_placeOf, a_match, a_regionEnd, a_regionMessage) (nI t) (nI (v * 3 + x)) := by
  have e : (nI t).toNatClampNeg = t := nI_clamp (by omega)
  unfold wpX_resetStore
  dsimp only
  rw [e, sn_m121]
  refine ⟨vp_in_nI ht (by omega), nm_e ?_⟩
  refine sx_initMessage (by omega) (fun a_head' a_tail' a_length' h1 h2 => ?_)
  dsimp only
  refine h _ _ _ _ _ _ _ _ _ ?_ ?_
  · refine ⟨pk_us, fun j hj => ?_, fun j h1 hj => by omega, fun m hm _ => ?_, fun m f hm _ hf => ?_⟩
    · obtain rfl : j = 0 := by omega
      refine ⟨fun _ => ?_, fun z => absurd sw_ms0 z⟩
      rw [Nat.add_zero, pk_us, sw_sc, nI_clamp (by omega)]
    · obtain rfl : m = 0 := by omega
      rw [Nat.add_zero, pk_us, pk_us, if_pos rfl]
      exact ⟨rfl, rfl⟩
    · obtain rfl : m = 0 := by omega
      refine ⟨?_, fun j hj => ?_, fun j hj => ?_, fun i j k hj => ?_⟩
      · rw [Nat.add_zero, h1 f (by omega)]; rfl
      · cases hj
      · cases hj
      · rw [sw_L, List.getElem?_nil] at hj; cases hj
  · refine sx_Fr_of ⟨fun i hi => pk_un hi, fun c hc => ?_, fun c hc => ?_⟩
    · rw [pk_un (by omega), pk_un (by omega), pk_un (by omega), pk_un (by omega), pk_un (by omega)]
      exact ⟨rfl, rfl, rfl, rfl, rfl⟩
    · exact h2 c (by omega)
theorem sx_addCell {post : Int32 → SX → Prop} (hcap : f_capacity = nI C) (hC : C ≤ 120) (W : sw_WF K C F D v n p q w d) (R : sx_R K F t v n p q w d a_items a_word a_next a_schemaOf a_parentOf a_depthOf a_head a_tail a_length) (ht : t < 3) {m f : Nat} (hm : m ≤ n) (hms : sw_ms K F v p q w m) (hf : f ≤ 20)
    (h0 : C ≤ n → post (-1) (f_capacity, f_maxField, f_maxDepth, f_spare, f_writeAt, f_level, f_readAt, f_broken, a_kinds, a_held, a_storeOf, a_cursor, a_items, a_word, a_next, a_schemaOf, a_parentOf, a_depthOf, a_head, a_tail, a_length, a_bytes, a_filled, a_sizeOf, a_placeOf, a_match, a_regionEnd, a_regionMessage))
    (h1 : n < C → ∀ a_next' a_head' : Nat → Int32,
      (∀ c, c ≠ t * 121 + (n + 1) → (∀ j, (sw_L p q m f n).getLast? = some j → c ≠ t * 121 + j) → a_next' c = a_next c) →
      (∀ j, (sw_L p q m f n).getLast? = some j → a_next' (t * 121 + j) = nI (t * 121 + (n + 1))) →
      (∀ a, a ≠ (t * 121 + m) * 21 + f → a_head' a = a_head a) →
      (sw_L p q m f n = [] → a_head' ((t * 121 + m) * 21 + f) = nI (t * 121 + (n + 1))) →
      (sw_L p q m f n ≠ [] → a_head' ((t * 121 + m) * 21 + f) = a_head ((t * 121 + m) * 21 + f)) →
      post (nI (t * 121 + (n + 1))) (f_capacity, f_maxField, f_maxDepth, f_spare, f_writeAt, f_level, f_readAt, f_broken, a_kinds, a_held, a_storeOf, a_cursor, upd a_items t (nI (n + 1)), upd a_word (t * 121 + (n + 1)) 0, a_next', upd a_schemaOf (t * 121 + (n + 1)) (-1), a_parentOf, a_depthOf, a_head', upd a_tail ((t * 121 + m) * 21 + f) (nI (t * 121 + (n + 1))), upd a_length ((t * 121 + m) * 21 + f) (nI ((sw_L p q m f n).length + 1)), a_bytes, a_filled, a_sizeOf, a_placeOf, a_match, a_regionEnd, a_regionMessage)) :
    wpX_addCell post (f_capacity, f_maxField, f_maxDepth, f_spare, f_writeAt, f_level, f_readAt, f_broken, a_kinds, a_held, a_storeOf, a_cursor, a_items, a_word, a_next, a_schemaOf, a_parentOf, a_depthOf, a_head, a_tail, a_length, a_bytes, a_filled, a_sizeOf, a_placeOf, a_match, a_regionEnd, a_regionMessage) (nI t) (nI (t * 121 + m)) (nI f) := by
  subst hcap
  have hn := W.1
  have U := sw_up_of W
  have hlen := sw_len (p := p) (q := q) (m := m) (f := f) (n := n)
  obtain ⟨c1, c2, c3, c4⟩ := R.2.2.2.2 m f hm hms hf
  have et : (nI t).toNatClampNeg = t := nI_clamp (by omega)
  have hi : vp_in (nI t) 3 := vp_in_nI ht (by omega)
  have ea : (nI ((t * 121 + m) * 21 + f)).toNatClampNeg = (t * 121 + m) * 21 + f := nI_clamp (by omega)
  have hia : vp_in (nI ((t * 121 + m) * 21 + f)) 7623 := vp_in_nI (by omega) (by omega)
  unfold wpX_addCell
  dsimp only
  rw [et, R.1, nI_1, sn_21]
  refine ⟨hi, pk_lt n C (fun hnC => ?_) (fun z => h0 z)⟩
  have ec : (nI (t * 121 + (n + 1))).toNatClampNeg = t * 121 + (n + 1) := nI_clamp (by omega)
  have hic : vp_in (nI (t * 121 + (n + 1))) 363 := vp_in_nI (by omega) (by omega)
  refine ⟨hi, hi, nm_e ⟨hi, ?_⟩⟩
  rw [pk_us, sn_121]
  refine nm_e (nm_e ?_)
  rw [ec, ea, c1]
  refine ⟨hic, nm_e ⟨hic, nm_e ⟨hic, nm_e ⟨hia, ?_⟩⟩⟩⟩
  refine pk_eq _ 0 (fun z => ⟨hia, nm_e ?_⟩) (fun z => ⟨hia, ?_⟩)
  · have zn : sw_L p q m f n = [] := List.eq_nil_of_length_eq_zero z
    unfold wX_addCell_106
    rw [ea, c1, nI_1]
    refine ⟨hia, nm_e ⟨hia, hia, nm_e ?_⟩⟩
    refine h1 hnC _ _ (fun c a b => pk_un a) (fun j hj => ?_) (fun a ha => pk_un ha) (fun _ => pk_us) (fun y => absurd zn y)
    rw [zn] at hj; cases hj
  · have zn : sw_L p q m f n ≠ [] := fun y => z (by rw [y]; rfl)
    obtain ⟨j, hj⟩ : ∃ j, (sw_L p q m f n).getLast? = some j := ⟨(sw_L p q m f n).getLast zn, List.getLast?_eq_some_getLast zn⟩
    have hjm := sw_mem.mp (List.mem_of_getLast? hj)
    rw [c3 j hj]
    have ej : (nI (t * 121 + j)).toNatClampNeg = t * 121 + j := nI_clamp (by omega)
    rw [ej]
    refine ⟨vp_in_nI (by omega) (by omega), nm_e ?_⟩
    unfold wX_addCell_106
    rw [ea, c1, nI_1]
    refine ⟨hia, nm_e ⟨hia, hia, nm_e ?_⟩⟩
    refine h1 hnC _ _ (fun c a b => ?_) (fun j' hj' => ?_) (fun a ha => rfl) (fun y => absurd y zn) (fun _ => rfl)
    · rw [pk_un (b j hj), pk_un a]
    · rw [hj] at hj'
      rw [← Option.some.inj hj']; exact pk_us
/-- arrays behind addCell: what lies outside of store t, and inside -/
theorem sx_addOut (hn : n < 120) {m f : Nat} (hm : m ≤ n) (hf : f ≤ 20) {x : Int32} {a_word' a_next' a_schemaOf' a_parentOf' a_depthOf' a_head' a_tail' a_length' : Nat → Int32}
    (hw : ∀ c, (c < t * 121 ∨ t * 121 + 121 ≤ c) → a_word' c = a_word c ∧ a_next' c = a_next c ∧ a_schemaOf' c = a_schemaOf c ∧ a_parentOf' c = a_parentOf c ∧ a_depthOf' c = a_depthOf c)
    (hl : ∀ c, (c < t * 121 * 21 ∨ (t * 121 + 121) * 21 ≤ c) → a_head' c = a_head c ∧ a_tail' c = a_tail c ∧ a_length' c = a_length c) :
    sx_Fr K F t a_items a_word a_next a_schemaOf a_parentOf a_depthOf a_head a_tail a_length (upd a_items t x) a_word' a_next' a_schemaOf' a_parentOf' a_depthOf' a_head' a_tail' a_length' := sx_Fr_of ⟨fun i hi => pk_un hi, hw, hl⟩
theorem sx_storeInt {post : Int32 → SX → Prop} (X : sw_Cx K C F D f_capacity f_maxField f_maxDepth a_kinds) (W : sw_WF K C F D v n p q w d) (R : sx_R K F t v n p q w d a_items a_word a_next a_schemaOf a_parentOf a_depthOf a_head a_tail a_length) (ht : t < 3) {m f : Nat} (hm : m ≤ n) (hms : sw_ms K F v p q w m) (hf1 : 1 ≤ f) (hf2 : f ≤ F) (hk : sw_kd K F (sw_sc v w m) f ≤ 9) {x : Int32}
    (hA : ∀ j, sw_kd K F (sw_sc v w m) f ≤ 3 → (sw_L p q m f n)[0]? = some j → post 1 (f_capacity, f_maxField, f_maxDepth, f_spare, f_writeAt, f_level, f_readAt, f_broken, a_kinds, a_held, a_storeOf, a_cursor, a_items, upd a_word (t * 121 + j) x, a_next, a_schemaOf, a_parentOf, a_depthOf, a_head, a_tail, a_length, a_bytes, a_filled, a_sizeOf, a_placeOf, a_match, a_regionEnd, a_regionMessage))
    (hB : ¬ (sw_kd K F (sw_sc v w m) f ≤ 3 ∧ sw_L p q m f n ≠ []) → n < C → ∀ a_items' a_word' a_next' a_schemaOf' a_parentOf' a_depthOf' a_head' a_tail' a_length' : Nat → Int32, sx_R K F t v (n + 1) (sw_up p (n + 1) m) (sw_up q (n + 1) f) (upd w (n + 1) x) (sw_up d (n + 1) (d m + 1)) a_items' a_word' a_next' a_schemaOf' a_parentOf' a_depthOf' a_head' a_tail' a_length' → sx_Fr K F t a_items a_word a_next a_schemaOf a_parentOf a_depthOf a_head a_tail a_length a_items' a_word' a_next' a_schemaOf' a_parentOf' a_depthOf' a_head' a_tail' a_length' → post 1 (f_capacity, f_maxField, f_maxDepth, f_spare, f_writeAt, f_level, f_readAt, f_broken, a_kinds, a_held, a_storeOf, a_cursor, a_items', a_word', a_next', a_schemaOf', a_parentOf', a_depthOf', a_head', a_tail', a_length', a_bytes, a_filled, a_sizeOf, a_placeOf, a_match, a_regionEnd, a_regionMessage))
    (hC : ¬ (sw_kd K F (sw_sc v w m) f ≤ 3 ∧ sw_L p q m f n ≠ []) → C ≤ n → post 0 (f_capacity, f_maxField, f_maxDepth, f_spare, f_writeAt, f_level, f_readAt, f_broken, a_kinds, a_held, a_storeOf, a_cursor, a_items, a_word, a_next, a_schemaOf, a_parentOf, a_depthOf, a_head, a_tail, a_length, a_bytes, a_filled, a_sizeOf, a_placeOf, a_match, a_regionEnd, a_regionMessage)) :
    wpX_storeInt post (f_capacity, f_maxField, f_maxDepth, f_spare, f_writeAt, f_level, f_readAt, f_broken, a_kinds, a_held, a_storeOf, a_cursor, a_items, a_word, a_next, a_schemaOf, a_parentOf, a_depthOf, a_head, a_tail, a_length, a_bytes, a_filled, a_sizeOf, a_placeOf, a_match, a_regionEnd, a_regionMessage) (nI t) (nI (t * 121 + m)) (nI f) x := by
  have X0 := X
  obtain ⟨x1, x2, x3, x4, x5, x6, e1, e2, e3, x7⟩ := X
  have hn := W.1
  have hlen := sw_len (p := p) (q := q) (m := m) (f := f) (n := n)
  obtain ⟨c1, c2, c3, c4⟩ := R.2.2.2.2 m f hm hms (by omega)
  have ea : (nI ((t * 121 + m) * 21 + f)).toNatClampNeg = (t * 121 + m) * 21 + f := nI_clamp (by omega)
  have hia : vp_in (nI ((t * 121 + m) * 21 + f)) 7623 := vp_in_nI (by omega) (by omega)
  have hadd : ¬ (sw_kd K F (sw_sc v w m) f ≤ 3 ∧ sw_L p q m f n ≠ []) → wX_storeInt_44 post (nI t) (nI (t * 121 + m)) (nI f) x f_capacity f_maxField f_maxDepth f_spare f_writeAt f_level f_readAt f_broken a_kinds a_held a_storeOf a_cursor a_items a_word a_next a_schemaOf a_parentOf a_depthOf a_head a_tail a_length a_bytes a_filled a_sizeOf a_placeOf a_match a_regionEnd a_regionMessage := by
    intro hno
    unfold wX_storeInt_44
    refine sx_addCell e1 x2 W R ht hm hms (by omega) (fun z => br_f sn_neg1 (hC hno z)) (fun z a_next' a_head' n1 n2 g1 g2 g3 => ?_)
    have ec : (nI (t * 121 + (n + 1))).toNatClampNeg = t * 121 + (n + 1) := nI_clamp (by omega)
    refine br_t (nI_pos' (by omega)) ⟨vp_in_nI (by omega) (by omega), nm_e ?_⟩
    rw [ec]
    refine hB hno z _ _ _ _ _ _ _ _ _ ?_ ?_
    · refine sx_add R W hm hms (by omega) pk_us (fun j hj => ⟨?_, ?_, rfl, rfl⟩) (fun _ => ⟨pk_us, pk_us⟩) (fun y => by omega) (fun m' f' hm' hf' y => ⟨?_, ?_, ?_⟩) ⟨pk_us, pk_us, g2, g3⟩ (fun j hj y => ?_) n2
      · rw [pk_un (by omega), pk_un (by omega)]
      · rw [pk_un (by omega)]
      · rw [pk_un (by omega)]
      · exact g1 _ (by omega)
      · rw [pk_un (by omega)]
      · refine n1 _ (by omega) (fun j' hj' e => y ?_)
        have : j = j' := by omega
        rw [this]; exact hj'
    · refine sx_addOut (n := n) (by omega) hm (f := f) (by omega) (fun c hc => ⟨?_, ?_, ?_, rfl, rfl⟩) (fun c hc => ⟨?_, ?_, ?_⟩)
      · rw [pk_un (by omega), pk_un (by omega)]
      · refine n1 _ (by omega) (fun j' hj' e => ?_)
        have := sw_mem.mp (List.mem_of_getLast? hj')
        omega
      · rw [pk_un (by omega)]
      · exact g1 _ (by omega)
      · rw [pk_un (by omega)]
      · rw [pk_un (by omega)]
  unfold wpX_storeInt
  refine sx_kindIn X0 W R ht hm hms (by omega) ?_
  rw [sn_21]
  refine nm_e (pk_lt 3 (sw_kd K F (sw_sc v w m) f) (fun z => hadd (fun y => by omega)) (fun z => ⟨hia, ?_⟩))
  rw [ea, c1]
  refine pk_le (sw_L p q m f n).length 0 (fun y => hadd (fun u => u.2 (List.eq_nil_of_length_eq_zero (by omega)))) (fun y => ⟨hia, ?_⟩)
  obtain ⟨j, hj⟩ := sw_nthex y
  have hjm := sw_mem.mp (sw_nthmem hj)
  have ej : (nI (t * 121 + j)).toNatClampNeg = t * 121 + j := nI_clamp (by omega)
  rw [c2 j hj]
  refine nm_e ?_
  unfold wX_storeInt_53
  rw [ej]
  exact br_t (nI_pos' (by omega)) ⟨vp_in_nI (by omega) (by omega), nm_e (hA j z hj)⟩
theorem sx_addMessage {post : Int32 → SX → Prop} (X : sw_Cx K C F D f_capacity f_maxField f_maxDepth a_kinds) (W : sw_WF K C F D v n p q w d) (R : sx_R K F t v n p q w d a_items a_word a_next a_schemaOf a_parentOf a_depthOf a_head a_tail a_length) (ht : t < 3) {m f : Nat} (hm : m ≤ n) (hms : sw_ms K F v p q w m) (hf1 : 1 ≤ f) (hf2 : f ≤ F) (hk : 10 ≤ sw_kd K F (sw_sc v w m) f)
    (hB : n < C → ∀ a_items' a_word' a_next' a_schemaOf' a_parentOf' a_depthOf' a_head' a_tail' a_length' : Nat → Int32, sx_R K F t v (n + 1) (sw_up p (n + 1) m) (sw_up q (n + 1) f) (upd w (n + 1) (nI ((sw_kd K F (sw_sc v w m) f - 10) % 3))) (sw_up d (n + 1) (d m + 1)) a_items' a_word' a_next' a_schemaOf' a_parentOf' a_depthOf' a_head' a_tail' a_length' → sx_Fr K F t a_items a_word a_next a_schemaOf a_parentOf a_depthOf a_head a_tail a_length a_items' a_word' a_next' a_schemaOf' a_parentOf' a_depthOf' a_head' a_tail' a_length' → post (nI (t * 121 + (n + 1))) (f_capacity, f_maxField, f_maxDepth, f_spare, f_writeAt, f_level, f_readAt, f_broken, a_kinds, a_held, a_storeOf, a_cursor, a_items', a_word', a_next', a_schemaOf', a_parentOf', a_depthOf', a_head', a_tail', a_length', a_bytes, a_filled, a_sizeOf, a_placeOf, a_match, a_regionEnd, a_regionMessage))
    (hC : C ≤ n → post (-1) (f_capacity, f_maxField, f_maxDepth, f_spare, f_writeAt, f_level, f_readAt, f_broken, a_kinds, a_held, a_storeOf, a_cursor, a_items, a_word, a_next, a_schemaOf, a_parentOf, a_depthOf, a_head, a_tail, a_length, a_bytes, a_filled, a_sizeOf, a_placeOf, a_match, a_regionEnd, a_regionMessage)) :
    wpX_addMessage post (f_capacity, f_maxField, f_maxDepth, f_spare, f_writeAt, f_level, f_readAt, f_broken, a_kinds, a_held, a_storeOf, a_cursor, a_items, a_word, a_next, a_schemaOf, a_parentOf, a_depthOf, a_head, a_tail, a_length, a_bytes, a_filled, a_sizeOf, a_placeOf, a_match, a_regionEnd, a_regionMessage) (nI t) (nI (t * 121 + m)) (nI f) := by
  have X0 := X
  obtain ⟨x1, x2, x3, x4, x5, x6, e1, e2, e3, x7⟩ := X
  have hn := W.1
  have U := sw_up_of W
  obtain ⟨hs9, ty, hty, ew, es⟩ := sw_sc_lt W hm hms
  have hk15 := sw_kd_le (K := K) (F := F) (s := sw_sc v w m) (f := f) (fun i h => (x7 i h).1) x4 hs9
  have em : (nI (t * 121 + m)).toNatClampNeg = t * 121 + m := nI_clamp (by omega)
  have him : vp_in (nI (t * 121 + m)) 363 := vp_in_nI (by omega) (by omega)
  unfold wpX_addMessage
  refine sx_kindIn X0 W R ht hm hms (by omega) ?_
  refine sx_addCell e1 x2 W R ht hm hms (by omega) (fun z => br_f sn_neg1 (hC z)) (fun z a_next' a_head' n1 n2 g1 g2 g3 => ?_)
  refine br_t (nI_pos' (by omega)) ⟨him, ?_⟩
  rw [em, pk_un (by omega), (R.2.1 m hm).1 hms]
  refine nm_e ⟨by decide, by decide, ?_⟩
  have er : nI (sw_sc v w m) - (nI (sw_sc v w m) - nI (sw_sc v w m) / 3 * 3) + (nI (sw_kd K F (sw_sc v w m) f) - 10 - (nI (sw_kd K F (sw_sc v w m) f) - 10) / 3 * 3) = nI (v * 3 + (sw_kd K F (sw_sc v w m) f - 10) % 3) := by
    have a : nI (sw_kd K F (sw_sc v w m) f) - 10 = nI (sw_kd K F (sw_sc v w m) f - 10) := pk_sub (b := 10) hk
    rw [a]
    have b := pk_rem (a := sw_kd K F (sw_sc v w m) f - 10) (d := 3) (by omega) (by omega) (by omega)
    have c := pk_rem (a := sw_sc v w m) (d := 3) (by omega) (by omega) (by omega)
    have b' : nI (sw_kd K F (sw_sc v w m) f - 10) - nI (sw_kd K F (sw_sc v w m) f - 10) / 3 * 3 = nI ((sw_kd K F (sw_sc v w m) f - 10) % 3) := b
    have c' : nI (sw_sc v w m) - nI (sw_sc v w m) / 3 * 3 = nI (sw_sc v w m % 3) := c
    rw [b', c', pk_sub (Nat.mod_le _ _), nI_add]
    have : sw_sc v w m - sw_sc v w m % 3 = v * 3 := by omega
    rw [this]
  rw [er, (R.2.2.2.1 m hm hms).2, nI_1]
  refine nm_e ⟨him, ?_⟩
  refine sx_initMessage (by omega) (fun a_head2 a_tail2 a_length2 l1 l2 => ?_)
  refine hB z _ _ _ _ _ _ _ _ _ ?_ ?_
  · refine sx_add R W hm hms (by omega) pk_us (fun j hj => ⟨?_, ?_, ?_, ?_⟩) (fun y => absurd hk y) (fun _ => ⟨?_, pk_us, pk_us, fun f' hf' => l1 f' (by omega)⟩) (fun m' f' hm' hf' y => ?_) ⟨?_, ?_, fun y => ?_, fun y => ?_⟩ (fun j hj y => ?_) (fun j hj => ?_)
    · rw [pk_un (by omega), pk_un (by omega)]
    · rw [pk_un (by omega), pk_un (by omega)]
    · rw [pk_un (by omega)]
    · rw [pk_un (by omega)]
    · rw [pk_us, nI_clamp (by omega)]
    · obtain ⟨a, b, c⟩ := l2 ((t * 121 + m') * 21 + f') (by omega)
      rw [a, b, c, pk_un (by omega), pk_un (by omega), g1 _ (by omega)]
      exact ⟨rfl, rfl, rfl⟩
    · rw [(l2 ((t * 121 + m) * 21 + f) (by omega)).2.2, pk_us]
    · rw [(l2 ((t * 121 + m) * 21 + f) (by omega)).2.1, pk_us]
    · rw [(l2 ((t * 121 + m) * 21 + f) (by omega)).1, g2 y]
    · rw [(l2 ((t * 121 + m) * 21 + f) (by omega)).1, g3 y]
    · rw [pk_un (by omega)]
      refine n1 _ (by omega) (fun j' hj' e => y ?_)
      have : j = j' := by omega
      rw [this]; exact hj'
    · have := sw_mem.mp (List.mem_of_getLast? hj)
      rw [pk_un (by omega)]; exact n2 j hj
  · refine sx_addOut (n := n) (by omega) hm (f := f) (by omega) (fun c hc => ⟨?_, ?_, ?_, ?_, ?_⟩) (fun c hc => ?_)
    · rw [pk_un (by omega), pk_un (by omega)]
    · rw [pk_un (by omega)]
      refine n1 _ (by omega) (fun j' hj' e => ?_)
      have := sw_mem.mp (List.mem_of_getLast? hj')
      omega
    · rw [pk_un (by omega), pk_un (by omega)]
    · rw [pk_un (by omega)]
    · rw [pk_un (by omega)]
    · obtain ⟨a, b, c'⟩ := l2 c (by omega)
      rw [a, b, c', pk_un (by omega), pk_un (by omega), g1 _ (by omega)]
      exact ⟨rfl, rfl, rfl⟩
end
end
section
/-! the relation -/
def sr_Slot (K : Nat → Nat) (C F D s t : Nat) (a_cursor a_items a_word a_next a_schemaOf a_parentOf a_depthOf a_head a_tail a_length b_cursor b_version b_type b_items b_parent b_field b_val : Nat → Int32) : Prop :=
  ∃ (v n : Nat) (p q d p' q' d' : Nat → Nat) (w w' : Nat → Int32) (σ : Nat → Nat) (c : Nat),
    sw_WF K C F D v n p q w d ∧ sw_WF K C F D v n p' q' w' d' ∧ sx_R K F t v n p q w d a_items a_word a_next a_schemaOf a_parentOf a_depthOf a_head a_tail a_length ∧ sy_R s v n p' q' w' b_version b_type b_items b_parent b_field b_val ∧
    sw_Iso n p q w n p' q' w' σ ∧ c ≤ n ∧ sw_ms K F v p q w c ∧ a_cursor s = nI (t * 121 + c) ∧ b_cursor s = sw_mI (σ c)
def sr_St (st : Nat → Nat) (a_storeOf : Nat → Int32) (f_spare : Int32) : Prop :=
  a_storeOf 0 = nI (st 0) ∧ a_storeOf 1 = nI (st 1) ∧ f_spare = nI (st 2) ∧ st 0 < 3 ∧ st 1 < 3 ∧ st 2 < 3 ∧ st 0 ≠ st 1 ∧ st 0 ≠ st 2 ∧ st 1 ≠ st 2
theorem sr_st {st : Nat → Nat} {a_storeOf : Nat → Int32} {f_spare : Int32} (h : sr_St st a_storeOf f_spare) {s : Nat} (hs : s < 2) : a_storeOf s = nI (st s) ∧ st s < 3 ∧ st s ≠ st 2 := by
  obtain ⟨a, b, c, e, f, g, x, y, z⟩ := h
  obtain rfl | rfl : s = 0 ∨ s = 1 := by omega
  · exact ⟨a, e, y⟩
  · exact ⟨b, f, z⟩
theorem sr_st2 {st : Nat → Nat} {a_storeOf : Nat → Int32} {f_spare : Int32} (h : sr_St st a_storeOf f_spare) {s s' : Nat} (hs : s < 2) (hs' : s' < 2) (hne : s ≠ s') : st s ≠ st s' := by
  obtain ⟨a, b, c, e, f, g, x, y, z⟩ := h
  obtain ⟨rfl, rfl⟩ | ⟨rfl, rfl⟩ : (s = 0 ∧ s' = 1) ∨ (s = 1 ∧ s' = 0) := by omega
  · exact x
  · exact fun e => x e.symm
def sr_Core (f_capacity f_maxField f_maxDepth f_spare : Int32) (a_kinds a_held a_storeOf a_cursor a_items a_word a_next a_schemaOf a_parentOf a_depthOf a_head a_tail a_length a_filled b_cursor b_version b_type b_items b_parent b_field b_val : Nat → Int32) : Prop :=
  ∃ (K : Nat → Nat) (C F D : Nat) (st : Nat → Nat), sw_Cx K C F D f_capacity f_maxField f_maxDepth a_kinds ∧ sr_St st a_storeOf f_spare ∧
    (∀ b, b < 2 → ∃ l, l ≤ C ∧ a_filled b = nI l) ∧ (∀ s, s < 2 → a_held s ≠ 0 → sr_Slot K C F D s (st s) a_cursor a_items a_word a_next a_schemaOf a_parentOf a_depthOf a_head a_tail a_length b_cursor b_version b_type b_items b_parent b_field b_val)
def sr_Body (f_capacity f_maxField f_maxDepth f_spare f_writeAt f_level f_readAt f_broken : Int32) (a_kinds a_held a_storeOf a_cursor a_items a_word a_next a_schemaOf a_parentOf a_depthOf a_head a_tail a_length a_bytes a_filled a_sizeOf a_placeOf a_match a_regionEnd a_regionMessage : Nat → Int32) (g_capacity g_maxField g_maxDepth g_outLen g_regions g_pos g_bad : Int32) (b_kinds b_held b_version b_type b_cursor b_items b_parent b_field b_val b_bytes b_length b_out b_encStart b_encLen b_partner b_regMsg b_regStart b_regEnd : Nat → Int32) : Prop :=
  (g_capacity = f_capacity ∧ g_maxField = f_maxField ∧ g_maxDepth = f_maxDepth ∧ b_kinds = a_kinds ∧ b_held = a_held ∧ b_bytes = a_bytes ∧ b_length = a_filled) ∧
  sr_Core f_capacity f_maxField f_maxDepth f_spare a_kinds a_held a_storeOf a_cursor a_items a_word a_next a_schemaOf a_parentOf a_depthOf a_head a_tail a_length a_filled b_cursor b_version b_type b_items b_parent b_field b_val
def i_Rel (k : Nat) (u : SX) (v : SY) : Prop := match u with
  | (f_capacity, f_maxField, f_maxDepth, f_spare, f_writeAt, f_level, f_readAt, f_broken, a_kinds, a_held, a_storeOf, a_cursor, a_items, a_word, a_next, a_schemaOf, a_parentOf, a_depthOf, a_head, a_tail, a_length, a_bytes, a_filled, a_sizeOf, a_placeOf, a_match, a_regionEnd, a_regionMessage) => match v with
    | (g_capacity, g_maxField, g_maxDepth, g_outLen, g_regions, g_pos, g_bad, b_kinds, b_held, b_version, b_type, b_cursor, b_items, b_parent, b_field, b_val, b_bytes, b_length, b_out, b_encStart, b_encLen, b_partner, b_regMsg, b_regStart, b_regEnd) => sr_Body f_capacity f_maxField f_maxDepth f_spare f_writeAt f_level f_readAt f_broken a_kinds a_held a_storeOf a_cursor a_items a_word a_next a_schemaOf a_parentOf a_depthOf a_head a_tail a_length a_bytes a_filled a_sizeOf a_placeOf a_match a_regionEnd a_regionMessage g_capacity g_maxField g_maxDepth g_outLen g_regions g_pos g_bad b_kinds b_held b_version b_type b_cursor b_items b_parent b_field b_val b_bytes b_length b_out b_encStart b_encLen b_partner b_regMsg b_regStart b_regEnd
theorem i_up {k : Nat} {u : SX} {v : SY} (h : i_Rel k u v) : i_Rel (k + 5) u v := h
theorem sr_el {k : Nat} {u : SX} {v : SY} {P : SX → SY → Prop}
    (h : ∀ (f_capacity f_maxField f_maxDepth f_spare f_writeAt f_level f_readAt f_broken : Int32) (a_kinds a_held a_storeOf a_cursor a_items a_word a_next a_schemaOf a_parentOf a_depthOf a_head a_tail a_length a_bytes a_filled a_sizeOf a_placeOf a_match a_regionEnd a_regionMessage : Nat → Int32) (g_outLen g_regions g_pos g_bad : Int32) (b_version b_type b_cursor b_items b_parent b_field b_val b_out b_encStart b_encLen b_partner b_regMsg b_regStart b_regEnd : Nat → Int32), sr_Core f_capacity f_maxField f_maxDepth f_spare a_kinds a_held a_storeOf a_cursor a_items a_word a_next a_schemaOf a_parentOf a_depthOf a_head a_tail a_length a_filled b_cursor b_version b_type b_items b_parent b_field b_val → P (f_capacity, f_maxField, f_maxDepth, f_spare, f_writeAt, f_level, f_readAt, f_broken, a_kinds, a_held, a_storeOf, a_cursor, a_items, a_word, a_next, a_schemaOf, a_parentOf, a_depthOf, a_head, a_tail, a_length, a_bytes, a_filled, a_sizeOf, a_placeOf, a_match, a_regionEnd, a_regionMessage) (f_capacity, f_maxField, f_maxDepth, g_outLen, g_regions, g_pos, g_bad, a_kinds, a_held, b_version, b_type, b_cursor, b_items, b_parent, b_field, b_val, a_bytes, a_filled, b_out, b_encStart, b_encLen, b_partner, b_regMsg, b_regStart, b_regEnd))
    (I : i_Rel k u v) : P u v := by
  obtain ⟨f_capacity, f_maxField, f_maxDepth, f_spare, f_writeAt, f_level, f_readAt, f_broken, a_kinds, a_held, a_storeOf, a_cursor, a_items, a_word, a_next, a_schemaOf, a_parentOf, a_depthOf, a_head, a_tail, a_length, a_bytes, a_filled, a_sizeOf, a_placeOf, a_match, a_regionEnd, a_regionMessage⟩ := u
  obtain ⟨g_capacity, g_maxField, g_maxDepth, g_outLen, g_regions, g_pos, g_bad, b_kinds, b_held, b_version, b_type, b_cursor, b_items, b_parent, b_field, b_val, b_bytes, b_length, b_out, b_encStart, b_encLen, b_partner, b_regMsg, b_regStart, b_regEnd⟩ := v
  obtain ⟨⟨h1, h2, h3, h4, h5, h6, h7⟩, c⟩ := (I : sr_Body f_capacity f_maxField f_maxDepth f_spare f_writeAt f_level f_readAt f_broken a_kinds a_held a_storeOf a_cursor a_items a_word a_next a_schemaOf a_parentOf a_depthOf a_head a_tail a_length a_bytes a_filled a_sizeOf a_placeOf a_match a_regionEnd a_regionMessage g_capacity g_maxField g_maxDepth g_outLen g_regions g_pos g_bad b_kinds b_held b_version b_type b_cursor b_items b_parent b_field b_val b_bytes b_length b_out b_encStart b_encLen b_partner b_regMsg b_regStart b_regEnd)
  subst h1 h2 h3 h4 h5 h6 h7
  exact h _ _ _ _ _ _ _ _ _ _ _ _ _ _ _ _ _ _ _ _ _ _ _ _ _ _ _ _ _ _ _ _ _ _ _ _ _ _ _ _ _ _ _ _ _ _ c
section
variable {f_capacity f_maxField f_maxDepth f_spare f_writeAt f_level f_readAt f_broken g_outLen g_regions g_pos g_bad : Int32} {a_kinds a_held a_storeOf a_cursor a_items a_word a_next a_schemaOf a_parentOf a_depthOf a_head a_tail a_length a_bytes a_filled a_sizeOf a_placeOf a_match a_regionEnd a_regionMessage b_version b_type b_cursor b_items b_parent b_field b_val b_out b_encStart b_encLen b_partner b_regMsg b_regStart b_regEnd : Nat → Int32} {k : Nat}
theorem sr_in (h : sr_Core f_capacity f_maxField f_maxDepth f_spare a_kinds a_held a_storeOf a_cursor a_items a_word a_next a_schemaOf a_parentOf a_depthOf a_head a_tail a_length a_filled b_cursor b_version b_type b_items b_parent b_field b_val) : i_Rel k (f_capacity, f_maxField, f_maxDepth, f_spare, f_writeAt, f_level, f_readAt, f_broken, a_kinds, a_held, a_storeOf, a_cursor, a_items, a_word, a_next, a_schemaOf, a_parentOf, a_depthOf, a_head, a_tail, a_length, a_bytes, a_filled, a_sizeOf, a_placeOf, a_match, a_regionEnd, a_regionMessage) (f_capacity, f_maxField, f_maxDepth, g_outLen, g_regions, g_pos, g_bad, a_kinds, a_held, b_version, b_type, b_cursor, b_items, b_parent, b_field, b_val, a_bytes, a_filled, b_out, b_encStart, b_encLen, b_partner, b_regMsg, b_regStart, b_regEnd) :=
  ⟨⟨rfl, rfl, rfl, rfl, rfl, rfl, rfl⟩, h⟩
end
theorem sr_init {K : Nat → Nat} {C F D : Nat} {cap mf md : Int32} (h : sw_Cx K C F D cap mf md (fun _ => 0)) : sr_Core cap mf md 2 (fun _ => 0) (fun _ => 0) (upd (upd (fun _ => 0) 0 0) 1 1) (fun _ => 0) (fun _ => 0) (fun _ => 0) (fun _ => 0) (fun _ => 0) (fun _ => 0) (fun _ => 0) (fun _ => 0) (fun _ => 0) (fun _ => 0) (fun _ => 0) (fun _ => 0) (fun _ => 0) (fun _ => 0) (fun _ => 0) (fun _ => 0) (fun _ => 0) (fun _ => 0) := by
  refine ⟨K, C, F, D, fun i => i, h, ⟨rfl, rfl, rfl, by decide, by decide, by decide, by decide, by decide, by decide⟩, fun b _ => ⟨0, by omega, rfl⟩, fun s _ z => absurd rfl z⟩
/-- the clamp of both constructors -/
theorem sr_clamp (x : Int32) {a b : Nat} (hab : a ≤ b) (hb : b < 2 ^ 31) : ∃ c, a ≤ c ∧ c ≤ b ∧ (∀ u : SX, ∀ post : Int32 → Prop, post (nI c) → wpX_clamp post u x (nI a) (nI b)) ∧
    (∀ G : Int32 → Prop, G (nI c) → ((nI a ≤ x → ((x ≤ nI b → G x) ∧ (¬ x ≤ nI b → G (nI b)))) ∧ (¬ nI a ≤ x → G (nI a)))) := by
  have hc : ∃ c, a ≤ c ∧ c ≤ b ∧ (∀ G : Int32 → Prop, G (nI c) → ((nI a ≤ x → ((x ≤ nI b → G x) ∧ (¬ x ≤ nI b → G (nI b)))) ∧ (¬ nI a ≤ x → G (nI a)))) := by
    by_cases h1 : (a : Int) ≤ x.toInt
    · by_cases h2 : x.toInt ≤ (b : Int)
      · obtain ⟨c, hc, e⟩ := sn_of (z := x) (c := b + 1) (by omega) (by omega)
        have ec : x.toInt = c := by rw [e, nI_toInt (by omega)]
        exact ⟨c, by omega, by omega, fun G hp => sn_br (sn_le a x) (fun _ => sn_br (sn_ge b x) (fun _ => by rw [e]; exact hp) (fun z => absurd h2 z)) (fun z => absurd h1 z)⟩
      · exact ⟨b, hab, Nat.le_refl _, fun G hp => sn_br (sn_le a x) (fun _ => sn_br (sn_ge b x) (fun z => absurd z h2) (fun _ => hp)) (fun z => absurd h1 z)⟩
    · exact ⟨a, Nat.le_refl _, hab, fun G hp => sn_br (sn_le a x) (fun z => absurd z h1) (fun _ => hp)⟩
  obtain ⟨c, h1, h2, h3⟩ := hc
  exact ⟨c, h1, h2, fun u post hp => h3 post hp, h3⟩
theorem i_vc0 (k0 : Int32) (k1 : Int32) (k2 : Int32) : wpX_init (fun u => wpY_init (fun v => i_Rel 3 u v) k0 k1 k2) k0 k1 k2 := by
  obtain ⟨C, c1, c2, hX1, hY1⟩ := sr_clamp k0 (a := 16) (b := 120) (by omega) (by omega)
  obtain ⟨F, f1, f2, hX2, hY2⟩ := sr_clamp k1 (a := 4) (b := 20) (by omega) (by omega)
  obtain ⟨D, d1, d2, hX3, hY3⟩ := sr_clamp k2 (a := 1) (b := 6) (by omega) (by omega)
  have hY : ∀ post : SY → Prop, post (nI C, nI F, nI D, 0, 0, 0, 0, (fun _ => 0), (fun _ => 0), (fun _ => 0), (fun _ => 0), (fun _ => 0), (fun _ => 0), (fun _ => 0), (fun _ => 0), (fun _ => 0), (fun _ => 0), (fun _ => 0), (fun _ => 0), (fun _ => 0), (fun _ => 0), (fun _ => 0), (fun _ => 0), (fun _ => 0), (fun _ => 0)) → wpY_init post k0 k1 k2 := by
    intro post hp
    refine hY1 (fun z => wY_init_175 post k1 k2 z 0 0 0 0 0 0 0 (fun _ => 0) (fun _ => 0) (fun _ => 0) (fun _ => 0) (fun _ => 0) (fun _ => 0) (fun _ => 0) (fun _ => 0) (fun _ => 0) (fun _ => 0) (fun _ => 0) (fun _ => 0) (fun _ => 0) (fun _ => 0) (fun _ => 0) (fun _ => 0) (fun _ => 0) (fun _ => 0)) ?_
    refine hY2 (fun z => wY_init_200 post k2 z (nI C) 0 0 0 0 0 0 (fun _ => 0) (fun _ => 0) (fun _ => 0) (fun _ => 0) (fun _ => 0) (fun _ => 0) (fun _ => 0) (fun _ => 0) (fun _ => 0) (fun _ => 0) (fun _ => 0) (fun _ => 0) (fun _ => 0) (fun _ => 0) (fun _ => 0) (fun _ => 0) (fun _ => 0) (fun _ => 0)) ?_
    exact hY3 (fun z => post (nI C, nI F, z, 0, 0, 0, 0, (fun _ => 0), (fun _ => 0), (fun _ => 0), (fun _ => 0), (fun _ => 0), (fun _ => 0), (fun _ => 0), (fun _ => 0), (fun _ => 0), (fun _ => 0), (fun _ => 0), (fun _ => 0), (fun _ => 0), (fun _ => 0), (fun _ => 0), (fun _ => 0), (fun _ => 0), (fun _ => 0))) hp
  unfold wpX_init
  refine hX1 _ _ ?_
  refine hX2 _ _ ?_
  refine hX3 _ _ ?_
  refine nm_e (nm_e ?_)
  refine hY _ ?_
  exact sr_in (sr_init (K := fun _ => 0) ⟨c1, c2, f1, f2, d1, d2, rfl, rfl, rfl, fun i _ => ⟨Nat.zero_le _, rfl⟩⟩)
end
section
/-! the states of slots and fields, named once for both sides -/
theorem sr_slot (held : Nat → Int32) (s : Int32) : ∃ r : Int32,
    (∀ {f_capacity f_maxField f_maxDepth f_spare f_writeAt f_level f_readAt f_broken : Int32} {a_kinds a_held a_storeOf a_cursor a_items a_word a_next a_schemaOf a_parentOf a_depthOf a_head a_tail a_length a_bytes a_filled a_sizeOf a_placeOf a_match a_regionEnd a_regionMessage : Nat → Int32} {post : Int32 → Prop}, a_held = held → post r → wpX_slotState post (f_capacity, f_maxField, f_maxDepth, f_spare, f_writeAt, f_level, f_readAt, f_broken, a_kinds, a_held, a_storeOf, a_cursor, a_items, a_word, a_next, a_schemaOf, a_parentOf, a_depthOf, a_head, a_tail, a_length, a_bytes, a_filled, a_sizeOf, a_placeOf, a_match, a_regionEnd, a_regionMessage) s) ∧
    (∀ {g_capacity g_maxField g_maxDepth g_outLen g_regions g_pos g_bad : Int32} {b_kinds b_held b_version b_type b_cursor b_items b_parent b_field b_val b_bytes b_length b_out b_encStart b_encLen b_partner b_regMsg b_regStart b_regEnd : Nat → Int32} {post : Int32 → Prop}, b_held = held → post r → wpY_check post (g_capacity, g_maxField, g_maxDepth, g_outLen, g_regions, g_pos, g_bad, b_kinds, b_held, b_version, b_type, b_cursor, b_items, b_parent, b_field, b_val, b_bytes, b_length, b_out, b_encStart, b_encLen, b_partner, b_regMsg, b_regStart, b_regEnd) s) ∧
    (r ≠ 0 ∨ (r = 0 ∧ ∃ i, i < 2 ∧ s = nI i ∧ held i ≠ 0)) := by
  by_cases h : 0 ≤ s.toInt ∧ s.toInt < 2
  · obtain ⟨i, hi, rfl⟩ := sn_of (z := s) (c := 2) h.1 h.2
    have ei : (nI i).toNatClampNeg = i := nI_clamp (by omega)
    by_cases z : held i = 0
    · refine ⟨-3, ?_, ?_, Or.inl (by decide)⟩
      · intros; rename_i e hp; subst e
        unfold wpX_slotState
        refine sx_isSlot (fun y => absurd h y) (fun _ => br_f (by decide) ⟨vp_in_nI hi (by omega), ?_⟩)
        rw [ei]; exact br_t z hp
      · intros; rename_i e hp; subst e
        unfold wpY_check
        refine sn_br (sn_gt 0 _) (fun y => by omega) (fun _ => sn_br (sn_ge 1 _) (fun _ => ⟨vp_in_nI (by omega) (by omega), ?_⟩) (fun y => by omega))
        rw [ei]; exact br_t z hp
    · refine ⟨0, ?_, ?_, Or.inr ⟨rfl, i, hi, rfl, z⟩⟩
      · intros; rename_i e hp; subst e
        unfold wpX_slotState
        refine sx_isSlot (fun y => absurd h y) (fun _ => br_f (by decide) ⟨vp_in_nI hi (by omega), ?_⟩)
        rw [ei]; exact br_f z hp
      · intros; rename_i e hp; subst e
        unfold wpY_check
        refine sn_br (sn_gt 0 _) (fun y => by omega) (fun _ => sn_br (sn_ge 1 _) (fun _ => ⟨vp_in_nI (by omega) (by omega), ?_⟩) (fun y => by omega))
        rw [ei]; exact br_f z hp
  · refine ⟨-1, ?_, ?_, Or.inl (by decide)⟩
    · intros; rename_i e hp; subst e
      unfold wpX_slotState
      exact sx_isSlot (fun y => br_t rfl hp) (fun y => absurd y h)
    · intros; rename_i e hp; subst e
      unfold wpY_check
      exact sn_br (sn_gt 0 s) (fun y => hp) (fun _ => sn_br (sn_ge 1 s) (fun _ => by omega) (fun y => hp))
theorem sr_field (held : Nat → Int32) {F : Nat} (hF : F ≤ 20) (s f : Int32) : ∃ r : Int32,
    (∀ {f_capacity f_maxField f_maxDepth f_spare f_writeAt f_level f_readAt f_broken : Int32} {a_kinds a_held a_storeOf a_cursor a_items a_word a_next a_schemaOf a_parentOf a_depthOf a_head a_tail a_length a_bytes a_filled a_sizeOf a_placeOf a_match a_regionEnd a_regionMessage : Nat → Int32} {post : Int32 → Prop}, a_held = held → f_maxField = nI F → post r → wpX_fieldState post (f_capacity, f_maxField, f_maxDepth, f_spare, f_writeAt, f_level, f_readAt, f_broken, a_kinds, a_held, a_storeOf, a_cursor, a_items, a_word, a_next, a_schemaOf, a_parentOf, a_depthOf, a_head, a_tail, a_length, a_bytes, a_filled, a_sizeOf, a_placeOf, a_match, a_regionEnd, a_regionMessage) s f) ∧
    (∀ {g_capacity g_maxField g_maxDepth g_outLen g_regions g_pos g_bad : Int32} {b_kinds b_held b_version b_type b_cursor b_items b_parent b_field b_val b_bytes b_length b_out b_encStart b_encLen b_partner b_regMsg b_regStart b_regEnd : Nat → Int32} {post : Int32 → Prop}, b_held = held → g_maxField = nI F → post r → wpY_checkField post (g_capacity, g_maxField, g_maxDepth, g_outLen, g_regions, g_pos, g_bad, b_kinds, b_held, b_version, b_type, b_cursor, b_items, b_parent, b_field, b_val, b_bytes, b_length, b_out, b_encStart, b_encLen, b_partner, b_regMsg, b_regStart, b_regEnd) s f) ∧
    (r ≠ 0 ∨ (r = 0 ∧ ∃ i j, i < 2 ∧ s = nI i ∧ held i ≠ 0 ∧ 1 ≤ j ∧ j ≤ F ∧ f = nI j)) := by
  obtain ⟨r, hx, hy, hr⟩ := sr_slot held s
  rcases hr with hr | ⟨rfl, i, hi, rfl, hh⟩
  · refine ⟨r, ?_, ?_, Or.inl hr⟩
    · intros; rename_i e1 e2 hp
      unfold wpX_fieldState
      exact hx e1 (br_f hr hp)
    · intros; rename_i e1 e2 hp
      unfold wpY_checkField
      exact hy e1 (br_f hr hp)
  · by_cases h : 1 ≤ f.toInt ∧ f.toInt ≤ F
    · obtain ⟨j, hj, rfl⟩ := sn_of (z := f) (c := F + 1) (by omega) (by omega)
      refine ⟨0, ?_, ?_, Or.inr ⟨rfl, i, j, hi, rfl, hh, ?_, by omega, rfl⟩⟩
      · intros; rename_i e1 e2 hp
        unfold wpX_fieldState
        exact hx e1 (br_t rfl (sx_isField e2 hF (fun y => absurd h y) (fun _ => br_f (by decide) hp)))
      · intros; rename_i e1 e2 hp
        unfold wpY_checkField
        refine hy e1 (br_t rfl ?_)
        rw [e2]
        exact sn_br (sn_gt 1 _) (fun y => by omega) (fun _ => sn_br (sn_ge F _) (fun _ => hp) (fun y => by omega))
      · rw [nI_toInt (by omega)] at h; omega
    · refine ⟨-1, ?_, ?_, Or.inl (by decide)⟩
      · intros; rename_i e1 e2 hp
        unfold wpX_fieldState
        exact hx e1 (br_t rfl (sx_isField e2 hF (fun _ => br_t rfl hp) (fun y => absurd y h)))
      · intros; rename_i e1 e2 hp
        unfold wpY_checkField
        refine hy e1 (br_t rfl ?_)
        rw [e2]
        exact sn_br (sn_gt 1 _) (fun y => hp) (fun _ => sn_br (sn_ge F _) (fun _ => by omega) (fun y => hp))
theorem i_vc_count {k : Nat} {u : SX} {v : SY} (I : i_Rel k u v) (hk : k + 5 ≤ 2563) (v1 : Int32) (v2 : Int32) : wpX_count (fun r => wpY_count (fun r' => r' = r ∧ i_Rel (k + 5) u v) v v1 v2) u v1 v2 := by
  refine sr_el (P := fun u v => wpX_count (fun r => wpY_count (fun r' => r' = r ∧ i_Rel (k + 5) u v) v v1 v2) u v1 v2) ?_ I
  intro f_capacity f_maxField f_maxDepth f_spare f_writeAt f_level f_readAt f_broken a_kinds a_held a_storeOf a_cursor a_items a_word a_next a_schemaOf a_parentOf a_depthOf a_head a_tail a_length a_bytes a_filled a_sizeOf a_placeOf a_match a_regionEnd a_regionMessage g_outLen g_regions g_pos g_bad b_version b_type b_cursor b_items b_parent b_field b_val b_out b_encStart b_encLen b_partner b_regMsg b_regStart b_regEnd H
  have HI : i_Rel (k + 5) (f_capacity, f_maxField, f_maxDepth, f_spare, f_writeAt, f_level, f_readAt, f_broken, a_kinds, a_held, a_storeOf, a_cursor, a_items, a_word, a_next, a_schemaOf, a_parentOf, a_depthOf, a_head, a_tail, a_length, a_bytes, a_filled, a_sizeOf, a_placeOf, a_match, a_regionEnd, a_regionMessage) (f_capacity, f_maxField, f_maxDepth, g_outLen, g_regions, g_pos, g_bad, a_kinds, a_held, b_version, b_type, b_cursor, b_items, b_parent, b_field, b_val, a_bytes, a_filled, b_out, b_encStart, b_encLen, b_partner, b_regMsg, b_regStart, b_regEnd) := sr_in H
  obtain ⟨K, C, F, D, st, hC, hSt, hFl, hSl⟩ := H
  obtain ⟨x1, x2, x3, x4, x5, x6, e1, e2, e3, x7⟩ := id hC
  obtain ⟨r, hx, hy, hr⟩ := sr_field a_held x4 v1 v2
  unfold wpX_count
  refine hx rfl e2 ?_
  rcases hr with hr | ⟨rfl, i, j, hi, rfl, hh, hj1, hj2, rfl⟩
  · refine br_f hr ?_
    unfold wpY_count
    exact hy rfl e2 (br_f hr ⟨rfl, HI⟩)
  · obtain ⟨v, n, p, q, d, p', q', d', w, w', σ, c, W, W', R, R', Is, hc, hms, hcx, hcy⟩ := hSl i hi hh
    obtain ⟨est, ht, _⟩ := sr_st hSt hi
    have hn := W.1
    have ei : (nI i).toNatClampNeg = i := nI_clamp (by omega)
    have U := sw_up_of W
    have hσ := sw_ile Is U hc
    refine br_t rfl ⟨vp_in_nI hi (by omega), ?_⟩
    rw [ei, hcx, sn_21, nI_clamp (by omega), (R.2.2.2.2 c j hc hms (by omega)).1]
    refine ⟨vp_in_nI (by omega) (by omega), ?_⟩
    unfold wpY_count
    refine hy rfl e2 (br_t rfl ⟨vp_in_nI (by omega) (by omega), ?_⟩)
    rw [ei, hcy]
    refine sy_countIn W' x2 x4 R' (by omega) (by omega) (by omega) ⟨?_, HI⟩
    rw [sw_iso_len Is hc]
theorem i_vc_unknownLength {k : Nat} {u : SX} {v : SY} (I : i_Rel k u v) (hk : k + 5 ≤ 2563) (v1 : Int32) : wpX_unknownLength (fun r => wpY_unknownLength (fun r' => r' = r ∧ i_Rel (k + 5) u v) v v1) u v1 := by
  refine sr_el (P := fun u v => wpX_unknownLength (fun r => wpY_unknownLength (fun r' => r' = r ∧ i_Rel (k + 5) u v) v v1) u v1) ?_ I
  intro f_capacity f_maxField f_maxDepth f_spare f_writeAt f_level f_readAt f_broken a_kinds a_held a_storeOf a_cursor a_items a_word a_next a_schemaOf a_parentOf a_depthOf a_head a_tail a_length a_bytes a_filled a_sizeOf a_placeOf a_match a_regionEnd a_regionMessage g_outLen g_regions g_pos g_bad b_version b_type b_cursor b_items b_parent b_field b_val b_out b_encStart b_encLen b_partner b_regMsg b_regStart b_regEnd H
  have HI : i_Rel (k + 5) (f_capacity, f_maxField, f_maxDepth, f_spare, f_writeAt, f_level, f_readAt, f_broken, a_kinds, a_held, a_storeOf, a_cursor, a_items, a_word, a_next, a_schemaOf, a_parentOf, a_depthOf, a_head, a_tail, a_length, a_bytes, a_filled, a_sizeOf, a_placeOf, a_match, a_regionEnd, a_regionMessage) (f_capacity, f_maxField, f_maxDepth, g_outLen, g_regions, g_pos, g_bad, a_kinds, a_held, b_version, b_type, b_cursor, b_items, b_parent, b_field, b_val, a_bytes, a_filled, b_out, b_encStart, b_encLen, b_partner, b_regMsg, b_regStart, b_regEnd) := sr_in H
  obtain ⟨K, C, F, D, st, hC, hSt, hFl, hSl⟩ := H
  obtain ⟨x1, x2, x3, x4, x5, x6, e1, e2, e3, x7⟩ := id hC
  obtain ⟨r, hx, hy, hr⟩ := sr_slot a_held v1
  unfold wpX_unknownLength
  refine hx rfl ?_
  rcases hr with hr | ⟨rfl, i, hi, rfl, hh⟩
  · refine br_f hr ?_
    unfold wpY_unknownLength
    exact hy rfl (br_f hr ⟨rfl, HI⟩)
  · obtain ⟨v, n, p, q, d, p', q', d', w, w', σ, c, W, W', R, R', Is, hc, hms, hcx, hcy⟩ := hSl i hi hh
    obtain ⟨est, ht, _⟩ := sr_st hSt hi
    have hn := W.1
    have ei : (nI i).toNatClampNeg = i := nI_clamp (by omega)
    have U := sw_up_of W
    have hσ := sw_ile Is U hc
    have c1 := (R.2.2.2.2 c 0 hc hms (by omega)).1
    rw [Nat.add_zero] at c1
    refine br_t rfl ⟨vp_in_nI hi (by omega), ?_⟩
    rw [ei, hcx, sn_m21, nI_clamp (by omega), c1]
    refine ⟨vp_in_nI (by omega) (by omega), ?_⟩
    unfold wpY_unknownLength
    refine hy rfl (br_t rfl ⟨vp_in_nI (by omega) (by omega), ?_⟩)
    rw [ei, hcy]
    refine sy_countIn (f := 0) W' x2 x4 R' (by omega) (by omega) (by omega) ⟨?_, HI⟩
    rw [sw_iso_len Is hc]
end
section
/-! methods that only read a slot, or move its cursor -/
theorem i_vc_itemCount {k : Nat} {u : SX} {v : SY} (I : i_Rel k u v) (hk : k + 5 ≤ 2563) (v1 : Int32) : wpX_itemCount (fun r => wpY_itemCount (fun r' => r' = r ∧ i_Rel (k + 5) u v) v v1) u v1 := by
  refine sr_el (P := fun u v => wpX_itemCount (fun r => wpY_itemCount (fun r' => r' = r ∧ i_Rel (k + 5) u v) v v1) u v1) ?_ I
  intro f_capacity f_maxField f_maxDepth f_spare f_writeAt f_level f_readAt f_broken a_kinds a_held a_storeOf a_cursor a_items a_word a_next a_schemaOf a_parentOf a_depthOf a_head a_tail a_length a_bytes a_filled a_sizeOf a_placeOf a_match a_regionEnd a_regionMessage g_outLen g_regions g_pos g_bad b_version b_type b_cursor b_items b_parent b_field b_val b_out b_encStart b_encLen b_partner b_regMsg b_regStart b_regEnd H
  have HI : i_Rel (k + 5) (f_capacity, f_maxField, f_maxDepth, f_spare, f_writeAt, f_level, f_readAt, f_broken, a_kinds, a_held, a_storeOf, a_cursor, a_items, a_word, a_next, a_schemaOf, a_parentOf, a_depthOf, a_head, a_tail, a_length, a_bytes, a_filled, a_sizeOf, a_placeOf, a_match, a_regionEnd, a_regionMessage) (f_capacity, f_maxField, f_maxDepth, g_outLen, g_regions, g_pos, g_bad, a_kinds, a_held, b_version, b_type, b_cursor, b_items, b_parent, b_field, b_val, a_bytes, a_filled, b_out, b_encStart, b_encLen, b_partner, b_regMsg, b_regStart, b_regEnd) := sr_in H
  obtain ⟨K, C, F, D, st, hC, hSt, hFl, hSl⟩ := H
  obtain ⟨x1, x2, x3, x4, x5, x6, e1, e2, e3, x7⟩ := id hC
  obtain ⟨r, hx, hy, hr⟩ := sr_slot a_held v1
  unfold wpX_itemCount
  refine hx rfl ?_
  rcases hr with hr | ⟨rfl, i, hi, rfl, hh⟩
  · refine br_f hr ?_
    unfold wpY_itemCount
    exact hy rfl (br_f hr ⟨rfl, HI⟩)
  · have hi2 := hi
    obtain ⟨v, n, p, q, d, p', q', d', w, w', σ, c, W, W', R, R', Is, hc, hms, hcx, hcy⟩ := hSl i hi hh
    obtain ⟨est, ht, hspare⟩ := sr_st hSt hi
    have hn := W.1
    have ei : (nI i).toNatClampNeg = i := nI_clamp (by omega)
    have U := sw_up_of W
    have U' := sw_up_of W'
    have hσ := sw_ile Is U hc
    have hms' : sw_ms K F v p' q' w' (σ c) := (sw_iso_ms Is U hc).mpr hms
    have hs9 := (sw_sc_lt W hc hms).1
    refine br_t rfl ⟨vp_in_nI hi (by omega), ?_⟩
    rw [ei, est, nI_clamp (by omega), R.1]
    refine ⟨vp_in_nI ht (by omega), ?_⟩
    unfold wpY_itemCount
    refine hy rfl (br_t rfl ⟨vp_in_nI (by omega) (by omega), ?_⟩)
    rw [ei, R'.2.2.1]
    exact ⟨rfl, HI⟩
theorem i_vc_depth {k : Nat} {u : SX} {v : SY} (I : i_Rel k u v) (hk : k + 5 ≤ 2563) (v1 : Int32) : wpX_depth (fun r => wpY_depth (fun r' => r' = r ∧ i_Rel (k + 5) u v) v v1) u v1 := by
  refine sr_el (P := fun u v => wpX_depth (fun r => wpY_depth (fun r' => r' = r ∧ i_Rel (k + 5) u v) v v1) u v1) ?_ I
  intro f_capacity f_maxField f_maxDepth f_spare f_writeAt f_level f_readAt f_broken a_kinds a_held a_storeOf a_cursor a_items a_word a_next a_schemaOf a_parentOf a_depthOf a_head a_tail a_length a_bytes a_filled a_sizeOf a_placeOf a_match a_regionEnd a_regionMessage g_outLen g_regions g_pos g_bad b_version b_type b_cursor b_items b_parent b_field b_val b_out b_encStart b_encLen b_partner b_regMsg b_regStart b_regEnd H
  have HI : i_Rel (k + 5) (f_capacity, f_maxField, f_maxDepth, f_spare, f_writeAt, f_level, f_readAt, f_broken, a_kinds, a_held, a_storeOf, a_cursor, a_items, a_word, a_next, a_schemaOf, a_parentOf, a_depthOf, a_head, a_tail, a_length, a_bytes, a_filled, a_sizeOf, a_placeOf, a_match, a_regionEnd, a_regionMessage) (f_capacity, f_maxField, f_maxDepth, g_outLen, g_regions, g_pos, g_bad, a_kinds, a_held, b_version, b_type, b_cursor, b_items, b_parent, b_field, b_val, a_bytes, a_filled, b_out, b_encStart, b_encLen, b_partner, b_regMsg, b_regStart, b_regEnd) := sr_in H
  obtain ⟨K, C, F, D, st, hC, hSt, hFl, hSl⟩ := H
  obtain ⟨x1, x2, x3, x4, x5, x6, e1, e2, e3, x7⟩ := id hC
  obtain ⟨r, hx, hy, hr⟩ := sr_slot a_held v1
  unfold wpX_depth
  refine hx rfl ?_
  rcases hr with hr | ⟨rfl, i, hi, rfl, hh⟩
  · refine br_f hr ?_
    unfold wpY_depth
    exact hy rfl (br_f hr ⟨rfl, HI⟩)
  · have hi2 := hi
    obtain ⟨v, n, p, q, d, p', q', d', w, w', σ, c, W, W', R, R', Is, hc, hms, hcx, hcy⟩ := hSl i hi hh
    obtain ⟨est, ht, hspare⟩ := sr_st hSt hi
    have hn := W.1
    have ei : (nI i).toNatClampNeg = i := nI_clamp (by omega)
    have U := sw_up_of W
    have U' := sw_up_of W'
    have hσ := sw_ile Is U hc
    have hms' : sw_ms K F v p' q' w' (σ c) := (sw_iso_ms Is U hc).mpr hms
    have hs9 := (sw_sc_lt W hc hms).1
    refine br_t rfl ⟨vp_in_nI hi (by omega), ?_⟩
    rw [ei, hcx, nI_clamp (by omega), (R.2.2.2.1 c hc hms).2]
    refine ⟨vp_in_nI (by omega) (by omega), ?_⟩
    unfold wpY_depth
    refine hy rfl (br_t rfl ⟨vp_in_nI (by omega) (by omega), ?_⟩)
    rw [ei, hcy]
    refine sy_depthOf W' x2 R' (by omega) hσ ⟨?_, HI⟩
    rw [sw_iso_d Is W W' c hc]
theorem i_vc_typeHere {k : Nat} {u : SX} {v : SY} (I : i_Rel k u v) (hk : k + 5 ≤ 2563) (v1 : Int32) : wpX_typeHere (fun r => wpY_typeHere (fun r' => r' = r ∧ i_Rel (k + 5) u v) v v1) u v1 := by
  refine sr_el (P := fun u v => wpX_typeHere (fun r => wpY_typeHere (fun r' => r' = r ∧ i_Rel (k + 5) u v) v v1) u v1) ?_ I
  intro f_capacity f_maxField f_maxDepth f_spare f_writeAt f_level f_readAt f_broken a_kinds a_held a_storeOf a_cursor a_items a_word a_next a_schemaOf a_parentOf a_depthOf a_head a_tail a_length a_bytes a_filled a_sizeOf a_placeOf a_match a_regionEnd a_regionMessage g_outLen g_regions g_pos g_bad b_version b_type b_cursor b_items b_parent b_field b_val b_out b_encStart b_encLen b_partner b_regMsg b_regStart b_regEnd H
  have HI : i_Rel (k + 5) (f_capacity, f_maxField, f_maxDepth, f_spare, f_writeAt, f_level, f_readAt, f_broken, a_kinds, a_held, a_storeOf, a_cursor, a_items, a_word, a_next, a_schemaOf, a_parentOf, a_depthOf, a_head, a_tail, a_length, a_bytes, a_filled, a_sizeOf, a_placeOf, a_match, a_regionEnd, a_regionMessage) (f_capacity, f_maxField, f_maxDepth, g_outLen, g_regions, g_pos, g_bad, a_kinds, a_held, b_version, b_type, b_cursor, b_items, b_parent, b_field, b_val, a_bytes, a_filled, b_out, b_encStart, b_encLen, b_partner, b_regMsg, b_regStart, b_regEnd) := sr_in H
  obtain ⟨K, C, F, D, st, hC, hSt, hFl, hSl⟩ := H
  obtain ⟨x1, x2, x3, x4, x5, x6, e1, e2, e3, x7⟩ := id hC
  obtain ⟨r, hx, hy, hr⟩ := sr_slot a_held v1
  unfold wpX_typeHere
  refine hx rfl ?_
  rcases hr with hr | ⟨rfl, i, hi, rfl, hh⟩
  · refine br_f hr ?_
    unfold wpY_typeHere
    exact hy rfl (br_f hr ⟨rfl, HI⟩)
  · have hi2 := hi
    obtain ⟨v, n, p, q, d, p', q', d', w, w', σ, c, W, W', R, R', Is, hc, hms, hcx, hcy⟩ := hSl i hi hh
    obtain ⟨est, ht, hspare⟩ := sr_st hSt hi
    have hn := W.1
    have ei : (nI i).toNatClampNeg = i := nI_clamp (by omega)
    have U := sw_up_of W
    have U' := sw_up_of W'
    have hσ := sw_ile Is U hc
    have hms' : sw_ms K F v p' q' w' (σ c) := (sw_iso_ms Is U hc).mpr hms
    have hs9 := (sw_sc_lt W hc hms).1
    obtain ⟨_, ty, hty, ew, es⟩ := sw_sc_lt W hc hms
    refine br_t rfl ⟨vp_in_nI hi (by omega), ?_⟩
    rw [ei, hcx, nI_clamp (by omega), (R.2.1 c hc).1 hms]
    refine ⟨vp_in_nI (by omega) (by omega), ?_⟩
    unfold wpY_typeHere
    refine hy rfl (br_t rfl ⟨vp_in_nI (by omega) (by omega), vp_in_nI (by omega) (by omega), ?_⟩)
    rw [ei, hcy, R'.1]
    refine sy_typeOf R' (by omega) (by omega) hσ ⟨?_, HI⟩
    rw [Is.2.2 c hc, ew, sn_3, es]
theorem i_vc_unknownByte {k : Nat} {u : SX} {v : SY} (I : i_Rel k u v) (hk : k + 5 ≤ 2563) (v1 : Int32) (v2 : Int32) : wpX_unknownByte (fun r => wpY_unknownByte (fun r' => r' = r ∧ i_Rel (k + 5) u v) v v1 v2) u v1 v2 := by
  refine sr_el (P := fun u v => wpX_unknownByte (fun r => wpY_unknownByte (fun r' => r' = r ∧ i_Rel (k + 5) u v) v v1 v2) u v1 v2) ?_ I
  intro f_capacity f_maxField f_maxDepth f_spare f_writeAt f_level f_readAt f_broken a_kinds a_held a_storeOf a_cursor a_items a_word a_next a_schemaOf a_parentOf a_depthOf a_head a_tail a_length a_bytes a_filled a_sizeOf a_placeOf a_match a_regionEnd a_regionMessage g_outLen g_regions g_pos g_bad b_version b_type b_cursor b_items b_parent b_field b_val b_out b_encStart b_encLen b_partner b_regMsg b_regStart b_regEnd H
  have HI : i_Rel (k + 5) (f_capacity, f_maxField, f_maxDepth, f_spare, f_writeAt, f_level, f_readAt, f_broken, a_kinds, a_held, a_storeOf, a_cursor, a_items, a_word, a_next, a_schemaOf, a_parentOf, a_depthOf, a_head, a_tail, a_length, a_bytes, a_filled, a_sizeOf, a_placeOf, a_match, a_regionEnd, a_regionMessage) (f_capacity, f_maxField, f_maxDepth, g_outLen, g_regions, g_pos, g_bad, a_kinds, a_held, b_version, b_type, b_cursor, b_items, b_parent, b_field, b_val, a_bytes, a_filled, b_out, b_encStart, b_encLen, b_partner, b_regMsg, b_regStart, b_regEnd) := sr_in H
  obtain ⟨K, C, F, D, st, hC, hSt, hFl, hSl⟩ := H
  obtain ⟨x1, x2, x3, x4, x5, x6, e1, e2, e3, x7⟩ := id hC
  obtain ⟨r, hx, hy, hr⟩ := sr_slot a_held v1
  unfold wpX_unknownByte
  refine hx rfl ?_
  rcases hr with hr | ⟨rfl, i, hi, rfl, hh⟩
  · refine br_f hr ?_
    unfold wpY_unknownByte
    exact hy rfl (br_f hr ⟨rfl, HI⟩)
  · have hi2 := hi
    obtain ⟨v, n, p, q, d, p', q', d', w, w', σ, c, W, W', R, R', Is, hc, hms, hcx, hcy⟩ := hSl i hi hh
    obtain ⟨est, ht, hspare⟩ := sr_st hSt hi
    have hn := W.1
    have ei : (nI i).toNatClampNeg = i := nI_clamp (by omega)
    have U := sw_up_of W
    have U' := sw_up_of W'
    have hσ := sw_ile Is U hc
    have hms' : sw_ms K F v p' q' w' (σ c) := (sw_iso_ms Is U hc).mpr hms
    have hs9 := (sw_sc_lt W hc hms).1
    refine br_t rfl ⟨vp_in_nI hi (by omega), ?_⟩
    rw [ei, hcx]
    refine sx_cellAt (f := 0) W x2 R ht hc hms (by omega) ?_
    have hY : ∀ r : Int32, (∀ o, sw_at (sw_L p q c 0 n) v2 = o → r = (match o with | none => -7 | some j => w j)) → wpY_unknownByte (fun r' => r' = r ∧ i_Rel (k + 5) (f_capacity, f_maxField, f_maxDepth, f_spare, f_writeAt, f_level, f_readAt, f_broken, a_kinds, a_held, a_storeOf, a_cursor, a_items, a_word, a_next, a_schemaOf, a_parentOf, a_depthOf, a_head, a_tail, a_length, a_bytes, a_filled, a_sizeOf, a_placeOf, a_match, a_regionEnd, a_regionMessage) (f_capacity, f_maxField, f_maxDepth, g_outLen, g_regions, g_pos, g_bad, a_kinds, a_held, b_version, b_type, b_cursor, b_items, b_parent, b_field, b_val, a_bytes, a_filled, b_out, b_encStart, b_encLen, b_partner, b_regMsg, b_regStart, b_regEnd)) (f_capacity, f_maxField, f_maxDepth, g_outLen, g_regions, g_pos, g_bad, a_kinds, a_held, b_version, b_type, b_cursor, b_items, b_parent, b_field, b_val, a_bytes, a_filled, b_out, b_encStart, b_encLen, b_partner, b_regMsg, b_regStart, b_regEnd) (nI i) v2 := by
      intro r hr
      unfold wpY_unknownByte
      refine hy rfl (br_t rfl ⟨vp_in_nI (by omega) (by omega), ?_⟩)
      rw [ei, hcy]
      refine sy_find (f := 0) W' x2 x4 R' (by omega) (by omega) (by omega) ?_
      rw [Is.2.1 c 0 hc, sw_at_map]
      cases ho : sw_at (sw_L p q c 0 n) v2 with
      | none => exact br_f sn_neg1 ⟨(hr _ ho).symm, HI⟩
      | some j =>
        have hj := sw_mem.mp (sw_at_mem ho)
        obtain ⟨a, b, _, _⟩ := sw_i1 Is U hj.1 hj.2.1
        refine br_t ((sw_mI_pos (by omega)).mpr a) ?_
        rw [show sw_oY (Option.map σ (some j)) = sw_mI (σ j) from rfl]
        rw [sw_mI_120 i a, nI_clamp (by omega), (R'.2.2.2 (σ j - 1) (by omega)).2.2]
        refine ⟨vp_in_nI (by omega) (by omega), ?_, HI⟩
        have e : σ j - 1 + 1 = σ j := by omega
        rw [e, Is.2.2 j hj.2.1]; exact (hr _ ho).symm
    cases ho : sw_at (sw_L p q c 0 n) v2 with
    | none => exact br_f sn_neg1 (hY _ (fun o e => by rw [ho] at e; subst e; rfl))
    | some j =>
      have hj := sw_mem.mp (sw_at_mem ho)
      have hnm : ¬ sw_ms K F v p q w j := fun z => by
        have := (sw_msL W (sw_at_mem ho)).mp z
        rw [sw_kd_out (by omega)] at this; omega
      refine br_t (nI_pos' (by omega)) ?_
      rw [show sw_oX (st i) (some j) = nI (st i * 121 + j) from rfl]
      rw [nI_clamp (by omega), R.2.2.1 j hj.1 hj.2.1 hnm]
      exact ⟨vp_in_nI (by omega) (by omega), hY _ (fun o e => by rw [ho] at e; subst e; rfl)⟩
theorem i_vc_value {k : Nat} {u : SX} {v : SY} (I : i_Rel k u v) (hk : k + 5 ≤ 2563) (v1 : Int32) (v2 : Int32) (v3 : Int32) : wpX_value (fun r => wpY_value (fun r' => r' = r ∧ i_Rel (k + 5) u v) v v1 v2 v3) u v1 v2 v3 := by
  refine sr_el (P := fun u v => wpX_value (fun r => wpY_value (fun r' => r' = r ∧ i_Rel (k + 5) u v) v v1 v2 v3) u v1 v2 v3) ?_ I
  intro f_capacity f_maxField f_maxDepth f_spare f_writeAt f_level f_readAt f_broken a_kinds a_held a_storeOf a_cursor a_items a_word a_next a_schemaOf a_parentOf a_depthOf a_head a_tail a_length a_bytes a_filled a_sizeOf a_placeOf a_match a_regionEnd a_regionMessage g_outLen g_regions g_pos g_bad b_version b_type b_cursor b_items b_parent b_field b_val b_out b_encStart b_encLen b_partner b_regMsg b_regStart b_regEnd H
  have HI : i_Rel (k + 5) (f_capacity, f_maxField, f_maxDepth, f_spare, f_writeAt, f_level, f_readAt, f_broken, a_kinds, a_held, a_storeOf, a_cursor, a_items, a_word, a_next, a_schemaOf, a_parentOf, a_depthOf, a_head, a_tail, a_length, a_bytes, a_filled, a_sizeOf, a_placeOf, a_match, a_regionEnd, a_regionMessage) (f_capacity, f_maxField, f_maxDepth, g_outLen, g_regions, g_pos, g_bad, a_kinds, a_held, b_version, b_type, b_cursor, b_items, b_parent, b_field, b_val, a_bytes, a_filled, b_out, b_encStart, b_encLen, b_partner, b_regMsg, b_regStart, b_regEnd) := sr_in H
  obtain ⟨K, C, F, D, st, hC, hSt, hFl, hSl⟩ := H
  obtain ⟨x1, x2, x3, x4, x5, x6, e1, e2, e3, x7⟩ := id hC
  obtain ⟨r, hx, hy, hr⟩ := sr_field a_held x4 v1 v2
  unfold wpX_value
  refine hx rfl e2 ?_
  rcases hr with hr | ⟨rfl, i, f, hi, rfl, hh, hf1, hf2, rfl⟩
  · refine br_f hr ?_
    unfold wpY_value
    exact hy rfl e2 (br_f hr ⟨rfl, HI⟩)
  · have hi2 := hi
    obtain ⟨v, n, p, q, d, p', q', d', w, w', σ, c, W, W', R, R', Is, hc, hms, hcx, hcy⟩ := hSl i hi hh
    obtain ⟨est, ht, hspare⟩ := sr_st hSt hi
    have hn := W.1
    have ei : (nI i).toNatClampNeg = i := nI_clamp (by omega)
    have U := sw_up_of W
    have U' := sw_up_of W'
    have hσ := sw_ile Is U hc
    have hms' : sw_ms K F v p' q' w' (σ c) := (sw_iso_ms Is U hc).mpr hms
    have hs9 := (sw_sc_lt W hc hms).1
    have hk15 := sw_kd_le (K := K) (F := F) (s := sw_sc v w c) (f := f) (fun i h => (x7 i h).1) x4 hs9
    refine br_t rfl ⟨vp_in_nI hi (by omega), ?_⟩
    rw [ei, hcx]
    refine nm_e (sx_kindIn hC W R ht hc hms (by omega) ?_)
    have hY : ∀ r : Int32, (sw_kd K F (sw_sc v w c) f ≤ 9 → ∀ o, sw_at (sw_L p q c f n) v3 = o → r = (match o with | none => 0 | some j => w j)) → (¬ sw_kd K F (sw_sc v w c) f ≤ 9 → r = 0) → wpY_value (fun r' => r' = r ∧ i_Rel (k + 5) (f_capacity, f_maxField, f_maxDepth, f_spare, f_writeAt, f_level, f_readAt, f_broken, a_kinds, a_held, a_storeOf, a_cursor, a_items, a_word, a_next, a_schemaOf, a_parentOf, a_depthOf, a_head, a_tail, a_length, a_bytes, a_filled, a_sizeOf, a_placeOf, a_match, a_regionEnd, a_regionMessage) (f_capacity, f_maxField, f_maxDepth, g_outLen, g_regions, g_pos, g_bad, a_kinds, a_held, b_version, b_type, b_cursor, b_items, b_parent, b_field, b_val, a_bytes, a_filled, b_out, b_encStart, b_encLen, b_partner, b_regMsg, b_regStart, b_regEnd)) (f_capacity, f_maxField, f_maxDepth, g_outLen, g_regions, g_pos, g_bad, a_kinds, a_held, b_version, b_type, b_cursor, b_items, b_parent, b_field, b_val, a_bytes, a_filled, b_out, b_encStart, b_encLen, b_partner, b_regMsg, b_regStart, b_regEnd) (nI i) (nI f) v3 := by
      intro r hr hr0
      unfold wpY_value
      refine hy rfl e2 (br_t rfl ⟨vp_in_nI (by omega) (by omega), ?_⟩)
      rw [ei, hcy]
      refine sy_kindIn hC W' R' (by omega) hσ hms' (by omega) ?_
      rw [sw_iso_sc Is hc]
      refine pk_le (sw_kd K F (sw_sc v w c) f) 9 (fun h9 => ⟨vp_in_nI (by omega) (by omega), ?_⟩) (fun z => ⟨(hr0 (by omega)).symm, HI⟩)
      refine sy_find W' x2 x4 R' (by omega) (by omega) (by omega) ?_
      rw [Is.2.1 c f hc, sw_at_map]
      cases ho : sw_at (sw_L p q c f n) v3 with
      | none => exact br_f sn_neg1 ⟨(hr h9 _ ho).symm, HI⟩
      | some j =>
        have hj := sw_mem.mp (sw_at_mem ho)
        obtain ⟨a, b, _, _⟩ := sw_i1 Is U hj.1 hj.2.1
        refine br_t ((sw_mI_pos (by omega)).mpr a) ?_
        rw [show sw_oY (Option.map σ (some j)) = sw_mI (σ j) from rfl]
        rw [sw_mI_120 i a, nI_clamp (by omega), (R'.2.2.2 (σ j - 1) (by omega)).2.2]
        refine ⟨vp_in_nI (by omega) (by omega), ?_, HI⟩
        have e : σ j - 1 + 1 = σ j := by omega
        rw [e, Is.2.2 j hj.2.1]; exact (hr h9 _ ho).symm
    refine sx_isScalar (by omega) (fun z => br_t rfl ?_) (fun z => br_f (by decide) ?_)
    · refine hY 0 (fun h9 o ho => ?_) (fun _ => rfl)
      have e : sw_L p q c f n = [] := sw_nok W hf1 (by omega)
      rw [e] at ho
      have : o = none := by
        rw [← ho]; unfold sw_at; split
        · rfl
        · rw [List.getElem?_nil]
      rw [this]
    · refine sx_cellAt W x2 R ht hc hms (by omega) ?_
      cases ho : sw_at (sw_L p q c f n) v3 with
      | none => exact br_f sn_neg1 (hY _ (fun _ o e => by rw [ho] at e; subst e; rfl) (fun y => absurd z.2 y))
      | some j =>
        have hj := sw_mem.mp (sw_at_mem ho)
        have hnm : ¬ sw_ms K F v p q w j := fun y => by
          have := (sw_msL W (sw_at_mem ho)).mp y
          omega
        refine br_t (nI_pos' (by omega)) ?_
        rw [show sw_oX (st i) (some j) = nI (st i * 121 + j) from rfl]
        rw [nI_clamp (by omega), R.2.2.1 j hj.1 hj.2.1 hnm]
        exact ⟨vp_in_nI (by omega) (by omega), hY _ (fun _ o e => by rw [ho] at e; subst e; rfl) (fun y => absurd z.2 y)⟩
end
section
/-! methods that change a slot -/
def sy_Fr (s0 : Nat) (b_version b_type b_items b_parent b_field b_val b_version' b_type' b_items' b_parent' b_field' b_val' : Nat → Int32) : Prop :=
  ∀ s v n : Nat, ∀ p q : Nat → Nat, ∀ w : Nat → Int32, s < 3 → s ≠ s0 → n ≤ 120 → sy_R s v n p q w b_version b_type b_items b_parent b_field b_val → sy_R s v n p q w b_version' b_type' b_items' b_parent' b_field' b_val'
theorem sy_Fr_refl {s0 : Nat} {b_version b_type b_items b_parent b_field b_val : Nat → Int32} : sy_Fr s0 b_version b_type b_items b_parent b_field b_val b_version b_type b_items b_parent b_field b_val := fun _ _ _ _ _ _ _ _ _ R => R
theorem sy_Fr_add {s0 n : Nat} (hn : n < 120) {x y z i : Int32} {b_version b_type b_items b_parent b_field b_val : Nat → Int32} : sy_Fr s0 b_version b_type b_items b_parent b_field b_val b_version b_type (upd b_items s0 i) (upd b_parent (s0 * 120 + n) x) (upd b_field (s0 * 120 + n) y) (upd b_val (s0 * 120 + n) z) := by
  intro s v n2 p q w hs hne hn2 R
  refine sy_congr R rfl rfl (pk_un hne) (fun i hi => ?_)
  rw [pk_un (by omega), pk_un (by omega), pk_un (by omega)]
  exact ⟨rfl, rfl, rfl⟩
theorem sy_Fr_set {s0 n : Nat} (hn : n < 120) {z : Int32} {b_version b_type b_items b_parent b_field b_val : Nat → Int32} : sy_Fr s0 b_version b_type b_items b_parent b_field b_val b_version b_type b_items b_parent b_field (upd b_val (s0 * 120 + n) z) := by
  intro s v n2 p q w hs hne hn2 R
  refine sy_congr R rfl rfl rfl (fun i hi => ?_)
  rw [pk_un (by omega)]
  exact ⟨rfl, rfl, rfl⟩
theorem sx_Fr_word {K : Nat → Nat} {F t j : Nat} (hj : j ≤ 120) {x : Int32} {a_items a_word a_next a_schemaOf a_parentOf a_depthOf a_head a_tail a_length : Nat → Int32} : sx_Fr K F t a_items a_word a_next a_schemaOf a_parentOf a_depthOf a_head a_tail a_length a_items (upd a_word (t * 121 + j) x) a_next a_schemaOf a_parentOf a_depthOf a_head a_tail a_length := by
  refine sx_Fr_of ⟨fun _ _ => rfl, fun c hc => ?_, fun _ _ => ⟨rfl, rfl, rfl⟩⟩
  rw [pk_un (by omega)]
  exact ⟨rfl, rfl, rfl, rfl, rfl⟩
section
variable {K : Nat → Nat} {C F D s t t0 s0 : Nat} {a_cursor a_items a_word a_next a_schemaOf a_parentOf a_depthOf a_head a_tail a_length b_cursor b_version b_type b_items b_parent b_field b_val a_cursor' a_items' a_word' a_next' a_schemaOf' a_parentOf' a_depthOf' a_head' a_tail' a_length' b_cursor' b_version' b_type' b_items' b_parent' b_field' b_val' : Nat → Int32}
theorem sr_keep (hC : C ≤ 120) (S : sr_Slot K C F D s t a_cursor a_items a_word a_next a_schemaOf a_parentOf a_depthOf a_head a_tail a_length b_cursor b_version b_type b_items b_parent b_field b_val) (Fx : sx_Fr K F t0 a_items a_word a_next a_schemaOf a_parentOf a_depthOf a_head a_tail a_length a_items' a_word' a_next' a_schemaOf' a_parentOf' a_depthOf' a_head' a_tail' a_length') (Fy : sy_Fr s0 b_version b_type b_items b_parent b_field b_val b_version' b_type' b_items' b_parent' b_field' b_val') (ht : t < 3) (htne : t ≠ t0) (hs : s < 3) (hne : s ≠ s0) (hx : a_cursor' s = a_cursor s) (hy : b_cursor' s = b_cursor s) : sr_Slot K C F D s t a_cursor' a_items' a_word' a_next' a_schemaOf' a_parentOf' a_depthOf' a_head' a_tail' a_length' b_cursor' b_version' b_type' b_items' b_parent' b_field' b_val' := by
  obtain ⟨v, n, p, q, d, p', q', d', w, w', σ, c, W, W', R, R', Is, hc, hms, hcx, hcy⟩ := S
  have hn := W.1
  exact ⟨v, n, p, q, d, p', q', d', w, w', σ, c, W, W', Fx _ _ _ _ _ _ _ ht htne (by omega) R, Fy _ _ _ _ _ _ hs hne (by omega) R', Is, hc, hms, by rw [hx, hcx], by rw [hy, hcy]⟩
/-- all slots, one of them changed -/
theorem sr_slots {st : Nat → Nat} {a_storeOf a_held : Nat → Int32} {f_spare : Int32} (hSt : sr_St st a_storeOf f_spare) (hC : C ≤ 120) {i : Nat} (hi : i < 2)
    (hSl : ∀ s, s < 2 → a_held s ≠ 0 → sr_Slot K C F D s (st s) a_cursor a_items a_word a_next a_schemaOf a_parentOf a_depthOf a_head a_tail a_length b_cursor b_version b_type b_items b_parent b_field b_val)
    (Fx : sx_Fr K F (st i) a_items a_word a_next a_schemaOf a_parentOf a_depthOf a_head a_tail a_length a_items' a_word' a_next' a_schemaOf' a_parentOf' a_depthOf' a_head' a_tail' a_length') (Fy : sy_Fr i b_version b_type b_items b_parent b_field b_val b_version' b_type' b_items' b_parent' b_field' b_val') (hx : ∀ s, s ≠ i → a_cursor' s = a_cursor s) (hy : ∀ s, s ≠ i → b_cursor' s = b_cursor s)
    (hnew : sr_Slot K C F D i (st i) a_cursor' a_items' a_word' a_next' a_schemaOf' a_parentOf' a_depthOf' a_head' a_tail' a_length' b_cursor' b_version' b_type' b_items' b_parent' b_field' b_val') : ∀ s, s < 2 → a_held s ≠ 0 → sr_Slot K C F D s (st s) a_cursor' a_items' a_word' a_next' a_schemaOf' a_parentOf' a_depthOf' a_head' a_tail' a_length' b_cursor' b_version' b_type' b_items' b_parent' b_field' b_val' := by
  intro s hs hh
  by_cases e : s = i
  · subst e; exact hnew
  · exact sr_keep hC (hSl s hs hh) Fx Fy (sr_st hSt hs).2.1 (sr_st2 hSt hs hi e) (by omega) e (hx s e) (hy s e)
end
theorem i_vc_leave {k : Nat} {u : SX} {v : SY} (I : i_Rel k u v) (hk : k + 5 ≤ 2563) (v1 : Int32) : wpX_leave (fun r u' => wpY_leave (fun r' v' => r' = r ∧ i_Rel (k + 5) u' v') v v1) u v1 := by
  refine sr_el (P := fun u v => wpX_leave (fun r u' => wpY_leave (fun r' v' => r' = r ∧ i_Rel (k + 5) u' v') v v1) u v1) ?_ I
  intro f_capacity f_maxField f_maxDepth f_spare f_writeAt f_level f_readAt f_broken a_kinds a_held a_storeOf a_cursor a_items a_word a_next a_schemaOf a_parentOf a_depthOf a_head a_tail a_length a_bytes a_filled a_sizeOf a_placeOf a_match a_regionEnd a_regionMessage g_outLen g_regions g_pos g_bad b_version b_type b_cursor b_items b_parent b_field b_val b_out b_encStart b_encLen b_partner b_regMsg b_regStart b_regEnd H
  have HI : i_Rel (k + 5) (f_capacity, f_maxField, f_maxDepth, f_spare, f_writeAt, f_level, f_readAt, f_broken, a_kinds, a_held, a_storeOf, a_cursor, a_items, a_word, a_next, a_schemaOf, a_parentOf, a_depthOf, a_head, a_tail, a_length, a_bytes, a_filled, a_sizeOf, a_placeOf, a_match, a_regionEnd, a_regionMessage) (f_capacity, f_maxField, f_maxDepth, g_outLen, g_regions, g_pos, g_bad, a_kinds, a_held, b_version, b_type, b_cursor, b_items, b_parent, b_field, b_val, a_bytes, a_filled, b_out, b_encStart, b_encLen, b_partner, b_regMsg, b_regStart, b_regEnd) := sr_in H
  obtain ⟨K, C, F, D, st, hC, hSt, hFl, hSl⟩ := H
  obtain ⟨x1, x2, x3, x4, x5, x6, e1, e2, e3, x7⟩ := id hC
  obtain ⟨r, hx, hy, hr⟩ := sr_slot a_held v1
  unfold wpX_leave
  refine hx rfl ?_
  rcases hr with hr | ⟨rfl, i, hi, rfl, hh⟩
  · refine br_f hr ?_
    unfold wpY_leave
    exact hy rfl (br_f hr ⟨rfl, HI⟩)
  · have hi2 := hi
    obtain ⟨v, n, p, q, d, p', q', d', w, w', σ, c, W, W', R, R', Is, hc, hms, hcx, hcy⟩ := hSl i hi hh
    obtain ⟨est, ht, hspare⟩ := sr_st hSt hi
    have hn := W.1
    have ei : (nI i).toNatClampNeg = i := nI_clamp (by omega)
    have U := sw_up_of W
    have U' := sw_up_of W'
    have hσ := sw_ile Is U hc
    have hms' : sw_ms K F v p' q' w' (σ c) := (sw_iso_ms Is U hc).mpr hms
    have hs9 := (sw_sc_lt W hc hms).1
    refine br_t rfl ⟨vp_in_nI hi (by omega), ?_⟩
    rw [ei, hcx, nI_clamp (by omega), (R.2.2.2.1 c hc hms).1]
    refine ⟨vp_in_nI (by omega) (by omega), nm_e ?_⟩
    by_cases z : c = 0
    · subst z
      rw [if_pos rfl]
      refine br_f sn_neg1 ?_
      unfold wpY_leave
      refine hy rfl (br_t rfl ⟨vp_in_nI (by omega) (by omega), ?_⟩)
      rw [ei, hcy, Is.1, sw_mI_0]
      exact br_f sn_neg1 ⟨rfl, HI⟩
    · rw [if_neg z]
      have wc := W.2.2.2.1 c (by omega) hc
      obtain ⟨s1, s2, s3, s4⟩ := sw_i1 Is U (by omega) hc
      refine br_t (nI_pos' (by omega)) ⟨vp_in_nI hi (by omega), nm_e ?_⟩
      unfold wpY_leave
      refine hy rfl (br_t rfl ⟨vp_in_nI (by omega) (by omega), ?_⟩)
      rw [ei, hcy, sw_mI_120 i s1, nI_clamp (by omega), (R'.2.2.2 (σ c - 1) (by omega)).1]
      have e : σ c - 1 + 1 = σ c := by omega
      rw [e, s3]
      refine br_t ((sw_mI_pos (by omega)).mpr s1) ⟨vp_in_nI (by omega) (by omega), vp_in_nI (by omega) (by omega), vp_in_nI (by omega) (by omega), nm_e ⟨rfl, ?_⟩⟩
      refine sr_in ⟨K, C, F, D, st, hC, hSt, hFl, ?_⟩
      exact sr_slots hSt x2 hi hSl sx_Fr_refl sy_Fr_refl (fun s hs => pk_un hs) (fun s hs => pk_un hs) ⟨v, n, p, q, d, p', q', d', w, w', σ, p c, W, W', R, R', Is, by omega, wc.2.2.1, pk_us, pk_us⟩
theorem i_vc_enter {k : Nat} {u : SX} {v : SY} (I : i_Rel k u v) (hk : k + 5 ≤ 2563) (v1 : Int32) (v2 : Int32) (v3 : Int32) : wpX_enter (fun r u' => wpY_enter (fun r' v' => r' = r ∧ i_Rel (k + 5) u' v') v v1 v2 v3) u v1 v2 v3 := by
  refine sr_el (P := fun u v => wpX_enter (fun r u' => wpY_enter (fun r' v' => r' = r ∧ i_Rel (k + 5) u' v') v v1 v2 v3) u v1 v2 v3) ?_ I
  intro f_capacity f_maxField f_maxDepth f_spare f_writeAt f_level f_readAt f_broken a_kinds a_held a_storeOf a_cursor a_items a_word a_next a_schemaOf a_parentOf a_depthOf a_head a_tail a_length a_bytes a_filled a_sizeOf a_placeOf a_match a_regionEnd a_regionMessage g_outLen g_regions g_pos g_bad b_version b_type b_cursor b_items b_parent b_field b_val b_out b_encStart b_encLen b_partner b_regMsg b_regStart b_regEnd H
  have HI : i_Rel (k + 5) (f_capacity, f_maxField, f_maxDepth, f_spare, f_writeAt, f_level, f_readAt, f_broken, a_kinds, a_held, a_storeOf, a_cursor, a_items, a_word, a_next, a_schemaOf, a_parentOf, a_depthOf, a_head, a_tail, a_length, a_bytes, a_filled, a_sizeOf, a_placeOf, a_match, a_regionEnd, a_regionMessage) (f_capacity, f_maxField, f_maxDepth, g_outLen, g_regions, g_pos, g_bad, a_kinds, a_held, b_version, b_type, b_cursor, b_items, b_parent, b_field, b_val, a_bytes, a_filled, b_out, b_encStart, b_encLen, b_partner, b_regMsg, b_regStart, b_regEnd) := sr_in H
  obtain ⟨K, C, F, D, st, hC, hSt, hFl, hSl⟩ := H
  obtain ⟨x1, x2, x3, x4, x5, x6, e1, e2, e3, x7⟩ := id hC
  obtain ⟨r, hx, hy, hr⟩ := sr_field a_held x4 v1 v2
  unfold wpX_enter
  refine hx rfl e2 ?_
  rcases hr with hr | ⟨rfl, i, f, hi, rfl, hh, hf1, hf2, rfl⟩
  · refine br_f hr ?_
    unfold wpY_enter
    exact hy rfl e2 (br_f hr ⟨rfl, HI⟩)
  · have hi2 := hi
    obtain ⟨v, n, p, q, d, p', q', d', w, w', σ, c, W, W', R, R', Is, hc, hms, hcx, hcy⟩ := hSl i hi hh
    obtain ⟨est, ht, hspare⟩ := sr_st hSt hi
    have hn := W.1
    have ei : (nI i).toNatClampNeg = i := nI_clamp (by omega)
    have U := sw_up_of W
    have U' := sw_up_of W'
    have hσ := sw_ile Is U hc
    have hms' : sw_ms K F v p' q' w' (σ c) := (sw_iso_ms Is U hc).mpr hms
    have hs9 := (sw_sc_lt W hc hms).1
    have hk15 := sw_kd_le (K := K) (F := F) (s := sw_sc v w c) (f := f) (fun i h => (x7 i h).1) x4 hs9
    refine br_t rfl ⟨vp_in_nI hi (by omega), ?_⟩
    rw [ei, hcx]
    refine nm_e (sx_kindIn hC W R ht hc hms (by omega) ?_)
    refine pk_le 10 (sw_kd K F (sw_sc v w c) f) (fun h10 => ?_) (fun h10 => ?_)
    · refine sx_cellAt W x2 R ht hc hms (by omega) ?_
      cases ho : sw_at (sw_L p q c f n) v3 with
      | none =>
        refine br_f sn_neg1 ?_
        unfold wpY_enter
        refine hy rfl e2 (br_t rfl ⟨vp_in_nI (by omega) (by omega), ?_⟩)
        rw [ei, hcy]
        refine sy_kindIn hC W' R' (by omega) hσ hms' (by omega) ?_
        rw [sw_iso_sc Is hc]
        refine pk_le 10 (sw_kd K F (sw_sc v w c) f) (fun _ => ⟨vp_in_nI (by omega) (by omega), ?_⟩) (fun y => by omega)
        refine sy_find W' x2 x4 R' (by omega) (by omega) (by omega) ?_
        rw [Is.2.1 c f hc, sw_at_map, ho]
        exact br_f sn_neg1 ⟨rfl, HI⟩
      | some j =>
        have hj := sw_mem.mp (sw_at_mem ho)
        obtain ⟨a, b, _, _⟩ := sw_i1 Is U hj.1 hj.2.1
        refine br_t (nI_pos' (by omega)) ⟨vp_in_nI hi (by omega), nm_e ?_⟩
        unfold wpY_enter
        refine hy rfl e2 (br_t rfl ⟨vp_in_nI (by omega) (by omega), ?_⟩)
        rw [ei, hcy]
        refine sy_kindIn hC W' R' (by omega) hσ hms' (by omega) ?_
        rw [sw_iso_sc Is hc]
        refine pk_le 10 (sw_kd K F (sw_sc v w c) f) (fun _ => ⟨vp_in_nI (by omega) (by omega), ?_⟩) (fun y => by omega)
        refine sy_find W' x2 x4 R' (by omega) (by omega) (by omega) ?_
        rw [Is.2.1 c f hc, sw_at_map, ho]
        refine br_t ((sw_mI_pos (by omega)).mpr a) ⟨vp_in_nI (by omega) (by omega), nm_e ⟨rfl, ?_⟩⟩
        refine sr_in ⟨K, C, F, D, st, hC, hSt, hFl, ?_⟩
        exact sr_slots hSt x2 hi hSl sx_Fr_refl sy_Fr_refl (fun s hs => pk_un hs) (fun s hs => pk_un hs) ⟨v, n, p, q, d, p', q', d', w, w', σ, j, W, W', R, R', Is, hj.2.1, (sw_msL W (sw_at_mem ho)).mpr h10, pk_us, pk_us⟩
    · unfold wpY_enter
      refine hy rfl e2 (br_t rfl ⟨vp_in_nI (by omega) (by omega), ?_⟩)
      rw [ei, hcy]
      refine sy_kindIn hC W' R' (by omega) hσ hms' (by omega) ?_
      rw [sw_iso_sc Is hc]
      exact pk_le 10 (sw_kd K F (sw_sc v w c) f) (fun y => by omega) (fun _ => ⟨rfl, HI⟩)
theorem i_vc_put {k : Nat} {u : SX} {v : SY} (I : i_Rel k u v) (hk : k + 5 ≤ 2563) (v1 : Int32) (v2 : Int32) (v3 : Int32) : wpX_put (fun r u' => wpY_put (fun r' v' => r' = r ∧ i_Rel (k + 5) u' v') v v1 v2 v3) u v1 v2 v3 := by
  refine sr_el (P := fun u v => wpX_put (fun r u' => wpY_put (fun r' v' => r' = r ∧ i_Rel (k + 5) u' v') v v1 v2 v3) u v1 v2 v3) ?_ I
  intro f_capacity f_maxField f_maxDepth f_spare f_writeAt f_level f_readAt f_broken a_kinds a_held a_storeOf a_cursor a_items a_word a_next a_schemaOf a_parentOf a_depthOf a_head a_tail a_length a_bytes a_filled a_sizeOf a_placeOf a_match a_regionEnd a_regionMessage g_outLen g_regions g_pos g_bad b_version b_type b_cursor b_items b_parent b_field b_val b_out b_encStart b_encLen b_partner b_regMsg b_regStart b_regEnd H
  have HI : i_Rel (k + 5) (f_capacity, f_maxField, f_maxDepth, f_spare, f_writeAt, f_level, f_readAt, f_broken, a_kinds, a_held, a_storeOf, a_cursor, a_items, a_word, a_next, a_schemaOf, a_parentOf, a_depthOf, a_head, a_tail, a_length, a_bytes, a_filled, a_sizeOf, a_placeOf, a_match, a_regionEnd, a_regionMessage) (f_capacity, f_maxField, f_maxDepth, g_outLen, g_regions, g_pos, g_bad, a_kinds, a_held, b_version, b_type, b_cursor, b_items, b_parent, b_field, b_val, a_bytes, a_filled, b_out, b_encStart, b_encLen, b_partner, b_regMsg, b_regStart, b_regEnd) := sr_in H
  obtain ⟨K, C, F, D, st, hC, hSt, hFl, hSl⟩ := H
  obtain ⟨x1, x2, x3, x4, x5, x6, e1, e2, e3, x7⟩ := id hC
  obtain ⟨r, hx, hy, hr⟩ := sr_field a_held x4 v1 v2
  unfold wpX_put
  refine hx rfl e2 ?_
  rcases hr with hr | ⟨rfl, i, f, hi, rfl, hh, hf1, hf2, rfl⟩
  · refine br_f hr ?_
    unfold wpY_put
    exact hy rfl e2 (br_f hr ⟨rfl, HI⟩)
  · have hi2 := hi
    obtain ⟨v, n, p, q, d, p', q', d', w, w', σ, c, W, W', R, R', Is, hc, hms, hcx, hcy⟩ := hSl i hi hh
    obtain ⟨est, ht, hspare⟩ := sr_st hSt hi
    have hn := W.1
    have ei : (nI i).toNatClampNeg = i := nI_clamp (by omega)
    have U := sw_up_of W
    have U' := sw_up_of W'
    have hσ := sw_ile Is U hc
    have hms' : sw_ms K F v p' q' w' (σ c) := (sw_iso_ms Is U hc).mpr hms
    have hs9 := (sw_sc_lt W hc hms).1
    have hk15 := sw_kd_le (K := K) (F := F) (s := sw_sc v w c) (f := f) (fun i h => (x7 i h).1) x4 hs9
    refine br_t rfl ⟨vp_in_nI hi (by omega), ?_⟩
    rw [ei, hcx]
    refine nm_e (sx_kindIn hC W R ht hc hms (by omega) ?_)
    have hY : ∀ post : Int32 → SY → Prop, (¬ (1 ≤ sw_kd K F (sw_sc v w c) f ∧ sw_kd K F (sw_sc v w c) f ≤ 9) → post (-4) (f_capacity, f_maxField, f_maxDepth, g_outLen, g_regions, g_pos, g_bad, a_kinds, a_held, b_version, b_type, b_cursor, b_items, b_parent, b_field, b_val, a_bytes, a_filled, b_out, b_encStart, b_encLen, b_partner, b_regMsg, b_regStart, b_regEnd)) →
        ((1 ≤ sw_kd K F (sw_sc v w c) f ∧ sw_kd K F (sw_sc v w c) f ≤ 9) → (∀ j, sw_kd K F (sw_sc v w c) f ≤ 3 → (sw_L p q c f n)[0]? = some j → post 0 (f_capacity, f_maxField, f_maxDepth, g_outLen, g_regions, g_pos, g_bad, a_kinds, a_held, b_version, b_type, b_cursor, b_items, b_parent, b_field, upd b_val (i * 120 + (σ j - 1)) v3, a_bytes, a_filled, b_out, b_encStart, b_encLen, b_partner, b_regMsg, b_regStart, b_regEnd)) ∧
          (¬ (sw_kd K F (sw_sc v w c) f ≤ 3 ∧ sw_L p q c f n ≠ []) → n < C → post 0 (f_capacity, f_maxField, f_maxDepth, g_outLen, g_regions, g_pos, g_bad, a_kinds, a_held, b_version, b_type, b_cursor, upd b_items i (nI (n + 1)), upd b_parent (i * 120 + n) (sw_mI (σ c)), upd b_field (i * 120 + n) (nI f), upd b_val (i * 120 + n) v3, a_bytes, a_filled, b_out, b_encStart, b_encLen, b_partner, b_regMsg, b_regStart, b_regEnd)) ∧
          (¬ (sw_kd K F (sw_sc v w c) f ≤ 3 ∧ sw_L p q c f n ≠ []) → C ≤ n → post (-5) (f_capacity, f_maxField, f_maxDepth, g_outLen, g_regions, g_pos, g_bad, a_kinds, a_held, b_version, b_type, b_cursor, b_items, b_parent, b_field, b_val, a_bytes, a_filled, b_out, b_encStart, b_encLen, b_partner, b_regMsg, b_regStart, b_regEnd))) → wpY_put post (f_capacity, f_maxField, f_maxDepth, g_outLen, g_regions, g_pos, g_bad, a_kinds, a_held, b_version, b_type, b_cursor, b_items, b_parent, b_field, b_val, a_bytes, a_filled, b_out, b_encStart, b_encLen, b_partner, b_regMsg, b_regStart, b_regEnd) (nI i) (nI f) v3 := by
      intro post h4 h5
      unfold wpY_put
      refine hy rfl e2 (br_t rfl ⟨vp_in_nI (by omega) (by omega), ?_⟩)
      rw [ei, hcy]
      refine sy_kindIn hC W' R' (by omega) hσ hms' (by omega) ?_
      rw [sw_iso_sc Is hc]
      refine pk_lt (sw_kd K F (sw_sc v w c) f) 1 (fun z => h4 (by omega)) (fun z1 => pk_le (sw_kd K F (sw_sc v w c) f) 9 (fun z9 => ⟨vp_in_nI (by omega) (by omega), ?_⟩) (fun z => h4 (by omega)))
      obtain ⟨hA, hB, hN⟩ := h5 ⟨z1, z9⟩
      refine sy_find W' x2 x4 R' (by omega) (by omega) (by omega) ?_
      have h87 : ¬ (sw_kd K F (sw_sc v w c) f ≤ 3 ∧ sw_L p q c f n ≠ []) → wY_put_87 post (nI i) (nI f) v3 f_capacity f_maxField f_maxDepth g_outLen g_regions g_pos g_bad a_kinds a_held b_version b_type b_cursor b_items b_parent b_field b_val a_bytes a_filled b_out b_encStart b_encLen b_partner b_regMsg b_regStart b_regEnd := by
        intro hno
        unfold wY_put_87
        rw [ei, R'.2.2.1, e1]
        refine ⟨vp_in_nI (by omega) (by omega), pk_lt n C (fun hlt => ⟨vp_in_nI (by omega) (by omega), ?_⟩) (fun hle => ?_)⟩
        · rw [hcy, ← e1]
          exact sy_addP R' (by omega) (by omega) (hB hno hlt)
        · rw [← e1]; exact hN hno hle
      refine pk_lt 3 (sw_kd K F (sw_sc v w c) f) (fun z3 => h87 (fun y => by omega)) (fun z3 => ?_)
      rw [Is.2.1 c f hc, sw_at_map, ← nI_0, sw_at_nI (by omega)]
      cases ho : (sw_L p q c f n)[0]? with
      | none => exact br_t (show sw_oY (Option.map σ none) < nI 0 from (by decide : (-1 : Int32) < nI 0)) (h87 (fun y => y.2 (List.eq_nil_of_length_eq_zero (by have := List.getElem?_eq_none_iff.mp ho; omega))))
      | some j =>
        have hj := sw_mem.mp (sw_nthmem ho)
        obtain ⟨a, b, _, _⟩ := sw_i1 Is U hj.1 hj.2.1
        refine br_f (fun y => ?_) ?_
        · have := (sw_mI_neg (a := σ j) (by omega)).mp y; omega
        · rw [show sw_oY (Option.map σ (some j)) = sw_mI (σ j) from rfl, sw_mI_120 i a, nI_clamp (by omega)]
          exact ⟨vp_in_nI (by omega) (by omega), nm_e (hA j z3 ho)⟩
    refine sx_isScalar (by omega) (fun z => br_t rfl ?_) (fun z => br_f (by decide) ⟨vp_in_nI hi (by omega), ?_⟩)
    · exact hY _ (fun _ => ⟨rfl, HI⟩) (fun y => absurd y z)
    · rw [est]
      refine sx_storeInt hC W R ht hc hms hf1 hf2 z.2 (fun j h3 ho => br_f (by decide) ?_) (fun hno hlt a_items' a_word' a_next' a_schemaOf' a_parentOf' a_depthOf' a_head' a_tail' a_length' R2 Fr => br_f (by decide) ?_) (fun hno hle => br_t rfl ?_)
      · have hj := sw_mem.mp (sw_nthmem ho)
        obtain ⟨a, b, _, _⟩ := sw_i1 Is U hj.1 hj.2.1
        have hnm : ¬ sw_ms K F v p q w j := fun y => by
          have := (sw_msL W (sw_nthmem ho)).mp y
          omega
        have hnm' : ¬ sw_ms K F v p' q' w' (σ j) := fun y => hnm ((sw_iso_ms Is U hj.2.1).mp y)
        refine hY _ (fun y => absurd z y) (fun _ => ⟨fun j2 _ ho2 => ?_, fun hno => absurd ⟨h3, ?_⟩ hno, fun hno => absurd ⟨h3, ?_⟩ hno⟩)
        · rw [ho] at ho2
          obtain rfl : j = j2 := Option.some.inj ho2
          refine ⟨rfl, sr_in ⟨K, C, F, D, st, hC, hSt, hFl, ?_⟩⟩
          exact sr_slots hSt x2 hi hSl (sx_Fr_word (by omega)) (sy_Fr_set (by omega)) (fun s hs => rfl) (fun s hs => rfl) ⟨v, n, p, q, d, p', q', d', _, _, σ, c, sw_WF_set W hnm, sw_WF_set W' hnm', sx_set R W hj.1 hnm, sy_set R' a, sw_iset Is U hj.2.1 _, hc, (sw_ms_set W hnm hc).mpr hms, hcx, hcy⟩
        · intro y; rw [y] at ho; cases ho
        · intro y; rw [y] at ho; cases ho
      · refine hY _ (fun y => absurd z y) (fun _ => ⟨fun j h3 ho => absurd ⟨h3, ?_⟩ hno, fun _ _ => ?_, fun _ y => by omega⟩)
        · refine ⟨rfl, sr_in ⟨K, C, F, D, st, hC, hSt, hFl, ?_⟩⟩
          exact sr_slots hSt x2 hi hSl Fr (sy_Fr_add (by omega)) (fun s hs => rfl) (fun s hs => rfl) ⟨v, n + 1, _, _, _, _, _, sw_up d' (n + 1) (d' (σ c) + 1), _, _, sw_up σ (n + 1) (n + 1), c,
            sw_WF_add W hc hms hf2 hlt (fun _ => z.1) (fun y => by omega), sw_WF_add W' hσ hms' hf2 hlt (fun _ => by rw [sw_iso_sc Is hc]; exact z.1) (fun y => by rw [sw_iso_sc Is hc] at y; omega), R2, sy_add R', sw_iadd Is U U' hc v3, by omega, (sw_ms_add U hc).mpr hms, hcx, by rw [sw_un (by omega)]; exact hcy⟩
        · intro y; rw [y] at ho; cases ho
      · exact hY _ (fun y => absurd z y) (fun _ => ⟨fun j h3 ho => absurd ⟨h3, fun y => by rw [y] at ho; cases ho⟩ hno, fun _ y => by omega, fun _ _ => ⟨rfl, HI⟩⟩)
end
section
section
variable {K : Nat → Nat} {C F D : Nat} {a_cursor a_items a_word a_next a_schemaOf a_parentOf a_depthOf a_head a_tail a_length b_cursor b_version b_type b_items b_parent b_field b_val a_cursor' a_items' a_word' a_next' a_schemaOf' a_parentOf' a_depthOf' a_head' a_tail' a_length' b_cursor' b_version' b_type' b_items' b_parent' b_field' b_val' : Nat → Int32}
theorem sr_slots2 {st : Nat → Nat} {a_storeOf a_held a_held' : Nat → Int32} {f_spare : Int32} (hSt : sr_St st a_storeOf f_spare) (hC : C ≤ 120) {i : Nat} (hi : i < 2)
    (hSl : ∀ s, s < 2 → a_held s ≠ 0 → sr_Slot K C F D s (st s) a_cursor a_items a_word a_next a_schemaOf a_parentOf a_depthOf a_head a_tail a_length b_cursor b_version b_type b_items b_parent b_field b_val) (hH : ∀ s, s ≠ i → a_held' s = a_held s)
    (Fx : sx_Fr K F (st i) a_items a_word a_next a_schemaOf a_parentOf a_depthOf a_head a_tail a_length a_items' a_word' a_next' a_schemaOf' a_parentOf' a_depthOf' a_head' a_tail' a_length') (Fy : sy_Fr i b_version b_type b_items b_parent b_field b_val b_version' b_type' b_items' b_parent' b_field' b_val') (hx : ∀ s, s ≠ i → a_cursor' s = a_cursor s) (hy : ∀ s, s ≠ i → b_cursor' s = b_cursor s)
    (hnew : sr_Slot K C F D i (st i) a_cursor' a_items' a_word' a_next' a_schemaOf' a_parentOf' a_depthOf' a_head' a_tail' a_length' b_cursor' b_version' b_type' b_items' b_parent' b_field' b_val') : ∀ s, s < 2 → a_held' s ≠ 0 → sr_Slot K C F D s (st s) a_cursor' a_items' a_word' a_next' a_schemaOf' a_parentOf' a_depthOf' a_head' a_tail' a_length' b_cursor' b_version' b_type' b_items' b_parent' b_field' b_val' := by
  intro s hs hh
  by_cases e : s = i
  · subst e; exact hnew
  · rw [hH s e] at hh
    exact sr_keep hC (hSl s hs hh) Fx Fy (sr_st hSt hs).2.1 (sr_st2 hSt hs hi e) (by omega) e (hx s e) (hy s e)
end
theorem i_vc_start {k : Nat} {u : SX} {v : SY} (I : i_Rel k u v) (hk : k + 5 ≤ 2563) (v1 : Int32) (v2 : Int32) (v3 : Int32) : wpX_start (fun r u' => wpY_start (fun r' v' => r' = r ∧ i_Rel (k + 5) u' v') v v1 v2 v3) u v1 v2 v3 := by
  refine sr_el (P := fun u v => wpX_start (fun r u' => wpY_start (fun r' v' => r' = r ∧ i_Rel (k + 5) u' v') v v1 v2 v3) u v1 v2 v3) ?_ I
  intro f_capacity f_maxField f_maxDepth f_spare f_writeAt f_level f_readAt f_broken a_kinds a_held a_storeOf a_cursor a_items a_word a_next a_schemaOf a_parentOf a_depthOf a_head a_tail a_length a_bytes a_filled a_sizeOf a_placeOf a_match a_regionEnd a_regionMessage g_outLen g_regions g_pos g_bad b_version b_type b_cursor b_items b_parent b_field b_val b_out b_encStart b_encLen b_partner b_regMsg b_regStart b_regEnd H
  have HI : i_Rel (k + 5) (f_capacity, f_maxField, f_maxDepth, f_spare, f_writeAt, f_level, f_readAt, f_broken, a_kinds, a_held, a_storeOf, a_cursor, a_items, a_word, a_next, a_schemaOf, a_parentOf, a_depthOf, a_head, a_tail, a_length, a_bytes, a_filled, a_sizeOf, a_placeOf, a_match, a_regionEnd, a_regionMessage) (f_capacity, f_maxField, f_maxDepth, g_outLen, g_regions, g_pos, g_bad, a_kinds, a_held, b_version, b_type, b_cursor, b_items, b_parent, b_field, b_val, a_bytes, a_filled, b_out, b_encStart, b_encLen, b_partner, b_regMsg, b_regStart, b_regEnd) := sr_in H
  obtain ⟨K, C, F, D, st, hC, hSt, hFl, hSl⟩ := H
  obtain ⟨x1, x2, x3, x4, x5, x6, e1, e2, e3, x7⟩ := id hC
  unfold wpX_start
  refine sx_isSlot (fun z => br_t rfl ?_) (fun z => br_f (by decide) ?_)
  · unfold wpY_start
    exact sn_br (sn_gt 0 v1) (fun _ => ⟨rfl, HI⟩) (fun _ => sn_br (sn_lt 1 v1) (fun _ => ⟨rfl, HI⟩) (fun _ => by omega))
  · obtain ⟨i, hi, rfl⟩ := sn_of (z := v1) (c := 2) z.1 z.2
    refine sx_isSchema (fun y => br_t rfl ?_) (fun y => br_f (by decide) ?_)
    · unfold wpY_start
      exact pk_lt i 0 (fun _ => by omega) (fun _ => pk_lt 1 i (fun _ => by omega) (fun _ => sn_br (sn_gt 0 v2) (fun _ => ⟨rfl, HI⟩) (fun _ => sn_br (sn_lt 2 v2) (fun _ => ⟨rfl, HI⟩) (fun _ => sn_br (sn_gt 0 v3) (fun _ => ⟨rfl, HI⟩) (fun _ => sn_br (sn_ge 2 v3) (fun _ => by omega) (fun _ => ⟨rfl, HI⟩))))))
    · obtain ⟨a, ha, rfl⟩ := sn_of (z := v2) (c := 3) y.1 y.2.1
      obtain ⟨b, hb, rfl⟩ := sn_of (z := v3) (c := 3) y.2.2.1 y.2.2.2
      obtain ⟨est, ht, hspare⟩ := sr_st hSt hi
      have ei : (nI i).toNatClampNeg = i := nI_clamp (by omega)
      rw [ei, est, sn_3]
      refine ⟨vp_in_nI hi (by omega), nm_e ?_⟩
      refine sx_resetStore (K := K) (F := F) (p := fun _ => 0) (q := fun _ => 0) ht hb ha (fun a_items' a_word' a_next' a_schemaOf' a_parentOf' a_depthOf' a_head' a_tail' a_length' R2 Fr => ?_)
      rw [sn_m121]
      refine ⟨vp_in_nI hi (by omega), nm_e ⟨vp_in_nI hi (by omega), nm_e ?_⟩⟩
      unfold wpY_start
      rw [ei]
      refine pk_lt i 0 (fun _ => by omega) (fun _ => pk_lt 1 i (fun _ => by omega) (fun _ => pk_lt a 0 (fun _ => by omega) (fun _ => pk_lt 2 a (fun _ => by omega) (fun _ => pk_lt b 0 (fun _ => by omega) (fun _ => pk_le b 2 (fun _ => ?_) (fun _ => by omega))))))
      have h3 : vp_in (nI i) 3 := vp_in_nI (by omega) (by omega)
      refine ⟨h3, nm_e ⟨h3, nm_e ⟨h3, nm_e ⟨h3, nm_e ⟨h3, nm_e ⟨rfl, ?_⟩⟩⟩⟩⟩⟩
      refine sr_in ⟨K, C, F, D, st, hC, hSt, hFl, ?_⟩
      refine sr_slots2 hSt x2 hi hSl (fun s hs => pk_un hs) Fr ?_ (fun s hs => pk_un hs) (fun s hs => pk_un hs) ⟨a, 0, fun _ => 0, fun _ => 0, fun _ => 0, fun _ => 0, fun _ => 0, fun _ => 0, fun _ => nI b, fun _ => nI b, fun j => j, 0, sw_WF_start hb ha, sw_WF_start hb ha, R2, ⟨pk_us, pk_us, pk_us, fun i hi => by omega⟩, sw_irefl, by omega, sw_ms0, by rw [pk_us, Nat.add_zero], by rw [pk_us, sw_mI_0]⟩
      intro s v n p q w hs hne hn R
      exact sy_congr R (pk_un hne) (pk_un hne) (pk_un hne) (fun _ _ => ⟨rfl, rfl, rfl⟩)
theorem i_vc_open {k : Nat} {u : SX} {v : SY} (I : i_Rel k u v) (hk : k + 5 ≤ 2563) (v1 : Int32) (v2 : Int32) : wpX_open (fun r u' => wpY_open (fun r' v' => r' = r ∧ i_Rel (k + 5) u' v') v v1 v2) u v1 v2 := by
  refine sr_el (P := fun u v => wpX_open (fun r u' => wpY_open (fun r' v' => r' = r ∧ i_Rel (k + 5) u' v') v v1 v2) u v1 v2) ?_ I
  intro f_capacity f_maxField f_maxDepth f_spare f_writeAt f_level f_readAt f_broken a_kinds a_held a_storeOf a_cursor a_items a_word a_next a_schemaOf a_parentOf a_depthOf a_head a_tail a_length a_bytes a_filled a_sizeOf a_placeOf a_match a_regionEnd a_regionMessage g_outLen g_regions g_pos g_bad b_version b_type b_cursor b_items b_parent b_field b_val b_out b_encStart b_encLen b_partner b_regMsg b_regStart b_regEnd H
  have HI : i_Rel (k + 5) (f_capacity, f_maxField, f_maxDepth, f_spare, f_writeAt, f_level, f_readAt, f_broken, a_kinds, a_held, a_storeOf, a_cursor, a_items, a_word, a_next, a_schemaOf, a_parentOf, a_depthOf, a_head, a_tail, a_length, a_bytes, a_filled, a_sizeOf, a_placeOf, a_match, a_regionEnd, a_regionMessage) (f_capacity, f_maxField, f_maxDepth, g_outLen, g_regions, g_pos, g_bad, a_kinds, a_held, b_version, b_type, b_cursor, b_items, b_parent, b_field, b_val, a_bytes, a_filled, b_out, b_encStart, b_encLen, b_partner, b_regMsg, b_regStart, b_regEnd) := sr_in H
  obtain ⟨K, C, F, D, st, hC, hSt, hFl, hSl⟩ := H
  obtain ⟨x1, x2, x3, x4, x5, x6, e1, e2, e3, x7⟩ := id hC
  obtain ⟨r, hx, hy, hr⟩ := sr_field a_held x4 v1 v2
  unfold wpX_open
  refine hx rfl e2 ?_
  rcases hr with hr | ⟨rfl, i, f, hi, rfl, hh, hf1, hf2, rfl⟩
  · refine br_f hr ?_
    unfold wpY_open
    exact hy rfl e2 (br_f hr ⟨rfl, HI⟩)
  · have hi2 := hi
    obtain ⟨v, n, p, q, d, p', q', d', w, w', σ, c, W, W', R, R', Is, hc, hms, hcx, hcy⟩ := hSl i hi hh
    obtain ⟨est, ht, hspare⟩ := sr_st hSt hi
    have hn := W.1
    have ei : (nI i).toNatClampNeg = i := nI_clamp (by omega)
    have U := sw_up_of W
    have U' := sw_up_of W'
    have hσ := sw_ile Is U hc
    have hms' : sw_ms K F v p' q' w' (σ c) := (sw_iso_ms Is U hc).mpr hms
    have hs9 := (sw_sc_lt W hc hms).1
    have hk15 := sw_kd_le (K := K) (F := F) (s := sw_sc v w c) (f := f) (fun i h => (x7 i h).1) x4 hs9
    have hlen := sw_len (p := p) (q := q) (m := c) (f := f) (n := n)
    obtain ⟨c1, c2, c3, c4⟩ := R.2.2.2.2 c f hc hms (by omega)
    have hdc := (W.2.2.2.2 c hc hms).2
    refine br_t rfl ⟨vp_in_nI hi (by omega), ?_⟩
    rw [ei, hcx]
    refine nm_e (sx_kindIn hC W R ht hc hms (by omega) ?_)
    have hY : ∀ post : Int32 → SY → Prop, (¬ 10 ≤ sw_kd K F (sw_sc v w c) f → post (-4) (f_capacity, f_maxField, f_maxDepth, g_outLen, g_regions, g_pos, g_bad, a_kinds, a_held, b_version, b_type, b_cursor, b_items, b_parent, b_field, b_val, a_bytes, a_filled, b_out, b_encStart, b_encLen, b_partner, b_regMsg, b_regStart, b_regEnd)) →
        (10 ≤ sw_kd K F (sw_sc v w c) f → (∀ j, sw_kd K F (sw_sc v w c) f ≤ 12 → (sw_L p q c f n)[0]? = some j → post 0 (f_capacity, f_maxField, f_maxDepth, g_outLen, g_regions, g_pos, g_bad, a_kinds, a_held, b_version, b_type, upd b_cursor i (sw_mI (σ j)), b_items, b_parent, b_field, b_val, a_bytes, a_filled, b_out, b_encStart, b_encLen, b_partner, b_regMsg, b_regStart, b_regEnd)) ∧
          (¬ (sw_kd K F (sw_sc v w c) f ≤ 12 ∧ sw_L p q c f n ≠ []) → d c < D → n < C → post 0 (f_capacity, f_maxField, f_maxDepth, g_outLen, g_regions, g_pos, g_bad, a_kinds, a_held, b_version, b_type, upd b_cursor i (nI n), upd b_items i (nI (n + 1)), upd b_parent (i * 120 + n) (sw_mI (σ c)), upd b_field (i * 120 + n) (nI f), upd b_val (i * 120 + n) (nI ((sw_kd K F (sw_sc v w c) f - 10) % 3)), a_bytes, a_filled, b_out, b_encStart, b_encLen, b_partner, b_regMsg, b_regStart, b_regEnd)) ∧
          (¬ (sw_kd K F (sw_sc v w c) f ≤ 12 ∧ sw_L p q c f n ≠ []) → d c < D → C ≤ n → post (-5) (f_capacity, f_maxField, f_maxDepth, g_outLen, g_regions, g_pos, g_bad, a_kinds, a_held, b_version, b_type, b_cursor, b_items, b_parent, b_field, b_val, a_bytes, a_filled, b_out, b_encStart, b_encLen, b_partner, b_regMsg, b_regStart, b_regEnd)) ∧
          (¬ (sw_kd K F (sw_sc v w c) f ≤ 12 ∧ sw_L p q c f n ≠ []) → D ≤ d c → post (-6) (f_capacity, f_maxField, f_maxDepth, g_outLen, g_regions, g_pos, g_bad, a_kinds, a_held, b_version, b_type, b_cursor, b_items, b_parent, b_field, b_val, a_bytes, a_filled, b_out, b_encStart, b_encLen, b_partner, b_regMsg, b_regStart, b_regEnd))) → wpY_open post (f_capacity, f_maxField, f_maxDepth, g_outLen, g_regions, g_pos, g_bad, a_kinds, a_held, b_version, b_type, b_cursor, b_items, b_parent, b_field, b_val, a_bytes, a_filled, b_out, b_encStart, b_encLen, b_partner, b_regMsg, b_regStart, b_regEnd) (nI i) (nI f) := by
      intro post h4 h5
      unfold wpY_open
      refine hy rfl e2 (br_t rfl ⟨vp_in_nI (by omega) (by omega), ?_⟩)
      rw [ei, hcy]
      refine sy_kindIn hC W' R' (by omega) hσ hms' (by omega) ?_
      rw [sw_iso_sc Is hc]
      refine pk_le 10 (sw_kd K F (sw_sc v w c) f) (fun z10 => ⟨vp_in_nI (by omega) (by omega), ?_⟩) (fun z => h4 (by omega))
      obtain ⟨hA, hB, hN, hDp⟩ := h5 z10
      refine sy_find W' x2 x4 R' (by omega) (by omega) (by omega) ?_
      have h74 : ¬ (sw_kd K F (sw_sc v w c) f ≤ 12 ∧ sw_L p q c f n ≠ []) → wY_open_74 post (nI i) (nI f) (nI (sw_kd K F (sw_sc v w c) f)) f_capacity f_maxField f_maxDepth g_outLen g_regions g_pos g_bad a_kinds a_held b_version b_type b_cursor b_items b_parent b_field b_val a_bytes a_filled b_out b_encStart b_encLen b_partner b_regMsg b_regStart b_regEnd := by
        intro hno
        unfold wY_open_74
        rw [ei, hcy]
        refine ⟨vp_in_nI (by omega) (by omega), ?_⟩
        refine sy_depthOf W' x2 R' (by omega) hσ ?_
        rw [sw_iso_d Is W W' c hc]
        have hdl := sw_d_le W c hc
        refine pk_lt (d c) D (fun zd => ⟨vp_in_nI (by omega) (by omega), ?_⟩) (fun zd => hDp hno zd) rfl e3
        rw [R'.2.2.1]
        refine pk_lt n C (fun hlt => ⟨vp_in_nI (by omega) (by omega), by decide, ?_⟩) (fun hle => hN hno zd hle) rfl e1
        have a : nI (sw_kd K F (sw_sc v w c) f) - 10 = nI (sw_kd K F (sw_sc v w c) f - 10) := pk_sub (b := 10) z10
        have b := pk_rem (a := sw_kd K F (sw_sc v w c) f - 10) (d := 3) (by omega) (by omega) (by omega)
        have b' : nI (sw_kd K F (sw_sc v w c) f - 10) - nI (sw_kd K F (sw_sc v w c) f - 10) / 3 * 3 = nI ((sw_kd K F (sw_sc v w c) f - 10) % 3) := b
        rw [a, b']
        refine sy_addP R' (by omega) (by omega) ⟨vp_in_nI (by omega) (by omega), vp_in_nI (by omega) (by omega), ?_⟩
        rw [pk_us, nI_pred]
        exact nm_e (hB hno zd hlt)
      refine pk_lt 12 (sw_kd K F (sw_sc v w c) f) (fun z3 => h74 (fun y => by omega)) (fun z3 => ?_)
      rw [Is.2.1 c f hc, sw_at_map, ← nI_0, sw_at_nI (by omega)]
      cases ho : (sw_L p q c f n)[0]? with
      | none => exact br_t (show sw_oY (Option.map σ none) < nI 0 from (by decide : (-1 : Int32) < nI 0)) (h74 (fun y => y.2 (List.eq_nil_of_length_eq_zero (by have := List.getElem?_eq_none_iff.mp ho; omega))))
      | some j =>
        have hj := sw_mem.mp (sw_nthmem ho)
        obtain ⟨a, b, _, _⟩ := sw_i1 Is U hj.1 hj.2.1
        refine br_f (fun y => ?_) ?_
        · have := (sw_mI_neg (a := σ j) (by omega)).mp y; omega
        · exact ⟨vp_in_nI (by omega) (by omega), nm_e (hA j z3 ho)⟩
    refine pk_le 10 (sw_kd K F (sw_sc v w c) f) (fun z => ?_) (fun z => hY _ (fun _ => ⟨rfl, HI⟩) (fun y => by omega))
    rw [sn_21]
    refine nm_e ?_
    have h81 : ¬ (sw_kd K F (sw_sc v w c) f ≤ 12 ∧ sw_L p q c f n ≠ []) → wX_open_81 (fun r u' => wpY_open (fun r' v' => r' = r ∧ i_Rel (k + 5) u' v') (f_capacity, f_maxField, f_maxDepth, g_outLen, g_regions, g_pos, g_bad, a_kinds, a_held, b_version, b_type, b_cursor, b_items, b_parent, b_field, b_val, a_bytes, a_filled, b_out, b_encStart, b_encLen, b_partner, b_regMsg, b_regStart, b_regEnd) (nI i) (nI f)) (nI i) (nI f) (nI (st i * 121 + c)) f_capacity f_maxField f_maxDepth f_spare f_writeAt f_level f_readAt f_broken a_kinds a_held a_storeOf a_cursor a_items a_word a_next a_schemaOf a_parentOf a_depthOf a_head a_tail a_length a_bytes a_filled a_sizeOf a_placeOf a_match a_regionEnd a_regionMessage := by
      intro hno
      have hno0 : ∀ j, sw_kd K F (sw_sc v w c) f ≤ 12 → (sw_L p q c f n)[0]? = some j → False := fun j h3 ho => hno ⟨h3, fun y => by rw [y] at ho; cases ho⟩
      unfold wX_open_81
      rw [nI_clamp (by omega), (R.2.2.2.1 c hc hms).2]
      have hdl := sw_d_le W c hc
      refine ⟨vp_in_nI (by omega) (by omega), pk_lt (d c) D (fun zd => ⟨vp_in_nI (by omega) (by omega), ?_⟩) (fun zd => ?_) rfl e3⟩
      · rw [ei, est]
        refine sx_addMessage hC W R ht hc hms hf1 hf2 z (fun hlt a_items' a_word' a_next' a_schemaOf' a_parentOf' a_depthOf' a_head' a_tail' a_length' R2 Fr => br_t (nI_pos' (by omega)) ⟨vp_in_nI hi (by omega), nm_e ?_⟩) (fun hle => br_f sn_neg1 ?_)
        · refine hY _ (fun y => absurd z y) (fun _ => ⟨fun j h3 ho => absurd (hno0 j h3 ho) id, fun _ _ _ => ⟨rfl, ?_⟩, fun _ _ _ => by omega, fun _ _ => by omega⟩)
          refine sr_in ⟨K, C, F, D, st, hC, hSt, hFl, ?_⟩
          refine sr_slots hSt x2 hi hSl Fr (sy_Fr_add (by omega)) (fun s hs => pk_un hs) (fun s hs => pk_un hs) ⟨v, n + 1, _, _, _, _, _, sw_up d' (n + 1) (d' (σ c) + 1), _, _, sw_up σ (n + 1) (n + 1), n + 1,
            sw_WF_add W hc hms hf2 hlt (fun _ => by omega) (fun y => ⟨rfl, zd⟩), sw_WF_add W' hσ hms' hf2 hlt (fun _ => by rw [sw_iso_sc Is hc]; omega) (fun y => ⟨by rw [sw_iso_sc Is hc], by rw [sw_iso_d Is W W' c hc]; exact zd⟩), R2, sy_add R', sw_iadd Is U U' hc _, Nat.le_refl _, (sw_ms_new hc).mpr z, pk_us, by rw [pk_us, sw_us, sw_mI_s]⟩
        · exact hY _ (fun y => absurd z y) (fun _ => ⟨fun j h3 ho => absurd (hno0 j h3 ho) id, fun _ _ _ => by omega, fun _ _ _ => ⟨rfl, HI⟩, fun _ _ => by omega⟩)
      · exact hY _ (fun y => absurd z y) (fun _ => ⟨fun j h3 ho => absurd (hno0 j h3 ho) id, fun _ _ _ => by omega, fun _ _ _ => by omega, fun _ _ => ⟨rfl, HI⟩⟩)
    refine pk_le 13 (sw_kd K F (sw_sc v w c) f) (fun z13 => h81 (fun y => by omega)) (fun z13 => ⟨vp_in_nI (by omega) (by omega), ?_⟩)
    rw [nI_clamp (by omega), c1]
    refine pk_le (sw_L p q c f n).length 0 (fun y => h81 (fun u => u.2 (List.eq_nil_of_length_eq_zero (by omega)))) (fun y => ⟨vp_in_nI (by omega) (by omega), vp_in_nI hi (by omega), ?_⟩)
    obtain ⟨j, ho⟩ := sw_nthex y
    have hj := sw_mem.mp (sw_nthmem ho)
    have hno : sw_kd K F (sw_sc v w c) f ≤ 12 ∧ sw_L p q c f n ≠ [] := ⟨by omega, fun y => by rw [y] at ho; cases ho⟩
    rw [c2 j ho]
    refine nm_e (hY _ (fun y => absurd z y) (fun _ => ⟨fun j2 _ ho2 => ?_, fun y => absurd hno y, fun y => absurd hno y, fun y => absurd hno y⟩))
    rw [ho] at ho2
    obtain rfl : j = j2 := Option.some.inj ho2
    refine ⟨rfl, sr_in ⟨K, C, F, D, st, hC, hSt, hFl, ?_⟩⟩
    exact sr_slots hSt x2 hi hSl sx_Fr_refl sy_Fr_refl (fun s hs => pk_un hs) (fun s hs => pk_un hs) ⟨v, n, p, q, d, p', q', d', w, w', σ, j, W, W', R, R', Is, hj.2.1, (sw_msL W (sw_nthmem ho)).mpr z, pk_us, pk_us⟩
end
section
/-! schemas and buffers -/
section
variable {g_capacity g_maxField g_maxDepth g_outLen g_regions g_pos g_bad : Int32} {b_kinds b_held b_version b_type b_cursor b_items b_parent b_field b_val b_bytes b_length b_out b_encStart b_encLen b_partner b_regMsg b_regStart b_regEnd : Nat → Int32} {K : Nat → Nat} {C F D : Nat} {post : Int32 → Prop}
theorem sy_kindOf (X : sw_Cx K C F D g_capacity g_maxField g_maxDepth b_kinds) {x y z : Int32} (h0 : ¬ (0 ≤ x.toInt ∧ x.toInt < 3 ∧ 0 ≤ y.toInt ∧ y.toInt < 3 ∧ 1 ≤ z.toInt ∧ z.toInt ≤ F) → post (-1))
    (h1 : ∀ a b f, a < 3 → b < 3 → 1 ≤ f → f ≤ F → x = nI a → y = nI b → z = nI f → post (nI (K ((a * 3 + b) * 21 + f)))) : wpY_kindOf post (g_capacity, g_maxField, g_maxDepth, g_outLen, g_regions, g_pos, g_bad, b_kinds, b_held, b_version, b_type, b_cursor, b_items, b_parent, b_field, b_val, b_bytes, b_length, b_out, b_encStart, b_encLen, b_partner, b_regMsg, b_regStart, b_regEnd) x y z := by
  obtain ⟨x1, x2, x3, x4, x5, x6, e1, e2, e3, x7⟩ := X
  unfold wpY_kindOf
  subst e2
  refine sn_br (sn_gt 0 x) (fun _ => h0 (by omega)) (fun _ => sn_br (sn_lt 2 x) (fun _ => h0 (by omega)) (fun _ => sn_br (sn_gt 0 y) (fun _ => h0 (by omega)) (fun _ => sn_br (sn_lt 2 y) (fun _ => h0 (by omega)) (fun _ => sn_br (sn_gt 1 z) (fun _ => h0 (by omega)) (fun _ => sn_br (sn_ge F z) (fun _ => ?_) (fun _ => h0 (by omega)))))))
  obtain ⟨a, ha, rfl⟩ := sn_of (z := x) (c := 3) (by omega) (by omega)
  obtain ⟨b, hb, rfl⟩ := sn_of (z := y) (c := 3) (by omega) (by omega)
  obtain ⟨f, hf, rfl⟩ := sn_of (z := z) (c := F + 1) (by omega) (by omega)
  have hz := nI_toInt (n := f) (by omega)
  rw [sn_3, sn_21, nI_clamp (by omega), (x7 _ (by omega)).2]
  exact ⟨vp_in_nI (by omega) (by omega), h1 a b f ha hb (by omega) (by omega) rfl rfl rfl⟩
end
theorem i_vc_kindOf {k : Nat} {u : SX} {v : SY} (I : i_Rel k u v) (hk : k + 5 ≤ 2563) (v1 : Int32) (v2 : Int32) (v3 : Int32) : wpX_kindOf (fun r => wpY_kindOf (fun r' => r' = r ∧ i_Rel (k + 5) u v) v v1 v2 v3) u v1 v2 v3 := by
  refine sr_el (P := fun u v => wpX_kindOf (fun r => wpY_kindOf (fun r' => r' = r ∧ i_Rel (k + 5) u v) v v1 v2 v3) u v1 v2 v3) ?_ I
  intro f_capacity f_maxField f_maxDepth f_spare f_writeAt f_level f_readAt f_broken a_kinds a_held a_storeOf a_cursor a_items a_word a_next a_schemaOf a_parentOf a_depthOf a_head a_tail a_length a_bytes a_filled a_sizeOf a_placeOf a_match a_regionEnd a_regionMessage g_outLen g_regions g_pos g_bad b_version b_type b_cursor b_items b_parent b_field b_val b_out b_encStart b_encLen b_partner b_regMsg b_regStart b_regEnd H
  have HI : i_Rel (k + 5) (f_capacity, f_maxField, f_maxDepth, f_spare, f_writeAt, f_level, f_readAt, f_broken, a_kinds, a_held, a_storeOf, a_cursor, a_items, a_word, a_next, a_schemaOf, a_parentOf, a_depthOf, a_head, a_tail, a_length, a_bytes, a_filled, a_sizeOf, a_placeOf, a_match, a_regionEnd, a_regionMessage) (f_capacity, f_maxField, f_maxDepth, g_outLen, g_regions, g_pos, g_bad, a_kinds, a_held, b_version, b_type, b_cursor, b_items, b_parent, b_field, b_val, a_bytes, a_filled, b_out, b_encStart, b_encLen, b_partner, b_regMsg, b_regStart, b_regEnd) := sr_in H
  obtain ⟨K, C, F, D, st, hC, hSt, hFl, hSl⟩ := H
  obtain ⟨x1, x2, x3, x4, x5, x6, e1, e2, e3, x7⟩ := id hC
  unfold wpX_kindOf
  refine sx_isSchema (fun z => br_t rfl ?_) (fun z => br_f (by decide) (sx_isField e2 x4 (fun y => br_t rfl ?_) (fun y => br_f (by decide) ?_)))
  · refine sy_kindOf hC (fun _ => ⟨rfl, HI⟩) (fun a b f ha hb h1 h2 ea eb ef => absurd ?_ z)
    rw [ea, eb, nI_toInt (by omega), nI_toInt (by omega)]; omega
  · refine sy_kindOf hC (fun _ => ⟨rfl, HI⟩) (fun a b f ha hb h1 h2 ea eb ef => absurd ?_ y)
    rw [ef, nI_toInt (by omega)]; omega
  · obtain ⟨a, ha, rfl⟩ := sn_of (z := v1) (c := 3) z.1 z.2.1
    obtain ⟨b, hb, rfl⟩ := sn_of (z := v2) (c := 3) z.2.2.1 z.2.2.2
    obtain ⟨f, hf, rfl⟩ := sn_of (z := v3) (c := F + 1) (by omega) (by omega)
    have hz := nI_toInt (n := f) (by omega)
    rw [sn_3, sn_21, nI_clamp (by omega), (x7 _ (by omega)).2]
    refine ⟨vp_in_nI (by omega) (by omega), sy_kindOf hC (fun q => by omega) (fun a' b' f' ha' hb' h1 h2 ea eb ef => ⟨?_, HI⟩)⟩
    rw [nI_eq (by omega) (by omega)] at ea eb ef
    rw [ea, eb, ef]
theorem i_vc_declare {k : Nat} {u : SX} {v : SY} (I : i_Rel k u v) (hk : k + 5 ≤ 2563) (v1 : Int32) (v2 : Int32) (v3 : Int32) (v4 : Int32) : wpX_declare (fun r u' => wpY_declare (fun r' v' => r' = r ∧ i_Rel (k + 5) u' v') v v1 v2 v3 v4) u v1 v2 v3 v4 := by
  refine sr_el (P := fun u v => wpX_declare (fun r u' => wpY_declare (fun r' v' => r' = r ∧ i_Rel (k + 5) u' v') v v1 v2 v3 v4) u v1 v2 v3 v4) ?_ I
  intro f_capacity f_maxField f_maxDepth f_spare f_writeAt f_level f_readAt f_broken a_kinds a_held a_storeOf a_cursor a_items a_word a_next a_schemaOf a_parentOf a_depthOf a_head a_tail a_length a_bytes a_filled a_sizeOf a_placeOf a_match a_regionEnd a_regionMessage g_outLen g_regions g_pos g_bad b_version b_type b_cursor b_items b_parent b_field b_val b_out b_encStart b_encLen b_partner b_regMsg b_regStart b_regEnd H
  have HI : i_Rel (k + 5) (f_capacity, f_maxField, f_maxDepth, f_spare, f_writeAt, f_level, f_readAt, f_broken, a_kinds, a_held, a_storeOf, a_cursor, a_items, a_word, a_next, a_schemaOf, a_parentOf, a_depthOf, a_head, a_tail, a_length, a_bytes, a_filled, a_sizeOf, a_placeOf, a_match, a_regionEnd, a_regionMessage) (f_capacity, f_maxField, f_maxDepth, g_outLen, g_regions, g_pos, g_bad, a_kinds, a_held, b_version, b_type, b_cursor, b_items, b_parent, b_field, b_val, a_bytes, a_filled, b_out, b_encStart, b_encLen, b_partner, b_regMsg, b_regStart, b_regEnd) := sr_in H
  obtain ⟨K, C, F, D, st, hC, hSt, hFl, hSl⟩ := H
  obtain ⟨x1, x2, x3, x4, x5, x6, e1, e2, e3, x7⟩ := id hC
  unfold wpX_declare
  have hbad : ¬ (0 ≤ v1.toInt ∧ v1.toInt < 3 ∧ 0 ≤ v2.toInt ∧ v2.toInt < 3 ∧ 1 ≤ v3.toInt ∧ v3.toInt ≤ F) → wpY_declare (fun r' v' => r' = (-1) ∧ i_Rel (k + 5) (f_capacity, f_maxField, f_maxDepth, f_spare, f_writeAt, f_level, f_readAt, f_broken, a_kinds, a_held, a_storeOf, a_cursor, a_items, a_word, a_next, a_schemaOf, a_parentOf, a_depthOf, a_head, a_tail, a_length, a_bytes, a_filled, a_sizeOf, a_placeOf, a_match, a_regionEnd, a_regionMessage) v') (f_capacity, f_maxField, f_maxDepth, g_outLen, g_regions, g_pos, g_bad, a_kinds, a_held, b_version, b_type, b_cursor, b_items, b_parent, b_field, b_val, a_bytes, a_filled, b_out, b_encStart, b_encLen, b_partner, b_regMsg, b_regStart, b_regEnd) v1 v2 v3 v4 := by
    intro z
    unfold wpY_declare
    refine sy_kindOf hC (fun _ => br_t rfl ⟨rfl, HI⟩) (fun a b f ha hb h1 h2 ea eb ef => absurd ?_ z)
    rw [ea, eb, ef, nI_toInt (by omega), nI_toInt (by omega), nI_toInt (by omega)]; omega
  refine sx_isSchema (fun z => br_t rfl (hbad (by omega))) (fun z => br_f (by decide) (sx_isField e2 x4 (fun y => br_t rfl (hbad (by omega))) (fun y => br_f (by decide) ?_)))
  obtain ⟨a, ha, rfl⟩ := sn_of (z := v1) (c := 3) z.1 z.2.1
  obtain ⟨b, hb, rfl⟩ := sn_of (z := v2) (c := 3) z.2.2.1 z.2.2.2
  obtain ⟨f, hf, rfl⟩ := sn_of (z := v3) (c := F + 1) (by omega) (by omega)
  have hz := nI_toInt (n := f) (by omega)
  have ex : (nI ((a * 3 + b) * 21 + f)).toNatClampNeg = (a * 3 + b) * 21 + f := nI_clamp (by omega)
  have hin : vp_in (nI ((a * 3 + b) * 21 + f)) 189 := vp_in_nI (by omega) (by omega)
  rw [sn_3, sn_21, ex]
  have hY : ∀ post : Int32 → SY → Prop, ((v4 < 0 → post (-1) (f_capacity, f_maxField, f_maxDepth, g_outLen, g_regions, g_pos, g_bad, a_kinds, a_held, b_version, b_type, b_cursor, b_items, b_parent, b_field, b_val, a_bytes, a_filled, b_out, b_encStart, b_encLen, b_partner, b_regMsg, b_regStart, b_regEnd)) ∧ (¬ v4 < 0 → ((v4 ≤ 15 → ((a_held 0 = 0 → ((a_held 1 = 0 → (vp_in (nI ((a * 3 + b) * 21 + f)) 189 ∧ ∀ kk : Nat → Int32, kk = upd a_kinds ((a * 3 + b) * 21 + f) v4 → post 0 (f_capacity, f_maxField, f_maxDepth, g_outLen, g_regions, g_pos, g_bad, kk, a_held, b_version, b_type, b_cursor, b_items, b_parent, b_field, b_val, a_bytes, a_filled, b_out, b_encStart, b_encLen, b_partner, b_regMsg, b_regStart, b_regEnd))) ∧ (¬ a_held 1 = 0 → post (-2) (f_capacity, f_maxField, f_maxDepth, g_outLen, g_regions, g_pos, g_bad, a_kinds, a_held, b_version, b_type, b_cursor, b_items, b_parent, b_field, b_val, a_bytes, a_filled, b_out, b_encStart, b_encLen, b_partner, b_regMsg, b_regStart, b_regEnd)))) ∧ (¬ a_held 0 = 0 → post (-2) (f_capacity, f_maxField, f_maxDepth, g_outLen, g_regions, g_pos, g_bad, a_kinds, a_held, b_version, b_type, b_cursor, b_items, b_parent, b_field, b_val, a_bytes, a_filled, b_out, b_encStart, b_encLen, b_partner, b_regMsg, b_regStart, b_regEnd)))) ∧ (¬ v4 ≤ 15 → post (-1) (f_capacity, f_maxField, f_maxDepth, g_outLen, g_regions, g_pos, g_bad, a_kinds, a_held, b_version, b_type, b_cursor, b_items, b_parent, b_field, b_val, a_bytes, a_filled, b_out, b_encStart, b_encLen, b_partner, b_regMsg, b_regStart, b_regEnd))))) → wpY_declare post (f_capacity, f_maxField, f_maxDepth, g_outLen, g_regions, g_pos, g_bad, a_kinds, a_held, b_version, b_type, b_cursor, b_items, b_parent, b_field, b_val, a_bytes, a_filled, b_out, b_encStart, b_encLen, b_partner, b_regMsg, b_regStart, b_regEnd) (nI a) (nI b) (nI f) v4 := by
    intro post h
    unfold wpY_declare
    refine sy_kindOf hC (fun q => by omega) (fun a' b' f' ha' hb' h1 h2 ea eb ef => ?_)
    have hk := (x7 ((a' * 3 + b') * 21 + f') (by omega)).1
    refine br_f (fun q => ?_) ?_
    · have q2 : (nI (K ((a' * 3 + b') * 21 + f'))).toInt = (-1 : Int32).toInt := congrArg Int32.toInt q
      rw [nI_toInt (by omega)] at q2
      have q3 : (-1 : Int32).toInt = -1 := by decide
      omega
    · rw [sn_3, sn_21, ex]; exact h
  refine sn_br (sn_gt 0 v4) (fun q => hY _ (br_t ((sn_gt 0 v4).mpr q) ⟨rfl, HI⟩)) (fun q => ?_)
  have q' : ¬ v4 < 0 := fun u => q ((sn_gt 0 v4).mp u)
  refine sn_br (sn_ge 15 v4) (fun g => ?_) (fun g => hY _ (br_f q' (br_f (fun u => g ((sn_ge 15 v4).mp u)) ⟨rfl, HI⟩)))
  have g' : v4 ≤ 15 := (sn_ge 15 v4).mpr g
  refine br_c (fun h0 => br_c (fun h1 => ?_) (fun h1 => ?_)) (fun h0 => ?_)
  · refine ⟨hin, nm_e (hY _ (br_f q' (br_t g' (br_t h0 (br_t h1 ⟨hin, nm_e ⟨rfl, ?_⟩⟩)))))⟩
    obtain ⟨c, hc, rfl⟩ := sn_of (z := v4) (c := 16) (by omega) (by omega)
    refine sr_in ⟨sw_up K ((a * 3 + b) * 21 + f) c, C, F, D, st, ⟨x1, x2, x3, x4, x5, x6, e1, e2, e3, fun i hi => ?_⟩, hSt, hFl, fun s hs hh => ?_⟩
    · by_cases e : i = (a * 3 + b) * 21 + f
      · subst e; rw [sw_us, pk_us]; exact ⟨by omega, rfl⟩
      · rw [sw_un e, pk_un e]; exact x7 i hi
    · obtain rfl | rfl : s = 0 ∨ s = 1 := by omega
      · exact absurd h0 hh
      · exact absurd h1 hh
  · exact hY _ (br_f q' (br_t g' (br_t h0 (br_f h1 ⟨rfl, HI⟩))))
  · exact hY _ (br_f q' (br_t g' (br_f h0 ⟨rfl, HI⟩)))
/-! narrows -/
def sw_agr (x y : Nat) : Prop := x = 0 ∨ x = y ∨ (4 ≤ x ∧ x ≤ 9 ∧ 4 ≤ y ∧ y ≤ 9 ∧ (x - 4) % 3 = (y - 4) % 3)
theorem sw_rem4 {x : Nat} (h4 : 4 ≤ x) (h : x ≤ 9) : nI x - 4 - (nI x - 4) / 3 * 3 = nI ((x - 4) % 3) := by
  have a : nI x - 4 = nI (x - 4) := pk_sub (b := 4) h4
  rw [a]
  exact pk_rem (a := x - 4) (d := 3) (by omega) (by omega) (by omega)
def sw_AF (K : Nat → Nat) (F a b t f : Nat) : Prop := ∀ f', f ≤ f' → f' ≤ F → sw_agr (K ((a * 3 + t) * 21 + f')) (K ((b * 3 + t) * 21 + f'))
theorem sw_AF_e {K : Nat → Nat} {F a b t f : Nat} (h : F < f) : sw_AF K F a b t f := fun f' _ _ => by omega
theorem sw_AF_s {K : Nat → Nat} {F a b t f : Nat} (h : sw_agr (K ((a * 3 + t) * 21 + f)) (K ((b * 3 + t) * 21 + f))) : sw_AF K F a b t (f + 1) ↔ sw_AF K F a b t f := by
  constructor
  · intro g f' h1 h2
    by_cases e : f' = f
    · subst e; exact h
    · exact g f' (by omega) h2
  · intro g f' h1 h2; exact g f' (by omega) h2
def sw_AT (K : Nat → Nat) (F a b t : Nat) : Prop := ∀ t', t ≤ t' → t' < 3 → sw_AF K F a b t' 1
theorem sw_AT_s {K : Nat → Nat} {F a b t : Nat} (h : sw_AF K F a b t 1) : sw_AT K F a b (t + 1) ↔ sw_AT K F a b t := by
  constructor
  · intro g f' h1 h2
    by_cases e : f' = t
    · subst e; exact h
    · exact g f' (by omega) h2
  · intro g f' h1 h2; exact g f' (by omega) h2
section
variable {f_capacity f_maxField f_maxDepth f_spare f_writeAt f_level f_readAt f_broken : Int32} {a_kinds a_held a_storeOf a_cursor a_items a_word a_next a_schemaOf a_parentOf a_depthOf a_head a_tail a_length a_bytes a_filled a_sizeOf a_placeOf a_match a_regionEnd a_regionMessage : Nat → Int32} {K : Nat → Nat} {C F D : Nat} {post : Int32 → Prop}
theorem sx_agrees {x y : Nat} (hx : x ≤ 15) (hy : y ≤ 15) (h1 : sw_agr x y → post 1) (h0 : ¬ sw_agr x y → post 0) : wpX_agrees post (f_capacity, f_maxField, f_maxDepth, f_spare, f_writeAt, f_level, f_readAt, f_broken, a_kinds, a_held, a_storeOf, a_cursor, a_items, a_word, a_next, a_schemaOf, a_parentOf, a_depthOf, a_head, a_tail, a_length, a_bytes, a_filled, a_sizeOf, a_placeOf, a_match, a_regionEnd, a_regionMessage) (nI x) (nI y) := by
  unfold wpX_agrees
  refine pk_eq x 0 (fun z => h1 (Or.inl z)) (fun z0 => pk_eq x y (fun z => h1 (Or.inr (Or.inl z))) (fun z1 => ?_))
  refine sx_isScalarList (by omega) (fun z => br_t rfl (h0 ?_)) (fun z => br_f (by decide) (sx_isScalarList (by omega) (fun q => br_t rfl (h0 ?_)) (fun q => br_f (by decide) ⟨by decide, by decide, ?_⟩)))
  · intro g; rcases g with g | g | g <;> omega
  · intro g; rcases g with g | g | g <;> omega
  · rw [sw_rem4 z.1 z.2, sw_rem4 q.1 q.2]
    refine pk_eq ((x - 4) % 3) ((y - 4) % 3) (fun g => h1 (Or.inr (Or.inr ⟨z.1, z.2, q.1, q.2, g⟩))) (fun g => h0 ?_)
    intro u; rcases u with u | u | u <;> omega
theorem sx_narrows_30 {J : Int32 → Prop} (X : sw_Cx K C F D f_capacity f_maxField f_maxDepth a_kinds) {a b t : Nat} (ha : a < 3) (hb : b < 3) (ht : t < 3) :
    ∀ k f, f + k = F + 1 → 1 ≤ f → (sw_AF K F a b t f → J (nI (t + 1))) → (¬ sw_AF K F a b t f → post 0) → wX_narrows_30 post J (nI a) (nI b) (nI t) f_capacity f_maxField f_maxDepth f_spare f_writeAt f_level f_readAt f_broken a_kinds a_held a_storeOf a_cursor a_items a_word a_next a_schemaOf a_parentOf a_depthOf a_head a_tail a_length a_bytes a_filled a_sizeOf a_placeOf a_match a_regionEnd a_regionMessage (k + 1) (nI f) := by
  obtain ⟨x1, x2, x3, x4, x5, x6, e1, e2, e3, x7⟩ := X
  intro k
  induction k with
  | zero =>
    intro f hf h1 hJ hp
    unfold wX_narrows_30
    rw [nI_1, e2]
    exact br_t (nI_lt (by omega) (by omega)) (nm_e (hJ (sw_AF_e (by omega))))
  | succ k ih =>
    intro f hf h1 hJ hp
    rw [wX_narrows_30]
    dsimp only
    rw [sn_3, sn_3, sn_21, sn_21, nI_clamp (by omega), nI_clamp (by omega), (x7 _ (by omega)).2, (x7 _ (by omega)).2, nI_1 f]
    refine br_f (by rw [e2]; exact nI_nlt (by omega) (by omega)) ⟨vp_in_nI (by omega) (by omega), nm_e ⟨vp_in_nI (by omega) (by omega), nm_e ?_⟩⟩
    refine sx_agrees (x7 _ (by omega)).1 (x7 _ (by omega)).1 (fun g => br_f (by decide) (nm_e ?_)) (fun g => br_t rfl (hp (fun u => g (u f (Nat.le_refl _) (by omega)))))
    exact ih (f + 1) (by omega) (by omega) (fun u => hJ ((sw_AF_s g).mp u)) (fun u => hp (fun w => u ((sw_AF_s g).mpr w)))
theorem sx_narrows_22 (X : sw_Cx K C F D f_capacity f_maxField f_maxDepth a_kinds) {a b : Nat} (ha : a < 3) (hb : b < 3) :
    ∀ k t, t + k = 3 → (sw_AT K F a b t → post 1) → (¬ sw_AT K F a b t → post 0) → wX_narrows_22 post (nI a) (nI b) f_capacity f_maxField f_maxDepth f_spare f_writeAt f_level f_readAt f_broken a_kinds a_held a_storeOf a_cursor a_items a_word a_next a_schemaOf a_parentOf a_depthOf a_head a_tail a_length a_bytes a_filled a_sizeOf a_placeOf a_match a_regionEnd a_regionMessage (k + 1) (nI t) := by
  intro k
  induction k with
  | zero =>
    intro t ht h1 h0
    exact br_t (nI_le (a := 3) (by omega) (by omega)) (h1 (fun t' _ _ => by omega))
  | succ k ih =>
    intro t ht h1 h0
    refine br_f (nI_ge (b := 3) (by omega) (by omega)) ⟨F + 1, ?_⟩
    refine sx_narrows_30 X ha hb (by omega) F 1 (by omega) (Nat.le_refl _) (fun g => ?_) (fun g => h0 (fun u => g (u t (Nat.le_refl _) (by omega))))
    exact ih (t + 1) (by omega) (fun u => h1 ((sw_AT_s g).mp u)) (fun u => h0 (fun w => u ((sw_AT_s g).mpr w)))
end
section
variable {g_capacity g_maxField g_maxDepth g_outLen g_regions g_pos g_bad : Int32} {b_kinds b_held b_version b_type b_cursor b_items b_parent b_field b_val b_bytes b_length b_out b_encStart b_encLen b_partner b_regMsg b_regStart b_regEnd : Nat → Int32} {K : Nat → Nat} {C F D : Nat} {post : Int32 → Prop}
theorem sy_narrows_30 {J : Int32 → Prop} (X : sw_Cx K C F D g_capacity g_maxField g_maxDepth b_kinds) {a b t : Nat} (ha : a < 3) (hb : b < 3) (ht : t < 3) :
    ∀ k f, f + k = F + 1 → 1 ≤ f → (sw_AF K F a b t f → J (nI (t + 1))) → (¬ sw_AF K F a b t f → post 0) → wY_narrows_30 post J (nI a) (nI b) (nI t) g_capacity g_maxField g_maxDepth g_outLen g_regions g_pos g_bad b_kinds b_held b_version b_type b_cursor b_items b_parent b_field b_val b_bytes b_length b_out b_encStart b_encLen b_partner b_regMsg b_regStart b_regEnd (k + 1) (nI f) := by
  have X0 := X
  obtain ⟨x1, x2, x3, x4, x5, x6, e1, e2, e3, x7⟩ := X
  intro k
  induction k with
  | zero =>
    intro f hf h1 hJ hp
    unfold wY_narrows_30
    rw [nI_1, e2]
    exact br_t (nI_lt (by omega) (by omega)) (nm_e (hJ (sw_AF_e (by omega))))
  | succ k ih =>
    intro f hf h1 hJ hp
    have hgo : sw_agr (K ((a * 3 + t) * 21 + f)) (K ((b * 3 + t) * 21 + f)) → ∀ x4_62 : Int32, x4_62 = nI f + 1 → wY_narrows_30 post J (nI a) (nI b) (nI t) g_capacity g_maxField g_maxDepth g_outLen g_regions g_pos g_bad b_kinds b_held b_version b_type b_cursor b_items b_parent b_field b_val b_bytes b_length b_out b_encStart b_encLen b_partner b_regMsg b_regStart b_regEnd (k + 1) x4_62 := by
      intro g
      rw [nI_1]
      exact nm_e (ih (f + 1) (by omega) (by omega) (fun u => hJ ((sw_AF_s g).mp u)) (fun u => hp (fun w => u ((sw_AF_s g).mpr w))))
    have hno : ¬ sw_agr (K ((a * 3 + t) * 21 + f)) (K ((b * 3 + t) * 21 + f)) → post 0 := fun g => hp (fun u => g (u f (Nat.le_refl _) (by omega)))
    have k1 := (x7 ((a * 3 + t) * 21 + f) (by omega)).1
    have k2 := (x7 ((b * 3 + t) * 21 + f) (by omega)).1
    rw [wY_narrows_30]
    refine br_f (by rw [e2]; exact nI_nlt (by omega) (by omega)) ?_
    refine sy_kindOf X0 (fun q => ?_) (fun a' b' f' ha' hb' q1 q2 ea eb ef => ?_)
    · rw [nI_toInt (by omega), nI_toInt (by omega), nI_toInt (by omega)] at q; omega
    rw [nI_eq (by omega) (by omega)] at ea eb ef
    subst ea eb ef
    refine sy_kindOf X0 (fun q => ?_) (fun a' b' f' ha' hb' q1 q2 ea eb ef => ?_)
    · rw [nI_toInt (by omega), nI_toInt (by omega), nI_toInt (by omega)] at q; omega
    rw [nI_eq (by omega) (by omega)] at ea eb ef
    subst ea eb ef
    have h105 : ∀ z : Int32, (z = 0 → ¬ (4 ≤ K ((a * 3 + t) * 21 + f) ∧ K ((a * 3 + t) * 21 + f) ≤ 9 ∧ 4 ≤ K ((b * 3 + t) * 21 + f) ∧ K ((b * 3 + t) * 21 + f) ≤ 9 ∧ (K ((a * 3 + t) * 21 + f) - 4) % 3 = (K ((b * 3 + t) * 21 + f) - 4) % 3)) → (¬ z = 0 → (4 ≤ K ((a * 3 + t) * 21 + f) ∧ K ((a * 3 + t) * 21 + f) ≤ 9 ∧ 4 ≤ K ((b * 3 + t) * 21 + f) ∧ K ((b * 3 + t) * 21 + f) ≤ 9 ∧ (K ((a * 3 + t) * 21 + f) - 4) % 3 = (K ((b * 3 + t) * 21 + f) - 4) % 3)) →
        wY_narrows_105 post J (wY_narrows_30 post J (nI a) (nI b) (nI t) g_capacity g_maxField g_maxDepth g_outLen g_regions g_pos g_bad b_kinds b_held b_version b_type b_cursor b_items b_parent b_field b_val b_bytes b_length b_out b_encStart b_encLen b_partner b_regMsg b_regStart b_regEnd (k + 1)) (nI a) (nI b) (nI t) (nI f) (nI (K ((a * 3 + t) * 21 + f))) (nI (K ((b * 3 + t) * 21 + f))) z g_capacity g_maxField g_maxDepth g_outLen g_regions g_pos g_bad b_kinds b_held b_version b_type b_cursor b_items b_parent b_field b_val b_bytes b_length b_out b_encStart b_encLen b_partner b_regMsg b_regStart b_regEnd := by
      intro z z0 z1
      unfold wY_narrows_105
      refine pk_eq (K ((a * 3 + t) * 21 + f)) 0 (fun u => hgo (Or.inl u)) (fun u0 => pk_eq (K ((a * 3 + t) * 21 + f)) (K ((b * 3 + t) * 21 + f)) (fun u => hgo (Or.inr (Or.inl u))) (fun u1 => br_c (fun u => hno ?_) (fun u => hgo (Or.inr (Or.inr (z1 u))))))
      intro g
      rcases g with g | g | g
      · exact u0 g
      · exact u1 g
      · exact z0 u g
    have h104 : ¬ (4 ≤ K ((a * 3 + t) * 21 + f) ∧ K ((a * 3 + t) * 21 + f) ≤ 9 ∧ 4 ≤ K ((b * 3 + t) * 21 + f) ∧ K ((b * 3 + t) * 21 + f) ≤ 9 ∧ (K ((a * 3 + t) * 21 + f) - 4) % 3 = (K ((b * 3 + t) * 21 + f) - 4) % 3) → wY_narrows_104 post J (wY_narrows_30 post J (nI a) (nI b) (nI t) g_capacity g_maxField g_maxDepth g_outLen g_regions g_pos g_bad b_kinds b_held b_version b_type b_cursor b_items b_parent b_field b_val b_bytes b_length b_out b_encStart b_encLen b_partner b_regMsg b_regStart b_regEnd (k + 1)) (nI a) (nI b) (nI t) (nI f) (nI (K ((a * 3 + t) * 21 + f))) (nI (K ((b * 3 + t) * 21 + f))) g_capacity g_maxField g_maxDepth g_outLen g_regions g_pos g_bad b_kinds b_held b_version b_type b_cursor b_items b_parent b_field b_val b_bytes b_length b_out b_encStart b_encLen b_partner b_regMsg b_regStart b_regEnd := by
      intro g
      exact h105 0 (fun _ => g) (fun u => absurd rfl u)
    refine pk_lt (K ((a * 3 + t) * 21 + f)) 4 (fun u => h104 (by omega)) (fun u1 => pk_lt 9 (K ((a * 3 + t) * 21 + f)) (fun u => h104 (by omega)) (fun u2 => pk_lt (K ((b * 3 + t) * 21 + f)) 4 (fun u => h104 (by omega)) (fun u3 => pk_lt 9 (K ((b * 3 + t) * 21 + f)) (fun u => h104 (by omega)) (fun u4 => ⟨by decide, by decide, ?_⟩))))
    rw [sw_rem4 u1 u2, sw_rem4 u3 u4]
    exact pk_eq ((K ((a * 3 + t) * 21 + f) - 4) % 3) ((K ((b * 3 + t) * 21 + f) - 4) % 3) (fun g => h105 1 (fun u => absurd u (by decide)) (fun _ => ⟨u1, u2, u3, u4, g⟩)) (fun g => h104 (fun u => g u.2.2.2.2))
theorem sy_narrows_22 (X : sw_Cx K C F D g_capacity g_maxField g_maxDepth b_kinds) {a b : Nat} (ha : a < 3) (hb : b < 3) :
    ∀ k t, t + k = 3 → (sw_AT K F a b t → post 1) → (¬ sw_AT K F a b t → post 0) → wY_narrows_22 post (nI a) (nI b) g_capacity g_maxField g_maxDepth g_outLen g_regions g_pos g_bad b_kinds b_held b_version b_type b_cursor b_items b_parent b_field b_val b_bytes b_length b_out b_encStart b_encLen b_partner b_regMsg b_regStart b_regEnd (k + 1) (nI t) := by
  intro k
  induction k with
  | zero =>
    intro t ht h1 h0
    exact br_t (nI_le (a := 3) (by omega) (by omega)) (h1 (fun t' _ _ => by omega))
  | succ k ih =>
    intro t ht h1 h0
    refine br_f (nI_ge (b := 3) (by omega) (by omega)) ⟨F + 1, ?_⟩
    refine sy_narrows_30 X ha hb (by omega) F 1 (by omega) (Nat.le_refl _) (fun g => ?_) (fun g => h0 (fun u => g (u t (Nat.le_refl _) (by omega))))
    exact ih (t + 1) (by omega) (fun u => h1 ((sw_AT_s g).mp u)) (fun u => h0 (fun w => u ((sw_AT_s g).mpr w)))
end
theorem i_vc_narrows {k : Nat} {u : SX} {v : SY} (I : i_Rel k u v) (hk : k + 5 ≤ 2563) (v1 : Int32) (v2 : Int32) : wpX_narrows (fun r => wpY_narrows (fun r' => r' = r ∧ i_Rel (k + 5) u v) v v1 v2) u v1 v2 := by
  refine sr_el (P := fun u v => wpX_narrows (fun r => wpY_narrows (fun r' => r' = r ∧ i_Rel (k + 5) u v) v v1 v2) u v1 v2) ?_ I
  intro f_capacity f_maxField f_maxDepth f_spare f_writeAt f_level f_readAt f_broken a_kinds a_held a_storeOf a_cursor a_items a_word a_next a_schemaOf a_parentOf a_depthOf a_head a_tail a_length a_bytes a_filled a_sizeOf a_placeOf a_match a_regionEnd a_regionMessage g_outLen g_regions g_pos g_bad b_version b_type b_cursor b_items b_parent b_field b_val b_out b_encStart b_encLen b_partner b_regMsg b_regStart b_regEnd H
  have HI : i_Rel (k + 5) (f_capacity, f_maxField, f_maxDepth, f_spare, f_writeAt, f_level, f_readAt, f_broken, a_kinds, a_held, a_storeOf, a_cursor, a_items, a_word, a_next, a_schemaOf, a_parentOf, a_depthOf, a_head, a_tail, a_length, a_bytes, a_filled, a_sizeOf, a_placeOf, a_match, a_regionEnd, a_regionMessage) (f_capacity, f_maxField, f_maxDepth, g_outLen, g_regions, g_pos, g_bad, a_kinds, a_held, b_version, b_type, b_cursor, b_items, b_parent, b_field, b_val, a_bytes, a_filled, b_out, b_encStart, b_encLen, b_partner, b_regMsg, b_regStart, b_regEnd) := sr_in H
  obtain ⟨K, C, F, D, st, hC, hSt, hFl, hSl⟩ := H
  obtain ⟨x1, x2, x3, x4, x5, x6, e1, e2, e3, x7⟩ := id hC
  unfold wpX_narrows
  have hbad : ¬ (0 ≤ v1.toInt ∧ v1.toInt < 3 ∧ 0 ≤ v2.toInt ∧ v2.toInt < 3) → wpY_narrows (fun r' => r' = 0 ∧ i_Rel (k + 5) (f_capacity, f_maxField, f_maxDepth, f_spare, f_writeAt, f_level, f_readAt, f_broken, a_kinds, a_held, a_storeOf, a_cursor, a_items, a_word, a_next, a_schemaOf, a_parentOf, a_depthOf, a_head, a_tail, a_length, a_bytes, a_filled, a_sizeOf, a_placeOf, a_match, a_regionEnd, a_regionMessage) (f_capacity, f_maxField, f_maxDepth, g_outLen, g_regions, g_pos, g_bad, a_kinds, a_held, b_version, b_type, b_cursor, b_items, b_parent, b_field, b_val, a_bytes, a_filled, b_out, b_encStart, b_encLen, b_partner, b_regMsg, b_regStart, b_regEnd)) (f_capacity, f_maxField, f_maxDepth, g_outLen, g_regions, g_pos, g_bad, a_kinds, a_held, b_version, b_type, b_cursor, b_items, b_parent, b_field, b_val, a_bytes, a_filled, b_out, b_encStart, b_encLen, b_partner, b_regMsg, b_regStart, b_regEnd) v1 v2 := by
    intro z
    unfold wpY_narrows
    exact sn_br (sn_gt 0 v1) (fun _ => ⟨rfl, HI⟩) (fun _ => sn_br (sn_lt 2 v1) (fun _ => ⟨rfl, HI⟩) (fun _ => sn_br (sn_gt 0 v2) (fun _ => ⟨rfl, HI⟩) (fun _ => sn_br (sn_ge 2 v2) (fun _ => by omega) (fun _ => ⟨rfl, HI⟩))))
  refine sn_br (sn_gt 0 v1) (fun _ => hbad (by omega)) (fun _ => sn_br (sn_le 3 v1) (fun _ => hbad (by omega)) (fun _ => sn_br (sn_gt 0 v2) (fun _ => hbad (by omega)) (fun _ => sn_br (sn_gt 3 v2) (fun _ => ?_) (fun _ => hbad (by omega)))))
  obtain ⟨a, ha, rfl⟩ := sn_of (z := v1) (c := 3) (by omega) (by omega)
  obtain ⟨b, hb, rfl⟩ := sn_of (z := v2) (c := 3) (by omega) (by omega)
  have hY : ∀ r : Int32, (sw_AT K F a b 0 → r = 1) → (¬ sw_AT K F a b 0 → r = 0) → wpY_narrows (fun r' => r' = r ∧ i_Rel (k + 5) (f_capacity, f_maxField, f_maxDepth, f_spare, f_writeAt, f_level, f_readAt, f_broken, a_kinds, a_held, a_storeOf, a_cursor, a_items, a_word, a_next, a_schemaOf, a_parentOf, a_depthOf, a_head, a_tail, a_length, a_bytes, a_filled, a_sizeOf, a_placeOf, a_match, a_regionEnd, a_regionMessage) (f_capacity, f_maxField, f_maxDepth, g_outLen, g_regions, g_pos, g_bad, a_kinds, a_held, b_version, b_type, b_cursor, b_items, b_parent, b_field, b_val, a_bytes, a_filled, b_out, b_encStart, b_encLen, b_partner, b_regMsg, b_regStart, b_regEnd)) (f_capacity, f_maxField, f_maxDepth, g_outLen, g_regions, g_pos, g_bad, a_kinds, a_held, b_version, b_type, b_cursor, b_items, b_parent, b_field, b_val, a_bytes, a_filled, b_out, b_encStart, b_encLen, b_partner, b_regMsg, b_regStart, b_regEnd) (nI a) (nI b) := by
    intro r h1 h0
    unfold wpY_narrows
    exact pk_lt a 0 (fun _ => by omega) (fun _ => pk_lt 2 a (fun _ => by omega) (fun _ => pk_lt b 0 (fun _ => by omega) (fun _ => pk_le b 2 (fun _ => ⟨4, sy_narrows_22 hC ha hb 3 0 (by omega) (fun g => ⟨(h1 g).symm, HI⟩) (fun g => ⟨(h0 g).symm, HI⟩)⟩) (fun _ => by omega))))
  exact ⟨4, sx_narrows_22 hC ha hb 3 0 (by omega) (fun g => hY 1 (fun _ => rfl) (fun u => absurd g u)) (fun g => hY 0 (fun u => absurd u g) (fun _ => rfl))⟩
end
section
theorem i_vc_lengthOf {k : Nat} {u : SX} {v : SY} (I : i_Rel k u v) (hk : k + 5 ≤ 2563) (v1 : Int32) : wpX_lengthOf (fun r => wpY_lengthOf (fun r' => r' = r ∧ i_Rel (k + 5) u v) v v1) u v1 := by
  refine sr_el (P := fun u v => wpX_lengthOf (fun r => wpY_lengthOf (fun r' => r' = r ∧ i_Rel (k + 5) u v) v v1) u v1) ?_ I
  intro f_capacity f_maxField f_maxDepth f_spare f_writeAt f_level f_readAt f_broken a_kinds a_held a_storeOf a_cursor a_items a_word a_next a_schemaOf a_parentOf a_depthOf a_head a_tail a_length a_bytes a_filled a_sizeOf a_placeOf a_match a_regionEnd a_regionMessage g_outLen g_regions g_pos g_bad b_version b_type b_cursor b_items b_parent b_field b_val b_out b_encStart b_encLen b_partner b_regMsg b_regStart b_regEnd H
  have HI : i_Rel (k + 5) (f_capacity, f_maxField, f_maxDepth, f_spare, f_writeAt, f_level, f_readAt, f_broken, a_kinds, a_held, a_storeOf, a_cursor, a_items, a_word, a_next, a_schemaOf, a_parentOf, a_depthOf, a_head, a_tail, a_length, a_bytes, a_filled, a_sizeOf, a_placeOf, a_match, a_regionEnd, a_regionMessage) (f_capacity, f_maxField, f_maxDepth, g_outLen, g_regions, g_pos, g_bad, a_kinds, a_held, b_version, b_type, b_cursor, b_items, b_parent, b_field, b_val, a_bytes, a_filled, b_out, b_encStart, b_encLen, b_partner, b_regMsg, b_regStart, b_regEnd) := sr_in H
  obtain ⟨K, C, F, D, st, hC, hSt, hFl, hSl⟩ := H
  obtain ⟨x1, x2, x3, x4, x5, x6, e1, e2, e3, x7⟩ := id hC
  unfold wpX_lengthOf
  refine sx_isBuffer (fun z => br_t rfl ?_) (fun z => br_f (by decide) ?_)
  · unfold wpY_lengthOf
    exact sn_br (sn_gt 0 v1) (fun _ => ⟨rfl, HI⟩) (fun _ => sn_br (sn_ge 1 v1) (fun _ => by omega) (fun _ => ⟨rfl, HI⟩))
  · obtain ⟨i, hi, rfl⟩ := sn_of (z := v1) (c := 2) z.1 z.2
    refine ⟨vp_in_nI hi (by omega), ?_⟩
    unfold wpY_lengthOf
    exact pk_lt i 0 (fun _ => by omega) (fun _ => pk_le i 1 (fun _ => ⟨vp_in_nI hi (by omega), rfl, HI⟩) (fun _ => by omega))
theorem i_vc_byteAt {k : Nat} {u : SX} {v : SY} (I : i_Rel k u v) (hk : k + 5 ≤ 2563) (v1 : Int32) (v2 : Int32) : wpX_byteAt (fun r => wpY_byteAt (fun r' => r' = r ∧ i_Rel (k + 5) u v) v v1 v2) u v1 v2 := by
  refine sr_el (P := fun u v => wpX_byteAt (fun r => wpY_byteAt (fun r' => r' = r ∧ i_Rel (k + 5) u v) v v1 v2) u v1 v2) ?_ I
  intro f_capacity f_maxField f_maxDepth f_spare f_writeAt f_level f_readAt f_broken a_kinds a_held a_storeOf a_cursor a_items a_word a_next a_schemaOf a_parentOf a_depthOf a_head a_tail a_length a_bytes a_filled a_sizeOf a_placeOf a_match a_regionEnd a_regionMessage g_outLen g_regions g_pos g_bad b_version b_type b_cursor b_items b_parent b_field b_val b_out b_encStart b_encLen b_partner b_regMsg b_regStart b_regEnd H
  have HI : i_Rel (k + 5) (f_capacity, f_maxField, f_maxDepth, f_spare, f_writeAt, f_level, f_readAt, f_broken, a_kinds, a_held, a_storeOf, a_cursor, a_items, a_word, a_next, a_schemaOf, a_parentOf, a_depthOf, a_head, a_tail, a_length, a_bytes, a_filled, a_sizeOf, a_placeOf, a_match, a_regionEnd, a_regionMessage) (f_capacity, f_maxField, f_maxDepth, g_outLen, g_regions, g_pos, g_bad, a_kinds, a_held, b_version, b_type, b_cursor, b_items, b_parent, b_field, b_val, a_bytes, a_filled, b_out, b_encStart, b_encLen, b_partner, b_regMsg, b_regStart, b_regEnd) := sr_in H
  obtain ⟨K, C, F, D, st, hC, hSt, hFl, hSl⟩ := H
  obtain ⟨x1, x2, x3, x4, x5, x6, e1, e2, e3, x7⟩ := id hC
  unfold wpX_byteAt
  refine sx_isBuffer (fun z => br_t rfl ?_) (fun z => br_f (by decide) ?_)
  · unfold wpY_byteAt
    exact sn_br (sn_gt 0 v1) (fun _ => ⟨rfl, HI⟩) (fun _ => sn_br (sn_ge 1 v1) (fun _ => by omega) (fun _ => ⟨rfl, HI⟩))
  · obtain ⟨i, hi, rfl⟩ := sn_of (z := v1) (c := 2) z.1 z.2
    have ei : (nI i).toNatClampNeg = i := nI_clamp (by omega)
    obtain ⟨l, hl, el⟩ := hFl i hi
    have hin : vp_in (nI i) 2 := vp_in_nI hi (by omega)
    have hY : ∀ r : Int32, ((v2 < 0 → r = -7) ∧ (¬ v2 < 0 → (v2 < nI l → r = a_bytes (nI i * 120 + v2).toNatClampNeg) ∧ (¬ v2 < nI l → r = -7))) → (¬ v2 < 0 → v2 < nI l → vp_in (nI i * 120 + v2) 240) → wpY_byteAt (fun r' => r' = r ∧ i_Rel (k + 5) (f_capacity, f_maxField, f_maxDepth, f_spare, f_writeAt, f_level, f_readAt, f_broken, a_kinds, a_held, a_storeOf, a_cursor, a_items, a_word, a_next, a_schemaOf, a_parentOf, a_depthOf, a_head, a_tail, a_length, a_bytes, a_filled, a_sizeOf, a_placeOf, a_match, a_regionEnd, a_regionMessage) (f_capacity, f_maxField, f_maxDepth, g_outLen, g_regions, g_pos, g_bad, a_kinds, a_held, b_version, b_type, b_cursor, b_items, b_parent, b_field, b_val, a_bytes, a_filled, b_out, b_encStart, b_encLen, b_partner, b_regMsg, b_regStart, b_regEnd)) (f_capacity, f_maxField, f_maxDepth, g_outLen, g_regions, g_pos, g_bad, a_kinds, a_held, b_version, b_type, b_cursor, b_items, b_parent, b_field, b_val, a_bytes, a_filled, b_out, b_encStart, b_encLen, b_partner, b_regMsg, b_regStart, b_regEnd) (nI i) v2 := by
      intro r h g
      unfold wpY_byteAt
      dsimp only
      rw [ei, el]
      exact pk_lt i 0 (fun _ => by omega) (fun _ => pk_le i 1 (fun _ => ⟨fun y => ⟨(h.1 y).symm, HI⟩, fun y => ⟨hin, fun x => ⟨g y x, ((h.2 y).1 x).symm, HI⟩, fun x => ⟨((h.2 y).2 x).symm, HI⟩⟩⟩) (fun _ => by omega))
    rw [ei, el]
    refine br_c (fun y => hY _ (br_t y rfl) (fun u => absurd y u)) (fun y => ⟨hin, br_c (fun x => ?_) (fun x => hY _ (br_f y (br_f x rfl)) (fun _ u => absurd u x))⟩)
    obtain ⟨j, hj, rfl⟩ := nI_of y
    have hjl : j < l := (nI_ltI hj (by omega)).mp x
    have hv : vp_in (nI i * 120 + nI j) 240 := by rw [sn_120]; exact vp_in_nI (by omega) (by omega)
    exact ⟨hv, hY _ (br_f y (br_t x rfl)) (fun _ _ => hv)⟩
theorem sr_filled {C : Nat} {a_filled : Nat → Int32} (h : ∀ b, b < 2 → ∃ l, l ≤ C ∧ a_filled b = nI l) {i l : Nat} (hl : l ≤ C) : ∀ b, b < 2 → ∃ l', l' ≤ C ∧ upd a_filled i (nI l) b = nI l' := by
  intro b hb
  by_cases e : b = i
  · subst e; exact ⟨l, hl, pk_us⟩
  · rw [pk_un e]; exact h b hb
theorem i_vc_truncate {k : Nat} {u : SX} {v : SY} (I : i_Rel k u v) (hk : k + 5 ≤ 2563) (v1 : Int32) (v2 : Int32) : wpX_truncate (fun r u' => wpY_truncate (fun r' v' => r' = r ∧ i_Rel (k + 5) u' v') v v1 v2) u v1 v2 := by
  refine sr_el (P := fun u v => wpX_truncate (fun r u' => wpY_truncate (fun r' v' => r' = r ∧ i_Rel (k + 5) u' v') v v1 v2) u v1 v2) ?_ I
  intro f_capacity f_maxField f_maxDepth f_spare f_writeAt f_level f_readAt f_broken a_kinds a_held a_storeOf a_cursor a_items a_word a_next a_schemaOf a_parentOf a_depthOf a_head a_tail a_length a_bytes a_filled a_sizeOf a_placeOf a_match a_regionEnd a_regionMessage g_outLen g_regions g_pos g_bad b_version b_type b_cursor b_items b_parent b_field b_val b_out b_encStart b_encLen b_partner b_regMsg b_regStart b_regEnd H
  have HI : i_Rel (k + 5) (f_capacity, f_maxField, f_maxDepth, f_spare, f_writeAt, f_level, f_readAt, f_broken, a_kinds, a_held, a_storeOf, a_cursor, a_items, a_word, a_next, a_schemaOf, a_parentOf, a_depthOf, a_head, a_tail, a_length, a_bytes, a_filled, a_sizeOf, a_placeOf, a_match, a_regionEnd, a_regionMessage) (f_capacity, f_maxField, f_maxDepth, g_outLen, g_regions, g_pos, g_bad, a_kinds, a_held, b_version, b_type, b_cursor, b_items, b_parent, b_field, b_val, a_bytes, a_filled, b_out, b_encStart, b_encLen, b_partner, b_regMsg, b_regStart, b_regEnd) := sr_in H
  obtain ⟨K, C, F, D, st, hC, hSt, hFl, hSl⟩ := H
  obtain ⟨x1, x2, x3, x4, x5, x6, e1, e2, e3, x7⟩ := id hC
  unfold wpX_truncate
  refine sx_isBuffer (fun z => br_t rfl ?_) (fun z => br_f (by decide) ?_)
  · unfold wpY_truncate
    exact sn_br (sn_gt 0 v1) (fun _ => ⟨rfl, HI⟩) (fun _ => sn_br (sn_lt 1 v1) (fun _ => ⟨rfl, HI⟩) (fun _ => by omega))
  · obtain ⟨i, hi, rfl⟩ := sn_of (z := v1) (c := 2) z.1 z.2
    have ei : (nI i).toNatClampNeg = i := nI_clamp (by omega)
    obtain ⟨l, hl, el⟩ := hFl i hi
    have hin : vp_in (nI i) 2 := vp_in_nI hi (by omega)
    have hY : ∀ post : Int32 → SY → Prop, ((v2 < 0 → post (-1) (f_capacity, f_maxField, f_maxDepth, g_outLen, g_regions, g_pos, g_bad, a_kinds, a_held, b_version, b_type, b_cursor, b_items, b_parent, b_field, b_val, a_bytes, a_filled, b_out, b_encStart, b_encLen, b_partner, b_regMsg, b_regStart, b_regEnd)) ∧ (¬ v2 < 0 → (v2 ≤ nI l → post 0 (f_capacity, f_maxField, f_maxDepth, g_outLen, g_regions, g_pos, g_bad, a_kinds, a_held, b_version, b_type, b_cursor, b_items, b_parent, b_field, b_val, a_bytes, upd a_filled i v2, b_out, b_encStart, b_encLen, b_partner, b_regMsg, b_regStart, b_regEnd)) ∧ (¬ v2 ≤ nI l → post (-1) (f_capacity, f_maxField, f_maxDepth, g_outLen, g_regions, g_pos, g_bad, a_kinds, a_held, b_version, b_type, b_cursor, b_items, b_parent, b_field, b_val, a_bytes, a_filled, b_out, b_encStart, b_encLen, b_partner, b_regMsg, b_regStart, b_regEnd)))) → wpY_truncate post (f_capacity, f_maxField, f_maxDepth, g_outLen, g_regions, g_pos, g_bad, a_kinds, a_held, b_version, b_type, b_cursor, b_items, b_parent, b_field, b_val, a_bytes, a_filled, b_out, b_encStart, b_encLen, b_partner, b_regMsg, b_regStart, b_regEnd) (nI i) v2 := by
      intro post h
      unfold wpY_truncate
      dsimp only
      rw [ei, el]
      exact pk_lt i 0 (fun _ => by omega) (fun _ => pk_lt 1 i (fun _ => by omega) (fun _ => ⟨fun y => h.1 y, fun y => ⟨hin, fun x => ⟨hin, nm_e ((h.2 y).1 x)⟩, fun x => (h.2 y).2 x⟩⟩))
    rw [ei, el]
    refine br_c (fun y => hY _ (br_t y ⟨rfl, HI⟩)) (fun y => ⟨hin, br_c (fun x => ⟨hin, nm_e ?_⟩) (fun x => hY _ (br_f y (br_f x ⟨rfl, HI⟩)))⟩)
    refine hY _ (br_f y (br_t x ⟨rfl, ?_⟩))
    obtain ⟨j, hj, rfl⟩ := nI_of y
    have hjl : j ≤ l := (nI_leI hj (by omega)).mp x
    exact sr_in ⟨K, C, F, D, st, hC, hSt, sr_filled hFl (by omega), hSl⟩
def se_b8 (x : Int32) (i : Nat) : Int32 := (x.toUInt32 >>> ((nI (8 * i)).toUInt32 &&& Int32.toUInt32 31)).toInt32 &&& 255
/-- the bytes behind i writes of append -/
def sa_w (b : Nat → Int32) (at0 : Nat) (x : Int32) : Nat → Nat → Int32
  | 0 => b
  | i + 1 => upd (sa_w b at0 x i) (at0 + i) (se_b8 x i)
theorem sn_8 (i : Nat) : (8 : Int32) * nI i = nI (8 * i) := by rw [show (8 : Int32) = nI 8 from rfl, pk_mul]
section
variable {f_capacity f_maxField f_maxDepth f_spare f_writeAt f_level f_readAt f_broken : Int32} {a_kinds a_held a_storeOf a_cursor a_items a_word a_next a_schemaOf a_parentOf a_depthOf a_head a_tail a_length a_bytes a_filled a_sizeOf a_placeOf a_match a_regionEnd a_regionMessage : Nat → Int32} {bb : Nat → Int32}
theorem sx_append_54 {post : Int32 → SX → Prop} {i n l at0 : Nat} {x : Int32} (hi : i < 2) (hn : n ≤ 4) (hat : at0 + n ≤ 240) (hl : a_filled i = nI l)
    (h : post 0 (f_capacity, f_maxField, f_maxDepth, f_spare, f_writeAt, f_level, f_readAt, f_broken, a_kinds, a_held, a_storeOf, a_cursor, a_items, a_word, a_next, a_schemaOf, a_parentOf, a_depthOf, a_head, a_tail, a_length, sa_w bb at0 x n, upd a_filled i (nI (l + n)), a_sizeOf, a_placeOf, a_match, a_regionEnd, a_regionMessage)) :
    ∀ k j, j + k = n → wX_append_54 post (nI i) x (nI n) (nI at0) f_capacity f_maxField f_maxDepth f_spare f_writeAt f_level f_readAt f_broken (k + 1) (nI j) a_kinds a_held a_storeOf a_cursor a_items a_word a_next a_schemaOf a_parentOf a_depthOf a_head a_tail a_length (sa_w bb at0 x j) a_filled a_sizeOf a_placeOf a_match a_regionEnd a_regionMessage := by
  have ei : (nI i).toNatClampNeg = i := nI_clamp (by omega)
  intro k
  induction k with
  | zero =>
    intro j hj
    obtain rfl : j = n := by omega
    unfold wX_append_54
    dsimp only
    rw [ei, hl, nI_add]
    exact br_t (nI_le (Nat.le_refl _) (by omega)) ⟨vp_in_nI hi (by omega), vp_in_nI hi (by omega), nm_e h⟩
  | succ k ih =>
    intro j hj
    rw [wX_append_54]
    dsimp only
    rw [nI_add, nI_clamp (n := at0 + j) (by omega), sn_8, nI_1]
    exact br_f (nI_ge (by omega) (by omega)) ⟨vp_in_nI (by omega) (by omega), nm_e (nm_e (ih (j + 1) (by omega)))⟩
end
section
variable {g_capacity g_maxField g_maxDepth g_outLen g_regions g_pos g_bad : Int32} {b_kinds b_held b_version b_type b_cursor b_items b_parent b_field b_val b_bytes b_length b_out b_encStart b_encLen b_partner b_regMsg b_regStart b_regEnd : Nat → Int32} {bb : Nat → Int32}
theorem sy_append_42 {post : Int32 → SY → Prop} {i n l : Nat} {x : Int32} (hi : i < 2) (hn : n ≤ 4) (hat : i * 120 + l + n ≤ 240) (hl : b_length i = nI l)
    (h : post 0 (g_capacity, g_maxField, g_maxDepth, g_outLen, g_regions, g_pos, g_bad, b_kinds, b_held, b_version, b_type, b_cursor, b_items, b_parent, b_field, b_val, sa_w bb (i * 120 + l) x n, upd b_length i (nI (l + n)), b_out, b_encStart, b_encLen, b_partner, b_regMsg, b_regStart, b_regEnd)) :
    ∀ k j, j + k = n → wY_append_42 post (nI i) x (nI n) g_capacity g_maxField g_maxDepth g_outLen g_regions g_pos g_bad (k + 1) (nI j) b_kinds b_held b_version b_type b_cursor b_items b_parent b_field b_val (sa_w bb (i * 120 + l) x j) b_length b_out b_encStart b_encLen b_partner b_regMsg b_regStart b_regEnd := by
  have ei : (nI i).toNatClampNeg = i := nI_clamp (by omega)
  intro k
  induction k with
  | zero =>
    intro j hj
    obtain rfl : j = n := by omega
    unfold wY_append_42
    dsimp only
    rw [ei, hl, nI_add l]
    exact br_t (nI_le (Nat.le_refl _) (by omega)) ⟨vp_in_nI hi (by omega), vp_in_nI hi (by omega), nm_e h⟩
  | succ k ih =>
    intro j hj
    rw [wY_append_42]
    dsimp only
    rw [ei, hl, sn_120, nI_add (i * 120 + l) j, nI_clamp (n := i * 120 + l + j) (by omega), sn_8, nI_1]
    exact br_f (nI_ge (by omega) (by omega)) ⟨vp_in_nI hi (by omega), vp_in_nI (by omega) (by omega), nm_e (nm_e (ih (j + 1) (by omega)))⟩
end
theorem i_vc_append {k : Nat} {u : SX} {v : SY} (I : i_Rel k u v) (hk : k + 5 ≤ 2563) (v1 : Int32) (v2 : Int32) (v3 : Int32) : wpX_append (fun r u' => wpY_append (fun r' v' => r' = r ∧ i_Rel (k + 5) u' v') v v1 v2 v3) u v1 v2 v3 := by
  refine sr_el (P := fun u v => wpX_append (fun r u' => wpY_append (fun r' v' => r' = r ∧ i_Rel (k + 5) u' v') v v1 v2 v3) u v1 v2 v3) ?_ I
  intro f_capacity f_maxField f_maxDepth f_spare f_writeAt f_level f_readAt f_broken a_kinds a_held a_storeOf a_cursor a_items a_word a_next a_schemaOf a_parentOf a_depthOf a_head a_tail a_length a_bytes a_filled a_sizeOf a_placeOf a_match a_regionEnd a_regionMessage g_outLen g_regions g_pos g_bad b_version b_type b_cursor b_items b_parent b_field b_val b_out b_encStart b_encLen b_partner b_regMsg b_regStart b_regEnd H
  have HI : i_Rel (k + 5) (f_capacity, f_maxField, f_maxDepth, f_spare, f_writeAt, f_level, f_readAt, f_broken, a_kinds, a_held, a_storeOf, a_cursor, a_items, a_word, a_next, a_schemaOf, a_parentOf, a_depthOf, a_head, a_tail, a_length, a_bytes, a_filled, a_sizeOf, a_placeOf, a_match, a_regionEnd, a_regionMessage) (f_capacity, f_maxField, f_maxDepth, g_outLen, g_regions, g_pos, g_bad, a_kinds, a_held, b_version, b_type, b_cursor, b_items, b_parent, b_field, b_val, a_bytes, a_filled, b_out, b_encStart, b_encLen, b_partner, b_regMsg, b_regStart, b_regEnd) := sr_in H
  obtain ⟨K, C, F, D, st, hC, hSt, hFl, hSl⟩ := H
  obtain ⟨x1, x2, x3, x4, x5, x6, e1, e2, e3, x7⟩ := id hC
  unfold wpX_append
  refine sx_isBuffer (fun z => br_t rfl ?_) (fun z => br_f (by decide) ?_)
  · unfold wpY_append
    exact sn_br (sn_gt 0 v1) (fun _ => ⟨rfl, HI⟩) (fun _ => sn_br (sn_lt 1 v1) (fun _ => ⟨rfl, HI⟩) (fun _ => by omega))
  · obtain ⟨i, hi, rfl⟩ := sn_of (z := v1) (c := 2) z.1 z.2
    have ei : (nI i).toNatClampNeg = i := nI_clamp (by omega)
    obtain ⟨l, hl, el⟩ := hFl i hi
    have hin : vp_in (nI i) 2 := vp_in_nI hi (by omega)
    refine sn_br (sn_gt 1 v3) (fun y => ?_) (fun y => sn_br (sn_ge 4 v3) (fun y4 => ?_) (fun y4 => ?_))
    · unfold wpY_append
      exact pk_lt i 0 (fun _ => by omega) (fun _ => pk_lt 1 i (fun _ => by omega) (fun _ => sn_br (sn_gt 1 v3) (fun _ => ⟨rfl, HI⟩) (fun _ => by omega)))
    · obtain ⟨n, hn, rfl⟩ := sn_of (z := v3) (c := 5) (by omega) (by omega)
      have hn1 := nI_toInt (n := n) (by omega)
      rw [ei, el, nI_add, sn_120]
      refine ⟨hin, pk_le (l + n) C (fun q => ⟨hin, nm_e ⟨n + 1, ?_⟩⟩) (fun q => ?_) rfl e1⟩
      · refine sx_append_54 (bb := a_bytes) hi (by omega) (by omega) el ?_ n 0 (by omega)
        unfold wpY_append
        dsimp only
        rw [ei, el, nI_add]
        refine pk_lt i 0 (fun _ => by omega) (fun _ => pk_lt 1 i (fun _ => by omega) (fun _ => pk_lt n 1 (fun _ => by omega) (fun _ => pk_le n 4 (fun _ => ⟨hin, pk_le (l + n) C (fun _ => ⟨n + 1, ?_⟩) (fun _ => by omega) rfl e1⟩) (fun _ => by omega))))
        refine sy_append_42 (bb := a_bytes) hi (by omega) (by omega) el ⟨rfl, ?_⟩ n 0 (by omega)
        exact sr_in ⟨K, C, F, D, st, hC, hSt, sr_filled hFl q, hSl⟩
      · unfold wpY_append
        dsimp only
        rw [ei, el, nI_add]
        exact pk_lt i 0 (fun _ => by omega) (fun _ => pk_lt 1 i (fun _ => by omega) (fun _ => pk_lt n 1 (fun _ => by omega) (fun _ => pk_le n 4 (fun _ => ⟨hin, pk_le (l + n) C (fun _ => by omega) (fun _ => ⟨rfl, HI⟩) rfl e1⟩) (fun _ => by omega))))
    · unfold wpY_append
      exact pk_lt i 0 (fun _ => by omega) (fun _ => pk_lt 1 i (fun _ => by omega) (fun _ => sn_br (sn_gt 1 v3) (fun _ => by omega) (fun _ => sn_br (sn_ge 4 v3) (fun _ => by omega) (fun _ => ⟨rfl, HI⟩))))
end
section
/-! the canonical renumbering: by parent, field and place -/
def sw_ix (p q : Nat → Nat) (j : Nat) : Nat := (sw_L p q (p j) (q j) (j - 1)).length
def sw_sg (p q p' q' : Nat → Nat) (n' : Nat) : Nat → Nat → Nat
  | 0, _ => 0
  | g + 1, j => if j = 0 then 0 else ((sw_L p' q' (sw_sg p q p' q' n' g (p j)) (q j) n')[sw_ix p q j]?).getD 0
def sw_mp (p q p' q' : Nat → Nat) (n' : Nat) (j : Nat) : Nat := sw_sg p q p' q' n' j j
section
variable {n n' : Nat} {p q p' q' : Nat → Nat} {w w' : Nat → Int32} {s : Nat → Nat}
theorem sw_sgst (U : sw_Up n p) : ∀ g g' j, j ≤ g → j ≤ g' → j ≤ n → sw_sg p q p' q' n' g j = sw_sg p q p' q' n' g' j := by
  intro g
  induction g with
  | zero =>
    intro g' j h h' hn
    obtain rfl : j = 0 := by omega
    cases g' with
    | zero => rfl
    | succ g' => rw [sw_sg, sw_sg, if_pos rfl]
  | succ g ih =>
    intro g' j h h' hn
    by_cases z : j = 0
    · subst z
      cases g' with
      | zero => rw [sw_sg, sw_sg, if_pos rfl]
      | succ g' => rw [sw_sg, sw_sg, if_pos rfl, if_pos rfl]
    · cases g' with
      | zero => omega
      | succ g' =>
        have := U j (by omega) hn
        rw [sw_sg, sw_sg, if_neg z, if_neg z, ih g' (p j) (by omega) (by omega) (by omega)]
theorem sw_mp0 : sw_mp p q p' q' n' 0 = 0 := rfl
theorem sw_mps (U : sw_Up n p) {j : Nat} (h1 : 1 ≤ j) (h : j ≤ n) : sw_mp p q p' q' n' j = ((sw_L p' q' (sw_mp p q p' q' n' (p j)) (q j) n')[sw_ix p q j]?).getD 0 := by
  obtain ⟨k, rfl⟩ : ∃ k, j = k + 1 := ⟨j - 1, by omega⟩
  have := U (k + 1) h1 h
  rw [sw_mp, sw_sg, if_neg (by omega), sw_mp, sw_sgst U k (p (k + 1)) (p (k + 1)) (by omega) (Nat.le_refl _) (by omega)]
theorem sw_ixn {m f i j : Nat} (h : (sw_L p q m f n)[i]? = some j) : p j = m ∧ q j = f ∧ 1 ≤ j ∧ j ≤ n ∧ sw_ix p q j = i := by
  obtain ⟨a, b, c, e⟩ := sw_mem.mp (sw_nthmem h)
  refine ⟨c, e, a, b, ?_⟩
  have x := sw_idx (p := p) (q := q) a b
  rw [c, e] at x
  have := sw_nthinj sw_srt x h
  rw [sw_ix, c, e]; exact this
theorem sw_mpn (U : sw_Up n p) {m f i j : Nat} (h : (sw_L p q m f n)[i]? = some j) : sw_mp p q p' q' n' j = ((sw_L p' q' (sw_mp p q p' q' n' m) f n')[i]?).getD 0 := by
  obtain ⟨a, b, c, e, g⟩ := sw_ixn h
  rw [sw_mps U c e, a, b, g]
theorem sw_mpL (U : sw_Up n p) {m f : Nat} (hl : (sw_L p' q' (sw_mp p q p' q' n' m) f n').length = (sw_L p q m f n).length) : sw_L p' q' (sw_mp p q p' q' n' m) f n' = (sw_L p q m f n).map (sw_mp p q p' q' n') := by
  apply List.ext_getElem?
  intro i
  rw [List.getElem?_map]
  cases h : (sw_L p q m f n)[i]? with
  | none =>
    have := List.getElem?_eq_none_iff.mp h
    exact List.getElem?_eq_none (by omega)
  | some j =>
    have hi := sw_nthlt h
    obtain ⟨x, hx⟩ := sw_nthex (l := sw_L p' q' (sw_mp p q p' q' n' m) f n') (i := i) (by omega)
    rw [Option.map_some, sw_mpn U h, hx]; rfl
theorem sw_mpI (I : sw_Iso n p q w n' p' q' w' s) (U : sw_Up n p) : ∀ j, j ≤ n → s j = sw_mp p q p' q' n' j := by
  intro j
  induction j using Nat.strongRecOn with
  | ind j ih =>
    intro h
    by_cases z : j = 0
    · subst z; rw [I.1, sw_mp0]
    · have u := U j (by omega) h
      have x := sw_idx (p := p) (q := q) (n := n) (j := j) (by omega) h
      have y := sw_iso_nth I (m := p j) (f := q j) (i := (sw_L p q (p j) (q j) (j - 1)).length) (by omega)
      rw [x, Option.map_some, ih (p j) u (by omega)] at y
      rw [sw_mps U (by omega) h, sw_ix, y]; rfl
/-- equal lengths and values: a renumbering -/
theorem sw_mpIso (U : sw_Up n p) (hl : ∀ m f, m ≤ n → (sw_L p' q' (sw_mp p q p' q' n' m) f n').length = (sw_L p q m f n).length) (hw : ∀ j, j ≤ n → w' (sw_mp p q p' q' n' j) = w j) : sw_Iso n p q w n' p' q' w' (sw_mp p q p' q' n') :=
  ⟨sw_mp0, fun m f hm => sw_mpL U (hl m f hm), hw⟩
theorem sw_phs (N : Nat) (f : Nat → Nat) (h : ∀ i, i < N → f i < N) (hi : ∀ i j, i < N → j < N → f i = f j → i = j) (y : Nat) (hy : y < N) : ∃ i, i < N ∧ f i = y := by
  apply Classical.byContradiction
  intro hc
  have hne : ∀ i, i < N → f i ≠ y := fun i a b => hc ⟨i, a, b⟩
  have := sw_ph (N - 1) N (fun i => if y < f i then f i - 1 else f i) (fun i a => by
    have b := h i a
    have c := hne i a
    show (if y < f i then f i - 1 else f i) < N - 1
    split <;> omega) (fun i j a b e => by
    have e' : (if y < f i then f i - 1 else f i) = (if y < f j then f j - 1 else f j) := e
    have c := hne i a
    have c' := hne j b
    apply hi i j a b
    split at e' <;> split at e' <;> omega)
  omega
/-- as many ids, and each has its partner at its place: a renumbering -/
theorem sw_mpY (U : sw_Up n p) (hp : ∀ j, 1 ≤ j → j ≤ n → (sw_L p' q' (sw_mp p q p' q' n (p j)) (q j) n)[sw_ix p q j]? = some (sw_mp p q p' q' n j)) (hw : ∀ j, j ≤ n → w' (sw_mp p q p' q' n j) = w j) : sw_Iso n p q w n p' q' w' (sw_mp p q p' q' n) := by
  have hm : ∀ j, 1 ≤ j → j ≤ n → 1 ≤ sw_mp p q p' q' n j ∧ sw_mp p q p' q' n j ≤ n ∧ p' (sw_mp p q p' q' n j) = sw_mp p q p' q' n (p j) ∧ q' (sw_mp p q p' q' n j) = q j := fun j a b => sw_mem.mp (sw_nthmem (hp j a b))
  have inj : ∀ i j : Nat, i ≤ n → j ≤ n → sw_mp p q p' q' n i = sw_mp p q p' q' n j → i = j := by
    intro i
    induction i using Nat.strongRecOn with
    | ind i ih =>
      intro j hi hj e
      by_cases z : i = 0
      · subst z
        by_cases zj : j = 0
        · exact zj.symm
        · have := hm j (by omega) hj
          rw [sw_mp0] at e; omega
      · have hi' := hm i (by omega) hi
        have zj : j ≠ 0 := by intro zj; subst zj; rw [sw_mp0] at e; omega
        have hj' := hm j (by omega) hj
        have ui := U i (by omega) hi
        have uj := U j (by omega) hj
        have ep : p i = p j := ih (p i) ui (p j) (by omega) (by omega) (by rw [← hi'.2.2.1, ← hj'.2.2.1, e])
        have eq : q i = q j := by rw [← hi'.2.2.2, ← hj'.2.2.2, e]
        have a := hp i (by omega) hi
        have b := hp j (by omega) hj
        rw [← ep, ← eq, ← e] at b
        have ix := sw_nthinj sw_srt a b
        have x := sw_idx (p := p) (q := q) (n := n) (j := i) (by omega) hi
        have y := sw_idx (p := p) (q := q) (n := n) (j := j) (by omega) hj
        rw [sw_ix, sw_ix] at ix
        rw [← ix, ← ep, ← eq] at y
        exact Option.some.inj (x.symm.trans y)
  refine sw_mpIso U (fun m f hmn => ?_) hw
  have h1 : (sw_L p q m f n).length ≤ (sw_L p' q' (sw_mp p q p' q' n m) f n).length := by
    apply Nat.le_of_not_lt
    intro hlt
    obtain ⟨j, hj⟩ := sw_nthex hlt
    obtain ⟨a, b, c, e, g⟩ := sw_ixn hj
    have := sw_nthlt (hp j c e)
    rw [a, b, g] at this
    omega
  apply Classical.byContradiction
  intro hne
  obtain ⟨x, hx⟩ := sw_nthex (l := sw_L p' q' (sw_mp p q p' q' n m) f n) (i := (sw_L p q m f n).length) (by omega)
  obtain ⟨a, b, c, e⟩ := sw_mem.mp (sw_nthmem hx)
  obtain ⟨i, hi, ei⟩ := sw_phs (n + 1) (sw_mp p q p' q' n) (fun i hi => by
      by_cases z : i = 0
      · subst z; rw [sw_mp0]; omega
      · have := (hm i (by omega) (by omega)).2.1; omega) (fun i j hi hj => inj i j (by omega) (by omega)) x (by omega)
  have zi : i ≠ 0 := by intro z; subst z; rw [sw_mp0] at ei; omega
  have hi' := hm i (by omega) (by omega)
  have ui := U i (by omega) (by omega)
  have pi : p i = m := inj (p i) m (by omega) hmn (by rw [← hi'.2.2.1, ei, c])
  have qi : q i = f := by rw [← hi'.2.2.2, ei, e]
  have hh := hp i (by omega) (by omega)
  rw [pi, qi, ei] at hh
  have ix := sw_nthinj sw_srt hh hx
  have y := sw_idx (p := p) (q := q) (n := n) (j := i) (by omega) (by omega)
  have := sw_nthlt y
  rw [sw_ix] at ix
  rw [pi, qi] at this ix
  omega
end
end
section
/-! X's same -/
/-- two lists agree: as long, and scalars alike -/
def sw_SL (K : Nat → Nat) (F v n : Nat) (p q : Nat → Nat) (w : Nat → Int32) (n' : Nat) (p' q' : Nat → Nat) (w' : Nat → Int32) (m m' f : Nat) : Prop :=
  (sw_L p' q' m' f n').length = (sw_L p q m f n).length ∧ (¬ 10 ≤ sw_kd K F (sw_sc v w m) f → ∀ i j j' : Nat, (sw_L p q m f n)[i]? = some j → (sw_L p' q' m' f n')[i]? = some j' → w' j' = w j)
section
variable {f_capacity f_maxField f_maxDepth f_spare f_writeAt f_level f_readAt f_broken : Int32} {a_kinds a_held a_storeOf a_cursor a_items a_word a_next a_schemaOf a_parentOf a_depthOf a_head a_tail a_length a_bytes a_filled a_sizeOf a_placeOf a_match a_regionEnd a_regionMessage : Nat → Int32} {K : Nat → Nat} {C F D v n v' n' t t' : Nat} {p q d p' q' d' : Nat → Nat} {w w' : Nat → Int32} {post : Int32 → SX → Prop}
theorem sx_sl66 {J2 : Int32 → (Nat → Int32) → (Nat → Int32) → (Nat → Int32) → (Nat → Int32) → (Nat → Int32) → (Nat → Int32) → (Nat → Int32) → (Nat → Int32) → (Nat → Int32) → (Nat → Int32) → (Nat → Int32) → (Nat → Int32) → (Nat → Int32) → (Nat → Int32) → (Nat → Int32) → (Nat → Int32) → (Nat → Int32) → (Nat → Int32) → (Nat → Int32) → (Nat → Int32) → Prop}
    (W : sw_WF K C F D v n p q w d) (W' : sw_WF K C F D v' n' p' q' w' d') (hC : C ≤ 120) (R : sx_R K F t v n p q w d a_items a_word a_next a_schemaOf a_parentOf a_depthOf a_head a_tail a_length) (R' : sx_R K F t' v' n' p' q' w' d' a_items a_word a_next a_schemaOf a_parentOf a_depthOf a_head a_tail a_length) (ht : t < 3) (ht' : t' < 3)
    {m m' f : Nat} (hm : m ≤ n) (hms : sw_ms K F v p q w m) (hm' : m' ≤ n') (hms' : sw_ms K F v' p' q' w' m') (hsc : sw_sc v' w' m' = sw_sc v w m) (hf : f ≤ 20)
    (hl : (sw_L p' q' m' f n').length = (sw_L p q m f n).length) {x1 x2 : Int32}
    (hJ : sw_SL K F v n p q w n' p' q' w' m m' f → ∀ mt : Nat → Int32, (10 ≤ sw_kd K F (sw_sc v w m) f → ∀ i j j' : Nat, (sw_L p q m f n)[i]? = some j → (sw_L p' q' m' f n')[i]? = some j' → mt (t * 121 + j) = nI (t' * 121 + j')) → (∀ c, (∀ j, j ∈ sw_L p q m f n → c ≠ t * 121 + j) → mt c = a_match c) → J2 (nI (f + 1)) a_kinds a_held a_storeOf a_cursor a_items a_word a_next a_schemaOf a_parentOf a_depthOf a_head a_tail a_length a_bytes a_filled a_sizeOf a_placeOf mt a_regionEnd a_regionMessage)
    (hP : ¬ sw_SL K F v n p q w n' p' q' w' m m' f → ∀ mt : Nat → Int32, post 0 (f_capacity, f_maxField, f_maxDepth, f_spare, f_writeAt, f_level, f_readAt, f_broken, a_kinds, a_held, a_storeOf, a_cursor, a_items, a_word, a_next, a_schemaOf, a_parentOf, a_depthOf, a_head, a_tail, a_length, a_bytes, a_filled, a_sizeOf, a_placeOf, mt, a_regionEnd, a_regionMessage)) :
    ∀ (k i : Nat) (c e : Int32) (mt : Nat → Int32), i + k = (sw_L p q m f n).length → (∀ j, (sw_L p q m f n)[i]? = some j → c = nI (t * 121 + j)) → (∀ j, (sw_L p' q' m' f n')[i]? = some j → e = nI (t' * 121 + j)) →
      (¬ 10 ≤ sw_kd K F (sw_sc v w m) f → ∀ i0 j j' : Nat, i0 < i → (sw_L p q m f n)[i0]? = some j → (sw_L p' q' m' f n')[i0]? = some j' → w' j' = w j) →
      (10 ≤ sw_kd K F (sw_sc v w m) f → ∀ i0 j j' : Nat, i0 < i → (sw_L p q m f n)[i0]? = some j → (sw_L p' q' m' f n')[i0]? = some j' → mt (t * 121 + j) = nI (t' * 121 + j')) →
      (∀ c, (∀ j, j ∈ sw_L p q m f n → c ≠ t * 121 + j) → mt c = a_match c) →
      wX_sameLists_66 post J2 x1 x2 (nI f) (nI ((t * 121 + m) * 21 + f)) f_capacity f_maxField f_maxDepth f_spare f_writeAt f_level f_readAt f_broken (k + 1) c e (nI i) a_kinds a_held a_storeOf a_cursor a_items a_word a_next a_schemaOf a_parentOf a_depthOf a_head a_tail a_length a_bytes a_filled a_sizeOf a_placeOf mt a_regionEnd a_regionMessage := by
  have hn := W.1
  have hn' := W'.1
  have hlen := sw_len (p := p) (q := q) (m := m) (f := f) (n := n)
  obtain ⟨c1, c2, c3, c4⟩ := R.2.2.2.2 m f hm hms hf
  obtain ⟨g1, g2, g3, g4⟩ := R'.2.2.2.2 m' f hm' hms' hf
  have ea : (nI ((t * 121 + m) * 21 + f)).toNatClampNeg = (t * 121 + m) * 21 + f := nI_clamp (by omega)
  have hia : vp_in (nI ((t * 121 + m) * 21 + f)) 7623 := vp_in_nI (by omega) (by omega)
  intro k
  induction k with
  | zero =>
    intro i c e mt hi hc he hv hM hfr
    unfold wX_sameLists_66
    dsimp only
    rw [ea, c1, nI_1 f]
    refine ⟨hia, br_t (nI_le (by omega) (by omega)) (nm_e (hJ ⟨hl, fun hk i0 j j' a b => ?_⟩ mt (fun hk i0 j j' a b => ?_) hfr))⟩
    · exact hv hk i0 j j' (by have := sw_nthlt a; omega) a b
    · exact hM hk i0 j j' (by have := sw_nthlt a; omega) a b
  | succ k ih =>
    intro i c e mt hi hc he hv hM hfr
    obtain ⟨j, hj⟩ := sw_nthex (l := sw_L p q m f n) (i := i) (by omega)
    obtain ⟨j', hj'⟩ := sw_nthex (l := sw_L p' q' m' f n') (i := i) (by omega)
    obtain rfl := hc j hj
    obtain rfl := he j' hj'
    have jm := sw_mem.mp (sw_nthmem hj)
    have jm' := sw_mem.mp (sw_nthmem hj')
    have ej : (nI (t * 121 + j)).toNatClampNeg = t * 121 + j := nI_clamp (by omega)
    have ej' : (nI (t' * 121 + j')).toNatClampNeg = t' * 121 + j' := nI_clamp (by omega)
    have hij : vp_in (nI (t * 121 + j)) 363 := vp_in_nI (by omega) (by omega)
    have hij' : vp_in (nI (t' * 121 + j')) 363 := vp_in_nI (by omega) (by omega)
    have nx : ∀ jj, (sw_L p q m f n)[i + 1]? = some jj → a_next (t * 121 + j) = nI (t * 121 + jj) := fun jj h => c4 i j jj hj h
    have nx' : ∀ jj, (sw_L p' q' m' f n')[i + 1]? = some jj → a_next (t' * 121 + j') = nI (t' * 121 + jj) := fun jj h => g4 i j' jj hj' h
    have kk := sw_msL W (sw_nthmem hj)
    have kk' := sw_msL W' (sw_nthmem hj')
    rw [hsc] at kk'
    rw [wX_sameLists_66]
    dsimp only
    rw [ea, c1, ej, ej']
    refine ⟨hia, br_f (nI_ge (by omega) (by omega)) ⟨hij, ?_⟩⟩
    by_cases hk : 10 ≤ sw_kd K F (sw_sc v w m) f
    · rw [(R.2.1 j jm.2.1).1 (kk.mpr hk)]
      refine br_f (nI_pos (by have := (sw_sc_lt W jm.2.1 (kk.mpr hk)).1; omega)) ⟨hij, nm_e ?_⟩
      unfold wX_sameLists_119
      rw [ej, ej', nI_1 i]
      refine ⟨hij, nm_e ⟨hij', nm_e (nm_e (ih (i + 1) _ _ _ (by omega) nx nx' (fun z => absurd hk z) (fun _ i0 a b hi0 ha hb => ?_) (fun c hcc => ?_)))⟩⟩
      · by_cases e0 : i0 = i
        · subst e0
          rw [hj] at ha
          rw [hj'] at hb
          rw [← Option.some.inj ha, ← Option.some.inj hb]; exact pk_us
        · rw [pk_un]
          · exact hM hk i0 a b (by omega) ha hb
          · intro z
            have : a = j := by omega
            subst this
            exact e0 (sw_nthinj sw_srt ha hj)
      · rw [pk_un (hcc j (sw_nthmem hj))]; exact hfr c hcc
    · have nk : ¬ sw_ms K F v p q w j := fun z => hk (kk.mp z)
      have nk' : ¬ sw_ms K F v' p' q' w' j' := fun z => hk (kk'.mp z)
      rw [(R.2.1 j jm.2.1).2 nk, R.2.2.1 j jm.1 jm.2.1 nk, R'.2.2.1 j' jm'.1 jm'.2.1 nk']
      refine br_t (by decide) ⟨hij, hij', br_c (fun ew => ?_) (fun ew => hP (fun z => ew (z.2 hk i j j' hj hj').symm) mt)⟩
      unfold wX_sameLists_119
      rw [ej, ej', nI_1 i]
      refine ⟨hij, nm_e ⟨hij', nm_e (nm_e (ih (i + 1) _ _ _ (by omega) nx nx' (fun _ i0 a b hi0 ha hb => ?_) (fun z => absurd z hk) hfr))⟩⟩
      by_cases e0 : i0 = i
      · subst e0
        rw [hj] at ha
        rw [hj'] at hb
        rw [← Option.some.inj ha, ← Option.some.inj hb]; exact ew.symm
      · exact hv hk i0 a b (by omega) ha hb
theorem sx_sl2 (X : sw_Cx K C F D f_capacity f_maxField f_maxDepth a_kinds) (W : sw_WF K C F D v n p q w d) (W' : sw_WF K C F D v' n' p' q' w' d') (R : sx_R K F t v n p q w d a_items a_word a_next a_schemaOf a_parentOf a_depthOf a_head a_tail a_length) (R' : sx_R K F t' v' n' p' q' w' d' a_items a_word a_next a_schemaOf a_parentOf a_depthOf a_head a_tail a_length) (ht : t < 3) (ht' : t' < 3)
    {m m' : Nat} (hm : m ≤ n) (hms : sw_ms K F v p q w m) (hm' : m' ≤ n') (hms' : sw_ms K F v' p' q' w' m') (hsc : sw_sc v' w' m' = sw_sc v w m)
    (h0 : ∀ f, f ≤ F → ¬ sw_SL K F v n p q w n' p' q' w' m m' f → ∀ mt : Nat → Int32, post 0 (f_capacity, f_maxField, f_maxDepth, f_spare, f_writeAt, f_level, f_readAt, f_broken, a_kinds, a_held, a_storeOf, a_cursor, a_items, a_word, a_next, a_schemaOf, a_parentOf, a_depthOf, a_head, a_tail, a_length, a_bytes, a_filled, a_sizeOf, a_placeOf, mt, a_regionEnd, a_regionMessage))
    (h1 : (∀ f, f ≤ F → sw_SL K F v n p q w n' p' q' w' m m' f) → ∀ mt : Nat → Int32, (∀ f, f ≤ F → 10 ≤ sw_kd K F (sw_sc v w m) f → ∀ i j j' : Nat, (sw_L p q m f n)[i]? = some j → (sw_L p' q' m' f n')[i]? = some j' → mt (t * 121 + j) = nI (t' * 121 + j')) → (∀ c, (∀ f j, j ∈ sw_L p q m f n → c ≠ t * 121 + j) → mt c = a_match c) → post 1 (f_capacity, f_maxField, f_maxDepth, f_spare, f_writeAt, f_level, f_readAt, f_broken, a_kinds, a_held, a_storeOf, a_cursor, a_items, a_word, a_next, a_schemaOf, a_parentOf, a_depthOf, a_head, a_tail, a_length, a_bytes, a_filled, a_sizeOf, a_placeOf, mt, a_regionEnd, a_regionMessage)) :
    ∀ (k f : Nat) (mt : Nat → Int32), f + k = F + 1 → (∀ f0, f0 < f → sw_SL K F v n p q w n' p' q' w' m m' f0) →
      (∀ f0, f0 < f → 10 ≤ sw_kd K F (sw_sc v w m) f0 → ∀ i j j' : Nat, (sw_L p q m f0 n)[i]? = some j → (sw_L p' q' m' f0 n')[i]? = some j' → mt (t * 121 + j) = nI (t' * 121 + j')) →
      (∀ c, (∀ f j, j ∈ sw_L p q m f n → c ≠ t * 121 + j) → mt c = a_match c) →
      wX_sameLists_2 post (nI (t * 121 + m)) (nI (t' * 121 + m')) f_capacity f_maxField f_maxDepth f_spare f_writeAt f_level f_readAt f_broken (k + 1) (nI f) a_kinds a_held a_storeOf a_cursor a_items a_word a_next a_schemaOf a_parentOf a_depthOf a_head a_tail a_length a_bytes a_filled a_sizeOf a_placeOf mt a_regionEnd a_regionMessage := by
  obtain ⟨x1, x2, x3, x4, x5, x6, e1, e2, e3, x7⟩ := X
  have hn := W.1
  have hn' := W'.1
  intro k
  induction k with
  | zero =>
    intro f mt hf hS hM hfr
    unfold wX_sameLists_2
    exact br_t (by rw [e2]; exact nI_lt (by omega) (by omega)) (h1 (fun f0 h => hS f0 (by omega)) mt (fun f0 h => hM f0 (by omega)) hfr)
  | succ k ih =>
    intro f mt hf hS hM hfr
    have hlen := sw_len (p := p) (q := q) (m := m) (f := f) (n := n)
    have hlen' := sw_len (p := p') (q := q') (m := m') (f := f) (n := n')
    obtain ⟨c1, c2, c3, c4⟩ := R.2.2.2.2 m f hm hms (by omega)
    obtain ⟨g1, g2, g3, g4⟩ := R'.2.2.2.2 m' f hm' hms' (by omega)
    have ea : (nI ((t * 121 + m) * 21 + f)).toNatClampNeg = (t * 121 + m) * 21 + f := nI_clamp (by omega)
    have hia : vp_in (nI ((t * 121 + m) * 21 + f)) 7623 := vp_in_nI (by omega) (by omega)
    have ea' : (nI ((t' * 121 + m') * 21 + f)).toNatClampNeg = (t' * 121 + m') * 21 + f := nI_clamp (by omega)
    have hia' : vp_in (nI ((t' * 121 + m') * 21 + f)) 7623 := vp_in_nI (by omega) (by omega)
    rw [wX_sameLists_2]
    dsimp only
    rw [sn_21, sn_21]
    refine br_f (by rw [e2]; exact nI_nlt (by omega) (by omega)) (nm_e (nm_e ?_))
    rw [ea, ea', c1, g1]
    refine ⟨hia, hia', pk_eq (sw_L p q m f n).length (sw_L p' q' m' f n').length (fun el => ⟨hia, nm_e ⟨hia', nm_e ⟨(sw_L p q m f n).length + 1, ?_⟩⟩⟩) (fun el => h0 f (by omega) (fun z => el z.1.symm) mt)⟩
    refine sx_sl66 (a_match := mt) W W' x2 R R' ht ht' hm hms hm' hms' hsc (by omega) el.symm (fun hs mt' hM' hfr' => ?_) (fun hs mt' => h0 f (by omega) hs mt') (sw_L p q m f n).length 0 _ _ mt (by omega) c2 g2 (fun _ i0 _ _ h => by omega) (fun _ i0 _ _ h => by omega) (fun _ _ => rfl)
    refine ih (f + 1) mt' (by omega) (fun f0 h => ?_) (fun f0 h hk i j j' a b => ?_) (fun c hc => ?_)
    · by_cases e : f0 = f
      · subst e; exact hs
      · exact hS f0 (by omega)
    · by_cases e : f0 = f
      · subst e; exact hM' hk i j j' a b
      · rw [hfr' _ (fun j2 hj2 z => ?_)]
        · exact hM f0 (by omega) hk i j j' a b
        · have u := sw_mem.mp hj2
          have u' := sw_mem.mp (sw_nthmem a)
          have : j = j2 := by omega
          subst this
          exact e (u'.2.2.2.symm.trans u.2.2.2)
    · rw [hfr' c (fun j2 hj2 => hc f j2 hj2)]; exact hfr c hc
end
end
section
section
variable {K : Nat → Nat} {C F D v n n' : Nat} {p q d p' q' d' : Nat → Nat} {w w' : Nat → Int32} {s : Nat → Nat}
theorem sw_empty (W : sw_WF K C F D v n p q w d) {m f : Nat} (h : ¬ sw_ms K F v p q w m) : sw_L p q m f n = [] := by
  apply List.eq_nil_iff_forall_not_mem.mpr
  intro a ha
  obtain ⟨h1, h2, e1, e2⟩ := sw_mem.mp ha
  have := (W.2.2.2.1 a h1 h2).2.2.1
  rw [e1] at this
  exact h this
theorem sw_good (W : sw_WF K C F D v n p q w d) (W' : sw_WF K C F D v n' p' q' w' d') (h0 : w' 0 = w 0) {j : Nat}
    (hb : ∀ m, m < j → m ≤ n → sw_ms K F v p q w m → ∀ f, f ≤ F → sw_SL K F v n p q w n' p' q' w' m (sw_mp p q p' q' n' m) f) :
    ∀ i, i ≤ n → (i = 0 ∨ p i < j) → sw_mp p q p' q' n' i ≤ n' ∧ (sw_ms K F v p' q' w' (sw_mp p q p' q' n' i) ↔ sw_ms K F v p q w i) ∧ w' (sw_mp p q p' q' n' i) = w i := by
  have U := sw_up_of W
  intro i
  induction i using Nat.strongRecOn with
  | ind i ih =>
    intro hi hor
    by_cases z : i = 0
    · subst z; rw [sw_mp0]; exact ⟨by omega, ⟨fun _ => sw_ms0, fun _ => sw_ms0⟩, h0⟩
    · have hpj : p i < j := by omega
      have wi := W.2.2.2.1 i (by omega) hi
      have up := U i (by omega) hi
      have hp0 : p i = 0 ∨ p (p i) < j := by
        by_cases y : p i = 0
        · exact Or.inl y
        · have := U (p i) (by omega) (by omega); omega
      obtain ⟨a1, a2, a3⟩ := ih (p i) up (by omega) hp0
      have hsc : sw_sc v w' (sw_mp p q p' q' n' (p i)) = sw_sc v w (p i) := by rw [sw_sc, sw_sc, a3]
      have hS := hb (p i) hpj (by omega) wi.2.2.1 (q i) wi.2.1
      have hx := sw_idx (p := p) (q := q) (n := n) (j := i) (by omega) hi
      obtain ⟨x, hx'⟩ := sw_nthex (l := sw_L p' q' (sw_mp p q p' q' n' (p i)) (q i) n') (i := (sw_L p q (p i) (q i) (i - 1)).length) (by rw [hS.1]; exact sw_nthlt hx)
      have ex : sw_mp p q p' q' n' i = x := by rw [sw_mpn U hx, hx']; rfl
      have hm := sw_mem.mp (sw_nthmem hx')
      have k1 := sw_msL W (sw_nthmem hx)
      have k2 := sw_msL W' (sw_nthmem hx')
      rw [hsc] at k2
      rw [ex]
      refine ⟨hm.2.1, k2.trans k1.symm, ?_⟩
      by_cases hk : 10 ≤ sw_kd K F (sw_sc v w (p i)) (q i)
      · obtain ⟨⟨t, ht, e1, e2⟩, _⟩ := W.2.2.2.2 i hi (k1.mpr hk)
        obtain ⟨⟨t', ht', e1', e2'⟩, _⟩ := W'.2.2.2.2 x hm.2.1 (k2.mpr hk)
        rw [e1, e1', e2 (by omega), e2' hm.1, hm.2.2.1, hm.2.2.2, hsc]
      · exact hS.2 hk _ i x hx hx'
theorem sw_SLiso (W : sw_WF K C F D v n p q w d) (W' : sw_WF K C F D v n' p' q' w' d') (h0 : w' 0 = w 0)
    (hb : ∀ m, m ≤ n → sw_ms K F v p q w m → ∀ f, f ≤ F → sw_SL K F v n p q w n' p' q' w' m (sw_mp p q p' q' n' m) f) : sw_Iso n p q w n' p' q' w' (sw_mp p q p' q' n') := by
  have U := sw_up_of W
  have hg := sw_good W W' h0 (j := n + 1) (fun m _ => hb m)
  have hor : ∀ i, i ≤ n → (i = 0 ∨ p i < n + 1) := fun i hi => by
    by_cases z : i = 0
    · exact Or.inl z
    · have := U i (by omega) hi; omega
  refine sw_mpIso U (fun m f hm => ?_) (fun j hj => (hg j hj (hor j hj)).2.2)
  by_cases hms : sw_ms K F v p q w m
  · by_cases hf : f ≤ F
    · exact (hb m hm hms f hf).1
    · rw [sw_nof W (by omega), sw_nof W' (by omega)]
  · rw [sw_empty W hms, sw_empty W' (fun z => hms ((hg m hm (hor m hm)).2.1.mp z))]
theorem sw_isoSL (W : sw_WF K C F D v n p q w d) (I : sw_Iso n p q w n' p' q' w' s) {m f : Nat} (hm : m ≤ n) : sw_SL K F v n p q w n' p' q' w' m (sw_mp p q p' q' n' m) f := by
  have U := sw_up_of W
  rw [← sw_mpI I U m hm]
  refine ⟨sw_iso_len I hm, fun _ i j j' hj hj' => ?_⟩
  rw [sw_iso_nth I hm, hj] at hj'
  rw [← Option.some.inj hj', I.2.2 j (sw_mem.mp (sw_nthmem hj)).2.1]
end
section
variable {f_capacity f_maxField f_maxDepth f_spare f_writeAt f_level f_readAt f_broken : Int32} {a_kinds a_held a_storeOf a_cursor a_items a_word a_next a_schemaOf a_parentOf a_depthOf a_head a_tail a_length a_bytes a_filled a_sizeOf a_placeOf a_match a_regionEnd a_regionMessage : Nat → Int32} {K : Nat → Nat} {C F D v n n' t t' : Nat} {p q d p' q' d' : Nat → Nat} {w w' : Nat → Int32} {post : Int32 → SX → Prop}
theorem sx_same103 (X : sw_Cx K C F D f_capacity f_maxField f_maxDepth a_kinds) (W : sw_WF K C F D v n p q w d) (W' : sw_WF K C F D v n' p' q' w' d') (R : sx_R K F t v n p q w d a_items a_word a_next a_schemaOf a_parentOf a_depthOf a_head a_tail a_length) (R' : sx_R K F t' v n' p' q' w' d' a_items a_word a_next a_schemaOf a_parentOf a_depthOf a_head a_tail a_length) (ht : t < 3) (ht' : t' < 3) (hr : w' 0 = w 0)
    (h1 : (∃ s, sw_Iso n p q w n' p' q' w' s) → ∀ mt : Nat → Int32, post 1 (f_capacity, f_maxField, f_maxDepth, f_spare, f_writeAt, f_level, f_readAt, f_broken, a_kinds, a_held, a_storeOf, a_cursor, a_items, a_word, a_next, a_schemaOf, a_parentOf, a_depthOf, a_head, a_tail, a_length, a_bytes, a_filled, a_sizeOf, a_placeOf, mt, a_regionEnd, a_regionMessage))
    (h0 : ¬ (∃ s, sw_Iso n p q w n' p' q' w' s) → ∀ mt : Nat → Int32, post 0 (f_capacity, f_maxField, f_maxDepth, f_spare, f_writeAt, f_level, f_readAt, f_broken, a_kinds, a_held, a_storeOf, a_cursor, a_items, a_word, a_next, a_schemaOf, a_parentOf, a_depthOf, a_head, a_tail, a_length, a_bytes, a_filled, a_sizeOf, a_placeOf, mt, a_regionEnd, a_regionMessage)) :
    ∀ (k j : Nat) (mt : Nat → Int32), j + k = n + 1 → (∀ m, m < j → m ≤ n → sw_ms K F v p q w m → ∀ f, f ≤ F → sw_SL K F v n p q w n' p' q' w' m (sw_mp p q p' q' n' m) f) →
      (∀ i, i ≤ n → sw_ms K F v p q w i → (i = 0 ∨ p i < j) → mt (t * 121 + i) = nI (t' * 121 + sw_mp p q p' q' n' i)) →
      wX_same_103 post (nI (t * 121 + n)) (k + 1) (nI (t * 121 + j)) f_capacity f_maxField f_maxDepth f_spare f_writeAt f_level f_readAt f_broken a_kinds a_held a_storeOf a_cursor a_items a_word a_next a_schemaOf a_parentOf a_depthOf a_head a_tail a_length a_bytes a_filled a_sizeOf a_placeOf mt a_regionEnd a_regionMessage := by
  have hn := W.1
  have hn' := W'.1
  have U := sw_up_of W
  have x2 := X.2.1
  intro k
  induction k with
  | zero =>
    intro j mt hj hS hM
    unfold wX_same_103
    exact br_t (nI_lt (by omega) (by omega)) (h1 ⟨_, sw_SLiso W W' hr (fun m hm => hS m (by omega) hm)⟩ mt)
  | succ k ih =>
    intro j mt hj hS hM
    have ej : (nI (t * 121 + j)).toNatClampNeg = t * 121 + j := nI_clamp (by omega)
    have hij : vp_in (nI (t * 121 + j)) 363 := vp_in_nI (by omega) (by omega)
    rw [wX_same_103]
    dsimp only
    rw [ej]
    refine br_f (nI_nlt (by omega) (by omega)) ⟨hij, ?_⟩
    by_cases hms : sw_ms K F v p q w j
    · rw [(R.2.1 j (by omega)).1 hms]
      have hor : j = 0 ∨ p j < j := by
        by_cases z : j = 0
        · exact Or.inl z
        · exact Or.inr (U j (by omega) (by omega))
      obtain ⟨g1, g2, g3⟩ := sw_good W W' hr hS j (by omega) hor
      refine br_f (nI_pos (by have := (sw_sc_lt W (by omega : j ≤ n) hms).1; omega)) ⟨hij, ?_⟩
      rw [hM j (by omega) hms hor]
      refine ⟨F + 2, ?_⟩
      refine sx_sl2 (a_match := mt) X W W' R R' ht ht' (by omega) hms g1 (g2.mpr hms) (by rw [sw_sc, sw_sc, g3]) (fun f hf hns mt' => br_t rfl (h0 (fun z => hns ?_) mt')) (fun hall mt' hM' hfr => br_f (by decide) ?_) (F + 1) 0 mt (by omega) (fun _ h => by omega) (fun _ h => by omega) (fun _ _ => rfl)
      · obtain ⟨s, I⟩ := z
        exact sw_isoSL W I (by omega)
      · have e1 : nI (t * 121 + j) + 1 = nI (t * 121 + (j + 1)) := nI_1 _
        rw [e1]
        refine nm_e (ih (j + 1) mt' (by omega) (fun m hm hmn hmm => ?_) (fun i hi him hio => ?_))
        · by_cases e : m = j
          · subst e; exact hall
          · exact hS m (by omega) hmn hmm
        · by_cases e : i ≠ 0 ∧ p i = j
          · have wi := W.2.2.2.1 i (by omega) hi
            have hx := sw_idx (p := p) (q := q) (n := n) (j := i) (by omega) hi
            have k1 := (sw_msL W (sw_nthmem hx)).mp him
            rw [e.2] at hx k1
            obtain ⟨x, hx'⟩ := sw_nthex (l := sw_L p' q' (sw_mp p q p' q' n' j) (q i) n') (i := (sw_L p q j (q i) (i - 1)).length) (by rw [(hall (q i) wi.2.1).1]; exact sw_nthlt hx)
            have ex : sw_mp p q p' q' n' i = x := by rw [sw_mpn U hx, hx']; rfl
            rw [ex]
            exact hM' (q i) wi.2.1 k1 _ i x hx hx'
          · rw [hfr _ (fun f j2 hj2 z => ?_)]
            · exact hM i hi him (by omega)
            · have u := sw_mem.mp hj2
              have : i = j2 := by omega
              subst this
              exact e ⟨by omega, u.2.2.1⟩
    · rw [(R.2.1 j (by omega)).2 hms]
      have e1 : nI (t * 121 + j) + 1 = nI (t * 121 + (j + 1)) := nI_1 _
      rw [e1]
      refine br_t (by decide) (nm_e (ih (j + 1) mt (by omega) (fun m hm hmn hmm => ?_) (fun i hi him hio => ?_)))
      · by_cases e : m = j
        · subst e; exact absurd hmm hms
        · exact hS m (by omega) hmn hmm
      · refine hM i hi him ?_
        by_cases z : i = 0
        · exact Or.inl z
        · have wi := W.2.2.2.1 i (by omega) hi
          have : p i ≠ j := fun e => hms (by rw [← e]; exact wi.2.2.1)
          omega
end
end
section
/-! Y's same, and the statement -/
section
variable {g_capacity g_maxField g_maxDepth g_outLen g_regions g_pos g_bad : Int32} {b_kinds b_held b_version b_type b_cursor b_items b_parent b_field b_val b_bytes b_length b_out b_encStart b_encLen b_partner b_regMsg b_regStart b_regEnd : Nat → Int32} {K : Nat → Nat} {C F D v n a b : Nat} {p q d p' q' d' : Nat → Nat} {w w' : Nat → Int32} {post : Int32 → SY → Prop}
theorem sy_check3 {post : Int32 → Prop} {s : Int32} (h0 : ¬ (0 ≤ s.toInt ∧ s.toInt < 2) → post (-1)) (h1 : ∀ i, i < 2 → s = nI i → b_held i = 0 → post (-3)) (h2 : ∀ i, i < 2 → s = nI i → b_held i ≠ 0 → post 0) : wpY_check post (g_capacity, g_maxField, g_maxDepth, g_outLen, g_regions, g_pos, g_bad, b_kinds, b_held, b_version, b_type, b_cursor, b_items, b_parent, b_field, b_val, b_bytes, b_length, b_out, b_encStart, b_encLen, b_partner, b_regMsg, b_regStart, b_regEnd) s := by
  unfold wpY_check
  refine sn_br (sn_gt 0 s) (fun _ => h0 (by omega)) (fun _ => sn_br (sn_ge 1 s) (fun _ => ?_) (fun _ => h0 (by omega)))
  obtain ⟨i, hi, rfl⟩ := sn_of (z := s) (c := 2) (by omega) (by omega)
  rw [nI_clamp (by omega)]
  exact ⟨vp_in_nI (by omega) (by omega), br_c (fun z => h1 i hi rfl z) (fun z => h2 i hi rfl z)⟩
theorem sy_same109 {J : Int32 → (Nat → Int32) → (Nat → Int32) → (Nat → Int32) → (Nat → Int32) → (Nat → Int32) → (Nat → Int32) → (Nat → Int32) → (Nat → Int32) → (Nat → Int32) → (Nat → Int32) → (Nat → Int32) → (Nat → Int32) → (Nat → Int32) → (Nat → Int32) → (Nat → Int32) → (Nat → Int32) → (Nat → Int32) → (Nat → Int32) → Prop}
    (hC : C ≤ 120) (hF : F ≤ 20) (W : sw_WF K C F D v n p q w d) (R : sy_R a v n p q w b_version b_type b_items b_parent b_field b_val) (ha : a < 3) {i : Nat} (hi : i < n) {z : Int32} {x4 : Int32} (hx4 : x4 = sw_mI (p (i + 1)))
    (hp : 0 ≤ x4 → vp_in x4 120 ∧ b_partner x4.toNatClampNeg = z) (hp0 : ¬ 0 ≤ x4 → -1 = z)
    (h : wY_same_154 post J (nI a) (nI b) (nI i) (nI (q (i + 1))) (nI (sw_ix p q (i + 1))) z g_capacity g_maxField g_maxDepth g_outLen g_regions g_pos g_bad b_kinds b_held b_version b_type b_cursor b_items b_parent b_field b_val b_bytes b_length b_out b_encStart b_encLen b_partner b_regMsg b_regStart b_regEnd) :
    ∀ k j, j + k = i → wY_same_109 post J (nI a) (nI b) (nI i) x4 (nI (q (i + 1))) g_capacity g_maxField g_maxDepth g_outLen g_regions g_pos g_bad b_kinds b_held b_version b_type b_cursor b_items b_parent b_field b_val b_bytes b_length b_out b_encStart b_encLen b_partner b_regMsg b_regStart b_regEnd (k + 1) (nI (sw_L p q (p (i + 1)) (q (i + 1)) j).length) (nI j) := by
  have hn := W.1
  have wi := W.2.2.2.1 (i + 1) (by omega) (by omega)
  intro k
  induction k with
  | zero =>
    intro j hj
    obtain rfl : j = i := by omega
    unfold wY_same_109
    refine br_t (nI_le (Nat.le_refl _) (by omega)) (br_c (fun y => ?_) (fun y => ?_))
    · rw [(hp y).2]; exact ⟨(hp y).1, h⟩
    · rw [hp0 y]; exact h
  | succ k ih =>
    intro j hj
    have e := ih (j + 1) (by omega)
    rw [wY_same_109]
    dsimp only
    refine br_f (nI_ge (by omega) (by omega)) ?_
    rw [nI_1, nI_1]
    subst hx4
    refine sy_lies W hC hF R ha (by omega) (by omega) (by omega) (fun y => br_f (by decide) ?_) (fun y => br_t rfl ?_)
    · rw [sw_L, if_pos y, List.length_append, List.length_singleton] at e
      exact nm_e (nm_e e)
    · rw [sw_L, if_neg y] at e
      exact nm_e e
theorem sy_same67 (hC : C ≤ 120) (hF : F ≤ 20) (W : sw_WF K C F D v n p q w d) (W' : sw_WF K C F D v n p' q' w' d') (R : sy_R a v n p q w b_version b_type b_items b_parent b_field b_val) (R' : sy_R b v n p' q' w' b_version b_type b_items b_parent b_field b_val) (ha : a < 3) (hb : b < 3) (hr : w' 0 = w 0)
    (h1 : (∃ s, sw_Iso n p q w n p' q' w' s) → ∀ pt : Nat → Int32, post 1 (g_capacity, g_maxField, g_maxDepth, g_outLen, g_regions, g_pos, g_bad, b_kinds, b_held, b_version, b_type, b_cursor, b_items, b_parent, b_field, b_val, b_bytes, b_length, b_out, b_encStart, b_encLen, pt, b_regMsg, b_regStart, b_regEnd))
    (h0 : ¬ (∃ s, sw_Iso n p q w n p' q' w' s) → ∀ pt : Nat → Int32, post 0 (g_capacity, g_maxField, g_maxDepth, g_outLen, g_regions, g_pos, g_bad, b_kinds, b_held, b_version, b_type, b_cursor, b_items, b_parent, b_field, b_val, b_bytes, b_length, b_out, b_encStart, b_encLen, pt, b_regMsg, b_regStart, b_regEnd)) :
    ∀ (k i : Nat) (pt : Nat → Int32), i + k = n → (∀ j, 1 ≤ j → j ≤ i → (sw_L p' q' (sw_mp p q p' q' n (p j)) (q j) n)[sw_ix p q j]? = some (sw_mp p q p' q' n j) ∧ w' (sw_mp p q p' q' n j) = w j) →
      (∀ j, j < i → pt j = sw_mI (sw_mp p q p' q' n (j + 1))) → wY_same_67 post (nI a) (nI b) g_capacity g_maxField g_maxDepth g_outLen g_regions g_pos g_bad (k + 1) (nI i) b_kinds b_held b_version b_type b_cursor b_items b_parent b_field b_val b_bytes b_length b_out b_encStart b_encLen pt b_regMsg b_regStart b_regEnd := by
  have hn := W.1
  have U := sw_up_of W
  have ea : (nI a).toNatClampNeg = a := nI_clamp (by omega)
  intro k
  induction k with
  | zero =>
    intro i pt hi hS hM
    obtain rfl : i = n := by omega
    unfold wY_same_67
    dsimp only
    rw [ea, R.2.2.1]
    refine ⟨vp_in_nI ha (by omega), br_t (nI_le (Nat.le_refl _) (by omega)) (h1 ⟨_, sw_mpY U (fun j a b => (hS j a b).1) (fun j hj => ?_)⟩ pt)⟩
    by_cases z : j = 0
    · subst z; rw [sw_mp0]; exact hr
    · exact (hS j (by omega) hj).2
  | succ k ih =>
    intro i pt hi hS hM
    obtain ⟨r1, r2, r3⟩ := R.2.2.2 i (by omega)
    have wi := W.2.2.2.1 (i + 1) (by omega) (by omega)
    have hmp : ∀ j, j ≤ i → sw_mp p q p' q' n j ≤ n := fun j hj => by
      by_cases z : j = 0
      · subst z; rw [sw_mp0]; omega
      · exact (sw_mem.mp (sw_nthmem (hS j (by omega) hj).1)).2.1
    have ei : (nI (a * 120 + i)).toNatClampNeg = a * 120 + i := nI_clamp (by omega)
    have hin : vp_in (nI (a * 120 + i)) 360 := vp_in_nI (by omega) (by omega)
    rw [wY_same_67]
    dsimp only
    rw [ea, R.2.2.1, sn_120, ei, r1, r2]
    refine ⟨vp_in_nI ha (by omega), br_f (nI_ge (by omega) (by omega)) ⟨hin, nm_e ⟨hin, nm_e ⟨i + 1, ?_⟩⟩⟩⟩
    have hlen := sw_len (p := p) (q := q) (m := p (i + 1)) (f := q (i + 1)) (n := i)
    refine sy_same109 (b_partner := pt) (z := sw_mI (sw_mp p q p' q' n (p (i + 1)))) hC hF W R ha (by omega) rfl (fun y => ?_) (fun y => ?_) ?_ i 0 (by omega)
    · have y1 := (sw_mI_pos (a := p (i + 1)) (by omega)).mp y
      rw [sw_mI_p y1, nI_clamp (by omega)]
      refine ⟨vp_in_nI (by omega) (by omega), ?_⟩
      rw [hM _ (by omega)]
      have : p (i + 1) - 1 + 1 = p (i + 1) := by omega
      rw [this]
    · have : p (i + 1) = 0 := by
        apply Classical.byContradiction
        intro z
        exact y ((sw_mI_pos (by omega)).mpr (by omega))
      rw [this, sw_mp0, sw_mI_0]
    · unfold wY_same_154
      refine sy_find W' hC hF R' hb (by have := hmp (p (i + 1)) (by omega); omega) (by omega) ?_
      have hix : sw_ix p q (i + 1) ≤ i := hlen
      rw [sw_at_nI (by omega)]
      cases ho : (sw_L p' q' (sw_mp p q p' q' n (p (i + 1))) (q (i + 1)) n)[sw_ix p q (i + 1)]? with
      | none =>
        refine br_t (show (-1 : Int32) < 0 by decide) (h0 (fun z => ?_) pt)
        obtain ⟨s, I⟩ := z
        have := sw_iso_nth I (m := p (i + 1)) (f := q (i + 1)) (i := sw_ix p q (i + 1)) (by omega)
        rw [sw_mpI I U _ (by omega), ho, sw_ix, sw_idx (by omega) (by omega)] at this
        cases this
      | some x =>
        have ex : sw_mp p q p' q' n (i + 1) = x := by rw [sw_mps U (by omega) (by omega), ho]; rfl
        have hx := sw_mem.mp (sw_nthmem ho)
        rw [show sw_oY (some x) = sw_mI x from rfl]
        refine br_f (fun y => ?_) ?_
        · have := (sw_mI_neg (a := x) (by omega)).mp y; omega
        · have hx1 : x - 1 + 1 = x := by omega
          have r4 := (R'.2.2.2 (x - 1) (by omega)).2.2
          rw [hx1] at r4
          rw [sn_120, sw_mI_120 b hx.1, ei, nI_clamp (n := b * 120 + (x - 1)) (by omega), r3, r4, nI_clamp (n := i) (by omega), nI_1]
          refine ⟨hin, vp_in_nI (by omega) (by omega), br_c (fun ew => ⟨vp_in_nI (by omega) (by omega), nm_e (nm_e ?_)⟩) (fun ew => h0 (fun z => ?_) pt)⟩
          · refine ih (i + 1) _ (by omega) (fun j hj1 hj2 => ?_) (fun j hj => ?_)
            · by_cases e : j = i + 1
              · subst e; rw [ex]; exact ⟨ho, ew.symm⟩
              · exact hS j hj1 (by omega)
            · by_cases e : j = i
              · subst e; rw [pk_us, ex]
              · rw [pk_un e]; exact hM j (by omega)
          · obtain ⟨s, I⟩ := z
            have := I.2.2 (i + 1) (by omega)
            rw [sw_mpI I U _ (by omega), ex] at this
            exact ew this.symm
end
theorem i_vc_same {k : Nat} {u : SX} {v : SY} (I : i_Rel k u v) (hk : k + 5 ≤ 2563) (v1 : Int32) (v2 : Int32) : wpX_same (fun r u' => wpY_same (fun r' v' => r' = r ∧ i_Rel (k + 5) u' v') v v1 v2) u v1 v2 := by
  refine sr_el (P := fun u v => wpX_same (fun r u' => wpY_same (fun r' v' => r' = r ∧ i_Rel (k + 5) u' v') v v1 v2) u v1 v2) ?_ I
  intro f_capacity f_maxField f_maxDepth f_spare f_writeAt f_level f_readAt f_broken a_kinds a_held a_storeOf a_cursor a_items a_word a_next a_schemaOf a_parentOf a_depthOf a_head a_tail a_length a_bytes a_filled a_sizeOf a_placeOf a_match a_regionEnd a_regionMessage g_outLen g_regions g_pos g_bad b_version b_type b_cursor b_items b_parent b_field b_val b_out b_encStart b_encLen b_partner b_regMsg b_regStart b_regEnd H
  have HI : i_Rel (k + 5) (f_capacity, f_maxField, f_maxDepth, f_spare, f_writeAt, f_level, f_readAt, f_broken, a_kinds, a_held, a_storeOf, a_cursor, a_items, a_word, a_next, a_schemaOf, a_parentOf, a_depthOf, a_head, a_tail, a_length, a_bytes, a_filled, a_sizeOf, a_placeOf, a_match, a_regionEnd, a_regionMessage) (f_capacity, f_maxField, f_maxDepth, g_outLen, g_regions, g_pos, g_bad, a_kinds, a_held, b_version, b_type, b_cursor, b_items, b_parent, b_field, b_val, a_bytes, a_filled, b_out, b_encStart, b_encLen, b_partner, b_regMsg, b_regStart, b_regEnd) := sr_in H
  obtain ⟨K, C, F, D, st, hC, hSt, hFl, hSl⟩ := H
  obtain ⟨x1, x2, x3, x4, x5, x6, e1, e2, e3, x7⟩ := id hC
  unfold wpX_same
  have hN : ∀ r : Int32, r ≠ 0 → True := fun _ _ => trivial
  have hbad : ¬ ((0 ≤ v1.toInt ∧ v1.toInt < 2) ∧ (0 ≤ v2.toInt ∧ v2.toInt < 2)) → wpY_same (fun r' v' => r' = 0 ∧ i_Rel (k + 5) (f_capacity, f_maxField, f_maxDepth, f_spare, f_writeAt, f_level, f_readAt, f_broken, a_kinds, a_held, a_storeOf, a_cursor, a_items, a_word, a_next, a_schemaOf, a_parentOf, a_depthOf, a_head, a_tail, a_length, a_bytes, a_filled, a_sizeOf, a_placeOf, a_match, a_regionEnd, a_regionMessage) v') (f_capacity, f_maxField, f_maxDepth, g_outLen, g_regions, g_pos, g_bad, a_kinds, a_held, b_version, b_type, b_cursor, b_items, b_parent, b_field, b_val, a_bytes, a_filled, b_out, b_encStart, b_encLen, b_partner, b_regMsg, b_regStart, b_regEnd) v1 v2 := by
    intro z
    unfold wpY_same
    refine sy_check3 (fun _ => br_f (by decide) ⟨rfl, HI⟩) (fun _ _ _ _ => br_f (by decide) ⟨rfl, HI⟩) (fun i hi ei _ => br_t rfl ?_)
    refine sy_check3 (fun _ => br_f (by decide) ⟨rfl, HI⟩) (fun _ _ _ _ => br_f (by decide) ⟨rfl, HI⟩) (fun i2 hi2 ei2 _ => absurd ?_ z)
    rw [ei, ei2, nI_toInt (by omega), nI_toInt (by omega)]; omega
  refine sx_isSlot (fun z => br_t rfl (hbad (fun y => z y.1))) (fun z => br_f (by decide) ?_)
  refine sx_isSlot (fun y => br_t rfl (hbad (fun u => y u.2))) (fun y => br_f (by decide) ?_)
  obtain ⟨a, ha, rfl⟩ := sn_of (z := v1) (c := 2) z.1 z.2
  obtain ⟨b, hb, rfl⟩ := sn_of (z := v2) (c := 2) y.1 y.2
  have ea : (nI a).toNatClampNeg = a := nI_clamp (by omega)
  have eb : (nI b).toNatClampNeg = b := nI_clamp (by omega)
  have hia : vp_in (nI a) 2 := vp_in_nI ha (by omega)
  have hib : vp_in (nI b) 2 := vp_in_nI hb (by omega)
  have hia3 : vp_in (nI a) 3 := vp_in_nI (by omega) (by omega)
  have hib3 : vp_in (nI b) 3 := vp_in_nI (by omega) (by omega)
  rw [ea, eb]
  have hY : ∀ post : Int32 → SY → Prop, (¬ (a_held a ≠ 0 ∧ a_held b ≠ 0) → post 0 (f_capacity, f_maxField, f_maxDepth, g_outLen, g_regions, g_pos, g_bad, a_kinds, a_held, b_version, b_type, b_cursor, b_items, b_parent, b_field, b_val, a_bytes, a_filled, b_out, b_encStart, b_encLen, b_partner, b_regMsg, b_regStart, b_regEnd)) →
      ((a_held a ≠ 0 ∧ a_held b ≠ 0) → ((b_version a = b_version b → (b_type a = b_type b → (b_items a = b_items b → (∃ n67 : Nat, wY_same_67 post (nI a) (nI b) f_capacity f_maxField f_maxDepth g_outLen g_regions g_pos g_bad n67 0 a_kinds a_held b_version b_type b_cursor b_items b_parent b_field b_val a_bytes a_filled b_out b_encStart b_encLen b_partner b_regMsg b_regStart b_regEnd)) ∧ (¬ b_items a = b_items b → post 0 (f_capacity, f_maxField, f_maxDepth, g_outLen, g_regions, g_pos, g_bad, a_kinds, a_held, b_version, b_type, b_cursor, b_items, b_parent, b_field, b_val, a_bytes, a_filled, b_out, b_encStart, b_encLen, b_partner, b_regMsg, b_regStart, b_regEnd))) ∧ (¬ b_type a = b_type b → post 0 (f_capacity, f_maxField, f_maxDepth, g_outLen, g_regions, g_pos, g_bad, a_kinds, a_held, b_version, b_type, b_cursor, b_items, b_parent, b_field, b_val, a_bytes, a_filled, b_out, b_encStart, b_encLen, b_partner, b_regMsg, b_regStart, b_regEnd))) ∧ (¬ b_version a = b_version b → post 0 (f_capacity, f_maxField, f_maxDepth, g_outLen, g_regions, g_pos, g_bad, a_kinds, a_held, b_version, b_type, b_cursor, b_items, b_parent, b_field, b_val, a_bytes, a_filled, b_out, b_encStart, b_encLen, b_partner, b_regMsg, b_regStart, b_regEnd)))) → wpY_same post (f_capacity, f_maxField, f_maxDepth, g_outLen, g_regions, g_pos, g_bad, a_kinds, a_held, b_version, b_type, b_cursor, b_items, b_parent, b_field, b_val, a_bytes, a_filled, b_out, b_encStart, b_encLen, b_partner, b_regMsg, b_regStart, b_regEnd) (nI a) (nI b) := by
    intro post h0 h1
    unfold wpY_same
    refine sy_check3 (fun u => absurd z u) (fun i hi e u => br_f (by decide) (h0 ?_)) (fun i hi e u => br_t rfl ?_)
    · rw [nI_eq (by omega) (by omega)] at e; subst e; exact fun g => g.1 u
    rw [nI_eq (by omega) (by omega)] at e
    subst e
    refine sy_check3 (fun u => absurd y u) (fun i hi e u => br_f (by decide) (h0 ?_)) (fun i hi e u2 => br_t rfl ?_)
    · rw [nI_eq (by omega) (by omega)] at e; subst e; exact fun g => g.2 u
    rw [nI_eq (by omega) (by omega)] at e
    subst e
    rw [ea, eb]
    obtain ⟨g1, g2⟩ := h1 ⟨u, u2⟩
    exact ⟨hia3, hib3, fun q1 => ⟨hia3, hib3, fun q2 => ⟨hia3, hib3, (g1 q1).1 q2⟩, (g1 q1).2⟩, g2⟩
  refine ⟨hia, br_c (fun u => hY _ (fun _ => ⟨rfl, HI⟩) (fun g => absurd u g.1)) (fun uA => ⟨hib, br_c (fun u => hY _ (fun _ => ⟨rfl, HI⟩) (fun g => absurd u g.2)) (fun uB => ⟨hia, ?_⟩)⟩)⟩
  obtain ⟨v, n, p, q, d, p', q', d', w, w', σ, c, W, W', R, R', Is, hc, hms, hcx, hcy⟩ := hSl a ha uA
  obtain ⟨vb, nb, pb, qb, db, pb', qb', db', wb, wb', σb, cb, Wb, Wb', Rb, Rb', Isb, hcb, hmsb, hcxb, hcyb⟩ := hSl b hb uB
  obtain ⟨esA, htA, _⟩ := sr_st hSt ha
  obtain ⟨esB, htB, _⟩ := sr_st hSt hb
  have hn := W.1
  have hnb := Wb.1
  have U := sw_up_of W
  have U' := sw_up_of W'
  have Ub := sw_up_of Wb
  have Ub' := sw_up_of Wb'
  obtain ⟨s9, ty, hty, ew, es⟩ := sw_sc_lt W (Nat.zero_le _) sw_ms0
  obtain ⟨s9b, tyb, htyb, ewb, esb⟩ := sw_sc_lt Wb (Nat.zero_le _) sw_ms0
  have hv := W.2.1
  have hvb := Wb.2.1
  have m0 := (R.2.1 0 (Nat.zero_le _)).1 sw_ms0
  have m0b := (Rb.2.1 0 (Nat.zero_le _)).1 sw_ms0
  rw [Nat.add_zero] at m0 m0b
  have w0 : w' 0 = w 0 := by have := Is.2.2 0 (Nat.zero_le _); rw [Is.1] at this; exact this
  have w0b : wb' 0 = wb 0 := by have := Isb.2.2 0 (Nat.zero_le _); rw [Isb.1] at this; exact this
  have eA : (nI (st a * 121)).toNatClampNeg = st a * 121 := nI_clamp (by omega)
  have eB : (nI (st b * 121)).toNatClampNeg = st b * 121 := nI_clamp (by omega)
  rw [esA, esB, sn_m121, sn_m121]
  refine nm_e ⟨hib, nm_e ⟨vp_in_nI (by omega) (by omega), vp_in_nI (by omega) (by omega), ?_⟩⟩
  rw [eA, eB, m0, m0b]
  refine pk_eq (sw_sc v w 0) (sw_sc vb wb 0) (fun eS => ?_) (fun eS => ?_)
  · have ev : v = vb := by omega
    have et : ty = tyb := by omega
    subst ev et
    have wr : wb 0 = w 0 := by rw [ew, ewb]
    rw [nI_clamp (n := st a) (by omega), R.1, nI_add]
    refine ⟨vp_in_nI (by omega) (by omega), nm_e ⟨hia, vp_in_nI (by omega) (by omega), nm_e ⟨n + 2, ?_⟩⟩⟩
    have hiso : (∃ s, sw_Iso n p q w nb pb qb wb s) ↔ (n = nb ∧ ∃ s, sw_Iso n p' q' w' nb pb' qb' wb' s) := by
      constructor
      · intro h
        obtain ⟨s, I⟩ := h
        obtain ⟨τ, J⟩ := sw_isymm Is U U'
        exact ⟨sw_in I U Ub, _, sw_itrans (sw_itrans J U' I) U' Isb⟩
      · intro h
        obtain ⟨rfl, s, I⟩ := h
        obtain ⟨τ, J⟩ := sw_isymm Isb Ub Ub'
        exact ⟨_, sw_itrans (sw_itrans Is U I) U J⟩
    have HIm : ∀ mt pt : Nat → Int32, i_Rel (k + 5) (f_capacity, f_maxField, f_maxDepth, f_spare, f_writeAt, f_level, f_readAt, f_broken, a_kinds, a_held, a_storeOf, a_cursor, a_items, a_word, a_next, a_schemaOf, a_parentOf, a_depthOf, a_head, a_tail, a_length, a_bytes, a_filled, a_sizeOf, a_placeOf, mt, a_regionEnd, a_regionMessage) (f_capacity, f_maxField, f_maxDepth, g_outLen, g_regions, g_pos, g_bad, a_kinds, a_held, b_version, b_type, b_cursor, b_items, b_parent, b_field, b_val, a_bytes, a_filled, b_out, b_encStart, b_encLen, pt, b_regMsg, b_regStart, b_regEnd) := fun mt pt => sr_in ⟨K, C, F, D, st, hC, hSt, hFl, hSl⟩
    have hYY : ∀ (mt : Nat → Int32) (r : Int32), ((∃ s, sw_Iso n p q w nb pb qb wb s) → r = 1) → (¬ (∃ s, sw_Iso n p q w nb pb qb wb s) → r = 0) → wpY_same (fun r' v' => r' = r ∧ i_Rel (k + 5) (f_capacity, f_maxField, f_maxDepth, f_spare, f_writeAt, f_level, f_readAt, f_broken, a_kinds, a_held, a_storeOf, a_cursor, a_items, a_word, a_next, a_schemaOf, a_parentOf, a_depthOf, a_head, a_tail, a_length, a_bytes, a_filled, a_sizeOf, a_placeOf, mt, a_regionEnd, a_regionMessage) v') (f_capacity, f_maxField, f_maxDepth, g_outLen, g_regions, g_pos, g_bad, a_kinds, a_held, b_version, b_type, b_cursor, b_items, b_parent, b_field, b_val, a_bytes, a_filled, b_out, b_encStart, b_encLen, b_partner, b_regMsg, b_regStart, b_regEnd) (nI a) (nI b) := by
      intro mt r hr1 hr0
      refine hY _ (fun u => absurd ⟨uA, uB⟩ u) (fun _ => br_t (by rw [R'.1, Rb'.1]) (br_t (by rw [R'.2.1, Rb'.2.1, w0, w0b, wr]) (br_c (fun ei => ?_) (fun ei => ⟨?_, HIm mt b_partner⟩))))
      · rw [R'.2.2.1, Rb'.2.2.1, nI_eq (by omega) (by omega)] at ei
        subst ei
        refine ⟨n + 1, sy_same67 x2 x4 W' Wb' R' Rb' (by omega) (by omega) (by rw [w0, w0b, wr]) (fun g pt => ⟨?_, HIm mt pt⟩) (fun g pt => ⟨?_, HIm mt pt⟩) n 0 b_partner (by omega) (fun j h1 h2 => by omega) (fun j h => by omega)⟩
        · exact (hr1 (hiso.mpr ⟨rfl, g⟩)).symm
        · exact (hr0 (fun u => g (hiso.mp u).2)).symm
      · refine (hr0 (fun u => ei ?_)).symm
        rw [R'.2.2.1, Rb'.2.2.1, (hiso.mp u).1]
    refine sx_same103 (t := st a) (t' := st b) hC W Wb R Rb htA htB wr (fun g mt => hYY mt 1 (fun _ => rfl) (fun u => absurd g u)) (fun g mt => hYY mt 0 (fun u => absurd u g) (fun _ => rfl)) (n + 1) 0 _ (by omega) (fun m hm => by omega) (fun i hi him hor => ?_)
    obtain rfl : i = 0 := by omega
    rw [Nat.add_zero, sw_mp0, Nat.add_zero]; exact pk_us
  · refine hY _ (fun u => absurd ⟨uA, uB⟩ u) (fun _ => br_c (fun ev => br_c (fun et => absurd ?_ eS) (fun _ => ⟨rfl, HI⟩)) (fun _ => ⟨rfl, HI⟩))
    rw [R'.1, Rb'.1, nI_eq (by omega) (by omega)] at ev
    rw [R'.2.1, Rb'.2.1, w0, w0b, ew, ewb, nI_eq (by omega) (by omega)] at et
    rw [es, esb, ev, et]
end
section
/-! the bytes of a message, as a pure function -/
def se_s7 (x : Int32) : Int32 := (x.toUInt32 >>> ((7 : Int32).toUInt32 &&& Int32.toUInt32 31)).toInt32
def se_vb : Nat → Int32 → List Int32
  | 0, x => [x]
  | g + 1, x => if x &&& (-128) = 0 then [x] else ((x &&& 127) ||| 128) :: se_vb g (se_s7 x)
def se_var (x : Int32) : List Int32 := se_vb 4 x
def se_zz (x : Int32) : Int32 := (x <<< ((1 : Int32) &&& 31)) ^^^ (x >>> ((31 : Int32) &&& 31))
def se_pay (k : Nat) (x : Int32) : List Int32 :=
  if k % 3 = 0 then [se_b8 x 0, se_b8 x 1, se_b8 x 2, se_b8 x 3] else if k % 3 = 2 then se_var (se_zz x) else se_var x
def se_own (k : Nat) : Nat := if k % 3 = 0 then 5 else 0
/-- a field's bytes: its kind, number, values, and its submessages' bytes -/
def se_fld (w : Nat → Int32) (E : Nat → List Int32) (k f : Nat) (l : List Nat) : List Int32 :=
  if l = [] then [] else
  if 10 ≤ k then l.flatMap (fun j => se_var (nI (f * 8 + 2)) ++ (se_var (nI (E j).length) ++ E j)) else
  if 7 ≤ k then se_var (nI (f * 8 + 2)) ++ (se_var (nI (l.flatMap (fun j => se_pay k (w j))).length) ++ l.flatMap (fun j => se_pay k (w j))) else
  l.flatMap (fun j => se_var (nI (f * 8 + se_own k)) ++ se_pay k (w j))
/-- the fields f .. F of a message -/
def se_flds (K : Nat → Nat) (F v n : Nat) (p q : Nat → Nat) (w : Nat → Int32) (E : Nat → List Int32) (m : Nat) : Nat → Nat → List Int32
  | 0, _ => []
  | g + 1, f => se_fld w E (sw_kd K F (sw_sc v w m) f) f (sw_L p q m f n) ++ se_flds K F v n p q w E m g (f + 1)
def se_msg (K : Nat → Nat) (F v n : Nat) (p q : Nat → Nat) (w : Nat → Int32) (E : Nat → List Int32) (m : Nat) : List Int32 :=
  se_flds K F v n p q w E m F 1 ++ (sw_L p q m 0 n).map w
def se_E (K : Nat → Nat) (F v n : Nat) (p q : Nat → Nat) (w : Nat → Int32) : Nat → Nat → List Int32
  | 0, _ => []
  | g + 1, m => se_msg K F v n p q w (se_E K F v n p q w g) m
def se_enc (K : Nat → Nat) (F v n : Nat) (p q : Nat → Nat) (w : Nat → Int32) (m : Nat) : List Int32 := se_E K F v n p q w (n + 1) m
theorem se_flatcong {l : List Nat} {f g : Nat → List Int32} (h : ∀ j, j ∈ l → f j = g j) : l.flatMap f = l.flatMap g := by
  induction l with
  | nil => rfl
  | cons a l ih =>
    rw [List.flatMap_cons, List.flatMap_cons, h a (List.mem_cons_self ..), ih (fun j hj => h j (List.mem_cons_of_mem _ hj))]
theorem se_fldcong {w : Nat → Int32} {E E' : Nat → List Int32} {k f : Nat} {l : List Nat} (h : ∀ j, j ∈ l → E j = E' j) : se_fld w E k f l = se_fld w E' k f l := by
  unfold se_fld
  rw [se_flatcong (f := fun j => se_var (nI (f * 8 + 2)) ++ (se_var (nI (E j).length) ++ E j)) (g := fun j => se_var (nI (f * 8 + 2)) ++ (se_var (nI (E' j).length) ++ E' j)) (fun j hj => by
    show _ ++ (se_var (nI (E j).length) ++ E j) = _ ++ (se_var (nI (E' j).length) ++ E' j)
    rw [h j hj])]
section
variable {K : Nat → Nat} {F v n : Nat} {p q : Nat → Nat} {w : Nat → Int32} {E E' : Nat → List Int32} {m : Nat}
theorem se_fldscong (h : ∀ j f, j ∈ sw_L p q m f n → E j = E' j) : ∀ g f, se_flds K F v n p q w E m g f = se_flds K F v n p q w E' m g f := by
  intro g
  induction g with
  | zero => intro f; rfl
  | succ g ih => intro f; rw [se_flds, se_flds, ih (f + 1), se_fldcong (fun j hj => h j f hj)]
theorem se_msgcong (h : ∀ j f, j ∈ sw_L p q m f n → E j = E' j) : se_msg K F v n p q w E m = se_msg K F v n p q w E' m := by
  rw [se_msg, se_msg, se_fldscong h]
theorem se_stab (U : sw_Up n p) : ∀ g g' m, n - m < g → n - m < g' → m ≤ n → se_E K F v n p q w g m = se_E K F v n p q w g' m := by
  intro g
  induction g with
  | zero => intro g' m h; omega
  | succ g ih =>
    intro g' m h h' hm
    cases g' with
    | zero => omega
    | succ g' =>
      rw [se_E, se_E]
      apply se_msgcong
      intro j f hj
      obtain ⟨a, b, c, e⟩ := sw_mem.mp hj
      have := U j a b
      exact ih g' j (by omega) (by omega) b
theorem se_eq (U : sw_Up n p) (hm : m ≤ n) : se_enc K F v n p q w m = se_msg K F v n p q w (se_enc K F v n p q w) m := by
  show se_msg K F v n p q w (se_E K F v n p q w n) m = _
  apply se_msgcong
  intro j f hj
  obtain ⟨a, b, c, e⟩ := sw_mem.mp hj
  exact se_stab U n (n + 1) j (by omega) (by omega) b
end
section
variable {K : Nat → Nat} {F v n n' : Nat} {p q p' q' : Nat → Nat} {w w' : Nat → Int32} {s : Nat → Nat}
theorem se_flatmap {l : List Nat} {f : Nat → List Int32} : (l.map s).flatMap f = l.flatMap (fun j => f (s j)) := by
  induction l with
  | nil => rfl
  | cons a l ih => rw [List.map_cons, List.flatMap_cons, List.flatMap_cons, ih]
theorem se_isoE (I : sw_Iso n p q w n' p' q' w' s) (U : sw_Up n p) : ∀ g m, m ≤ n → se_E K F v n' p' q' w' g (s m) = se_E K F v n p q w g m := by
  intro g
  induction g with
  | zero => intro m _; rfl
  | succ g ih =>
    intro m hm
    rw [se_E, se_E, se_msg, se_msg]
    have a : ∀ h f, se_flds K F v n' p' q' w' (se_E K F v n' p' q' w' g) (s m) h f = se_flds K F v n p q w (se_E K F v n p q w g) m h f := by
      intro h
      induction h with
      | zero => intro f; rfl
      | succ h ihh =>
        intro f
        rw [se_flds, se_flds, ihh (f + 1), sw_iso_sc I hm, I.2.1 m f hm]
        congr 1
        have hw : ∀ j, j ∈ sw_L p q m f n → w' (s j) = w j := fun j hj => I.2.2 j (sw_mem.mp hj).2.1
        have hE : ∀ j, j ∈ sw_L p q m f n → se_E K F v n' p' q' w' g (s j) = se_E K F v n p q w g j := fun j hj => ih j (sw_mem.mp hj).2.1
        have e1 : ∀ k, (sw_L p q m f n).flatMap (fun j => se_pay k (w' (s j))) = (sw_L p q m f n).flatMap (fun j => se_pay k (w j)) := fun k =>
          se_flatcong (fun j hj => by show se_pay k (w' (s j)) = se_pay k (w j); rw [hw j hj])
        have e2 : ∀ k, (sw_L p q m f n).flatMap (fun j => se_var (nI (f * 8 + se_own k)) ++ se_pay k (w' (s j))) = (sw_L p q m f n).flatMap (fun j => se_var (nI (f * 8 + se_own k)) ++ se_pay k (w j)) := fun k =>
          se_flatcong (fun j hj => by show _ ++ se_pay k (w' (s j)) = _ ++ se_pay k (w j); rw [hw j hj])
        have e3 : (sw_L p q m f n).flatMap (fun j => se_var (nI (f * 8 + 2)) ++ (se_var (nI (se_E K F v n' p' q' w' g (s j)).length) ++ se_E K F v n' p' q' w' g (s j))) = (sw_L p q m f n).flatMap (fun j => se_var (nI (f * 8 + 2)) ++ (se_var (nI (se_E K F v n p q w g j).length) ++ se_E K F v n p q w g j)) :=
          se_flatcong (fun j hj => by
            show _ ++ (se_var (nI (se_E K F v n' p' q' w' g (s j)).length) ++ se_E K F v n' p' q' w' g (s j)) = _
            rw [hE j hj])
        unfold se_fld
        rw [se_flatmap, se_flatmap, se_flatmap, e1, e2, e3]
        by_cases z : sw_L p q m f n = []
        · rw [if_pos z, if_pos (by rw [z]; rfl)]
        · rw [if_neg z, if_neg (fun y => z (List.map_eq_nil_iff.mp y))]
    rw [a F 1, I.2.1 m 0 hm, List.map_map]
    congr 1
    exact List.map_congr_left (fun j hj => I.2.2 j (sw_mem.mp hj).2.1)
theorem se_iso (I : sw_Iso n p q w n p' q' w' s) (U : sw_Up n p) {m : Nat} (hm : m ≤ n) : se_enc K F v n p' q' w' (s m) = se_enc K F v n p q w m := se_isoE I U (n + 1) m hm
end
end
section
/-! varints by their number, and lists written into an array -/
def bt (x : Int32) (i : Nat) : Bool := x.toBitVec.getLsbD i
theorem b_ext {x y : Int32} (h : ∀ i, i < 32 → bt x i = bt y i) : x = y := Int32.toBitVec_inj.mp (BitVec.eq_of_getLsbD_eq (fun i hi => h i hi))
theorem b_and (x y : Int32) (i : Nat) : bt (x &&& y) i = (bt x i && bt y i) := by unfold bt; rw [Int32.toBitVec_and, BitVec.getLsbD_and]
theorem b_big {x : Int32} {i : Nat} (h : 32 ≤ i) : bt x i = false := BitVec.getLsbD_of_ge _ _ h
theorem b_0 (i : Nat) : bt 0 i = false := BitVec.getLsbD_zero
theorem s_u : ∀ n, n < 32 → (((nI n).toUInt32 &&& Int32.toUInt32 31).toBitVec % 32).toNat = n := by decide +kernel
theorem b_m128 : ∀ i, i < 32 → bt (-128) i = decide (7 ≤ i) := by decide +kernel
theorem se_bt (x : Int32) (i : Nat) : bt x i = x.toBitVec.toNat.testBit i := BitVec.testBit_toNat _ |>.symm
theorem se_m128 (x : Int32) : x &&& (-128) = 0 ↔ x.toBitVec.toNat < 128 := by
  constructor
  · intro h
    refine Nat.lt_pow_two_of_testBit (n := 7) _ (fun i hi => ?_)
    rw [← se_bt]
    by_cases h32 : i < 32
    · have := b_and x (-128) i
      rw [h, b_0, b_m128 i h32, decide_eq_true hi, Bool.and_true] at this
      exact this.symm
    · exact b_big (by omega)
  · intro h
    apply b_ext
    intro i hi
    rw [b_and, b_0, b_m128 i hi]
    by_cases h7 : 7 ≤ i
    · rw [se_bt, Nat.testBit_lt_two_pow (Nat.lt_of_lt_of_le h (Nat.pow_le_pow_right (n := 2) (by omega) h7 : 2 ^ 7 ≤ 2 ^ i)), Bool.false_and]
    · rw [decide_eq_false h7, Bool.and_false]
theorem se_nI (x : Int32) : nI x.toBitVec.toNat = x := by
  apply Int32.toBitVec_inj.mp
  show BitVec.ofNat 32 x.toBitVec.toNat = x.toBitVec
  apply BitVec.eq_of_toNat_eq
  rw [BitVec.toNat_ofNat, Nat.mod_eq_of_lt x.toBitVec.isLt]
theorem se_s7n (x : Int32) : (se_s7 x).toBitVec.toNat = x.toBitVec.toNat / 128 := pk_ushr x 7 7 (by decide)
theorem se_127 {x : Int32} (h : x.toBitVec.toNat < 128) : x &&& 127 = x := by
  rw [pk_and x 7 (by decide), Nat.mod_eq_of_lt (by omega), se_nI]
theorem se_sh0 (x : Int32) {s : Nat} (hs : s < 32) : (x.toUInt32 >>> ((nI s).toUInt32 &&& Int32.toUInt32 31)).toInt32 = 0 ↔ x.toBitVec.toNat / 2 ^ s = 0 := by
  rw [← pk_ushr x (nI s) s (s_u s hs)]
  constructor
  · intro h; rw [h]; rfl
  · intro h; rw [← se_nI ((x.toUInt32 >>> ((nI s).toUInt32 &&& Int32.toUInt32 31)).toInt32), h]; rfl
def se_ln : Nat → Nat → Nat
  | 0, _ => 1
  | g + 1, y => if y < 128 then 1 else 1 + se_ln g (y / 128)
theorem se_vbl : ∀ g x, (se_vb g x).length = se_ln g x.toBitVec.toNat := by
  intro g
  induction g with
  | zero => intro x; rfl
  | succ g ih =>
    intro x
    rw [se_vb, se_ln]
    by_cases h : x.toBitVec.toNat < 128
    · rw [if_pos ((se_m128 x).mpr h), if_pos h]; rfl
    · rw [if_neg (fun z => h ((se_m128 x).mp z)), if_neg h, List.length_cons, ih, se_s7n]; omega
theorem se_ln1 : ∀ g y, 1 ≤ se_ln g y ∧ se_ln g y ≤ g + 1 := by
  intro g
  induction g with
  | zero => intro y; exact ⟨Nat.le_refl _, Nat.le_refl _⟩
  | succ g ih =>
    intro y
    rw [se_ln]
    by_cases h : y < 128
    · rw [if_pos h]; omega
    · rw [if_neg h]; have := ih (y / 128); omega
theorem se_varl (x : Int32) : 1 ≤ (se_var x).length ∧ (se_var x).length ≤ 5 := by
  rw [se_var, se_vbl]; exact se_ln1 4 _
theorem se_payl (k : Nat) (x : Int32) : (se_pay k x).length ≤ 5 := by
  unfold se_pay
  split
  · simp only [List.length_cons, List.length_nil]; omega
  · split
    · exact (se_varl _).2
    · exact (se_varl _).2
/-! a list written into an array from a place on -/
def sb_wr (b : Nat → Int32) : Nat → List Int32 → (Nat → Int32)
  | _, [] => b
  | a, x :: l => sb_wr (upd b a x) (a + 1) l
theorem sb_nil (b : Nat → Int32) (a : Nat) : sb_wr b a [] = b := rfl
theorem sb_one (b : Nat → Int32) (a : Nat) (x : Int32) : sb_wr b a [x] = upd b a x := rfl
theorem sb_app : ∀ (l l' : List Int32) (b : Nat → Int32) (a : Nat), sb_wr b a (l ++ l') = sb_wr (sb_wr b a l) (a + l.length) l' := by
  intro l
  induction l with
  | nil => intro l' b a; rfl
  | cons x l ih =>
    intro l' b a
    rw [List.cons_append, sb_wr, ih, sb_wr, List.length_cons]
    have : a + 1 + l.length = a + (l.length + 1) := by omega
    rw [this]
theorem sb_out : ∀ (l : List Int32) (b : Nat → Int32) (a c : Nat), (c < a ∨ a + l.length ≤ c) → sb_wr b a l c = b c := by
  intro l
  induction l with
  | nil => intro b a c _; rfl
  | cons x l ih =>
    intro b a c h
    rw [List.length_cons] at h
    rw [sb_wr, ih _ _ _ (by omega), pk_un (by omega)]
theorem sb_in : ∀ (l : List Int32) (b : Nat → Int32) (a i : Nat) (x : Int32), l[i]? = some x → sb_wr b a l (a + i) = x := by
  intro l
  induction l with
  | nil => intro b a i x h; rw [List.getElem?_nil] at h; cases h
  | cons y l ih =>
    intro b a i x h
    rw [sb_wr]
    cases i with
    | zero =>
      rw [sb_out _ _ _ _ (by omega), Nat.add_zero, pk_us]
      exact Option.some.inj h
    | succ i =>
      rw [List.getElem?_cons_succ] at h
      have := ih (upd b a y) (a + 1) i x h
      have e : a + (i + 1) = a + 1 + i := by omega
      rw [e]; exact this
/-- the array holds a list from a place on -/
def sb_at (b : Nat → Int32) (a : Nat) (l : List Int32) : Prop := ∀ i x, l[i]? = some x → b (a + i) = x
theorem sb_at_wr (b : Nat → Int32) (a : Nat) (l : List Int32) : sb_at (sb_wr b a l) a l := fun i x h => sb_in l b a i x h
theorem sb_at_app {b : Nat → Int32} {a : Nat} {l l' : List Int32} : sb_at b a (l ++ l') ↔ sb_at b a l ∧ sb_at b (a + l.length) l' := by
  constructor
  · intro h
    refine ⟨fun i x hi => h i x ?_, fun i x hi => ?_⟩
    · have hlt := (List.getElem?_eq_some_iff.mp hi).1
      rw [List.getElem?_append_left hlt]; exact hi
    · have := h (l.length + i) x (by rw [List.getElem?_append_right (by omega)]; have e : l.length + i - l.length = i := by omega
                                     rw [e]; exact hi)
      have e : a + l.length + i = a + (l.length + i) := by omega
      rw [e]; exact this
  · intro h i x hi
    by_cases hlt : i < l.length
    · rw [List.getElem?_append_left hlt] at hi; exact h.1 i x hi
    · rw [List.getElem?_append_right (by omega)] at hi
      have := h.2 _ x hi
      have e : a + i = a + l.length + (i - l.length) := by omega
      rw [e]; exact this
theorem sb_at_cong {b b' : Nat → Int32} {a : Nat} {l : List Int32} (h : sb_at b a l) (hb : ∀ c, a ≤ c → c < a + l.length → b' c = b c) : sb_at b' a l := by
  intro i x hi
  have hlt := (List.getElem?_eq_some_iff.mp hi).1
  rw [hb (a + i) (by omega) (by omega)]; exact h i x hi
theorem sb_over {l l' : List Int32} (h : l.length ≤ l'.length) (b : Nat → Int32) (a : Nat) : sb_wr (sb_wr b a l) a l' = sb_wr b a l' := by
  funext c
  by_cases hc : a ≤ c ∧ c < a + l'.length
  · have hx : l'[c - a]? = some l'[c - a] := List.getElem?_eq_getElem (by omega)
    have e : c = a + (c - a) := by omega
    rw [e, sb_in l' _ a (c - a) _ hx, sb_in l' _ a (c - a) _ hx]
  · rw [sb_out _ _ _ _ (by omega), sb_out _ _ _ _ (by omega), sb_out _ _ _ _ (by omega)]
/-! sums -/
def sq_s (g : Nat → Nat) : Nat → Nat
  | 0 => 0
  | k + 1 => sq_s g k + g k
theorem sq_le {g h : Nat → Nat} : ∀ k, (∀ i, i < k → g i ≤ h i) → sq_s g k ≤ sq_s h k := by
  intro k
  induction k with
  | zero => intro _; exact Nat.le_refl _
  | succ k ih => intro H; have a := ih (fun i hi => H i (by omega)); have b := H k (by omega); simp only [sq_s]; omega
theorem sq_add (g h : Nat → Nat) : ∀ k, sq_s (fun i => g i + h i) k = sq_s g k + sq_s h k := by
  intro k
  induction k with
  | zero => rfl
  | succ k ih => simp only [sq_s]; rw [ih]; omega
/-- one summand grows by c -/
theorem sq_pt {g h : Nat → Nat} {i0 c : Nat} (h1 : ∀ i, i ≠ i0 → h i ≤ g i) (h2 : h i0 ≤ g i0 + c) : ∀ k, sq_s h k ≤ sq_s g k + c := by
  have hA : ∀ k, k ≤ i0 → sq_s h k ≤ sq_s g k := fun k hk => sq_le k (fun i hi => h1 i (by omega))
  intro k
  induction k with
  | zero => simp only [sq_s]; omega
  | succ k ih =>
    simp only [sq_s]
    by_cases e : k = i0
    · subst e; have := hA k (Nat.le_refl _); omega
    · have := h1 k e; omega
def sq_l (g : Nat → Nat) (l : List Nat) : Nat := (l.map g).sum
theorem sq_lapp (g : Nat → Nat) (l l' : List Nat) : sq_l g (l ++ l') = sq_l g l + sq_l g l' := by
  unfold sq_l; rw [List.map_append, List.sum_append]
theorem sq_lle {g h : Nat → Nat} {l : List Nat} (H : ∀ j, j ∈ l → g j ≤ h j) : sq_l g l ≤ sq_l h l := by
  induction l with
  | nil => exact Nat.le_refl _
  | cons a l ih =>
    have := ih (fun j hj => H j (List.mem_cons_of_mem _ hj))
    have := H a (List.mem_cons_self ..)
    unfold sq_l at *
    rw [List.map_cons, List.map_cons, List.sum_cons, List.sum_cons]; omega
theorem sq_lflat {f : Nat → List Int32} {g : Nat → Nat} {l : List Nat} (H : ∀ j, j ∈ l → (f j).length ≤ g j) : (l.flatMap f).length ≤ sq_l g l := by
  induction l with
  | nil => exact Nat.le_refl _
  | cons a l ih =>
    have := ih (fun j hj => H j (List.mem_cons_of_mem _ hj))
    have := H a (List.mem_cons_self ..)
    unfold sq_l at *
    rw [List.flatMap_cons, List.length_append, List.map_cons, List.sum_cons]; omega
theorem sq_lc {c : Nat} {l : List Nat} : sq_l (fun _ => c) l = c * l.length := by
  induction l with
  | nil => rfl
  | cons a l ih =>
    unfold sq_l at *
    rw [List.map_cons, List.sum_cons, ih, List.length_cons, Nat.mul_add, Nat.mul_one, Nat.add_comm]
end
section
/-! all encodings together are short -/
def se_lm (K : Nat → Nat) (F v n : Nat) (p q : Nat → Nat) (w : Nat → Int32) (m : Nat) : Nat :=
  if m = 0 ∨ 10 ≤ sw_kd K F (sw_sc v w (p m)) (q m) then (se_enc K F v n p q w m).length else 0
theorem sq_mono (g : Nat → Nat) {a b : Nat} (h : a ≤ b) : sq_s g a ≤ sq_s g b := by
  induction b with
  | zero => obtain rfl : a = 0 := by omega
            exact Nat.le_refl _
  | succ b ih =>
    by_cases e : a = b + 1
    · subst e; exact Nat.le_refl _
    · have := ih (by omega); simp only [sq_s]; omega
theorem sq_shift (g : Nat → Nat) : ∀ k, sq_s g (k + 1) = g 0 + sq_s (fun i => g (i + 1)) k := by
  intro k
  induction k with
  | zero => simp only [sq_s]; omega
  | succ k ih =>
    rw [sq_s, ih]
    simp only [sq_s]; omega
theorem sq_const (g : Nat → Nat) (c : Nat) : ∀ k, (∀ i, i < k → g i ≤ c) → sq_s g k ≤ c * k := by
  intro k
  induction k with
  | zero => intro _; exact Nat.le_refl _
  | succ k ih =>
    intro h
    have a := ih (fun i hi => h i (by omega))
    have b := h k (by omega)
    simp only [sq_s]; rw [Nat.mul_succ]; omega
section
variable {K : Nat → Nat} {C F D v n : Nat} {p q d : Nat → Nat} {w : Nat → Int32}
theorem se_lm_t {m : Nat} (h : sw_ms K F v p q w m) : se_lm K F v n p q w m = (se_enc K F v n p q w m).length := if_pos h
theorem se_lm_f {m : Nat} (h : ¬ sw_ms K F v p q w m) : se_lm K F v n p q w m = 0 := if_neg h
theorem se_fldb (W : sw_WF K C F D v n p q w d) {m f : Nat} : (se_fld w (se_enc K F v n p q w) (sw_kd K F (sw_sc v w m) f) f (sw_L p q m f n)).length ≤ sq_l (fun j => 15 + se_lm K F v n p q w j) (sw_L p q m f n) := by
  unfold se_fld
  by_cases hl : sw_L p q m f n = []
  · rw [if_pos hl]; exact Nat.zero_le _
  · rw [if_neg hl]
    by_cases h10 : 10 ≤ sw_kd K F (sw_sc v w m) f
    · rw [if_pos h10]
      refine sq_lflat (fun j hj => ?_)
      have hm := (sw_msL W hj).mpr h10
      rw [se_lm_t hm, List.length_append, List.length_append]
      have a := (se_varl (nI (f * 8 + 2))).2
      have b := (se_varl (nI (se_enc K F v n p q w j).length)).2
      omega
    · rw [if_neg h10]
      by_cases h7 : 7 ≤ sw_kd K F (sw_sc v w m) f
      · rw [if_pos h7, List.length_append, List.length_append]
        have a := (se_varl (nI (f * 8 + 2))).2
        have b := (se_varl (nI ((sw_L p q m f n).flatMap (fun j => se_pay (sw_kd K F (sw_sc v w m) f) (w j))).length)).2
        have c : ((sw_L p q m f n).flatMap (fun j => se_pay (sw_kd K F (sw_sc v w m) f) (w j))).length ≤ sq_l (fun _ => 5) (sw_L p q m f n) := sq_lflat (fun j _ => se_payl _ _)
        have e : sq_l (fun _ => 15) (sw_L p q m f n) ≤ sq_l (fun j => 15 + se_lm K F v n p q w j) (sw_L p q m f n) := sq_lle (fun j _ => by omega)
        rw [sq_lc] at c e
        have g : 1 ≤ (sw_L p q m f n).length := List.length_pos_iff.mpr hl
        omega
      · rw [if_neg h7]
        refine sq_lflat (fun j hj => ?_)
        rw [List.length_append]
        have a := (se_varl (nI (f * 8 + se_own (sw_kd K F (sw_sc v w m) f)))).2
        have b := se_payl (sw_kd K F (sw_sc v w m) f) (w j)
        omega
theorem se_fldsb (W : sw_WF K C F D v n p q w d) {m : Nat} : ∀ k f, (se_flds K F v n p q w (se_enc K F v n p q w) m k f).length + sq_s (fun f => sq_l (fun j => 15 + se_lm K F v n p q w j) (sw_L p q m f n)) f ≤ sq_s (fun f => sq_l (fun j => 15 + se_lm K F v n p q w j) (sw_L p q m f n)) (f + k) := by
  intro k
  induction k with
  | zero => intro f; rw [se_flds, List.length_nil, Nat.add_zero]; omega
  | succ k ih =>
    intro f
    have a := ih (f + 1)
    have b := se_fldb W (m := m) (f := f)
    have e : f + 1 + k = f + (k + 1) := by omega
    rw [e] at a
    rw [se_flds, List.length_append]
    have c : sq_s (fun f => sq_l (fun j => 15 + se_lm K F v n p q w j) (sw_L p q m f n)) (f + 1) = sq_s (fun f => sq_l (fun j => 15 + se_lm K F v n p q w j) (sw_L p q m f n)) f + sq_l (fun j => 15 + se_lm K F v n p q w j) (sw_L p q m f n) := rfl
    omega
theorem se_msgb (W : sw_WF K C F D v n p q w d) {m : Nat} (hm : m ≤ n) : (se_enc K F v n p q w m).length ≤ sq_s (fun f => sq_l (fun j => 15 + se_lm K F v n p q w j) (sw_L p q m f n)) (F + 1) := by
  have U := sw_up_of W
  rw [se_eq U hm, se_msg, List.length_append, List.length_map]
  have a := se_fldsb W (m := m) F 1
  have b : sq_s (fun f => sq_l (fun j => 15 + se_lm K F v n p q w j) (sw_L p q m f n)) 1 = sq_l (fun j => 15 + se_lm K F v n p q w j) (sw_L p q m 0 n) := by simp only [sq_s]; omega
  have c : sq_l (fun _ => 1) (sw_L p q m 0 n) ≤ sq_l (fun j => 15 + se_lm K F v n p q w j) (sw_L p q m 0 n) := sq_lle (fun j _ => by omega)
  rw [sq_lc] at c
  have e : 1 + F = F + 1 := by omega
  rw [e] at a
  omega
theorem se_swap (g : Nat → Nat) (N : Nat) : ∀ n', sq_s (fun m => (d m + 1) * sq_s (fun f => sq_l g (sw_L p q m f n')) (F + 1)) (N + 1) ≤ sq_s (fun i => (d (p (i + 1)) + 1) * g (i + 1)) n' := by
  intro n'
  induction n' with
  | zero =>
    have : sq_s (fun m => (d m + 1) * sq_s (fun f => sq_l g (sw_L p q m f 0)) (F + 1)) (N + 1) ≤ 0 * (N + 1) := sq_const _ 0 _ (fun m _ => by
      have e : sq_s (fun f => sq_l g (sw_L p q m f 0)) (F + 1) ≤ 0 * (F + 1) := sq_const _ 0 _ (fun f _ => Nat.le_refl _)
      rw [Nat.zero_mul] at e
      have e' : sq_s (fun f => sq_l g (sw_L p q m f 0)) (F + 1) = 0 := by omega
      show (d m + 1) * sq_s (fun f => sq_l g (sw_L p q m f 0)) (F + 1) ≤ 0
      rw [e', Nat.mul_zero]; exact Nat.le_refl _)
    rw [Nat.zero_mul] at this
    omega
  | succ n' ih =>
    have a := sq_pt (g := fun m => (d m + 1) * sq_s (fun f => sq_l g (sw_L p q m f n')) (F + 1)) (h := fun m => (d m + 1) * sq_s (fun f => sq_l g (sw_L p q m f (n' + 1))) (F + 1)) (i0 := p (n' + 1)) (c := (d (p (n' + 1)) + 1) * g (n' + 1))
      (fun m hm => by
        show (d m + 1) * sq_s (fun f => sq_l g (sw_L p q m f (n' + 1))) (F + 1) ≤ (d m + 1) * sq_s (fun f => sq_l g (sw_L p q m f n')) (F + 1)
        have e : (fun f => sq_l g (sw_L p q m f (n' + 1))) = (fun f => sq_l g (sw_L p q m f n')) := by
          funext f
          rw [sw_L, if_neg (fun z => hm z.1.symm)]
        rw [e]; exact Nat.le_refl _)
      (by
        show (d (p (n' + 1)) + 1) * sq_s (fun f => sq_l g (sw_L p q (p (n' + 1)) f (n' + 1))) (F + 1) ≤ (d (p (n' + 1)) + 1) * sq_s (fun f => sq_l g (sw_L p q (p (n' + 1)) f n')) (F + 1) + (d (p (n' + 1)) + 1) * g (n' + 1)
        rw [← Nat.mul_add]
        apply Nat.mul_le_mul_left
        refine sq_pt (i0 := q (n' + 1)) (fun f hf => ?_) ?_ (F + 1)
        · show sq_l g (sw_L p q (p (n' + 1)) f (n' + 1)) ≤ sq_l g (sw_L p q (p (n' + 1)) f n')
          rw [sw_L, if_neg (fun z => hf z.2.symm)]; exact Nat.le_refl _
        · show sq_l g (sw_L p q (p (n' + 1)) (q (n' + 1)) (n' + 1)) ≤ sq_l g (sw_L p q (p (n' + 1)) (q (n' + 1)) n') + g (n' + 1)
          rw [sw_L, if_pos ⟨rfl, rfl⟩, sq_lapp]
          have : sq_l g [n' + 1] = g (n' + 1) := by unfold sq_l; rw [List.map_cons, List.map_nil, List.sum_cons, List.sum_nil, Nat.add_zero]
          omega) (N + 1)
    have b : sq_s (fun i => (d (p (i + 1)) + 1) * g (i + 1)) (n' + 1) = sq_s (fun i => (d (p (i + 1)) + 1) * g (i + 1)) n' + (d (p (n' + 1)) + 1) * g (n' + 1) := rfl
    omega
theorem se_total (W : sw_WF K C F D v n p q w d) (hD : D ≤ 6) : sq_s (se_lm K F v n p q w) (n + 1) ≤ 105 * n := by
  have h1 : sq_s (fun m => (d m + 1) * se_lm K F v n p q w m) (n + 1) ≤ sq_s (fun m => (d m + 1) * sq_s (fun f => sq_l (fun j => 15 + se_lm K F v n p q w j) (sw_L p q m f n)) (F + 1)) (n + 1) := by
    refine sq_le _ (fun m hm => Nat.mul_le_mul_left _ ?_)
    by_cases hms : sw_ms K F v p q w m
    · rw [se_lm_t hms]; exact se_msgb W (by omega)
    · rw [se_lm_f hms]; exact Nat.zero_le _
  have h2 := se_swap (d := d) (p := p) (q := q) (F := F) (fun j => 15 + se_lm K F v n p q w j) n n
  have hd : ∀ i, i < n → d (p (i + 1)) + 1 = d (i + 1) := fun i hi => ((W.2.2.2.1 (i + 1) (by omega) (by omega)).2.2.2.1).symm
  have h3 : sq_s (fun i => (d (p (i + 1)) + 1) * (15 + se_lm K F v n p q w (i + 1))) n ≤ sq_s (fun i => 15 * d (i + 1) + d (i + 1) * se_lm K F v n p q w (i + 1)) n := by
    refine sq_le _ (fun i hi => ?_)
    rw [hd i hi, Nat.mul_add, Nat.mul_comm]; exact Nat.le_refl _
  rw [sq_add] at h3
  have h4 : sq_s (fun m => (d m + 1) * se_lm K F v n p q w m) (n + 1) = sq_s (fun m => d m * se_lm K F v n p q w m) (n + 1) + sq_s (se_lm K F v n p q w) (n + 1) := by
    rw [← sq_add]
    congr 1
    funext m
    rw [Nat.add_mul, Nat.one_mul]
  have h5 := sq_shift (fun m => d m * se_lm K F v n p q w m) n
  have h6 : d 0 * se_lm K F v n p q w 0 = 0 := by rw [W.2.2.1, Nat.zero_mul]
  have h7 : sq_s (fun i => 15 * d (i + 1)) n ≤ 105 * n := by
    refine sq_const _ _ _ (fun i hi => ?_)
    have a := (W.2.2.2.1 (i + 1) (by omega) (by omega))
    have b := (W.2.2.2.2 (p (i + 1)) (by omega) a.2.2.1).2
    have := hd i hi
    omega
  have h8 : sq_s (fun m => d m * se_lm K F v n p q w m) (n + 1) = sq_s (fun i => d (i + 1) * se_lm K F v n p q w (i + 1)) n := by
    rw [h5]
    show d 0 * se_lm K F v n p q w 0 + _ = _
    rw [h6, Nat.zero_add]
  omega
theorem se_each (W : sw_WF K C F D v n p q w d) (hD : D ≤ 6) {m : Nat} (hm : m ≤ n) (hms : sw_ms K F v p q w m) : (se_enc K F v n p q w m).length ≤ 105 * n := by
  have a := se_total W hD
  have b := sq_mono (se_lm K F v n p q w) (a := m + 1) (b := n + 1) (by omega)
  have c : sq_s (se_lm K F v n p q w) (m + 1) = sq_s (se_lm K F v n p q w) m + se_lm K F v n p q w m := rfl
  rw [se_lm_t hms] at c
  omega
end
end
section
/-! X's sizes -/
def se_fm (k : Nat) : Nat := (k - 1) % 3 + 1
def se_tw (k : Nat) (x : Int32) : Int32 := if k % 3 = 2 then se_zz x else x
theorem se_payv {k : Nat} (h : k % 3 ≠ 0) (x : Int32) : se_pay k x = se_var (se_tw k x) := by
  unfold se_pay se_tw
  rw [if_neg h]
  split <;> rfl
theorem se_pay4 {k : Nat} (h : k % 3 = 0) (x : Int32) : (se_pay k x).length = 4 := by
  unfold se_pay
  rw [if_pos h]; rfl
theorem se_ln0 : ∀ k, se_ln k 0 = 1 := by
  intro k
  cases k with
  | zero => rfl
  | succ k => rw [se_ln, if_pos (by omega)]
theorem se_fl4 {k : Nat} (h : k % 3 = 0) {w : Nat → Int32} {l : List Nat} : (l.flatMap (fun j => se_pay k (w j))).length = 4 * l.length := by
  induction l with
  | nil => rfl
  | cons a l ih => rw [List.flatMap_cons, List.length_append, se_pay4 h, ih, List.length_cons]; omega
theorem se_dropc {l : List Nat} {i j : Nat} (h : l[i]? = some j) : l.drop i = j :: l.drop (i + 1) := by
  obtain ⟨a, b⟩ := List.getElem?_eq_some_iff.mp h
  rw [List.drop_eq_getElem_cons a, b]
section
variable {f_capacity f_maxField f_maxDepth f_spare f_writeAt f_level f_readAt f_broken : Int32} {a_kinds a_held a_storeOf a_cursor a_items a_word a_next a_schemaOf a_parentOf a_depthOf a_head a_tail a_length a_bytes a_filled a_sizeOf a_placeOf a_match a_regionEnd a_regionMessage : Nat → Int32} {K : Nat → Nat} {C F D v n t : Nat} {p q d : Nat → Nat} {w : Nat → Int32} {post : Int32 → Prop}
theorem sx_vs5 {x : Int32} : ∀ k i cnt, i + k = 4 → post (nI (cnt + se_ln k (x.toBitVec.toNat / 2 ^ (7 * i)) - 1)) → wX_varintSize_5 post x f_capacity f_maxField f_maxDepth f_spare f_writeAt f_level f_readAt f_broken a_kinds a_held a_storeOf a_cursor a_items a_word a_next a_schemaOf a_parentOf a_depthOf a_head a_tail a_length a_bytes a_filled a_sizeOf a_placeOf a_match a_regionEnd a_regionMessage (k + 1) (nI cnt) (nI (7 * (i + 1))) := by
  intro k
  induction k with
  | zero =>
    intro i cnt hi h
    obtain rfl : i = 4 := by omega
    exact br_t (nI_lt (a := 28) (b := 35) (by omega) (by omega)) h
  | succ k ih =>
    intro i cnt hi h
    have e7 : nI (7 * (i + 1)) + 7 = nI (7 * (i + 1 + 1)) := by
      rw [show (7 : Int32) = nI 7 from rfl, nI_add]
      exact congrArg nI (by omega)
    have ey : x.toBitVec.toNat / 2 ^ (7 * (i + 1)) = x.toBitVec.toNat / 2 ^ (7 * i) / 128 := by
      rw [Nat.mul_add, Nat.pow_add, Nat.div_div_eq_div_mul]
    rw [wX_varintSize_5]
    dsimp only
    rw [e7, nI_1 cnt]
    refine br_f (nI_nlt (a := 28) (b := 7 * (i + 1)) (by omega) (by omega)) (sn_br (se_sh0 x (by omega)) (fun z => nm_e (ih (i + 1) cnt (by omega) ?_)) (fun z => nm_e (nm_e (ih (i + 1) (cnt + 1) (by omega) ?_))))
    · rw [ey] at z ⊢
      generalize x.toBitVec.toNat / 2 ^ (7 * i) = Y at h z ⊢
      rw [z, se_ln0]
      rw [se_ln, if_pos (by omega)] at h
      exact h
    · rw [ey] at z ⊢
      generalize x.toBitVec.toNat / 2 ^ (7 * i) = Y at h z ⊢
      rw [se_ln, if_neg (by omega)] at h
      have : cnt + (1 + se_ln k (Y / 128)) - 1 = cnt + 1 + se_ln k (Y / 128) - 1 := by omega
      rw [this] at h; exact h
theorem sx_varintSize {x : Int32} (h : post (nI (se_var x).length)) : wpX_varintSize post (f_capacity, f_maxField, f_maxDepth, f_spare, f_writeAt, f_level, f_readAt, f_broken, a_kinds, a_held, a_storeOf, a_cursor, a_items, a_word, a_next, a_schemaOf, a_parentOf, a_depthOf, a_head, a_tail, a_length, a_bytes, a_filled, a_sizeOf, a_placeOf, a_match, a_regionEnd, a_regionMessage) x := by
  refine ⟨5, sx_vs5 4 0 1 (by omega) ?_⟩
  rw [se_var, se_vbl] at h
  have : 1 + se_ln 4 (x.toBitVec.toNat / 2 ^ (7 * 0)) - 1 = se_ln 4 x.toBitVec.toNat := by
    rw [Nat.mul_zero, Nat.pow_zero, Nat.div_one]; omega
  rw [this]; exact h
theorem sx_formOf {k : Nat} (h1 : 1 ≤ k) (hk : k < 2 ^ 31) (h : post (nI (se_fm k))) : wpX_formOf post (f_capacity, f_maxField, f_maxDepth, f_spare, f_writeAt, f_level, f_readAt, f_broken, a_kinds, a_held, a_storeOf, a_cursor, a_items, a_word, a_next, a_schemaOf, a_parentOf, a_depthOf, a_head, a_tail, a_length, a_bytes, a_filled, a_sizeOf, a_placeOf, a_match, a_regionEnd, a_regionMessage) (nI k) := by
  unfold wpX_formOf
  dsimp only
  have a : nI k - 1 = nI (k - 1) := pk_sub (b := 1) h1
  have b : nI (k - 1) - nI (k - 1) / 3 * 3 = nI ((k - 1) % 3) := pk_rem (a := k - 1) (d := 3) (by omega) (by omega) (by omega)
  rw [a, b, nI_1]
  exact ⟨by decide, h⟩
theorem sx_toWire {k : Nat} (h1 : 1 ≤ k) {x : Int32} (h : post (se_tw k x)) : wpX_toWire post (f_capacity, f_maxField, f_maxDepth, f_spare, f_writeAt, f_level, f_readAt, f_broken, a_kinds, a_held, a_storeOf, a_cursor, a_items, a_word, a_next, a_schemaOf, a_parentOf, a_depthOf, a_head, a_tail, a_length, a_bytes, a_filled, a_sizeOf, a_placeOf, a_match, a_regionEnd, a_regionMessage) (nI (se_fm k)) x := by
  unfold wpX_toWire
  unfold se_tw at h
  refine pk_eq (se_fm k) 2 (fun z => ?_) (fun z => ?_) (ha := by unfold se_fm; omega)
  · unfold se_fm at z; rw [if_pos (by omega)] at h; exact h
  · unfold se_fm at z; rw [if_neg (by omega)] at h; exact h
theorem sx_ownWire {k : Nat} (h1 : 1 ≤ k) (hk : k < 2 ^ 31) (h : post (nI (se_own k))) : wpX_ownWire post (f_capacity, f_maxField, f_maxDepth, f_spare, f_writeAt, f_level, f_readAt, f_broken, a_kinds, a_held, a_storeOf, a_cursor, a_items, a_word, a_next, a_schemaOf, a_parentOf, a_depthOf, a_head, a_tail, a_length, a_bytes, a_filled, a_sizeOf, a_placeOf, a_match, a_regionEnd, a_regionMessage) (nI k) := by
  unfold wpX_ownWire
  refine sx_formOf h1 hk ?_
  unfold se_own at h
  refine pk_eq (se_fm k) 3 (fun z => ?_) (fun z => ?_) (ha := by unfold se_fm; omega)
  · unfold se_fm at z; rw [if_pos (by omega)] at h; exact h
  · unfold se_fm at z; rw [if_neg (by omega)] at h; exact h
theorem sx_ps46 (W : sw_WF K C F D v n p q w d) (hC : C ≤ 120) (R : sx_R K F t v n p q w d a_items a_word a_next a_schemaOf a_parentOf a_depthOf a_head a_tail a_length) (ht : t < 3) {m f k : Nat} (hm : m ≤ n) (hms : sw_ms K F v p q w m) (hf : f ≤ 20) (hk : ¬ 10 ≤ sw_kd K F (sw_sc v w m) f) (h1 : 1 ≤ k) (h3 : k % 3 ≠ 0) :
    ∀ g i acc c, i + g = (sw_L p q m f n).length → (∀ j, (sw_L p q m f n)[i]? = some j → c = nI (t * 121 + j)) → post (nI (acc + (((sw_L p q m f n).drop i).flatMap (fun j => se_pay k (w j))).length)) →
      wX_payloadsSize_46 post (nI ((t * 121 + m) * 21 + f)) (nI (se_fm k)) f_capacity f_maxField f_maxDepth f_spare f_writeAt f_level f_readAt f_broken a_kinds a_held a_storeOf a_cursor a_items a_word a_next a_schemaOf a_parentOf a_depthOf a_head a_tail a_length a_bytes a_filled a_sizeOf a_placeOf a_match a_regionEnd a_regionMessage (g + 1) (nI acc) c (nI i) := by
  have hn := W.1
  have hlen := sw_len (p := p) (q := q) (m := m) (f := f) (n := n)
  obtain ⟨c1, c2, c3, c4⟩ := R.2.2.2.2 m f hm hms hf
  have ea : (nI ((t * 121 + m) * 21 + f)).toNatClampNeg = (t * 121 + m) * 21 + f := nI_clamp (by omega)
  have hia : vp_in (nI ((t * 121 + m) * 21 + f)) 7623 := vp_in_nI (by omega) (by omega)
  intro g
  induction g with
  | zero =>
    intro i acc c hi hc h
    unfold wX_payloadsSize_46
    rw [ea, c1]
    rw [List.drop_eq_nil_of_le (by omega)] at h
    exact ⟨hia, br_t (nI_le (by omega) (by omega)) h⟩
  | succ g ih =>
    intro i acc c hi hc h
    obtain ⟨j, hj⟩ := sw_nthex (l := sw_L p q m f n) (i := i) (by omega)
    obtain rfl := hc j hj
    have jm := sw_mem.mp (sw_nthmem hj)
    have ej : (nI (t * 121 + j)).toNatClampNeg = t * 121 + j := nI_clamp (by omega)
    have hij : vp_in (nI (t * 121 + j)) 363 := vp_in_nI (by omega) (by omega)
    rw [se_dropc hj, List.flatMap_cons, List.length_append, ← Nat.add_assoc, se_payv h3] at h
    rw [wX_payloadsSize_46]
    dsimp only
    rw [ea, c1, ej, R.2.2.1 j jm.1 jm.2.1 (fun z => hk ((sw_msL W (sw_nthmem hj)).mp z)), nI_1 i]
    refine ⟨hia, br_f (nI_ge (by omega) (by omega)) ⟨hij, sx_toWire h1 (sx_varintSize ?_)⟩⟩
    rw [nI_add]
    exact nm_e ⟨hij, nm_e (nm_e (ih (i + 1) _ _ (by omega) (fun jj hjj => c4 i j jj hj hjj) h))⟩
theorem sx_payloadsSize (W : sw_WF K C F D v n p q w d) (hC : C ≤ 120) (R : sx_R K F t v n p q w d a_items a_word a_next a_schemaOf a_parentOf a_depthOf a_head a_tail a_length) (ht : t < 3) {m f k : Nat} (hm : m ≤ n) (hms : sw_ms K F v p q w m) (hf : f ≤ 20) (hk : ¬ 10 ≤ sw_kd K F (sw_sc v w m) f) (h1 : 1 ≤ k) (hk9 : k ≤ 9)
    (h : post (nI (((sw_L p q m f n)).flatMap (fun j => se_pay k (w j))).length)) : wpX_payloadsSize post (f_capacity, f_maxField, f_maxDepth, f_spare, f_writeAt, f_level, f_readAt, f_broken, a_kinds, a_held, a_storeOf, a_cursor, a_items, a_word, a_next, a_schemaOf, a_parentOf, a_depthOf, a_head, a_tail, a_length, a_bytes, a_filled, a_sizeOf, a_placeOf, a_match, a_regionEnd, a_regionMessage) (nI (t * 121 + m)) (nI f) (nI k) := by
  have hn := W.1
  have hlen := sw_len (p := p) (q := q) (m := m) (f := f) (n := n)
  obtain ⟨c1, c2, c3, c4⟩ := R.2.2.2.2 m f hm hms hf
  have ea : (nI ((t * 121 + m) * 21 + f)).toNatClampNeg = (t * 121 + m) * 21 + f := nI_clamp (by omega)
  have hia : vp_in (nI ((t * 121 + m) * 21 + f)) 7623 := vp_in_nI (by omega) (by omega)
  unfold wpX_payloadsSize
  dsimp only
  rw [sn_21]
  refine nm_e (sx_formOf h1 (by omega) ?_)
  rw [ea, c1]
  refine pk_eq (se_fm k) 3 (fun z => ⟨hia, ?_⟩) (fun z => ⟨hia, nm_e ⟨(sw_L p q m f n).length + 1, ?_⟩⟩) (ha := by unfold se_fm; omega)
  · unfold se_fm at z
    rw [se_fl4 (by omega)] at h
    rw [show (4 : Int32) = nI 4 from rfl, pk_mul]; exact h
  · unfold se_fm at z
    refine sx_ps46 W hC R ht hm hms hf hk h1 (by omega) (sw_L p q m f n).length 0 0 _ (by omega) c2 ?_
    rw [List.drop_zero, Nat.zero_add]; exact h
theorem sx_fs46 (W : sw_WF K C F D v n p q w d) (hC : C ≤ 120) (R : sx_R K F t v n p q w d a_items a_word a_next a_schemaOf a_parentOf a_depthOf a_head a_tail a_length) (ht : t < 3) {m f tg : Nat} (hm : m ≤ n) (hms : sw_ms K F v p q w m) (hf : f ≤ 20)
    (hz : ∀ j, j ∈ sw_L p q m f n → a_sizeOf (t * 121 + j) = nI (se_enc K F v n p q w j).length) (htg : tg = (se_var (nI (f * 8 + 2))).length) :
    ∀ g i acc c, i + g = (sw_L p q m f n).length → (∀ j, (sw_L p q m f n)[i]? = some j → c = nI (t * 121 + j)) → post (nI (acc + (((sw_L p q m f n).drop i).flatMap (fun j => se_var (nI (f * 8 + 2)) ++ (se_var (nI (se_enc K F v n p q w j).length) ++ se_enc K F v n p q w j))).length)) →
      wX_fieldSize_46 post (nI tg) (nI ((t * 121 + m) * 21 + f)) f_capacity f_maxField f_maxDepth f_spare f_writeAt f_level f_readAt f_broken a_kinds a_held a_storeOf a_cursor a_items a_word a_next a_schemaOf a_parentOf a_depthOf a_head a_tail a_length a_bytes a_filled a_sizeOf a_placeOf a_match a_regionEnd a_regionMessage (g + 1) (nI acc) c (nI i) := by
  have hn := W.1
  have hlen := sw_len (p := p) (q := q) (m := m) (f := f) (n := n)
  obtain ⟨c1, c2, c3, c4⟩ := R.2.2.2.2 m f hm hms hf
  have ea : (nI ((t * 121 + m) * 21 + f)).toNatClampNeg = (t * 121 + m) * 21 + f := nI_clamp (by omega)
  have hia : vp_in (nI ((t * 121 + m) * 21 + f)) 7623 := vp_in_nI (by omega) (by omega)
  intro g
  induction g with
  | zero =>
    intro i acc c hi hc h
    unfold wX_fieldSize_46
    rw [ea, c1]
    rw [List.drop_eq_nil_of_le (by omega)] at h
    exact ⟨hia, br_t (nI_le (by omega) (by omega)) h⟩
  | succ g ih =>
    intro i acc c hi hc h
    obtain ⟨j, hj⟩ := sw_nthex (l := sw_L p q m f n) (i := i) (by omega)
    obtain rfl := hc j hj
    have jm := sw_mem.mp (sw_nthmem hj)
    have ej : (nI (t * 121 + j)).toNatClampNeg = t * 121 + j := nI_clamp (by omega)
    have hij : vp_in (nI (t * 121 + j)) 363 := vp_in_nI (by omega) (by omega)
    rw [se_dropc hj, List.flatMap_cons, List.length_append, List.length_append, List.length_append, ← htg] at h
    rw [wX_fieldSize_46]
    dsimp only
    rw [ea, c1, ej, hz j (sw_nthmem hj), nI_1 i]
    refine ⟨hia, br_f (nI_ge (by omega) (by omega)) ⟨hij, sx_varintSize ⟨hij, ?_⟩⟩⟩
    rw [nI_add, nI_add, nI_add]
    refine nm_e ⟨hij, nm_e (nm_e (ih (i + 1) _ _ (by omega) (fun jj hjj => c4 i j jj hj hjj) ?_))⟩
    have e : acc + (tg + (se_var (nI (se_enc K F v n p q w j).length)).length + (se_enc K F v n p q w j).length) + (((sw_L p q m f n).drop (i + 1)).flatMap (fun j => se_var (nI (f * 8 + 2)) ++ (se_var (nI (se_enc K F v n p q w j).length) ++ se_enc K F v n p q w j))).length = acc + (tg + ((se_var (nI (se_enc K F v n p q w j).length)).length + (se_enc K F v n p q w j).length) + (((sw_L p q m f n).drop (i + 1)).flatMap (fun j => se_var (nI (f * 8 + 2)) ++ (se_var (nI (se_enc K F v n p q w j).length) ++ se_enc K F v n p q w j))).length) := by omega
    rw [e]; exact h
end
end
section
theorem se_ln4 {y : Nat} (h : y < 16384) : se_ln 4 y = if y < 128 then 1 else 2 := by
  rw [se_ln]
  by_cases c : y < 128
  · rw [if_pos c, if_pos c]
  · rw [if_neg c, if_neg c, se_ln, if_pos (by omega)]
theorem se_tag {f a : Nat} (hf : f ≤ 20) (ha : a < 8) : (se_var (nI (f * 8 + a))).length = (se_var (nI (f * 8))).length := by
  rw [se_var, se_var, se_vbl, se_vbl, pk_tn (by omega), pk_tn (by omega), se_ln4 (by omega), se_ln4 (by omega)]
  by_cases h : f * 8 < 128
  · rw [if_pos (by omega), if_pos h]
  · rw [if_neg (by omega), if_neg h]
theorem se_flapp {A : List Int32} {g : Nat → List Int32} {l : List Nat} : (l.flatMap (fun j => A ++ g j)).length = A.length * l.length + (l.flatMap g).length := by
  induction l with
  | nil => rfl
  | cons a l ih => rw [List.flatMap_cons, List.flatMap_cons, List.length_append, List.length_append, List.length_append, ih, List.length_cons, Nat.mul_add, Nat.mul_one]; omega
section
variable {f_capacity f_maxField f_maxDepth f_spare f_writeAt f_level f_readAt f_broken : Int32} {a_kinds a_held a_storeOf a_cursor a_items a_word a_next a_schemaOf a_parentOf a_depthOf a_head a_tail a_length a_bytes a_filled a_sizeOf a_placeOf a_match a_regionEnd a_regionMessage : Nat → Int32} {K : Nat → Nat} {C F D v n t : Nat} {p q d : Nat → Nat} {w : Nat → Int32} {post : Int32 → Prop}
theorem sx_fieldSize (X : sw_Cx K C F D f_capacity f_maxField f_maxDepth a_kinds) (W : sw_WF K C F D v n p q w d) (R : sx_R K F t v n p q w d a_items a_word a_next a_schemaOf a_parentOf a_depthOf a_head a_tail a_length) (ht : t < 3) {m f : Nat} (hm : m ≤ n) (hms : sw_ms K F v p q w m) (hf1 : 1 ≤ f) (hf : f ≤ F) (hl : sw_L p q m f n ≠ [])
    (hz : ∀ j, j ∈ sw_L p q m f n → sw_ms K F v p q w j → a_sizeOf (t * 121 + j) = nI (se_enc K F v n p q w j).length)
    (h : post (nI (se_fld w (se_enc K F v n p q w) (sw_kd K F (sw_sc v w m) f) f (sw_L p q m f n)).length)) : wpX_fieldSize post (f_capacity, f_maxField, f_maxDepth, f_spare, f_writeAt, f_level, f_readAt, f_broken, a_kinds, a_held, a_storeOf, a_cursor, a_items, a_word, a_next, a_schemaOf, a_parentOf, a_depthOf, a_head, a_tail, a_length, a_bytes, a_filled, a_sizeOf, a_placeOf, a_match, a_regionEnd, a_regionMessage) (nI (t * 121 + m)) (nI f) := by
  have X0 := X
  obtain ⟨x1, x2, x3, x4, x5, x6, e1, e2, e3, x7⟩ := X
  have hn := W.1
  have hlen := sw_len (p := p) (q := q) (m := m) (f := f) (n := n)
  obtain ⟨c1, c2, c3, c4⟩ := R.2.2.2.2 m f hm hms (by omega)
  have hs9 := (sw_sc_lt W hm hms).1
  have hk15 := sw_kd_le (K := K) (F := F) (s := sw_sc v w m) (f := f) (fun i h => (x7 i h).1) x4 hs9
  have hk1 : 1 ≤ sw_kd K F (sw_sc v w m) f := by
    apply Classical.byContradiction
    intro z
    exact hl (sw_nok W hf1 (by omega))
  have ea : (nI ((t * 121 + m) * 21 + f)).toNatClampNeg = (t * 121 + m) * 21 + f := nI_clamp (by omega)
  have hia : vp_in (nI ((t * 121 + m) * 21 + f)) 7623 := vp_in_nI (by omega) (by omega)
  unfold wpX_fieldSize
  refine sx_kindIn X0 W R ht hm hms (by omega) ?_
  rw [sn_m8]
  refine sx_varintSize ?_
  rw [sn_21]
  refine nm_e ?_
  rw [ea, c1]
  unfold se_fld at h
  rw [if_neg hl] at h
  refine pk_lt (sw_kd K F (sw_sc v w m) f) 10 (fun z10 => ?_) (fun z10 => ⟨hia, nm_e ⟨(sw_L p q m f n).length + 1, ?_⟩⟩)
  · rw [if_neg (by omega)] at h
    refine sx_payloadsSize W x2 R ht hm hms (by omega) (by omega) hk1 (by omega) ?_
    refine pk_lt (sw_kd K F (sw_sc v w m) f) 7 (fun z7 => ⟨hia, ?_⟩) (fun z7 => sx_varintSize ?_)
    · rw [if_neg (by omega), se_flapp, se_tag (by omega) (by unfold se_own; split <;> omega)] at h
      rw [pk_mul, nI_add]; exact h
    · rw [if_pos z7, List.length_append, List.length_append, se_tag (by omega) (by omega), ← Nat.add_assoc] at h
      rw [nI_add, nI_add]; exact h
  · rw [if_pos z10] at h
    refine sx_fs46 W x2 R ht hm hms (by omega) (fun j hj => hz j hj ((sw_msL W hj).mpr z10)) (se_tag (by omega) (by omega)).symm (sw_L p q m f n).length 0 0 _ (by omega) c2 ?_
    rw [List.drop_zero, Nat.zero_add]; exact h
theorem sx_ms12 (X : sw_Cx K C F D f_capacity f_maxField f_maxDepth a_kinds) (W : sw_WF K C F D v n p q w d) (R : sx_R K F t v n p q w d a_items a_word a_next a_schemaOf a_parentOf a_depthOf a_head a_tail a_length) (ht : t < 3) {m : Nat} (hm : m ≤ n) (hms : sw_ms K F v p q w m)
    (hz : ∀ f j, j ∈ sw_L p q m f n → sw_ms K F v p q w j → a_sizeOf (t * 121 + j) = nI (se_enc K F v n p q w j).length) :
    ∀ k f acc, f + k = F + 1 → 1 ≤ f → post (nI (acc + (se_flds K F v n p q w (se_enc K F v n p q w) m k f).length)) → wX_messageSize_12 post (nI (t * 121 + m)) f_capacity f_maxField f_maxDepth f_spare f_writeAt f_level f_readAt f_broken a_kinds a_held a_storeOf a_cursor a_items a_word a_next a_schemaOf a_parentOf a_depthOf a_head a_tail a_length a_bytes a_filled a_sizeOf a_placeOf a_match a_regionEnd a_regionMessage (k + 1) (nI acc) (nI f) := by
  have X0 := X
  obtain ⟨x1, x2, x3, x4, x5, x6, e1, e2, e3, x7⟩ := X
  have hn := W.1
  intro k
  induction k with
  | zero =>
    intro f acc hf h1 h
    exact br_t (by rw [e2]; exact nI_lt (by omega) (by omega)) h
  | succ k ih =>
    intro f acc hf h1 h
    have hlen := sw_len (p := p) (q := q) (m := m) (f := f) (n := n)
    obtain ⟨c1, c2, c3, c4⟩ := R.2.2.2.2 m f hm hms (by omega)
    rw [wX_messageSize_12]
    dsimp only
    rw [sn_21, nI_clamp (by omega), c1, nI_1 f]
    refine br_f (by rw [e2]; exact nI_nlt (by omega) (by omega)) ⟨vp_in_nI (by omega) (by omega), pk_le (sw_L p q m f n).length 0 (fun z => ?_) (fun z => ?_)⟩
    · refine nm_e (ih (f + 1) acc (by omega) (by omega) ?_)
      have e : sw_L p q m f n = [] := List.eq_nil_of_length_eq_zero (by omega)
      have e' : se_fld w (se_enc K F v n p q w) (sw_kd K F (sw_sc v w m) f) f (sw_L p q m f n) = [] := by rw [e, se_fld, if_pos rfl]
      rw [se_flds, e', List.nil_append] at h
      exact h
    · refine sx_fieldSize X0 W R ht hm hms h1 (by omega) (fun y => by rw [y] at z; exact absurd z (Nat.lt_irrefl 0)) (hz f) ?_
      rw [nI_add]
      refine nm_e (nm_e (ih (f + 1) _ (by omega) (by omega) ?_))
      rw [se_flds, List.length_append, ← Nat.add_assoc] at h
      exact h
theorem sx_messageSize (X : sw_Cx K C F D f_capacity f_maxField f_maxDepth a_kinds) (W : sw_WF K C F D v n p q w d) (R : sx_R K F t v n p q w d a_items a_word a_next a_schemaOf a_parentOf a_depthOf a_head a_tail a_length) (ht : t < 3) {m : Nat} (hm : m ≤ n) (hms : sw_ms K F v p q w m)
    (hz : ∀ f j, j ∈ sw_L p q m f n → sw_ms K F v p q w j → a_sizeOf (t * 121 + j) = nI (se_enc K F v n p q w j).length)
    (h : post (nI (se_enc K F v n p q w m).length)) : wpX_messageSize post (f_capacity, f_maxField, f_maxDepth, f_spare, f_writeAt, f_level, f_readAt, f_broken, a_kinds, a_held, a_storeOf, a_cursor, a_items, a_word, a_next, a_schemaOf, a_parentOf, a_depthOf, a_head, a_tail, a_length, a_bytes, a_filled, a_sizeOf, a_placeOf, a_match, a_regionEnd, a_regionMessage) (nI (t * 121 + m)) := by
  have hn := W.1
  have x2 := X.2.1
  have c1 := (R.2.2.2.2 m 0 hm hms (by omega)).1
  rw [Nat.add_zero] at c1
  unfold wpX_messageSize
  dsimp only
  rw [sn_m21, nI_clamp (by omega), c1]
  refine ⟨vp_in_nI (by omega) (by omega), nm_e ⟨F + 1, ?_⟩⟩
  refine sx_ms12 X W R ht hm hms hz F 1 _ (by omega) (by omega) ?_
  rw [se_eq (sw_up_of W) hm, se_msg, List.length_append, List.length_map, Nat.add_comm] at h
  exact h
end
section
variable {f_capacity f_maxField f_maxDepth f_spare f_writeAt f_level f_readAt f_broken : Int32} {a_kinds a_held a_storeOf a_cursor a_items a_word a_next a_schemaOf a_parentOf a_depthOf a_head a_tail a_length a_bytes a_filled a_sizeOf a_placeOf a_match a_regionEnd a_regionMessage : Nat → Int32} {K : Nat → Nat} {C F D v n t : Nat} {p q d : Nat → Nat} {w : Nat → Int32} {post : Int32 → SX → Prop}
theorem sx_enc59 (X : sw_Cx K C F D f_capacity f_maxField f_maxDepth a_kinds) (W : sw_WF K C F D v n p q w d) (R : sx_R K F t v n p q w d a_items a_word a_next a_schemaOf a_parentOf a_depthOf a_head a_tail a_length) (ht : t < 3) {b : Nat} {x4 : Int32}
    (h : ∀ sz : Nat → Int32, (∀ j, j ≤ n → sw_ms K F v p q w j → sz (t * 121 + j) = nI (se_enc K F v n p q w j).length) → wX_encode_59 post (nI b) (nI (t * 121)) x4 f_capacity f_maxField f_maxDepth f_spare f_writeAt f_level f_readAt f_broken 1 (nI (t * 121) + (-1)) a_kinds a_held a_storeOf a_cursor a_items a_word a_next a_schemaOf a_parentOf a_depthOf a_head a_tail a_length a_bytes a_filled sz a_placeOf a_match a_regionEnd a_regionMessage) :
    ∀ (k : Nat) (sz : Nat → Int32), k ≤ n → (∀ j, k < j → j ≤ n → sw_ms K F v p q w j → sz (t * 121 + j) = nI (se_enc K F v n p q w j).length) →
      wX_encode_59 post (nI b) (nI (t * 121)) x4 f_capacity f_maxField f_maxDepth f_spare f_writeAt f_level f_readAt f_broken (k + 2) (nI (t * 121 + k)) a_kinds a_held a_storeOf a_cursor a_items a_word a_next a_schemaOf a_parentOf a_depthOf a_head a_tail a_length a_bytes a_filled sz a_placeOf a_match a_regionEnd a_regionMessage := by
  have X0 := X
  obtain ⟨x1, x2, x3, x4', x5, x6, e1, e2, e3, x7⟩ := X
  have hn := W.1
  have U := sw_up_of W
  intro k
  induction k with
  | zero =>
    intro sz hk hz
    rw [wX_encode_59]
    dsimp only
    rw [nI_clamp (n := t * 121 + 0) (by omega), (R.2.1 0 (by omega)).1 sw_ms0]
    refine br_f (nI_nlt (by omega) (by omega)) ⟨vp_in_nI (by omega) (by omega), br_f (nI_pos (by have := (sw_sc_lt W (Nat.zero_le _) sw_ms0).1; omega)) ?_⟩
    refine sx_messageSize (a_sizeOf := sz) X0 W R ht (Nat.zero_le _) sw_ms0 (fun f j hj hjm => ?_) ⟨vp_in_nI (by omega) (by omega), nm_e (nm_e ?_)⟩
    · have u := sw_mem.mp hj
      exact hz j (by omega) u.2.1 hjm
    · rw [Nat.add_zero]
      refine h _ (fun j hj hjm => ?_)
      by_cases e : j = 0
      · subst e; exact pk_us
      · rw [pk_un (by omega)]; exact hz j (by omega) hj hjm
  | succ k ih =>
    intro sz hk hz
    have em : nI (t * 121 + (k + 1)) + (-1) = nI (t * 121 + k) := pk_m1 _
    rw [wX_encode_59]
    dsimp only
    rw [nI_clamp (n := t * 121 + (k + 1)) (by omega), em]
    refine br_f (nI_nlt (by omega) (by omega)) ⟨vp_in_nI (by omega) (by omega), ?_⟩
    by_cases hms : sw_ms K F v p q w (k + 1)
    · rw [(R.2.1 (k + 1) hk).1 hms]
      refine br_f (nI_pos (by have := (sw_sc_lt W hk hms).1; omega)) ?_
      refine sx_messageSize (a_sizeOf := sz) X0 W R ht hk hms (fun f j hj hjm => ?_) ⟨vp_in_nI (by omega) (by omega), nm_e (nm_e (ih _ (by omega) (fun j hj1 hj hjm => ?_)))⟩
      · have u := sw_mem.mp hj
        have := U j u.1 u.2.1
        exact hz j (by omega) u.2.1 hjm
      · by_cases e : j = k + 1
        · subst e; exact pk_us
        · rw [pk_un (by omega)]; exact hz j (by omega) hj hjm
    · rw [(R.2.1 (k + 1) hk).2 hms]
      refine br_t (by decide) (nm_e (ih sz (by omega) (fun j hj1 hj hjm => ?_)))
      by_cases e : j = k + 1
      · subst e; exact absurd hjm hms
      · exact hz j (by omega) hj hjm
end
end
section
/-! X's writes of bytes -/
section
variable {f_capacity f_maxField f_maxDepth f_spare f_writeAt f_level f_readAt f_broken : Int32} {a_kinds a_held a_storeOf a_cursor a_items a_word a_next a_schemaOf a_parentOf a_depthOf a_head a_tail a_length a_bytes a_filled a_sizeOf a_placeOf a_match a_regionEnd a_regionMessage : Nat → Int32} {bb : Nat → Int32} {post : SX → Prop}
theorem sx_writeByte {a : Nat} (ha : a < 240) {x : Int32} (h : post (f_capacity, f_maxField, f_maxDepth, f_spare, nI (a + 1), f_level, f_readAt, f_broken, a_kinds, a_held, a_storeOf, a_cursor, a_items, a_word, a_next, a_schemaOf, a_parentOf, a_depthOf, a_head, a_tail, a_length, upd bb a x, a_filled, a_sizeOf, a_placeOf, a_match, a_regionEnd, a_regionMessage)) : wpX_writeByte post (f_capacity, f_maxField, f_maxDepth, f_spare, nI a, f_level, f_readAt, f_broken, a_kinds, a_held, a_storeOf, a_cursor, a_items, a_word, a_next, a_schemaOf, a_parentOf, a_depthOf, a_head, a_tail, a_length, bb, a_filled, a_sizeOf, a_placeOf, a_match, a_regionEnd, a_regionMessage) x := by
  unfold wpX_writeByte
  dsimp only
  rw [nI_clamp (by omega), nI_1]
  exact br_f (nI_pos (by omega)) (br_f (nI_ge (b := 240) ha (by omega)) ⟨vp_in_nI ha (by omega), nm_e (nm_e h)⟩)
theorem sx_wv11 {s : Nat} (hs : s < 100) : ∀ (g : Nat) (y : Int32) (k a : Nat) (bb : Nat → Int32), s + 1 = k + (se_vb g y).length → y.toBitVec.toNat < 2 ^ (7 * (g + 1)) → a + (se_vb g y).length ≤ 240 →
    post (f_capacity, f_maxField, f_maxDepth, f_spare, nI (a + (se_vb g y).length), f_level, f_readAt, f_broken, a_kinds, a_held, a_storeOf, a_cursor, a_items, a_word, a_next, a_schemaOf, a_parentOf, a_depthOf, a_head, a_tail, a_length, sb_wr bb a (se_vb g y), a_filled, a_sizeOf, a_placeOf, a_match, a_regionEnd, a_regionMessage) → wX_writeVarint_11 post (nI s) (g + 1) y (nI k) f_capacity f_maxField f_maxDepth f_spare (nI a) f_level f_readAt f_broken a_kinds a_held a_storeOf a_cursor a_items a_word a_next a_schemaOf a_parentOf a_depthOf a_head a_tail a_length bb a_filled a_sizeOf a_placeOf a_match a_regionEnd a_regionMessage := by
  intro g
  induction g with
  | zero =>
    intro y k a bb hk hy ha h
    have e1 : (se_vb 0 y).length = 1 := rfl
    rw [e1] at hk ha
    refine br_t (nI_le (by omega) (by omega)) (sx_writeByte (by omega) ?_)
    rw [se_127 (by simpa using hy)]
    exact h
  | succ g ih =>
    intro y k a bb hk hy ha h
    by_cases c : y.toBitVec.toNat < 128
    · have e0 : se_vb (g + 1) y = [y] := by rw [se_vb, if_pos ((se_m128 y).mpr c)]
      rw [e0] at hk ha h
      rw [List.length_singleton] at hk ha h
      refine br_t (nI_le (by omega) (by omega)) (sx_writeByte (by omega) ?_)
      rw [se_127 c]; exact h
    · have e0 : se_vb (g + 1) y = ((y &&& 127) ||| 128) :: se_vb g (se_s7 y) := by rw [se_vb, if_neg (fun z => c ((se_m128 y).mp z))]
      rw [e0] at hk ha h
      rw [List.length_cons] at hk ha h
      have l1 := (se_ln1 g (se_s7 y).toBitVec.toNat).1
      rw [← se_vbl] at l1
      rw [wX_writeVarint_11]
      dsimp only
      rw [nI_1 k]
      refine br_f (nI_ge (by omega) (by omega)) (sx_writeByte (by omega) ?_)
      refine nm_e (nm_e (ih (se_s7 y) (k + 1) (a + 1) _ (by omega) ?_ (by omega) ?_))
      · rw [se_s7n]
        have : 2 ^ (7 * (g + 1 + 1)) = 2 ^ (7 * (g + 1)) * 128 := by rw [Nat.mul_add, Nat.pow_add]
        rw [this] at hy
        exact Nat.div_lt_of_lt_mul (by rw [Nat.mul_comm]; exact hy)
      · have e : a + 1 + (se_vb g (se_s7 y)).length = a + ((se_vb g (se_s7 y)).length + 1) := by omega
        rw [e]; exact h
theorem sx_writeVarint {a : Nat} {x : Int32} (ha : a + (se_var x).length ≤ 240) (h : post (f_capacity, f_maxField, f_maxDepth, f_spare, nI (a + (se_var x).length), f_level, f_readAt, f_broken, a_kinds, a_held, a_storeOf, a_cursor, a_items, a_word, a_next, a_schemaOf, a_parentOf, a_depthOf, a_head, a_tail, a_length, sb_wr bb a (se_var x), a_filled, a_sizeOf, a_placeOf, a_match, a_regionEnd, a_regionMessage)) : wpX_writeVarint post (f_capacity, f_maxField, f_maxDepth, f_spare, nI a, f_level, f_readAt, f_broken, a_kinds, a_held, a_storeOf, a_cursor, a_items, a_word, a_next, a_schemaOf, a_parentOf, a_depthOf, a_head, a_tail, a_length, bb, a_filled, a_sizeOf, a_placeOf, a_match, a_regionEnd, a_regionMessage) x := by
  unfold wpX_writeVarint
  refine sx_varintSize ⟨5, ?_⟩
  have l := se_varl x
  refine sx_wv11 (by omega) 4 x 1 a bb (by rw [se_var]; omega) ?_ ha h
  have := x.toBitVec.isLt
  omega
theorem sx_wp7 {x : Int32} : ∀ (g i a : Nat) (bb : Nat → Int32), i + g = 4 → a + g ≤ 240 → post (f_capacity, f_maxField, f_maxDepth, f_spare, nI (a + g), f_level, f_readAt, f_broken, a_kinds, a_held, a_storeOf, a_cursor, a_items, a_word, a_next, a_schemaOf, a_parentOf, a_depthOf, a_head, a_tail, a_length, sb_wr bb a ((List.range' i g).map (se_b8 x)), a_filled, a_sizeOf, a_placeOf, a_match, a_regionEnd, a_regionMessage) → wX_writePayload_7 post x (g + 1) (nI (8 * i)) f_capacity f_maxField f_maxDepth f_spare (nI a) f_level f_readAt f_broken a_kinds a_held a_storeOf a_cursor a_items a_word a_next a_schemaOf a_parentOf a_depthOf a_head a_tail a_length bb a_filled a_sizeOf a_placeOf a_match a_regionEnd a_regionMessage := by
  intro g
  induction g with
  | zero =>
    intro i a bb hi ha h
    exact br_t (nI_le (a := 32) (by omega) (by omega)) h
  | succ g ih =>
    intro i a bb hi ha h
    have e8 : nI (8 * i) + 8 = nI (8 * (i + 1)) := by
      rw [show (8 : Int32) = nI 8 from rfl, nI_add]
      exact congrArg nI (by omega)
    rw [wX_writePayload_7]
    dsimp only
    rw [e8]
    refine br_f (nI_ge (b := 32) (by omega) (by omega)) (sx_writeByte (by omega) (nm_e (ih (i + 1) (a + 1) _ (by omega) (by omega) ?_)))
    rw [List.range'_succ, List.map_cons, sb_wr] at h
    have e : a + 1 + g = a + (g + 1) := by omega
    rw [e]; exact h
theorem sx_writePayload {a k : Nat} (h1 : 1 ≤ k) {x : Int32} (ha : a + (se_pay k x).length ≤ 240) (h : post (f_capacity, f_maxField, f_maxDepth, f_spare, nI (a + (se_pay k x).length), f_level, f_readAt, f_broken, a_kinds, a_held, a_storeOf, a_cursor, a_items, a_word, a_next, a_schemaOf, a_parentOf, a_depthOf, a_head, a_tail, a_length, sb_wr bb a (se_pay k x), a_filled, a_sizeOf, a_placeOf, a_match, a_regionEnd, a_regionMessage)) : wpX_writePayload post (f_capacity, f_maxField, f_maxDepth, f_spare, nI a, f_level, f_readAt, f_broken, a_kinds, a_held, a_storeOf, a_cursor, a_items, a_word, a_next, a_schemaOf, a_parentOf, a_depthOf, a_head, a_tail, a_length, bb, a_filled, a_sizeOf, a_placeOf, a_match, a_regionEnd, a_regionMessage) (nI (se_fm k)) x := by
  unfold wpX_writePayload
  refine pk_eq (se_fm k) 3 (fun z => ⟨5, ?_⟩) (fun z => ?_) (ha := by unfold se_fm; omega)
  · unfold se_fm at z
    rw [se_pay4 (by omega)] at ha h
    rw [se_pay, if_pos (by omega)] at h
    exact sx_wp7 4 0 a bb (by omega) (by omega) h
  · unfold se_fm at z
    rw [se_payv (by omega)] at ha h
    exact sx_toWire h1 (sx_writeVarint ha h)
end
def se_g (z : Int32) (tag k : Nat) (w : Nat → Int32) (j : Nat) : List Int32 := (if z = 0 then se_var (nI tag) else []) ++ se_pay k (w j)
section
variable {f_capacity f_maxField f_maxDepth f_spare f_writeAt f_level f_readAt f_broken : Int32} {a_kinds a_held a_storeOf a_cursor a_items a_word a_next a_schemaOf a_parentOf a_depthOf a_head a_tail a_length a_bytes a_filled a_sizeOf a_placeOf a_match a_regionEnd a_regionMessage : Nat → Int32} {K : Nat → Nat} {C F D v n t : Nat} {p q d : Nat → Nat} {w : Nat → Int32} {post : SX → Prop}
theorem sx_ws82 (W : sw_WF K C F D v n p q w d) (hC : C ≤ 120) (R : sx_R K F t v n p q w d a_items a_word a_next a_schemaOf a_parentOf a_depthOf a_head a_tail a_length) (ht : t < 3) {m f k tag : Nat} {z : Int32} (hm : m ≤ n) (hms : sw_ms K F v p q w m) (hf : f ≤ 20) (hk : ¬ 10 ≤ sw_kd K F (sw_sc v w m) f) (h1 : 1 ≤ k) :
    ∀ (g i a : Nat) (c : Int32) (bb : Nat → Int32), i + g = (sw_L p q m f n).length → (∀ j, (sw_L p q m f n)[i]? = some j → c = nI (t * 121 + j)) → a + (((sw_L p q m f n).drop i).flatMap (se_g z tag k w)).length ≤ 240 →
      post (f_capacity, f_maxField, f_maxDepth, f_spare, nI (a + (((sw_L p q m f n).drop i).flatMap (se_g z tag k w)).length), f_level, f_readAt, f_broken, a_kinds, a_held, a_storeOf, a_cursor, a_items, a_word, a_next, a_schemaOf, a_parentOf, a_depthOf, a_head, a_tail, a_length, sb_wr bb a (((sw_L p q m f n).drop i).flatMap (se_g z tag k w)), a_filled, a_sizeOf, a_placeOf, a_match, a_regionEnd, a_regionMessage) →
      wX_writeScalars_82 post (nI ((t * 121 + m) * 21 + f)) (nI (se_fm k)) z (nI tag) (g + 1) c (nI i) f_capacity f_maxField f_maxDepth f_spare (nI a) f_level f_readAt f_broken a_kinds a_held a_storeOf a_cursor a_items a_word a_next a_schemaOf a_parentOf a_depthOf a_head a_tail a_length bb a_filled a_sizeOf a_placeOf a_match a_regionEnd a_regionMessage := by
  have hn := W.1
  have hlen := sw_len (p := p) (q := q) (m := m) (f := f) (n := n)
  obtain ⟨c1, c2, c3, c4⟩ := R.2.2.2.2 m f hm hms hf
  have ea : (nI ((t * 121 + m) * 21 + f)).toNatClampNeg = (t * 121 + m) * 21 + f := nI_clamp (by omega)
  have hia : vp_in (nI ((t * 121 + m) * 21 + f)) 7623 := vp_in_nI (by omega) (by omega)
  intro g
  induction g with
  | zero =>
    intro i a c bb hi hc ha h
    rw [List.drop_eq_nil_of_le (by omega)] at h
    unfold wX_writeScalars_82
    dsimp only
    rw [ea, c1]
    exact ⟨hia, br_t (nI_le (by omega) (by omega)) h⟩
  | succ g ih =>
    intro i a c bb hi hc ha h
    obtain ⟨j, hj⟩ := sw_nthex (l := sw_L p q m f n) (i := i) (by omega)
    obtain rfl := hc j hj
    have jm := sw_mem.mp (sw_nthmem hj)
    have ej : (nI (t * 121 + j)).toNatClampNeg = t * 121 + j := nI_clamp (by omega)
    have hij : vp_in (nI (t * 121 + j)) 363 := vp_in_nI (by omega) (by omega)
    rw [se_dropc hj, List.flatMap_cons, List.length_append] at ha h
    have h105 : ∀ (a' : Nat) (b' : Nat → Int32), a' + (se_pay k (w j)).length = a + (se_g z tag k w j).length → sb_wr b' a' (se_pay k (w j)) = sb_wr bb a (se_g z tag k w j) →
        wX_writeScalars_105 post (wX_writeScalars_82 post (nI ((t * 121 + m) * 21 + f)) (nI (se_fm k)) z (nI tag) (g + 1)) (nI ((t * 121 + m) * 21 + f)) (nI (se_fm k)) z (nI tag) (nI (t * 121 + j)) (nI i) f_capacity f_maxField f_maxDepth f_spare (nI a') f_level f_readAt f_broken a_kinds a_held a_storeOf a_cursor a_items a_word a_next a_schemaOf a_parentOf a_depthOf a_head a_tail a_length b' a_filled a_sizeOf a_placeOf a_match a_regionEnd a_regionMessage := by
      intro a' b' e1 e2
      unfold wX_writeScalars_105
      rw [ej, R.2.2.1 j jm.1 jm.2.1 (fun z => hk ((sw_msL W (sw_nthmem hj)).mp z)), nI_1 i]
      refine ⟨hij, sx_writePayload h1 (by omega) ⟨hij, nm_e (nm_e (ih (i + 1) _ _ _ (by omega) (fun jj hjj => c4 i j jj hj hjj) (by omega) ?_))⟩⟩
      rw [e1, e2, ← sb_app, Nat.add_assoc]
      exact h
    rw [wX_writeScalars_82]
    dsimp only
    rw [ea, c1]
    refine ⟨hia, br_f (nI_ge (by omega) (by omega)) (br_c (fun y => ?_) (fun y => ?_))⟩
    · have eg : se_g z tag k w j = se_var (nI tag) ++ se_pay k (w j) := by unfold se_g; rw [if_pos y]
      rw [eg, List.length_append] at ha
      refine sx_writeVarint (by omega) (h105 _ _ (by rw [eg, List.length_append]; omega) (by rw [eg, sb_app]))
    · have eg : se_g z tag k w j = se_pay k (w j) := by unfold se_g; rw [if_neg y, List.nil_append]
      exact h105 _ _ (by rw [eg]) (by rw [eg])
theorem sx_writeScalars {bb : Nat → Int32} (X : sw_Cx K C F D f_capacity f_maxField f_maxDepth a_kinds) (W : sw_WF K C F D v n p q w d) (R : sx_R K F t v n p q w d a_items a_word a_next a_schemaOf a_parentOf a_depthOf a_head a_tail a_length) (ht : t < 3) {m f a : Nat} (hm : m ≤ n) (hms : sw_ms K F v p q w m) (hf1 : 1 ≤ f) (hf : f ≤ F) (hl : sw_L p q m f n ≠ []) (hk : ¬ 10 ≤ sw_kd K F (sw_sc v w m) f) {E : Nat → List Int32}
    (ha : a + (se_fld w E (sw_kd K F (sw_sc v w m) f) f (sw_L p q m f n)).length ≤ 240)
    (h : post (f_capacity, f_maxField, f_maxDepth, f_spare, nI (a + (se_fld w E (sw_kd K F (sw_sc v w m) f) f (sw_L p q m f n)).length), f_level, f_readAt, f_broken, a_kinds, a_held, a_storeOf, a_cursor, a_items, a_word, a_next, a_schemaOf, a_parentOf, a_depthOf, a_head, a_tail, a_length, sb_wr bb a (se_fld w E (sw_kd K F (sw_sc v w m) f) f (sw_L p q m f n)), a_filled, a_sizeOf, a_placeOf, a_match, a_regionEnd, a_regionMessage)) :
    wpX_writeScalars post (f_capacity, f_maxField, f_maxDepth, f_spare, nI a, f_level, f_readAt, f_broken, a_kinds, a_held, a_storeOf, a_cursor, a_items, a_word, a_next, a_schemaOf, a_parentOf, a_depthOf, a_head, a_tail, a_length, bb, a_filled, a_sizeOf, a_placeOf, a_match, a_regionEnd, a_regionMessage) (nI (t * 121 + m)) (nI f) (nI (sw_kd K F (sw_sc v w m) f)) := by
  obtain ⟨x1, x2, x3, x4, x5, x6, e1, e2, e3, x7⟩ := X
  have hn := W.1
  have hlen := sw_len (p := p) (q := q) (m := m) (f := f) (n := n)
  obtain ⟨c1, c2, c3, c4⟩ := R.2.2.2.2 m f hm hms (by omega)
  have hk1 : 1 ≤ sw_kd K F (sw_sc v w m) f := by
    apply Classical.byContradiction
    intro z
    exact hl (sw_nok W hf1 (by omega))
  have ea : (nI ((t * 121 + m) * 21 + f)).toNatClampNeg = (t * 121 + m) * 21 + f := nI_clamp (by omega)
  have hia : vp_in (nI ((t * 121 + m) * 21 + f)) 7623 := vp_in_nI (by omega) (by omega)
  unfold se_fld at ha h
  rw [if_neg hl, if_neg hk] at ha h
  unfold wpX_writeScalars
  dsimp only
  rw [sn_21]
  refine nm_e (sx_formOf hk1 (by omega) ?_)
  refine pk_lt (sw_kd K F (sw_sc v w m) f) 7 (fun z7 => ?_) (fun z7 => ?_)
  · rw [if_neg (by omega)] at ha h
    unfold wX_writeScalars_26
    refine sx_ownWire hk1 (by omega) ?_
    rw [sn_m8, nI_add, ea]
    refine nm_e (br_t rfl ⟨hia, nm_e ⟨(sw_L p q m f n).length + 1, ?_⟩⟩)
    have eg : (fun j => se_var (nI (f * 8 + se_own (sw_kd K F (sw_sc v w m) f))) ++ se_pay (sw_kd K F (sw_sc v w m) f) (w j)) = se_g 0 (f * 8 + se_own (sw_kd K F (sw_sc v w m) f)) (sw_kd K F (sw_sc v w m) f) w := by
      funext j; unfold se_g; rw [if_pos rfl]
    rw [eg] at ha h
    exact sx_ws82 W x2 R ht hm hms (by omega) hk hk1 (sw_L p q m f n).length 0 a _ bb (by omega) c2 ha h
  · rw [if_pos z7] at ha h
    unfold wX_writeScalars_26
    refine sx_ownWire hk1 (by omega) ?_
    rw [sn_m8, nI_add, ea]
    refine nm_e (br_f (by decide) (sx_payloadsSize W x2 R ht hm hms (by omega) hk hk1 (by omega) ?_))
    have e2' : nI (f * 8) + 2 = nI (f * 8 + 2) := by rw [show (2 : Int32) = nI 2 from rfl, nI_add]
    rw [e2']
    rw [List.length_append, List.length_append] at ha
    refine sx_writeVarint (by omega) (sx_writeVarint (by omega) ⟨hia, nm_e ⟨(sw_L p q m f n).length + 1, ?_⟩⟩)
    have eg : (fun j => se_pay (sw_kd K F (sw_sc v w m) f) (w j)) = se_g 1 (f * 8 + se_own (sw_kd K F (sw_sc v w m) f)) (sw_kd K F (sw_sc v w m) f) w := by
      funext j; unfold se_g; rw [if_neg (by decide), List.nil_append]
    refine sx_ws82 W x2 R ht hm hms (by omega) hk hk1 (sw_L p q m f n).length 0 _ _ _ (by omega) c2 ?_ ?_
    · rw [List.drop_zero, ← eg]; omega
    · rw [List.drop_zero, ← eg, ← sb_app, ← sb_app]
      rw [List.length_append, List.length_append] at h
      rw [Nat.add_assoc, Nat.add_assoc]
      exact h
end
end
section
/-! X writes messages: each write writes what the content Q holds there -/
def sb_Up (Q b b' : Nat → Int32) : Prop := ∀ c, b' c = b c ∨ b' c = Q c
theorem sb_Up_refl {Q b : Nat → Int32} : sb_Up Q b b := fun _ => Or.inl rfl
theorem sb_Up_trans {Q b b' b2 : Nat → Int32} (h : sb_Up Q b b') (h' : sb_Up Q b' b2) : sb_Up Q b b2 := by
  intro c
  rcases h' c with e | e
  · rw [e]; exact h c
  · exact Or.inr e
theorem sb_Up_keep {Q b b' : Nat → Int32} (h : sb_Up Q b b') {c : Nat} (hc : b c = Q c) : b' c = Q c := by
  rcases h c with e | e
  · rw [e, hc]
  · exact e
theorem sb_wrQ {Q b : Nat → Int32} {a : Nat} {l : List Int32} (h : sb_at Q a l) : sb_Up Q b (sb_wr b a l) ∧ ∀ c, a ≤ c → c < a + l.length → sb_wr b a l c = Q c := by
  have hin : ∀ c, a ≤ c → c < a + l.length → sb_wr b a l c = Q c := by
    intro c h1 h2
    have hx : l[c - a]? = some l[c - a] := List.getElem?_eq_getElem (by omega)
    have e : c = a + (c - a) := by omega
    rw [e, sb_in l b a (c - a) _ hx, h (c - a) _ hx]
  refine ⟨fun c => ?_, hin⟩
  by_cases hc : a ≤ c ∧ c < a + l.length
  · exact Or.inr (hin c hc.1 hc.2)
  · exact Or.inl (sb_out _ _ _ _ (by omega))
/-- message j has its place a -/
def sx_Pl (Q : Nat → Int32) (E : Nat → List Int32) (t : Nat) (po : Nat → Int32) (a j : Nat) : Prop := po (t * 121 + j) = nI a ∧ sb_at Q a (E j) ∧ a + (E j).length ≤ 240
section
variable {f_capacity f_maxField f_maxDepth f_spare f_writeAt f_level f_readAt f_broken : Int32} {a_kinds a_held a_storeOf a_cursor a_items a_word a_next a_schemaOf a_parentOf a_depthOf a_head a_tail a_length a_bytes a_filled a_sizeOf a_placeOf a_match a_regionEnd a_regionMessage : Nat → Int32} {K : Nat → Nat} {C F D v n t : Nat} {p q d : Nat → Nat} {w : Nat → Int32} {post : SX → Prop} {Q : Nat → Int32}
theorem sx_wh18 (W : sw_WF K C F D v n p q w d) (hC : C ≤ 120) (R : sx_R K F t v n p q w d a_items a_word a_next a_schemaOf a_parentOf a_depthOf a_head a_tail a_length) (ht : t < 3) {m f : Nat} (hm : m ≤ n) (hms : sw_ms K F v p q w m) (hf : f ≤ 20) {E : Nat → List Int32}
    (hz : ∀ j, j ∈ sw_L p q m f n → a_sizeOf (t * 121 + j) = nI (E j).length) {b0 po0 : Nat → Int32} {a0 e0 : Nat}
    (h : ∀ b' po' : Nat → Int32, sb_Up Q b0 b' → (∀ c, a0 ≤ c → c < e0 → b' c = Q c ∨ ∃ j a', j ∈ sw_L p q m f n ∧ sx_Pl Q E t po' a' j ∧ a' ≤ c ∧ c < a' + (E j).length) →
      (∀ j, j ∈ sw_L p q m f n → ∃ a', sx_Pl Q E t po' a' j) → (∀ c, (∀ j, j ∈ sw_L p q m f n → c ≠ t * 121 + j) → po' c = po0 c) → post (f_capacity, f_maxField, f_maxDepth, f_spare, nI e0, f_level, f_readAt, f_broken, a_kinds, a_held, a_storeOf, a_cursor, a_items, a_word, a_next, a_schemaOf, a_parentOf, a_depthOf, a_head, a_tail, a_length, b', a_filled, a_sizeOf, po', a_match, a_regionEnd, a_regionMessage)) :
    ∀ (g i a : Nat) (c : Int32) (bb po : Nat → Int32), i + g = (sw_L p q m f n).length → (∀ j, (sw_L p q m f n)[i]? = some j → c = nI (t * 121 + j)) →
      a + (((sw_L p q m f n).drop i).flatMap (fun j => se_var (nI (f * 8 + 2)) ++ (se_var (nI (E j).length) ++ E j))).length = e0 → e0 ≤ 240 →
      sb_at Q a (((sw_L p q m f n).drop i).flatMap (fun j => se_var (nI (f * 8 + 2)) ++ (se_var (nI (E j).length) ++ E j))) →
      sb_Up Q b0 bb → (∀ c, a0 ≤ c → c < a → bb c = Q c ∨ ∃ i' j a', i' < i ∧ (sw_L p q m f n)[i']? = some j ∧ sx_Pl Q E t po a' j ∧ a' ≤ c ∧ c < a' + (E j).length) →
      (∀ i' j, i' < i → (sw_L p q m f n)[i']? = some j → ∃ a', sx_Pl Q E t po a' j) → (∀ c, (∀ j, j ∈ sw_L p q m f n → c ≠ t * 121 + j) → po c = po0 c) →
      wX_writeSubmessageHeads_18 post (nI f) (nI ((t * 121 + m) * 21 + f)) (g + 1) c (nI i) f_capacity f_maxField f_maxDepth f_spare (nI a) f_level f_readAt f_broken a_kinds a_held a_storeOf a_cursor a_items a_word a_next a_schemaOf a_parentOf a_depthOf a_head a_tail a_length bb a_filled a_sizeOf po a_match a_regionEnd a_regionMessage := by
  have hn := W.1
  have hlen := sw_len (p := p) (q := q) (m := m) (f := f) (n := n)
  obtain ⟨c1, c2, c3, c4⟩ := R.2.2.2.2 m f hm hms hf
  have ea : (nI ((t * 121 + m) * 21 + f)).toNatClampNeg = (t * 121 + m) * 21 + f := nI_clamp (by omega)
  have hia : vp_in (nI ((t * 121 + m) * 21 + f)) 7623 := vp_in_nI (by omega) (by omega)
  intro g
  induction g with
  | zero =>
    intro i a c bb po hi hc he he2 hat hup hcov hpl hfr
    rw [List.drop_eq_nil_of_le (by omega), List.flatMap_nil, List.length_nil, Nat.add_zero] at he
    subst he
    unfold wX_writeSubmessageHeads_18
    dsimp only
    rw [ea, c1]
    refine ⟨hia, br_t (nI_le (by omega) (by omega)) (h bb po hup (fun c h1 h2 => ?_) (fun j hj => ?_) hfr)⟩
    · rcases hcov c h1 h2 with e | ⟨i', j, a', x1, x2, x3⟩
      · exact Or.inl e
      · exact Or.inr ⟨j, a', sw_nthmem x2, x3⟩
    · obtain ⟨i', hi'⟩ := sw_memnth hj
      exact hpl i' j (by have := sw_nthlt hi'; omega) hi'
  | succ g ih =>
    intro i a c bb po hi hc he he2 hat hup hcov hpl hfr
    obtain ⟨j, hj⟩ := sw_nthex (l := sw_L p q m f n) (i := i) (by omega)
    obtain rfl := hc j hj
    have jm := sw_mem.mp (sw_nthmem hj)
    have ej : (nI (t * 121 + j)).toNatClampNeg = t * 121 + j := nI_clamp (by omega)
    have hij : vp_in (nI (t * 121 + j)) 363 := vp_in_nI (by omega) (by omega)
    rw [se_dropc hj, List.flatMap_cons] at hat he
    rw [List.length_append, List.length_append, List.length_append] at he
    rw [sb_at_app, List.length_append, List.length_append, sb_at_app, sb_at_app] at hat
    obtain ⟨⟨q1, q2, q3⟩, q4⟩ := hat
    have e2' : nI f * 8 + 2 = nI (f * 8 + 2) := by rw [show (2 : Int32) = nI 2 from rfl, sn_m8, nI_add]
    rw [wX_writeSubmessageHeads_18]
    dsimp only
    rw [ea, c1, e2', ej]
    refine ⟨hia, br_f (nI_ge (by omega) (by omega)) (sx_writeVarint (by omega) ⟨hij, ?_⟩)⟩
    dsimp only
    rw [hz j (sw_nthmem hj)]
    refine sx_writeVarint (by omega) ⟨hij, nm_e ⟨hij, ?_⟩⟩
    dsimp only
    rw [hz j (sw_nthmem hj), nI_add, nI_1]
    have u1 := sb_wrQ (b := bb) q1
    have u2 := sb_wrQ (b := sb_wr bb a (se_var (nI (f * 8 + 2)))) q2
    have hplj : sx_Pl Q E t (upd po (t * 121 + j) (nI (a + (se_var (nI (f * 8 + 2))).length + (se_var (nI (E j).length)).length))) (a + (se_var (nI (f * 8 + 2))).length + (se_var (nI (E j).length)).length) j := ⟨pk_us, q3, by omega⟩
    have hpk : ∀ i' j' a', i' < i → (sw_L p q m f n)[i']? = some j' → sx_Pl Q E t po a' j' → sx_Pl Q E t (upd po (t * 121 + j) (nI (a + (se_var (nI (f * 8 + 2))).length + (se_var (nI (E j).length)).length))) a' j' := by
      intro i' j' a' x1 x2 x3
      refine ⟨?_, x3.2⟩
      rw [pk_un]
      · exact x3.1
      · intro z
        have : j' = j := by omega
        subst this
        have := sw_nthinj sw_srt x2 hj
        omega
    refine nm_e ⟨hij, nm_e (nm_e (ih (i + 1) _ _ _ _ (by omega) (fun jj hjj => c4 i j jj hj hjj) (by omega) he2 ?_ (sb_Up_trans hup (sb_Up_trans u1.1 u2.1)) (fun c h1 h2 => ?_) (fun i' j' x1 x2 => ?_) (fun c hcc => ?_)))⟩
    · have e : a + (se_var (nI (f * 8 + 2))).length + (se_var (nI (E j).length)).length + (E j).length = a + ((se_var (nI (f * 8 + 2))).length + ((se_var (nI (E j).length)).length + (E j).length)) := by omega
      rw [e]; exact q4
    · by_cases y1 : c < a
      · rcases hcov c h1 y1 with e | ⟨i', j', a', x1, x2, x3, x4⟩
        · exact Or.inl (sb_Up_keep (sb_Up_trans u1.1 u2.1) e)
        · exact Or.inr ⟨i', j', a', by omega, x2, hpk i' j' a' x1 x2 x3, x4⟩
      · by_cases y2 : c < a + (se_var (nI (f * 8 + 2))).length
        · exact Or.inl (sb_Up_keep u2.1 (u1.2 c (by omega) y2))
        · by_cases y3 : c < a + (se_var (nI (f * 8 + 2))).length + (se_var (nI (E j).length)).length
          · exact Or.inl (u2.2 c (by omega) y3)
          · exact Or.inr ⟨i, j, _, by omega, hj, hplj, by omega, by omega⟩
    · by_cases y : i' = i
      · subst y
        rw [hj] at x2
        rw [← Option.some.inj x2]
        exact ⟨_, hplj⟩
      · obtain ⟨a', x3⟩ := hpl i' j' (by omega) x2
        exact ⟨a', hpk i' j' a' (by omega) x2 x3⟩
    · rw [pk_un (hcc j (sw_nthmem hj))]; exact hfr c hcc
theorem sx_wm81 (W : sw_WF K C F D v n p q w d) (hC : C ≤ 120) (R : sx_R K F t v n p q w d a_items a_word a_next a_schemaOf a_parentOf a_depthOf a_head a_tail a_length) (ht : t < 3) {m : Nat} (hm : m ≤ n) (hms : sw_ms K F v p q w m) :
    ∀ (g i a : Nat) (c : Int32) (bb : Nat → Int32), i + g = (sw_L p q m 0 n).length → (∀ j, (sw_L p q m 0 n)[i]? = some j → c = nI (t * 121 + j)) → a + (((sw_L p q m 0 n).drop i).map w).length ≤ 240 →
      post (f_capacity, f_maxField, f_maxDepth, f_spare, nI (a + (((sw_L p q m 0 n).drop i).map w).length), f_level, f_readAt, f_broken, a_kinds, a_held, a_storeOf, a_cursor, a_items, a_word, a_next, a_schemaOf, a_parentOf, a_depthOf, a_head, a_tail, a_length, sb_wr bb a (((sw_L p q m 0 n).drop i).map w), a_filled, a_sizeOf, a_placeOf, a_match, a_regionEnd, a_regionMessage) →
      wX_writeMessage_81 post (nI (t * 121 + m)) (g + 1) c (nI i) f_capacity f_maxField f_maxDepth f_spare (nI a) f_level f_readAt f_broken a_kinds a_held a_storeOf a_cursor a_items a_word a_next a_schemaOf a_parentOf a_depthOf a_head a_tail a_length bb a_filled a_sizeOf a_placeOf a_match a_regionEnd a_regionMessage := by
  have hn := W.1
  have hlen := sw_len (p := p) (q := q) (m := m) (f := 0) (n := n)
  obtain ⟨c1, c2, c3, c4⟩ := R.2.2.2.2 m 0 hm hms (by omega)
  rw [Nat.add_zero] at c1
  have ea : (nI ((t * 121 + m) * 21)).toNatClampNeg = (t * 121 + m) * 21 := nI_clamp (by omega)
  have hia : vp_in (nI ((t * 121 + m) * 21)) 7623 := vp_in_nI (by omega) (by omega)
  intro g
  induction g with
  | zero =>
    intro i a c bb hi hc ha h
    rw [List.drop_eq_nil_of_le (by omega)] at h
    unfold wX_writeMessage_81
    dsimp only
    rw [sn_m21, ea, c1]
    exact ⟨hia, br_t (nI_le (by omega) (by omega)) h⟩
  | succ g ih =>
    intro i a c bb hi hc ha h
    obtain ⟨j, hj⟩ := sw_nthex (l := sw_L p q m 0 n) (i := i) (by omega)
    obtain rfl := hc j hj
    have jm := sw_mem.mp (sw_nthmem hj)
    have ej : (nI (t * 121 + j)).toNatClampNeg = t * 121 + j := nI_clamp (by omega)
    have hij : vp_in (nI (t * 121 + j)) 363 := vp_in_nI (by omega) (by omega)
    have hnm : ¬ sw_ms K F v p q w j := fun z => by
      have := (sw_msL W (sw_nthmem hj)).mp z
      rw [sw_kd_out (by omega)] at this; omega
    rw [se_dropc hj, List.map_cons, List.length_cons] at ha h
    rw [wX_writeMessage_81]
    dsimp only
    rw [sn_m21, ea, c1, ej, R.2.2.1 j jm.1 jm.2.1 hnm, nI_1 i]
    refine ⟨hia, br_f (nI_ge (by omega) (by omega)) ⟨hij, sx_writeByte (by omega) ⟨hij, nm_e (nm_e (ih (i + 1) _ _ _ (by omega) (fun jj hjj => c4 i j jj hj hjj) (by omega) ?_))⟩⟩⟩
    have e : a + 1 + ((sw_L p q m 0 n).drop (i + 1) |>.map w).length = a + (((sw_L p q m 0 n).drop (i + 1) |>.map w).length + 1) := by omega
    rw [e]; exact h
end
end
section
section
variable {f_capacity f_maxField f_maxDepth f_spare f_writeAt f_level f_readAt f_broken : Int32} {a_kinds a_held a_storeOf a_cursor a_items a_word a_next a_schemaOf a_parentOf a_depthOf a_head a_tail a_length a_bytes a_filled a_sizeOf a_placeOf a_match a_regionEnd a_regionMessage : Nat → Int32} {K : Nat → Nat} {C F D v n t : Nat} {p q d : Nat → Nat} {w : Nat → Int32} {Q : Nat → Int32}
theorem sx_wm12 {post : SX → Prop} (X : sw_Cx K C F D f_capacity f_maxField f_maxDepth a_kinds) (W : sw_WF K C F D v n p q w d) (R : sx_R K F t v n p q w d a_items a_word a_next a_schemaOf a_parentOf a_depthOf a_head a_tail a_length) (ht : t < 3) {m : Nat} (hm : m ≤ n) (hms : sw_ms K F v p q w m)
    (hz : ∀ j, j ≤ n → sw_ms K F v p q w j → a_sizeOf (t * 121 + j) = nI (se_enc K F v n p q w j).length) {b0 po0 : Nat → Int32} {a0 e0 : Nat} (he0 : e0 ≤ 240)
    (h : ∀ b' po' : Nat → Int32, sb_Up Q b0 b' → (∀ c, a0 ≤ c → c < e0 → b' c = Q c ∨ ∃ j a', 1 ≤ j ∧ j ≤ n ∧ sw_ms K F v p q w j ∧ p j = m ∧ sx_Pl Q (se_enc K F v n p q w) t po' a' j ∧ a' ≤ c ∧ c < a' + (se_enc K F v n p q w j).length) →
      (∀ j, 1 ≤ j → j ≤ n → sw_ms K F v p q w j → p j = m → ∃ a', sx_Pl Q (se_enc K F v n p q w) t po' a' j) → (∀ c, (∀ j, 1 ≤ j → j ≤ n → p j = m → c ≠ t * 121 + j) → po' c = po0 c) → post (f_capacity, f_maxField, f_maxDepth, f_spare, nI e0, f_level, f_readAt, f_broken, a_kinds, a_held, a_storeOf, a_cursor, a_items, a_word, a_next, a_schemaOf, a_parentOf, a_depthOf, a_head, a_tail, a_length, b', a_filled, a_sizeOf, po', a_match, a_regionEnd, a_regionMessage)) :
    ∀ (k f a : Nat) (bb po : Nat → Int32), f + k = F + 1 → 1 ≤ f →
      a + ((se_flds K F v n p q w (se_enc K F v n p q w) m k f) ++ (sw_L p q m 0 n).map w).length = e0 →
      sb_at Q a ((se_flds K F v n p q w (se_enc K F v n p q w) m k f) ++ (sw_L p q m 0 n).map w) →
      sb_Up Q b0 bb → (∀ c, a0 ≤ c → c < a → bb c = Q c ∨ ∃ j a', 1 ≤ j ∧ j ≤ n ∧ sw_ms K F v p q w j ∧ p j = m ∧ q j < f ∧ sx_Pl Q (se_enc K F v n p q w) t po a' j ∧ a' ≤ c ∧ c < a' + (se_enc K F v n p q w j).length) →
      (∀ j, 1 ≤ j → j ≤ n → sw_ms K F v p q w j → p j = m → q j < f → ∃ a', sx_Pl Q (se_enc K F v n p q w) t po a' j) → (∀ c, (∀ j, 1 ≤ j → j ≤ n → p j = m → c ≠ t * 121 + j) → po c = po0 c) →
      wX_writeMessage_12 post (nI (t * 121 + m)) (k + 1) (nI f) f_capacity f_maxField f_maxDepth f_spare (nI a) f_level f_readAt f_broken a_kinds a_held a_storeOf a_cursor a_items a_word a_next a_schemaOf a_parentOf a_depthOf a_head a_tail a_length bb a_filled a_sizeOf po a_match a_regionEnd a_regionMessage := by
  have X0 := X
  obtain ⟨x1, x2, x3, x4, x5, x6, e1, e2, e3, x7⟩ := X
  have hn := W.1
  intro k
  induction k with
  | zero =>
    intro f a bb po hf h1 he hat hup hcov hpl hfr
    rw [se_flds, List.nil_append] at he hat
    have c2 := (R.2.2.2.2 m 0 hm hms (by omega)).2.1
    rw [Nat.add_zero] at c2
    have qb : ∀ j, 1 ≤ j → j ≤ n → q j < f := fun j a b => by have := (W.2.2.2.1 j a b).2.1; omega
    rw [wX_writeMessage_12]
    dsimp only
    rw [sn_m21, nI_clamp (n := (t * 121 + m) * 21) (by omega)]
    refine br_t (by rw [e2]; exact nI_lt (by omega) (by omega)) ⟨vp_in_nI (by omega) (by omega), nm_e ⟨(sw_L p q m 0 n).length + 1, ?_⟩⟩
    have u := sb_wrQ (b := bb) hat
    refine sx_wm81 W x2 R ht hm hms (sw_L p q m 0 n).length 0 a _ bb (by omega) c2 (by rw [List.drop_zero]; omega) ?_
    rw [List.drop_zero, he]
    refine h _ po (sb_Up_trans hup u.1) (fun c g1 g2 => ?_) (fun j y1 y2 y3 y4 => hpl j y1 y2 y3 y4 (qb j y1 y2)) hfr
    by_cases y : c < a
    · rcases hcov c g1 y with e | ⟨j, a', z1, z2, z3, z4, z5, z6⟩
      · exact Or.inl (sb_Up_keep u.1 e)
      · exact Or.inr ⟨j, a', z1, z2, z3, z4, z6⟩
    · exact Or.inl (u.2 c (by omega) (by omega))
  | succ k ih =>
    intro f a bb po hf h1 he hat hup hcov hpl hfr
    have hlen := sw_len (p := p) (q := q) (m := m) (f := f) (n := n)
    obtain ⟨c1, c2, c3, c4⟩ := R.2.2.2.2 m f hm hms (by omega)
    have ea : (nI ((t * 121 + m) * 21 + f)).toNatClampNeg = (t * 121 + m) * 21 + f := nI_clamp (by omega)
    have hia : vp_in (nI ((t * 121 + m) * 21 + f)) 7623 := vp_in_nI (by omega) (by omega)
    rw [se_flds, List.append_assoc] at he hat
    rw [wX_writeMessage_12]
    dsimp only
    rw [sn_21, ea, c1, nI_1 f]
    refine br_f (by rw [e2]; exact nI_nlt (by omega) (by omega)) ⟨hia, pk_le (sw_L p q m f n).length 0 (fun z => ?_) (fun z => ?_)⟩
    · have e : sw_L p q m f n = [] := List.eq_nil_of_length_eq_zero (by omega)
      have e' : se_fld w (se_enc K F v n p q w) (sw_kd K F (sw_sc v w m) f) f (sw_L p q m f n) = [] := by rw [e, se_fld, if_pos rfl]
      rw [e', List.nil_append] at he hat
      have hno : ∀ j, 1 ≤ j → j ≤ n → p j = m → q j ≠ f := fun j y1 y2 y3 y4 => by
        have := sw_mem.mpr ⟨y1, y2, y3, y4⟩
        rw [e] at this; cases this
      refine nm_e (ih (f + 1) a bb po (by omega) (by omega) he hat hup (fun c g1 g2 => ?_) (fun j y1 y2 y3 y4 y5 => ?_) hfr)
      · rcases hcov c g1 g2 with e | ⟨j, a', z1, z2, z3, z4, z5, z6⟩
        · exact Or.inl e
        · exact Or.inr ⟨j, a', z1, z2, z3, z4, by omega, z6⟩
      · have := hno j y1 y2 y4
        exact hpl j y1 y2 y3 y4 (by omega)
    · have hl : sw_L p q m f n ≠ [] := fun y => by rw [y] at z; exact absurd z (Nat.lt_irrefl 0)
      have he' := he
      rw [List.length_append] at he
      rw [sb_at_app] at hat
      have hs9 := (sw_sc_lt W hm hms).1
      have hk15 := sw_kd_le (K := K) (F := F) (s := sw_sc v w m) (f := f) (fun i h => (x7 i h).1) x4 hs9
      refine sx_kindIn X0 W R ht hm hms (by omega) ?_
      refine pk_lt (sw_kd K F (sw_sc v w m) f) 10 (fun z10 => ?_) (fun z10 => ?_)
      · have u := sb_wrQ (b := bb) hat.1
        refine sx_writeScalars (bb := bb) X0 W R ht hm hms h1 (by omega) hl (by omega) (E := se_enc K F v n p q w) (by omega) ?_
        have hno : ∀ j, 1 ≤ j → j ≤ n → sw_ms K F v p q w j → p j = m → q j ≠ f := fun j y1 y2 y3 y4 y5 => by
          have := (sw_msL W (sw_mem.mpr ⟨y1, y2, y4, y5⟩)).mp y3
          omega
        refine nm_e (ih (f + 1) _ _ po (by omega) (by omega) (by omega) hat.2 (sb_Up_trans hup u.1) (fun c g1 g2 => ?_) (fun j y1 y2 y3 y4 y5 => ?_) hfr)
        · by_cases y : c < a
          · rcases hcov c g1 y with e | ⟨j, a', z1, z2, z3, z4, z5, z6⟩
            · exact Or.inl (sb_Up_keep u.1 e)
            · exact Or.inr ⟨j, a', z1, z2, z3, z4, by omega, z6⟩
          · exact Or.inl (u.2 c (by omega) g2)
        · have := hno j y1 y2 y3 y4
          exact hpl j y1 y2 y3 y4 (by omega)
      · have ef : se_fld w (se_enc K F v n p q w) (sw_kd K F (sw_sc v w m) f) f (sw_L p q m f n) = (sw_L p q m f n).flatMap (fun j => se_var (nI (f * 8 + 2)) ++ (se_var (nI (se_enc K F v n p q w j).length) ++ se_enc K F v n p q w j)) := by
          unfold se_fld; rw [if_neg hl, if_pos z10]
        rw [ef] at he hat
        unfold wpX_writeSubmessageHeads
        dsimp only
        rw [sn_21]
        refine nm_e ⟨hia, nm_e ⟨(sw_L p q m f n).length + 1, ?_⟩⟩
        refine sx_wh18 (Q := Q) W x2 R ht hm hms (by omega) (E := se_enc K F v n p q w) (b0 := bb) (po0 := po) (a0 := a) (e0 := a + ((sw_L p q m f n).flatMap (fun j => se_var (nI (f * 8 + 2)) ++ (se_var (nI (se_enc K F v n p q w j).length) ++ se_enc K F v n p q w j))).length)
          (fun j hj => hz j (sw_mem.mp hj).2.1 ((sw_msL W hj).mpr z10)) (fun b' po' u1 u2 u3 u4 => ?_) (sw_L p q m f n).length 0 a _ bb po (by omega) (by rw [ea]; exact c2) (by rw [List.drop_zero]) (by omega) (by rw [List.drop_zero]; exact hat.1) sb_Up_refl (fun c g1 g2 => by omega) (fun i' j y => by omega) (fun c _ => rfl)
        have hkeep : ∀ j a', q j < f → sx_Pl Q (se_enc K F v n p q w) t po a' j → sx_Pl Q (se_enc K F v n p q w) t po' a' j := by
          intro j a' y1 y2
          refine ⟨?_, y2.2⟩
          rw [u4]
          · exact y2.1
          · intro j2 hj2 e
            have := (sw_mem.mp hj2).2.2.2
            have : j = j2 := by omega
            subst this
            omega
        refine nm_e (ih (f + 1) _ b' po' (by omega) (by omega) (by omega) hat.2 (sb_Up_trans hup u1) (fun c g1 g2 => ?_) (fun j y1 y2 y3 y4 y5 => ?_) (fun c hc => ?_))
        · by_cases y : c < a
          · rcases hcov c g1 y with e | ⟨j, a', z1, z2, z3, z4, z5, z6, z7⟩
            · exact Or.inl (sb_Up_keep u1 e)
            · exact Or.inr ⟨j, a', z1, z2, z3, z4, by omega, hkeep j a' z5 z6, z7⟩
          · rcases u2 c (by omega) g2 with e | ⟨j, a', z1, z2, z3⟩
            · exact Or.inl e
            · have jm := sw_mem.mp z1
              exact Or.inr ⟨j, a', jm.1, jm.2.1, (sw_msL W z1).mpr z10, jm.2.2.1, by omega, z2, z3⟩
        · by_cases y : q j = f
          · exact u3 j (sw_mem.mpr ⟨y1, y2, y4, y⟩)
          · obtain ⟨a', z1⟩ := hpl j y1 y2 y3 y4 (by omega)
            exact ⟨a', hkeep j a' (by omega) z1⟩
        · rw [u4 c (fun j hj => by have := sw_mem.mp hj; exact hc j this.1 this.2.1 this.2.2.1)]; exact hfr c hc
theorem sx_writeMessage {post : SX → Prop} {bb po : Nat → Int32} (X : sw_Cx K C F D f_capacity f_maxField f_maxDepth a_kinds) (W : sw_WF K C F D v n p q w d) (R : sx_R K F t v n p q w d a_items a_word a_next a_schemaOf a_parentOf a_depthOf a_head a_tail a_length) (ht : t < 3) {m a : Nat} (hm : m ≤ n) (hms : sw_ms K F v p q w m)
    (hz : ∀ j, j ≤ n → sw_ms K F v p q w j → a_sizeOf (t * 121 + j) = nI (se_enc K F v n p q w j).length) (hP : sx_Pl Q (se_enc K F v n p q w) t po a m)
    (h : ∀ (b' po' : Nat → Int32) (wa : Int32), sb_Up Q bb b' → (∀ c, a ≤ c → c < a + (se_enc K F v n p q w m).length → b' c = Q c ∨ ∃ j a', 1 ≤ j ∧ j ≤ n ∧ sw_ms K F v p q w j ∧ p j = m ∧ sx_Pl Q (se_enc K F v n p q w) t po' a' j ∧ a' ≤ c ∧ c < a' + (se_enc K F v n p q w j).length) →
      (∀ j, 1 ≤ j → j ≤ n → sw_ms K F v p q w j → p j = m → ∃ a', sx_Pl Q (se_enc K F v n p q w) t po' a' j) → (∀ c, (∀ j, 1 ≤ j → j ≤ n → p j = m → c ≠ t * 121 + j) → po' c = po c) → post (f_capacity, f_maxField, f_maxDepth, f_spare, wa, f_level, f_readAt, f_broken, a_kinds, a_held, a_storeOf, a_cursor, a_items, a_word, a_next, a_schemaOf, a_parentOf, a_depthOf, a_head, a_tail, a_length, b', a_filled, a_sizeOf, po', a_match, a_regionEnd, a_regionMessage)) :
    wpX_writeMessage post (f_capacity, f_maxField, f_maxDepth, f_spare, f_writeAt, f_level, f_readAt, f_broken, a_kinds, a_held, a_storeOf, a_cursor, a_items, a_word, a_next, a_schemaOf, a_parentOf, a_depthOf, a_head, a_tail, a_length, bb, a_filled, a_sizeOf, po, a_match, a_regionEnd, a_regionMessage) (nI (t * 121 + m)) := by
  have hn := W.1
  have x2 := X.2.1
  obtain ⟨p1, p2, p3⟩ := hP
  unfold wpX_writeMessage
  dsimp only
  rw [nI_clamp (by omega), p1]
  refine ⟨vp_in_nI (by omega) (by omega), nm_e ⟨F + 1, ?_⟩⟩
  have ee : se_enc K F v n p q w m = se_flds K F v n p q w (se_enc K F v n p q w) m F 1 ++ (sw_L p q m 0 n).map w := se_eq (sw_up_of W) hm
  refine sx_wm12 (Q := Q) (b0 := bb) (po0 := po) (a0 := a) (e0 := a + (se_enc K F v n p q w m).length) X W R ht hm hms hz p3 (fun b' po' u1 u2 u3 u4 => h b' po' _ u1 u2 u3 u4) F 1 a bb po (by omega) (Nat.le_refl _) (by rw [← ee]) (by rw [← ee]; exact p2) sb_Up_refl (fun c g1 g2 => by omega) (fun j y1 y2 y3 y4 y5 => ?_) (fun c _ => rfl)
  have := (sw_msL W (sw_mem.mpr ⟨y1, y2, y4, rfl⟩)).mp y3
  rw [sw_kd_out (by omega)] at this
  omega
theorem sx_enc141 {post : Int32 → SX → Prop} {b0 : Nat → Int32} (X : sw_Cx K C F D f_capacity f_maxField f_maxDepth a_kinds) (W : sw_WF K C F D v n p q w d) (R : sx_R K F t v n p q w d a_items a_word a_next a_schemaOf a_parentOf a_depthOf a_head a_tail a_length) (ht : t < 3) {b l at0 : Nat} (hb : b < 2)
    (hz : ∀ j, j ≤ n → sw_ms K F v p q w j → a_sizeOf (t * 121 + j) = nI (se_enc K F v n p q w j).length) (hl : a_filled b = nI l)
    (h : ∀ (po : Nat → Int32) (wa : Int32), post (nI (se_enc K F v n p q w 0).length) (f_capacity, f_maxField, f_maxDepth, f_spare, wa, f_level, f_readAt, f_broken, a_kinds, a_held, a_storeOf, a_cursor, a_items, a_word, a_next, a_schemaOf, a_parentOf, a_depthOf, a_head, a_tail, a_length, sb_wr b0 at0 (se_enc K F v n p q w 0), upd a_filled b (nI (l + (se_enc K F v n p q w 0).length)), a_sizeOf, po, a_match, a_regionEnd, a_regionMessage)) :
    ∀ (k j : Nat) (bb po : Nat → Int32) (wa : Int32), j + k = n + 1 → sb_Up (sb_wr b0 at0 (se_enc K F v n p q w 0)) b0 bb →
      (∀ c, at0 ≤ c → c < at0 + (se_enc K F v n p q w 0).length → bb c = sb_wr b0 at0 (se_enc K F v n p q w 0) c ∨ ∃ i a', j ≤ i ∧ i ≤ n ∧ sw_ms K F v p q w i ∧ (i = 0 ∨ p i < j) ∧ sx_Pl (sb_wr b0 at0 (se_enc K F v n p q w 0)) (se_enc K F v n p q w) t po a' i ∧ a' ≤ c ∧ c < a' + (se_enc K F v n p q w i).length) →
      (∀ i, i ≤ n → sw_ms K F v p q w i → (i = 0 ∨ p i < j) → ∃ a', sx_Pl (sb_wr b0 at0 (se_enc K F v n p q w 0)) (se_enc K F v n p q w) t po a' i) →
      wX_encode_141 post (nI b) (nI (t * 121 + n)) (nI (se_enc K F v n p q w 0).length) (k + 1) (nI (t * 121 + j)) f_capacity f_maxField f_maxDepth f_spare wa f_level f_readAt f_broken a_kinds a_held a_storeOf a_cursor a_items a_word a_next a_schemaOf a_parentOf a_depthOf a_head a_tail a_length bb a_filled a_sizeOf po a_match a_regionEnd a_regionMessage := by
  have hn := W.1
  have x2 := X.2.1
  have U := sw_up_of W
  intro k
  induction k with
  | zero =>
    intro j bb po wa hj hup hcov hpl
    have eb : bb = sb_wr b0 at0 (se_enc K F v n p q w 0) := by
      funext c
      by_cases hc : at0 ≤ c ∧ c < at0 + (se_enc K F v n p q w 0).length
      · rcases hcov c hc.1 hc.2 with e | ⟨i, a', z1, z2, z3⟩
        · exact e
        · omega
      · rcases hup c with e | e
        · rw [e, sb_out _ _ _ _ (by omega)]
        · exact e
    subst eb
    unfold wX_encode_141
    dsimp only
    rw [nI_clamp (by omega), hl, nI_add]
    exact br_t (nI_lt (by omega) (by omega)) ⟨vp_in_nI hb (by omega), vp_in_nI hb (by omega), nm_e (h po wa)⟩
  | succ k ih =>
    intro j bb po wa hj hup hcov hpl
    have ej : (nI (t * 121 + j)).toNatClampNeg = t * 121 + j := nI_clamp (by omega)
    have hij : vp_in (nI (t * 121 + j)) 363 := vp_in_nI (by omega) (by omega)
    have e1 : nI (t * 121 + j) + 1 = nI (t * 121 + (j + 1)) := nI_1 _
    rw [wX_encode_141]
    dsimp only
    rw [ej, e1]
    refine br_f (nI_nlt (by omega) (by omega)) ⟨hij, ?_⟩
    by_cases hms : sw_ms K F v p q w j
    · rw [(R.2.1 j (by omega)).1 hms]
      have hor : j = 0 ∨ p j < j := by
        by_cases z : j = 0
        · exact Or.inl z
        · exact Or.inr (U j (by omega) (by omega))
      obtain ⟨a, hP⟩ := hpl j (by omega) hms hor
      refine br_f (nI_pos (by have := (sw_sc_lt W (by omega : j ≤ n) hms).1; omega)) ?_
      refine sx_writeMessage (bb := bb) (po := po) X W R ht (by omega) hms hz hP (fun b' po' wa' u1 u2 u3 u4 => nm_e (ih (j + 1) b' po' wa' (by omega) (sb_Up_trans hup u1) (fun c g1 g2 => ?_) (fun i y1 y2 y3 => ?_)))
      · rcases hcov c g1 g2 with e | ⟨i, a', z1, z2, z3, z4, z5, z6, z7⟩
        · exact Or.inl (sb_Up_keep u1 e)
        · by_cases y : i = j
          · subst y
            have eaa : a' = a := by
              have := z5.1.symm.trans hP.1
              have q1 := z5.2.2
              have q2 := hP.2.2
              exact (nI_eq (by omega) (by omega)).mp this
            subst eaa
            rcases u2 c z6 z7 with e | ⟨j', a2, g3, g4, g5, g6, g7, g8⟩
            · exact Or.inl e
            · have := U j' g3 g4
              exact Or.inr ⟨j', a2, by omega, g4, g5, Or.inr (by omega), g7, g8⟩
          · refine Or.inr ⟨i, a', by omega, z2, z3, by omega, ⟨?_, z5.2⟩, z6, z7⟩
            rw [u4]
            · exact z5.1
            · intro j2 q1 q2 q3 e
              have : i = j2 := by omega
              subst this
              rcases z4 with z4 | z4 <;> omega
      · by_cases y : i ≠ 0 ∧ p i = j
        · exact u3 i (by omega) y1 y2 y.2
        · obtain ⟨a', hp'⟩ := hpl i y1 y2 (by omega)
          refine ⟨a', ?_, hp'.2⟩
          rw [u4]
          · exact hp'.1
          · intro j2 q1 q2 q3 e
            have : i = j2 := by omega
            subst this
            exact y ⟨by omega, q3⟩
    · rw [(R.2.1 j (by omega)).2 hms]
      refine br_t (by decide) (nm_e (ih (j + 1) bb po wa (by omega) hup (fun c g1 g2 => ?_) (fun i y1 y2 y3 => ?_)))
      · rcases hcov c g1 g2 with e | ⟨i, a', z1, z2, z3, z4, z5⟩
        · exact Or.inl e
        · refine Or.inr ⟨i, a', ?_, z2, z3, by omega, z5⟩
          have : i ≠ j := fun e => hms (by rw [← e]; exact z3)
          omega
      · refine hpl i y1 y2 ?_
        by_cases z : i = 0
        · exact Or.inl z
        · have wi := W.2.2.2.1 i (by omega) y1
          have : p i ≠ j := fun e => hms (by rw [← e]; exact wi.2.2.1)
          omega
end
end
section
/-! Y's emits -/
section
variable {g_capacity g_maxField g_maxDepth g_outLen g_regions g_pos g_bad : Int32} {b_kinds b_held b_version b_type b_cursor b_items b_parent b_field b_val b_bytes b_length b_out b_encStart b_encLen b_partner b_regMsg b_regStart b_regEnd : Nat → Int32} {oo : Nat → Int32} {post : SY → Prop}
theorem sy_emit {o : Nat} (ho : o < 16384) {x : Int32} (h : post (g_capacity, g_maxField, g_maxDepth, nI (o + 1), g_regions, g_pos, g_bad, b_kinds, b_held, b_version, b_type, b_cursor, b_items, b_parent, b_field, b_val, b_bytes, b_length, upd oo o x, b_encStart, b_encLen, b_partner, b_regMsg, b_regStart, b_regEnd)) : wpY_emit post (g_capacity, g_maxField, g_maxDepth, nI o, g_regions, g_pos, g_bad, b_kinds, b_held, b_version, b_type, b_cursor, b_items, b_parent, b_field, b_val, b_bytes, b_length, oo, b_encStart, b_encLen, b_partner, b_regMsg, b_regStart, b_regEnd) x := by
  unfold wpY_emit
  dsimp only
  rw [nI_clamp (by omega), nI_1]
  exact br_t (nI_lt (b := 16384) ho (by omega)) ⟨vp_in_nI ho (by omega), nm_e (nm_e h)⟩
theorem sy_ev4 : ∀ (g : Nat) (y : Int32) (k o : Nat) (oo : Nat → Int32), k + g = 4 → o + (se_vb g y).length ≤ 16384 → post (g_capacity, g_maxField, g_maxDepth, nI (o + (se_vb g y).length), g_regions, g_pos, g_bad, b_kinds, b_held, b_version, b_type, b_cursor, b_items, b_parent, b_field, b_val, b_bytes, b_length, sb_wr oo o (se_vb g y), b_encStart, b_encLen, b_partner, b_regMsg, b_regStart, b_regEnd) →
    wY_emitVarint_4 post (g + 1) y (nI k) g_capacity g_maxField g_maxDepth (nI o) g_regions g_pos g_bad b_kinds b_held b_version b_type b_cursor b_items b_parent b_field b_val b_bytes b_length oo b_encStart b_encLen b_partner b_regMsg b_regStart b_regEnd := by
  intro g
  induction g with
  | zero =>
    intro y k o oo hk ho h
    obtain rfl : k = 4 := by omega
    have e1 : (se_vb 0 y).length = 1 := rfl
    refine br_t (nI_le (a := 4) (b := 4) (Nat.le_refl _) (by omega)) ?_
    unfold wY_emitVarint_39
    exact sy_emit (by omega) h
  | succ g ih =>
    intro y k o oo hk ho h
    rw [wY_emitVarint_4]
    dsimp only
    rw [nI_1 k]
    refine br_f (nI_ge (b := 4) (by omega) (by omega)) (br_c (fun c => ?_) (fun c => ?_))
    · have e0 : se_vb (g + 1) y = [y] := by rw [se_vb, if_pos c]
      rw [e0] at ho h
      rw [List.length_singleton] at ho h
      unfold wY_emitVarint_39
      exact sy_emit (by omega) h
    · have e0 : se_vb (g + 1) y = ((y &&& 127) ||| 128) :: se_vb g (se_s7 y) := by rw [se_vb, if_neg c]
      rw [e0] at ho h
      rw [List.length_cons] at ho h
      refine sy_emit (by omega) (nm_e (nm_e (ih (se_s7 y) (k + 1) (o + 1) _ (by omega) (by omega) ?_)))
      have e : o + 1 + (se_vb g (se_s7 y)).length = o + ((se_vb g (se_s7 y)).length + 1) := by omega
      rw [e]; exact h
theorem sy_emitVarint {o : Nat} {x : Int32} (ho : o + (se_var x).length ≤ 16384) (h : post (g_capacity, g_maxField, g_maxDepth, nI (o + (se_var x).length), g_regions, g_pos, g_bad, b_kinds, b_held, b_version, b_type, b_cursor, b_items, b_parent, b_field, b_val, b_bytes, b_length, sb_wr oo o (se_var x), b_encStart, b_encLen, b_partner, b_regMsg, b_regStart, b_regEnd)) : wpY_emitVarint post (g_capacity, g_maxField, g_maxDepth, nI o, g_regions, g_pos, g_bad, b_kinds, b_held, b_version, b_type, b_cursor, b_items, b_parent, b_field, b_val, b_bytes, b_length, oo, b_encStart, b_encLen, b_partner, b_regMsg, b_regStart, b_regEnd) x :=
  ⟨5, sy_ev4 4 x 0 o oo (by omega) ho h⟩
theorem sy_rem3 {k : Nat} (hk : k < 2 ^ 31) : nI k - nI k / 3 * 3 = nI (k % 3) := pk_rem (a := k) (d := 3) hk (by omega) (by omega)
theorem sy_ep33n {k : Nat} (hk : k < 2 ^ 31) (h3 : k % 3 ≠ 0) {x : Int32} (h : post (g_capacity, g_maxField, g_maxDepth, g_outLen, g_regions, g_pos, g_bad, b_kinds, b_held, b_version, b_type, b_cursor, b_items, b_parent, b_field, b_val, b_bytes, b_length, b_out, b_encStart, b_encLen, b_partner, b_regMsg, b_regStart, b_regEnd)) : wY_emitPayload_33 post (nI k) x 1 0 g_capacity g_maxField g_maxDepth g_outLen g_regions g_pos g_bad b_kinds b_held b_version b_type b_cursor b_items b_parent b_field b_val b_bytes b_length b_out b_encStart b_encLen b_partner b_regMsg b_regStart b_regEnd := by
  unfold wY_emitPayload_33
  dsimp only
  rw [sy_rem3 hk]
  exact br_f (by decide) ⟨by decide, br_f (nI_ne0 (by omega) (by omega)) h⟩
theorem sy_ep33 {k : Nat} (hk : k < 2 ^ 31) (h3 : k % 3 = 0) {x : Int32} : ∀ (g i o : Nat) (oo : Nat → Int32), i + g = 4 → o + g ≤ 16384 → post (g_capacity, g_maxField, g_maxDepth, nI (o + g), g_regions, g_pos, g_bad, b_kinds, b_held, b_version, b_type, b_cursor, b_items, b_parent, b_field, b_val, b_bytes, b_length, sb_wr oo o ((List.range' i g).map (se_b8 x)), b_encStart, b_encLen, b_partner, b_regMsg, b_regStart, b_regEnd) →
    wY_emitPayload_33 post (nI k) x (g + 1) (nI i) g_capacity g_maxField g_maxDepth (nI o) g_regions g_pos g_bad b_kinds b_held b_version b_type b_cursor b_items b_parent b_field b_val b_bytes b_length oo b_encStart b_encLen b_partner b_regMsg b_regStart b_regEnd := by
  intro g
  induction g with
  | zero =>
    intro i o oo hi ho h
    exact br_t (nI_le (a := 4) (by omega) (by omega)) h
  | succ g ih =>
    intro i o oo hi ho h
    rw [wY_emitPayload_33]
    dsimp only
    rw [sy_rem3 hk, h3, sn_8, nI_1 i]
    refine br_f (nI_ge (b := 4) (by omega) (by omega)) ⟨by decide, br_t rfl (sy_emit (by omega) (nm_e (ih (i + 1) (o + 1) _ (by omega) (by omega) ?_)))⟩
    rw [List.range'_succ, List.map_cons, sb_wr] at h
    have e : o + 1 + g = o + (g + 1) := by omega
    rw [e]; exact h
theorem sy_emitPayload {o k : Nat} (hk : k < 2 ^ 31) {x : Int32} (ho : o + (se_pay k x).length ≤ 16384) (h : post (g_capacity, g_maxField, g_maxDepth, nI (o + (se_pay k x).length), g_regions, g_pos, g_bad, b_kinds, b_held, b_version, b_type, b_cursor, b_items, b_parent, b_field, b_val, b_bytes, b_length, sb_wr oo o (se_pay k x), b_encStart, b_encLen, b_partner, b_regMsg, b_regStart, b_regEnd)) : wpY_emitPayload post (g_capacity, g_maxField, g_maxDepth, nI o, g_regions, g_pos, g_bad, b_kinds, b_held, b_version, b_type, b_cursor, b_items, b_parent, b_field, b_val, b_bytes, b_length, oo, b_encStart, b_encLen, b_partner, b_regMsg, b_regStart, b_regEnd) (nI k) x := by
  unfold wpY_emitPayload
  dsimp only
  rw [sy_rem3 hk]
  refine ⟨by decide, pk_eq (k % 3) 1 (fun z => ?_) (fun z => ?_)⟩
  · have e : se_pay k x = se_var x := by unfold se_pay; rw [if_neg (by omega), if_neg (by omega)]
    rw [e] at ho h
    refine sy_emitVarint ho ?_
    unfold wY_emitPayload_12
    rw [sy_rem3 hk]
    exact ⟨by decide, pk_eq (k % 3) 2 (fun y => by omega) (fun y => ⟨1, sy_ep33n hk (by omega) h⟩)⟩
  · unfold wY_emitPayload_12
    rw [sy_rem3 hk]
    refine ⟨by decide, pk_eq (k % 3) 2 (fun y => ?_) (fun y => ⟨5, ?_⟩)⟩
    · have e : se_pay k x = se_var (se_zz x) := by unfold se_pay; rw [if_neg (by omega), if_pos y]
      rw [e] at ho h
      exact sy_emitVarint ho ⟨1, sy_ep33n hk (by omega) h⟩
    · have h3 : k % 3 = 0 := by omega
      rw [se_pay4 h3] at ho h
      rw [se_pay, if_pos h3] at h
      exact sy_ep33 hk h3 4 0 o oo (by omega) (by omega) h
end
/-- what one member of a field's list adds -/
def se_G (w : Nat → Int32) (E : Nat → List Int32) (k f j : Nat) : List Int32 :=
  if 10 ≤ k then se_var (nI (f * 8 + 2)) ++ (se_var (nI (E j).length) ++ E j) else if 7 ≤ k then se_pay k (w j) else se_var (nI (f * 8 + se_own k)) ++ se_pay k (w j)
/-- message i's bytes lie in the buffer, below o -/
def sy_Ec (E : Nat → List Int32) (es el oo : Nat → Int32) (o i : Nat) : Prop := ∃ e, es i = nI e ∧ el i = nI (E i).length ∧ e + (E i).length ≤ o ∧ sb_at oo e (E i)
theorem sy_Ec_up {E : Nat → List Int32} {es el oo : Nat → Int32} {o i : Nat} (h : sy_Ec E es el oo o i) (l : List Int32) : sy_Ec E es el (sb_wr oo o l) (o + l.length) i := by
  obtain ⟨e, h1, h2, h3, h4⟩ := h
  exact ⟨e, h1, h2, by omega, sb_at_cong h4 (fun c _ hc => sb_out _ _ _ _ (by omega))⟩
section
variable {g_capacity g_maxField g_maxDepth g_outLen g_regions g_pos g_bad : Int32} {b_kinds b_held b_version b_type b_cursor b_items b_parent b_field b_val b_bytes b_length b_out b_encStart b_encLen b_partner b_regMsg b_regStart b_regEnd : Nat → Int32} {K : Nat → Nat} {C F D v n s : Nat} {p q d : Nat → Nat} {w : Nat → Int32} {post : SY → Prop}
theorem sy_ef232 {J : Int32 → Int32 → Int32 → Int32 → Int32 → Int32 → Int32 → Int32 → (Nat → Int32) → (Nat → Int32) → (Nat → Int32) → (Nat → Int32) → (Nat → Int32) → (Nat → Int32) → (Nat → Int32) → (Nat → Int32) → (Nat → Int32) → (Nat → Int32) → (Nat → Int32) → (Nat → Int32) → (Nat → Int32) → (Nat → Int32) → (Nat → Int32) → (Nat → Int32) → (Nat → Int32) → (Nat → Int32) → Prop}
    {E : Nat → List Int32} {i e : Nat} {x1 x2 x3 x4 : Int32} (hi : i < 120) (h1 : b_encStart (i + 1) = nI e) (h2 : b_encLen (i + 1) = nI (E (i + 1)).length) :
    ∀ (k x o : Nat) (oo : Nat → Int32), x + k = (E (i + 1)).length → e + (E (i + 1)).length ≤ o → sb_at oo e (E (i + 1)) → o + ((E (i + 1)).drop x).length ≤ 16384 →
      J (nI (i + 1)) g_capacity g_maxField g_maxDepth (nI (o + ((E (i + 1)).drop x).length)) g_regions g_pos g_bad b_kinds b_held b_version b_type b_cursor b_items b_parent b_field b_val b_bytes b_length (sb_wr oo o ((E (i + 1)).drop x)) b_encStart b_encLen b_partner b_regMsg b_regStart b_regEnd →
      wY_emitField_232 post J x1 x2 x3 x4 (nI i) (k + 1) (nI x) g_capacity g_maxField g_maxDepth (nI o) g_regions g_pos g_bad b_kinds b_held b_version b_type b_cursor b_items b_parent b_field b_val b_bytes b_length oo b_encStart b_encLen b_partner b_regMsg b_regStart b_regEnd := by
  intro k
  induction k with
  | zero =>
    intro x o oo hx ho hat hb h
    rw [List.drop_eq_nil_of_le (by omega)] at h hb
    unfold wY_emitField_232
    dsimp only
    rw [nI_1 i, nI_clamp (by omega), h2]
    exact ⟨vp_in_nI (by omega) (by omega), br_t (nI_le (by omega) (by omega)) (nm_e h)⟩
  | succ k ih =>
    intro x o oo hx ho hat hb h
    have hlt : x < (E (i + 1)).length := by omega
    have ed : (E (i + 1)).drop x = (E (i + 1))[x] :: (E (i + 1)).drop (x + 1) := List.drop_eq_getElem_cons hlt
    have eo : oo (e + x) = (E (i + 1))[x] := hat x _ (List.getElem?_eq_getElem hlt)
    rw [ed, List.length_cons] at hb h
    rw [wY_emitField_232]
    dsimp only
    rw [nI_1 i, nI_clamp (n := i + 1) (by omega), h2, h1, nI_add, nI_clamp (n := e + x) (by omega), eo, nI_1 x]
    refine ⟨vp_in_nI (by omega) (by omega), br_f (nI_ge (by omega) (by omega)) ⟨vp_in_nI (by omega) (by omega), vp_in_nI (by omega) (by omega), sy_emit (by omega) (nm_e (ih (x + 1) (o + 1) _ (by omega) (by omega) ?_ (by omega) ?_))⟩⟩
    · exact sb_at_cong hat (fun c _ hc => pk_un (by omega))
    · have e : o + 1 + ((E (i + 1)).drop (x + 1)).length = o + (((E (i + 1)).drop (x + 1)).length + 1) := by omega
      rw [e]; exact h
theorem sy_ef123 (hC : C ≤ 120) (hF : F ≤ 20) (W : sw_WF K C F D v n p q w d) (R : sy_R s v n p q w b_version b_type b_items b_parent b_field b_val) (hs : s < 3) {m f : Nat} (hm : m ≤ n) (hf : f ≤ 20) {E : Nat → List Int32} {kk o : Nat} (hkk : kk ≤ 15) {oo : Nat → Int32}
    (hE : 10 ≤ kk → ∀ j, j ∈ sw_L p q m f n → sy_Ec E b_encStart b_encLen oo o j)
    (ho : o + ((sw_L p q m f n).flatMap (se_G w E kk f)).length ≤ 16384)
    (h : post (g_capacity, g_maxField, g_maxDepth, nI (o + ((sw_L p q m f n).flatMap (se_G w E kk f)).length), g_regions, g_pos, g_bad, b_kinds, b_held, b_version, b_type, b_cursor, b_items, b_parent, b_field, b_val, b_bytes, b_length, sb_wr oo o ((sw_L p q m f n).flatMap (se_G w E kk f)), b_encStart, b_encLen, b_partner, b_regMsg, b_regStart, b_regEnd)) :
    ∀ k i, i + k = n → wY_emitField_123 post (nI s) (sw_mI m) (nI f) (nI kk) (k + 1) (nI i) g_capacity g_maxField g_maxDepth (nI (o + ((sw_L p q m f i).flatMap (se_G w E kk f)).length)) g_regions g_pos g_bad b_kinds b_held b_version b_type b_cursor b_items b_parent b_field b_val b_bytes b_length (sb_wr oo o ((sw_L p q m f i).flatMap (se_G w E kk f))) b_encStart b_encLen b_partner b_regMsg b_regStart b_regEnd := by
  have hn := W.1
  have es : (nI s).toNatClampNeg = s := nI_clamp (by omega)
  intro k
  induction k with
  | zero =>
    intro i hi
    obtain rfl : i = n := by omega
    unfold wY_emitField_123
    dsimp only
    rw [es, R.2.2.1]
    exact ⟨vp_in_nI hs (by omega), br_t (nI_le (Nat.le_refl _) (by omega)) h⟩
  | succ k ih =>
    intro i hi
    have e := ih (i + 1) (by omega)
    obtain ⟨r1, r2, r3⟩ := R.2.2.2 i (by omega)
    rw [wY_emitField_123]
    dsimp only
    rw [es, R.2.2.1]
    refine ⟨vp_in_nI hs (by omega), br_f (nI_ge (by omega) (by omega)) ?_⟩
    refine sy_lies W hC hF R hs (by omega) (by omega) (by omega) (fun z => br_f (by decide) ?_) (fun z => br_t rfl ?_)
    · rw [sw_L, if_pos z, List.flatMap_append, List.flatMap_cons, List.flatMap_nil, List.append_nil, sb_app, List.length_append, ← Nat.add_assoc] at e
      have hbound : o + ((sw_L p q m f i).flatMap (se_G w E kk f)).length + (se_G w E kk f (i + 1)).length ≤ 16384 := by
        obtain ⟨l, hl⟩ := sw_pre (p := p) (q := q) (m := m) (f := f) (a := i + 1) (b := n) (by omega)
        rw [hl, sw_L, if_pos z, List.flatMap_append, List.flatMap_append, List.flatMap_cons, List.flatMap_nil, List.append_nil, List.length_append, List.length_append] at ho
        omega
      have hjm : i + 1 ∈ sw_L p q m f n := sw_mem.mpr ⟨by omega, by omega, z.1, z.2⟩
      have e2' : nI f * 8 + 2 = nI (f * 8 + 2) := by rw [show (2 : Int32) = nI 2 from rfl, sn_m8, nI_add]
      have h199n : ∀ (o' : Nat) (ou : Nat → Int32), kk < 10 → ou = sb_wr (sb_wr oo o ((sw_L p q m f i).flatMap (se_G w E kk f))) (o + ((sw_L p q m f i).flatMap (se_G w E kk f)).length) (se_G w E kk f (i + 1)) → o' = o + ((sw_L p q m f i).flatMap (se_G w E kk f)).length + (se_G w E kk f (i + 1)).length →
          wY_emitField_199 post (wY_emitField_123 post (nI s) (sw_mI m) (nI f) (nI kk) (k + 1)) (nI s) (sw_mI m) (nI f) (nI kk) (nI i) g_capacity g_maxField g_maxDepth (nI o') g_regions g_pos g_bad b_kinds b_held b_version b_type b_cursor b_items b_parent b_field b_val b_bytes b_length ou b_encStart b_encLen b_partner b_regMsg b_regStart b_regEnd := by
        intro o' ou hk1 eou eo'
        subst eou eo'
        unfold wY_emitField_199
        rw [nI_1]
        exact pk_lt kk 10 (fun _ => nm_e e) (fun y => by omega)
      have h174 : ∀ (o' : Nat) (ou : Nat → Int32), (kk < 10 → o' + (se_pay kk (w (i + 1))).length = o + ((sw_L p q m f i).flatMap (se_G w E kk f)).length + (se_G w E kk f (i + 1)).length ∧ sb_wr ou o' (se_pay kk (w (i + 1))) = sb_wr (sb_wr oo o ((sw_L p q m f i).flatMap (se_G w E kk f))) (o + ((sw_L p q m f i).flatMap (se_G w E kk f)).length) (se_G w E kk f (i + 1))) →
          (10 ≤ kk → o' = o + ((sw_L p q m f i).flatMap (se_G w E kk f)).length ∧ ou = sb_wr oo o ((sw_L p q m f i).flatMap (se_G w E kk f))) →
          wY_emitField_174 post (wY_emitField_123 post (nI s) (sw_mI m) (nI f) (nI kk) (k + 1)) (nI s) (sw_mI m) (nI f) (nI kk) (nI i) g_capacity g_maxField g_maxDepth (nI o') g_regions g_pos g_bad b_kinds b_held b_version b_type b_cursor b_items b_parent b_field b_val b_bytes b_length ou b_encStart b_encLen b_partner b_regMsg b_regStart b_regEnd := by
        intro o' ou g1 g2
        unfold wY_emitField_174
        refine pk_lt 9 kk (fun y => ?_) (fun y => ?_)
        · obtain ⟨rfl, rfl⟩ := g2 (by omega)
          have eG : se_G w E kk f (i + 1) = se_var (nI (f * 8 + 2)) ++ (se_var (nI (E (i + 1)).length) ++ E (i + 1)) := by unfold se_G; rw [if_pos (by omega)]
          rw [eG, List.length_append, List.length_append] at hbound
          unfold wY_emitField_199
          rw [e2']
          refine pk_lt kk 10 (fun y => by omega) (fun _ => sy_emitVarint (by omega) ?_)
          obtain ⟨e0, y1, y2, y3, y4⟩ := hE (by omega) (i + 1) hjm
          dsimp only
          rw [nI_1 i, nI_clamp (n := i + 1) (by omega), y2]
          refine ⟨vp_in_nI (by omega) (by omega), sy_emitVarint (by omega) ⟨(E (i + 1)).length + 1, ?_⟩⟩
          dsimp only
          refine sy_ef232 (E := E) (e := e0) (by omega) y1 y2 (E (i + 1)).length 0 _ _ (by omega) (by omega) ?_ (by rw [List.drop_zero]; omega) ?_
          · refine sb_at_cong y4 (fun c _ hc => ?_)
            rw [sb_out _ _ _ _ (by omega), sb_out _ _ _ _ (by omega), sb_out _ _ _ _ (by omega)]
          · rw [List.drop_zero]
            rw [eG, List.length_append, List.length_append, sb_app, sb_app] at e
            rw [← Nat.add_assoc, ← Nat.add_assoc] at e
            exact e
        · obtain ⟨g3, g4⟩ := g1 (by omega)
          rw [sn_120, nI_clamp (by omega), r3]
          refine ⟨vp_in_nI (by omega) (by omega), sy_emitPayload (by omega) (by omega) (h199n _ _ (by omega) ?_ (by omega))⟩
          exact g4
      refine pk_lt 6 kk (fun z6 => h174 _ _ (fun y => ?_) (fun _ => ⟨rfl, rfl⟩)) (fun z6 => ?_)
      · have eG : se_G w E kk f (i + 1) = se_pay kk (w (i + 1)) := by unfold se_G; rw [if_neg (by omega), if_pos (by omega)]
        rw [eG]; exact ⟨rfl, rfl⟩
      · have eG : se_G w E kk f (i + 1) = se_var (nI (f * 8 + se_own kk)) ++ se_pay kk (w (i + 1)) := by unfold se_G; rw [if_neg (by omega), if_neg (by omega)]
        have h170 : ∀ z0 : Int32, z0 = nI (se_own kk) → wY_emitField_170 post (wY_emitField_123 post (nI s) (sw_mI m) (nI f) (nI kk) (k + 1)) (nI s) (sw_mI m) (nI f) (nI kk) (nI i) z0 (nI f * 8) g_capacity g_maxField g_maxDepth (nI (o + ((sw_L p q m f i).flatMap (se_G w E kk f)).length)) g_regions g_pos g_bad b_kinds b_held b_version b_type b_cursor b_items b_parent b_field b_val b_bytes b_length (sb_wr oo o ((sw_L p q m f i).flatMap (se_G w E kk f))) b_encStart b_encLen b_partner b_regMsg b_regStart b_regEnd := by
          intro z0 ez
          subst ez
          unfold wY_emitField_170
          rw [sn_m8, nI_add]
          rw [eG, List.length_append] at hbound
          refine sy_emitVarint (by omega) (h174 _ _ (fun _ => ?_) (fun y => by omega))
          rw [eG, sb_app, List.length_append]; exact ⟨by omega, rfl⟩
        rw [sy_rem3 (by omega)]
        refine ⟨by decide, pk_eq (kk % 3) 0 (fun y => h170 _ ?_) (fun y => h170 _ ?_)⟩
        · unfold se_own; rw [if_pos y]; rfl
        · unfold se_own; rw [if_neg y]; rfl
    · rw [sw_L, if_neg z] at e
      rw [nI_1]
      exact nm_e e
end
end
section
theorem se_fldG {w : Nat → Int32} {E : Nat → List Int32} {k f : Nat} {l : List Nat} (h : k < 7 ∨ 10 ≤ k ∨ l = []) : se_fld w E k f l = l.flatMap (se_G w E k f) := by
  unfold se_fld
  by_cases hl : l = []
  · rw [if_pos hl, hl]; rfl
  · rw [if_neg hl]
    by_cases h10 : 10 ≤ k
    · rw [if_pos h10]
      refine se_flatcong (fun j _ => ?_)
      unfold se_G
      rw [if_pos h10]
    · have h7 : ¬ 7 ≤ k := by
        rcases h with h | h | h
        · omega
        · exact absurd h h10
        · exact absurd h hl
      rw [if_neg h10, if_neg h7]
      refine se_flatcong (fun j _ => ?_)
      unfold se_G
      rw [if_neg h10, if_neg h7]
theorem se_fldP {w : Nat → Int32} {E : Nat → List Int32} {k f : Nat} {l : List Nat} (h7 : 7 ≤ k) (h9 : k ≤ 9) (hl : l ≠ []) : se_fld w E k f l = se_var (nI (f * 8 + 2)) ++ (se_var (nI (l.flatMap (se_G w E k f)).length) ++ l.flatMap (se_G w E k f)) := by
  have e : l.flatMap (se_G w E k f) = l.flatMap (fun j => se_pay k (w j)) := se_flatcong (fun j _ => by unfold se_G; rw [if_neg (by omega), if_pos h7])
  rw [e]
  unfold se_fld
  rw [if_neg hl, if_neg (by omega), if_pos h7]
section
variable {g_capacity g_maxField g_maxDepth g_outLen g_regions g_pos g_bad : Int32} {b_kinds b_held b_version b_type b_cursor b_items b_parent b_field b_val b_bytes b_length b_out b_encStart b_encLen b_partner b_regMsg b_regStart b_regEnd : Nat → Int32} {K : Nat → Nat} {C F D v n s : Nat} {p q d : Nat → Nat} {w : Nat → Int32} {post : SY → Prop}
theorem sy_ef42 (hC : C ≤ 120) (hF : F ≤ 20) (W : sw_WF K C F D v n p q w d) (R : sy_R s v n p q w b_version b_type b_items b_parent b_field b_val) (hs : s < 3) {m f : Nat} (hm : m ≤ n) (hf : f ≤ 20) {E : Nat → List Int32} {kk o : Nat} (h7 : 7 ≤ kk) (h9 : kk ≤ 9) (hl : sw_L p q m f n ≠ []) {oo : Nat → Int32}
    (ho : o + (se_fld w E kk f (sw_L p q m f n)).length ≤ 16384)
    (h : post (g_capacity, g_maxField, g_maxDepth, nI (o + (se_fld w E kk f (sw_L p q m f n)).length), g_regions, g_pos, g_bad, b_kinds, b_held, b_version, b_type, b_cursor, b_items, b_parent, b_field, b_val, b_bytes, b_length, sb_wr oo o (se_fld w E kk f (sw_L p q m f n)), b_encStart, b_encLen, b_partner, b_regMsg, b_regStart, b_regEnd)) :
    ∀ k i, i + k = n → wY_emitField_42 post (nI s) (sw_mI m) (nI f) (nI kk) (nI o) (k + 1) (nI i) g_capacity g_maxField g_maxDepth (nI (o + ((sw_L p q m f i).flatMap (se_G w E kk f)).length)) g_regions g_pos g_bad b_kinds b_held b_version b_type b_cursor b_items b_parent b_field b_val b_bytes b_length (sb_wr oo o ((sw_L p q m f i).flatMap (se_G w E kk f))) b_encStart b_encLen b_partner b_regMsg b_regStart b_regEnd := by
  have hn := W.1
  have es : (nI s).toNatClampNeg = s := nI_clamp (by omega)
  have e2' : nI f * 8 + 2 = nI (f * 8 + 2) := by rw [show (2 : Int32) = nI 2 from rfl, sn_m8, nI_add]
  rw [se_fldP h7 h9 hl] at ho h
  rw [List.length_append, List.length_append] at ho
  intro k
  induction k with
  | zero =>
    intro i hi
    obtain rfl : i = n := by omega
    unfold wY_emitField_42
    dsimp only
    have esz : nI (o + ((sw_L p q m f i).flatMap (se_G w E kk f)).length) - nI o = nI ((sw_L p q m f i).flatMap (se_G w E kk f)).length := by
      rw [pk_sub (by omega)]
      exact congrArg nI (by omega)
    rw [es, R.2.2.1, e2', esz]
    refine ⟨vp_in_nI hs (by omega), br_t (nI_le (Nat.le_refl _) (by omega)) (nm_e (sy_emitVarint (by omega) (sy_emitVarint (by omega) ⟨i + 1, ?_⟩)))⟩
    dsimp only
    refine sy_ef123 (E := E) (oo := sb_wr (sb_wr (sb_wr oo o ((sw_L p q m f i).flatMap (se_G w E kk f))) o (se_var (nI (f * 8 + 2)))) (o + (se_var (nI (f * 8 + 2))).length) (se_var (nI ((sw_L p q m f i).flatMap (se_G w E kk f)).length))) (o := o + (se_var (nI (f * 8 + 2))).length + (se_var (nI ((sw_L p q m f i).flatMap (se_G w E kk f)).length)).length) hC hF W R hs hm hf (by omega) (fun y => by omega) (by omega) ?_ i 0 (by omega)
    have e1 : sb_wr (sb_wr (sb_wr (sb_wr oo o ((sw_L p q m f i).flatMap (se_G w E kk f))) o (se_var (nI (f * 8 + 2)))) (o + (se_var (nI (f * 8 + 2))).length) (se_var (nI ((sw_L p q m f i).flatMap (se_G w E kk f)).length))) (o + (se_var (nI (f * 8 + 2))).length + (se_var (nI ((sw_L p q m f i).flatMap (se_G w E kk f)).length)).length) ((sw_L p q m f i).flatMap (se_G w E kk f)) = sb_wr oo o (se_var (nI (f * 8 + 2)) ++ (se_var (nI ((sw_L p q m f i).flatMap (se_G w E kk f)).length) ++ (sw_L p q m f i).flatMap (se_G w E kk f))) := by
      rw [← sb_over (l := (sw_L p q m f i).flatMap (se_G w E kk f)) (l' := se_var (nI (f * 8 + 2)) ++ (se_var (nI ((sw_L p q m f i).flatMap (se_G w E kk f)).length) ++ (sw_L p q m f i).flatMap (se_G w E kk f))) (by rw [List.length_append, List.length_append]; omega) oo o, sb_app, sb_app]
    rw [e1]
    rw [List.length_append, List.length_append, ← Nat.add_assoc, ← Nat.add_assoc] at h
    exact h
  | succ k ih =>
    intro i hi
    have e := ih (i + 1) (by omega)
    obtain ⟨r1, r2, r3⟩ := R.2.2.2 i (by omega)
    rw [wY_emitField_42]
    dsimp only
    rw [es, R.2.2.1]
    refine ⟨vp_in_nI hs (by omega), br_f (nI_ge (by omega) (by omega)) ?_⟩
    refine sy_lies W hC hF R hs (by omega) (by omega) (by omega) (fun z => br_f (by decide) ?_) (fun z => br_t rfl ?_)
    · have eG : se_G w E kk f (i + 1) = se_pay kk (w (i + 1)) := by unfold se_G; rw [if_neg (by omega), if_pos (by omega)]
      rw [sw_L, if_pos z, List.flatMap_append, List.flatMap_cons, List.flatMap_nil, List.append_nil, sb_app, List.length_append, ← Nat.add_assoc, eG] at e
      have hbound : o + ((sw_L p q m f i).flatMap (se_G w E kk f)).length + (se_pay kk (w (i + 1))).length ≤ 16384 := by
        obtain ⟨l, hl⟩ := sw_pre (p := p) (q := q) (m := m) (f := f) (a := i + 1) (b := n) (by omega)
        have hq : ((sw_L p q m f n).flatMap (se_G w E kk f)).length = ((sw_L p q m f i).flatMap (se_G w E kk f)).length + (se_pay kk (w (i + 1))).length + (l.flatMap (se_G w E kk f)).length := by
          rw [hl, sw_L, if_pos z, List.flatMap_append, List.flatMap_append, List.flatMap_cons, List.flatMap_nil, List.append_nil, List.length_append, List.length_append, eG]
        omega
      rw [sn_120, nI_clamp (by omega), r3, nI_1 i]
      exact ⟨vp_in_nI (by omega) (by omega), sy_emitPayload (by omega) hbound (nm_e e)⟩
    · rw [sw_L, if_neg z] at e
      rw [nI_1]
      exact nm_e e
theorem sy_emitField (X : sw_Cx K C F D g_capacity g_maxField g_maxDepth b_kinds) (W : sw_WF K C F D v n p q w d) (R : sy_R s v n p q w b_version b_type b_items b_parent b_field b_val) (hs : s < 3) {m f : Nat} (hm : m ≤ n) (hms : sw_ms K F v p q w m) (hf : f ≤ 20) {E : Nat → List Int32} {o : Nat} {oo : Nat → Int32}
    (hE : ∀ j, j ∈ sw_L p q m f n → sw_ms K F v p q w j → sy_Ec E b_encStart b_encLen oo o j)
    (ho : o + (se_fld w E (sw_kd K F (sw_sc v w m) f) f (sw_L p q m f n)).length ≤ 16384)
    (h : post (g_capacity, g_maxField, g_maxDepth, nI (o + (se_fld w E (sw_kd K F (sw_sc v w m) f) f (sw_L p q m f n)).length), g_regions, g_pos, g_bad, b_kinds, b_held, b_version, b_type, b_cursor, b_items, b_parent, b_field, b_val, b_bytes, b_length, sb_wr oo o (se_fld w E (sw_kd K F (sw_sc v w m) f) f (sw_L p q m f n)), b_encStart, b_encLen, b_partner, b_regMsg, b_regStart, b_regEnd)) :
    wpY_emitField post (g_capacity, g_maxField, g_maxDepth, nI o, g_regions, g_pos, g_bad, b_kinds, b_held, b_version, b_type, b_cursor, b_items, b_parent, b_field, b_val, b_bytes, b_length, oo, b_encStart, b_encLen, b_partner, b_regMsg, b_regStart, b_regEnd) (nI s) (sw_mI m) (nI f) := by
  have X0 := X
  obtain ⟨x1, x2, x3, x4, x5, x6, e1, e2, e3, x7⟩ := X
  have hn := W.1
  have hs9 := (sw_sc_lt W hm hms).1
  have hk15 := sw_kd_le (K := K) (F := F) (s := sw_sc v w m) (f := f) (fun i h => (x7 i h).1) x4 hs9
  have hlen := sw_len (p := p) (q := q) (m := m) (f := f) (n := n)
  have h123 : (sw_kd K F (sw_sc v w m) f < 7 ∨ 10 ≤ sw_kd K F (sw_sc v w m) f ∨ sw_L p q m f n = []) → ∃ n123, wY_emitField_123 post (nI s) (sw_mI m) (nI f) (nI (sw_kd K F (sw_sc v w m) f)) n123 0 g_capacity g_maxField g_maxDepth (nI o) g_regions g_pos g_bad b_kinds b_held b_version b_type b_cursor b_items b_parent b_field b_val b_bytes b_length oo b_encStart b_encLen b_partner b_regMsg b_regStart b_regEnd := by
    intro hor
    rw [se_fldG hor] at ho h
    exact ⟨n + 1, sy_ef123 (E := E) (oo := oo) (o := o) x2 x4 W R hs hm hf hk15 (fun y j hj => hE j hj ((sw_msL W hj).mpr y)) ho h n 0 (by omega)⟩
  unfold wpY_emitField
  refine sy_kindIn X0 W R hs hm hms (by omega) ?_
  refine pk_lt (sw_kd K F (sw_sc v w m) f) 7 (fun z => h123 (Or.inl z)) (fun z7 => pk_lt 9 (sw_kd K F (sw_sc v w m) f) (fun z => h123 (Or.inr (Or.inl z))) (fun z9 => ?_))
  refine sy_countIn W x2 x4 R hs (by omega) (by omega) ?_
  refine pk_le (sw_L p q m f n).length 0 (fun y => h123 (Or.inr (Or.inr (List.eq_nil_of_length_eq_zero (by omega))))) (fun y => ⟨n + 1, ?_⟩)
  exact sy_ef42 (E := E) (oo := oo) (o := o) x2 x4 W R hs hm hf z7 z9 (fun u => by rw [u] at y; exact absurd y (Nat.lt_irrefl 0)) ho h n 0 (by omega)
theorem sy_en102 {post : Int32 → SY → Prop} {J : Int32 → Int32 → Int32 → Int32 → Int32 → Int32 → Int32 → Int32 → (Nat → Int32) → (Nat → Int32) → (Nat → Int32) → (Nat → Int32) → (Nat → Int32) → (Nat → Int32) → (Nat → Int32) → (Nat → Int32) → (Nat → Int32) → (Nat → Int32) → (Nat → Int32) → (Nat → Int32) → (Nat → Int32) → (Nat → Int32) → (Nat → Int32) → (Nat → Int32) → (Nat → Int32) → (Nat → Int32) → Prop}
    (X : sw_Cx K C F D g_capacity g_maxField g_maxDepth b_kinds) (W : sw_WF K C F D v n p q w d) (R : sy_R s v n p q w b_version b_type b_items b_parent b_field b_val) (hs : s < 3) {m : Nat} (hm : m ≤ n) (hms : sw_ms K F v p q w m) {E : Nat → List Int32} {x2 : Int32}
    {e0 : Nat} {ou : Nat → Int32} (h : ∃ n128, wY_encode_128 post J (nI s) x2 (sw_mI m) n128 0 g_capacity g_maxField g_maxDepth (nI e0) g_regions g_pos g_bad b_kinds b_held b_version b_type b_cursor b_items b_parent b_field b_val b_bytes b_length ou b_encStart b_encLen b_partner b_regMsg b_regStart b_regEnd) :
    ∀ (k f o : Nat) (oo : Nat → Int32), f + k = F + 1 → 1 ≤ f → (∀ j, 1 ≤ j → j ≤ n → p j = m → sw_ms K F v p q w j → sy_Ec E b_encStart b_encLen oo o j) → o + (se_flds K F v n p q w E m k f).length ≤ 16384 →
      sb_wr oo o (se_flds K F v n p q w E m k f) = ou → o + (se_flds K F v n p q w E m k f).length = e0 →
      wY_encode_102 post J (nI s) x2 (sw_mI m) (k + 1) (nI f) g_capacity g_maxField g_maxDepth (nI o) g_regions g_pos g_bad b_kinds b_held b_version b_type b_cursor b_items b_parent b_field b_val b_bytes b_length oo b_encStart b_encLen b_partner b_regMsg b_regStart b_regEnd := by
  have X0 := X
  obtain ⟨x1, x2', x3, x4, x5, x6, e1, e2, e3, x7⟩ := X
  intro k
  induction k with
  | zero =>
    intro f o oo hf h1 hE ho hou he0
    rw [se_flds] at hou he0
    rw [List.length_nil, Nat.add_zero] at he0
    rw [sb_nil] at hou
    subst hou he0
    exact br_t (by rw [e2]; exact nI_lt (by omega) (by omega)) h
  | succ k ih =>
    intro f o oo hf h1 hE ho hou he0
    rw [se_flds, List.length_append] at ho
    rw [se_flds, sb_app] at hou
    rw [se_flds, List.length_append, ← Nat.add_assoc] at he0
    rw [wY_encode_102]
    dsimp only
    refine br_f (by rw [e2]; exact nI_nlt (by omega) (by omega)) ?_
    refine sy_emitField (E := E) (oo := oo) X0 W R hs hm hms (by omega) (fun j hj hjm => ?_) (by omega) ?_
    · have u := sw_mem.mp hj
      exact hE j u.1 u.2.1 u.2.2.1 hjm
    · rw [nI_1]
      exact nm_e (ih (f + 1) _ _ (by omega) (by omega) (fun j y1 y2 y3 y4 => sy_Ec_up (hE j y1 y2 y3 y4) _) (by omega) hou he0)
theorem sy_en128 {post : Int32 → SY → Prop} {J : Int32 → Int32 → Int32 → Int32 → Int32 → Int32 → Int32 → Int32 → (Nat → Int32) → (Nat → Int32) → (Nat → Int32) → (Nat → Int32) → (Nat → Int32) → (Nat → Int32) → (Nat → Int32) → (Nat → Int32) → (Nat → Int32) → (Nat → Int32) → (Nat → Int32) → (Nat → Int32) → (Nat → Int32) → (Nat → Int32) → (Nat → Int32) → (Nat → Int32) → (Nat → Int32) → (Nat → Int32) → Prop}
    (hC : C ≤ 120) (hF : F ≤ 20) (W : sw_WF K C F D v n p q w d) (R : sy_R s v n p q w b_version b_type b_items b_parent b_field b_val) (hs : s < 3) {m : Nat} (hm : m ≤ n) {x2 : Int32} {o st0 : Nat} {oo : Nat → Int32} (hst : b_encStart m = nI st0) (hle : st0 ≤ o)
    (ho : o + ((sw_L p q m 0 n).map w).length ≤ 16384)
    (h : J (sw_mI m + (-1)) g_capacity g_maxField g_maxDepth (nI (o + ((sw_L p q m 0 n).map w).length)) g_regions g_pos g_bad b_kinds b_held b_version b_type b_cursor b_items b_parent b_field b_val b_bytes b_length (sb_wr oo o ((sw_L p q m 0 n).map w)) b_encStart (upd b_encLen m (nI (o + ((sw_L p q m 0 n).map w).length - st0))) b_partner b_regMsg b_regStart b_regEnd) :
    ∀ k i, i + k = n → wY_encode_128 post J (nI s) x2 (sw_mI m) (k + 1) (nI i) g_capacity g_maxField g_maxDepth (nI (o + ((sw_L p q m 0 i).map w).length)) g_regions g_pos g_bad b_kinds b_held b_version b_type b_cursor b_items b_parent b_field b_val b_bytes b_length (sb_wr oo o ((sw_L p q m 0 i).map w)) b_encStart b_encLen b_partner b_regMsg b_regStart b_regEnd := by
  have hn := W.1
  have es : (nI s).toNatClampNeg = s := nI_clamp (by omega)
  intro k
  induction k with
  | zero =>
    intro i hi
    obtain rfl : i = n := by omega
    unfold wY_encode_128
    dsimp only
    rw [es, R.2.2.1, sw_mI_1, nI_clamp (n := m) (by omega), hst, pk_sub (by omega)]
    exact ⟨vp_in_nI hs (by omega), br_t (nI_le (Nat.le_refl _) (by omega)) ⟨vp_in_nI (by omega) (by omega), vp_in_nI (by omega) (by omega), nm_e (nm_e h)⟩⟩
  | succ k ih =>
    intro i hi
    have e := ih (i + 1) (by omega)
    obtain ⟨r1, r2, r3⟩ := R.2.2.2 i (by omega)
    rw [wY_encode_128]
    dsimp only
    rw [es, R.2.2.1]
    refine ⟨vp_in_nI hs (by omega), br_f (nI_ge (by omega) (by omega)) ?_⟩
    refine sy_lies (f := 0) W hC hF R hs (by omega) (by omega) (by omega) (fun z => br_f (by decide) ?_) (fun z => br_t rfl ?_)
    · rw [sw_L, if_pos z, List.map_append, List.map_cons, List.map_nil, sb_app, sb_one, List.length_append, List.length_singleton, ← Nat.add_assoc] at e
      have hbound : o + ((sw_L p q m 0 i).map w).length < 16384 := by
        obtain ⟨l, hl⟩ := sw_pre (p := p) (q := q) (m := m) (f := 0) (a := i + 1) (b := n) (by omega)
        rw [hl, sw_L, if_pos z, List.length_map, List.length_append, List.length_append, List.length_singleton] at ho
        rw [List.length_map]
        omega
      rw [sn_120, nI_clamp (by omega), r3, nI_1 i]
      exact ⟨vp_in_nI (by omega) (by omega), sy_emit hbound (nm_e e)⟩
    · rw [sw_L, if_neg z] at e
      rw [nI_1]
      exact nm_e e
end
end
section
theorem sw_mI_m1 (j : Nat) : sw_mI (j + 1) + (-1) = sw_mI j := by
  rw [sw_mI_s, sw_mI, Int32.sub_eq_add_neg]
section
variable {g_capacity g_maxField g_maxDepth g_outLen g_regions g_pos g_bad : Int32} {b_kinds b_held b_version b_type b_cursor b_items b_parent b_field b_val b_bytes b_length b_out b_encStart b_encLen b_partner b_regMsg b_regStart b_regEnd : Nat → Int32} {K : Nat → Nat} {C F D v n s : Nat} {p q d : Nat → Nat} {w : Nat → Int32} {post : Int32 → SY → Prop}
theorem sy_en46 (X : sw_Cx K C F D g_capacity g_maxField g_maxDepth b_kinds) (W : sw_WF K C F D v n p q w d) (R : sy_R s v n p q w b_version b_type b_items b_parent b_field b_val) (hs : s < 3) {x2 : Int32}
    (h : ∀ (oo es el : Nat → Int32) (o : Nat), o ≤ 12600 → sy_Ec (se_enc K F v n p q w) es el oo o 0 → wY_encode_46 post (nI s) x2 1 (-1 + (-1)) g_capacity g_maxField g_maxDepth (nI o) g_regions g_pos g_bad b_kinds b_held b_version b_type b_cursor b_items b_parent b_field b_val b_bytes b_length oo es el b_partner b_regMsg b_regStart b_regEnd) :
    ∀ (j : Nat) (oo es el : Nat → Int32), j ≤ n → (∀ i, j < i → i ≤ n → sw_ms K F v p q w i → sy_Ec (se_enc K F v n p q w) es el oo (sq_s (se_lm K F v n p q w) (n + 1) - sq_s (se_lm K F v n p q w) (j + 1)) i) →
      wY_encode_46 post (nI s) x2 (j + 2) (sw_mI j) g_capacity g_maxField g_maxDepth (nI (sq_s (se_lm K F v n p q w) (n + 1) - sq_s (se_lm K F v n p q w) (j + 1))) g_regions g_pos g_bad b_kinds b_held b_version b_type b_cursor b_items b_parent b_field b_val b_bytes b_length oo es el b_partner b_regMsg b_regStart b_regEnd := by
  have X0 := X
  obtain ⟨x1, x2', x3, x4, x5, x6, e1, e2, e3, x7⟩ := X
  have hn := W.1
  have U := sw_up_of W
  have hT := se_total W x6
  have h87 : ∀ (j : Nat) (oo es el : Nat → Int32) (J : Int32 → Int32 → Int32 → Int32 → Int32 → Int32 → Int32 → Int32 → (Nat → Int32) → (Nat → Int32) → (Nat → Int32) → (Nat → Int32) → (Nat → Int32) → (Nat → Int32) → (Nat → Int32) → (Nat → Int32) → (Nat → Int32) → (Nat → Int32) → (Nat → Int32) → (Nat → Int32) → (Nat → Int32) → (Nat → Int32) → (Nat → Int32) → (Nat → Int32) → (Nat → Int32) → (Nat → Int32) → Prop), j ≤ n → sw_ms K F v p q w j →
      (∀ i, j < i → i ≤ n → sw_ms K F v p q w i → sy_Ec (se_enc K F v n p q w) es el oo (sq_s (se_lm K F v n p q w) (n + 1) - sq_s (se_lm K F v n p q w) (j + 1)) i) →
      (∀ oo' es' el' : Nat → Int32, (∀ i, j ≤ i → i ≤ n → sw_ms K F v p q w i → sy_Ec (se_enc K F v n p q w) es' el' oo' (sq_s (se_lm K F v n p q w) (n + 1) - sq_s (se_lm K F v n p q w) j) i) → J (sw_mI j + (-1)) g_capacity g_maxField g_maxDepth (nI (sq_s (se_lm K F v n p q w) (n + 1) - sq_s (se_lm K F v n p q w) j)) g_regions g_pos g_bad b_kinds b_held b_version b_type b_cursor b_items b_parent b_field b_val b_bytes b_length oo' es' el' b_partner b_regMsg b_regStart b_regEnd) →
      wY_encode_87 post J (nI s) x2 (sw_mI j) g_capacity g_maxField g_maxDepth (nI (sq_s (se_lm K F v n p q w) (n + 1) - sq_s (se_lm K F v n p q w) (j + 1))) g_regions g_pos g_bad b_kinds b_held b_version b_type b_cursor b_items b_parent b_field b_val b_bytes b_length oo es el b_partner b_regMsg b_regStart b_regEnd := by
    intro j oo es el J hj hms hE hJ
    have hmo := sq_mono (se_lm K F v n p q w) (a := j + 1) (b := n + 1) (by omega)
    have hst : sq_s (se_lm K F v n p q w) (j + 1) = sq_s (se_lm K F v n p q w) j + (se_enc K F v n p q w j).length := by
      rw [← se_lm_t (K := K) (F := F) (v := v) (n := n) hms]; rfl
    have ee : se_enc K F v n p q w j = se_flds K F v n p q w (se_enc K F v n p q w) j F 1 ++ (sw_L p q j 0 n).map w := se_eq U hj
    have eel : (se_enc K F v n p q w j).length = (se_flds K F v n p q w (se_enc K F v n p q w) j F 1).length + ((sw_L p q j 0 n).map w).length := by rw [ee, List.length_append]
    generalize eo : sq_s (se_lm K F v n p q w) (n + 1) - sq_s (se_lm K F v n p q w) (j + 1) = o at hE ⊢
    have eo' : sq_s (se_lm K F v n p q w) (n + 1) - sq_s (se_lm K F v n p q w) j = o + (se_enc K F v n p q w j).length := by omega
    rw [eo'] at hJ
    unfold wY_encode_87
    rw [sw_mI_1, nI_clamp (by omega)]
    refine ⟨vp_in_nI (by omega) (by omega), nm_e ⟨F + 1, ?_⟩⟩
    have hkids : ∀ i, 1 ≤ i → i ≤ n → p i = j → sw_ms K F v p q w i → sy_Ec (se_enc K F v n p q w) (upd es j (nI o)) el oo o i := by
      intro i y1 y2 y3 y4
      have := U i y1 y2
      obtain ⟨e, z1, z2, z3, z4⟩ := hE i (by omega) y2 y4
      exact ⟨e, by rw [pk_un (by omega)]; exact z1, z2, z3, z4⟩
    refine sy_en102 (E := se_enc K F v n p q w) (b_encStart := upd es j (nI o)) (b_encLen := el) (ou := sb_wr oo o (se_flds K F v n p q w (se_enc K F v n p q w) j F 1)) (e0 := o + (se_flds K F v n p q w (se_enc K F v n p q w) j F 1).length) X0 W R hs hj hms ⟨n + 1, ?_⟩ F 1 o oo (by omega) (Nat.le_refl _) hkids (by omega) rfl rfl
    refine sy_en128 (b_encStart := upd es j (nI o)) (b_encLen := el) (st0 := o) (o := o + (se_flds K F v n p q w (se_enc K F v n p q w) j F 1).length) (oo := sb_wr oo o (se_flds K F v n p q w (se_enc K F v n p q w) j F 1)) x2' x4 W R hs hj pk_us (by omega) (by omega) ?_ n 0 (by omega)
    rw [← sb_app, ← ee]
    have e5 : o + (se_flds K F v n p q w (se_enc K F v n p q w) j F 1).length + ((sw_L p q j 0 n).map w).length = o + (se_enc K F v n p q w j).length := by omega
    have e6 : o + (se_enc K F v n p q w j).length - o = (se_enc K F v n p q w j).length := by omega
    rw [e5, e6]
    refine hJ _ _ _ (fun i y1 y2 y3 => ?_)
    by_cases y : i = j
    · subst y
      exact ⟨o, pk_us, pk_us, Nat.le_refl _, sb_at_wr _ _ _⟩
    · obtain ⟨e, z1, z2, z3, z4⟩ := sy_Ec_up (hE i (by omega) y2 y3) (se_enc K F v n p q w j)
      exact ⟨e, by rw [pk_un y]; exact z1, by rw [pk_un y]; exact z2, z3, z4⟩
  intro j
  induction j with
  | zero =>
    intro oo es el hj hE
    rw [wY_encode_46]
    dsimp only
    rw [sw_mI_0]
    refine br_f (by decide) (br_t (by decide) ?_)
    rw [← sw_mI_0]
    refine h87 0 oo es el _ hj sw_ms0 hE (fun oo' es' el' hE' => ?_)
    have e0 : sq_s (se_lm K F v n p q w) (n + 1) - sq_s (se_lm K F v n p q w) 0 = sq_s (se_lm K F v n p q w) (n + 1) := rfl
    rw [e0] at hE' ⊢
    rw [sw_mI_0]
    exact h oo' es' el' _ (by omega) (hE' 0 (Nat.le_refl _) (Nat.zero_le _) sw_ms0)
  | succ j ih =>
    intro oo es el hj hE
    have wj := W.2.2.2.1 (j + 1) (by omega) hj
    have hmsj : sw_ms K F v p q w (j + 1) ↔ 10 ≤ sw_kd K F (sw_sc v w (p (j + 1))) (q (j + 1)) := sw_msL W (sw_mem.mpr ⟨by omega, hj, rfl, rfl⟩)
    have hs9 := (sw_sc_lt W (by omega : p (j + 1) ≤ n) wj.2.2.1).1
    have hk15 := sw_kd_le (K := K) (F := F) (s := sw_sc v w (p (j + 1))) (f := q (j + 1)) (fun i h => (x7 i h).1) x4 hs9
    obtain ⟨r1, r2, r3⟩ := R.2.2.2 j (by omega)
    rw [wY_encode_46]
    dsimp only
    rw [sw_mI_m1, sw_mI_s, sn_120, nI_clamp (n := s * 120 + j) (by omega), r1, r2]
    refine br_f (fun y => ?_) (br_f (nI_pos (by omega)) ⟨vp_in_nI (by omega) (by omega), vp_in_nI (by omega) (by omega), ?_⟩)
    · have y1 := Int32.lt_iff_toInt_lt.mp y
      rw [nI_toInt (by omega)] at y1
      have y2 : (-1 : Int32).toInt = -1 := by decide
      omega
    refine sy_kindIn X0 W R hs (by omega) wj.2.2.1 (by omega) ?_
    refine pk_lt (sw_kd K F (sw_sc v w (p (j + 1))) (q (j + 1))) 10 (fun z => nm_e ?_) (fun z => ?_)
    · have hnm : ¬ sw_ms K F v p q w (j + 1) := fun y => by have := hmsj.mp y; omega
      have e0 : sq_s (se_lm K F v n p q w) (j + 1 + 1) = sq_s (se_lm K F v n p q w) (j + 1) := by
        show sq_s (se_lm K F v n p q w) (j + 1) + se_lm K F v n p q w (j + 1) = _
        rw [se_lm_f hnm, Nat.add_zero]
      rw [e0] at hE ⊢
      refine ih oo es el (by omega) (fun i y1 y2 y3 => ?_)
      by_cases y : i = j + 1
      · subst y; exact absurd y3 hnm
      · exact hE i (by omega) y2 y3
    · rw [← sw_mI_s j]
      refine h87 (j + 1) oo es el _ hj (hmsj.mpr z) hE (fun oo' es' el' hE' => ?_)
      rw [sw_mI_m1]
      exact ih oo' es' el' (by omega) (fun i y1 y2 y3 => hE' i (by omega) y2 y3)
theorem sy_en228 {b l e : Nat} {E0 : List Int32} (hb : b < 2) (hl : b_length b = nI l) (he : b_encStart 0 = nI e) (hle : e + E0.length ≤ 16384) (hat : sb_at b_out e E0) (hcap : l + E0.length ≤ 120) {b1 : Nat → Int32}
    (h : post (nI E0.length) (g_capacity, g_maxField, g_maxDepth, g_outLen, g_regions, g_pos, g_bad, b_kinds, b_held, b_version, b_type, b_cursor, b_items, b_parent, b_field, b_val, b1, upd b_length b (nI (l + E0.length)), b_out, b_encStart, b_encLen, b_partner, b_regMsg, b_regStart, b_regEnd)) :
    ∀ (k x : Nat) (bb : Nat → Int32), x + k = E0.length → sb_wr bb (b * 120 + l + x) (E0.drop x) = b1 → wY_encode_228 post (nI b) (nI E0.length) g_capacity g_maxField g_maxDepth g_outLen g_regions g_pos g_bad (k + 1) (nI x) b_kinds b_held b_version b_type b_cursor b_items b_parent b_field b_val bb b_length b_out b_encStart b_encLen b_partner b_regMsg b_regStart b_regEnd := by
  have eb : (nI b).toNatClampNeg = b := nI_clamp (by omega)
  intro k
  induction k with
  | zero =>
    intro x bb hx e1
    rw [List.drop_eq_nil_of_le (by omega), sb_nil] at e1
    subst e1
    unfold wY_encode_228
    dsimp only
    rw [eb, hl, nI_add l]
    exact br_t (nI_le (by omega) (by omega)) ⟨vp_in_nI hb (by omega), vp_in_nI hb (by omega), nm_e h⟩
  | succ k ih =>
    intro x bb hx e1
    have hlt : x < E0.length := by omega
    have ed : E0.drop x = E0[x] :: E0.drop (x + 1) := List.drop_eq_getElem_cons hlt
    have eo : b_out (e + x) = E0[x] := hat x _ (List.getElem?_eq_getElem hlt)
    rw [ed, sb_wr] at e1
    rw [wY_encode_228]
    dsimp only
    rw [eb, hl, he, sn_120, nI_add e x, nI_add (b * 120 + l) x, nI_clamp (n := e + x) (by omega), nI_clamp (n := b * 120 + l + x) (by omega), eo, nI_1 x]
    exact br_f (nI_ge (by omega) (by omega)) ⟨vp_in_nI hb (by omega), vp_in_nI (by omega) (by omega), vp_in_nI (by omega) (by omega), nm_e (nm_e (ih (x + 1) _ (by omega) e1))⟩
end
theorem i_vc_encode {k : Nat} {u : SX} {v : SY} (I : i_Rel k u v) (hk : k + 5 ≤ 2563) (v1 : Int32) (v2 : Int32) : wpX_encode (fun r u' => wpY_encode (fun r' v' => r' = r ∧ i_Rel (k + 5) u' v') v v1 v2) u v1 v2 := by
  refine sr_el (P := fun u v => wpX_encode (fun r u' => wpY_encode (fun r' v' => r' = r ∧ i_Rel (k + 5) u' v') v v1 v2) u v1 v2) ?_ I
  intro f_capacity f_maxField f_maxDepth f_spare f_writeAt f_level f_readAt f_broken a_kinds a_held a_storeOf a_cursor a_items a_word a_next a_schemaOf a_parentOf a_depthOf a_head a_tail a_length a_bytes a_filled a_sizeOf a_placeOf a_match a_regionEnd a_regionMessage g_outLen g_regions g_pos g_bad b_version b_type b_cursor b_items b_parent b_field b_val b_out b_encStart b_encLen b_partner b_regMsg b_regStart b_regEnd H
  have HI : i_Rel (k + 5) (f_capacity, f_maxField, f_maxDepth, f_spare, f_writeAt, f_level, f_readAt, f_broken, a_kinds, a_held, a_storeOf, a_cursor, a_items, a_word, a_next, a_schemaOf, a_parentOf, a_depthOf, a_head, a_tail, a_length, a_bytes, a_filled, a_sizeOf, a_placeOf, a_match, a_regionEnd, a_regionMessage) (f_capacity, f_maxField, f_maxDepth, g_outLen, g_regions, g_pos, g_bad, a_kinds, a_held, b_version, b_type, b_cursor, b_items, b_parent, b_field, b_val, a_bytes, a_filled, b_out, b_encStart, b_encLen, b_partner, b_regMsg, b_regStart, b_regEnd) := sr_in H
  obtain ⟨K, C, F, D, st, hC, hSt, hFl, hSl⟩ := H
  obtain ⟨x1, x2, x3, x4, x5, x6, e1, e2, e3, x7⟩ := id hC
  unfold wpX_encode
  refine sx_isSlot (fun z => br_t rfl ?_) (fun z => br_f (by decide) ?_)
  · unfold wpY_encode
    exact sn_br (sn_gt 0 v1) (fun _ => ⟨rfl, HI⟩) (fun _ => sn_br (sn_lt 1 v1) (fun _ => ⟨rfl, HI⟩) (fun _ => by omega))
  obtain ⟨i, hi, rfl⟩ := sn_of (z := v1) (c := 2) z.1 z.2
  have ei : (nI i).toNatClampNeg = i := nI_clamp (by omega)
  refine sx_isBuffer (fun y => br_t rfl ?_) (fun y => br_f (by decide) ?_)
  · unfold wpY_encode
    exact pk_lt i 0 (fun _ => by omega) (fun _ => pk_lt 1 i (fun _ => by omega) (fun _ => sn_br (sn_gt 0 v2) (fun _ => ⟨rfl, HI⟩) (fun _ => sn_br (sn_ge 1 v2) (fun _ => by omega) (fun _ => ⟨rfl, HI⟩))))
  obtain ⟨b, hb, rfl⟩ := sn_of (z := v2) (c := 2) y.1 y.2
  have eb : (nI b).toNatClampNeg = b := nI_clamp (by omega)
  obtain ⟨l, hl, el⟩ := hFl b hb
  have hY : ∀ post : Int32 → SY → Prop, (a_held i = 0 → post (-3) (f_capacity, f_maxField, f_maxDepth, g_outLen, g_regions, g_pos, g_bad, a_kinds, a_held, b_version, b_type, b_cursor, b_items, b_parent, b_field, b_val, a_bytes, a_filled, b_out, b_encStart, b_encLen, b_partner, b_regMsg, b_regStart, b_regEnd)) → (a_held i ≠ 0 → ∃ n46, wY_encode_46 post (nI i) (nI b) n46 (b_items i - 1) f_capacity f_maxField f_maxDepth 0 g_regions g_pos g_bad a_kinds a_held b_version b_type b_cursor b_items b_parent b_field b_val a_bytes a_filled b_out b_encStart b_encLen b_partner b_regMsg b_regStart b_regEnd) → wpY_encode post (f_capacity, f_maxField, f_maxDepth, g_outLen, g_regions, g_pos, g_bad, a_kinds, a_held, b_version, b_type, b_cursor, b_items, b_parent, b_field, b_val, a_bytes, a_filled, b_out, b_encStart, b_encLen, b_partner, b_regMsg, b_regStart, b_regEnd) (nI i) (nI b) := by
    intro post h0 h1
    unfold wpY_encode
    dsimp only
    rw [ei]
    exact pk_lt i 0 (fun _ => by omega) (fun _ => pk_lt 1 i (fun _ => by omega) (fun _ => pk_lt b 0 (fun _ => by omega) (fun _ => pk_le b 1 (fun _ => ⟨vp_in_nI (by omega) (by omega), br_c (fun u => h0 u) (fun u => ⟨vp_in_nI (by omega) (by omega), nm_e (h1 u)⟩)⟩) (fun _ => by omega))))
  rw [ei]
  refine ⟨vp_in_nI hi (by omega), br_c (fun u => hY _ (fun _ => ⟨rfl, HI⟩) (fun g => absurd u g)) (fun hh => ⟨vp_in_nI hi (by omega), ?_⟩)⟩
  obtain ⟨v, n, p, q, d, p', q', d', w, w', σ, c, W, W', R, R', Is, hc, hms, hcx, hcy⟩ := hSl i hi hh
  obtain ⟨est, ht, hspare⟩ := sr_st hSt hi
  have hn := W.1
  have ei : (nI i).toNatClampNeg = i := nI_clamp (by omega)
  have U := sw_up_of W
  have U' := sw_up_of W'
  have hσ := sw_ile Is U hc
  have hms' : sw_ms K F v p' q' w' (σ c) := (sw_iso_ms Is U hc).mpr hms
  have hs9 := (sw_sc_lt W hc hms).1
  have h00 : σ 0 = 0 := Is.1
  have eE : se_enc K F v n p' q' w' 0 = se_enc K F v n p q w 0 := by
    have := se_iso (K := K) (F := F) (v := v) Is U (Nat.zero_le n)
    rw [h00] at this; exact this
  have hlen0 := se_each W x6 (Nat.zero_le n) sw_ms0
  have hlen1 : (se_enc K F v n p q w 0).length ≤ 12600 := by omega
  rw [est, sn_m121, nI_clamp (n := st i) (by omega), R.1]
  refine nm_e ⟨vp_in_nI hi (by omega), vp_in_nI (by omega) (by omega), ?_⟩
  rw [nI_add]
  refine nm_e ⟨n + 2, ?_⟩
  have HIm : ∀ (wa ol : Int32) (sz po oo es' el' : Nat → Int32), i_Rel (k + 5) (f_capacity, f_maxField, f_maxDepth, f_spare, wa, f_level, f_readAt, f_broken, a_kinds, a_held, a_storeOf, a_cursor, a_items, a_word, a_next, a_schemaOf, a_parentOf, a_depthOf, a_head, a_tail, a_length, a_bytes, a_filled, sz, po, a_match, a_regionEnd, a_regionMessage) (f_capacity, f_maxField, f_maxDepth, ol, g_regions, g_pos, g_bad, a_kinds, a_held, b_version, b_type, b_cursor, b_items, b_parent, b_field, b_val, a_bytes, a_filled, oo, es', el', b_partner, b_regMsg, b_regStart, b_regEnd) := fun wa ol sz po oo es' el' => sr_in ⟨K, C, F, D, st, hC, hSt, hFl, hSl⟩
  have hYY : ∀ post : Int32 → SY → Prop, (∀ (oo es' el' : Nat → Int32) (ol : Int32), ¬ l + (se_enc K F v n p q w 0).length ≤ C → post (-5) (f_capacity, f_maxField, f_maxDepth, ol, g_regions, g_pos, g_bad, a_kinds, a_held, b_version, b_type, b_cursor, b_items, b_parent, b_field, b_val, a_bytes, a_filled, oo, es', el', b_partner, b_regMsg, b_regStart, b_regEnd)) →
      (∀ (oo es' el' : Nat → Int32) (ol : Int32), l + (se_enc K F v n p q w 0).length ≤ C → post (nI (se_enc K F v n p q w 0).length) (f_capacity, f_maxField, f_maxDepth, ol, g_regions, g_pos, g_bad, a_kinds, a_held, b_version, b_type, b_cursor, b_items, b_parent, b_field, b_val, sb_wr a_bytes (b * 120 + l) (se_enc K F v n p q w 0), upd a_filled b (nI (l + (se_enc K F v n p q w 0).length)), oo, es', el', b_partner, b_regMsg, b_regStart, b_regEnd)) → wpY_encode post (f_capacity, f_maxField, f_maxDepth, g_outLen, g_regions, g_pos, g_bad, a_kinds, a_held, b_version, b_type, b_cursor, b_items, b_parent, b_field, b_val, a_bytes, a_filled, b_out, b_encStart, b_encLen, b_partner, b_regMsg, b_regStart, b_regEnd) (nI i) (nI b) := by
    intro post hfull hgo
    refine hY _ (fun u => absurd u hh) (fun _ => ⟨n + 2, ?_⟩)
    rw [R'.2.2.1]
    have hT0 : sq_s (se_lm K F v n p' q' w') (n + 1) - sq_s (se_lm K F v n p' q' w') (n + 1) = 0 := Nat.sub_self _
    suffices hgoal : wY_encode_46 post (nI i) (nI b) (n + 2) (sw_mI n) f_capacity f_maxField f_maxDepth (nI (sq_s (se_lm K F v n p' q' w') (n + 1) - sq_s (se_lm K F v n p' q' w') (n + 1))) g_regions g_pos g_bad a_kinds a_held b_version b_type b_cursor b_items b_parent b_field b_val a_bytes a_filled b_out b_encStart b_encLen b_partner b_regMsg b_regStart b_regEnd by
      rw [hT0] at hgoal
      exact hgoal
    refine sy_en46 (post := post) (x2 := nI b) hC W' R' (by omega : i < 3) (fun oo es' el' o ho hE => ?_) n b_out b_encStart b_encLen (Nat.le_refl _) (fun j y1 y2 => by omega)
    · obtain ⟨e, z1, z2, z3, z4⟩ := hE
      rw [eE] at z2 z3 z4
      unfold wY_encode_46
      dsimp only
      rw [z2, eb, el]
      refine br_t (by decide) (nm_e ⟨vp_in_nI hb (by omega), pk_le (l + (se_enc K F v n p q w 0).length) C (fun g => ⟨(se_enc K F v n p q w 0).length + 1, ?_⟩) (fun g => hfull _ _ _ _ (by omega)) (nI_add _ _) e1⟩)
      exact sy_en228 (E0 := se_enc K F v n p q w 0) hb el z1 (by omega) z4 (by omega) (hgo _ _ _ _ g) _ 0 _ (by omega) (by rw [List.drop_zero, Nat.add_zero])
  refine sx_enc59 hC W R ht (fun sz hz => ?_) n a_sizeOf (Nat.le_refl _) (fun j y1 y2 => by omega)
  unfold wX_encode_59
  dsimp only
  have em : nI (st i * 121) + (-1) = sw_mI (st i * 121) := by rw [sw_mI, Int32.sub_eq_add_neg]
  have hz0 := hz 0 (Nat.zero_le _) sw_ms0
  rw [Nat.add_zero] at hz0
  rw [em, nI_clamp (n := st i * 121) (by omega), hz0, eb, el, sn_120]
  refine br_t ?_ ⟨vp_in_nI (by omega) (by omega), nm_e ⟨vp_in_nI hb (by omega), pk_le (l + (se_enc K F v n p q w 0).length) C (fun g => ?_) (fun g => ?_) (nI_add _ _) e1⟩⟩
  · rw [Int32.lt_iff_toInt_lt, sw_mI_toInt (by omega), nI_toInt (by omega)]; omega
  · refine ⟨vp_in_nI hb (by omega), vp_in_nI (by omega) (by omega), nm_e ⟨n + 2, ?_⟩⟩
    refine sx_enc141 (t := st i) (at0 := b * 120 + l) (b0 := a_bytes) (l := l) hC W R ht hb hz el (fun po wa => ?_) (n + 1) 0 a_bytes _ _ (by omega) sb_Up_refl (fun c g1 g2 => ?_) (fun j y1 y2 y3 => ?_)
    · refine hYY _ (fun _ _ _ _ u => absurd g u) (fun oo es' el' ol _ => ⟨rfl, ?_⟩)
      exact sr_in ⟨K, C, F, D, st, hC, hSt, sr_filled hFl g, hSl⟩
    · exact Or.inr ⟨0, b * 120 + l, Nat.le_refl _, Nat.zero_le _, sw_ms0, Or.inl rfl, ⟨pk_us, sb_at_wr _ _ _, by omega⟩, g1, g2⟩
    · obtain rfl : j = 0 := by omega
      exact ⟨b * 120 + l, pk_us, sb_at_wr _ _ _, by omega⟩
  · exact hYY _ (fun oo es' el' ol _ => ⟨rfl, HIm _ _ _ _ _ _ _⟩) (fun _ _ _ _ u => by omega)
end
section
/-! reading, as pure functions of the bytes B from the buffer's start on -/
def sd_acc (a b : Int32) (k : Nat) : Int32 := if k < 5 then a ||| ((b &&& 127) <<< ((7 * nI k) &&& 31)) else a
def sd_rv (B : Nat → Int32) (e : Nat) : Nat → Int32 → Nat → Nat → Option (Int32 × Nat)
  | 0, _, _, _ => none
  | g + 1, a, k, p => if e ≤ p then none else if 128 ≤ B p then sd_rv B e g (sd_acc a (B p) k) (k + 1) (p + 1) else some (sd_acc a (B p) k, p + 1)
def sd_rd (B : Nat → Int32) (e p : Nat) : Option (Int32 × Nat) := sd_rv B e 10 0 0 p
def sd_fxA (B : Nat → Int32) (p : Nat) : Nat → Int32
  | 0 => 0
  | i + 1 => sd_fxA B p i ||| (B (p + i) <<< ((8 * nI i) &&& 31))
def sd_fx (B : Nat → Int32) (p : Nat) : Int32 := sd_fxA B p 4
def sd_uz (u : Int32) : Int32 := ((u.toUInt32 >>> ((1 : Int32).toUInt32 &&& Int32.toUInt32 31)).toInt32) ^^^ (-(u &&& 1))
def sd_fw (k : Nat) (u : Int32) : Int32 := if k % 3 = 2 then sd_uz u else u
def sd_pl (B : Nat → Int32) (k e p : Nat) : Option (Int32 × Nat) :=
  if k % 3 = 0 then (if e - p < 4 then none else some (sd_fx B p, p + 4)) else (sd_rd B e p).map (fun r => (sd_fw k r.1, r.2))
def sd_pk (B : Nat → Int32) (k e : Nat) : Nat → Nat → Option (List Int32)
  | 0, p => if e ≤ p then some [] else none
  | g + 1, p => if e ≤ p then some [] else (sd_pl B k e p).bind (fun r => (sd_pk B k e g r.2).map (fun l => r.1 :: l))
/-- an atom: field, is the field single, value, a region to be read -/
abbrev sd_At : Type := Nat × Bool × Int32 × Option (Nat × Nat)
def sd_un (B : Nat → Int32) (a e : Nat) : List sd_At := (List.range' a (e - a)).map (fun i => (0, false, B i, none))
def sd_fo (tag : Int32) : Nat := ((tag.toUInt32 >>> ((3 : Int32).toUInt32 &&& Int32.toUInt32 31)).toInt32).toNatClampNeg
def sd_plain (B : Nat → Int32) (kk f p p1 e : Nat) (y : Int32) : Option (Nat × List sd_At) :=
  if y = 0 then (match sd_rd B e p1 with
    | none => none
    | some r => if 1 ≤ kk ∧ kk ≤ 9 ∧ kk % 3 ≠ 0 then some (r.2, [(f, decide (kk ≤ 3), sd_fw kk r.1, none)]) else some (r.2, sd_un B p r.2))
  else if y = 5 then (if e - p1 < 4 then none else if 1 ≤ kk ∧ kk ≤ 9 ∧ kk % 3 = 0 then some (p1 + 4, [(f, decide (kk ≤ 3), sd_fx B p1, none)]) else some (p1 + 4, sd_un B p (p1 + 4)))
  else if y = 1 then (if e - p1 < 8 then none else some (p1 + 8, sd_un B p (p1 + 8)))
  else none
def sd_delim2 (B : Nat → Int32) (kk f D d p p2 st : Nat) : Option (Nat × List sd_At) :=
  if 10 ≤ kk then (if D ≤ d then none else some (st, [(f, decide (kk < 13), nI ((kk - 10) % 3), some (p2, st))]))
  else if 4 ≤ kk then (sd_pk B kk st (st - p2) p2).map (fun l => (st, l.map (fun x => (f, false, x, none))))
  else some (st, sd_un B p st)
def sd_delim (B : Nat → Int32) (kk f D d p p1 e : Nat) : Option (Nat × List sd_At) :=
  match sd_rd B e p1 with
  | none => none
  | some r => if r.1 < 0 ∨ nI (e - r.2) < r.1 then none else sd_delim2 B kk f D d p r.2 (r.2 + r.1.toNatClampNeg)
def sd_rec (B : Nat → Int32) (kd : Nat → Nat) (D d p e : Nat) : Option (Nat × List sd_At) :=
  match sd_rd B e p with
  | none => none
  | some r => if sd_fo r.1 = 0 then none else if r.1 &&& 7 = 2 then sd_delim B (kd (sd_fo r.1)) (sd_fo r.1) D d p r.2 e else sd_plain B (kd (sd_fo r.1)) (sd_fo r.1) p r.2 e (r.1 &&& 7)
section
variable {B : Nat → Int32} {e : Nat}
theorem sd_rv_lt : ∀ g a k p u p', sd_rv B e g a k p = some (u, p') → p < p' ∧ p' ≤ e := by
  intro g
  induction g with
  | zero => intro a k p u p' h; cases h
  | succ g ih =>
    intro a k p u p' h
    rw [sd_rv] at h
    by_cases c : e ≤ p
    · rw [if_pos c] at h; cases h
    · rw [if_neg c] at h
      by_cases c2 : 128 ≤ B p
      · rw [if_pos c2] at h
        have := ih _ _ _ _ _ h
        omega
      · rw [if_neg c2] at h
        have : p + 1 = p' := congrArg Prod.snd (Option.some.inj h)
        omega
theorem sd_rd_lt {p p' : Nat} {u : Int32} (h : sd_rd B e p = some (u, p')) : p < p' ∧ p' ≤ e := sd_rv_lt _ _ _ _ _ _ h
theorem sd_rv_re : ∀ g a k p u p', sd_rv B e g a k p = some (u, p') → sd_rv B p' g a k p = some (u, p') := by
  intro g
  induction g with
  | zero => intro a k p u p' h; cases h
  | succ g ih =>
    intro a k p u p' h
    have hlt := sd_rv_lt _ _ _ _ _ _ h
    rw [sd_rv] at h ⊢
    rw [if_neg (by omega)] at h ⊢
    by_cases c2 : 128 ≤ B p
    · rw [if_pos c2] at h ⊢; exact ih _ _ _ _ _ h
    · rw [if_neg c2] at h ⊢; exact h
theorem sd_rd_re {p p' : Nat} {u : Int32} (h : sd_rd B e p = some (u, p')) : sd_rd B p' p = some (u, p') := sd_rv_re _ _ _ _ _ _ h
theorem sd_pl_lt {k p p' : Nat} {u : Int32} (h : sd_pl B k e p = some (u, p')) : p < p' ∧ p' ≤ e := by
  unfold sd_pl at h
  by_cases c : k % 3 = 0
  · rw [if_pos c] at h
    by_cases c2 : e - p < 4
    · rw [if_pos c2] at h; cases h
    · rw [if_neg c2] at h
      have : p + 4 = p' := congrArg Prod.snd (Option.some.inj h)
      omega
  · rw [if_neg c] at h
    cases hr : sd_rd B e p with
    | none => rw [hr] at h; cases h
    | some r =>
      rw [hr] at h
      have : r.2 = p' := congrArg Prod.snd (Option.some.inj h)
      have := sd_rd_lt (p' := r.2) (u := r.1) hr
      omega
theorem sd_pk_len {k : Nat} : ∀ g p l, sd_pk B k e g p = some l → l.length ≤ e - p := by
  intro g
  induction g with
  | zero =>
    intro p l h
    rw [sd_pk] at h
    by_cases c : e ≤ p
    · rw [if_pos c] at h; rw [← Option.some.inj h]; exact Nat.zero_le _
    · rw [if_neg c] at h; cases h
  | succ g ih =>
    intro p l h
    rw [sd_pk] at h
    by_cases c : e ≤ p
    · rw [if_pos c] at h; rw [← Option.some.inj h]; exact Nat.zero_le _
    · rw [if_neg c] at h
      cases hp : sd_pl B k e p with
      | none => rw [hp] at h; cases h
      | some r =>
        rw [hp] at h
        have hlt := sd_pl_lt (u := r.1) (p' := r.2) hp
        cases hq : sd_pk B k e g r.2 with
        | none => rw [Option.bind_some, hq] at h; cases h
        | some l2 =>
          rw [Option.bind_some, hq] at h
          have := ih r.2 l2 hq
          rw [← Option.some.inj h, List.length_cons]; omega
theorem sd_pk_stab {k : Nat} : ∀ g g' p, e - p ≤ g → e - p ≤ g' → sd_pk B k e g p = sd_pk B k e g' p := by
  intro g
  induction g with
  | zero =>
    intro g' p h h'
    cases g' with
    | zero => rfl
    | succ g' => rw [sd_pk, sd_pk, if_pos (by omega), if_pos (by omega)]
  | succ g ih =>
    intro g' p h h'
    cases g' with
    | zero => rw [sd_pk, sd_pk, if_pos (by omega), if_pos (by omega)]
    | succ g' =>
      rw [sd_pk, sd_pk]
      by_cases c : e ≤ p
      · rw [if_pos c, if_pos c]
      · rw [if_neg c, if_neg c]
        cases hp : sd_pl B k e p with
        | none => rfl
        | some r =>
          have hlt := sd_pl_lt (u := r.1) (p' := r.2) hp
          rw [Option.bind_some, Option.bind_some, ih g' r.2 (by omega) (by omega)]
end
theorem sd_fo_nI (tag : Int32) : (tag.toUInt32 >>> ((3 : Int32).toUInt32 &&& Int32.toUInt32 31)).toInt32 = nI (sd_fo tag) ∧ sd_fo tag < 2 ^ 29 := by
  have h := pk_ushr tag 3 3 (by decide)
  have hb := tag.toBitVec.isLt
  have e : (tag.toUInt32 >>> ((3 : Int32).toUInt32 &&& Int32.toUInt32 31)).toInt32 = nI (tag.toBitVec.toNat / 2 ^ 3) := by
    rw [← h, se_nI]
  have e2 : sd_fo tag = tag.toBitVec.toNat / 2 ^ 3 := by
    unfold sd_fo
    rw [e, nI_clamp (by omega)]
  rw [e2]
  exact ⟨e, by omega⟩
theorem sd_un_len (B : Nat → Int32) (a e : Nat) : (sd_un B a e).length = e - a := by
  unfold sd_un; rw [List.length_map, List.length_range']
/-- regions' bytes of a list of atoms -/
def sd_rw : List sd_At → Nat
  | [] => 0
  | a :: l => (match a.2.2.2 with | none => 0 | some r => r.2 - r.1) + sd_rw l
theorem sd_rw_none {l : List sd_At} (h : ∀ a, a ∈ l → a.2.2.2 = none) : sd_rw l = 0 := by
  induction l with
  | nil => rfl
  | cons a l ih =>
    rw [sd_rw, h a (List.mem_cons_self ..), ih (fun b hb => h b (List.mem_cons_of_mem _ hb))]
/-- what holds of a record's atoms -/
def sd_Fit (kd : Nat → Nat) (D d p p' : Nat) (as : List sd_At) : Prop :=
  ((∀ a, a ∈ as → a.2.2.2 = none ∧ ((a.1 = 0 ∧ a.2.1 = false) ∨ (1 ≤ a.1 ∧ 1 ≤ kd a.1 ∧ kd a.1 ≤ 9 ∧ (a.2.1 = true ↔ kd a.1 ≤ 3)))) ∧ as.length ≤ p' - p) ∨
  (∃ f c, as = [(f, decide (kd f < 13), nI ((kd f - 10) % 3), some (c, p'))] ∧ 1 ≤ f ∧ 10 ≤ kd f ∧ d < D ∧ p + 2 ≤ c ∧ c ≤ p')
section
variable {B : Nat → Int32} {kd : Nat → Nat} {D d p e p' : Nat} {as : List sd_At}
theorem sd_un_fit {a : Nat} (h : p ≤ a) (hle : a ≤ p') : sd_Fit kd D d p p' (sd_un B a p') := by
  refine Or.inl ⟨fun x hx => ?_, by rw [sd_un_len]; omega⟩
  unfold sd_un at hx
  obtain ⟨i, _, rfl⟩ := List.mem_map.mp hx
  exact ⟨rfl, Or.inl ⟨rfl, rfl⟩⟩
theorem sd_plain_fit {f p1 : Nat} {y : Int32} (hf : 1 ≤ f) (hp : p < p1) (hpe : p1 ≤ e) (h : sd_plain B (kd f) f p p1 e y = some (p', as)) : (p1 ≤ p' ∧ p' ≤ e) ∧ sd_Fit kd D d p p' as := by
  unfold sd_plain at h
  by_cases c0 : y = 0
  · rw [if_pos c0] at h
    cases hr : sd_rd B e p1 with
    | none => rw [hr] at h; cases h
    | some r =>
      rw [hr] at h
      have hlt := sd_rd_lt (u := r.1) (p' := r.2) hr
      dsimp only at h
      by_cases c : 1 ≤ kd f ∧ kd f ≤ 9 ∧ kd f % 3 ≠ 0
      · rw [if_pos c] at h
        have h := Option.some.inj h
        injection h with h1 h2
        subst h1 h2
        refine ⟨by omega, Or.inl ⟨fun x hx => ?_, by rw [List.length_singleton]; omega⟩⟩
        rw [List.mem_singleton] at hx
        subst hx
        exact ⟨rfl, Or.inr ⟨hf, c.1, c.2.1, decide_eq_true_iff⟩⟩
      · rw [if_neg c] at h
        have h := Option.some.inj h
        injection h with h1 h2
        subst h1 h2
        exact ⟨by omega, sd_un_fit (Nat.le_refl _) (by omega)⟩
  · rw [if_neg c0] at h
    by_cases c5 : y = 5
    · rw [if_pos c5] at h
      by_cases c4 : e - p1 < 4
      · rw [if_pos c4] at h; cases h
      · rw [if_neg c4] at h
        by_cases c : 1 ≤ kd f ∧ kd f ≤ 9 ∧ kd f % 3 = 0
        · rw [if_pos c] at h
          have h := Option.some.inj h
          injection h with h1 h2
          subst h1 h2
          refine ⟨by omega, Or.inl ⟨fun x hx => ?_, by rw [List.length_singleton]; omega⟩⟩
          rw [List.mem_singleton] at hx
          subst hx
          exact ⟨rfl, Or.inr ⟨hf, c.1, c.2.1, decide_eq_true_iff⟩⟩
        · rw [if_neg c] at h
          have h := Option.some.inj h
          injection h with h1 h2
          subst h1 h2
          exact ⟨by omega, sd_un_fit (Nat.le_refl _) (by omega)⟩
    · rw [if_neg c5] at h
      by_cases c1 : y = 1
      · rw [if_pos c1] at h
        by_cases c8 : e - p1 < 8
        · rw [if_pos c8] at h; cases h
        · rw [if_neg c8] at h
          have h := Option.some.inj h
          injection h with h1 h2
          subst h1 h2
          exact ⟨by omega, sd_un_fit (Nat.le_refl _) (by omega)⟩
      · rw [if_neg c1] at h; cases h
theorem sd_delim_fit {f p1 : Nat} (hf : 1 ≤ f) (hp : p < p1) (hpe : p1 ≤ e) (he : e < 2 ^ 30) (h : sd_delim B (kd f) f D d p p1 e = some (p', as)) : (p1 ≤ p' ∧ p' ≤ e) ∧ sd_Fit kd D d p p' as := by
  unfold sd_delim at h
  cases hr : sd_rd B e p1 with
  | none => rw [hr] at h; cases h
  | some r =>
    rw [hr] at h
    have hlt := sd_rd_lt (u := r.1) (p' := r.2) hr
    dsimp only at h
    by_cases c : r.1 < 0 ∨ nI (e - r.2) < r.1
    · rw [if_pos c] at h; cases h
    · rw [if_neg c] at h
      have c1 : ¬ r.1 < 0 := fun z => c (Or.inl z)
      have c2 : ¬ nI (e - r.2) < r.1 := fun z => c (Or.inr z)
      obtain ⟨sz, hsz, esz⟩ := nI_of c1
      rw [esz] at c2 h
      rw [nI_ltI (by omega) hsz] at c2
      rw [nI_clamp hsz] at h
      unfold sd_delim2 at h
      by_cases c10 : 10 ≤ kd f
      · rw [if_pos c10] at h
        by_cases cd : D ≤ d
        · rw [if_pos cd] at h; cases h
        · rw [if_neg cd] at h
          have h := Option.some.inj h
          injection h with h1 h2
          subst h1 h2
          exact ⟨by omega, Or.inr ⟨f, r.2, rfl, hf, c10, by omega, by omega, by omega⟩⟩
      · rw [if_neg c10] at h
        by_cases c4 : 4 ≤ kd f
        · rw [if_pos c4] at h
          cases hq : sd_pk B (kd f) (r.2 + sz) (r.2 + sz - r.2) r.2 with
          | none => rw [hq] at h; cases h
          | some l =>
            rw [hq] at h
            have h := Option.some.inj h
            injection h with h1 h2
            subst h1 h2
            have hl := sd_pk_len _ _ _ hq
            refine ⟨by omega, Or.inl ⟨fun x hx => ?_, by rw [List.length_map]; omega⟩⟩
            obtain ⟨i, _, rfl⟩ := List.mem_map.mp hx
            have k1 : 1 ≤ kd f := by omega
            have k9 : kd f ≤ 9 := by omega
            refine ⟨rfl, Or.inr ⟨hf, k1, k9, ?_⟩⟩
            constructor
            · intro z; cases z
            · intro z
              have z' : kd f ≤ 3 := z
              omega
        · rw [if_neg c4] at h
          have h := Option.some.inj h
          injection h with h1 h2
          subst h1 h2
          exact ⟨by omega, sd_un_fit (Nat.le_refl _) (by omega)⟩
theorem sd_rec_fit (he : e < 2 ^ 30) (h : sd_rec B kd D d p e = some (p', as)) : (p < p' ∧ p' ≤ e) ∧ sd_Fit kd D d p p' as := by
  unfold sd_rec at h
  cases hr : sd_rd B e p with
  | none => rw [hr] at h; cases h
  | some r =>
    rw [hr] at h
    have hlt := sd_rd_lt (u := r.1) (p' := r.2) hr
    dsimp only at h
    by_cases c0 : sd_fo r.1 = 0
    · rw [if_pos c0] at h; cases h
    · rw [if_neg c0] at h
      by_cases c2 : r.1 &&& 7 = 2
      · rw [if_pos c2] at h
        have := sd_delim_fit (f := sd_fo r.1) (by omega) hlt.1 hlt.2 he h
        exact ⟨by omega, this.2⟩
      · rw [if_neg c2] at h
        have := sd_plain_fit (D := D) (d := d) (f := sd_fo r.1) (by omega) hlt.1 hlt.2 h
        exact ⟨by omega, this.2⟩
end
end
section
/-! a region's atoms, whether all parses, and the invariant of decode -/
def sd_ats (B : Nat → Int32) (K : Nat → Nat) (F D : Nat) : Nat → Nat → Nat → Nat → Nat → List sd_At
  | 0, _, _, _, _ => []
  | g + 1, s, d, p, e => if e ≤ p then [] else match sd_rec B (sw_kd K F s) D d p e with
    | none => []
    | some r => r.2 ++ sd_ats B K F D g s d r.1 e
def sd_A (B : Nat → Int32) (K : Nat → Nat) (F D s d p e : Nat) : List sd_At := sd_ats B K F D (e - p) s d p e
def sd_ok (B : Nat → Int32) (K : Nat → Nat) (F D v : Nat) : Nat → Nat → Nat → Nat → Nat → Prop
  | 0, _, _, p, e => e ≤ p
  | g + 1, s, d, p, e => e ≤ p ∨ ∃ p' as, sd_rec B (sw_kd K F s) D d p e = some (p', as) ∧ (∀ a c st, a ∈ as → a.2.2.2 = some (c, st) → sd_ok B K F D v g (v * 3 + a.2.2.1.toNatClampNeg) (d + 1) c st) ∧ sd_ok B K F D v g s d p' e
def sd_Ok (B : Nat → Int32) (K : Nat → Nat) (F D v s d p e : Nat) : Prop := sd_ok B K F D v (e - p) s d p e
section
variable {B : Nat → Int32} {K : Nat → Nat} {F D v s d e : Nat}
theorem sd_ats_stab (he : e < 2 ^ 30) : ∀ g g' p, e - p ≤ g → e - p ≤ g' → sd_ats B K F D g s d p e = sd_ats B K F D g' s d p e := by
  intro g
  induction g with
  | zero =>
    intro g' p h h'
    cases g' with
    | zero => rfl
    | succ g' => rw [sd_ats, sd_ats, if_pos (by omega)]
  | succ g ih =>
    intro g' p h h'
    cases g' with
    | zero => rw [sd_ats, sd_ats, if_pos (by omega)]
    | succ g' =>
      rw [sd_ats, sd_ats]
      by_cases c : e ≤ p
      · rw [if_pos c, if_pos c]
      · rw [if_neg c, if_neg c]
        cases hr : sd_rec B (sw_kd K F s) D d p e with
        | none => rfl
        | some r =>
          have hlt := (sd_rec_fit (p' := r.1) (as := r.2) he hr).1
          show r.2 ++ sd_ats B K F D g s d r.1 e = r.2 ++ sd_ats B K F D g' s d r.1 e
          rw [ih g' r.1 (by omega) (by omega)]
theorem sd_A_nil {p : Nat} (h : e ≤ p) : sd_A B K F D s d p e = [] := by
  unfold sd_A
  have : e - p = 0 := by omega
  rw [this]; rfl
theorem sd_A_none {p : Nat} (h : p < e) (hr : sd_rec B (sw_kd K F s) D d p e = none) : sd_A B K F D s d p e = [] := by
  unfold sd_A
  obtain ⟨g, hg⟩ : ∃ g, e - p = g + 1 := ⟨e - p - 1, by omega⟩
  rw [hg, sd_ats, if_neg (by omega), hr]
theorem sd_A_step (he : e < 2 ^ 30) {p p' : Nat} {as : List sd_At} (h : p < e) (hr : sd_rec B (sw_kd K F s) D d p e = some (p', as)) : sd_A B K F D s d p e = as ++ sd_A B K F D s d p' e := by
  have hlt := (sd_rec_fit he hr).1
  unfold sd_A
  obtain ⟨g, hg⟩ : ∃ g, e - p = g + 1 := ⟨e - p - 1, by omega⟩
  rw [hg, sd_ats, if_neg (by omega), hr]
  show as ++ sd_ats B K F D g s d p' e = _
  rw [sd_ats_stab he g (e - p') p' (by omega) (Nat.le_refl _)]
theorem sd_sub_lt (he : e < 2 ^ 30) {p p' : Nat} {as : List sd_At} (hr : sd_rec B (sw_kd K F s) D d p e = some (p', as)) {a : sd_At} {c st : Nat} (ha : a ∈ as) (hreg : a.2.2.2 = some (c, st)) : p + 2 ≤ c ∧ c ≤ st ∧ st = p' := by
  obtain ⟨h1, h2⟩ := sd_rec_fit he hr
  rcases h2 with h2 | ⟨f, c', rfl, x1, x2, x3, x4, x5⟩
  · rw [(h2.1 a ha).1] at hreg; cases hreg
  · rw [List.mem_singleton] at ha
    subst ha
    have := Option.some.inj hreg
    injection this with y1 y2
    subst y1 y2
    exact ⟨x4, x5, rfl⟩
theorem sd_ok_stab : ∀ g g' s d p e, e < 2 ^ 30 → e - p ≤ g → e - p ≤ g' → (sd_ok B K F D v g s d p e → sd_ok B K F D v g' s d p e) := by
  intro g
  induction g with
  | zero =>
    intro g' s d p e he h h' hok
    cases g' with
    | zero => exact hok
    | succ g' => exact Or.inl hok
  | succ g ih =>
    intro g' s d p e he h h' hok
    rcases hok with hok | ⟨p', as, hr, hs, hn⟩
    · cases g' with
      | zero => exact hok
      | succ g' => exact Or.inl hok
    · have hlt := (sd_rec_fit he hr).1
      cases g' with
      | zero => omega
      | succ g' =>
        refine Or.inr ⟨p', as, hr, fun a c st ha hreg => ?_, ih g' s d p' e he (by omega) (by omega) hn⟩
        have := sd_sub_lt he hr ha hreg
        exact ih g' _ _ c st (by omega) (by omega) (by omega) (hs a c st ha hreg)
theorem sd_Ok_nil {p : Nat} (h : e ≤ p) : sd_Ok B K F D v s d p e := by
  unfold sd_Ok
  have : e - p = 0 := by omega
  rw [this]; exact h
theorem sd_Ok_none {p : Nat} (h : p < e) (hr : sd_rec B (sw_kd K F s) D d p e = none) : ¬ sd_Ok B K F D v s d p e := by
  unfold sd_Ok
  obtain ⟨g, hg⟩ : ∃ g, e - p = g + 1 := ⟨e - p - 1, by omega⟩
  rw [hg]
  intro hok
  rcases hok with hok | ⟨p', as, hr', _⟩
  · omega
  · rw [hr] at hr'; cases hr'
theorem sd_Ok_step (he : e < 2 ^ 30) {p p' : Nat} {as : List sd_At} (h : p < e) (hr : sd_rec B (sw_kd K F s) D d p e = some (p', as)) :
    sd_Ok B K F D v s d p e ↔ ((∀ a c st, a ∈ as → a.2.2.2 = some (c, st) → sd_Ok B K F D v (v * 3 + a.2.2.1.toNatClampNeg) (d + 1) c st) ∧ sd_Ok B K F D v s d p' e) := by
  have hlt := (sd_rec_fit he hr).1
  unfold sd_Ok
  obtain ⟨g, hg⟩ : ∃ g, e - p = g + 1 := ⟨e - p - 1, by omega⟩
  rw [hg]
  constructor
  · intro hok
    rcases hok with hok | ⟨p2, as2, hr', hs, hn⟩
    · omega
    · rw [hr] at hr'
      have := Option.some.inj hr'
      injection this with y1 y2
      subst y1 y2
      refine ⟨fun a c st ha hreg => ?_, sd_ok_stab _ _ _ _ _ _ he (by omega) (Nat.le_refl _) hn⟩
      have := sd_sub_lt he hr ha hreg
      exact sd_ok_stab _ _ _ _ _ _ (by omega) (by omega) (Nat.le_refl _) (hs a c st ha hreg)
  · intro hok
    refine Or.inr ⟨p', as, hr, fun a c st ha hreg => ?_, sd_ok_stab _ _ _ _ _ _ he (Nat.le_refl _) (by omega) hok.2⟩
    have := sd_sub_lt he hr ha hreg
    exact sd_ok_stab _ _ _ _ _ _ (by omega) (Nat.le_refl _) (by omega) (hok.1 a c st ha hreg)
end
def sd_u {α : Type} (f : Nat → α) (k : Nat) (x : α) : Nat → α := fun j => if j = k then x else f j
theorem sd_us {α : Type} {f : Nat → α} {k : Nat} {x : α} : sd_u f k x k = x := if_pos rfl
theorem sd_uo {α : Type} {f : Nat → α} {k j : Nat} {x : α} (h : j ≠ k) : sd_u f k x j = f j := if_neg h
def sd_rl (r : Option (Nat × Nat)) : List (Nat × Nat) := match r with | none => [] | some x => [x]
def sd_up1 (l : List (Int32 × List (Nat × Nat))) (a : sd_At) : List (Int32 × List (Nat × Nat)) :=
  if a.2.1 = true then (match l with
    | [] => [(a.2.2.1, sd_rl a.2.2.2)]
    | y :: t => (a.2.2.1, y.2 ++ sd_rl a.2.2.2) :: t)
  else l ++ [(a.2.2.1, sd_rl a.2.2.2)]
def sd_grp (l : List sd_At) : List (Int32 × List (Nat × Nat)) := l.foldl sd_up1 []
theorem sd_grp1 (l : List sd_At) (a : sd_At) : sd_grp (l ++ [a]) = sd_up1 (sd_grp l) a := by
  unfold sd_grp; rw [List.foldl_append]; rfl
def sd_fl (f : Nat) (l : List sd_At) : List sd_At := l.filter (fun a => decide (a.1 = f))
theorem sd_fl_s {f : Nat} {l : List sd_At} {a : sd_At} (h : a.1 = f) : sd_fl f (l ++ [a]) = sd_fl f l ++ [a] := by
  unfold sd_fl
  rw [List.filter_append, List.filter_cons, if_pos (by exact decide_eq_true h), List.filter_nil]
theorem sd_fl_n {f : Nat} {l : List sd_At} {a : sd_At} (h : a.1 ≠ f) : sd_fl f (l ++ [a]) = sd_fl f l := by
  unfold sd_fl
  rw [List.filter_append, List.filter_cons, if_neg (by intro z; exact h (of_decide_eq_true z)), List.filter_nil, List.append_nil]
/-- of each message the atoms done (rl), to do (td) and its regions (rg) -/
def sd_Inv (B : Nat → Int32) (K : Nat → Nat) (C F D v L n : Nat) (p q : Nat → Nat) (w : Nat → Int32) (d : Nat → Nat) (rl td : Nat → List sd_At) (rg : Nat → List (Nat × Nat)) : Prop :=
  sw_WF K C F D v n p q w d ∧ (∀ m f, m ≤ n → (sw_L p q m f n).map (fun j => (w j, rg j)) = sd_grp (sd_fl f (rl m))) ∧
  (∀ m, m ≤ n → rl m ++ td m = (rg m).flatMap (fun r => sd_A B K F D (sw_sc v w m) (d m) r.1 r.2)) ∧ rg 0 = [(0, L)] ∧ (∀ j, j ≤ n → ¬ sw_ms K F v p q w j → rg j = [])
section
variable {B : Nat → Int32} {K : Nat → Nat} {C F D v L n : Nat} {p q : Nat → Nat} {w : Nat → Int32} {d : Nat → Nat} {rl td : Nat → List sd_At} {rg : Nat → List (Nat × Nat)}
theorem sd_stepA (I : sd_Inv B K C F D v L n p q w d rl td rg) {m f : Nat} {sg : Bool} {x : Int32} {reg : Option (Nat × Nat)} {rest : List sd_At} (hm : m ≤ n) (hms : sw_ms K F v p q w m) (ht : td m = (f, sg, x, reg) :: rest)
    (hsg : sg = false ∨ sw_L p q m f n = []) (hn : n < C) (hf : f ≤ F) (hk : 1 ≤ f → 1 ≤ sw_kd K F (sw_sc v w m) f) (hx : 10 ≤ sw_kd K F (sw_sc v w m) f → x = nI ((sw_kd K F (sw_sc v w m) f - 10) % 3) ∧ d m < D) (hreg : ¬ 10 ≤ sw_kd K F (sw_sc v w m) f → reg = none) :
    ∃ (rl' td' : Nat → List sd_At) (rg' : Nat → List (Nat × Nat)), sd_Inv B K C F D v L (n + 1) (sw_up p (n + 1) m) (sw_up q (n + 1) f) (upd w (n + 1) x) (sw_up d (n + 1) (d m + 1)) rl' td' rg' ∧
      td' m = rest ∧ td' (n + 1) = (sd_rl reg).flatMap (fun r => sd_A B K F D (v * 3 + x.toNatClampNeg) (d m + 1) r.1 r.2) ∧ ∀ i, i ≤ n → i ≠ m → td' i = td i := by
  obtain ⟨W, I1, I2, I3, I4⟩ := I
  have U := sw_up_of W
  refine ⟨sd_u (sd_u rl m (rl m ++ [(f, sg, x, reg)])) (n + 1) [], sd_u (sd_u td m rest) (n + 1) ((sd_rl reg).flatMap (fun r => sd_A B K F D (v * 3 + x.toNatClampNeg) (d m + 1) r.1 r.2)), sd_u rg (n + 1) (sd_rl reg), ⟨sw_WF_add W hm hms hf hn hk hx, fun m' f' hm' => ?_, fun m' hm' => ?_, ?_, fun j hj hjn => ?_⟩, ?_, sd_us, fun i hi hne => ?_⟩
  · by_cases e : m' = n + 1
    · subst e
      rw [sw_add_n (by omega), sw_L_new U, sd_us]; rfl
    · rw [sd_uo e]
      have hold : (sw_L p q m' f' n).map (fun j => (upd w (n + 1) x j, sd_u rg (n + 1) (sd_rl reg) j)) = (sw_L p q m' f' n).map (fun j => (w j, rg j)) := by
        apply List.map_congr_left
        intro a ha
        have := (sw_mem.mp ha).2.1
        show (upd w (n + 1) x a, sd_u rg (n + 1) (sd_rl reg) a) = (w a, rg a)
        rw [pk_un (by omega), sd_uo (by omega)]
      by_cases em : m' = m
      · subst em
        rw [sd_us]
        by_cases ef : f' = f
        · subst ef
          rw [sw_add_s, List.map_append, hold, I1 m' f' hm, sd_fl_s (f := f') (a := (f', sg, x, reg)) rfl, sd_grp1]
          show _ ++ [(upd w (n + 1) x (n + 1), sd_u rg (n + 1) (sd_rl reg) (n + 1))] = _
          rw [pk_us, sd_us]
          rcases hsg with hsg | hsg
          · subst hsg; rfl
          · have hz := I1 m' f' hm
            rw [hsg, List.map_nil] at hz
            rw [← hz]
            cases sg
            · rfl
            · rfl
        · rw [sw_add_n (fun z => ef z.2.symm), hold, I1 m' f' hm, sd_fl_n (fun z => ef z.symm)]
      · rw [sd_uo em, sw_add_n (fun z => em z.1.symm), hold, I1 m' f' (by omega)]
  · by_cases e : m' = n + 1
    · subst e
      rw [sd_us, sd_us, sd_us, sw_us, sw_sc, pk_us]; rfl
    · rw [sd_uo e, sd_uo e, sd_uo e, sw_un e, sw_sc_add (by omega)]
      by_cases em : m' = m
      · subst em
        rw [sd_us, sd_us, List.append_assoc, ← I2 m' (by omega), ht]; rfl
      · rw [sd_uo em, sd_uo em, I2 m' (by omega)]
  · rw [sd_uo (by omega)]; exact I3
  · by_cases e : j = n + 1
    · subst e
      rw [sd_us, hreg (fun z => hjn ((sw_ms_new hm).mpr z))]; rfl
    · rw [sd_uo e]
      exact I4 j (by omega) (fun z => hjn ((sw_ms_add U (by omega)).mpr z))
  · rw [sd_uo (by omega), sd_us]
  · rw [sd_uo (by omega), sd_uo hne]
end
end
section
section
variable {B : Nat → Int32} {K : Nat → Nat} {C F D v L n : Nat} {p q : Nat → Nat} {w : Nat → Int32} {d : Nat → Nat} {rl td : Nat → List sd_At} {rg : Nat → List (Nat × Nat)}
theorem sd_stepS (I : sd_Inv B K C F D v L n p q w d rl td rg) {m f j : Nat} {x : Int32} {reg : Option (Nat × Nat)} {rest : List sd_At} (hm : m ≤ n) (ht : td m = (f, true, x, reg) :: rest)
    (hj : (sw_L p q m f n)[0]? = some j) (hx : 10 ≤ sw_kd K F (sw_sc v w m) f → x = w j) (hreg : ¬ 10 ≤ sw_kd K F (sw_sc v w m) f → reg = none) :
    ∃ (rl' td' : Nat → List sd_At) (rg' : Nat → List (Nat × Nat)), sd_Inv B K C F D v L n p q (upd w j x) d rl' td' rg' ∧
      td' m = rest ∧ td' j = td j ++ (sd_rl reg).flatMap (fun r => sd_A B K F D (sw_sc v w j) (d j) r.1 r.2) ∧ ∀ i, i ≠ j → i ≠ m → td' i = td i := by
  obtain ⟨W, I1, I2, I3, I4⟩ := I
  have U := sw_up_of W
  have jm := sw_mem.mp (sw_nthmem hj)
  have hjm : j ≠ m := by have := U j jm.1 jm.2.1; omega
  have hms := sw_msL W (sw_nthmem hj)
  have WF' : sw_WF K C F D v n p q (upd w j x) d := by
    by_cases hk : 10 ≤ sw_kd K F (sw_sc v w m) f
    · have : upd w j x = w := by
        funext i
        by_cases e : i = j
        · subst e; rw [pk_us, hx hk]
        · rw [pk_un e]
      rw [this]; exact W
    · exact sw_WF_set W (fun z => hk (hms.mp z))
  have hmsE : ∀ i, i ≤ n → (sw_ms K F v p q (upd w j x) i ↔ sw_ms K F v p q w i) := by
    intro i hi
    by_cases hk : 10 ≤ sw_kd K F (sw_sc v w m) f
    · have : upd w j x = w := by
        funext i
        by_cases e : i = j
        · subst e; rw [pk_us, hx hk]
        · rw [pk_un e]
      rw [this]
    · exact sw_ms_set W (fun z => hk (hms.mp z)) hi
  have hnot : ∀ m' f', ¬ (m' = m ∧ f' = f) → (sw_L p q m' f' n).map (fun i => (upd w j x i, sd_u rg j (rg j ++ sd_rl reg) i)) = (sw_L p q m' f' n).map (fun i => (w i, rg i)) := by
    intro m' f' hne
    apply List.map_congr_left
    intro a ha
    have am := sw_mem.mp ha
    have : a ≠ j := fun e => hne ⟨by rw [← am.2.2.1, e, jm.2.2.1], by rw [← am.2.2.2, e, jm.2.2.2]⟩
    show (upd w j x a, sd_u rg j (rg j ++ sd_rl reg) a) = (w a, rg a)
    rw [pk_un this, sd_uo this]
  refine ⟨sd_u rl m (rl m ++ [(f, true, x, reg)]), sd_u (sd_u td m rest) j (td j ++ (sd_rl reg).flatMap (fun r => sd_A B K F D (sw_sc v w j) (d j) r.1 r.2)), sd_u rg j (rg j ++ sd_rl reg), ⟨WF', fun m' f' hm' => ?_, fun m' hm' => ?_, ?_, fun i hi hin => ?_⟩, ?_, sd_us, fun i h1 h2 => ?_⟩
  · by_cases em : m' = m
    · subst em
      rw [sd_us]
      by_cases ef : f' = f
      · subst ef
        have hL : sw_L p q m' f' n = j :: (sw_L p q m' f' n).drop 1 := by
          have := se_dropc hj
          rw [List.drop_zero] at this
          exact this
        have ht' : ((sw_L p q m' f' n).drop 1).map (fun i => (upd w j x i, sd_u rg j (rg j ++ sd_rl reg) i)) = ((sw_L p q m' f' n).drop 1).map (fun i => (w i, rg i)) := by
          apply List.map_congr_left
          intro a ha
          have hs := sw_srt (p := p) (q := q) (m := m') (f := f') (n := n)
          rw [hL, List.pairwise_cons] at hs
          have : a ≠ j := by have := hs.1 a ha; omega
          show (upd w j x a, sd_u rg j (rg j ++ sd_rl reg) a) = (w a, rg a)
          rw [pk_un this, sd_uo this]
        have hold := I1 m' f' hm
        rw [hL, List.map_cons] at hold
        rw [hL, List.map_cons, ht', sd_fl_s (f := f') (a := (f', true, x, reg)) rfl, sd_grp1, ← hold, pk_us, sd_us]
        rfl
      · rw [hnot m' f' (fun z => ef z.2), I1 m' f' hm', sd_fl_n (fun z => ef z.symm)]
    · rw [sd_uo em, hnot m' f' (fun z => em z.1), I1 m' f' hm']
  · by_cases ej : m' = j
    · subst ej
      rw [sd_us, sd_us, sd_uo hjm, ← List.append_assoc, List.flatMap_append]
      by_cases hk : 10 ≤ sw_kd K F (sw_sc v w m) f
      · have : sw_sc v (upd w m' x) m' = sw_sc v w m' := by rw [sw_sc, sw_sc, pk_us, hx hk]
        rw [this, I2 m' hm']
      · have hr0 := I4 m' hm' (fun z => hk (hms.mp z))
        have h2 := I2 m' hm'
        rw [hr0] at h2
        have hz : sd_rl none = [] := rfl
        rw [hr0, hreg hk, h2, hz]
        simp only [List.flatMap_nil]
    · rw [sd_uo ej, sd_uo ej, sw_sc_set ej]
      by_cases em : m' = m
      · subst em
        rw [sd_us, sd_us, List.append_assoc, ← I2 m' hm', ht]; rfl
      · rw [sd_uo em, sd_uo em, I2 m' hm']
  · rw [sd_uo (by omega)]; exact I3
  · by_cases ej : i = j
    · subst ej
      have hk : ¬ 10 ≤ sw_kd K F (sw_sc v w m) f := fun z => hin ((hmsE i hi).mpr (hms.mpr z))
      rw [sd_us, I4 i hi (fun z => hk (hms.mp z)), hreg hk]; rfl
    · rw [sd_uo ej]; exact I4 i hi (fun z => hin ((hmsE i hi).mpr z))
  · rw [sd_uo (fun e => hjm e.symm), sd_us]
  · rw [sd_uo h1, sd_uo h2]
end
end
section
/-! nothing to do on both sides: the stores are alike -/
section
variable {B : Nat → Int32} {K : Nat → Nat} {C F D v L n n' : Nat} {p q p' q' : Nat → Nat} {w w' : Nat → Int32} {d d' : Nat → Nat} {rl td rl' td' : Nat → List sd_At} {rg rg' : Nat → List (Nat × Nat)}
theorem sd_rleq (I : sd_Inv B K C F D v L n p q w d rl td rg) (h : ∀ i, i ≤ n → td i = []) {m : Nat} (hm : m ≤ n) : rl m = (rg m).flatMap (fun r => sd_A B K F D (sw_sc v w m) (d m) r.1 r.2) := by
  have := I.2.2.1 m hm
  rw [h m hm, List.append_nil] at this
  exact this
theorem sd_maps (I : sd_Inv B K C F D v L n p q w d rl td rg) (h : ∀ i, i ≤ n → td i = []) (I' : sd_Inv B K C F D v L n' p' q' w' d' rl' td' rg') (h' : ∀ i, i ≤ n' → td' i = []) {m m' f : Nat} (hm : m ≤ n) (hm' : m' ≤ n') (hw : w' m' = w m) (hr : rg' m' = rg m) (hd : d' m' = d m) :
    (sw_L p' q' m' f n').map (fun j => (w' j, rg' j)) = (sw_L p q m f n).map (fun j => (w j, rg j)) := by
  have hsc : sw_sc v w' m' = sw_sc v w m := by rw [sw_sc, sw_sc, hw]
  rw [I.2.1 m f hm, I'.2.1 m' f hm', sd_rleq I h hm, sd_rleq I' h' hm', hsc, hr, hd]
theorem sd_key (I : sd_Inv B K C F D v L n p q w d rl td rg) (h : ∀ i, i ≤ n → td i = []) (I' : sd_Inv B K C F D v L n' p' q' w' d' rl' td' rg') (h' : ∀ i, i ≤ n' → td' i = []) (h0 : w' 0 = w 0) :
    ∀ j, j ≤ n → sw_mp p q p' q' n' j ≤ n' ∧ w' (sw_mp p q p' q' n' j) = w j ∧ rg' (sw_mp p q p' q' n' j) = rg j ∧ d' (sw_mp p q p' q' n' j) = d j := by
  have U := sw_up_of I.1
  intro j
  induction j using Nat.strongRecOn with
  | ind j ih =>
    intro hj
    by_cases z : j = 0
    · subst z
      rw [sw_mp0]
      exact ⟨Nat.zero_le _, h0, by rw [I.2.2.2.1, I'.2.2.2.1], by rw [I.1.2.2.1, I'.1.2.2.1]⟩
    · have up := U j (by omega) hj
      obtain ⟨a1, a2, a3, a4⟩ := ih (p j) up (by omega)
      have hx := sw_idx (p := p) (q := q) (n := n) (j := j) (by omega) hj
      have hmap := sd_maps I h I' h' (f := q j) (by omega : p j ≤ n) a1 a2 a3 a4
      have hg := congrArg (fun l => l[(sw_L p q (p j) (q j) (j - 1)).length]?) hmap
      rw [List.getElem?_map, List.getElem?_map, hx] at hg
      cases hx' : (sw_L p' q' (sw_mp p q p' q' n' (p j)) (q j) n')[(sw_L p q (p j) (q j) (j - 1)).length]? with
      | none => rw [hx'] at hg; cases hg
      | some x =>
        rw [hx'] at hg
        have hg2 := Option.some.inj hg
        injection hg2 with g1 g2
        have ex : sw_mp p q p' q' n' j = x := by rw [sw_mpn U hx, hx']; rfl
        have hm := sw_mem.mp (sw_nthmem hx')
        rw [ex]
        refine ⟨hm.2.1, g1, g2, ?_⟩
        rw [(I'.1.2.2.2.1 x hm.1 hm.2.1).2.2.2.1, hm.2.2.1, a4, (I.1.2.2.2.1 j (by omega) hj).2.2.2.1]
theorem sd_final (I : sd_Inv B K C F D v L n p q w d rl td rg) (h : ∀ i, i ≤ n → td i = []) (I' : sd_Inv B K C F D v L n' p' q' w' d' rl' td' rg') (h' : ∀ i, i ≤ n' → td' i = []) (h0 : w' 0 = w 0) :
    sw_Iso n p q w n' p' q' w' (sw_mp p q p' q' n') := by
  have hk := sd_key I h I' h' h0
  refine sw_mpIso (sw_up_of I.1) (fun m f hm => ?_) (fun j hj => (hk j hj).2.1)
  obtain ⟨a1, a2, a3, a4⟩ := hk m hm
  have := congrArg List.length (sd_maps I h I' h' (f := f) hm a1 a2 a3 a4)
  rw [List.length_map, List.length_map] at this
  exact this
/-- what lasts of older ids -/
def sd_Ext (K : Nat → Nat) (F v n : Nat) (p q : Nat → Nat) (w : Nat → Int32) (d : Nat → Nat) (n' : Nat) (p' q' : Nat → Nat) (w' : Nat → Int32) (d' : Nat → Nat) : Prop :=
  n ≤ n' ∧ ∀ i, i ≤ n → d' i = d i ∧ (sw_ms K F v p q w i → sw_ms K F v p' q' w' i ∧ w' i = w i)
theorem sd_Ext_refl : sd_Ext K F v n p q w d n p q w d := ⟨Nat.le_refl _, fun i _ => ⟨rfl, fun h => ⟨h, rfl⟩⟩⟩
end
section
variable {K : Nat → Nat} {F v n1 n2 n3 : Nat} {p1 q1 p2 q2 p3 q3 : Nat → Nat} {w1 w2 w3 : Nat → Int32} {d1 d2 d3 : Nat → Nat}
theorem sd_Ext_trans (h : sd_Ext K F v n1 p1 q1 w1 d1 n2 p2 q2 w2 d2) (h' : sd_Ext K F v n2 p2 q2 w2 d2 n3 p3 q3 w3 d3) : sd_Ext K F v n1 p1 q1 w1 d1 n3 p3 q3 w3 d3 := by
  refine ⟨Nat.le_trans h.1 h'.1, fun i hi => ?_⟩
  have a := h.2 i hi
  have b := h'.2 i (Nat.le_trans hi h.1)
  refine ⟨b.1.trans a.1, fun hm => ?_⟩
  have c := a.2 hm
  have e := b.2 c.1
  exact ⟨e.1, e.2.trans c.2⟩
end
section
variable {B : Nat → Int32} {K : Nat → Nat} {C F D v L n : Nat} {p q : Nat → Nat} {w : Nat → Int32} {d : Nat → Nat}
theorem sd_Ext_add (U : sw_Up n p) {m f x' : Nat} {x : Int32} : sd_Ext K F v n p q w d (n + 1) (sw_up p (n + 1) m) (sw_up q (n + 1) f) (upd w (n + 1) x) (sw_up d (n + 1) x') := by
  refine ⟨by omega, fun i hi => ⟨sw_un (by omega), fun h => ⟨(sw_ms_add U hi).mpr h, pk_un (by omega)⟩⟩⟩
theorem sd_Ext_set (W : sw_WF K C F D v n p q w d) {j : Nat} (hj : ¬ sw_ms K F v p q w j) {x : Int32} : sd_Ext K F v n p q w d n p q (upd w j x) d := by
  refine ⟨Nat.le_refl _, fun i hi => ⟨rfl, fun h => ⟨(sw_ms_set W hj hi).mpr h, pk_un (fun e => hj (by rw [← e]; exact h))⟩⟩⟩
end
end
section
/-! the state behind atoms without regions -/
def sd_Nx (B : Nat → Int32) (K : Nat → Nat) (C F D v L n : Nat) (p q : Nat → Nat) (w : Nat → Int32) (d : Nat → Nat) (td : Nat → List sd_At) (n' : Nat) (p' q' : Nat → Nat) (w' : Nat → Int32) (d' : Nat → Nat) (rl' td' : Nat → List sd_At) (rg' : Nat → List (Nat × Nat)) (m : Nat) (rest : List sd_At) : Prop :=
  sd_Inv B K C F D v L n' p' q' w' d' rl' td' rg' ∧ sd_Ext K F v n p q w d n' p' q' w' d' ∧ td' m = rest ∧ (∀ i, i ≤ n → i ≠ m → td' i = td i) ∧ (∀ i, n < i → i ≤ n' → td' i = [])
section
variable {B : Nat → Int32} {K : Nat → Nat} {C F D v L : Nat} {n : Nat} {p q : Nat → Nat} {w : Nat → Int32} {d : Nat → Nat} {rl td : Nat → List sd_At} {rg : Nat → List (Nat × Nat)} {n' : Nat} {p' q' : Nat → Nat} {w' : Nat → Int32} {d' : Nat → Nat} {rl' td' : Nat → List sd_At} {rg' : Nat → List (Nat × Nat)} {n2 : Nat} {p2 q2 : Nat → Nat} {w2 : Nat → Int32} {d2 : Nat → Nat} {rl2 td2 : Nat → List sd_At} {rg2 : Nat → List (Nat × Nat)}
theorem sd_Nx_refl (I : sd_Inv B K C F D v L n p q w d rl td rg) {m : Nat} {rest : List sd_At} (h : td m = rest) : sd_Nx B K C F D v L n p q w d td n p q w d rl td rg m rest :=
  ⟨I, sd_Ext_refl, h, fun _ _ _ => rfl, fun i a b => by omega⟩
theorem sd_Nx_trans {m : Nat} (hm : m ≤ n) {r1 r2 : List sd_At} (h : sd_Nx B K C F D v L n p q w d td n' p' q' w' d' rl' td' rg' m r1) (h' : sd_Nx B K C F D v L n' p' q' w' d' td' n2 p2 q2 w2 d2 rl2 td2 rg2 m r2) : sd_Nx B K C F D v L n p q w d td n2 p2 q2 w2 d2 rl2 td2 rg2 m r2 := by
  obtain ⟨a1, a2, a3, a4, a5⟩ := h
  obtain ⟨b1, b2, b3, b4, b5⟩ := h'
  have h1 := a2.1
  refine ⟨b1, sd_Ext_trans a2 b2, b3, fun i hi hne => ?_, fun i h2 h3 => ?_⟩
  · rw [b4 i (by omega) hne, a4 i hi hne]
  · by_cases c : i ≤ n'
    · rw [b4 i c (by omega), a5 i h2 c]
    · exact b5 i (by omega) h3
theorem sd_nxA (I : sd_Inv B K C F D v L n p q w d rl td rg) {m f : Nat} {sg : Bool} {x : Int32} {rest : List sd_At} (hm : m ≤ n) (hms : sw_ms K F v p q w m) (ht : td m = (f, sg, x, none) :: rest)
    (hsg : sg = false ∨ sw_L p q m f n = []) (hn : n < C) (hf : f ≤ F) (hk : 1 ≤ f → 1 ≤ sw_kd K F (sw_sc v w m) f) (hx : ¬ 10 ≤ sw_kd K F (sw_sc v w m) f) :
    ∃ (rl' td' : Nat → List sd_At) (rg' : Nat → List (Nat × Nat)), sd_Nx B K C F D v L n p q w d td (n + 1) (sw_up p (n + 1) m) (sw_up q (n + 1) f) (upd w (n + 1) x) (sw_up d (n + 1) (d m + 1)) rl' td' rg' m rest := by
  obtain ⟨rl', td', rg', h1, h2, h3, h4⟩ := sd_stepA I hm hms ht hsg hn hf hk (fun y => absurd y hx) (fun _ => rfl)
  refine ⟨rl', td', rg', h1, sd_Ext_add (sw_up_of I.1), h2, h4, fun i a b => ?_⟩
  obtain rfl : i = n + 1 := by omega
  exact h3
theorem sd_nxS (I : sd_Inv B K C F D v L n p q w d rl td rg) {m f j : Nat} {x : Int32} {rest : List sd_At} (hm : m ≤ n) (ht : td m = (f, true, x, none) :: rest)
    (hj : (sw_L p q m f n)[0]? = some j) (hx : ¬ 10 ≤ sw_kd K F (sw_sc v w m) f) :
    ∃ (rl' td' : Nat → List sd_At) (rg' : Nat → List (Nat × Nat)), sd_Nx B K C F D v L n p q w d td n p q (upd w j x) d rl' td' rg' m rest := by
  obtain ⟨rl', td', rg', h1, h2, h3, h4⟩ := sd_stepS I hm ht hj (fun y => absurd y hx) (fun _ => rfl)
  refine ⟨rl', td', rg', h1, sd_Ext_set I.1 (fun z => hx ((sw_msL I.1 (sw_nthmem hj)).mp z)), h2, fun i a b => ?_, fun i a b => by omega⟩
  by_cases e : i = j
  · subst e
    rw [h3]
    show td i ++ [] = td i
    rw [List.append_nil]
  · exact h4 i e b
end
/-! X's reads -/
section
variable {f_capacity f_maxField f_maxDepth f_spare f_writeAt f_level f_readAt f_broken : Int32} {a_kinds a_held a_storeOf a_cursor a_items a_word a_next a_schemaOf a_parentOf a_depthOf a_head a_tail a_length a_bytes a_filled a_sizeOf a_placeOf a_match a_regionEnd a_regionMessage : Nat → Int32} {post : Int32 → SX → Prop} {base e : Nat}
theorem sx_rv4 (he : base + e ≤ 240) {o : Option (Int32 × Nat)}
    (hbad : o = none → ∀ r : Int32, post 0 (f_capacity, f_maxField, f_maxDepth, f_spare, f_writeAt, f_level, r, 1, a_kinds, a_held, a_storeOf, a_cursor, a_items, a_word, a_next, a_schemaOf, a_parentOf, a_depthOf, a_head, a_tail, a_length, a_bytes, a_filled, a_sizeOf, a_placeOf, a_match, a_regionEnd, a_regionMessage)) (hok : ∀ u p', o = some (u, p') → post u (f_capacity, f_maxField, f_maxDepth, f_spare, f_writeAt, f_level, nI (base + p'), f_broken, a_kinds, a_held, a_storeOf, a_cursor, a_items, a_word, a_next, a_schemaOf, a_parentOf, a_depthOf, a_head, a_tail, a_length, a_bytes, a_filled, a_sizeOf, a_placeOf, a_match, a_regionEnd, a_regionMessage)) :
    ∀ g (a : Int32) k p, k + g = 10 → p ≤ e → sd_rv (fun i => a_bytes (base + i)) e g a k p = o → wX_readVarint_4 post (nI (base + e)) f_capacity f_maxField f_maxDepth f_spare f_writeAt f_level f_broken a_kinds a_held a_storeOf a_cursor a_items a_word a_next a_schemaOf a_parentOf a_depthOf a_head a_tail a_length a_bytes a_filled a_sizeOf a_placeOf a_match a_regionEnd a_regionMessage (g + 1) a (nI k) (nI (base + p)) := by
  intro g
  induction g with
  | zero =>
    intro a k p hk hpe ho
    exact br_t (nI_le (a := 10) (by omega) (by omega)) (hbad ho.symm _)
  | succ g ih =>
    intro a k p hk hpe ho
    rw [sd_rv] at ho
    rw [wX_readVarint_4]
    dsimp only
    refine br_f (nI_ge (b := 10) (by omega) (by omega)) (pk_lt (base + p) (base + e) (fun z => ?_) (fun z => ?_))
    · rw [if_neg (by omega)] at ho
      have e1 : nI (base + p) + 1 = nI (base + (p + 1)) := nI_1 _
      rw [nI_clamp (by omega), e1]
      refine ⟨vp_in_nI (by omega) (by omega), nm_e (nm_e ?_)⟩
      have hgo : ∀ a' : Int32, sd_acc a (a_bytes (base + p)) k = a' → wX_readVarint_64 post (wX_readVarint_4 post (nI (base + e)) f_capacity f_maxField f_maxDepth f_spare f_writeAt f_level f_broken a_kinds a_held a_storeOf a_cursor a_items a_word a_next a_schemaOf a_parentOf a_depthOf a_head a_tail a_length a_bytes a_filled a_sizeOf a_placeOf a_match a_regionEnd a_regionMessage (g + 1)) (nI (base + e)) a' (nI k) (a_bytes (base + p)) f_capacity f_maxField f_maxDepth f_spare f_writeAt f_level (nI (base + (p + 1))) f_broken a_kinds a_held a_storeOf a_cursor a_items a_word a_next a_schemaOf a_parentOf a_depthOf a_head a_tail a_length a_bytes a_filled a_sizeOf a_placeOf a_match a_regionEnd a_regionMessage := by
        intro a' ea
        unfold wX_readVarint_64
        rw [nI_1 k]
        refine br_c (fun c => nm_e ?_) (fun c => ?_)
        · rw [if_pos c, ea] at ho
          exact ih a' (k + 1) (p + 1) (by omega) (by omega) ho
        · rw [if_neg c, ea] at ho
          exact hok a' (p + 1) ho.symm
      refine pk_le 5 k (fun c => hgo _ ?_) (fun c => nm_e (hgo _ ?_))
      · unfold sd_acc; rw [if_neg (by omega)]
      · unfold sd_acc; rw [if_pos (by omega)]
    · rw [if_pos (by omega)] at ho
      exact hbad ho.symm _
theorem sx_readVarint (he : base + e ≤ 240) {p : Nat} (hpe : p ≤ e) (hbad : sd_rd (fun i => a_bytes (base + i)) e p = none → ∀ r : Int32, post 0 (f_capacity, f_maxField, f_maxDepth, f_spare, f_writeAt, f_level, r, 1, a_kinds, a_held, a_storeOf, a_cursor, a_items, a_word, a_next, a_schemaOf, a_parentOf, a_depthOf, a_head, a_tail, a_length, a_bytes, a_filled, a_sizeOf, a_placeOf, a_match, a_regionEnd, a_regionMessage)) (hok : ∀ u p', sd_rd (fun i => a_bytes (base + i)) e p = some (u, p') → post u (f_capacity, f_maxField, f_maxDepth, f_spare, f_writeAt, f_level, nI (base + p'), f_broken, a_kinds, a_held, a_storeOf, a_cursor, a_items, a_word, a_next, a_schemaOf, a_parentOf, a_depthOf, a_head, a_tail, a_length, a_bytes, a_filled, a_sizeOf, a_placeOf, a_match, a_regionEnd, a_regionMessage)) :
    wpX_readVarint post (f_capacity, f_maxField, f_maxDepth, f_spare, f_writeAt, f_level, nI (base + p), f_broken, a_kinds, a_held, a_storeOf, a_cursor, a_items, a_word, a_next, a_schemaOf, a_parentOf, a_depthOf, a_head, a_tail, a_length, a_bytes, a_filled, a_sizeOf, a_placeOf, a_match, a_regionEnd, a_regionMessage) (nI (base + e)) :=
  ⟨11, sx_rv4 he hbad hok 10 0 0 p (by omega) hpe rfl⟩
theorem sx_rf21 (he : base + e ≤ 240) {p : Nat} (hp : p + 4 ≤ e) (h : post (sd_fx (fun i => a_bytes (base + i)) p) (f_capacity, f_maxField, f_maxDepth, f_spare, f_writeAt, f_level, nI (base + (p + 4)), f_broken, a_kinds, a_held, a_storeOf, a_cursor, a_items, a_word, a_next, a_schemaOf, a_parentOf, a_depthOf, a_head, a_tail, a_length, a_bytes, a_filled, a_sizeOf, a_placeOf, a_match, a_regionEnd, a_regionMessage)) :
    ∀ g i, i + g = 4 → wX_readFixed_21 post f_capacity f_maxField f_maxDepth f_spare f_writeAt f_level (nI (base + p)) f_broken a_kinds a_held a_storeOf a_cursor a_items a_word a_next a_schemaOf a_parentOf a_depthOf a_head a_tail a_length a_bytes a_filled a_sizeOf a_placeOf a_match a_regionEnd a_regionMessage (g + 1) (sd_fxA (fun i => a_bytes (base + i)) p i) (nI i) := by
  intro g
  induction g with
  | zero =>
    intro i hi
    obtain rfl : i = 4 := by omega
    have e4 : nI (base + p) + 4 = nI (base + (p + 4)) := by rw [show (4 : Int32) = nI 4 from rfl, nI_add, Nat.add_assoc]
    unfold wX_readFixed_21
    rw [e4]
    exact br_t (nI_le (a := 4) (b := 4) (Nat.le_refl _) (by omega)) (nm_e h)
  | succ g ih =>
    intro i hi
    rw [wX_readFixed_21]
    dsimp only
    rw [nI_add, nI_clamp (n := base + p + i) (by omega), nI_1 i, Nat.add_assoc]
    exact br_f (nI_ge (b := 4) (by omega) (by omega)) ⟨vp_in_nI (by omega) (by omega), nm_e (nm_e (ih (i + 1) (by omega)))⟩
theorem sx_readFixed (he : base + e ≤ 240) {p : Nat} (hpe : p ≤ e) (hbad : e - p < 4 → post 0 (f_capacity, f_maxField, f_maxDepth, f_spare, f_writeAt, f_level, nI (base + p), 1, a_kinds, a_held, a_storeOf, a_cursor, a_items, a_word, a_next, a_schemaOf, a_parentOf, a_depthOf, a_head, a_tail, a_length, a_bytes, a_filled, a_sizeOf, a_placeOf, a_match, a_regionEnd, a_regionMessage)) (hok : ¬ e - p < 4 → post (sd_fx (fun i => a_bytes (base + i)) p) (f_capacity, f_maxField, f_maxDepth, f_spare, f_writeAt, f_level, nI (base + (p + 4)), f_broken, a_kinds, a_held, a_storeOf, a_cursor, a_items, a_word, a_next, a_schemaOf, a_parentOf, a_depthOf, a_head, a_tail, a_length, a_bytes, a_filled, a_sizeOf, a_placeOf, a_match, a_regionEnd, a_regionMessage)) :
    wpX_readFixed post (f_capacity, f_maxField, f_maxDepth, f_spare, f_writeAt, f_level, nI (base + p), f_broken, a_kinds, a_held, a_storeOf, a_cursor, a_items, a_word, a_next, a_schemaOf, a_parentOf, a_depthOf, a_head, a_tail, a_length, a_bytes, a_filled, a_sizeOf, a_placeOf, a_match, a_regionEnd, a_regionMessage) (nI (base + e)) := by
  have es : nI (base + e) - nI (base + p) = nI (e - p) := by
    rw [pk_sub (by omega)]
    exact congrArg nI (by omega)
  unfold wpX_readFixed
  dsimp only
  rw [es]
  exact pk_le 4 (e - p) (fun c => ⟨5, sx_rf21 he (by omega) (hok (by omega)) 4 0 (by omega)⟩) (fun c => hbad (by omega))
end
section
variable {f_capacity f_maxField f_maxDepth f_spare f_writeAt f_level f_readAt f_broken : Int32} {a_kinds a_held a_storeOf a_cursor a_items a_word a_next a_schemaOf a_parentOf a_depthOf a_head a_tail a_length a_bytes a_filled a_sizeOf a_placeOf a_match a_regionEnd a_regionMessage : Nat → Int32} {post : Int32 → Prop}
theorem sx_fromWire {k : Nat} (h1 : 1 ≤ k) {x : Int32} (h : post (sd_fw k x)) : wpX_fromWire post (f_capacity, f_maxField, f_maxDepth, f_spare, f_writeAt, f_level, f_readAt, f_broken, a_kinds, a_held, a_storeOf, a_cursor, a_items, a_word, a_next, a_schemaOf, a_parentOf, a_depthOf, a_head, a_tail, a_length, a_bytes, a_filled, a_sizeOf, a_placeOf, a_match, a_regionEnd, a_regionMessage) (nI (se_fm k)) x := by
  unfold wpX_fromWire
  unfold sd_fw at h
  refine pk_eq (se_fm k) 2 (fun z => ?_) (fun z => ?_) (ha := by unfold se_fm; omega)
  · unfold se_fm at z; rw [if_pos (by omega)] at h; exact h
  · unfold se_fm at z; rw [if_neg (by omega)] at h; exact h
end
section
variable {f_capacity f_maxField f_maxDepth f_spare f_writeAt f_level f_readAt f_broken : Int32} {a_kinds a_held a_storeOf a_cursor a_items a_word a_next a_schemaOf a_parentOf a_depthOf a_head a_tail a_length a_bytes a_filled a_sizeOf a_placeOf a_match a_regionEnd a_regionMessage : Nat → Int32} {B : Nat → Int32} {K : Nat → Nat} {C F D v L t : Nat} {n : Nat} {p q : Nat → Nat} {w : Nat → Int32} {d : Nat → Nat} {rl td : Nat → List sd_At} {rg : Nat → List (Nat × Nat)} {post : SX → Prop}
theorem sx_keepInt (X : sw_Cx K C F D f_capacity f_maxField f_maxDepth a_kinds) (I : sd_Inv B K C F D v L n p q w d rl td rg) (R : sx_R K F t v n p q w d a_items a_word a_next a_schemaOf a_parentOf a_depthOf a_head a_tail a_length) (ht : t < 3) (hsp : f_spare = nI t) {m f : Nat} {sg : Bool} {x : Int32} {rest : List sd_At} (hm : m ≤ n) (hms : sw_ms K F v p q w m) (htd : td m = (f, sg, x, none) :: rest)
    (hf1 : 1 ≤ f) (hk1 : 1 ≤ sw_kd K F (sw_sc v w m) f) (hk9 : sw_kd K F (sw_sc v w m) f ≤ 9) (hsg : sg = true ↔ sw_kd K F (sw_sc v w m) f ≤ 3) (hn : n < C)
    (h : ∀ (n' : Nat) (p' q' : Nat → Nat) (w' : Nat → Int32) (d' : Nat → Nat) (rl' td' : Nat → List sd_At) (rg' : Nat → List (Nat × Nat)) (a_items' a_word' a_next' a_schemaOf' a_parentOf' a_depthOf' a_head' a_tail' a_length' : Nat → Int32), sd_Nx B K C F D v L n p q w d td n' p' q' w' d' rl' td' rg' m rest → sx_R K F t v n' p' q' w' d' a_items' a_word' a_next' a_schemaOf' a_parentOf' a_depthOf' a_head' a_tail' a_length' → sx_Fr K F t a_items a_word a_next a_schemaOf a_parentOf a_depthOf a_head a_tail a_length a_items' a_word' a_next' a_schemaOf' a_parentOf' a_depthOf' a_head' a_tail' a_length' → n' ≤ n + 1 → post (f_capacity, f_maxField, f_maxDepth, f_spare, f_writeAt, f_level, f_readAt, f_broken, a_kinds, a_held, a_storeOf, a_cursor, a_items', a_word', a_next', a_schemaOf', a_parentOf', a_depthOf', a_head', a_tail', a_length', a_bytes, a_filled, a_sizeOf, a_placeOf, a_match, a_regionEnd, a_regionMessage)) :
    wpX_keepInt post (f_capacity, f_maxField, f_maxDepth, f_spare, f_writeAt, f_level, f_readAt, f_broken, a_kinds, a_held, a_storeOf, a_cursor, a_items, a_word, a_next, a_schemaOf, a_parentOf, a_depthOf, a_head, a_tail, a_length, a_bytes, a_filled, a_sizeOf, a_placeOf, a_match, a_regionEnd, a_regionMessage) (nI (t * 121 + m)) (nI f) x := by
  have hf2 : f ≤ F := by
    apply Classical.byContradiction
    intro z
    rw [sw_kd_out (by omega)] at hk1; omega
  unfold wpX_keepInt
  subst hsp
  refine sx_storeInt X I.1 R ht hm hms hf1 hf2 hk9 (fun j h3 hj => br_f (by decide) ?_) (fun hno hlt a_items' a_word' a_next' a_schemaOf' a_parentOf' a_depthOf' a_head' a_tail' a_length' R2 Fr => br_f (by decide) ?_) (fun _ hle => by omega)
  · have es : sg = true := hsg.mpr h3
    rw [es] at htd
    obtain ⟨rl', td', rg', hN⟩ := sd_nxS I hm htd hj (by omega)
    have jm := sw_mem.mp (sw_nthmem hj)
    have hnm : ¬ sw_ms K F v p q w j := fun z => by have := (sw_msL I.1 (sw_nthmem hj)).mp z; omega
    have hnn := I.1.1
    have x2 := X.2.1
    exact h n p q (upd w j x) d rl' td' rg' _ _ _ _ _ _ _ _ _ hN (sx_set R I.1 jm.1 hnm) (sx_Fr_word (by omega)) (by omega)
  · have hs2 : sg = false ∨ sw_L p q m f n = [] := by
      cases sg
      · exact Or.inl rfl
      · refine Or.inr (Classical.byContradiction (fun z => hno ⟨hsg.mp rfl, z⟩))
    obtain ⟨rl', td', rg', hN⟩ := sd_nxA I hm hms htd hs2 hn hf2 (fun _ => hk1) (by omega)
    exact h _ _ _ _ _ rl' td' rg' _ _ _ _ _ _ _ _ _ hN R2 Fr (Nat.le_refl _)
end
end
section
/-! X keeps unknown bytes and packed ints -/
theorem sd_un_c {B : Nat → Int32} {a e : Nat} (h : a < e) : sd_un B a e = (0, false, B a, none) :: sd_un B (a + 1) e := by
  unfold sd_un
  obtain ⟨k, hk⟩ : ∃ k, e - a = k + 1 := ⟨e - a - 1, by omega⟩
  have : e - (a + 1) = k := by omega
  rw [hk, this, List.range'_succ, List.map_cons]
theorem sd_un_e {B : Nat → Int32} {a e : Nat} (h : e ≤ a) : sd_un B a e = [] := by
  unfold sd_un
  have : e - a = 0 := by omega
  rw [this]; rfl
section
variable {f_capacity f_maxField f_maxDepth f_spare f_writeAt f_level f_readAt f_broken : Int32} {a_kinds a_held a_storeOf a_cursor a_items a_word a_next a_schemaOf a_parentOf a_depthOf a_head a_tail a_length a_bytes a_filled a_sizeOf a_placeOf a_match a_regionEnd a_regionMessage : Nat → Int32} {B : Nat → Int32} {K : Nat → Nat} {C F D v L t : Nat} {n : Nat} {p q : Nat → Nat} {w : Nat → Int32} {d : Nat → Nat} {rl td : Nat → List sd_At} {rg : Nat → List (Nat × Nat)} {post : SX → Prop}
theorem sx_ku2 (X : sw_Cx K C F D f_capacity f_maxField f_maxDepth a_kinds) (ht : t < 3) {m base e : Nat} {rest : List sd_At} (hm : m ≤ n) (hms : sw_ms K F v p q w m) (he : base + e ≤ 240) (heC : e ≤ C) (hB : ∀ i, B i = a_bytes (base + i))
    (h : ∀ (n' : Nat) (p' q' : Nat → Nat) (w' : Nat → Int32) (d' : Nat → Nat) (rl' td' : Nat → List sd_At) (rg' : Nat → List (Nat × Nat)) (a_items' a_word' a_next' a_schemaOf' a_parentOf' a_depthOf' a_head' a_tail' a_length' : Nat → Int32), sd_Nx B K C F D v L n p q w d td n' p' q' w' d' rl' td' rg' m rest → sx_R K F t v n' p' q' w' d' a_items' a_word' a_next' a_schemaOf' a_parentOf' a_depthOf' a_head' a_tail' a_length' → sx_Fr K F t a_items a_word a_next a_schemaOf a_parentOf a_depthOf a_head a_tail a_length a_items' a_word' a_next' a_schemaOf' a_parentOf' a_depthOf' a_head' a_tail' a_length' → n' ≤ e → post (f_capacity, f_maxField, f_maxDepth, nI t, f_writeAt, f_level, nI (base + e), f_broken, a_kinds, a_held, a_storeOf, a_cursor, a_items', a_word', a_next', a_schemaOf', a_parentOf', a_depthOf', a_head', a_tail', a_length', a_bytes, a_filled, a_sizeOf, a_placeOf, a_match, a_regionEnd, a_regionMessage)) :
    ∀ (k at0 : Nat) (n' : Nat) (p' q' : Nat → Nat) (w' : Nat → Int32) (d' : Nat → Nat) (rl' td' : Nat → List sd_At) (rg' : Nat → List (Nat × Nat)) (a_items' a_word' a_next' a_schemaOf' a_parentOf' a_depthOf' a_head' a_tail' a_length' : Nat → Int32), at0 + k = e → sd_Nx B K C F D v L n p q w d td n' p' q' w' d' rl' td' rg' m (sd_un B at0 e ++ rest) → sx_R K F t v n' p' q' w' d' a_items' a_word' a_next' a_schemaOf' a_parentOf' a_depthOf' a_head' a_tail' a_length' → sx_Fr K F t a_items a_word a_next a_schemaOf a_parentOf a_depthOf a_head a_tail a_length a_items' a_word' a_next' a_schemaOf' a_parentOf' a_depthOf' a_head' a_tail' a_length' → n' ≤ at0 →
      wX_keepUnknown_2 post (nI (t * 121 + m)) (k + 1) (nI (base + at0)) f_capacity f_maxField f_maxDepth (nI t) f_writeAt f_level (nI (base + e)) f_broken a_kinds a_held a_storeOf a_cursor a_items' a_word' a_next' a_schemaOf' a_parentOf' a_depthOf' a_head' a_tail' a_length' a_bytes a_filled a_sizeOf a_placeOf a_match a_regionEnd a_regionMessage := by
  obtain ⟨x1, x2, x3, x4, x5, x6, e1, e2, e3, x7⟩ := X
  intro k
  induction k with
  | zero =>
    intro at0 n' p' q' w' d' rl' td' rg' a_items' a_word' a_next' a_schemaOf' a_parentOf' a_depthOf' a_head' a_tail' a_length' ha hN R Fr hn
    rw [sd_un_e (by omega), List.nil_append] at hN
    exact br_t (nI_le (by omega) (by omega)) (h _ _ _ _ _ _ _ _ _ _ _ _ _ _ _ _ _ hN R Fr (by omega))
  | succ k ih =>
    intro at0 n' p' q' w' d' rl' td' rg' a_items' a_word' a_next' a_schemaOf' a_parentOf' a_depthOf' a_head' a_tail' a_length' ha hN R Fr hn
    rw [sd_un_c (by omega)] at hN
    have hE := hN.2.1
    have hm' : m ≤ n' := Nat.le_trans hm hE.1
    have hms' := ((hE.2 m hm).2 hms).1
    have W' := hN.1.1
    have hnn := W'.1
    have hk0 : sw_kd K F (sw_sc v w' m) 0 = 0 := sw_kd_out (by omega)
    rw [wX_keepUnknown_2]
    dsimp only
    refine br_f (nI_ge (by omega) (by omega)) ?_
    refine sx_addCell (f := 0) e1 x2 W' R ht hm' hms' (by omega) (fun z => by omega) (fun z a_next2 a_head2 n1 n2 g1 g2 g3 => ?_)
    have ec : (nI (t * 121 + (n' + 1))).toNatClampNeg = t * 121 + (n' + 1) := nI_clamp (by omega)
    have e5 : nI (base + at0) + 1 = nI (base + (at0 + 1)) := nI_1 _
    dsimp only
    rw [ec, nI_clamp (n := base + at0) (by omega), e5, ← hB]
    refine br_t (nI_pos' (by omega)) ⟨vp_in_nI (by omega) (by omega), vp_in_nI (by omega) (by omega), nm_e (nm_e ?_)⟩
    obtain ⟨rl2, td2, rg2, hN2⟩ := sd_nxA hN.1 hm' hms' hN.2.2.1 (Or.inl rfl) (by omega) (Nat.zero_le _) (fun y => by omega) (by omega)
    refine ih (at0 + 1) _ _ _ _ _ rl2 td2 rg2 _ _ _ _ _ _ _ _ _ (by omega) (sd_Nx_trans hm hN hN2) ?_ (fun t2 v0 n0 p0 q0 w0 d0 y1 y2 y3 y4 => ?_) (by omega)
    · refine sx_add R W' hm' hms' (by omega) pk_us (fun j hj => ⟨?_, ?_, rfl, rfl⟩) (fun _ => ⟨pk_us, pk_us⟩) (fun y => by omega) (fun m' f' hm' hf' y => ⟨?_, ?_, ?_⟩) ⟨pk_us, pk_us, g2, g3⟩ (fun j hj y => ?_) n2
      · rw [pk_un (by omega), pk_un (by omega)]
      · rw [pk_un (by omega)]
      · rw [pk_un (by omega)]
      · exact g1 _ (by omega)
      · rw [pk_un (by omega)]
      · refine n1 _ (by omega) (fun j' hj' e => y ?_)
        have : j = j' := by omega
        rw [this]; exact hj'
    · refine (sx_addOut (n := n') (by omega) hm' (f := 0) (by omega) (fun c hc => ⟨?_, ?_, ?_, rfl, rfl⟩) (fun c hc => ⟨?_, ?_, ?_⟩) : sx_Fr K F t a_items' a_word' a_next' a_schemaOf' a_parentOf' a_depthOf' a_head' a_tail' a_length' _ _ _ _ _ _ _ _ _) t2 v0 n0 p0 q0 w0 d0 y1 y2 y3 (Fr t2 v0 n0 p0 q0 w0 d0 y1 y2 y3 y4)
      · rw [pk_un (by omega), pk_un (by omega)]
      · refine n1 _ (by omega) (fun j' hj' e => ?_)
        have := sw_mem.mp (List.mem_of_getLast? hj')
        omega
      · rw [pk_un (by omega)]
      · exact g1 _ (by omega)
      · rw [pk_un (by omega)]
      · rw [pk_un (by omega)]
theorem sx_keepUnknown (X : sw_Cx K C F D f_capacity f_maxField f_maxDepth a_kinds) (I : sd_Inv B K C F D v L n p q w d rl td rg) (R : sx_R K F t v n p q w d a_items a_word a_next a_schemaOf a_parentOf a_depthOf a_head a_tail a_length) (ht : t < 3) {m base a e : Nat} {rest : List sd_At} (hm : m ≤ n) (hms : sw_ms K F v p q w m) (he : base + e ≤ 240) (heC : e ≤ C) (hae : a ≤ e) (hB : ∀ i, B i = a_bytes (base + i)) (htd : td m = sd_un B a e ++ rest) (hn : n ≤ a)
    (h : ∀ (n' : Nat) (p' q' : Nat → Nat) (w' : Nat → Int32) (d' : Nat → Nat) (rl' td' : Nat → List sd_At) (rg' : Nat → List (Nat × Nat)) (a_items' a_word' a_next' a_schemaOf' a_parentOf' a_depthOf' a_head' a_tail' a_length' : Nat → Int32), sd_Nx B K C F D v L n p q w d td n' p' q' w' d' rl' td' rg' m rest → sx_R K F t v n' p' q' w' d' a_items' a_word' a_next' a_schemaOf' a_parentOf' a_depthOf' a_head' a_tail' a_length' → sx_Fr K F t a_items a_word a_next a_schemaOf a_parentOf a_depthOf a_head a_tail a_length a_items' a_word' a_next' a_schemaOf' a_parentOf' a_depthOf' a_head' a_tail' a_length' → n' ≤ e → post (f_capacity, f_maxField, f_maxDepth, nI t, f_writeAt, f_level, nI (base + e), f_broken, a_kinds, a_held, a_storeOf, a_cursor, a_items', a_word', a_next', a_schemaOf', a_parentOf', a_depthOf', a_head', a_tail', a_length', a_bytes, a_filled, a_sizeOf, a_placeOf, a_match, a_regionEnd, a_regionMessage)) :
    wpX_keepUnknown post (f_capacity, f_maxField, f_maxDepth, nI t, f_writeAt, f_level, nI (base + e), f_broken, a_kinds, a_held, a_storeOf, a_cursor, a_items, a_word, a_next, a_schemaOf, a_parentOf, a_depthOf, a_head, a_tail, a_length, a_bytes, a_filled, a_sizeOf, a_placeOf, a_match, a_regionEnd, a_regionMessage) (nI (t * 121 + m)) (nI (base + a)) :=
  ⟨e - a + 1, sx_ku2 X ht hm hms he heC hB h (e - a) a _ _ _ _ _ _ _ _ _ _ _ _ _ _ _ _ _ (by omega) (sd_Nx_refl I htd) R sx_Fr_refl hn⟩
/-- an int kept, with or without the invariant -/
theorem sx_keepIntG {G : Prop} (X : sw_Cx K C F D f_capacity f_maxField f_maxDepth a_kinds) (W : sw_WF K C F D v n p q w d) (R : sx_R K F t v n p q w d a_items a_word a_next a_schemaOf a_parentOf a_depthOf a_head a_tail a_length) (ht : t < 3) (hsp : f_spare = nI t) {m f : Nat} {sg : Bool} {x : Int32} {rest : List sd_At} (hm : m ≤ n) (hms : sw_ms K F v p q w m) (hG : G → sd_Inv B K C F D v L n p q w d rl td rg ∧ td m = (f, sg, x, none) :: rest)
    (hf1 : 1 ≤ f) (hk1 : 1 ≤ sw_kd K F (sw_sc v w m) f) (hk9 : sw_kd K F (sw_sc v w m) f ≤ 9) (hsg : sg = true ↔ sw_kd K F (sw_sc v w m) f ≤ 3) (hn : n < C)
    (h : ∀ (n' : Nat) (p' q' : Nat → Nat) (w' : Nat → Int32) (d' : Nat → Nat) (rl' td' : Nat → List sd_At) (rg' : Nat → List (Nat × Nat)) (a_items' a_word' a_next' a_schemaOf' a_parentOf' a_depthOf' a_head' a_tail' a_length' : Nat → Int32), (G → sd_Nx B K C F D v L n p q w d td n' p' q' w' d' rl' td' rg' m rest) → sw_WF K C F D v n' p' q' w' d' → sd_Ext K F v n p q w d n' p' q' w' d' → sx_R K F t v n' p' q' w' d' a_items' a_word' a_next' a_schemaOf' a_parentOf' a_depthOf' a_head' a_tail' a_length' → sx_Fr K F t a_items a_word a_next a_schemaOf a_parentOf a_depthOf a_head a_tail a_length a_items' a_word' a_next' a_schemaOf' a_parentOf' a_depthOf' a_head' a_tail' a_length' → n' ≤ n + 1 → post (f_capacity, f_maxField, f_maxDepth, f_spare, f_writeAt, f_level, f_readAt, f_broken, a_kinds, a_held, a_storeOf, a_cursor, a_items', a_word', a_next', a_schemaOf', a_parentOf', a_depthOf', a_head', a_tail', a_length', a_bytes, a_filled, a_sizeOf, a_placeOf, a_match, a_regionEnd, a_regionMessage)) :
    wpX_keepInt post (f_capacity, f_maxField, f_maxDepth, f_spare, f_writeAt, f_level, f_readAt, f_broken, a_kinds, a_held, a_storeOf, a_cursor, a_items, a_word, a_next, a_schemaOf, a_parentOf, a_depthOf, a_head, a_tail, a_length, a_bytes, a_filled, a_sizeOf, a_placeOf, a_match, a_regionEnd, a_regionMessage) (nI (t * 121 + m)) (nI f) x := by
  have hf2 : f ≤ F := by
    apply Classical.byContradiction
    intro z
    rw [sw_kd_out (by omega)] at hk1; omega
  unfold wpX_keepInt
  subst hsp
  refine sx_storeInt X W R ht hm hms hf1 hf2 hk9 (fun j h3 hj => br_f (by decide) ?_) (fun hno hlt a_items' a_word' a_next' a_schemaOf' a_parentOf' a_depthOf' a_head' a_tail' a_length' R2 Fr => br_f (by decide) ?_) (fun _ hle => by omega)
  · have jm := sw_mem.mp (sw_nthmem hj)
    have hnm : ¬ sw_ms K F v p q w j := fun z => by have := (sw_msL W (sw_nthmem hj)).mp z; omega
    have hnn := W.1
    have x2 := X.2.1
    have es : sg = true := hsg.mpr h3
    have hex : ∃ (rl' td' : Nat → List sd_At) (rg' : Nat → List (Nat × Nat)), (G → sd_Nx B K C F D v L n p q w d td n p q (upd w j x) d rl' td' rg' m rest) := by
      by_cases g : G
      · obtain ⟨I, htd⟩ := hG g
        rw [es] at htd
        obtain ⟨rl', td', rg', hN⟩ := sd_nxS I hm htd hj (by omega)
        exact ⟨rl', td', rg', fun _ => hN⟩
      · exact ⟨rl, td, rg, fun y => absurd y g⟩
    obtain ⟨rl', td', rg', hN⟩ := hex
    exact h n p q (upd w j x) d rl' td' rg' _ _ _ _ _ _ _ _ _ hN (sw_WF_set W hnm) (sd_Ext_set W hnm) (sx_set R W jm.1 hnm) (sx_Fr_word (by omega)) (by omega)
  · have hs2 : sg = false ∨ sw_L p q m f n = [] := by
      cases sg
      · exact Or.inl rfl
      · refine Or.inr (Classical.byContradiction (fun z => hno ⟨hsg.mp rfl, z⟩))
    have hex : ∃ (rl' td' : Nat → List sd_At) (rg' : Nat → List (Nat × Nat)), (G → sd_Nx B K C F D v L n p q w d td (n + 1) (sw_up p (n + 1) m) (sw_up q (n + 1) f) (upd w (n + 1) x) (sw_up d (n + 1) (d m + 1)) rl' td' rg' m rest) := by
      by_cases g : G
      · obtain ⟨I, htd⟩ := hG g
        obtain ⟨rl', td', rg', hN⟩ := sd_nxA I hm hms htd hs2 hn hf2 (fun _ => hk1) (by omega)
        exact ⟨rl', td', rg', fun _ => hN⟩
      · exact ⟨rl, td, rg, fun y => absurd y g⟩
    obtain ⟨rl', td', rg', hN⟩ := hex
    exact h _ _ _ _ _ rl' td' rg' _ _ _ _ _ _ _ _ _ hN (sw_WF_add W hm hms hf2 hn (fun _ => hk1) (fun y => by omega)) (sd_Ext_add (sw_up_of W)) R2 Fr (Nat.le_refl _)
theorem sx_rp10 (X : sw_Cx K C F D f_capacity f_maxField f_maxDepth a_kinds) (ht : t < 3) (hsp : f_spare = nI t) {m f kk base st : Nat} {rest : List sd_At} {G : Prop} (hm : m ≤ n) (hms : sw_ms K F v p q w m) (he : base + st ≤ 240) (heC : st ≤ C) (hB : B = fun i => a_bytes (base + i))
    (hf1 : 1 ≤ f) (hkk : kk = sw_kd K F (sw_sc v w m) f) (hk4 : 4 ≤ kk) (hk9 : kk ≤ 9)
    (hbad : ¬ G → ∀ (r : Int32) (a_items' a_word' a_next' a_schemaOf' a_parentOf' a_depthOf' a_head' a_tail' a_length' : Nat → Int32), sx_Fr K F t a_items a_word a_next a_schemaOf a_parentOf a_depthOf a_head a_tail a_length a_items' a_word' a_next' a_schemaOf' a_parentOf' a_depthOf' a_head' a_tail' a_length' → post (f_capacity, f_maxField, f_maxDepth, f_spare, f_writeAt, f_level, r, 1, a_kinds, a_held, a_storeOf, a_cursor, a_items', a_word', a_next', a_schemaOf', a_parentOf', a_depthOf', a_head', a_tail', a_length', a_bytes, a_filled, a_sizeOf, a_placeOf, a_match, a_regionEnd, a_regionMessage))
    (hok : G → ∀ (n' : Nat) (p' q' : Nat → Nat) (w' : Nat → Int32) (d' : Nat → Nat) (rl' td' : Nat → List sd_At) (rg' : Nat → List (Nat × Nat)) (a_items' a_word' a_next' a_schemaOf' a_parentOf' a_depthOf' a_head' a_tail' a_length' : Nat → Int32), sd_Nx B K C F D v L n p q w d td n' p' q' w' d' rl' td' rg' m rest → sx_R K F t v n' p' q' w' d' a_items' a_word' a_next' a_schemaOf' a_parentOf' a_depthOf' a_head' a_tail' a_length' → sx_Fr K F t a_items a_word a_next a_schemaOf a_parentOf a_depthOf a_head a_tail a_length a_items' a_word' a_next' a_schemaOf' a_parentOf' a_depthOf' a_head' a_tail' a_length' → n' ≤ st → post (f_capacity, f_maxField, f_maxDepth, f_spare, f_writeAt, f_level, nI (base + st), 0, a_kinds, a_held, a_storeOf, a_cursor, a_items', a_word', a_next', a_schemaOf', a_parentOf', a_depthOf', a_head', a_tail', a_length', a_bytes, a_filled, a_sizeOf, a_placeOf, a_match, a_regionEnd, a_regionMessage)) :
    ∀ (N pp cnt : Nat) (n' : Nat) (p' q' : Nat → Nat) (w' : Nat → Int32) (d' : Nat → Nat) (rl' td' : Nat → List sd_At) (rg' : Nat → List (Nat × Nat)) (a_items' a_word' a_next' a_schemaOf' a_parentOf' a_depthOf' a_head' a_tail' a_length' : Nat → Int32), st - pp ≤ N → pp ≤ st → cnt ≤ pp → (G ↔ ∃ l, sd_pk B kk st (st - pp) pp = some l) →
      (∀ l, sd_pk B kk st (st - pp) pp = some l → sd_Nx B K C F D v L n p q w d td n' p' q' w' d' rl' td' rg' m (l.map (fun x => (f, false, x, none)) ++ rest)) →
      sw_WF K C F D v n' p' q' w' d' → sd_Ext K F v n p q w d n' p' q' w' d' → sx_R K F t v n' p' q' w' d' a_items' a_word' a_next' a_schemaOf' a_parentOf' a_depthOf' a_head' a_tail' a_length' → sx_Fr K F t a_items a_word a_next a_schemaOf a_parentOf a_depthOf a_head a_tail a_length a_items' a_word' a_next' a_schemaOf' a_parentOf' a_depthOf' a_head' a_tail' a_length' → n' ≤ pp →
      wX_readPacked_10 post (nI (t * 121 + m)) (nI f) (nI (base + st)) (nI (se_fm kk)) (N + 1) (nI cnt) f_capacity f_maxField f_maxDepth f_spare f_writeAt f_level (nI (base + pp)) 0 a_kinds a_held a_storeOf a_cursor a_items' a_word' a_next' a_schemaOf' a_parentOf' a_depthOf' a_head' a_tail' a_length' a_bytes a_filled a_sizeOf a_placeOf a_match a_regionEnd a_regionMessage := by
  have X0 := X
  obtain ⟨x1, x2, x3, x4, x5, x6, e1, e2, e3, x7⟩ := X
  have hend : ∀ (pp : Nat) (n' : Nat) (p' q' : Nat → Nat) (w' : Nat → Int32) (d' : Nat → Nat) (rl' td' : Nat → List sd_At) (rg' : Nat → List (Nat × Nat)) (a_items' a_word' a_next' a_schemaOf' a_parentOf' a_depthOf' a_head' a_tail' a_length' : Nat → Int32), pp = st → (G ↔ ∃ l, sd_pk B kk st (st - pp) pp = some l) →
      (∀ l, sd_pk B kk st (st - pp) pp = some l → sd_Nx B K C F D v L n p q w d td n' p' q' w' d' rl' td' rg' m (l.map (fun x => (f, false, x, none)) ++ rest)) →
      sx_R K F t v n' p' q' w' d' a_items' a_word' a_next' a_schemaOf' a_parentOf' a_depthOf' a_head' a_tail' a_length' → sx_Fr K F t a_items a_word a_next a_schemaOf a_parentOf a_depthOf a_head a_tail a_length a_items' a_word' a_next' a_schemaOf' a_parentOf' a_depthOf' a_head' a_tail' a_length' → n' ≤ pp → post (f_capacity, f_maxField, f_maxDepth, f_spare, f_writeAt, f_level, nI (base + pp), 0, a_kinds, a_held, a_storeOf, a_cursor, a_items', a_word', a_next', a_schemaOf', a_parentOf', a_depthOf', a_head', a_tail', a_length', a_bytes, a_filled, a_sizeOf, a_placeOf, a_match, a_regionEnd, a_regionMessage) := by
    intro pp n' p' q' w' d' rl' td' rg' a_items' a_word' a_next' a_schemaOf' a_parentOf' a_depthOf' a_head' a_tail' a_length' epp hG hN R Fr hn
    subst epp
    have e0 : sd_pk B kk pp (pp - pp) pp = some [] := by
      rw [Nat.sub_self, sd_pk, if_pos (Nat.le_refl _)]
    exact hok (hG.mpr ⟨[], e0⟩) _ _ _ _ _ _ _ _ _ _ _ _ _ _ _ _ _ (hN [] e0) R Fr hn
  intro N
  induction N with
  | zero =>
    intro pp cnt n' p' q' w' d' rl' td' rg' a_items' a_word' a_next' a_schemaOf' a_parentOf' a_depthOf' a_head' a_tail' a_length' hN0 hpp hcnt hG hN W' hE R Fr hn
    unfold wX_readPacked_10
    exact br_c (fun _ => hend pp _ _ _ _ _ _ _ _ _ _ _ _ _ _ _ _ _ (by omega) hG hN R Fr hn) (fun _ => br_t (nI_le (by omega) (by omega)) (hend pp _ _ _ _ _ _ _ _ _ _ _ _ _ _ _ _ _ (by omega) hG hN R Fr hn))
  | succ N ih =>
    intro pp cnt n' p' q' w' d' rl' td' rg' a_items' a_word' a_next' a_schemaOf' a_parentOf' a_depthOf' a_head' a_tail' a_length' hN0 hpp hcnt hG hN W' hE R Fr hn
    by_cases hlt : pp < st
    · have hm' : m ≤ n' := Nat.le_trans hm hE.1
      have hmw := (hE.2 m hm).2 hms
      have hsc : sw_sc v w' m = sw_sc v w m := by rw [sw_sc, sw_sc, hmw.2]
      obtain ⟨gg, hgg⟩ : ∃ gg, st - pp = gg + 1 := ⟨st - pp - 1, by omega⟩
      have hpk : sd_pk B kk st (st - pp) pp = (sd_pl B kk st pp).bind (fun r => (sd_pk B kk st gg r.2).map (fun l => r.1 :: l)) := by rw [hgg, sd_pk, if_neg (by omega)]
      have h58 : ∀ (u : Int32) (pp' : Nat), sd_pl B kk st pp = some (sd_fw kk u, pp') → wX_readPacked_58 post (wX_readPacked_10 post (nI (t * 121 + m)) (nI f) (nI (base + st)) (nI (se_fm kk)) (N + 1)) (nI (t * 121 + m)) (nI f) (nI (base + st)) (nI (se_fm kk)) (nI cnt) u f_capacity f_maxField f_maxDepth f_spare f_writeAt f_level (nI (base + pp')) 0 a_kinds a_held a_storeOf a_cursor a_items' a_word' a_next' a_schemaOf' a_parentOf' a_depthOf' a_head' a_tail' a_length' a_bytes a_filled a_sizeOf a_placeOf a_match a_regionEnd a_regionMessage := by
        intro u pp' hpl
        have hl := sd_pl_lt hpl
        have hpk2 : sd_pk B kk st (st - pp) pp = (sd_pk B kk st (st - pp') pp').map (fun l => sd_fw kk u :: l) := by
          rw [hpk, hpl, Option.bind_some, sd_pk_stab gg (st - pp') pp' (by omega) (Nat.le_refl _)]
        unfold wX_readPacked_58
        refine br_t rfl (sx_fromWire (by omega) ?_)
        have hiff : G ↔ ∃ l, sd_pk B kk st (st - pp') pp' = some l := by
          rw [hG, hpk2]
          constructor
          · rintro ⟨l, hl2⟩
            cases hq : sd_pk B kk st (st - pp') pp' with
            | none => rw [hq] at hl2; cases hl2
            | some l2 => exact ⟨l2, rfl⟩
          · rintro ⟨l, hl2⟩
            exact ⟨_, by rw [hl2]; rfl⟩
        have hx : ∃ l2, (G → sd_pk B kk st (st - pp') pp' = some l2) := by
          by_cases g : G
          · obtain ⟨l, hl2⟩ := hiff.mp g; exact ⟨l, fun _ => hl2⟩
          · exact ⟨[], fun y => absurd y g⟩
        obtain ⟨l2, hl2⟩ := hx
        rw [nI_1]
        refine sx_keepIntG (G := G) (B := B) (L := L) (sg := false) (rest := l2.map (fun x => (f, false, x, none)) ++ rest) (rl := rl') (td := td') (rg := rg') X0 W' R ht hsp hm' hmw.1 (fun g => ?_) hf1 (by rw [hsc, ← hkk]; omega) (by rw [hsc, ← hkk]; omega) ?_ (by omega) (fun n2 p2 q2 w2 d2 rl2 td2 rg2 i2 wo2 ne2 sc2 pa2 de2 he2 ta2 le2 hN2 W2 E2 R2 Fr2 hn2 => nm_e ?_)
        · have := hN _ (by rw [hpk2, hl2 g]; rfl)
          exact ⟨this.1, this.2.2.1⟩
        · rw [hsc, ← hkk]
          constructor
          · intro z; cases z
          · intro z; omega
        · refine ih pp' (cnt + 1) n2 p2 q2 w2 d2 rl2 td2 rg2 i2 wo2 ne2 sc2 pa2 de2 he2 ta2 le2 (by omega) (by omega) (by omega) hiff (fun l hl3 => ?_) W2 (sd_Ext_trans hE E2) R2 (fun t2 v0 n0 p0 q0 w0 d0 y1 y2 y3 y4 => Fr2 t2 v0 n0 p0 q0 w0 d0 y1 y2 y3 (Fr t2 v0 n0 p0 q0 w0 d0 y1 y2 y3 y4)) (by omega)
          have g : G := hiff.mpr ⟨l, hl3⟩
          have e2 : l2 = l := Option.some.inj ((hl2 g).symm.trans hl3)
          subst e2
          exact sd_Nx_trans hm (hN _ (by rw [hpk2, hl2 g]; rfl)) (hN2 g)
      have hfail : sd_pl B kk st pp = none → ∀ r u : Int32, wX_readPacked_58 post (wX_readPacked_10 post (nI (t * 121 + m)) (nI f) (nI (base + st)) (nI (se_fm kk)) (N + 1)) (nI (t * 121 + m)) (nI f) (nI (base + st)) (nI (se_fm kk)) (nI cnt) u f_capacity f_maxField f_maxDepth f_spare f_writeAt f_level r 1 a_kinds a_held a_storeOf a_cursor a_items' a_word' a_next' a_schemaOf' a_parentOf' a_depthOf' a_head' a_tail' a_length' a_bytes a_filled a_sizeOf a_placeOf a_match a_regionEnd a_regionMessage := by
        intro hpl r u
        have hnG : ¬ G := fun g => by
          obtain ⟨l, hl2⟩ := hG.mp g
          rw [hpk, hpl] at hl2; cases hl2
        unfold wX_readPacked_58
        rw [nI_1]
        refine br_f (by decide) (nm_e ?_)
        unfold wX_readPacked_10
        exact br_c (fun _ => hbad hnG _ _ _ _ _ _ _ _ _ _ Fr) (fun _ => br_c (fun _ => hbad hnG _ _ _ _ _ _ _ _ _ _ Fr) (fun _ => br_f (by decide) (hbad hnG _ _ _ _ _ _ _ _ _ _ Fr)))
      rw [wX_readPacked_10]
      dsimp only
      refine br_f (nI_ge (b := 120) (by omega) (by omega)) (br_f (nI_ge (by omega) (by omega)) (br_t rfl ?_))
      subst hB
      refine pk_eq (se_fm kk) 3 (fun z => ?_) (fun z => ?_) (ha := by unfold se_fm; omega)
      · have h3 : kk % 3 = 0 := by unfold se_fm at z; omega
        refine sx_readFixed he hpp (fun c => ?_) (fun c => ?_)
        · refine hfail ?_ _ _
          unfold sd_pl; rw [if_pos h3, if_pos c]
        · refine h58 _ (pp + 4) ?_
          unfold sd_pl sd_fw; rw [if_pos h3, if_neg c, if_neg (by omega)]
      · have h3 : ¬ kk % 3 = 0 := by unfold se_fm at z; omega
        refine sx_readVarint he hpp (fun c r => ?_) (fun u pp' c => ?_)
        · refine hfail ?_ _ _
          unfold sd_pl; rw [if_neg h3, c]; rfl
        · refine h58 _ pp' ?_
          unfold sd_pl; rw [if_neg h3, c]; rfl
    · unfold wX_readPacked_10
      exact br_c (fun _ => hend pp _ _ _ _ _ _ _ _ _ _ _ _ _ _ _ _ _ (by omega) hG hN R Fr hn) (fun _ => br_t (nI_le (by omega) (by omega)) (hend pp _ _ _ _ _ _ _ _ _ _ _ _ _ _ _ _ _ (by omega) hG hN R Fr hn))
end
end
section
/-! a submessage opened, and X's records -/
def sd_Sb (B : Nat → Int32) (K : Nat → Nat) (C F D v L n : Nat) (p q : Nat → Nat) (w : Nat → Int32) (d : Nat → Nat) (td : Nat → List sd_At) (n' : Nat) (p' q' : Nat → Nat) (w' : Nat → Int32) (d' : Nat → Nat) (rl' td' : Nat → List sd_At) (rg' : Nat → List (Nat × Nat)) (m : Nat) (rest : List sd_At) (x : Int32) (c st tg : Nat) : Prop :=
  sd_Inv B K C F D v L n' p' q' w' d' rl' td' rg' ∧ sd_Ext K F v n p q w d n' p' q' w' d' ∧ td' m = rest ∧ m < tg ∧ tg ≤ n' ∧ sw_ms K F v p' q' w' tg ∧ w' tg = x ∧ d' tg = d m + 1 ∧
  (tg ≤ n → td' tg = td tg ++ sd_A B K F D (v * 3 + x.toNatClampNeg) (d m + 1) c st) ∧ (n < tg → td' tg = sd_A B K F D (v * 3 + x.toNatClampNeg) (d m + 1) c st) ∧
  (∀ i, i ≤ n → i ≠ m → i ≠ tg → td' i = td i) ∧ (∀ i, n < i → i ≤ n' → i ≠ tg → td' i = [])
section
variable {B : Nat → Int32} {K : Nat → Nat} {C F D v L : Nat} {n : Nat} {p q : Nat → Nat} {w : Nat → Int32} {d : Nat → Nat} {rl td : Nat → List sd_At} {rg : Nat → List (Nat × Nat)}
theorem sd_sbA (I : sd_Inv B K C F D v L n p q w d rl td rg) {m f c st : Nat} {sg : Bool} {rest : List sd_At} (hm : m ≤ n) (hms : sw_ms K F v p q w m) (ht : td m = (f, sg, nI ((sw_kd K F (sw_sc v w m) f - 10) % 3), some (c, st)) :: rest)
    (hsg : sg = false ∨ sw_L p q m f n = []) (hn : n < C) (hk : 10 ≤ sw_kd K F (sw_sc v w m) f) (hd : d m < D) :
    ∃ (rl' td' : Nat → List sd_At) (rg' : Nat → List (Nat × Nat)), sd_Sb B K C F D v L n p q w d td (n + 1) (sw_up p (n + 1) m) (sw_up q (n + 1) f) (upd w (n + 1) (nI ((sw_kd K F (sw_sc v w m) f - 10) % 3))) (sw_up d (n + 1) (d m + 1)) rl' td' rg' m rest (nI ((sw_kd K F (sw_sc v w m) f - 10) % 3)) c st (n + 1) := by
  have hf2 : f ≤ F := by
    apply Classical.byContradiction
    intro z
    rw [sw_kd_out (by omega)] at hk; omega
  obtain ⟨rl', td', rg', h1, h2, h3, h4⟩ := sd_stepA I hm hms ht hsg hn hf2 (fun _ => by omega) (fun _ => ⟨rfl, hd⟩) (fun y => absurd hk y)
  refine ⟨rl', td', rg', h1, sd_Ext_add (sw_up_of I.1), h2, by omega, Nat.le_refl _, (sw_ms_new hm).mpr hk, pk_us, sw_us, fun y => by omega, fun _ => ?_, fun i a b _ => h4 i a b, fun i a b e => by omega⟩
  rw [h3]
  show [(c, st)].flatMap _ = _
  rw [List.flatMap_cons, List.flatMap_nil, List.append_nil]
theorem sd_sbS (I : sd_Inv B K C F D v L n p q w d rl td rg) {m f c st j : Nat} {rest : List sd_At} (hm : m ≤ n) (ht : td m = (f, true, nI ((sw_kd K F (sw_sc v w m) f - 10) % 3), some (c, st)) :: rest)
    (hj : (sw_L p q m f n)[0]? = some j) (hk : 10 ≤ sw_kd K F (sw_sc v w m) f) :
    ∃ (rl' td' : Nat → List sd_At) (rg' : Nat → List (Nat × Nat)), sd_Sb B K C F D v L n p q w d td n p q w d rl' td' rg' m rest (nI ((sw_kd K F (sw_sc v w m) f - 10) % 3)) c st j := by
  have jm := sw_mem.mp (sw_nthmem hj)
  have hjms := (sw_msL I.1 (sw_nthmem hj)).mpr hk
  have wj := I.1.2.2.2.1 j jm.1 jm.2.1
  have hwj : w j = nI ((sw_kd K F (sw_sc v w m) f - 10) % 3) := by
    obtain ⟨⟨t, h1, h2, h3⟩, _⟩ := I.1.2.2.2.2 j jm.2.1 hjms
    rw [h2, h3 jm.1, jm.2.2.1, jm.2.2.2]
  obtain ⟨rl', td', rg', h1, h2, h3, h4⟩ := sd_stepS I hm ht hj (fun _ => hwj.symm) (fun y => absurd hk y)
  have hu : upd w j (nI ((sw_kd K F (sw_sc v w m) f - 10) % 3)) = w := by
    funext i
    by_cases e : i = j
    · subst e; rw [pk_us, hwj]
    · rw [pk_un e]
  rw [hu] at h1
  have hdj : d j = d m + 1 := by rw [wj.2.2.2.1, jm.2.2.1]
  refine ⟨rl', td', rg', h1, sd_Ext_refl, h2, by have := wj.1; omega, jm.2.1, hjms, hwj, hdj, fun _ => ?_, fun y => by omega, fun i a b e => h4 i e b, fun i a b => by omega⟩
  rw [h3]
  show td j ++ [(c, st)].flatMap _ = _
  rw [List.flatMap_cons, List.flatMap_nil, List.append_nil, hdj, sw_sc, hwj]
end
section
variable {f_capacity f_maxField f_maxDepth f_spare f_writeAt f_level f_readAt f_broken : Int32} {a_kinds a_held a_storeOf a_cursor a_items a_word a_next a_schemaOf a_parentOf a_depthOf a_head a_tail a_length a_bytes a_filled a_sizeOf a_placeOf a_match a_regionEnd a_regionMessage : Nat → Int32} {B : Nat → Int32} {K : Nat → Nat} {C F D v L t : Nat} {n : Nat} {p q : Nat → Nat} {w : Nat → Int32} {d : Nat → Nat} {rl td : Nat → List sd_At} {rg : Nat → List (Nat × Nat)} {post : SX → Prop}
theorem sx_openRegion (X : sw_Cx K C F D f_capacity f_maxField f_maxDepth a_kinds) (I : sd_Inv B K C F D v L n p q w d rl td rg) (R : sx_R K F t v n p q w d a_items a_word a_next a_schemaOf a_parentOf a_depthOf a_head a_tail a_length) (ht : t < 3) (hsp : f_spare = nI t) {m f c st lv : Nat} {rest : List sd_At} {x3 : Int32} (hm : m ≤ n) (hms : sw_ms K F v p q w m) (hlv : lv = d m) (hl : f_level = nI lv) (hM : a_regionMessage lv = nI (t * 121 + m)) (hn : n < C)
    (hk : 10 ≤ sw_kd K F (sw_sc v w m) f)
    (hbad : D ≤ lv → post (f_capacity, f_maxField, f_maxDepth, f_spare, f_writeAt, f_level, f_readAt, 1, a_kinds, a_held, a_storeOf, a_cursor, a_items, a_word, a_next, a_schemaOf, a_parentOf, a_depthOf, a_head, a_tail, a_length, a_bytes, a_filled, a_sizeOf, a_placeOf, a_match, a_regionEnd, a_regionMessage))
    (htd : lv < D → td m = (f, decide (sw_kd K F (sw_sc v w m) f < 13), nI ((sw_kd K F (sw_sc v w m) f - 10) % 3), some (c, st)) :: rest)
    (hok : lv < D → ∀ (n' : Nat) (p' q' : Nat → Nat) (w' : Nat → Int32) (d' : Nat → Nat) (rl' td' : Nat → List sd_At) (rg' : Nat → List (Nat × Nat)) (a_items' a_word' a_next' a_schemaOf' a_parentOf' a_depthOf' a_head' a_tail' a_length' : Nat → Int32) (tg : Nat), sd_Sb B K C F D v L n p q w d td n' p' q' w' d' rl' td' rg' m rest (nI ((sw_kd K F (sw_sc v w m) f - 10) % 3)) c st tg → sx_R K F t v n' p' q' w' d' a_items' a_word' a_next' a_schemaOf' a_parentOf' a_depthOf' a_head' a_tail' a_length' → sx_Fr K F t a_items a_word a_next a_schemaOf a_parentOf a_depthOf a_head a_tail a_length a_items' a_word' a_next' a_schemaOf' a_parentOf' a_depthOf' a_head' a_tail' a_length' → n' ≤ n + 1 → post (f_capacity, f_maxField, f_maxDepth, f_spare, f_writeAt, nI (lv + 1), f_readAt, f_broken, a_kinds, a_held, a_storeOf, a_cursor, a_items', a_word', a_next', a_schemaOf', a_parentOf', a_depthOf', a_head', a_tail', a_length', a_bytes, a_filled, a_sizeOf, a_placeOf, a_match, upd a_regionEnd (lv + 1) x3, upd a_regionMessage (lv + 1) (nI (t * 121 + tg)))) :
    wpX_openRegion post (f_capacity, f_maxField, f_maxDepth, f_spare, f_writeAt, f_level, f_readAt, f_broken, a_kinds, a_held, a_storeOf, a_cursor, a_items, a_word, a_next, a_schemaOf, a_parentOf, a_depthOf, a_head, a_tail, a_length, a_bytes, a_filled, a_sizeOf, a_placeOf, a_match, a_regionEnd, a_regionMessage) (nI f) (nI (sw_kd K F (sw_sc v w m) f)) x3 := by
  have X0 := X
  obtain ⟨x1, x2, x3', x4, x5, x6, e1, e2, e3, x7⟩ := X
  have hnn := I.1.1
  have hlen := sw_len (p := p) (q := q) (m := m) (f := f) (n := n)
  have hdm := (I.1.2.2.2.2 m hm hms).2
  have hf : 1 ≤ f ∧ f ≤ F := by
    apply Classical.byContradiction
    intro z
    rw [sw_kd_out z] at hk; omega
  have hs9 := (sw_sc_lt I.1 hm hms).1
  have hk15 := sw_kd_le (K := K) (F := F) (s := sw_sc v w m) (f := f) (fun i h => (x7 i h).1) x4 hs9
  obtain ⟨c1, c2, c3, c4⟩ := R.2.2.2.2 m f hm hms (by omega)
  subst hsp hl
  unfold wpX_openRegion
  dsimp only
  refine pk_lt lv D (fun hlt => ?_) (fun hge => hbad hge) rfl e3
  have htd' := htd hlt
  have hok' := hok hlt
  rw [nI_clamp (n := lv) (by omega), hM]
  refine ⟨vp_in_nI (by omega) (by omega), nm_e ?_⟩
  rw [sn_21]
  refine nm_e ?_
  have el : nI lv + 1 = nI (lv + 1) := nI_1 _
  have h65 : (decide (sw_kd K F (sw_sc v w m) f < 13) = false ∨ sw_L p q m f n = []) → wX_openRegion_65 post (nI f) x3 (nI (t * 121 + m)) f_capacity f_maxField f_maxDepth (nI t) f_writeAt (nI lv) f_readAt f_broken a_kinds a_held a_storeOf a_cursor a_items a_word a_next a_schemaOf a_parentOf a_depthOf a_head a_tail a_length a_bytes a_filled a_sizeOf a_placeOf a_match a_regionEnd a_regionMessage := by
    intro hsg
    unfold wX_openRegion_65
    refine sx_addMessage X0 I.1 R ht hm hms hf.1 hf.2 hk (fun _ a_items' a_word' a_next' a_schemaOf' a_parentOf' a_depthOf' a_head' a_tail' a_length' R2 Fr => ?_) (fun y => by omega)
    obtain ⟨rl', td', rg', hS⟩ := sd_sbA I hm hms htd' hsg hn hk (by omega)
    unfold wX_openRegion_78
    dsimp only
    rw [el]
    refine br_t (nI_pos' (by omega)) (nm_e ?_)
    rw [nI_clamp (n := lv + 1) (by omega)]
    refine ⟨vp_in_nI (by omega) (by omega), nm_e ⟨vp_in_nI (by omega) (by omega), nm_e ?_⟩⟩
    exact hok' _ _ _ _ _ rl' td' rg' _ _ _ _ _ _ _ _ _ (n + 1) hS R2 Fr (Nat.le_refl _)
  refine pk_le 13 (sw_kd K F (sw_sc v w m) f) (fun y => h65 (Or.inl (decide_eq_false (by omega)))) (fun y => ⟨vp_in_nI (by omega) (by omega), ?_⟩)
  rw [nI_clamp (n := (t * 121 + m) * 21 + f) (by omega), c1]
  refine pk_le (sw_L p q m f n).length 0 (fun z => h65 (Or.inr (List.eq_nil_of_length_eq_zero (by omega)))) (fun z => ⟨vp_in_nI (by omega) (by omega), ?_⟩)
  obtain ⟨j, hj⟩ := sw_nthex z
  have jm := sw_mem.mp (sw_nthmem hj)
  rw [decide_eq_true (by omega : sw_kd K F (sw_sc v w m) f < 13)] at htd'
  obtain ⟨rl', td', rg', hS⟩ := sd_sbS I hm htd' hj hk
  rw [c2 j hj]
  refine nm_e ?_
  unfold wX_openRegion_78
  rw [el]
  refine br_t (nI_pos' (by omega)) (nm_e ?_)
  rw [nI_clamp (n := lv + 1) (by omega)]
  refine ⟨vp_in_nI (by omega) (by omega), nm_e ⟨vp_in_nI (by omega) (by omega), nm_e ?_⟩⟩
  exact hok' _ _ _ _ _ rl' td' rg' _ _ _ _ _ _ _ _ _ j hS R sx_Fr_refl (by omega)
theorem sx_readPlain (X : sw_Cx K C F D f_capacity f_maxField f_maxDepth a_kinds) (I : sd_Inv B K C F D v L n p q w d rl td rg) (R : sx_R K F t v n p q w d a_items a_word a_next a_schemaOf a_parentOf a_depthOf a_head a_tail a_length) (ht : t < 3) (hsp : f_spare = nI t) {m f lv base pp p1 e : Nat} {y : Int32} {rest : List sd_At} (hm : m ≤ n) (hms : sw_ms K F v p q w m) (hlv : lv ≤ 6) (hl : f_level = nI lv) (hM : a_regionMessage lv = nI (t * 121 + m)) (hE : a_regionEnd lv = nI (base + e)) (hbr : f_broken = 0)
    (hB : B = fun i => a_bytes (base + i)) (he : base + e ≤ 240) (heC : e ≤ C) (hpp : pp < p1) (hpe : p1 ≤ e) (hn : n ≤ pp) (hf1 : 1 ≤ f) (hf : f < 2 ^ 31)
    (hbad : sd_plain B (sw_kd K F (sw_sc v w m) f) f pp p1 e y = none → ∀ (r : Int32) (a_items' a_word' a_next' a_schemaOf' a_parentOf' a_depthOf' a_head' a_tail' a_length' : Nat → Int32), sx_Fr K F t a_items a_word a_next a_schemaOf a_parentOf a_depthOf a_head a_tail a_length a_items' a_word' a_next' a_schemaOf' a_parentOf' a_depthOf' a_head' a_tail' a_length' → post (f_capacity, f_maxField, f_maxDepth, f_spare, f_writeAt, f_level, r, 1, a_kinds, a_held, a_storeOf, a_cursor, a_items', a_word', a_next', a_schemaOf', a_parentOf', a_depthOf', a_head', a_tail', a_length', a_bytes, a_filled, a_sizeOf, a_placeOf, a_match, a_regionEnd, a_regionMessage))
    (htd : ∀ p' as, sd_plain B (sw_kd K F (sw_sc v w m) f) f pp p1 e y = some (p', as) → td m = as ++ rest)
    (hok : ∀ p2 as, sd_plain B (sw_kd K F (sw_sc v w m) f) f pp p1 e y = some (p2, as) → ∀ (n' : Nat) (p' q' : Nat → Nat) (w' : Nat → Int32) (d' : Nat → Nat) (rl' td' : Nat → List sd_At) (rg' : Nat → List (Nat × Nat)) (a_items' a_word' a_next' a_schemaOf' a_parentOf' a_depthOf' a_head' a_tail' a_length' : Nat → Int32), sd_Nx B K C F D v L n p q w d td n' p' q' w' d' rl' td' rg' m rest → sx_R K F t v n' p' q' w' d' a_items' a_word' a_next' a_schemaOf' a_parentOf' a_depthOf' a_head' a_tail' a_length' → sx_Fr K F t a_items a_word a_next a_schemaOf a_parentOf a_depthOf a_head a_tail a_length a_items' a_word' a_next' a_schemaOf' a_parentOf' a_depthOf' a_head' a_tail' a_length' → n' ≤ p2 → post (f_capacity, f_maxField, f_maxDepth, f_spare, f_writeAt, f_level, nI (base + p2), f_broken, a_kinds, a_held, a_storeOf, a_cursor, a_items', a_word', a_next', a_schemaOf', a_parentOf', a_depthOf', a_head', a_tail', a_length', a_bytes, a_filled, a_sizeOf, a_placeOf, a_match, a_regionEnd, a_regionMessage)) :
    wpX_readPlain post (f_capacity, f_maxField, f_maxDepth, f_spare, f_writeAt, f_level, nI (base + p1), f_broken, a_kinds, a_held, a_storeOf, a_cursor, a_items, a_word, a_next, a_schemaOf, a_parentOf, a_depthOf, a_head, a_tail, a_length, a_bytes, a_filled, a_sizeOf, a_placeOf, a_match, a_regionEnd, a_regionMessage) (nI (base + pp)) (nI f) (nI (sw_kd K F (sw_sc v w m) f)) y := by
  have X0 := X
  obtain ⟨x1, x2, x3', x4, x5, x6, e1, e2, e3, x7⟩ := X
  have hs9 := (sw_sc_lt I.1 hm hms).1
  have hk15 := sw_kd_le (K := K) (F := F) (s := sw_sc v w m) (f := f) (fun i h => (x7 i h).1) x4 hs9
  subst hsp hl hbr hB
  have h95bad : sd_plain (fun i => a_bytes (base + i)) (sw_kd K F (sw_sc v w m) f) f pp p1 e y = none → ∀ (x7 r : Int32), wX_readPlain_95 post (nI (base + pp)) (nI f) (nI (sw_kd K F (sw_sc v w m) f)) y (nI (t * 121 + m)) x7 f_capacity f_maxField f_maxDepth (nI t) f_writeAt (nI lv) r 1 a_kinds a_held a_storeOf a_cursor a_items a_word a_next a_schemaOf a_parentOf a_depthOf a_head a_tail a_length a_bytes a_filled a_sizeOf a_placeOf a_match a_regionEnd a_regionMessage := by
    intro h x7 r
    unfold wX_readPlain_95
    exact br_f (by decide) (hbad h r _ _ _ _ _ _ _ _ _ sx_Fr_refl)
  have h95 : ∀ (u : Int32) (p2 : Nat), p1 < p2 → p2 ≤ e →
      (1 ≤ sw_kd K F (sw_sc v w m) f ∧ sw_kd K F (sw_sc v w m) f ≤ 9 ∧ y = nI (se_own (sw_kd K F (sw_sc v w m) f)) → sd_plain (fun i => a_bytes (base + i)) (sw_kd K F (sw_sc v w m) f) f pp p1 e y = some (p2, [(f, decide (sw_kd K F (sw_sc v w m) f ≤ 3), sd_fw (sw_kd K F (sw_sc v w m) f) u, none)])) →
      (¬ (1 ≤ sw_kd K F (sw_sc v w m) f ∧ sw_kd K F (sw_sc v w m) f ≤ 9 ∧ y = nI (se_own (sw_kd K F (sw_sc v w m) f))) → sd_plain (fun i => a_bytes (base + i)) (sw_kd K F (sw_sc v w m) f) f pp p1 e y = some (p2, sd_un (fun i => a_bytes (base + i)) pp p2)) →
      wX_readPlain_95 post (nI (base + pp)) (nI f) (nI (sw_kd K F (sw_sc v w m) f)) y (nI (t * 121 + m)) u f_capacity f_maxField f_maxDepth (nI t) f_writeAt (nI lv) (nI (base + p2)) 0 a_kinds a_held a_storeOf a_cursor a_items a_word a_next a_schemaOf a_parentOf a_depthOf a_head a_tail a_length a_bytes a_filled a_sizeOf a_placeOf a_match a_regionEnd a_regionMessage := by
    intro u p2 hp2 hpe2 hint hunk
    unfold wX_readPlain_95
    refine br_t rfl ?_
    have h150 : ¬ (1 ≤ sw_kd K F (sw_sc v w m) f ∧ sw_kd K F (sw_sc v w m) f ≤ 9 ∧ y = nI (se_own (sw_kd K F (sw_sc v w m) f))) → wX_readPlain_150 post (nI (base + pp)) (nI (t * 121 + m)) f_capacity f_maxField f_maxDepth (nI t) f_writeAt (nI lv) (nI (base + p2)) 0 a_kinds a_held a_storeOf a_cursor a_items a_word a_next a_schemaOf a_parentOf a_depthOf a_head a_tail a_length a_bytes a_filled a_sizeOf a_placeOf a_match a_regionEnd a_regionMessage := by
      intro hno
      unfold wX_readPlain_150
      exact sx_keepUnknown X0 I R ht hm hms (by omega) (by omega) (by omega) (fun _ => rfl) (htd _ _ (hunk hno)) hn (fun n' p' q' w' d' rl' td' rg' a_items' a_word' a_next' a_schemaOf' a_parentOf' a_depthOf' a_head' a_tail' a_length' hN R2 Fr hn2 => hok _ _ (hunk hno) _ _ _ _ _ _ _ _ _ _ _ _ _ _ _ _ _ hN R2 Fr hn2)
    refine sx_isScalar (by omega) (fun z => br_t rfl (h150 (fun g => z ⟨g.1, g.2.1⟩))) (fun z => br_f (by decide) (sx_ownWire z.1 (by omega) (br_c (fun g => ?_) (fun g => h150 (fun q => g q.2.2)))))
    refine sx_formOf z.1 (by omega) (sx_fromWire z.1 ?_)
    have hs := hint ⟨z.1, z.2, g⟩
    refine sx_keepInt X0 I R ht rfl (sg := decide (sw_kd K F (sw_sc v w m) f ≤ 3)) (rest := rest) hm hms (htd _ _ hs) hf1 z.1 z.2 decide_eq_true_iff (by omega) (fun n' p' q' w' d' rl' td' rg' a_items' a_word' a_next' a_schemaOf' a_parentOf' a_depthOf' a_head' a_tail' a_length' hN R2 Fr hn2 => ?_)
    exact hok _ _ hs _ _ _ _ _ _ _ _ _ _ _ _ _ _ _ _ _ hN R2 Fr (by omega)
  have own0 : ∀ k, k % 3 ≠ 0 → nI (se_own k) = 0 := fun k h => by unfold se_own; rw [if_neg h]; rfl
  have own5 : ∀ k, k % 3 = 0 → nI (se_own k) = 5 := fun k h => by unfold se_own; rw [if_pos h]; rfl
  have fw0 : ∀ k (u : Int32), k % 3 = 0 → sd_fw k u = u := fun k u h => by unfold sd_fw; rw [if_neg (by omega)]
  unfold wpX_readPlain
  dsimp only
  rw [nI_clamp (n := lv) (by omega), hE, hM]
  refine ⟨vp_in_nI (by omega) (by omega), nm_e ⟨vp_in_nI (by omega) (by omega), nm_e (br_c (fun y0 => ?_) (fun y0 => br_c (fun y5 => ?_) (fun y5 => br_c (fun y1 => ?_) (fun y1 => ?_))))⟩⟩
  · subst y0
    refine sx_readVarint he hpe (fun c r => h95bad ?_ _ _) (fun u p2 c => ?_)
    · unfold sd_plain; rw [if_pos rfl, c]
    · have hlt := sd_rd_lt c
      refine h95 u p2 hlt.1 hlt.2 (fun g => ?_) (fun g => ?_)
      · unfold sd_plain
        rw [if_pos rfl, c]
        refine if_pos ⟨g.1, g.2.1, fun h3 => ?_⟩
        have := g.2.2
        rw [own5 _ h3] at this
        exact absurd this (by decide)
      · unfold sd_plain
        rw [if_pos rfl, c]
        refine if_neg (fun h => g ⟨h.1, h.2.1, (own0 _ h.2.2).symm⟩)
  · subst y5
    refine sx_readFixed he hpe (fun c => h95bad ?_ _ _) (fun c => ?_)
    · unfold sd_plain; rw [if_neg (by decide), if_pos rfl, if_pos c]
    · refine h95 _ (p1 + 4) (by omega) (by omega) (fun g => ?_) (fun g => ?_)
      · have h3 : sw_kd K F (sw_sc v w m) f % 3 = 0 := by
          apply Classical.byContradiction
          intro h3
          have := g.2.2
          rw [own0 _ h3] at this
          exact absurd this (by decide)
        unfold sd_plain
        rw [if_neg (by decide), if_pos rfl, if_neg c, if_pos ⟨g.1, g.2.1, h3⟩, fw0 _ _ h3]
      · unfold sd_plain
        rw [if_neg (by decide), if_pos rfl, if_neg c, if_neg (fun h => g ⟨h.1, h.2.1, (own5 _ h.2.2).symm⟩)]
  · subst y1
    have es : nI (base + e) - nI (base + p1) = nI (e - p1) := by
      rw [pk_sub (by omega)]
      exact congrArg nI (by omega)
    have e8 : nI (base + p1) + 8 = nI (base + (p1 + 8)) := by rw [show (8 : Int32) = nI 8 from rfl, nI_add, Nat.add_assoc]
    rw [es, e8]
    refine pk_lt (e - p1) 8 (fun c => ?_) (fun c => nm_e (h95 0 (p1 + 8) (by omega) (by omega) (fun g => ?_) (fun g => ?_)))
    · refine h95bad ?_ _ _
      unfold sd_plain; rw [if_neg (by decide), if_neg (by decide), if_pos rfl, if_pos c]
    · have := g.2.2
      by_cases h3 : sw_kd K F (sw_sc v w m) f % 3 = 0
      · rw [own5 _ h3] at this; exact absurd this (by decide)
      · rw [own0 _ h3] at this; exact absurd this (by decide)
    · unfold sd_plain; rw [if_neg (by decide), if_neg (by decide), if_pos rfl, if_neg (by omega)]
  · refine h95bad ?_ _ _
    unfold sd_plain; rw [if_neg y0, if_neg y5, if_neg y1]
end
end
section
section
variable {f_capacity f_maxField f_maxDepth f_spare f_writeAt f_level f_readAt f_broken : Int32} {a_kinds a_held a_storeOf a_cursor a_items a_word a_next a_schemaOf a_parentOf a_depthOf a_head a_tail a_length a_bytes a_filled a_sizeOf a_placeOf a_match a_regionEnd a_regionMessage : Nat → Int32} {B : Nat → Int32} {K : Nat → Nat} {C F D v L t : Nat} {n : Nat} {p q : Nat → Nat} {w : Nat → Int32} {d : Nat → Nat} {rl td : Nat → List sd_At} {rg : Nat → List (Nat × Nat)} {post : SX → Prop}
theorem sx_readDelimited (X : sw_Cx K C F D f_capacity f_maxField f_maxDepth a_kinds) (I : sd_Inv B K C F D v L n p q w d rl td rg) (R : sx_R K F t v n p q w d a_items a_word a_next a_schemaOf a_parentOf a_depthOf a_head a_tail a_length) (ht : t < 3) (hsp : f_spare = nI t) {m f lv base pp p1 e : Nat} {rest : List sd_At} (hm : m ≤ n) (hms : sw_ms K F v p q w m) (hlv : lv = d m) (hl : f_level = nI lv) (hM : a_regionMessage lv = nI (t * 121 + m)) (hE : a_regionEnd lv = nI (base + e)) (hbr : f_broken = 0)
    (hB : B = fun i => a_bytes (base + i)) (he : base + e ≤ 240) (heC : e ≤ C) (hpp : pp < p1) (hpe : p1 ≤ e) (hn : n ≤ pp) (hf1 : 1 ≤ f) (hf : f < 2 ^ 31)
    (hbad : sd_delim B (sw_kd K F (sw_sc v w m) f) f D (d m) pp p1 e = none → ∀ (r : Int32) (a_items' a_word' a_next' a_schemaOf' a_parentOf' a_depthOf' a_head' a_tail' a_length' : Nat → Int32), sx_Fr K F t a_items a_word a_next a_schemaOf a_parentOf a_depthOf a_head a_tail a_length a_items' a_word' a_next' a_schemaOf' a_parentOf' a_depthOf' a_head' a_tail' a_length' → post (f_capacity, f_maxField, f_maxDepth, f_spare, f_writeAt, f_level, r, 1, a_kinds, a_held, a_storeOf, a_cursor, a_items', a_word', a_next', a_schemaOf', a_parentOf', a_depthOf', a_head', a_tail', a_length', a_bytes, a_filled, a_sizeOf, a_placeOf, a_match, a_regionEnd, a_regionMessage))
    (htd : ∀ p' as, sd_delim B (sw_kd K F (sw_sc v w m) f) f D (d m) pp p1 e = some (p', as) → td m = as ++ rest)
    (hok : ∀ p2 as, sd_delim B (sw_kd K F (sw_sc v w m) f) f D (d m) pp p1 e = some (p2, as) → (∀ a, a ∈ as → a.2.2.2 = none) → ∀ (n' : Nat) (p' q' : Nat → Nat) (w' : Nat → Int32) (d' : Nat → Nat) (rl' td' : Nat → List sd_At) (rg' : Nat → List (Nat × Nat)) (a_items' a_word' a_next' a_schemaOf' a_parentOf' a_depthOf' a_head' a_tail' a_length' : Nat → Int32), sd_Nx B K C F D v L n p q w d td n' p' q' w' d' rl' td' rg' m rest → sx_R K F t v n' p' q' w' d' a_items' a_word' a_next' a_schemaOf' a_parentOf' a_depthOf' a_head' a_tail' a_length' → sx_Fr K F t a_items a_word a_next a_schemaOf a_parentOf a_depthOf a_head a_tail a_length a_items' a_word' a_next' a_schemaOf' a_parentOf' a_depthOf' a_head' a_tail' a_length' → n' ≤ p2 → post (f_capacity, f_maxField, f_maxDepth, f_spare, f_writeAt, f_level, nI (base + p2), f_broken, a_kinds, a_held, a_storeOf, a_cursor, a_items', a_word', a_next', a_schemaOf', a_parentOf', a_depthOf', a_head', a_tail', a_length', a_bytes, a_filled, a_sizeOf, a_placeOf, a_match, a_regionEnd, a_regionMessage))
    (hsub : ∀ (x : Int32) (c st : Nat) (sg : Bool), sd_delim B (sw_kd K F (sw_sc v w m) f) f D (d m) pp p1 e = some (st, [(f, sg, x, some (c, st))]) → ∀ (n' : Nat) (p' q' : Nat → Nat) (w' : Nat → Int32) (d' : Nat → Nat) (rl' td' : Nat → List sd_At) (rg' : Nat → List (Nat × Nat)) (a_items' a_word' a_next' a_schemaOf' a_parentOf' a_depthOf' a_head' a_tail' a_length' : Nat → Int32) (tg : Nat), sd_Sb B K C F D v L n p q w d td n' p' q' w' d' rl' td' rg' m rest x c st tg → sx_R K F t v n' p' q' w' d' a_items' a_word' a_next' a_schemaOf' a_parentOf' a_depthOf' a_head' a_tail' a_length' → sx_Fr K F t a_items a_word a_next a_schemaOf a_parentOf a_depthOf a_head a_tail a_length a_items' a_word' a_next' a_schemaOf' a_parentOf' a_depthOf' a_head' a_tail' a_length' → n' ≤ c → post (f_capacity, f_maxField, f_maxDepth, f_spare, f_writeAt, nI (lv + 1), nI (base + c), f_broken, a_kinds, a_held, a_storeOf, a_cursor, a_items', a_word', a_next', a_schemaOf', a_parentOf', a_depthOf', a_head', a_tail', a_length', a_bytes, a_filled, a_sizeOf, a_placeOf, a_match, upd a_regionEnd (lv + 1) (nI (base + st)), upd a_regionMessage (lv + 1) (nI (t * 121 + tg)))) :
    wpX_readDelimited post (f_capacity, f_maxField, f_maxDepth, f_spare, f_writeAt, f_level, nI (base + p1), f_broken, a_kinds, a_held, a_storeOf, a_cursor, a_items, a_word, a_next, a_schemaOf, a_parentOf, a_depthOf, a_head, a_tail, a_length, a_bytes, a_filled, a_sizeOf, a_placeOf, a_match, a_regionEnd, a_regionMessage) (nI (base + pp)) (nI f) (nI (sw_kd K F (sw_sc v w m) f)) := by
  have X0 := X
  obtain ⟨x1, x2, x3', x4, x5, x6, e1, e2, e3, x7⟩ := X
  have hs9 := (sw_sc_lt I.1 hm hms).1
  have hk15 := sw_kd_le (K := K) (F := F) (s := sw_sc v w m) (f := f) (fun i h => (x7 i h).1) x4 hs9
  have hdm := (I.1.2.2.2.2 m hm hms).2
  subst hsp hl hbr hB
  unfold wpX_readDelimited
  dsimp only
  rw [nI_clamp (n := lv) (by omega), hE, hM]
  refine ⟨vp_in_nI (by omega) (by omega), nm_e ⟨vp_in_nI (by omega) (by omega), nm_e ?_⟩⟩
  refine sx_readVarint he hpe (fun c r => br_f (show ¬ (1 : Int32) = 0 by decide) (hbad ?_ _ _ _ _ _ _ _ _ _ _ sx_Fr_refl)) (fun u p2 c => br_t rfl ?_)
  · unfold sd_delim; rw [c]
  have hlt := sd_rd_lt c
  have es : nI (base + e) - nI (base + p2) = nI (e - p2) := by
    rw [pk_sub (by omega)]
    exact congrArg nI (by omega)
  have hdel : sd_delim (fun i => a_bytes (base + i)) (sw_kd K F (sw_sc v w m) f) f D (d m) pp p1 e = if u < 0 ∨ nI (e - p2) < u then none else sd_delim2 (fun i => a_bytes (base + i)) (sw_kd K F (sw_sc v w m) f) f D (d m) pp p2 (p2 + u.toNatClampNeg) := by
    unfold sd_delim; rw [c]
  refine br_c (fun hu => hbad ?_ _ _ _ _ _ _ _ _ _ _ sx_Fr_refl) (fun hu => ?_)
  · rw [hdel, if_pos (Or.inl hu)]
  obtain ⟨sz, hsz, rfl⟩ := nI_of hu
  rw [nI_clamp hsz] at hdel
  dsimp only
  rw [es, nI_add]
  refine pk_le sz (e - p2) (fun hle => ?_) (fun hle => hbad ?_ _ _ _ _ _ _ _ _ _ _ sx_Fr_refl)
  rotate_left
  · rw [hdel, if_pos (Or.inr (nI_lt hle hsz))]
  have hno : ¬ (nI sz < 0 ∨ nI (e - p2) < nI sz) := by
    intro z
    rcases z with z | z
    · exact hu z
    · exact nI_nlt hle (by omega) z
  rw [if_neg hno] at hdel
  have e7 : base + p2 + sz = base + (p2 + sz) := by omega
  rw [e7]
  refine nm_e (pk_lt (sw_kd K F (sw_sc v w m) f) 10 (fun h10 => ?_) (fun h10 => ?_))
  · refine sx_isScalarList (by omega) (fun z => br_t rfl ?_) (fun z => br_f (by decide) ?_)
    · have hd2 : sd_delim (fun i => a_bytes (base + i)) (sw_kd K F (sw_sc v w m) f) f D (d m) pp p1 e = some (p2 + sz, sd_un (fun i => a_bytes (base + i)) pp (p2 + sz)) := by
        rw [hdel, sd_delim2, if_neg (by omega), if_neg (by omega)]
      refine sx_keepUnknown X0 I R ht hm hms (by omega) (by omega) (by omega) (fun _ => rfl) (htd _ _ hd2) hn (fun n' p' q' w' d' rl' td' rg' a_items' a_word' a_next' a_schemaOf' a_parentOf' a_depthOf' a_head' a_tail' a_length' hN R2 Fr hn2 => hok _ _ hd2 (fun a ha => ?_) _ _ _ _ _ _ _ _ _ _ _ _ _ _ _ _ _ hN R2 Fr hn2)
      unfold sd_un at ha
      obtain ⟨i, _, rfl⟩ := List.mem_map.mp ha
      rfl
    · have hd2 : sd_delim (fun i => a_bytes (base + i)) (sw_kd K F (sw_sc v w m) f) f D (d m) pp p1 e = (sd_pk (fun i => a_bytes (base + i)) (sw_kd K F (sw_sc v w m) f) (p2 + sz) (p2 + sz - p2) p2).map (fun l => (p2 + sz, l.map (fun x => (f, false, x, none)))) := by
        rw [hdel, sd_delim2, if_neg (by omega), if_pos z.1]
      unfold wpX_readPacked
      refine sx_formOf (by omega) (by omega) ⟨p2 + sz - p2 + 1, ?_⟩
      refine sx_rp10 (G := ∃ l, sd_pk (fun i => a_bytes (base + i)) (sw_kd K F (sw_sc v w m) f) (p2 + sz) (p2 + sz - p2) p2 = some l) (L := L) (td := td) (rest := rest) X0 ht rfl hm hms (by omega) (by omega) rfl hf1 rfl z.1 z.2 (fun hG r a_items' a_word' a_next' a_schemaOf' a_parentOf' a_depthOf' a_head' a_tail' a_length' Fr => hbad ?_ r _ _ _ _ _ _ _ _ _ Fr) (fun hG n' p' q' w' d' rl' td' rg' a_items' a_word' a_next' a_schemaOf' a_parentOf' a_depthOf' a_head' a_tail' a_length' hN R2 Fr hn2 => ?_) (p2 + sz - p2) p2 0 n p q w d rl td rg _ _ _ _ _ _ _ _ _ (Nat.le_refl _) (by omega) (by omega) Iff.rfl (fun l hl2 => ?_) I.1 sd_Ext_refl R sx_Fr_refl (by omega)
      · cases hq : sd_pk (fun i => a_bytes (base + i)) (sw_kd K F (sw_sc v w m) f) (p2 + sz) (p2 + sz - p2) p2 with
        | none => rw [hd2, hq]; rfl
        | some l => exact absurd ⟨l, hq⟩ hG
      · obtain ⟨l, hl2⟩ := hG
        refine hok (p2 + sz) (l.map (fun x => (f, false, x, none))) (by rw [hd2, hl2]; rfl) (fun a ha => ?_) _ _ _ _ _ _ _ _ _ _ _ _ _ _ _ _ _ hN R2 Fr hn2
        obtain ⟨i, _, rfl⟩ := List.mem_map.mp ha
        rfl
      · exact sd_Nx_refl I (htd (p2 + sz) _ (by rw [hd2, hl2]; rfl))
  · have hd2 : d m < D → sd_delim (fun i => a_bytes (base + i)) (sw_kd K F (sw_sc v w m) f) f D (d m) pp p1 e = some (p2 + sz, [(f, decide (sw_kd K F (sw_sc v w m) f < 13), nI ((sw_kd K F (sw_sc v w m) f - 10) % 3), some (p2, p2 + sz))]) := fun hlt2 => by
      rw [hdel, sd_delim2, if_pos (by omega), if_neg (by omega)]
    refine sx_openRegion (c := p2) (st := p2 + sz) (rest := rest) X0 I R ht rfl hm hms hlv rfl hM (by omega) h10 (fun hge => hbad ?_ _ _ _ _ _ _ _ _ _ _ sx_Fr_refl) (fun hlt2 => htd _ _ (hd2 (by omega))) (fun hlt2 n' p' q' w' d' rl' td' rg' a_items' a_word' a_next' a_schemaOf' a_parentOf' a_depthOf' a_head' a_tail' a_length' tg hS R2 Fr hn2 => hsub _ _ _ _ (hd2 (by omega)) _ _ _ _ _ _ _ _ _ _ _ _ _ _ _ _ _ tg hS R2 Fr (by omega))
    rw [hdel, sd_delim2, if_pos (by omega), if_pos (by omega)]
theorem sx_readRecord (X : sw_Cx K C F D f_capacity f_maxField f_maxDepth a_kinds) (I : sd_Inv B K C F D v L n p q w d rl td rg) (R : sx_R K F t v n p q w d a_items a_word a_next a_schemaOf a_parentOf a_depthOf a_head a_tail a_length) (ht : t < 3) (hsp : f_spare = nI t) {m lv base pp e : Nat} {rest : List sd_At} (hm : m ≤ n) (hms : sw_ms K F v p q w m) (hlv : lv = d m) (hl : f_level = nI lv) (hM : a_regionMessage lv = nI (t * 121 + m)) (hE : a_regionEnd lv = nI (base + e)) (hbr : f_broken = 0)
    (hB : B = fun i => a_bytes (base + i)) (he : base + e ≤ 240) (heC : e ≤ C) (hpp : pp < e) (hn : n ≤ pp) (htd : td m = sd_A B K F D (sw_sc v w m) (d m) pp e ++ rest)
    (hbad : sd_rec B (sw_kd K F (sw_sc v w m)) D (d m) pp e = none → ∀ (r : Int32) (a_items' a_word' a_next' a_schemaOf' a_parentOf' a_depthOf' a_head' a_tail' a_length' : Nat → Int32), sx_Fr K F t a_items a_word a_next a_schemaOf a_parentOf a_depthOf a_head a_tail a_length a_items' a_word' a_next' a_schemaOf' a_parentOf' a_depthOf' a_head' a_tail' a_length' → post (f_capacity, f_maxField, f_maxDepth, f_spare, f_writeAt, f_level, r, 1, a_kinds, a_held, a_storeOf, a_cursor, a_items', a_word', a_next', a_schemaOf', a_parentOf', a_depthOf', a_head', a_tail', a_length', a_bytes, a_filled, a_sizeOf, a_placeOf, a_match, a_regionEnd, a_regionMessage))
    (hok : ∀ p2 as, sd_rec B (sw_kd K F (sw_sc v w m)) D (d m) pp e = some (p2, as) → (∀ a, a ∈ as → a.2.2.2 = none) → ∀ (n' : Nat) (p' q' : Nat → Nat) (w' : Nat → Int32) (d' : Nat → Nat) (rl' td' : Nat → List sd_At) (rg' : Nat → List (Nat × Nat)) (a_items' a_word' a_next' a_schemaOf' a_parentOf' a_depthOf' a_head' a_tail' a_length' : Nat → Int32), sd_Nx B K C F D v L n p q w d td n' p' q' w' d' rl' td' rg' m (sd_A B K F D (sw_sc v w m) (d m) p2 e ++ rest) → sx_R K F t v n' p' q' w' d' a_items' a_word' a_next' a_schemaOf' a_parentOf' a_depthOf' a_head' a_tail' a_length' → sx_Fr K F t a_items a_word a_next a_schemaOf a_parentOf a_depthOf a_head a_tail a_length a_items' a_word' a_next' a_schemaOf' a_parentOf' a_depthOf' a_head' a_tail' a_length' → n' ≤ p2 → post (f_capacity, f_maxField, f_maxDepth, f_spare, f_writeAt, f_level, nI (base + p2), f_broken, a_kinds, a_held, a_storeOf, a_cursor, a_items', a_word', a_next', a_schemaOf', a_parentOf', a_depthOf', a_head', a_tail', a_length', a_bytes, a_filled, a_sizeOf, a_placeOf, a_match, a_regionEnd, a_regionMessage))
    (hsub : ∀ (f : Nat) (x : Int32) (c st : Nat) (sg : Bool), sd_rec B (sw_kd K F (sw_sc v w m)) D (d m) pp e = some (st, [(f, sg, x, some (c, st))]) → ∀ (n' : Nat) (p' q' : Nat → Nat) (w' : Nat → Int32) (d' : Nat → Nat) (rl' td' : Nat → List sd_At) (rg' : Nat → List (Nat × Nat)) (a_items' a_word' a_next' a_schemaOf' a_parentOf' a_depthOf' a_head' a_tail' a_length' : Nat → Int32) (tg : Nat), sd_Sb B K C F D v L n p q w d td n' p' q' w' d' rl' td' rg' m (sd_A B K F D (sw_sc v w m) (d m) st e ++ rest) x c st tg → sx_R K F t v n' p' q' w' d' a_items' a_word' a_next' a_schemaOf' a_parentOf' a_depthOf' a_head' a_tail' a_length' → sx_Fr K F t a_items a_word a_next a_schemaOf a_parentOf a_depthOf a_head a_tail a_length a_items' a_word' a_next' a_schemaOf' a_parentOf' a_depthOf' a_head' a_tail' a_length' → n' ≤ c → post (f_capacity, f_maxField, f_maxDepth, f_spare, f_writeAt, nI (lv + 1), nI (base + c), f_broken, a_kinds, a_held, a_storeOf, a_cursor, a_items', a_word', a_next', a_schemaOf', a_parentOf', a_depthOf', a_head', a_tail', a_length', a_bytes, a_filled, a_sizeOf, a_placeOf, a_match, upd a_regionEnd (lv + 1) (nI (base + st)), upd a_regionMessage (lv + 1) (nI (t * 121 + tg)))) :
    wpX_readRecord post (f_capacity, f_maxField, f_maxDepth, f_spare, f_writeAt, f_level, nI (base + pp), f_broken, a_kinds, a_held, a_storeOf, a_cursor, a_items, a_word, a_next, a_schemaOf, a_parentOf, a_depthOf, a_head, a_tail, a_length, a_bytes, a_filled, a_sizeOf, a_placeOf, a_match, a_regionEnd, a_regionMessage) := by
  have X0 := X
  obtain ⟨x1, x2, x3', x4, x5, x6, e1, e2, e3, x7⟩ := X
  have hdm := (I.1.2.2.2.2 m hm hms).2
  have htdr : ∀ p' as, sd_rec B (sw_kd K F (sw_sc v w m)) D (d m) pp e = some (p', as) → td m = as ++ (sd_A B K F D (sw_sc v w m) (d m) p' e ++ rest) := by
    intro p' as hr
    rw [htd, sd_A_step (by omega) hpp hr, List.append_assoc]
  have hBB := hB
  subst hsp hl hbr
  unfold wpX_readRecord
  dsimp only
  rw [nI_clamp (n := lv) (by omega), hE]
  refine ⟨vp_in_nI (by omega) (by omega), ?_⟩
  rw [hB] at hbad hok hsub htdr
  refine sx_readVarint he (by omega) (fun c r => br_f (show ¬ (1 : Int32) = 0 by decide) (hbad ?_ _ _ _ _ _ _ _ _ _ _ sx_Fr_refl)) (fun u p1 c => br_t rfl ?_)
  · unfold sd_rec; rw [c]
  have hlt := sd_rd_lt c
  obtain ⟨ef, hf⟩ := sd_fo_nI u
  dsimp only
  rw [ef, nI_clamp (n := lv) (by omega), hM]
  refine nm_e (nm_e (pk_eq (sd_fo u) 0 (fun z => hbad ?_ _ _ _ _ _ _ _ _ _ _ sx_Fr_refl) (fun z => ⟨vp_in_nI (by omega) (by omega), ?_⟩)))
  · unfold sd_rec; rw [c]; exact if_pos z
  refine sx_kindIn X0 I.1 R ht hm hms (by omega) (br_c (fun y2 => ?_) (fun y2 => ?_))
  · have hr : sd_rec (fun i => a_bytes (base + i)) (sw_kd K F (sw_sc v w m)) D (d m) pp e = sd_delim (fun i => a_bytes (base + i)) (sw_kd K F (sw_sc v w m) (sd_fo u)) (sd_fo u) D (d m) pp p1 e := by
      unfold sd_rec; rw [c]
      show (if sd_fo u = 0 then none else if u &&& 7 = 2 then _ else _) = _
      rw [if_neg z, if_pos y2]
    have hte : ∀ p' as, sd_delim (fun i => a_bytes (base + i)) (sw_kd K F (sw_sc v w m) (sd_fo u)) (sd_fo u) D (d m) pp p1 e = some (p', as) → ∃ rest', sd_A (fun i => a_bytes (base + i)) K F D (sw_sc v w m) (d m) p' e ++ rest = rest' := fun _ _ _ => ⟨_, rfl⟩
    cases hd : sd_delim (fun i => a_bytes (base + i)) (sw_kd K F (sw_sc v w m) (sd_fo u)) (sd_fo u) D (d m) pp p1 e with
    | none =>
      refine sx_readDelimited (rest := rest) X0 I R ht rfl hm hms hlv rfl hM hE rfl hBB he heC hlt.1 hlt.2 hn (by omega) (by omega) (fun _ r a_items' a_word' a_next' a_schemaOf' a_parentOf' a_depthOf' a_head' a_tail' a_length' Fr => hbad (hr.trans hd) r _ _ _ _ _ _ _ _ _ Fr) (fun p' as h => ?_) (fun p2 as h => ?_) (fun x c st sg h => ?_)
      · rw [hBB, hd] at h; cases h
      · rw [hBB, hd] at h; cases h
      · rw [hBB, hd] at h; cases h
    | some r0 =>
      obtain ⟨p0, as0⟩ := r0
      refine sx_readDelimited (rest := sd_A (fun i => a_bytes (base + i)) K F D (sw_sc v w m) (d m) p0 e ++ rest) X0 I R ht rfl hm hms hlv rfl hM hE rfl hBB he heC hlt.1 hlt.2 hn (by omega) (by omega) (fun h => ?_) (fun p' as h => ?_) (fun p2 as h hnr n' p' q' w' d' rl' td' rg' a_items' a_word' a_next' a_schemaOf' a_parentOf' a_depthOf' a_head' a_tail' a_length' hN R2 Fr hn2 => ?_) (fun x c st sg h n' p' q' w' d' rl' td' rg' a_items' a_word' a_next' a_schemaOf' a_parentOf' a_depthOf' a_head' a_tail' a_length' tg hS R2 Fr hn2 => ?_)
      · rw [hBB, hd] at h; cases h
      · rw [hBB, hd] at h
        injection h with h
        injection h with h1 h2
        subst h1 h2
        exact htdr _ _ (hr.trans hd)
      · rw [hBB, hd] at h
        injection h with h
        injection h with h1 h2
        subst h1 h2
        rw [hBB] at hN
        exact hok _ _ (hr.trans hd) hnr _ _ _ _ _ _ _ _ _ _ _ _ _ _ _ _ _ hN R2 Fr hn2
      · rw [hBB, hd] at h
        injection h with h
        injection h with h1 h2
        subst h1 h2
        rw [hBB] at hS
        exact hsub _ _ _ _ _ (hr.trans hd) _ _ _ _ _ _ _ _ _ _ _ _ _ _ _ _ _ tg hS R2 Fr hn2
  · have hr : sd_rec (fun i => a_bytes (base + i)) (sw_kd K F (sw_sc v w m)) D (d m) pp e = sd_plain (fun i => a_bytes (base + i)) (sw_kd K F (sw_sc v w m) (sd_fo u)) (sd_fo u) pp p1 e (u &&& 7) := by
      unfold sd_rec; rw [c]
      show (if sd_fo u = 0 then none else if u &&& 7 = 2 then _ else _) = _
      rw [if_neg z, if_neg y2]
    cases hd : sd_plain (fun i => a_bytes (base + i)) (sw_kd K F (sw_sc v w m) (sd_fo u)) (sd_fo u) pp p1 e (u &&& 7) with
    | none =>
      refine sx_readPlain (rest := rest) X0 I R ht rfl hm hms (by omega) rfl hM hE rfl hBB he heC hlt.1 hlt.2 hn (by omega) (by omega) (fun _ r a_items' a_word' a_next' a_schemaOf' a_parentOf' a_depthOf' a_head' a_tail' a_length' Fr => hbad (hr.trans hd) r _ _ _ _ _ _ _ _ _ Fr) (fun p' as h => ?_) (fun p2 as h => ?_)
      · rw [hBB, hd] at h; cases h
      · rw [hBB, hd] at h; cases h
    | some r0 =>
      obtain ⟨p0, as0⟩ := r0
      have hfit := (sd_plain_fit (D := D) (d := d m) (kd := sw_kd K F (sw_sc v w m)) (by omega) hlt.1 hlt.2 hd).2
      refine sx_readPlain (rest := sd_A (fun i => a_bytes (base + i)) K F D (sw_sc v w m) (d m) p0 e ++ rest) X0 I R ht rfl hm hms (by omega) rfl hM hE rfl hBB he heC hlt.1 hlt.2 hn (by omega) (by omega) (fun h => ?_) (fun p' as h => ?_) (fun p2 as h n' p' q' w' d' rl' td' rg' a_items' a_word' a_next' a_schemaOf' a_parentOf' a_depthOf' a_head' a_tail' a_length' hN R2 Fr hn2 => ?_)
      · rw [hBB, hd] at h; cases h
      · rw [hBB, hd] at h
        injection h with h
        injection h with h1 h2
        subst h1 h2
        exact htdr _ _ (hr.trans hd)
      · rw [hBB, hd] at h
        injection h with h
        injection h with h1 h2
        subst h1 h2
        rw [hBB] at hN
        refine hok _ _ (hr.trans hd) (fun a ha => ?_) _ _ _ _ _ _ _ _ _ _ _ _ _ _ _ _ _ hN R2 Fr hn2
        have hreg : ∀ a, a ∈ as0 → a.2.2.2 = none := by
          unfold sd_plain at hd
          intro a ha
          rcases hfit with hfit | ⟨f, c', rfl, _⟩
          · exact (hfit.1 a ha).1
          · exfalso
            have hun : ∀ a e : Nat, ∀ x : sd_At, sd_un (fun i => a_bytes (base + i)) a e = [x] → x.2.2.2 = none := by
              intro a e x hx
              have : x ∈ sd_un (fun i => a_bytes (base + i)) a e := by rw [hx]; exact List.mem_singleton.mpr rfl
              unfold sd_un at this
              obtain ⟨i, _, rfl⟩ := List.mem_map.mp this
              rfl
            split at hd
            · split at hd
              · cases hd
              · split at hd
                · have := congrArg (fun o => o.map (fun x : Nat × List sd_At => x.2.map (fun a => a.2.2.2))) hd
                  simp at this
                · have := hun _ _ _ (congrArg Prod.snd (Option.some.inj hd))
                  cases this
            · split at hd
              · split at hd
                · cases hd
                · split at hd
                  · have := congrArg (fun o => o.map (fun x : Nat × List sd_At => x.2.map (fun a => a.2.2.2))) hd
                    simp at this
                  · have := hun _ _ _ (congrArg Prod.snd (Option.some.inj hd))
                    cases this
              · split at hd
                · split at hd
                  · cases hd
                  · have := hun _ _ _ (congrArg Prod.snd (Option.some.inj hd))
                    cases this
                · cases hd
        exact hreg a ha
end
end
section
/-! X's decode loop: a region, then what is behind it -/
section
variable {f_capacity f_maxField f_maxDepth f_spare f_writeAt f_level f_readAt f_broken : Int32} {a_kinds a_held a_storeOf a_cursor a_items a_word a_next a_schemaOf a_parentOf a_depthOf a_head a_tail a_length a_bytes a_filled a_sizeOf a_placeOf a_match a_regionEnd a_regionMessage : Nat → Int32} {post : SX → Prop}
theorem sx_close {lv : Nat} (hpost : post (f_capacity, f_maxField, f_maxDepth, f_spare, f_writeAt, nI lv, f_readAt, f_broken, a_kinds, a_held, a_storeOf, a_cursor, a_items, a_word, a_next, a_schemaOf, a_parentOf, a_depthOf, a_head, a_tail, a_length, a_bytes, a_filled, a_sizeOf, a_placeOf, a_match, a_regionEnd, a_regionMessage)) (htop : lv = 0 ∨ f_readAt < a_regionEnd lv) : ∀ k, lv + k ≤ 6 → (∀ i, lv < i → i ≤ lv + k → ¬ f_readAt < a_regionEnd i) → wX_closeRegions_0 post f_capacity f_maxField f_maxDepth f_spare f_writeAt f_readAt f_broken a_kinds a_held a_storeOf a_cursor a_items a_word a_next a_schemaOf a_parentOf a_depthOf a_head a_tail a_length a_bytes a_filled a_sizeOf a_placeOf a_match a_regionEnd a_regionMessage (k + 1) (nI (lv + k)) := by
  intro k
  induction k with
  | zero =>
    intro h1 h2
    unfold wX_closeRegions_0
    rw [Nat.add_zero, nI_clamp (by omega)]
    refine pk_le lv 0 (fun _ => hpost) (fun z => ⟨vp_in_nI (by omega) (by omega), ?_⟩)
    rcases htop with h | h
    · omega
    · exact br_t h hpost
  | succ k ih =>
    intro h1 h2
    have e1 : nI (lv + (k + 1)) - 1 = nI (lv + k) := nI_pred _
    rw [wX_closeRegions_0]
    dsimp only
    rw [e1, nI_clamp (n := lv + (k + 1)) (by omega)]
    exact pk_le (lv + (k + 1)) 0 (fun z => by omega) (fun _ => ⟨vp_in_nI (by omega) (by omega), br_f (h2 _ (by omega) (Nat.le_refl _)) (nm_e (ih (by omega) (fun i a b => h2 i a (by omega))))⟩)
end
section
variable {f_capacity f_maxField f_maxDepth f_spare f_writeAt f_level f_readAt f_broken : Int32} {a_kinds a_held a_storeOf a_cursor a_items a_word a_next a_schemaOf a_parentOf a_depthOf a_head a_tail a_length a_bytes a_filled a_sizeOf a_placeOf a_match a_regionEnd a_regionMessage : Nat → Int32} {B : Nat → Int32} {K : Nat → Nat} {C F D v L t base : Nat} {post : Int32 → SX → Prop} {x2 : Int32}
theorem sx_dfs (X : sw_Cx K C F D f_capacity f_maxField f_maxDepth a_kinds) (ht : t < 3) (hB : B = fun i => a_bytes (base + i)) (hbase : base + L ≤ 240) (hLC : L ≤ C) (hsp : f_spare = nI t) :
    ∀ (N pp e m lv al step fuel : Nat) (n : Nat) (p q : Nat → Nat) (w : Nat → Int32) (d : Nat → Nat) (rl td : Nat → List sd_At) (rg : Nat → List (Nat × Nat)) (a_items a_word a_next a_schemaOf a_parentOf a_depthOf a_head a_tail a_length rE rM : Nat → Int32), e - pp ≤ N → sd_Inv B K C F D v L n p q w d rl td rg → sx_R K F t v n p q w d a_items a_word a_next a_schemaOf a_parentOf a_depthOf a_head a_tail a_length → m ≤ n → sw_ms K F v p q w m → lv = d m → lv ≤ al → al ≤ 6 → rM lv = nI (t * 121 + m) → rE lv = nI (base + e) →
      (∀ i, lv < i → i ≤ al → ∃ y, rE i = nI (base + y) ∧ y ≤ pp) → td m = sd_A B K F D (sw_sc v w m) (d m) pp e → (∀ i, m < i → i ≤ n → td i = []) → n ≤ pp → pp ≤ e → e ≤ L → step ≤ pp → L - pp < fuel →
      (¬ sd_Ok B K F D v (sw_sc v w m) (d m) pp e → ∀ (al' r step' : Int32) (fuel' : Nat) (a_items' a_word' a_next' a_schemaOf' a_parentOf' a_depthOf' a_head' a_tail' a_length' rE' rM' : Nat → Int32), sx_Fr K F t a_items a_word a_next a_schemaOf a_parentOf a_depthOf a_head a_tail a_length a_items' a_word' a_next' a_schemaOf' a_parentOf' a_depthOf' a_head' a_tail' a_length' → 0 < fuel' → wX_decode_97 post x2 (nI (base + L)) fuel' step' f_capacity f_maxField f_maxDepth f_spare f_writeAt al' r 1 a_kinds a_held a_storeOf a_cursor a_items' a_word' a_next' a_schemaOf' a_parentOf' a_depthOf' a_head' a_tail' a_length' a_bytes a_filled a_sizeOf a_placeOf a_match rE' rM') →
      (sd_Ok B K F D v (sw_sc v w m) (d m) pp e → ∀ (n' : Nat) (p' q' : Nat → Nat) (w' : Nat → Int32) (d' : Nat → Nat) (rl' td' : Nat → List sd_At) (rg' : Nat → List (Nat × Nat)) (a_items' a_word' a_next' a_schemaOf' a_parentOf' a_depthOf' a_head' a_tail' a_length' rE' rM' : Nat → Int32) (al' step' fuel' : Nat), sd_Inv B K C F D v L n' p' q' w' d' rl' td' rg' → sx_R K F t v n' p' q' w' d' a_items' a_word' a_next' a_schemaOf' a_parentOf' a_depthOf' a_head' a_tail' a_length' → sx_Fr K F t a_items a_word a_next a_schemaOf a_parentOf a_depthOf a_head a_tail a_length a_items' a_word' a_next' a_schemaOf' a_parentOf' a_depthOf' a_head' a_tail' a_length' → sd_Ext K F v n p q w d n' p' q' w' d' → td' m = [] → (∀ i, i < m → td' i = td i) → (∀ i, m < i → i ≤ n' → td' i = []) → n' ≤ e → lv ≤ al' → al' ≤ 6 → (∀ i, i ≤ lv → rE' i = rE i ∧ rM' i = rM i) → (∀ i, lv < i → i ≤ al' → ∃ y, rE' i = nI (base + y) ∧ y ≤ e) → step' ≤ e → L - e < fuel' →
        wX_decode_97 post x2 (nI (base + L)) fuel' (nI step') f_capacity f_maxField f_maxDepth f_spare f_writeAt (nI al') (nI (base + e)) 0 a_kinds a_held a_storeOf a_cursor a_items' a_word' a_next' a_schemaOf' a_parentOf' a_depthOf' a_head' a_tail' a_length' a_bytes a_filled a_sizeOf a_placeOf a_match rE' rM') →
      wX_decode_97 post x2 (nI (base + L)) fuel (nI step) f_capacity f_maxField f_maxDepth f_spare f_writeAt (nI al) (nI (base + pp)) 0 a_kinds a_held a_storeOf a_cursor a_items a_word a_next a_schemaOf a_parentOf a_depthOf a_head a_tail a_length a_bytes a_filled a_sizeOf a_placeOf a_match rE rM := by
  have X0 := X
  obtain ⟨x1, x2', x3', x4, x5, x6, e1, e2, e3, x7⟩ := X
  have hdone : ∀ (pp e m lv al step fuel : Nat) (n : Nat) (p q : Nat → Nat) (w : Nat → Int32) (d : Nat → Nat) (rl td : Nat → List sd_At) (rg : Nat → List (Nat × Nat)) (a_items a_word a_next a_schemaOf a_parentOf a_depthOf a_head a_tail a_length rE rM : Nat → Int32), pp = e → sd_Inv B K C F D v L n p q w d rl td rg → sx_R K F t v n p q w d a_items a_word a_next a_schemaOf a_parentOf a_depthOf a_head a_tail a_length → lv ≤ al → al ≤ 6 → (∀ i, lv < i → i ≤ al → ∃ y, rE i = nI (base + y) ∧ y ≤ pp) → td m = sd_A B K F D (sw_sc v w m) (d m) pp e → (∀ i, m < i → i ≤ n → td i = []) → n ≤ pp → step ≤ pp → L - pp < fuel →
      (sd_Ok B K F D v (sw_sc v w m) (d m) pp e → ∀ (n' : Nat) (p' q' : Nat → Nat) (w' : Nat → Int32) (d' : Nat → Nat) (rl' td' : Nat → List sd_At) (rg' : Nat → List (Nat × Nat)) (a_items' a_word' a_next' a_schemaOf' a_parentOf' a_depthOf' a_head' a_tail' a_length' rE' rM' : Nat → Int32) (al' step' fuel' : Nat), sd_Inv B K C F D v L n' p' q' w' d' rl' td' rg' → sx_R K F t v n' p' q' w' d' a_items' a_word' a_next' a_schemaOf' a_parentOf' a_depthOf' a_head' a_tail' a_length' → sx_Fr K F t a_items a_word a_next a_schemaOf a_parentOf a_depthOf a_head a_tail a_length a_items' a_word' a_next' a_schemaOf' a_parentOf' a_depthOf' a_head' a_tail' a_length' → sd_Ext K F v n p q w d n' p' q' w' d' → td' m = [] → (∀ i, i < m → td' i = td i) → (∀ i, m < i → i ≤ n' → td' i = []) → n' ≤ e → lv ≤ al' → al' ≤ 6 → (∀ i, i ≤ lv → rE' i = rE i ∧ rM' i = rM i) → (∀ i, lv < i → i ≤ al' → ∃ y, rE' i = nI (base + y) ∧ y ≤ e) → step' ≤ e → L - e < fuel' →
        wX_decode_97 post x2 (nI (base + L)) fuel' (nI step') f_capacity f_maxField f_maxDepth f_spare f_writeAt (nI al') (nI (base + e)) 0 a_kinds a_held a_storeOf a_cursor a_items' a_word' a_next' a_schemaOf' a_parentOf' a_depthOf' a_head' a_tail' a_length' a_bytes a_filled a_sizeOf a_placeOf a_match rE' rM') →
      wX_decode_97 post x2 (nI (base + L)) fuel (nI step) f_capacity f_maxField f_maxDepth f_spare f_writeAt (nI al) (nI (base + pp)) 0 a_kinds a_held a_storeOf a_cursor a_items a_word a_next a_schemaOf a_parentOf a_depthOf a_head a_tail a_length a_bytes a_filled a_sizeOf a_placeOf a_match rE rM := by
    intro pp e m lv al step fuel n p q w d rl td rg a_items a_word a_next a_schemaOf a_parentOf a_depthOf a_head a_tail a_length rE rM epe I R hla hal hfil htd hab hn hst hfu Kok
    subst epe
    rw [sd_A_nil (Nat.le_refl _)] at htd
    exact Kok (sd_Ok_nil (Nat.le_refl _)) _ _ _ _ _ _ _ _ _ _ _ _ _ _ _ _ _ _ _ _ _ _ I R sx_Fr_refl sd_Ext_refl htd (fun _ _ => rfl) hab hn hla hal (fun _ _ => ⟨rfl, rfl⟩) hfil hst hfu
  intro N
  induction N with
  | zero =>
    intro pp e m lv al step fuel n p q w d rl td rg a_items a_word a_next a_schemaOf a_parentOf a_depthOf a_head a_tail a_length rE rM hN I R hm hms hlv hla hal hM hE hfil htd hab hn hpe heL hst hfu Kbad Kok
    exact hdone pp e m lv al step fuel _ _ _ _ _ _ _ _ _ _ _ _ _ _ _ _ _ _ _ (by omega) I R hla hal hfil htd hab hn hst hfu Kok
  | succ N ih =>
    intro pp e m lv al step fuel n p q w d rl td rg a_items a_word a_next a_schemaOf a_parentOf a_depthOf a_head a_tail a_length rE rM hN I R hm hms hlv hla hal hM hE hfil htd hab hn hpe heL hst hfu Kbad Kok
    by_cases hlt : pp < e
    · obtain ⟨g, rfl⟩ : ∃ g, fuel = g + 1 := ⟨fuel - 1, by omega⟩
      obtain ⟨ka, rfl⟩ : ∃ ka, al = lv + ka := ⟨al - lv, by omega⟩
      rw [wX_decode_97]
      dsimp only
      rw [nI_1 step]
      refine br_f (by rw [e1]; exact nI_ge (by omega) (by omega)) (br_f (nI_ge (by omega) (by omega)) (br_t rfl ?_))
      refine ⟨ka + 1, sx_close (lv := lv) ?_ (Or.inr (by rw [hE]; exact nI_lt (by omega) (by omega))) ka hal (fun i a b => ?_)⟩
      rotate_left
      · obtain ⟨y, y1, y2⟩ := hfil i a b
        rw [y1]; exact nI_nlt (by omega) (by omega)
      dsimp only
      refine sx_readRecord (rest := []) (t := t) X0 I R ht hsp hm hms hlv rfl hM hE rfl hB (by omega) (by omega) hlt hn (by rw [List.append_nil]; exact htd) (fun hr r a_items' a_word' a_next' a_schemaOf' a_parentOf' a_depthOf' a_head' a_tail' a_length' Fr => nm_e ?_) (fun p2 as hr hreg n' p' q' w' d' rl' td' rg' a_items' a_word' a_next' a_schemaOf' a_parentOf' a_depthOf' a_head' a_tail' a_length' hNx R2 Fr hn2 => nm_e ?_) (fun f x c st sg hr n1 p1 q1 w1 d1 rl1 td1 rg1 i1 wo1 ne1 sc1 pa1 de1 he1 ta1 le1 tg hS R1 Fr1 hn1 => nm_e ?_)
      · exact Kbad (sd_Ok_none hlt hr) _ _ _ _ _ _ _ _ _ _ _ _ _ _ _ Fr (by omega)
      · have hl := (sd_rec_fit (by omega) hr).1
        have hok := sd_Ok_step (v := v) (by omega) hlt hr
        have hokE : sd_Ok B K F D v (sw_sc v w m) (d m) pp e ↔ sd_Ok B K F D v (sw_sc v w m) (d m) p2 e := by
          rw [hok]
          exact ⟨fun z => z.2, fun z => ⟨fun a c st ha hs => (by rw [hreg a ha] at hs; cases hs), z⟩⟩
        obtain ⟨a1, a2, a3, a4, a5⟩ := hNx
        have hmw := (a2.2 m hm)
        have hsc : sw_sc v w' m = sw_sc v w m := by rw [sw_sc, sw_sc, (hmw.2 hms).2]
        rw [List.append_nil] at a3
        refine ih p2 e m lv lv (step + 1) g _ _ _ _ _ _ _ _ _ _ _ _ _ _ _ _ _ rE rM (by omega) a1 R2 (Nat.le_trans hm a2.1) (hmw.2 hms).1 (by rw [hmw.1]; exact hlv) (Nat.le_refl _) (by omega) hM hE (fun i y1 y2 => by omega) (by rw [hsc, hmw.1]; exact a3) (fun i y1 y2 => ?_) hn2 hl.2 heL (by omega) (by omega) (fun hno al' r step' fuel' A2a A2b A2c A2d A2e A2f A2g A2h A2i rE' rM' Fr2 hf' => ?_) (fun hyes n3 p3 q3 w3 d3 rl3 td3 rg3 i3 wo3 ne3 sc3 pa3 de3 he3 ta3 le3 rE3 rM3 al3 step3 fuel3 I3 R3 Fr3 E3 t3 lo3 hi3 hn3 b1 b2 b3 b4 b5 b6 => ?_)
        · by_cases c : i ≤ n
          · rw [a4 i c (by omega)]; exact hab i y1 c
          · exact a5 i (by omega) y2
        · rw [hsc, hmw.1] at hno
          exact Kbad (fun z => hno (hokE.mp z)) _ _ _ _ _ _ _ _ _ _ _ _ _ _ _ (fun t2 v0 n0 p0 q0 w0 d0 y1 y2 y3 y4 => Fr2 t2 v0 n0 p0 q0 w0 d0 y1 y2 y3 (Fr t2 v0 n0 p0 q0 w0 d0 y1 y2 y3 y4)) hf'
        · rw [hsc, hmw.1] at hyes
          exact Kok (hokE.mpr hyes) _ _ _ _ _ _ _ _ _ _ _ _ _ _ _ _ _ _ _ _ _ _ I3 R3 (fun t2 v0 n0 p0 q0 w0 d0 y1 y2 y3 y4 => Fr3 t2 v0 n0 p0 q0 w0 d0 y1 y2 y3 (Fr t2 v0 n0 p0 q0 w0 d0 y1 y2 y3 y4)) (sd_Ext_trans a2 E3) t3 (fun i hi => by rw [lo3 i hi, a4 i (by omega) (by omega)]) hi3 hn3 b1 b2 b3 b4 b5 b6
      · have hsub := sd_sub_lt (by omega) hr (List.mem_singleton.mpr rfl) rfl
        have hl := (sd_rec_fit (by omega) hr).1
        have hok := sd_Ok_step (v := v) (by omega) hlt hr
        obtain ⟨s1, s2, s3, s4, s5, s6, s7, s8, s9, s10, s11, s12⟩ := hS
        have hok2 : sd_Ok B K F D v (sw_sc v w m) (d m) pp e ↔ (sd_Ok B K F D v (v * 3 + x.toNatClampNeg) (d m + 1) c st ∧ sd_Ok B K F D v (sw_sc v w m) (d m) st e) := by
          rw [hok]
          constructor
          · intro z
            exact ⟨z.1 _ c st (List.mem_singleton.mpr rfl) rfl, z.2⟩
          · intro z
            refine ⟨fun a c' st' ha hs => ?_, z.2⟩
            rw [List.mem_singleton] at ha
            subst ha
            have := Option.some.inj hs
            injection this with q1 q2
            subst q1 q2
            exact z.1
        rw [List.append_nil] at s3
        have hsct : sw_sc v w1 tg = v * 3 + x.toNatClampNeg := by rw [sw_sc, s7]
        have hmw := s2.2 m hm
        have hsc : sw_sc v w1 m = sw_sc v w m := by rw [sw_sc, sw_sc, (hmw.2 hms).2]
        have htdg : td1 tg = sd_A B K F D (v * 3 + x.toNatClampNeg) (d m + 1) c st := by
          by_cases c' : tg ≤ n
          · rw [s9 c', hab tg s4 c', List.nil_append]
          · exact s10 (by omega)
        have hdD := (s1.1.2.2.2.2 tg s5 s6).2
        have habove : ∀ i, m < i → i ≤ n1 → i ≠ tg → td1 i = [] := by
          intro i y1 y2 y3
          by_cases c' : i ≤ n
          · rw [s11 i c' (by omega) y3]; exact hab i y1 c'
          · exact s12 i (by omega) y2 y3
        refine ih c st tg (lv + 1) (lv + 1) (step + 1) g n1 p1 q1 w1 d1 rl1 td1 rg1 i1 wo1 ne1 sc1 pa1 de1 he1 ta1 le1 (upd rE (lv + 1) (nI (base + st))) (upd rM (lv + 1) (nI (t * 121 + tg))) (by omega) s1 R1 s5 s6 (by omega) (Nat.le_refl _) (by omega) pk_us pk_us (fun i y1 y2 => by omega) (by rw [hsct, s8]; exact htdg) (fun i y1 y2 => habove i (by omega) y2 (by omega)) hn1 hsub.2.1 (by omega) (by omega) (by omega) (fun hno al' r step' fuel' A2a A2b A2c A2d A2e A2f A2g A2h A2i rE' rM' Fr2 hf' => ?_) (fun hyes n2 p2 q2 w2 d2 rl2 td2 rg2 i2 wo2 ne2 sc2 pa2 de2 he2 ta2 le2 rE2 rM2 al2 step2 fuel2 I2 R2 Fr2 E2 t2 lo2 hi2 hn2 b1 b2 b3 b4 b5 b6 => ?_)
        · rw [hsct, s8] at hno
          exact Kbad (fun z => hno (hok2.mp z).1) _ _ _ _ _ _ _ _ _ _ _ _ _ _ _ (fun t2 v0 n0 p0 q0 w0 d0 y1 y2 y3 y4 => Fr2 t2 v0 n0 p0 q0 w0 d0 y1 y2 y3 (Fr1 t2 v0 n0 p0 q0 w0 d0 y1 y2 y3 y4)) hf'
        · rw [hsct, s8] at hyes
          have E02 := sd_Ext_trans s2 E2
          have hmw2 := E02.2 m hm
          have hsc2 : sw_sc v w2 m = sw_sc v w m := by rw [sw_sc, sw_sc, (hmw2.2 hms).2]
          refine ih st e m lv al2 step2 fuel2 n2 p2 q2 w2 d2 rl2 td2 rg2 i2 wo2 ne2 sc2 pa2 de2 he2 ta2 le2 rE2 rM2 (by omega) I2 R2 (Nat.le_trans hm E02.1) (hmw2.2 hms).1 (by rw [hmw2.1]; exact hlv) (by omega) b2 (by rw [(b3 lv (by omega)).2, pk_un (by omega)]; exact hM) (by rw [(b3 lv (by omega)).1, pk_un (by omega)]; exact hE) (fun i y1 y2 => ?_) (by rw [hsc2, hmw2.1, lo2 m s4]; exact s3) (fun i y1 y2 => ?_) hn2 (by omega) heL b5 b6 (fun hno al' r step' fuel' A2a A2b A2c A2d A2e A2f A2g A2h A2i rE' rM' Fr3 hf' => ?_) (fun hyes3 n3 p3 q3 w3 d3 rl3 td3 rg3 i3 wo3 ne3 sc3 pa3 de3 he3 ta3 le3 rE3 rM3 al3 step3 fuel3 I3 R3 Fr3 E3 t3 lo3 hi3 hn3 z1 z2 z3 z4 z5 z6 => ?_)
          · by_cases c' : i = lv + 1
            · subst c'
              exact ⟨st, by rw [(b3 _ (Nat.le_refl _)).1, pk_us], Nat.le_refl _⟩
            · exact b4 i (by omega) y2
          · by_cases c' : i < tg
            · rw [lo2 i c']; exact habove i y1 (by omega) (by omega)
            · by_cases c2 : i = tg
              · rw [c2]; exact t2
              · exact hi2 i (by omega) y2
          · rw [hsc2, hmw2.1] at hno
            exact Kbad (fun z => hno (hok2.mp z).2) _ _ _ _ _ _ _ _ _ _ _ _ _ _ _ (fun t2 v0 n0 p0 q0 w0 d0 y1 y2 y3 y4 => Fr3 t2 v0 n0 p0 q0 w0 d0 y1 y2 y3 (Fr2 t2 v0 n0 p0 q0 w0 d0 y1 y2 y3 (Fr1 t2 v0 n0 p0 q0 w0 d0 y1 y2 y3 y4))) hf'
          · rw [hsc2, hmw2.1] at hyes3
            exact Kok (hok2.mpr ⟨hyes, hyes3⟩) _ _ _ _ _ _ _ _ _ _ _ _ _ _ _ _ _ _ _ _ _ _ I3 R3 (fun t2 v0 n0 p0 q0 w0 d0 y1 y2 y3 y4 => Fr3 t2 v0 n0 p0 q0 w0 d0 y1 y2 y3 (Fr2 t2 v0 n0 p0 q0 w0 d0 y1 y2 y3 (Fr1 t2 v0 n0 p0 q0 w0 d0 y1 y2 y3 y4))) (sd_Ext_trans E02 E3) t3 (fun i hi => by rw [lo3 i hi, lo2 i (by omega), s11 i (by omega) (by omega) (by omega)]) hi3 hn3 z1 z2 (fun i hi => ⟨by rw [(z3 i hi).1, (b3 i (by omega)).1, pk_un (by omega)], by rw [(z3 i hi).2, (b3 i (by omega)).2, pk_un (by omega)]⟩) z4 z5 z6
    · exact hdone pp e m lv al step fuel _ _ _ _ _ _ _ _ _ _ _ _ _ _ _ _ _ _ _ (by omega) I R hla hal hfil htd hab hn hst hfu Kok
end
end
section
/-! Y's reads -/
section
variable {g_capacity g_maxField g_maxDepth g_outLen g_regions g_pos g_bad : Int32} {b_kinds b_held b_version b_type b_cursor b_items b_parent b_field b_val b_bytes b_length b_out b_encStart b_encLen b_partner b_regMsg b_regStart b_regEnd : Nat → Int32} {post : Int32 → SY → Prop} {b e : Nat}
theorem sy_rv5 (he : b * 120 + e ≤ 240) {o : Option (Int32 × Nat)}
    (hbad : o = none → ∀ r : Int32, post 0 (g_capacity, g_maxField, g_maxDepth, g_outLen, g_regions, r, 1, b_kinds, b_held, b_version, b_type, b_cursor, b_items, b_parent, b_field, b_val, b_bytes, b_length, b_out, b_encStart, b_encLen, b_partner, b_regMsg, b_regStart, b_regEnd)) (hok : ∀ u p', o = some (u, p') → post u (g_capacity, g_maxField, g_maxDepth, g_outLen, g_regions, nI p', g_bad, b_kinds, b_held, b_version, b_type, b_cursor, b_items, b_parent, b_field, b_val, b_bytes, b_length, b_out, b_encStart, b_encLen, b_partner, b_regMsg, b_regStart, b_regEnd)) :
    ∀ g (a : Int32) k p, k + g = 10 → p ≤ e → sd_rv (fun i => b_bytes (b * 120 + i)) e g a k p = o → wY_readVarint_5 post (nI b) (nI e) g_capacity g_maxField g_maxDepth g_outLen g_regions g_bad b_kinds b_held b_version b_type b_cursor b_items b_parent b_field b_val b_bytes b_length b_out b_encStart b_encLen b_partner b_regMsg b_regStart b_regEnd (g + 1) a (nI k) (nI p) := by
  intro g
  induction g with
  | zero =>
    intro a k p hk hpe ho
    exact br_t (nI_le (a := 10) (by omega) (by omega)) (hbad ho.symm _)
  | succ g ih =>
    intro a k p hk hpe ho
    rw [sd_rv] at ho
    rw [wY_readVarint_5]
    dsimp only
    refine br_f (nI_ge (b := 10) (by omega) (by omega)) (pk_le e p (fun z => ?_) (fun z => ?_))
    · rw [if_pos (by omega)] at ho
      exact hbad ho.symm _
    · rw [if_neg (by omega)] at ho
      rw [sn_120, nI_clamp (by omega), nI_1 p]
      refine ⟨vp_in_nI (by omega) (by omega), nm_e (nm_e ?_)⟩
      have hgo : ∀ a' : Int32, sd_acc a (b_bytes (b * 120 + p)) k = a' → wY_readVarint_66 post (wY_readVarint_5 post (nI b) (nI e) g_capacity g_maxField g_maxDepth g_outLen g_regions g_bad b_kinds b_held b_version b_type b_cursor b_items b_parent b_field b_val b_bytes b_length b_out b_encStart b_encLen b_partner b_regMsg b_regStart b_regEnd (g + 1)) (nI b) (nI e) a' (nI k) (b_bytes (b * 120 + p)) g_capacity g_maxField g_maxDepth g_outLen g_regions (nI (p + 1)) g_bad b_kinds b_held b_version b_type b_cursor b_items b_parent b_field b_val b_bytes b_length b_out b_encStart b_encLen b_partner b_regMsg b_regStart b_regEnd := by
        intro a' ea
        unfold wY_readVarint_66
        rw [nI_1 k]
        refine br_c (fun c => nm_e ?_) (fun c => ?_)
        · rw [if_pos c, ea] at ho
          exact ih a' (k + 1) (p + 1) (by omega) (by omega) ho
        · rw [if_neg c, ea] at ho
          exact hok a' (p + 1) ho.symm
      refine pk_le 5 k (fun c => hgo _ ?_) (fun c => nm_e (hgo _ ?_))
      · unfold sd_acc; rw [if_neg (by omega)]
      · unfold sd_acc; rw [if_pos (by omega)]
theorem sy_readVarint (he : b * 120 + e ≤ 240) {p : Nat} (hpe : p ≤ e) (hbad : sd_rd (fun i => b_bytes (b * 120 + i)) e p = none → ∀ r : Int32, post 0 (g_capacity, g_maxField, g_maxDepth, g_outLen, g_regions, r, 1, b_kinds, b_held, b_version, b_type, b_cursor, b_items, b_parent, b_field, b_val, b_bytes, b_length, b_out, b_encStart, b_encLen, b_partner, b_regMsg, b_regStart, b_regEnd)) (hok : ∀ u p', sd_rd (fun i => b_bytes (b * 120 + i)) e p = some (u, p') → post u (g_capacity, g_maxField, g_maxDepth, g_outLen, g_regions, nI p', g_bad, b_kinds, b_held, b_version, b_type, b_cursor, b_items, b_parent, b_field, b_val, b_bytes, b_length, b_out, b_encStart, b_encLen, b_partner, b_regMsg, b_regStart, b_regEnd)) :
    wpY_readVarint post (g_capacity, g_maxField, g_maxDepth, g_outLen, g_regions, nI p, g_bad, b_kinds, b_held, b_version, b_type, b_cursor, b_items, b_parent, b_field, b_val, b_bytes, b_length, b_out, b_encStart, b_encLen, b_partner, b_regMsg, b_regStart, b_regEnd) (nI b) (nI e) :=
  ⟨11, sy_rv5 he hbad hok 10 0 0 p (by omega) hpe rfl⟩
theorem sy_rp60 (he : b * 120 + e ≤ 240) {p : Nat} (hp : p + 4 ≤ e) (h : post (sd_fx (fun i => b_bytes (b * 120 + i)) p) (g_capacity, g_maxField, g_maxDepth, g_outLen, g_regions, nI (p + 4), g_bad, b_kinds, b_held, b_version, b_type, b_cursor, b_items, b_parent, b_field, b_val, b_bytes, b_length, b_out, b_encStart, b_encLen, b_partner, b_regMsg, b_regStart, b_regEnd)) :
    ∀ g i, i + g = 4 → wY_readPayload_60 post (nI b) g_capacity g_maxField g_maxDepth g_outLen g_regions (nI p) g_bad b_kinds b_held b_version b_type b_cursor b_items b_parent b_field b_val b_bytes b_length b_out b_encStart b_encLen b_partner b_regMsg b_regStart b_regEnd (g + 1) (sd_fxA (fun i => b_bytes (b * 120 + i)) p i) (nI i) := by
  intro g
  induction g with
  | zero =>
    intro i hi
    obtain rfl : i = 4 := by omega
    have e4 : nI p + 4 = nI (p + 4) := by rw [show (4 : Int32) = nI 4 from rfl, nI_add]
    unfold wY_readPayload_60
    rw [e4]
    exact br_t (nI_le (a := 4) (b := 4) (Nat.le_refl _) (by omega)) (nm_e h)
  | succ g ih =>
    intro i hi
    rw [wY_readPayload_60]
    dsimp only
    rw [sn_120, nI_add, nI_clamp (n := b * 120 + p + i) (by omega), nI_1 i, Nat.add_assoc]
    exact br_f (nI_ge (b := 4) (by omega) (by omega)) ⟨vp_in_nI (by omega) (by omega), nm_e (nm_e (ih (i + 1) (by omega)))⟩
theorem sy_readPayload (he : b * 120 + e ≤ 240) {p kk : Nat} (hpe : p ≤ e) (hk : kk ≤ 15) (hbad : sd_pl (fun i => b_bytes (b * 120 + i)) kk e p = none → ∀ x r : Int32, post x (g_capacity, g_maxField, g_maxDepth, g_outLen, g_regions, r, 1, b_kinds, b_held, b_version, b_type, b_cursor, b_items, b_parent, b_field, b_val, b_bytes, b_length, b_out, b_encStart, b_encLen, b_partner, b_regMsg, b_regStart, b_regEnd)) (hok : ∀ u p', sd_pl (fun i => b_bytes (b * 120 + i)) kk e p = some (u, p') → post u (g_capacity, g_maxField, g_maxDepth, g_outLen, g_regions, nI p', g_bad, b_kinds, b_held, b_version, b_type, b_cursor, b_items, b_parent, b_field, b_val, b_bytes, b_length, b_out, b_encStart, b_encLen, b_partner, b_regMsg, b_regStart, b_regEnd)) :
    wpY_readPayload post (g_capacity, g_maxField, g_maxDepth, g_outLen, g_regions, nI p, g_bad, b_kinds, b_held, b_version, b_type, b_cursor, b_items, b_parent, b_field, b_val, b_bytes, b_length, b_out, b_encStart, b_encLen, b_partner, b_regMsg, b_regStart, b_regEnd) (nI kk) (nI b) (nI e) := by
  unfold wpY_readPayload
  dsimp only
  rw [sy_rem3 (by omega), pk_sub hpe]
  refine ⟨by decide, pk_eq (kk % 3) 0 (fun z => pk_le 4 (e - p) (fun c => ⟨5, ?_⟩) (fun c => hbad ?_ _ _)) (fun z => ?_)⟩
  · refine sy_rp60 he (by omega) (hok _ (p + 4) ?_) 4 0 (by omega)
    unfold sd_pl; rw [if_pos z, if_neg (by omega)]
  · unfold sd_pl; rw [if_pos z, if_pos (by omega)]
  · refine sy_readVarint he hpe (fun c r => ⟨by decide, ?_⟩) (fun u p' c => ⟨by decide, ?_⟩)
    · have hn : sd_pl (fun i => b_bytes (b * 120 + i)) kk e p = none := by unfold sd_pl; rw [if_neg z, c]; rfl
      exact br_c (fun _ => hbad hn _ _) (fun _ => hbad hn _ _)
    · have hs : sd_pl (fun i => b_bytes (b * 120 + i)) kk e p = some (sd_fw kk u, p') := by unfold sd_pl; rw [if_neg z, c]; rfl
      refine pk_eq (kk % 3) 1 (fun y => ?_) (fun y => ?_)
      · have := hok _ _ hs
        unfold sd_fw at this
        rw [if_neg (by omega)] at this
        exact this
      · have := hok _ _ hs
        unfold sd_fw at this
        rw [if_pos (by omega)] at this
        exact this
end
section
variable {g_capacity g_maxField g_maxDepth g_outLen g_regions g_pos g_bad : Int32} {b_kinds b_held b_version b_type b_cursor b_items b_parent b_field b_val b_bytes b_length b_out b_encStart b_encLen b_partner b_regMsg b_regStart b_regEnd : Nat → Int32} {B : Nat → Int32} {K : Nat → Nat} {C F D v L : Nat} {n : Nat} {p q : Nat → Nat} {w : Nat → Int32} {d : Nat → Nat} {rl td : Nat → List sd_At} {rg : Nat → List (Nat × Nat)} {post : SY → Prop}
/-- an atom without region, added -/
theorem sy_addN (I : sd_Inv B K C F D v L n p q w d rl td rg) (R : sy_R 2 v n p q w b_version b_type b_items b_parent b_field b_val) {m f : Nat} {sg : Bool} {x : Int32} {rest : List sd_At} (hm : m ≤ n) (hms : sw_ms K F v p q w m) (ht : td m = (f, sg, x, none) :: rest)
    (hsg : sg = false ∨ sw_L p q m f n = []) (hn : n < C) (hC : C ≤ 120) (hf : f ≤ F) (hk : 1 ≤ f → 1 ≤ sw_kd K F (sw_sc v w m) f) (hx : ¬ 10 ≤ sw_kd K F (sw_sc v w m) f)
    (h : ∀ (n' : Nat) (p' q' : Nat → Nat) (w' : Nat → Int32) (d' : Nat → Nat) (rl' td' : Nat → List sd_At) (rg' : Nat → List (Nat × Nat)) (b_version' b_type' b_items' b_parent' b_field' b_val' : Nat → Int32), sd_Nx B K C F D v L n p q w d td n' p' q' w' d' rl' td' rg' m rest → sy_R 2 v n' p' q' w' b_version' b_type' b_items' b_parent' b_field' b_val' → sy_Fr 2 b_version b_type b_items b_parent b_field b_val b_version' b_type' b_items' b_parent' b_field' b_val' → n' = n + 1 → post (g_capacity, g_maxField, g_maxDepth, g_outLen, g_regions, g_pos, g_bad, b_kinds, b_held, b_version', b_type', b_cursor, b_items', b_parent', b_field', b_val', b_bytes, b_length, b_out, b_encStart, b_encLen, b_partner, b_regMsg, b_regStart, b_regEnd)) : wpY_add post (g_capacity, g_maxField, g_maxDepth, g_outLen, g_regions, g_pos, g_bad, b_kinds, b_held, b_version, b_type, b_cursor, b_items, b_parent, b_field, b_val, b_bytes, b_length, b_out, b_encStart, b_encLen, b_partner, b_regMsg, b_regStart, b_regEnd) 2 (sw_mI m) (nI f) x := by
  obtain ⟨rl', td', rg', hN⟩ := sd_nxA I hm hms ht hsg hn hf hk hx
  exact sy_addP (s := 2) R (by omega) (by omega) (h _ _ _ _ _ rl' td' rg' _ _ _ _ _ _ hN (sy_add R) (sy_Fr_add (by omega)) rfl)
theorem sy_rr405 {b m e : Nat} {rest : List sd_At} (hC : C ≤ 120) (hm : m ≤ n) (hms : sw_ms K F v p q w m) (he : b * 120 + e ≤ 240) (hB : ∀ i, B i = b_bytes (b * 120 + i)) {Z : Nat}
    (h : ∀ (n' : Nat) (p' q' : Nat → Nat) (w' : Nat → Int32) (d' : Nat → Nat) (rl' td' : Nat → List sd_At) (rg' : Nat → List (Nat × Nat)) (b_version' b_type' b_items' b_parent' b_field' b_val' : Nat → Int32), sd_Nx B K C F D v L n p q w d td n' p' q' w' d' rl' td' rg' m rest → sy_R 2 v n' p' q' w' b_version' b_type' b_items' b_parent' b_field' b_val' → sy_Fr 2 b_version b_type b_items b_parent b_field b_val b_version' b_type' b_items' b_parent' b_field' b_val' → n' + Z ≤ C → post (g_capacity, g_maxField, g_maxDepth, g_outLen, g_regions, nI e, g_bad, b_kinds, b_held, b_version', b_type', b_cursor, b_items', b_parent', b_field', b_val', b_bytes, b_length, b_out, b_encStart, b_encLen, b_partner, b_regMsg, b_regStart, b_regEnd)) :
    ∀ (k at0 : Nat) (n' : Nat) (p' q' : Nat → Nat) (w' : Nat → Int32) (d' : Nat → Nat) (rl' td' : Nat → List sd_At) (rg' : Nat → List (Nat × Nat)) (b_version' b_type' b_items' b_parent' b_field' b_val' : Nat → Int32), at0 + k = e → sd_Nx B K C F D v L n p q w d td n' p' q' w' d' rl' td' rg' m (sd_un B at0 e ++ rest) → sy_R 2 v n' p' q' w' b_version' b_type' b_items' b_parent' b_field' b_val' → sy_Fr 2 b_version b_type b_items b_parent b_field b_val b_version' b_type' b_items' b_parent' b_field' b_val' → n' + (e - at0) + Z ≤ C →
      wY_readRecord_405 post (nI b) (sw_mI m) (nI e) (k + 1) (nI at0) g_capacity g_maxField g_maxDepth g_outLen g_regions g_pos g_bad b_kinds b_held b_version' b_type' b_cursor b_items' b_parent' b_field' b_val' b_bytes b_length b_out b_encStart b_encLen b_partner b_regMsg b_regStart b_regEnd := by
  intro k
  induction k with
  | zero =>
    intro at0 n' p' q' w' d' rl' td' rg' b_version' b_type' b_items' b_parent' b_field' b_val' ha hN R Fr hn
    rw [sd_un_e (by omega), List.nil_append] at hN
    exact br_t (nI_le (by omega) (by omega)) (h _ _ _ _ _ _ _ _ _ _ _ _ _ _ hN R Fr (by omega))
  | succ k ih =>
    intro at0 n' p' q' w' d' rl' td' rg' b_version' b_type' b_items' b_parent' b_field' b_val' ha hN R Fr hn
    rw [sd_un_c (by omega)] at hN
    have hE := hN.2.1
    have hm' : m ≤ n' := Nat.le_trans hm hE.1
    have hms' := ((hE.2 m hm).2 hms).1
    have hk0 : sw_kd K F (sw_sc v w' m) 0 = 0 := sw_kd_out (by omega)
    rw [wY_readRecord_405]
    dsimp only
    rw [sn_120, nI_clamp (n := b * 120 + at0) (by omega), nI_1 at0, ← hB]
    refine br_f (nI_ge (by omega) (by omega)) ⟨vp_in_nI (by omega) (by omega), ?_⟩
    refine sy_addN (f := 0) hN.1 R hm' hms' hN.2.2.1 (Or.inl rfl) (by omega) hC (Nat.zero_le _) (fun y => by omega) (by omega) (fun n2 p2 q2 w2 d2 rl2 td2 rg2 ve2 ty2 it2 pa2 fi2 va2 hN2 R2 Fr2 en2 => nm_e ?_)
    exact ih (at0 + 1) n2 p2 q2 w2 d2 rl2 td2 rg2 ve2 ty2 it2 pa2 fi2 va2 (by omega) (sd_Nx_trans hm hN hN2) R2 (fun s v0 n0 p0 q0 w0 y1 y2 y3 y4 => Fr2 s v0 n0 p0 q0 w0 y1 y2 y3 (Fr s v0 n0 p0 q0 w0 y1 y2 y3 y4)) (by omega)
/-- packed ints -/
theorem sy_rr234 {b m f kk st : Nat} {rest : List sd_At} {x13 : Int32} {G : Prop} (hC : C ≤ 120) (hm : m ≤ n) (hms : sw_ms K F v p q w m) (he : b * 120 + st ≤ 240) (hst : st ≤ 120) (hB : B = fun i => b_bytes (b * 120 + i)) {Z : Nat}
    (hf1 : 1 ≤ f) (hkk : kk = sw_kd K F (sw_sc v w m) f) (hk4 : 4 ≤ kk) (hk9 : kk ≤ 9)
    (hbad : ¬ G → ∀ (r : Int32) (b_version' b_type' b_items' b_parent' b_field' b_val' : Nat → Int32), sy_Fr 2 b_version b_type b_items b_parent b_field b_val b_version' b_type' b_items' b_parent' b_field' b_val' → post (g_capacity, g_maxField, g_maxDepth, g_outLen, g_regions, r, 1, b_kinds, b_held, b_version', b_type', b_cursor, b_items', b_parent', b_field', b_val', b_bytes, b_length, b_out, b_encStart, b_encLen, b_partner, b_regMsg, b_regStart, b_regEnd))
    (hok : G → ∀ (n' : Nat) (p' q' : Nat → Nat) (w' : Nat → Int32) (d' : Nat → Nat) (rl' td' : Nat → List sd_At) (rg' : Nat → List (Nat × Nat)) (b_version' b_type' b_items' b_parent' b_field' b_val' : Nat → Int32), sd_Nx B K C F D v L n p q w d td n' p' q' w' d' rl' td' rg' m rest → sy_R 2 v n' p' q' w' b_version' b_type' b_items' b_parent' b_field' b_val' → sy_Fr 2 b_version b_type b_items b_parent b_field b_val b_version' b_type' b_items' b_parent' b_field' b_val' → n' + Z ≤ C → post (g_capacity, g_maxField, g_maxDepth, g_outLen, g_regions, nI st, 0, b_kinds, b_held, b_version', b_type', b_cursor, b_items', b_parent', b_field', b_val', b_bytes, b_length, b_out, b_encStart, b_encLen, b_partner, b_regMsg, b_regStart, b_regEnd)) :
    ∀ (N pp cnt : Nat) (n' : Nat) (p' q' : Nat → Nat) (w' : Nat → Int32) (d' : Nat → Nat) (rl' td' : Nat → List sd_At) (rg' : Nat → List (Nat × Nat)) (b_version' b_type' b_items' b_parent' b_field' b_val' : Nat → Int32), st - pp ≤ N → pp ≤ st → cnt ≤ pp → (G ↔ ∃ l, sd_pk B kk st (st - pp) pp = some l) →
      (∀ l, sd_pk B kk st (st - pp) pp = some l → sd_Nx B K C F D v L n p q w d td n' p' q' w' d' rl' td' rg' m (l.map (fun x => (f, false, x, none)) ++ rest)) →
      sw_WF K C F D v n' p' q' w' d' → sd_Ext K F v n p q w d n' p' q' w' d' → sy_R 2 v n' p' q' w' b_version' b_type' b_items' b_parent' b_field' b_val' → sy_Fr 2 b_version b_type b_items b_parent b_field b_val b_version' b_type' b_items' b_parent' b_field' b_val' → n' + (st - pp) + Z ≤ C →
      wY_readRecord_234 post (nI b) (sw_mI m) (nI f) (nI st) (nI kk) x13 (N + 1) (nI cnt) g_capacity g_maxField g_maxDepth g_outLen g_regions (nI pp) 0 b_kinds b_held b_version' b_type' b_cursor b_items' b_parent' b_field' b_val' b_bytes b_length b_out b_encStart b_encLen b_partner b_regMsg b_regStart b_regEnd := by
  have hend : ∀ (pp : Nat) (n' : Nat) (p' q' : Nat → Nat) (w' : Nat → Int32) (d' : Nat → Nat) (rl' td' : Nat → List sd_At) (rg' : Nat → List (Nat × Nat)) (b_version' b_type' b_items' b_parent' b_field' b_val' : Nat → Int32), pp = st → (G ↔ ∃ l, sd_pk B kk st (st - pp) pp = some l) →
      (∀ l, sd_pk B kk st (st - pp) pp = some l → sd_Nx B K C F D v L n p q w d td n' p' q' w' d' rl' td' rg' m (l.map (fun x => (f, false, x, none)) ++ rest)) →
      sy_R 2 v n' p' q' w' b_version' b_type' b_items' b_parent' b_field' b_val' → sy_Fr 2 b_version b_type b_items b_parent b_field b_val b_version' b_type' b_items' b_parent' b_field' b_val' → n' + Z ≤ C → post (g_capacity, g_maxField, g_maxDepth, g_outLen, g_regions, nI st, 0, b_kinds, b_held, b_version', b_type', b_cursor, b_items', b_parent', b_field', b_val', b_bytes, b_length, b_out, b_encStart, b_encLen, b_partner, b_regMsg, b_regStart, b_regEnd) := by
    intro pp n' p' q' w' d' rl' td' rg' b_version' b_type' b_items' b_parent' b_field' b_val' epp hG hN R Fr hn
    subst epp
    have e0 : sd_pk B kk pp (pp - pp) pp = some [] := by
      rw [Nat.sub_self, sd_pk, if_pos (Nat.le_refl _)]
    exact hok (hG.mpr ⟨[], e0⟩) _ _ _ _ _ _ _ _ _ _ _ _ _ _ (hN [] e0) R Fr hn
  intro N
  induction N with
  | zero =>
    intro pp cnt n' p' q' w' d' rl' td' rg' b_version' b_type' b_items' b_parent' b_field' b_val' hN0 hpp hcnt hG hN W' hE R Fr hn
    unfold wY_readRecord_234
    exact br_c (fun _ => hend pp _ _ _ _ _ _ _ _ _ _ _ _ _ _ (by omega) hG hN R Fr (by omega)) (fun _ => br_t (nI_le (by omega) (by omega)) (hend pp _ _ _ _ _ _ _ _ _ _ _ _ _ _ (by omega) hG hN R Fr (by omega)))
  | succ N ih =>
    intro pp cnt n' p' q' w' d' rl' td' rg' b_version' b_type' b_items' b_parent' b_field' b_val' hN0 hpp hcnt hG hN W' hE R Fr hn
    by_cases hlt : pp < st
    · have hm' : m ≤ n' := Nat.le_trans hm hE.1
      have hmw := (hE.2 m hm).2 hms
      have hsc : sw_sc v w' m = sw_sc v w m := by rw [sw_sc, sw_sc, hmw.2]
      have hf2 : f ≤ F := by
        apply Classical.byContradiction
        intro z
        rw [sw_kd_out (by omega)] at hkk; omega
      obtain ⟨gg, hgg⟩ : ∃ gg, st - pp = gg + 1 := ⟨st - pp - 1, by omega⟩
      have hpk : sd_pk B kk st (st - pp) pp = (sd_pl B kk st pp).bind (fun r => (sd_pk B kk st gg r.2).map (fun l => r.1 :: l)) := by rw [hgg, sd_pk, if_neg (by omega)]
      rw [wY_readRecord_234]
      dsimp only
      rw [nI_1 cnt]
      refine br_f (nI_ge (b := 120) (by omega) (by omega)) (br_f (nI_ge (by omega) (by omega)) (br_t rfl ?_))
      subst hB
      refine sy_readPayload he hpp (by omega) (fun c x r => ?_) (fun u pp' c => ?_)
      · have hnG : ¬ G := fun g => by
          obtain ⟨l, hl2⟩ := hG.mp g
          rw [hpk, c] at hl2; cases hl2
        refine pk_lt 3 kk (fun _ => ?_) (fun y => by omega)
        unfold wY_readRecord_295
        refine sy_addP (s := 2) R (by omega) (by omega) (nm_e ?_)
        unfold wY_readRecord_234
        have Fr2 := sy_Fr_add (s0 := 2) (n := n') (by omega : n' < 120) (x := sw_mI m) (y := nI f) (z := x) (i := nI (n' + 1)) (b_version := b_version') (b_type := b_type') (b_items := b_items') (b_parent := b_parent') (b_field := b_field') (b_val := b_val')
        have Fr3 : sy_Fr 2 b_version b_type b_items b_parent b_field b_val b_version' b_type' (upd b_items' 2 (nI (n' + 1))) (upd b_parent' (2 * 120 + n') (sw_mI m)) (upd b_field' (2 * 120 + n') (nI f)) (upd b_val' (2 * 120 + n') x) := fun s v0 n0 p0 q0 w0 y1 y2 y3 y4 => Fr2 s v0 n0 p0 q0 w0 y1 y2 y3 (Fr s v0 n0 p0 q0 w0 y1 y2 y3 y4)
        exact br_c (fun _ => hbad hnG _ _ _ _ _ _ _ Fr3) (fun _ => br_c (fun _ => hbad hnG _ _ _ _ _ _ _ Fr3) (fun _ => br_f (show ¬ (1 : Int32) = 0 by decide) (hbad hnG _ _ _ _ _ _ _ Fr3)))
      · have hl := sd_pl_lt c
        have hpk2 : sd_pk (fun i => b_bytes (b * 120 + i)) kk st (st - pp) pp = (sd_pk (fun i => b_bytes (b * 120 + i)) kk st (st - pp') pp').map (fun l => u :: l) := by
          rw [hpk, c, Option.bind_some, sd_pk_stab gg (st - pp') pp' (by omega) (Nat.le_refl _)]
        have hiff : G ↔ ∃ l, sd_pk (fun i => b_bytes (b * 120 + i)) kk st (st - pp') pp' = some l := by
          rw [hG, hpk2]
          constructor
          · rintro ⟨l, hl2⟩
            cases hq : sd_pk (fun i => b_bytes (b * 120 + i)) kk st (st - pp') pp' with
            | none => rw [hq] at hl2; cases hl2
            | some l2 => exact ⟨l2, rfl⟩
          · rintro ⟨l, hl2⟩
            exact ⟨_, by rw [hl2]; rfl⟩
        have hx : ∃ l2, (G → sd_pk (fun i => b_bytes (b * 120 + i)) kk st (st - pp') pp' = some l2) := by
          by_cases g : G
          · obtain ⟨l, hl2⟩ := hiff.mp g; exact ⟨l, fun _ => hl2⟩
          · exact ⟨[], fun y => absurd y g⟩
        obtain ⟨l2, hl2⟩ := hx
        refine pk_lt 3 kk (fun _ => ?_) (fun y => by omega)
        unfold wY_readRecord_295
        rw [nI_1 cnt]
        have hW2 := sw_WF_add (x := u) W' hm' hmw.1 hf2 (by omega) (fun _ => by rw [hsc, ← hkk]; omega) (fun y => by rw [hsc, ← hkk] at y; omega)
        have hex : ∃ (rl2 td2 : Nat → List sd_At) (rg2 : Nat → List (Nat × Nat)), (G → sd_Nx (fun i => b_bytes (b * 120 + i)) K C F D v L n p q w d td (n' + 1) (sw_up p' (n' + 1) m) (sw_up q' (n' + 1) f) (upd w' (n' + 1) u) (sw_up d' (n' + 1) (d' m + 1)) rl2 td2 rg2 m (l2.map (fun x => (f, false, x, none)) ++ rest)) := by
          by_cases g : G
          · have hh := hN _ (by rw [hpk2, hl2 g]; rfl)
            obtain ⟨rl2, td2, rg2, hN2⟩ := sd_nxA hh.1 hm' hmw.1 hh.2.2.1 (Or.inl rfl) (by omega) hf2 (fun _ => by rw [hsc, ← hkk]; omega) (by rw [hsc, ← hkk]; omega)
            exact ⟨rl2, td2, rg2, fun _ => sd_Nx_trans hm hh hN2⟩
          · exact ⟨rl', td', rg', fun y => absurd y g⟩
        obtain ⟨rl2, td2, rg2, hN2⟩ := hex
        have Fr2 := sy_Fr_add (s0 := 2) (n := n') (by omega : n' < 120) (x := sw_mI m) (y := nI f) (z := u) (i := nI (n' + 1)) (b_version := b_version') (b_type := b_type') (b_items := b_items') (b_parent := b_parent') (b_field := b_field') (b_val := b_val')
        refine sy_addP (s := 2) R (by omega) (by omega) (nm_e ?_)
        refine ih pp' (cnt + 1) _ _ _ _ _ rl2 td2 rg2 _ _ _ _ _ _ (by omega) (by omega) (by omega) hiff (fun l hl3 => ?_) hW2 (sd_Ext_trans hE (sd_Ext_add (sw_up_of W'))) (sy_add R) (fun s v0 n0 p0 q0 w0 y1 y2 y3 y4 => Fr2 s v0 n0 p0 q0 w0 y1 y2 y3 (Fr s v0 n0 p0 q0 w0 y1 y2 y3 y4)) (by omega)
        have g : G := hiff.mpr ⟨l, hl3⟩
        have e2 : l2 = l := Option.some.inj ((hl2 g).symm.trans hl3)
        subst e2
        exact hN2 g
    · unfold wY_readRecord_234
      exact br_c (fun _ => hend pp _ _ _ _ _ _ _ _ _ _ _ _ _ _ (by omega) hG hN R Fr (by omega)) (fun _ => br_t (nI_le (by omega) (by omega)) (hend pp _ _ _ _ _ _ _ _ _ _ _ _ _ _ (by omega) hG hN R Fr (by omega)))
end
end
section
section
variable {g_capacity g_maxField g_maxDepth g_outLen g_regions g_pos g_bad : Int32} {b_kinds b_held b_version b_type b_cursor b_items b_parent b_field b_val b_bytes b_length b_out b_encStart b_encLen b_partner b_regMsg b_regStart b_regEnd : Nat → Int32} {B : Nat → Int32} {K : Nat → Nat} {C F D v L : Nat} {n : Nat} {p q : Nat → Nat} {w : Nat → Int32} {d : Nat → Nat} {rl td : Nat → List sd_At} {rg : Nat → List (Nat × Nat)} {post : SY → Prop}
/-- one int of its own wire type -/
theorem sy_own {b m f kk p1 p2 : Nat} {u : Int32} {rest : List sd_At} (hC : C ≤ 120) (hF : F ≤ 20) (I : sd_Inv B K C F D v L n p q w d rl td rg) (R : sy_R 2 v n p q w b_version b_type b_items b_parent b_field b_val) (hm : m ≤ n) (hms : sw_ms K F v p q w m) (he : b * 120 + p2 ≤ 240) (hB : B = fun i => b_bytes (b * 120 + i))
    (hf1 : 1 ≤ f) (hkk : kk = sw_kd K F (sw_sc v w m) f) (hk1 : 1 ≤ kk) (hk9 : kk ≤ 9) (hn : n < C) (hpl : sd_pl B kk p2 p1 = some (u, p2)) (htd : td m = (f, decide (kk ≤ 3), u, none) :: rest)
    (hok : ∀ (n' : Nat) (p' q' : Nat → Nat) (w' : Nat → Int32) (d' : Nat → Nat) (rl' td' : Nat → List sd_At) (rg' : Nat → List (Nat × Nat)) (b_version' b_type' b_items' b_parent' b_field' b_val' : Nat → Int32), sd_Nx B K C F D v L n p q w d td n' p' q' w' d' rl' td' rg' m rest → sy_R 2 v n' p' q' w' b_version' b_type' b_items' b_parent' b_field' b_val' → sy_Fr 2 b_version b_type b_items b_parent b_field b_val b_version' b_type' b_items' b_parent' b_field' b_val' → n' ≤ n + 1 → post (g_capacity, g_maxField, g_maxDepth, g_outLen, g_regions, nI p2, 0, b_kinds, b_held, b_version', b_type', b_cursor, b_items', b_parent', b_field', b_val', b_bytes, b_length, b_out, b_encStart, b_encLen, b_partner, b_regMsg, b_regStart, b_regEnd)) :
    wY_readRecord_234 post (nI b) (sw_mI m) (nI f) (nI p2) (nI kk) (sw_oY ((sw_L p q m f n)[0]?)) 2 0 g_capacity g_maxField g_maxDepth g_outLen g_regions (nI p1) 0 b_kinds b_held b_version b_type b_cursor b_items b_parent b_field b_val b_bytes b_length b_out b_encStart b_encLen b_partner b_regMsg b_regStart b_regEnd := by
  have hlt := sd_pl_lt hpl
  have hnn := I.1.1
  have hf2 : f ≤ F := by
    apply Classical.byContradiction
    intro z
    rw [sw_kd_out (by omega)] at hkk; omega
  have hend : ∀ (x13 : Int32) (n' : Nat) (p' q' : Nat → Nat) (w' : Nat → Int32) (d' : Nat → Nat) (rl' td' : Nat → List sd_At) (rg' : Nat → List (Nat × Nat)) (b_version' b_type' b_items' b_parent' b_field' b_val' : Nat → Int32), sd_Nx B K C F D v L n p q w d td n' p' q' w' d' rl' td' rg' m rest → sy_R 2 v n' p' q' w' b_version' b_type' b_items' b_parent' b_field' b_val' → sy_Fr 2 b_version b_type b_items b_parent b_field b_val b_version' b_type' b_items' b_parent' b_field' b_val' → n' ≤ n + 1 → ∀ x14 : Int32, x14 = 0 + 1 → wY_readRecord_234 post (nI b) (sw_mI m) (nI f) (nI p2) (nI kk) x13 1 x14 g_capacity g_maxField g_maxDepth g_outLen g_regions (nI p2) 0 b_kinds b_held b_version' b_type' b_cursor b_items' b_parent' b_field' b_val' b_bytes b_length b_out b_encStart b_encLen b_partner b_regMsg b_regStart b_regEnd := by
    intro x13 n' p' q' w' d' rl' td' rg' b_version' b_type' b_items' b_parent' b_field' b_val' hN R2 Fr hn2 x14 ex
    subst ex
    unfold wY_readRecord_234
    exact br_f (by decide) (br_t (nI_le (Nat.le_refl _) (by omega)) (hok _ _ _ _ _ _ _ _ _ _ _ _ _ _ hN R2 Fr hn2))
  rw [wY_readRecord_234]
  dsimp only
  refine br_f (by decide) (br_f (nI_ge (by omega) (by omega)) (br_t rfl ?_))
  subst hB
  refine sy_readPayload he (by omega) (by omega) (fun c => ?_) (fun u' p' c => ?_)
  · rw [hpl] at c; cases c
  rw [hpl] at c
  injection c with c
  injection c with c1 c2
  subst c1 c2
  have hadd : (decide (kk ≤ 3) = false ∨ sw_L p q m f n = []) → wY_readRecord_295 post (wY_readRecord_234 post (nI b) (sw_mI m) (nI f) (nI p2) (nI kk) (sw_oY ((sw_L p q m f n)[0]?)) 1) (nI b) (sw_mI m) (nI f) (nI p2) (nI kk) (sw_oY ((sw_L p q m f n)[0]?)) 0 u g_capacity g_maxField g_maxDepth g_outLen g_regions (nI p2) 0 b_kinds b_held b_version b_type b_cursor b_items b_parent b_field b_val b_bytes b_length b_out b_encStart b_encLen b_partner b_regMsg b_regStart b_regEnd := by
    intro hsg
    unfold wY_readRecord_295
    exact sy_addN I R hm hms htd hsg hn hC hf2 (fun _ => by rw [← hkk]; exact hk1) (by rw [← hkk]; omega) (fun n' p' q' w' d' rl' td' rg' b_version' b_type' b_items' b_parent' b_field' b_val' hN R2 Fr en2 => hend _ _ _ _ _ _ _ _ _ _ _ _ _ _ _ hN R2 Fr (by omega))
  refine pk_lt 3 kk (fun y => hadd (Or.inl (decide_eq_false (by omega)))) (fun y => ?_)
  cases ho : (sw_L p q m f n)[0]? with
  | none =>
    refine br_t (show (-1 : Int32) < 0 by decide) ?_
    rw [ho] at hadd
    exact hadd (Or.inr (List.eq_nil_of_length_eq_zero (by have := List.getElem?_eq_none_iff.mp ho; omega)))
  | some j =>
    have jm := sw_mem.mp (sw_nthmem ho)
    have hnm : ¬ sw_ms K F v p q w j := fun z => by have := (sw_msL I.1 (sw_nthmem ho)).mp z; omega
    have e240 : (240 : Int32) + sw_mI j = nI (2 * 120 + (j - 1)) := by
      rw [sw_mI_p jm.1, show (240 : Int32) = nI 240 from rfl, nI_add]
    rw [show sw_oY (some j) = sw_mI j from rfl, e240, nI_clamp (n := 2 * 120 + (j - 1)) (by omega)]
    refine br_f (fun z => by have := (sw_mI_neg (a := j) (by omega)).mp z; omega) ⟨vp_in_nI (by omega) (by omega), nm_e ?_⟩
    rw [decide_eq_true (by omega : kk ≤ 3)] at htd
    obtain ⟨rl', td', rg', hN⟩ := sd_nxS I hm htd ho (by rw [← hkk]; omega)
    exact hend _ n p q (upd w j u) d rl' td' rg' _ _ _ _ _ _ hN (sy_set R jm.1) (sy_Fr_set (by omega)) (by omega)
theorem sy_readRecord (X : sw_Cx K C F D g_capacity g_maxField g_maxDepth b_kinds) (I : sd_Inv B K C F D v L n p q w d rl td rg) (R : sy_R 2 v n p q w b_version b_type b_items b_parent b_field b_val) {b m pp e rgs Z : Nat} {rest : List sd_At} (hb : b < 2) (hm : m ≤ n) (hms : sw_ms K F v p q w m) (hB : B = fun i => b_bytes (b * 120 + i)) (he : e ≤ 120) (hpp : pp < e) (hn : n + (e - pp) + Z ≤ C) (htd : td m = sd_A B K F D (sw_sc v w m) (d m) pp e ++ rest) (hrg : g_regions = nI rgs) (hrg2 : rgs < 128)
    (hbad : sd_rec B (sw_kd K F (sw_sc v w m)) D (d m) pp e = none → ∀ (r : Int32) (b_version' b_type' b_items' b_parent' b_field' b_val' : Nat → Int32), sy_Fr 2 b_version b_type b_items b_parent b_field b_val b_version' b_type' b_items' b_parent' b_field' b_val' → post (g_capacity, g_maxField, g_maxDepth, g_outLen, g_regions, r, 1, b_kinds, b_held, b_version', b_type', b_cursor, b_items', b_parent', b_field', b_val', b_bytes, b_length, b_out, b_encStart, b_encLen, b_partner, b_regMsg, b_regStart, b_regEnd))
    (hok : ∀ p2 as, sd_rec B (sw_kd K F (sw_sc v w m)) D (d m) pp e = some (p2, as) → (∀ a, a ∈ as → a.2.2.2 = none) → ∀ (n' : Nat) (p' q' : Nat → Nat) (w' : Nat → Int32) (d' : Nat → Nat) (rl' td' : Nat → List sd_At) (rg' : Nat → List (Nat × Nat)) (b_version' b_type' b_items' b_parent' b_field' b_val' : Nat → Int32), sd_Nx B K C F D v L n p q w d td n' p' q' w' d' rl' td' rg' m (sd_A B K F D (sw_sc v w m) (d m) p2 e ++ rest) → sy_R 2 v n' p' q' w' b_version' b_type' b_items' b_parent' b_field' b_val' → sy_Fr 2 b_version b_type b_items b_parent b_field b_val b_version' b_type' b_items' b_parent' b_field' b_val' → n' + (e - p2) + Z ≤ C → post (g_capacity, g_maxField, g_maxDepth, g_outLen, g_regions, nI p2, 0, b_kinds, b_held, b_version', b_type', b_cursor, b_items', b_parent', b_field', b_val', b_bytes, b_length, b_out, b_encStart, b_encLen, b_partner, b_regMsg, b_regStart, b_regEnd))
    (hsub : ∀ (f : Nat) (x : Int32) (c st : Nat) (sg : Bool), sd_rec B (sw_kd K F (sw_sc v w m)) D (d m) pp e = some (st, [(f, sg, x, some (c, st))]) → ∀ (n' : Nat) (p' q' : Nat → Nat) (w' : Nat → Int32) (d' : Nat → Nat) (rl' td' : Nat → List sd_At) (rg' : Nat → List (Nat × Nat)) (b_version' b_type' b_items' b_parent' b_field' b_val' : Nat → Int32) (tg : Nat), sd_Sb B K C F D v L n p q w d td n' p' q' w' d' rl' td' rg' m (sd_A B K F D (sw_sc v w m) (d m) st e ++ rest) x c st tg → sy_R 2 v n' p' q' w' b_version' b_type' b_items' b_parent' b_field' b_val' → sy_Fr 2 b_version b_type b_items b_parent b_field b_val b_version' b_type' b_items' b_parent' b_field' b_val' → n' ≤ n + 1 → post (g_capacity, g_maxField, g_maxDepth, g_outLen, nI (rgs + 1), nI st, 0, b_kinds, b_held, b_version', b_type', b_cursor, b_items', b_parent', b_field', b_val', b_bytes, b_length, b_out, b_encStart, b_encLen, b_partner, upd b_regMsg rgs (sw_mI tg), upd b_regStart rgs (nI c), upd b_regEnd rgs (nI st))) :
    wpY_readRecord post (g_capacity, g_maxField, g_maxDepth, g_outLen, g_regions, nI pp, 0, b_kinds, b_held, b_version, b_type, b_cursor, b_items, b_parent, b_field, b_val, b_bytes, b_length, b_out, b_encStart, b_encLen, b_partner, b_regMsg, b_regStart, b_regEnd) (nI b) (sw_mI m) (nI e) := by
  have X0 := X
  obtain ⟨x1, x2, x3', x4, x5, x6, e1, e2, e3, x7⟩ := X
  have hs9 := (sw_sc_lt I.1 hm hms).1
  have hdm := (I.1.2.2.2.2 m hm hms).2
  have hdl := sw_d_le I.1 m hm
  have hnn := I.1.1
  have htdr : ∀ p' as, sd_rec B (sw_kd K F (sw_sc v w m)) D (d m) pp e = some (p', as) → td m = as ++ (sd_A B K F D (sw_sc v w m) (d m) p' e ++ rest) := by
    intro p' as hr
    rw [htd, sd_A_step (by omega) hpp hr, List.append_assoc]
  have hBB := hB
  subst hrg
  have h50 : sd_rec B (sw_kd K F (sw_sc v w m)) D (d m) pp e = none → ∀ (x6 x7 r br : Int32), wY_readRecord_50 post (nI b) (sw_mI m) (nI e) (nI pp) x6 x7 g_capacity g_maxField g_maxDepth g_outLen (nI rgs) r br b_kinds b_held b_version b_type b_cursor b_items b_parent b_field b_val b_bytes b_length b_out b_encStart b_encLen b_partner b_regMsg b_regStart b_regEnd := by
    intro h x6 x7 r br
    unfold wY_readRecord_50 wY_readRecord_55
    exact br_f (by decide) (hbad h r _ _ _ _ _ _ sy_Fr_refl)
  have h143 : sd_rec B (sw_kd K F (sw_sc v w m)) D (d m) pp e = none → ∀ (x6 x7 x8 x9 r : Int32), wY_readRecord_143 post (nI b) (sw_mI m) (nI pp) x6 x7 x8 x9 g_capacity g_maxField g_maxDepth g_outLen (nI rgs) r 1 b_kinds b_held b_version b_type b_cursor b_items b_parent b_field b_val b_bytes b_length b_out b_encStart b_encLen b_partner b_regMsg b_regStart b_regEnd := by
    intro h x6 x7 x8 x9 r
    unfold wY_readRecord_143
    exact br_f (by decide) (hbad h r _ _ _ _ _ _ sy_Fr_refl)
  have h124 : sd_rec B (sw_kd K F (sw_sc v w m)) D (d m) pp e = none → ∀ (x6 x7 x8 x9 r : Int32), wY_readRecord_124 post (nI b) (sw_mI m) (nI e) (nI pp) x6 x7 x8 x9 g_capacity g_maxField g_maxDepth g_outLen (nI rgs) r 1 b_kinds b_held b_version b_type b_cursor b_items b_parent b_field b_val b_bytes b_length b_out b_encStart b_encLen b_partner b_regMsg b_regStart b_regEnd := by
    intro h x6 x7 x8 x9 r
    unfold wY_readRecord_124 wY_readRecord_138
    exact br_c (fun _ => h143 h _ _ _ _ _) (fun _ => br_c (fun _ => h143 h _ _ _ _ _) (fun _ => h143 h _ _ _ _ _))
  unfold wpY_readRecord
  rw [hB] at hbad hok hsub htdr h50 h143 h124
  refine sy_readVarint (by omega) (by omega) (fun c r => nm_e (nm_e (br_t (by decide) (h50 ?_ _ _ _ _)))) (fun tag p1 c => ?_)
  · unfold sd_rec; rw [c]
  have hlt := sd_rd_lt c
  obtain ⟨ef, hf⟩ := sd_fo_nI tag
  have hk15 := sw_kd_le (K := K) (F := F) (s := sw_sc v w m) (f := sd_fo tag) (fun i h => (x7 i h).1) x4 hs9
  obtain ⟨y, hy8, ey⟩ := pk_andE tag 3 (m := 7) (by decide)
  have own0 : ∀ k, k % 3 ≠ 0 → nI (se_own k) = 0 := fun k h => by unfold se_own; rw [if_neg h]; rfl
  have own5 : ∀ k, k % 3 = 0 → nI (se_own k) = 5 := fun k h => by unfold se_own; rw [if_pos h]; rfl
  have ownN : ∀ k, se_own k = 0 ∨ se_own k = 5 := fun k => by unfold se_own; split <;> omega
  have hrec : sd_rec (fun i => b_bytes (b * 120 + i)) (sw_kd K F (sw_sc v w m)) D (d m) pp e = if sd_fo tag = 0 then none else if nI y = 2 then sd_delim (fun i => b_bytes (b * 120 + i)) (sw_kd K F (sw_sc v w m) (sd_fo tag)) (sd_fo tag) D (d m) pp p1 e else sd_plain (fun i => b_bytes (b * 120 + i)) (sw_kd K F (sw_sc v w m) (sd_fo tag)) (sd_fo tag) pp p1 e (nI y) := by
    unfold sd_rec; rw [c, ← ey]
  dsimp only
  rw [ef, ey]
  refine nm_e (nm_e (pk_eq (sd_fo tag) 0 (fun z => h50 ?_ _ _ _ _) (fun z => pk_eq y 3 (fun z3 => h50 ?_ _ _ _ _) (fun z3 => pk_eq y 4 (fun z4 => h50 ?_ _ _ _ _) (fun z4 => pk_le y 5 (fun z5 => ?_) (fun z5 => h50 ?_ _ _ _ _))))))
  · rw [hrec, if_pos z]
  · rw [hrec, if_neg z, z3, if_neg (by decide), sd_plain, if_neg (by decide), if_neg (by decide), if_neg (by decide)]
  · rw [hrec, if_neg z, z4, if_neg (by decide), sd_plain, if_neg (by decide), if_neg (by decide), if_neg (by decide)]
  rotate_left
  · have hn2 : ∀ k, k < 6 → ¬ nI y = nI k := fun k hk h => by rw [nI_eq (by omega) (by omega)] at h; omega
    rw [hrec, if_neg z, if_neg (show ¬ nI y = 2 from hn2 2 (by omega)), sd_plain, if_neg (show ¬ nI y = 0 from hn2 0 (by omega)), if_neg (show ¬ nI y = 5 from hn2 5 (by omega)), if_neg (show ¬ nI y = 1 from hn2 1 (by omega))]
  rw [if_neg z] at hrec
  -- behind the length: the kind, the first old fact
  have h143g : ∀ (fr ln : Nat) (rp : Int32), fr + ln ≤ e → (∀ z0 : Int32, z0 = nI (se_own (sw_kd K F (sw_sc v w m) (sd_fo tag))) → wY_readRecord_180 post (nI b) (sw_mI m) (nI pp) (nI y) (nI (sd_fo tag)) (nI fr) (nI (fr + ln)) (nI (sw_kd K F (sw_sc v w m) (sd_fo tag))) z0 g_capacity g_maxField g_maxDepth g_outLen (nI rgs) rp 0 b_kinds b_held b_version b_type b_cursor b_items b_parent b_field b_val b_bytes b_length b_out b_encStart b_encLen b_partner b_regMsg b_regStart b_regEnd) →
      wY_readRecord_143 post (nI b) (sw_mI m) (nI pp) (nI y) (nI (sd_fo tag)) (nI fr) (nI ln) g_capacity g_maxField g_maxDepth g_outLen (nI rgs) rp 0 b_kinds b_held b_version b_type b_cursor b_items b_parent b_field b_val b_bytes b_length b_out b_encStart b_encLen b_partner b_regMsg b_regStart b_regEnd := by
    intro fr ln rp hle h
    unfold wY_readRecord_143
    rw [nI_add]
    refine br_t rfl (nm_e (sy_kindIn (s := 2) X0 I.1 R (by omega) hm hms (by omega) ?_))
    rw [sy_rem3 (by omega)]
    refine ⟨by decide, pk_eq (sw_kd K F (sw_sc v w m) (sd_fo tag) % 3) 0 (fun q => h 5 (own5 _ q).symm) (fun q => h 0 (own0 _ q).symm)⟩
  have hunk : ∀ (fr st : Nat) (rp x6 x8 x13 : Int32), pp < st → st ≤ e → sd_rec (fun i => b_bytes (b * 120 + i)) (sw_kd K F (sw_sc v w m)) D (d m) pp e = some (st, sd_un (fun i => b_bytes (b * 120 + i)) pp st) → ∃ n405, wY_readRecord_405 post (nI b) (sw_mI m) (nI st) n405 (nI pp) g_capacity g_maxField g_maxDepth g_outLen (nI rgs) rp 0 b_kinds b_held b_version b_type b_cursor b_items b_parent b_field b_val b_bytes b_length b_out b_encStart b_encLen b_partner b_regMsg b_regStart b_regEnd := by
    intro fr st rp x6 x8 x13 h1 h2 hr
    refine ⟨st - pp + 1, sy_rr405 (Z := (e - st) + Z) x2 hm hms (by omega) (fun i => by rw [hBB]) (fun n' p' q' w' d' rl' td' rg' b_version' b_type' b_items' b_parent' b_field' b_val' hN R2 Fr hn2 => ?_) (st - pp) pp _ _ _ _ _ _ _ _ _ _ _ _ _ _ (by omega) (sd_Nx_refl I (by rw [hBB]; exact htdr _ _ hr)) R sy_Fr_refl (by omega)⟩
    rw [hBB] at hN
    refine hok _ _ hr (fun a ha => ?_) _ _ _ _ _ _ _ _ _ _ _ _ _ _ hN R2 Fr (by omega)
    unfold sd_un at ha
    obtain ⟨i, _, rfl⟩ := List.mem_map.mp ha
    rfl
  have h180p : ∀ (fr st : Nat) (rp z0 : Int32), y ≠ 2 → pp < st → st ≤ e → z0 = nI (se_own (sw_kd K F (sw_sc v w m) (sd_fo tag))) →
      (1 ≤ sw_kd K F (sw_sc v w m) (sd_fo tag) → sw_kd K F (sw_sc v w m) (sd_fo tag) ≤ 9 → nI y = z0 → ∃ u, sd_pl (fun i => b_bytes (b * 120 + i)) (sw_kd K F (sw_sc v w m) (sd_fo tag)) st fr = some (u, st) ∧ sd_rec (fun i => b_bytes (b * 120 + i)) (sw_kd K F (sw_sc v w m)) D (d m) pp e = some (st, [(sd_fo tag, decide (sw_kd K F (sw_sc v w m) (sd_fo tag) ≤ 3), u, none)])) →
      (¬ (1 ≤ sw_kd K F (sw_sc v w m) (sd_fo tag) ∧ sw_kd K F (sw_sc v w m) (sd_fo tag) ≤ 9 ∧ nI y = z0) → sd_rec (fun i => b_bytes (b * 120 + i)) (sw_kd K F (sw_sc v w m)) D (d m) pp e = some (st, sd_un (fun i => b_bytes (b * 120 + i)) pp st)) →
      wY_readRecord_180 post (nI b) (sw_mI m) (nI pp) (nI y) (nI (sd_fo tag)) (nI fr) (nI st) (nI (sw_kd K F (sw_sc v w m) (sd_fo tag))) z0 g_capacity g_maxField g_maxDepth g_outLen (nI rgs) rp 0 b_kinds b_held b_version b_type b_cursor b_items b_parent b_field b_val b_bytes b_length b_out b_encStart b_encLen b_partner b_regMsg b_regStart b_regEnd := by
    intro fr st rp z0 hy2 h1 h2 ez hint hno
    unfold wY_readRecord_180
    refine sy_find (s := 2) I.1 x2 x4 R (by omega) (by omega) (by omega) ?_
    rw [← nI_0, sw_at_nI (by omega)]
    have h314 : ¬ (1 ≤ sw_kd K F (sw_sc v w m) (sd_fo tag) ∧ sw_kd K F (sw_sc v w m) (sd_fo tag) ≤ 9 ∧ nI y = z0) → wY_readRecord_314 post (nI b) (sw_mI m) (nI pp) (nI y) (nI (sd_fo tag)) (nI fr) (nI st) (nI (sw_kd K F (sw_sc v w m) (sd_fo tag))) (sw_oY ((sw_L p q m (sd_fo tag) n)[0]?)) g_capacity g_maxField g_maxDepth g_outLen (nI rgs) rp 0 b_kinds b_held b_version b_type b_cursor b_items b_parent b_field b_val b_bytes b_length b_out b_encStart b_encLen b_partner b_regMsg b_regStart b_regEnd := by
      intro hnn
      have hh := hunk fr st rp 0 0 0 h1 h2 (hno hnn)
      unfold wY_readRecord_314
      exact pk_lt (sw_kd K F (sw_sc v w m) (sd_fo tag)) 10 (fun _ => hh) (fun _ => pk_eq y 2 (fun q => absurd q hy2) (fun _ => hh))
    refine pk_lt (sw_kd K F (sw_sc v w m) (sd_fo tag)) 1 (fun q => h314 (by omega)) (fun q1 => pk_lt 9 (sw_kd K F (sw_sc v w m) (sd_fo tag)) (fun q => h314 (by omega)) (fun q9 => br_c (fun q => ⟨2, ?_⟩) (fun q => ?_)))
    · obtain ⟨u, hpl, hr⟩ := hint q1 q9 q
      refine sy_own (B := B) x2 x4 I R hm hms (by omega) hBB (by omega) rfl q1 q9 (by omega) (by rw [hBB]; exact hpl) (htdr _ _ hr |>.trans (by rfl)) (fun n' p' q' w' d' rl' td' rg' b_version' b_type' b_items' b_parent' b_field' b_val' hN R2 Fr hn2 => ?_)
      rw [hBB] at hN
      refine hok _ _ hr (fun a ha => ?_) _ _ _ _ _ _ _ _ _ _ _ _ _ _ hN R2 Fr (by omega)
      rw [List.mem_singleton] at ha
      subst ha
      rfl
    · have hq := h314 (fun g => q g.2.2)
      exact pk_lt (sw_kd K F (sw_sc v w m) (sd_fo tag)) 4 (fun _ => hq) (fun _ => pk_eq y 2 (fun g => absurd g hy2) (fun _ => hq))
  have hplain : y ≠ 2 → sd_rec (fun i => b_bytes (b * 120 + i)) (sw_kd K F (sw_sc v w m)) D (d m) pp e = sd_plain (fun i => b_bytes (b * 120 + i)) (sw_kd K F (sw_sc v w m) (sd_fo tag)) (sd_fo tag) pp p1 e (nI y) := fun h => by
    rw [hrec, if_neg (show ¬ nI y = 2 from fun g => h ((nI_eq (b := 2) (by omega) (by omega)).mp g))]
  have h104p : ∀ (ln : Nat) (rp : Int32), y ≠ 2 → 1 ≤ ln →
      (p1 + ln ≤ e → ∀ z0 : Int32, z0 = nI (se_own (sw_kd K F (sw_sc v w m) (sd_fo tag))) → wY_readRecord_180 post (nI b) (sw_mI m) (nI pp) (nI y) (nI (sd_fo tag)) (nI p1) (nI (p1 + ln)) (nI (sw_kd K F (sw_sc v w m) (sd_fo tag))) z0 g_capacity g_maxField g_maxDepth g_outLen (nI rgs) rp 0 b_kinds b_held b_version b_type b_cursor b_items b_parent b_field b_val b_bytes b_length b_out b_encStart b_encLen b_partner b_regMsg b_regStart b_regEnd) →
      (¬ p1 + ln ≤ e → sd_rec (fun i => b_bytes (b * 120 + i)) (sw_kd K F (sw_sc v w m)) D (d m) pp e = none) → ln < 1000 →
      wY_readRecord_104 post (nI b) (sw_mI m) (nI e) (nI pp) (nI y) (nI (sd_fo tag)) (nI p1) (nI ln) g_capacity g_maxField g_maxDepth g_outLen (nI rgs) rp 0 b_kinds b_held b_version b_type b_cursor b_items b_parent b_field b_val b_bytes b_length b_out b_encStart b_encLen b_partner b_regMsg b_regStart b_regEnd := by
    intro ln rp hy2 hl1 hgo hno hl2
    unfold wY_readRecord_104 wY_readRecord_124
    rw [pk_sub (by omega : p1 ≤ e)]
    refine pk_eq y 2 (fun q => absurd q hy2) (fun _ => br_f (nI_pos (by omega)) (pk_le ln (e - p1) (fun q => h143g p1 ln rp (by omega) (hgo (by omega))) (fun q => ?_)))
    unfold wY_readRecord_138
    exact h143 (hno (by omega)) _ _ _ _ _
  unfold wY_readRecord_55
  refine br_t rfl (pk_eq y 1 (fun y1 => ?_) (fun y1 => ?_))
  · subst y1
    unfold wY_readRecord_81
    refine br_f (by decide) (h104p 8 _ (by omega) (by omega) (fun hle z0 ez => h180p p1 (p1 + 8) _ z0 (by omega) (by omega) hle ez (fun q1 q9 q => ?_) (fun _ => ?_)) (fun hle => ?_) (by omega))
    · rcases ownN (sw_kd K F (sw_sc v w m) (sd_fo tag)) with g | g
      · rw [ez, g] at q; exact absurd q (by decide)
      · rw [ez, g] at q; exact absurd q (by decide)
    · rw [hplain (by omega), sd_plain, if_neg (by decide), if_neg (by decide), if_pos (show nI 1 = 1 from rfl), if_neg (by omega)]
    · rw [hplain (by omega), sd_plain, if_neg (by decide), if_neg (by decide), if_pos (show nI 1 = 1 from rfl), if_pos (by omega)]
  · unfold wY_readRecord_81
    refine pk_eq y 0 (fun y0 => ?_) (fun y0 => ?_)
    · subst y0
      refine sy_readVarint (by omega) hlt.2 (fun c2 r => nm_e ?_) (fun u p2 c2 => ?_)
      · unfold wY_readRecord_104
        refine br_f (by decide) (h124 ?_ _ _ _ _ _)
        rw [hplain (by omega), sd_plain, if_pos (show nI 0 = 0 from rfl), c2]
      · have hlt2 := sd_rd_lt c2
        dsimp only
        rw [pk_sub (by omega : p1 ≤ p2)]
        have est : p1 + (p2 - p1) = p2 := by omega
        refine nm_e (h104p (p2 - p1) _ (by omega) (by omega) (fun hle z0 ez => ?_) (fun hle => by omega) (by omega))
        rw [est]
        refine h180p p1 p2 _ z0 (by omega) (by omega) hlt2.2 ez (fun q1 q9 q => ?_) (fun hno => ?_)
        · have h3 : sw_kd K F (sw_sc v w m) (sd_fo tag) % 3 ≠ 0 := fun g => by
            rw [ez, own5 _ g] at q; exact absurd q (by decide)
          refine ⟨sd_fw (sw_kd K F (sw_sc v w m) (sd_fo tag)) u, ?_, ?_⟩
          · unfold sd_pl; rw [if_neg h3, sd_rd_re c2]; rfl
          · rw [hplain (by omega), sd_plain, if_pos (show nI 0 = 0 from rfl), c2]
            exact if_pos ⟨q1, q9, h3⟩
        · rw [hplain (by omega), sd_plain, if_pos (show nI 0 = 0 from rfl), c2]
          exact if_neg (fun g => hno ⟨g.1, g.2.1, by rw [ez, own0 _ g.2.2]; rfl⟩)
    · by_cases y2 : y = 2
      · subst y2
        unfold wY_readRecord_104
        refine br_t rfl (sy_readVarint (by omega) hlt.2 (fun c2 r => ?_) (fun u p2 c2 => ?_))
        · refine h124 ?_ _ _ _ _ _
          rw [hrec, if_pos (show nI 2 = 2 from rfl), sd_delim, c2]
        have hlt2 := sd_rd_lt c2
        have hdel : sd_rec (fun i => b_bytes (b * 120 + i)) (sw_kd K F (sw_sc v w m)) D (d m) pp e = if u < 0 ∨ nI (e - p2) < u then none else sd_delim2 (fun i => b_bytes (b * 120 + i)) (sw_kd K F (sw_sc v w m) (sd_fo tag)) (sd_fo tag) D (d m) pp p2 (p2 + u.toNatClampNeg) := by
          rw [hrec, if_pos (show nI 2 = 2 from rfl), sd_delim, c2]
        unfold wY_readRecord_124
        dsimp only
        rw [pk_sub (by omega : p2 ≤ e)]
        refine br_c (fun hu => ?_) (fun hu => ?_)
        · unfold wY_readRecord_138
          exact h143 (by rw [hdel, if_pos (Or.inl hu)]) _ _ _ _ _
        obtain ⟨sz, hsz, rfl⟩ := nI_of hu
        rw [nI_clamp hsz] at hdel
        refine pk_le sz (e - p2) (fun hle => ?_) (fun hle => ?_)
        rotate_left
        · unfold wY_readRecord_138
          exact h143 (by rw [hdel, if_pos (Or.inr (nI_lt hle hsz))]) _ _ _ _ _
        have hno : ¬ (nI sz < 0 ∨ nI (e - p2) < nI sz) := by
          intro z
          rcases z with z | z
          · exact hu z
          · exact nI_nlt hle (by omega) z
        rw [if_neg hno] at hdel
        refine h143g p2 sz _ (by omega) (fun z0 ez => ?_)
        have hz2 : ¬ (2 : Int32) = z0 := by
          rcases ownN (sw_kd K F (sw_sc v w m) (sd_fo tag)) with g | g
          · rw [ez, g]; decide
          · rw [ez, g]; decide
        unfold wY_readRecord_180
        refine sy_find (s := 2) I.1 x2 x4 R (by omega) (by omega) (by omega) ?_
        rw [← nI_0, sw_at_nI (by omega)]
        have h314u : sw_kd K F (sw_sc v w m) (sd_fo tag) < 4 → wY_readRecord_314 post (nI b) (sw_mI m) (nI pp) 2 (nI (sd_fo tag)) (nI p2) (nI (p2 + sz)) (nI (sw_kd K F (sw_sc v w m) (sd_fo tag))) (sw_oY ((sw_L p q m (sd_fo tag) n)[0]?)) g_capacity g_maxField g_maxDepth g_outLen (nI rgs) (nI p2) 0 b_kinds b_held b_version b_type b_cursor b_items b_parent b_field b_val b_bytes b_length b_out b_encStart b_encLen b_partner b_regMsg b_regStart b_regEnd := by
          intro h4
          unfold wY_readRecord_314
          refine pk_lt (sw_kd K F (sw_sc v w m) (sd_fo tag)) 10 (fun _ => hunk p2 (p2 + sz) _ 0 0 0 (by omega) (by omega) ?_) (fun _ => by omega)
          rw [hdel, sd_delim2, if_neg (by omega), if_neg (by omega)]
        have h314s : 10 ≤ sw_kd K F (sw_sc v w m) (sd_fo tag) → wY_readRecord_314 post (nI b) (sw_mI m) (nI pp) 2 (nI (sd_fo tag)) (nI p2) (nI (p2 + sz)) (nI (sw_kd K F (sw_sc v w m) (sd_fo tag))) (sw_oY ((sw_L p q m (sd_fo tag) n)[0]?)) g_capacity g_maxField g_maxDepth g_outLen (nI rgs) (nI p2) 0 b_kinds b_held b_version b_type b_cursor b_items b_parent b_field b_val b_bytes b_length b_out b_encStart b_encLen b_partner b_regMsg b_regStart b_regEnd := by
          intro h10
          unfold wY_readRecord_314
          refine pk_lt (sw_kd K F (sw_sc v w m) (sd_fo tag)) 10 (fun _ => by omega) (fun _ => br_t rfl (sy_depthOf (s := 2) I.1 x2 R (by omega) hm ?_))
          refine pk_lt (d m) D (fun hd => ?_) (fun hd => ?_) rfl e3
          · have hd2 : sd_rec (fun i => b_bytes (b * 120 + i)) (sw_kd K F (sw_sc v w m)) D (d m) pp e = some (p2 + sz, [(sd_fo tag, decide (sw_kd K F (sw_sc v w m) (sd_fo tag) < 13), nI ((sw_kd K F (sw_sc v w m) (sd_fo tag) - 10) % 3), some (p2, p2 + sz))]) := by
              rw [hdel, sd_delim2, if_pos h10, if_neg (by omega)]
            have htd2 : td m = (sd_fo tag, decide (sw_kd K F (sw_sc v w m) (sd_fo tag) < 13), nI ((sw_kd K F (sw_sc v w m) (sd_fo tag) - 10) % 3), some (p2, p2 + sz)) :: (sd_A B K F D (sw_sc v w m) (d m) (p2 + sz) e ++ rest) := by
              rw [htdr _ _ hd2, hBB]; rfl
            have h388 : ∀ (n' : Nat) (p' q' : Nat → Nat) (w' : Nat → Int32) (d' : Nat → Nat) (rl' td' : Nat → List sd_At) (rg' : Nat → List (Nat × Nat)) (b_version' b_type' b_items' b_parent' b_field' b_val' : Nat → Int32) (tg : Nat) (x13 : Int32), x13 = sw_mI tg → sd_Sb B K C F D v L n p q w d td n' p' q' w' d' rl' td' rg' m (sd_A B K F D (sw_sc v w m) (d m) (p2 + sz) e ++ rest) (nI ((sw_kd K F (sw_sc v w m) (sd_fo tag) - 10) % 3)) p2 (p2 + sz) tg → sy_R 2 v n' p' q' w' b_version' b_type' b_items' b_parent' b_field' b_val' → sy_Fr 2 b_version b_type b_items b_parent b_field b_val b_version' b_type' b_items' b_parent' b_field' b_val' → n' ≤ n + 1 → wY_readRecord_388 post (nI p2) (nI (p2 + sz)) x13 g_capacity g_maxField g_maxDepth g_outLen (nI rgs) (nI p2) 0 b_kinds b_held b_version' b_type' b_cursor b_items' b_parent' b_field' b_val' b_bytes b_length b_out b_encStart b_encLen b_partner b_regMsg b_regStart b_regEnd := by
              intro n' p' q' w' d' rl' td' rg' b_version' b_type' b_items' b_parent' b_field' b_val' tg x13 ex hS R2 Fr hn2
              subst ex
              unfold wY_readRecord_388 wpY_addRegion
              dsimp only
              rw [nI_clamp (n := rgs) (by omega), nI_1 rgs]
              rw [hBB] at hS
              exact br_t (nI_lt (b := 128) hrg2 (by omega)) ⟨vp_in_nI hrg2 (by omega), nm_e ⟨vp_in_nI hrg2 (by omega), nm_e ⟨vp_in_nI hrg2 (by omega), nm_e (nm_e (hsub _ _ _ _ _ hd2 _ _ _ _ _ _ _ _ _ _ _ _ _ _ tg hS R2 Fr hn2))⟩⟩⟩
            have h365 : (decide (sw_kd K F (sw_sc v w m) (sd_fo tag) < 13) = false ∨ sw_L p q m (sd_fo tag) n = []) → wY_readRecord_365 post (sw_mI m) (nI (sd_fo tag)) (nI p2) (nI (p2 + sz)) (nI (sw_kd K F (sw_sc v w m) (sd_fo tag))) g_capacity g_maxField g_maxDepth g_outLen (nI rgs) (nI p2) 0 b_kinds b_held b_version b_type b_cursor b_items b_parent b_field b_val b_bytes b_length b_out b_encStart b_encLen b_partner b_regMsg b_regStart b_regEnd := by
              intro hsg
              obtain ⟨rl', td', rg', hS⟩ := sd_sbA I hm hms htd2 hsg (by omega) h10 hd
              have a : nI (sw_kd K F (sw_sc v w m) (sd_fo tag)) - 10 = nI (sw_kd K F (sw_sc v w m) (sd_fo tag) - 10) := pk_sub (b := 10) h10
              unfold wY_readRecord_365
              rw [a, sy_rem3 (by omega), R.2.2.1]
              refine nm_e ⟨by decide, sy_addP (s := 2) R (by omega) (by omega) ?_⟩
              exact h388 _ _ _ _ _ rl' td' rg' _ _ _ _ _ _ (n + 1) _ (sw_mI_s n).symm hS (sy_add R) (sy_Fr_add (by omega)) (Nat.le_refl _)
            unfold wY_readRecord_345
            refine br_t rfl (pk_le 13 (sw_kd K F (sw_sc v w m) (sd_fo tag)) (fun qq => h365 (Or.inl (decide_eq_false (by omega)))) (fun qq => ?_))
            cases ho : (sw_L p q m (sd_fo tag) n)[0]? with
            | none => exact br_f sn_neg1 (h365 (Or.inr (List.eq_nil_of_length_eq_zero (by have := List.getElem?_eq_none_iff.mp ho; omega))))
            | some j =>
              have jm := sw_mem.mp (sw_nthmem ho)
              rw [decide_eq_true (by omega : sw_kd K F (sw_sc v w m) (sd_fo tag) < 13)] at htd2
              obtain ⟨rl', td', rg', hS⟩ := sd_sbS I hm htd2 ho h10
              exact br_t ((sw_mI_pos (by omega)).mpr jm.1) (h388 n p q w d rl' td' rg' _ _ _ _ _ _ j _ rfl hS R sy_Fr_refl (by omega))
          · unfold wY_readRecord_345
            exact br_f (by decide) (hbad (by rw [hdel, sd_delim2, if_pos h10, if_pos hd]) _ _ _ _ _ _ _ sy_Fr_refl)
        refine pk_lt (sw_kd K F (sw_sc v w m) (sd_fo tag)) 1 (fun q => h314u (by omega)) (fun q1 => pk_lt 9 (sw_kd K F (sw_sc v w m) (sd_fo tag)) (fun q => h314s (by omega)) (fun q9 => br_f hz2 (pk_lt (sw_kd K F (sw_sc v w m) (sd_fo tag)) 4 (fun q => h314u q) (fun q4 => br_t rfl ⟨p2 + sz - p2 + 1, ?_⟩))))
        have hd2 : sd_rec (fun i => b_bytes (b * 120 + i)) (sw_kd K F (sw_sc v w m)) D (d m) pp e = (sd_pk (fun i => b_bytes (b * 120 + i)) (sw_kd K F (sw_sc v w m) (sd_fo tag)) (p2 + sz) (p2 + sz - p2) p2).map (fun l => (p2 + sz, l.map (fun x => (sd_fo tag, false, x, none)))) := by
          rw [hdel, sd_delim2, if_neg (by omega), if_pos q4]
        refine sy_rr234 (B := B) (L := L) (td := td) (G := ∃ l, sd_pk (fun i => b_bytes (b * 120 + i)) (sw_kd K F (sw_sc v w m) (sd_fo tag)) (p2 + sz) (p2 + sz - p2) p2 = some l) (Z := (e - (p2 + sz)) + Z) (rest := sd_A B K F D (sw_sc v w m) (d m) (p2 + sz) e ++ rest) x2 hm hms (by omega) (by omega) hBB (by omega) rfl q4 q9 (fun hG r b_version' b_type' b_items' b_parent' b_field' b_val' Fr => hbad ?_ r _ _ _ _ _ _ Fr) (fun hG n' p' q' w' d' rl' td' rg' b_version' b_type' b_items' b_parent' b_field' b_val' hN R2 Fr hn2 => ?_) (p2 + sz - p2) p2 0 n p q w d rl td rg _ _ _ _ _ _ (Nat.le_refl _) (by omega) (by omega) (by rw [hBB]) (fun l hl2 => ?_) I.1 sd_Ext_refl R sy_Fr_refl (by omega)
        · cases hq : sd_pk (fun i => b_bytes (b * 120 + i)) (sw_kd K F (sw_sc v w m) (sd_fo tag)) (p2 + sz) (p2 + sz - p2) p2 with
          | none => rw [hd2, hq]; rfl
          | some l => exact absurd ⟨l, hq⟩ hG
        · obtain ⟨l, hl2⟩ := hG
          rw [hBB] at hN
          refine hok (p2 + sz) (l.map (fun x => (sd_fo tag, false, x, none))) (by rw [hd2, hl2]; rfl) (fun a ha => ?_) _ _ _ _ _ _ _ _ _ _ _ _ _ _ hN R2 Fr (by omega)
          obtain ⟨i, _, rfl⟩ := List.mem_map.mp ha
          rfl
        · rw [hBB] at hl2
          refine sd_Nx_refl I ?_
          rw [htdr (p2 + sz) _ (by rw [hd2, hl2]; rfl), hBB]
      · have y5 : y = 5 := by omega
        subst y5
        refine h104p 4 _ (by omega) (by omega) (fun hle z0 ez => h180p p1 (p1 + 4) _ z0 (by omega) (by omega) hle ez (fun q1 q9 q => ?_) (fun hno => ?_)) (fun hle => ?_) (by omega)
        · have h3 : sw_kd K F (sw_sc v w m) (sd_fo tag) % 3 = 0 := by
            apply Classical.byContradiction
            intro g
            rw [ez, own0 _ g] at q; exact absurd q (by decide)
          refine ⟨sd_fx (fun i => b_bytes (b * 120 + i)) p1, ?_, ?_⟩
          · unfold sd_pl; rw [if_pos h3, if_neg (by omega)]
          · rw [hplain (by omega), sd_plain, if_neg (by decide), if_pos (show nI 5 = 5 from rfl), if_neg (by omega), if_pos ⟨q1, q9, h3⟩]
        · rw [hplain (by omega), sd_plain, if_neg (by decide), if_pos (show nI 5 = 5 from rfl), if_neg (by omega), if_neg (fun g => hno ⟨g.1, g.2.1, by rw [ez, own5 _ g.2.2]; rfl⟩)]
        · rw [hplain (by omega), sd_plain, if_neg (by decide), if_pos (show nI 5 = 5 from rfl), if_pos (by omega)]
end
end
section
/-! Y's decode loops: regions in line -/
def sd_Q (B : Nat → Int32) (K : Nat → Nat) (F D v : Nat) (w : Nat → Int32) (d : Nat → Nat) (Q : List (Nat × Nat × Nat)) (i : Nat) : List sd_At :=
  (Q.filter (fun x => decide (x.1 = i))).flatMap (fun x => sd_A B K F D (sw_sc v w i) (d i) x.2.1 x.2.2)
def sd_wt : List (Nat × Nat × Nat) → Nat
  | [] => 0
  | x :: l => (x.2.2 - x.2.1) + sd_wt l
theorem sd_wt_app : ∀ (l l' : List (Nat × Nat × Nat)), sd_wt (l ++ l') = sd_wt l + sd_wt l' := by
  intro l
  induction l with
  | nil => intro l'; rw [List.nil_append, sd_wt, Nat.zero_add]
  | cons x l ih => intro l'; rw [List.cons_append, sd_wt, sd_wt, ih]; omega
section
variable {B : Nat → Int32} {K : Nat → Nat} {F D v : Nat} {w w' : Nat → Int32} {d d' : Nat → Nat} {Q : List (Nat × Nat × Nat)}
theorem sd_Q_cong {i : Nat} (h : ∀ x, x ∈ Q → x.1 = i → w' i = w i ∧ d' i = d i) : sd_Q B K F D v w' d' Q i = sd_Q B K F D v w d Q i := by
  unfold sd_Q
  by_cases hex : ∃ x, x ∈ Q ∧ x.1 = i
  · obtain ⟨x, hx, ex⟩ := hex
    have := h x hx ex
    have hsc : sw_sc v w' i = sw_sc v w i := by rw [sw_sc, sw_sc, this.1]
    rw [hsc, this.2]
  · have : Q.filter (fun x => decide (x.1 = i)) = [] := by
      apply List.filter_eq_nil_iff.mpr
      intro x hx hd
      exact hex ⟨x, hx, of_decide_eq_true hd⟩
    rw [this, List.flatMap_nil, List.flatMap_nil]
theorem sd_Q_none {i : Nat} (h : ∀ x, x ∈ Q → x.1 ≠ i) : sd_Q B K F D v w d Q i = [] := by
  unfold sd_Q
  have : Q.filter (fun x => decide (x.1 = i)) = [] := by
    apply List.filter_eq_nil_iff.mpr
    intro x hx hd
    exact h x hx (of_decide_eq_true hd)
  rw [this, List.flatMap_nil]
theorem sd_Q_app_s {i c st : Nat} : sd_Q B K F D v w d (Q ++ [(i, c, st)]) i = sd_Q B K F D v w d Q i ++ sd_A B K F D (sw_sc v w i) (d i) c st := by
  unfold sd_Q
  rw [List.filter_append, List.flatMap_append]
  congr 1
  rw [List.filter_cons, if_pos (decide_eq_true rfl), List.filter_nil, List.flatMap_cons, List.flatMap_nil, List.append_nil]
theorem sd_Q_app_n {i j c st : Nat} (h : j ≠ i) : sd_Q B K F D v w d (Q ++ [(j, c, st)]) i = sd_Q B K F D v w d Q i := by
  unfold sd_Q
  rw [List.filter_append, List.flatMap_append]
  have : [(j, c, st)].filter (fun x => decide (x.1 = i)) = [] := by
    rw [List.filter_cons, if_neg (fun z => h (of_decide_eq_true z)), List.filter_nil]
  rw [this, List.flatMap_nil, List.append_nil]
theorem sd_Q_cons_s {i c st : Nat} : sd_Q B K F D v w d ((i, c, st) :: Q) i = sd_A B K F D (sw_sc v w i) (d i) c st ++ sd_Q B K F D v w d Q i := by
  unfold sd_Q
  rw [List.filter_cons, if_pos (decide_eq_true rfl), List.flatMap_cons]
theorem sd_Q_cons_n {i j c st : Nat} (h : j ≠ i) : sd_Q B K F D v w d ((j, c, st) :: Q) i = sd_Q B K F D v w d Q i := by
  unfold sd_Q
  rw [List.filter_cons, if_neg (fun z => h (of_decide_eq_true z))]
end
/-- the regions that wait, from number r on -/
def sd_Li (K : Nat → Nat) (F v L n : Nat) (p q : Nat → Nat) (w : Nat → Int32) (r : Nat) (Q : List (Nat × Nat × Nat)) (rMs rSt rEn : Nat → Int32) : Prop :=
  ∀ i x, Q[i]? = some x → rMs (r + i) = sw_mI x.1 ∧ rSt (r + i) = nI x.2.1 ∧ rEn (r + i) = nI x.2.2 ∧ x.1 ≤ n ∧ sw_ms K F v p q w x.1 ∧ x.2.1 ≤ x.2.2 ∧ x.2.2 ≤ L
section
variable {K : Nat → Nat} {F v L n n' : Nat} {p q p' q' : Nat → Nat} {w w' : Nat → Int32} {d d' : Nat → Nat} {r : Nat} {Q : List (Nat × Nat × Nat)} {rMs rSt rEn : Nat → Int32}
theorem sd_Li_ext (h : sd_Li K F v L n p q w r Q rMs rSt rEn) (E : sd_Ext K F v n p q w d n' p' q' w' d') : sd_Li K F v L n' p' q' w' r Q rMs rSt rEn := by
  intro i x hx
  obtain ⟨a1, a2, a3, a4, a5, a6⟩ := h i x hx
  exact ⟨a1, a2, a3, Nat.le_trans a4 E.1, ((E.2 _ a4).2 a5).1, a6⟩
theorem sd_Li_mem (h : sd_Li K F v L n p q w r Q rMs rSt rEn) {x : Nat × Nat × Nat} (hx : x ∈ Q) : x.1 ≤ n ∧ sw_ms K F v p q w x.1 ∧ x.2.1 ≤ x.2.2 ∧ x.2.2 ≤ L := by
  obtain ⟨i, hi⟩ := List.mem_iff_getElem?.mp hx
  exact (h i x hi).2.2.2
theorem sd_Li_add (h : sd_Li K F v L n p q w r Q rMs rSt rEn) {tg c st : Nat} (h1 : tg ≤ n) (h2 : sw_ms K F v p q w tg) (h3 : c ≤ st) (h4 : st ≤ L) : sd_Li K F v L n p q w r (Q ++ [(tg, c, st)]) (upd rMs (r + Q.length) (sw_mI tg)) (upd rSt (r + Q.length) (nI c)) (upd rEn (r + Q.length) (nI st)) := by
  intro i x hx
  by_cases hi : i < Q.length
  · rw [List.getElem?_append_left hi] at hx
    rw [pk_un (by omega), pk_un (by omega), pk_un (by omega)]
    exact h i x hx
  · have hlt := (List.getElem?_eq_some_iff.mp hx).1
    rw [List.length_append, List.length_singleton] at hlt
    obtain rfl : i = Q.length := by omega
    rw [List.getElem?_append_right (Nat.le_refl _), Nat.sub_self] at hx
    obtain rfl : (tg, c, st) = x := Option.some.inj hx
    rw [pk_us, pk_us, pk_us]
    exact ⟨rfl, rfl, rfl, h1, h2, h3, h4⟩
end
section
variable {g_capacity g_maxField g_maxDepth g_outLen g_regions g_pos g_bad : Int32} {b_kinds b_held b_version b_type b_cursor b_items b_parent b_field b_val b_bytes b_length b_out b_encStart b_encLen b_partner b_regMsg b_regStart b_regEnd : Nat → Int32} {B : Nat → Int32} {K : Nat → Nat} {C F D v L b : Nat} {post : Int32 → SY → Prop} {x2 x3 x4 : Int32} {OKr : Prop}
theorem sy_d127 {J : Int32 → Int32 → Int32 → Int32 → Int32 → Int32 → Int32 → Int32 → (Nat → Int32) → (Nat → Int32) → (Nat → Int32) → (Nat → Int32) → (Nat → Int32) → (Nat → Int32) → (Nat → Int32) → (Nat → Int32) → (Nat → Int32) → (Nat → Int32) → (Nat → Int32) → (Nat → Int32) → (Nat → Int32) → (Nat → Int32) → (Nat → Int32) → (Nat → Int32) → (Nat → Int32) → (Nat → Int32) → Prop}
    (X : sw_Cx K C F D g_capacity g_maxField g_maxDepth b_kinds) (hb : b < 2) (hB : B = fun i => b_bytes (b * 120 + i)) (hLC : L ≤ C) {r : Nat} (w0 : Int32)
    (Kbad : ¬ OKr → ∀ (rp rg0 : Int32) (b_version' b_type' b_items' b_parent' b_field' b_val' rMs rSt rEn : Nat → Int32), sy_Fr 2 b_version b_type b_items b_parent b_field b_val b_version' b_type' b_items' b_parent' b_field' b_val' → J (nI (r + 1)) g_capacity g_maxField g_maxDepth g_outLen rg0 rp 1 b_kinds b_held b_version' b_type' b_cursor b_items' b_parent' b_field' b_val' b_bytes b_length b_out b_encStart b_encLen b_partner rMs rSt rEn)
    (Kok : ∀ (Q : List (Nat × Nat × Nat)) (rp : Int32) (n' : Nat) (p' q' : Nat → Nat) (w' : Nat → Int32) (d' : Nat → Nat) (rl' td' : Nat → List sd_At) (rg' : Nat → List (Nat × Nat)) (b_version' b_type' b_items' b_parent' b_field' b_val' rMs rSt rEn : Nat → Int32), sd_Inv B K C F D v L n' p' q' w' d' rl' td' rg' → sy_R 2 v n' p' q' w' b_version' b_type' b_items' b_parent' b_field' b_val' → sy_Fr 2 b_version b_type b_items b_parent b_field b_val b_version' b_type' b_items' b_parent' b_field' b_val' → w' 0 = w0 → sd_Li K F v L n' p' q' w' (r + 1) Q rMs rSt rEn → (∀ i, i ≤ n' → td' i = sd_Q B K F D v w' d' Q i) → n' + sd_wt Q ≤ C → r + 1 + Q.length + sd_wt Q ≤ 121 → (OKr ↔ ∀ x, x ∈ Q → sd_Ok B K F D v (sw_sc v w' x.1) (d' x.1) x.2.1 x.2.2) →
      J (nI (r + 1)) g_capacity g_maxField g_maxDepth g_outLen (nI (r + 1 + Q.length)) rp 0 b_kinds b_held b_version' b_type' b_cursor b_items' b_parent' b_field' b_val' b_bytes b_length b_out b_encStart b_encLen b_partner rMs rSt rEn) :
    ∀ (N pp e m cnt : Nat) (Q : List (Nat × Nat × Nat)) (n' : Nat) (p' q' : Nat → Nat) (w' : Nat → Int32) (d' : Nat → Nat) (rl' td' : Nat → List sd_At) (rg' : Nat → List (Nat × Nat)) (b_version' b_type' b_items' b_parent' b_field' b_val' rMs rSt rEn : Nat → Int32), e - pp ≤ N → sd_Inv B K C F D v L n' p' q' w' d' rl' td' rg' → sy_R 2 v n' p' q' w' b_version' b_type' b_items' b_parent' b_field' b_val' → sy_Fr 2 b_version b_type b_items b_parent b_field b_val b_version' b_type' b_items' b_parent' b_field' b_val' → w' 0 = w0 → m ≤ n' → sw_ms K F v p' q' w' m → rMs r = sw_mI m → rEn r = nI e → sd_Li K F v L n' p' q' w' (r + 1) Q rMs rSt rEn →
      (∀ i, i ≤ n' → td' i = (if i = m then sd_A B K F D (sw_sc v w' m) (d' m) pp e else []) ++ sd_Q B K F D v w' d' Q i) → pp ≤ e → e ≤ L → cnt ≤ pp → n' + (e - pp) + sd_wt Q ≤ C → r + 1 + Q.length + (e - pp) + sd_wt Q ≤ 121 →
      (OKr ↔ (sd_Ok B K F D v (sw_sc v w' m) (d' m) pp e ∧ ∀ x, x ∈ Q → sd_Ok B K F D v (sw_sc v w' x.1) (d' x.1) x.2.1 x.2.2)) →
      wY_decode_127 post J (nI b) x2 x3 x4 (nI r) (N + 1) (nI cnt) g_capacity g_maxField g_maxDepth g_outLen (nI (r + 1 + Q.length)) (nI pp) 0 b_kinds b_held b_version' b_type' b_cursor b_items' b_parent' b_field' b_val' b_bytes b_length b_out b_encStart b_encLen b_partner rMs rSt rEn := by
  have X0 := X
  obtain ⟨x1, x2', x3', x4', x5, x6, e1, e2, e3, x7⟩ := X
  have hdone : ∀ (pp e m : Nat) (Q : List (Nat × Nat × Nat)) (n' : Nat) (p' q' : Nat → Nat) (w' : Nat → Int32) (d' : Nat → Nat) (rl' td' : Nat → List sd_At) (rg' : Nat → List (Nat × Nat)) (b_version' b_type' b_items' b_parent' b_field' b_val' rMs rSt rEn : Nat → Int32), pp = e → sd_Inv B K C F D v L n' p' q' w' d' rl' td' rg' → sy_R 2 v n' p' q' w' b_version' b_type' b_items' b_parent' b_field' b_val' → sy_Fr 2 b_version b_type b_items b_parent b_field b_val b_version' b_type' b_items' b_parent' b_field' b_val' → w' 0 = w0 → sd_Li K F v L n' p' q' w' (r + 1) Q rMs rSt rEn →
      (∀ i, i ≤ n' → td' i = (if i = m then sd_A B K F D (sw_sc v w' m) (d' m) pp e else []) ++ sd_Q B K F D v w' d' Q i) → n' + (e - pp) + sd_wt Q ≤ C → r + 1 + Q.length + (e - pp) + sd_wt Q ≤ 121 →
      (OKr ↔ (sd_Ok B K F D v (sw_sc v w' m) (d' m) pp e ∧ ∀ x, x ∈ Q → sd_Ok B K F D v (sw_sc v w' x.1) (d' x.1) x.2.1 x.2.2)) →
      ∀ x5_1 : Int32, x5_1 = nI r + 1 → J x5_1 g_capacity g_maxField g_maxDepth g_outLen (nI (r + 1 + Q.length)) (nI pp) 0 b_kinds b_held b_version' b_type' b_cursor b_items' b_parent' b_field' b_val' b_bytes b_length b_out b_encStart b_encLen b_partner rMs rSt rEn := by
    intro pp e m Q n' p' q' w' d' rl' td' rg' b_version' b_type' b_items' b_parent' b_field' b_val' rMs rSt rEn epe I R Fr h0 hLi htd hn hrr hok
    subst epe
    rw [nI_1]
    refine nm_e (Kok Q _ _ _ _ _ _ _ _ _ _ _ _ _ _ _ _ _ _ I R Fr h0 hLi (fun i hi => ?_) (by omega) (by omega) ?_)
    · rw [htd i hi, sd_A_nil (Nat.le_refl _)]
      split <;> rfl
    · rw [hok]
      exact ⟨fun z => z.2, fun z => ⟨sd_Ok_nil (Nat.le_refl _), z⟩⟩
  intro N
  induction N with
  | zero =>
    intro pp e m cnt Q n' p' q' w' d' rl' td' rg' b_version' b_type' b_items' b_parent' b_field' b_val' rMs rSt rEn hN I R Fr h0 hm hms hM hE hLi htd hpe heL hcnt hn hrr hok
    have hj := hdone pp e m Q n' p' q' w' d' rl' td' rg' _ _ _ _ _ _ rMs rSt rEn (by omega) I R Fr h0 hLi htd hn hrr hok
    unfold wY_decode_127
    dsimp only
    rw [nI_clamp (n := r) (by omega), hE]
    exact br_c (fun _ => hj) (fun _ => ⟨vp_in_nI (by omega) (by omega), br_t (nI_le (by omega) (by omega)) hj⟩)
  | succ N ih =>
    intro pp e m cnt Q n' p' q' w' d' rl' td' rg' b_version' b_type' b_items' b_parent' b_field' b_val' rMs rSt rEn hN I R Fr h0 hm hms hM hE hLi htd hpe heL hcnt hn hrr hok
    by_cases hlt : pp < e
    · rw [wY_decode_127]
      dsimp only
      rw [nI_clamp (n := r) (by omega), hE, hM, nI_1 cnt]
      have hvr : vp_in (nI r) 128 := vp_in_nI (by omega) (by omega)
      refine br_f (nI_ge (b := 120) (by omega) (by omega)) ⟨hvr, br_f (nI_ge (by omega) (by omega)) (br_t rfl ⟨hvr, hvr, ?_⟩)⟩
      have htm := htd m hm
      rw [if_pos rfl] at htm
      refine sy_readRecord (Z := sd_wt Q) (rest := sd_Q B K F D v w' d' Q m) X0 I R hb hm hms hB (by omega) hlt hn htm rfl (by omega) (fun hr rp ve2 ty2 it2 pa2 fi2 va2 Fr2 => nm_e ?_) (fun p2 as hr hreg n2 pp2 q2 w2 d2 rl2 td2 rg2 ve2 ty2 it2 pa2 fi2 va2 hNx R2 Fr2 hn2 => nm_e ?_) (fun f x c st sg hr n2 pp2 q2 w2 d2 rl2 td2 rg2 ve2 ty2 it2 pa2 fi2 va2 tg hS R2 Fr2 hn2 => nm_e ?_)
      · have hno : ¬ OKr := fun z => sd_Ok_none hlt hr (hok.mp z).1
        have Fr3 : sy_Fr 2 b_version b_type b_items b_parent b_field b_val ve2 ty2 it2 pa2 fi2 va2 := fun s v0 n0 p0 q0 w0 y1 y2 y3 y4 => Fr2 s v0 n0 p0 q0 w0 y1 y2 y3 (Fr s v0 n0 p0 q0 w0 y1 y2 y3 y4)
        unfold wY_decode_127
        dsimp only
        rw [nI_1]
        exact br_c (fun _ => nm_e (Kbad hno _ _ _ _ _ _ _ _ _ _ _ Fr3)) (fun _ => ⟨hvr, br_c (fun _ => nm_e (Kbad hno _ _ _ _ _ _ _ _ _ _ _ Fr3)) (fun _ => br_f (show ¬ (1 : Int32) = 0 by decide) (nm_e (Kbad hno _ _ _ _ _ _ _ _ _ _ _ Fr3)))⟩)
      · have hl := (sd_rec_fit (by omega) hr).1
        obtain ⟨a1, a2, a3, a4, a5⟩ := hNx
        have hmw := a2.2 m hm
        have hsc : sw_sc v w2 m = sw_sc v w' m := by rw [sw_sc, sw_sc, (hmw.2 hms).2]
        have hQ : ∀ i, sd_Q B K F D v w2 d2 Q i = sd_Q B K F D v w' d' Q i := fun i => sd_Q_cong (fun x hx ex => by
          subst ex
          have hm2 := sd_Li_mem hLi hx
          have := a2.2 x.1 hm2.1
          exact ⟨(this.2 hm2.2.1).2, this.1⟩)
        have hokq : (∀ x, x ∈ Q → sd_Ok B K F D v (sw_sc v w2 x.1) (d2 x.1) x.2.1 x.2.2) ↔ (∀ x, x ∈ Q → sd_Ok B K F D v (sw_sc v w' x.1) (d' x.1) x.2.1 x.2.2) := by
          constructor
          · intro z x hx
            have hm2 := sd_Li_mem hLi hx
            have g := a2.2 x.1 hm2.1
            have := z x hx
            rw [sw_sc, (g.2 hm2.2.1).2, g.1] at this
            exact this
          · intro z x hx
            have hm2 := sd_Li_mem hLi hx
            have g := a2.2 x.1 hm2.1
            have := z x hx
            rw [sw_sc, (g.2 hm2.2.1).2, g.1]
            exact this
        refine ih p2 e m (cnt + 1) Q n2 pp2 q2 w2 d2 rl2 td2 rg2 ve2 ty2 it2 pa2 fi2 va2 rMs rSt rEn (by omega) a1 R2 (fun s v0 n0 p0 q0 w0 y1 y2 y3 y4 => Fr2 s v0 n0 p0 q0 w0 y1 y2 y3 (Fr s v0 n0 p0 q0 w0 y1 y2 y3 y4)) (by rw [((a2.2 0 (Nat.zero_le _)).2 sw_ms0).2]; exact h0) (Nat.le_trans hm a2.1) (hmw.2 hms).1 hM hE (sd_Li_ext hLi a2) (fun i hi => ?_) hl.2 heL (by omega) (by omega) (by omega) ?_
        · rw [hQ i]
          by_cases em : i = m
          · subst em
            rw [if_pos rfl, a3, hsc, hmw.1]
          · rw [if_neg em, List.nil_append]
            by_cases c : i ≤ n'
            · rw [a4 i c em, htd i c, if_neg em, List.nil_append]
            · rw [a5 i (by omega) hi, sd_Q_none (fun x hx => by have := (sd_Li_mem hLi hx).1; omega)]
        · rw [hok, hokq, sd_Ok_step (by omega) hlt hr, hsc, hmw.1]
          constructor
          · intro z; exact ⟨z.1.2, z.2⟩
          · intro z
            exact ⟨⟨fun a c st ha hs => (by rw [hreg a ha] at hs; cases hs), z.1⟩, z.2⟩
      · have hsub := sd_sub_lt (by omega) hr (List.mem_singleton.mpr rfl) rfl
        have hl := (sd_rec_fit (by omega) hr).1
        obtain ⟨s1, s2, s3, s4, s5, s6, s7, s8, s9, s10, s11, s12⟩ := hS
        have hmw := s2.2 m hm
        have hsc : sw_sc v w2 m = sw_sc v w' m := by rw [sw_sc, sw_sc, (hmw.2 hms).2]
        have hsct : sw_sc v w2 tg = v * 3 + x.toNatClampNeg := by rw [sw_sc, s7]
        have hQ : ∀ i, sd_Q B K F D v w2 d2 Q i = sd_Q B K F D v w' d' Q i := fun i => sd_Q_cong (fun x hx ex => by
          subst ex
          have hm2 := sd_Li_mem hLi hx
          have := s2.2 x.1 hm2.1
          exact ⟨(this.2 hm2.2.1).2, this.1⟩)
        have hokq : (∀ x, x ∈ Q → sd_Ok B K F D v (sw_sc v w2 x.1) (d2 x.1) x.2.1 x.2.2) ↔ (∀ x, x ∈ Q → sd_Ok B K F D v (sw_sc v w' x.1) (d' x.1) x.2.1 x.2.2) := by
          constructor
          · intro z x hx
            have hm2 := sd_Li_mem hLi hx
            have g := s2.2 x.1 hm2.1
            have := z x hx
            rw [sw_sc, (g.2 hm2.2.1).2, g.1] at this
            exact this
          · intro z x hx
            have hm2 := sd_Li_mem hLi hx
            have g := s2.2 x.1 hm2.1
            have := z x hx
            rw [sw_sc, (g.2 hm2.2.1).2, g.1]
            exact this
        have hlenQ : (Q ++ [(tg, c, st)]).length = Q.length + 1 := by rw [List.length_append, List.length_singleton]
        have hwtQ : sd_wt (Q ++ [(tg, c, st)]) = sd_wt Q + (st - c) := by rw [sd_wt_app, sd_wt, sd_wt, Nat.add_zero]
        have := ih st e m (cnt + 1) (Q ++ [(tg, c, st)]) n2 pp2 q2 w2 d2 rl2 td2 rg2 ve2 ty2 it2 pa2 fi2 va2 (upd rMs (r + 1 + Q.length) (sw_mI tg)) (upd rSt (r + 1 + Q.length) (nI c)) (upd rEn (r + 1 + Q.length) (nI st)) (by omega) s1 R2 (fun s v0 n0 p0 q0 w0 y1 y2 y3 y4 => Fr2 s v0 n0 p0 q0 w0 y1 y2 y3 (Fr s v0 n0 p0 q0 w0 y1 y2 y3 y4)) (by rw [((s2.2 0 (Nat.zero_le _)).2 sw_ms0).2]; exact h0) (Nat.le_trans hm s2.1) (hmw.2 hms).1 (by rw [pk_un (by omega)]; exact hM) (by rw [pk_un (by omega)]; exact hE) (sd_Li_add (sd_Li_ext hLi s2) s5 s6 hsub.2.1 (by omega)) (fun i hi => ?_) (by omega) heL (by omega) (by rw [hwtQ]; omega) (by rw [hwtQ, hlenQ]; omega) ?_
        · rw [hlenQ, ← Nat.add_assoc] at this
          exact this
        · by_cases et : i = tg
          · subst et
            rw [sd_Q_app_s, hQ i, hsct, s8, if_neg (by omega), List.nil_append]
            by_cases c' : i ≤ n'
            · rw [s9 c', htd i c', if_neg (by omega), List.nil_append]
            · rw [s10 (by omega), sd_Q_none (fun x hx => by have := (sd_Li_mem hLi hx).1; omega), List.nil_append]
          · rw [sd_Q_app_n (fun z => et z.symm), hQ i]
            by_cases em : i = m
            · subst em
              rw [if_pos rfl, s3, hsc, hmw.1]
            · rw [if_neg em, List.nil_append]
              by_cases c' : i ≤ n'
              · rw [s11 i c' em et, htd i c', if_neg em, List.nil_append]
              · rw [s12 i (by omega) hi et, sd_Q_none (fun x hx => by have := (sd_Li_mem hLi hx).1; omega)]
        · rw [hok, sd_Ok_step (by omega) hlt hr, hsc, hmw.1, ← hokq]
          constructor
          · intro z
            refine ⟨z.1.2, fun y hy => ?_⟩
            rcases List.mem_append.mp hy with hy | hy
            · exact z.2 y hy
            · rw [List.mem_singleton] at hy
              subst hy
              show sd_Ok B K F D v (sw_sc v w2 tg) (d2 tg) c st
              rw [hsct, s8]
              exact z.1.1 _ c st (List.mem_singleton.mpr rfl) rfl
          · intro z
            refine ⟨⟨fun a c' st' ha hs => ?_, z.1⟩, fun y hy => z.2 y (List.mem_append.mpr (Or.inl hy))⟩
            rw [List.mem_singleton] at ha
            subst ha
            have hh := Option.some.inj hs
            injection hh with q1 q2
            subst q1 q2
            have := z.2 (tg, c, st) (List.mem_append.mpr (Or.inr (List.mem_singleton.mpr rfl)))
            have h2 : sd_Ok B K F D v (sw_sc v w2 tg) (d2 tg) c st := this
            rw [hsct, s8] at h2
            exact h2
    · have hj := hdone pp e m Q n' p' q' w' d' rl' td' rg' _ _ _ _ _ _ rMs rSt rEn (by omega) I R Fr h0 hLi htd hn hrr hok
      unfold wY_decode_127
      dsimp only
      rw [nI_clamp (n := r) (by omega), hE]
      exact br_c (fun _ => hj) (fun _ => ⟨vp_in_nI (by omega) (by omega), br_t (nI_le (by omega) (by omega)) hj⟩)
theorem sy_d89 (X : sw_Cx K C F D g_capacity g_maxField g_maxDepth b_kinds) (hb : b < 2) (hB : B = fun i => b_bytes (b * 120 + i)) (hLC : L ≤ C) (w0 : Int32)
    (Kbad : ¬ OKr → ∀ (rp rg0 : Int32) (b_version' b_type' b_items' b_parent' b_field' b_val' rMs rSt rEn : Nat → Int32), sy_Fr 2 b_version b_type b_items b_parent b_field b_val b_version' b_type' b_items' b_parent' b_field' b_val' → post (-8) (g_capacity, g_maxField, g_maxDepth, g_outLen, rg0, rp, 1, b_kinds, b_held, b_version', b_type', b_cursor, b_items', b_parent', b_field', b_val', b_bytes, b_length, b_out, b_encStart, b_encLen, b_partner, rMs, rSt, rEn))
    (Kok : OKr → ∀ (rp rg0 : Int32) (n' : Nat) (p' q' : Nat → Nat) (w' : Nat → Int32) (d' : Nat → Nat) (rl' td' : Nat → List sd_At) (rg' : Nat → List (Nat × Nat)) (b_version' b_type' b_items' b_parent' b_field' b_val' rMs rSt rEn : Nat → Int32), sd_Inv B K C F D v L n' p' q' w' d' rl' td' rg' → sy_R 2 v n' p' q' w' b_version' b_type' b_items' b_parent' b_field' b_val' → sy_Fr 2 b_version b_type b_items b_parent b_field b_val b_version' b_type' b_items' b_parent' b_field' b_val' → w' 0 = w0 → (∀ i, i ≤ n' → td' i = []) → wY_decode_186 post x2 x3 x4 g_capacity g_maxField g_maxDepth g_outLen rg0 rp 0 b_kinds b_held b_version' b_type' b_cursor b_items' b_parent' b_field' b_val' b_bytes b_length b_out b_encStart b_encLen b_partner rMs rSt rEn) :
    ∀ (k r : Nat) (Q : List (Nat × Nat × Nat)) (rp : Int32) (n' : Nat) (p' q' : Nat → Nat) (w' : Nat → Int32) (d' : Nat → Nat) (rl' td' : Nat → List sd_At) (rg' : Nat → List (Nat × Nat)) (b_version' b_type' b_items' b_parent' b_field' b_val' rMs rSt rEn : Nat → Int32), r + k = 128 → sd_Inv B K C F D v L n' p' q' w' d' rl' td' rg' → sy_R 2 v n' p' q' w' b_version' b_type' b_items' b_parent' b_field' b_val' → sy_Fr 2 b_version b_type b_items b_parent b_field b_val b_version' b_type' b_items' b_parent' b_field' b_val' → w' 0 = w0 → sd_Li K F v L n' p' q' w' r Q rMs rSt rEn →
      (∀ i, i ≤ n' → td' i = sd_Q B K F D v w' d' Q i) → n' + sd_wt Q ≤ C → r + Q.length + sd_wt Q ≤ 121 →
      (OKr ↔ ∀ x, x ∈ Q → sd_Ok B K F D v (sw_sc v w' x.1) (d' x.1) x.2.1 x.2.2) →
      wY_decode_89 post (nI b) x2 x3 x4 (k + 1) (nI r) g_capacity g_maxField g_maxDepth g_outLen (nI (r + Q.length)) rp 0 b_kinds b_held b_version' b_type' b_cursor b_items' b_parent' b_field' b_val' b_bytes b_length b_out b_encStart b_encLen b_partner rMs rSt rEn := by
  intro k
  induction k with
  | zero => intro r Q rp n' p' q' w' d' rl' td' rg' b_version' b_type' b_items' b_parent' b_field' b_val' rMs rSt rEn hr I R Fr h0 hLi htd hn hrr hok; omega
  | succ k ih =>
    intro r Q rp n' p' q' w' d' rl' td' rg' b_version' b_type' b_items' b_parent' b_field' b_val' rMs rSt rEn hr I R Fr h0 hLi htd hn hrr hok
    rw [wY_decode_89]
    dsimp only
    refine br_f (nI_ge (b := 128) (by omega) (by omega)) ?_
    cases Q with
    | nil =>
      refine br_t (nI_le (by rw [List.length_nil]; omega) (by omega)) (Kok (hok.mpr (fun x hx => by cases hx)) _ _ _ _ _ _ _ _ _ _ _ _ _ _ _ _ _ _ _ I R Fr h0 (fun i hi => ?_))
      rw [htd i hi]; rfl
    | cons x Q =>
      obtain ⟨m, c, st⟩ := x
      obtain ⟨a1, a2, a3, a4, a5, a6, a7⟩ := hLi 0 (m, c, st) rfl
      rw [Nat.add_zero] at a1 a2 a3
      have hlen : ((m, c, st) :: Q).length = Q.length + 1 := List.length_cons
      have hwt : sd_wt ((m, c, st) :: Q) = (st - c) + sd_wt Q := rfl
      rw [hlen, hwt] at hrr
      rw [hwt] at hn
      refine br_f (nI_ge (by rw [hlen]; omega) (by rw [hlen]; omega)) (br_t rfl ?_)
      rw [nI_clamp (n := r) (by omega), a2]
      refine ⟨vp_in_nI (by omega) (by omega), nm_e ⟨st - c + 1, ?_⟩⟩
      have er : r + ((m, c, st) :: Q).length = r + 1 + Q.length := by rw [hlen]; omega
      rw [er]
      refine sy_d127 (OKr := OKr) X hb hB hLC w0 (fun hno rp2 rg2 ve2 ty2 it2 pa2 fi2 va2 rMs2 rSt2 rEn2 Fr2 => ?_) (fun Q2 rp2 n2 p2 q2 w2 d2 rl2 td2 rg2 ve2 ty2 it2 pa2 fi2 va2 rMs2 rSt2 rEn2 I2 R2 Fr2 h02 hLi2 htd2 hn2 hrr2 hok2 => ?_) (st - c) c st m 0 Q n' p' q' w' d' rl' td' rg' _ _ _ _ _ _ rMs rSt rEn (Nat.le_refl _) I R Fr h0 a4 a5 a1 a3 (fun i y hy => ?_) (fun i hi => ?_) a6 a7 (Nat.zero_le _) (by omega) (by omega) ?_
      · unfold wY_decode_89 wY_decode_186
        have hp := Kbad hno rp2 rg2 ve2 ty2 it2 pa2 fi2 va2 rMs2 rSt2 rEn2 Fr2
        exact br_c (fun _ => br_f (by decide) hp) (fun _ => br_c (fun _ => br_f (by decide) hp) (fun _ => br_f (by decide) (br_f (by decide) hp)))
      · exact ih (r + 1) Q2 rp2 n2 p2 q2 w2 d2 rl2 td2 rg2 ve2 ty2 it2 pa2 fi2 va2 rMs2 rSt2 rEn2 (by omega) I2 R2 Fr2 h02 hLi2 htd2 hn2 hrr2 hok2
      · have e2 : r + 1 + i = r + (i + 1) := by omega
        rw [e2]
        exact hLi (i + 1) y hy
      · rw [htd i hi]
        by_cases em : i = m
        · subst em; rw [if_pos rfl, sd_Q_cons_s]
        · rw [if_neg em, sd_Q_cons_n (fun z => em z.symm), List.nil_append]
      · rw [hok]
        constructor
        · intro z
          exact ⟨z (m, c, st) (List.mem_cons_self ..), fun y hy => z y (List.mem_cons_of_mem _ hy)⟩
        · intro z y hy
          rcases List.mem_cons.mp hy with hy | hy
          · subst hy; exact z.1
          · exact z.2 y hy
end
end
section
/-! decode -/
theorem sd_I0 {B : Nat → Int32} {K : Nat → Nat} {C F D v L ty : Nat} {p q : Nat → Nat} {td : Nat → List sd_At} (hv : v < 3) (hty : ty < 3) (h : td 0 = sd_A B K F D (v * 3 + ty) 0 0 L) :
    sd_Inv B K C F D v L 0 p q (fun _ => nI ty) (fun _ => 0) (fun _ => []) td (fun _ => [(0, L)]) := by
  have hsc : sw_sc v (fun _ => nI ty) 0 = v * 3 + ty := by rw [sw_sc, nI_clamp (by omega)]
  refine ⟨sw_WF_start hty hv, fun m f hm => rfl, fun m hm => ?_, rfl, fun j hj hn => ?_⟩
  · obtain rfl : m = 0 := by omega
    rw [List.nil_append, h, hsc, List.flatMap_cons, List.flatMap_nil, List.append_nil]
  · obtain rfl : j = 0 := by omega
    exact absurd sw_ms0 hn
section
variable {g_capacity g_maxField g_maxDepth g_outLen g_regions g_pos g_bad : Int32} {b_kinds b_held b_version b_type b_cursor b_items b_parent b_field b_val b_bytes b_length b_out b_encStart b_encLen b_partner b_regMsg b_regStart b_regEnd : Nat → Int32} {s v n : Nat} {p q : Nat → Nat} {w : Nat → Int32} {post : Int32 → SY → Prop}
theorem sy_cp {i : Nat} (R : sy_R s v i p q w b_version b_type b_items b_parent b_field b_val) : sy_R s v (i + 1) p q w b_version b_type (upd b_items s (nI (i + 1))) (upd b_parent (s * 120 + i) (sw_mI (p (i + 1)))) (upd b_field (s * 120 + i) (nI (q (i + 1)))) (upd b_val (s * 120 + i) (w (i + 1))) := by
  have h := sy_add R (m := p (i + 1)) (f := q (i + 1)) (x := w (i + 1))
  have e1 : sw_up p (i + 1) (p (i + 1)) = p := by
    funext j
    by_cases e : j = i + 1
    · subst e; rw [sw_us]
    · rw [sw_un e]
  have e2 : sw_up q (i + 1) (q (i + 1)) = q := by
    funext j
    by_cases e : j = i + 1
    · subst e; rw [sw_us]
    · rw [sw_un e]
  have e3 : upd w (i + 1) (w (i + 1)) = w := by
    funext j
    by_cases e : j = i + 1
    · subst e; rw [pk_us]
    · rw [pk_un e]
  rw [e1, e2, e3] at h
  exact h
theorem sy_d208 (hs : s < 2) (hn : n ≤ 120)
    (h : ∀ b_version' b_type' b_items' b_parent' b_field' b_val' : Nat → Int32, sy_R s v n p q w b_version' b_type' b_items' b_parent' b_field' b_val' → (∀ s1 v1 n1 : Nat, ∀ p1 q1 : Nat → Nat, ∀ w1 : Nat → Int32, s1 < 2 → s1 ≠ s → n1 ≤ 120 → sy_R s1 v1 n1 p1 q1 w1 b_version b_type b_items b_parent b_field b_val → sy_R s1 v1 n1 p1 q1 w1 b_version' b_type' b_items' b_parent' b_field' b_val') → post 0 (g_capacity, g_maxField, g_maxDepth, g_outLen, g_regions, g_pos, g_bad, b_kinds, b_held, b_version', b_type', b_cursor, b_items', b_parent', b_field', b_val', b_bytes, b_length, b_out, b_encStart, b_encLen, b_partner, b_regMsg, b_regStart, b_regEnd)) :
    ∀ (k i : Nat) (b_version' b_type' b_items' b_parent' b_field' b_val' : Nat → Int32), i + k = n → sy_R s v i p q w b_version' b_type' b_items' b_parent' b_field' b_val' → sy_R 2 v n p q w b_version' b_type' b_items' b_parent' b_field' b_val' → (∀ s1 v1 n1 : Nat, ∀ p1 q1 : Nat → Nat, ∀ w1 : Nat → Int32, s1 < 2 → s1 ≠ s → n1 ≤ 120 → sy_R s1 v1 n1 p1 q1 w1 b_version b_type b_items b_parent b_field b_val → sy_R s1 v1 n1 p1 q1 w1 b_version' b_type' b_items' b_parent' b_field' b_val') →
      wY_decode_208 post (nI s) (k + 1) (nI i) g_capacity g_maxField g_maxDepth g_outLen g_regions g_pos g_bad b_kinds b_held b_version' b_type' b_cursor b_items' b_parent' b_field' b_val' b_bytes b_length b_out b_encStart b_encLen b_partner b_regMsg b_regStart b_regEnd := by
  intro k
  induction k with
  | zero =>
    intro i b_version' b_type' b_items' b_parent' b_field' b_val' hi R R2 Fr
    obtain rfl : i = n := by omega
    unfold wY_decode_208
    dsimp only
    rw [R2.2.2.1]
    exact br_t (nI_le (Nat.le_refl _) (by omega)) (h _ _ _ _ _ _ R Fr)
  | succ k ih =>
    intro i b_version' b_type' b_items' b_parent' b_field' b_val' hi R R2 Fr
    obtain ⟨a1, a2, a3⟩ := R2.2.2.2 i (by omega)
    have e240 : (240 : Int32) + nI i = nI (2 * 120 + i) := by rw [show (240 : Int32) = nI 240 from rfl, nI_add]
    have hv : vp_in (nI (2 * 120 + i)) 360 := vp_in_nI (by omega) (by omega)
    rw [wY_decode_208]
    dsimp only
    rw [R2.2.2.1, e240, nI_clamp (n := 2 * 120 + i) (by omega), a1, a2, a3, nI_1 i]
    refine br_f (nI_ge (by omega) (by omega)) ⟨hv, hv, hv, sy_addP R (by omega) (by omega) (nm_e ?_)⟩
    have F1 := sy_Fr_add (s0 := s) (n := i) (by omega : i < 120) (x := sw_mI (p (i + 1))) (y := nI (q (i + 1))) (z := w (i + 1)) (i := nI (i + 1)) (b_version := b_version') (b_type := b_type') (b_items := b_items') (b_parent := b_parent') (b_field := b_field') (b_val := b_val')
    exact ih (i + 1) _ _ _ _ _ _ (by omega) (sy_cp R) (F1 2 v n p q w (by omega) (by omega) hn R2) (fun s1 v1 n1 p1 q1 w1 y1 y2 y3 y4 => F1 s1 v1 n1 p1 q1 w1 (by omega) y2 y3 (Fr s1 v1 n1 p1 q1 w1 y1 y2 y3 y4))
end
theorem i_vc_decode {k : Nat} {u : SX} {v : SY} (I : i_Rel k u v) (hk : k + 5 ≤ 2563) (v1 : Int32) (v2 : Int32) (v3 : Int32) (v4 : Int32) : wpX_decode (fun r u' => wpY_decode (fun r' v' => r' = r ∧ i_Rel (k + 5) u' v') v v1 v2 v3 v4) u v1 v2 v3 v4 := by
  refine sr_el (P := fun u v => wpX_decode (fun r u' => wpY_decode (fun r' v' => r' = r ∧ i_Rel (k + 5) u' v') v v1 v2 v3 v4) u v1 v2 v3 v4) ?_ I
  intro f_capacity f_maxField f_maxDepth f_spare f_writeAt f_level f_readAt f_broken a_kinds a_held a_storeOf a_cursor a_items a_word a_next a_schemaOf a_parentOf a_depthOf a_head a_tail a_length a_bytes a_filled a_sizeOf a_placeOf a_match a_regionEnd a_regionMessage g_outLen g_regions g_pos g_bad b_version b_type b_cursor b_items b_parent b_field b_val b_out b_encStart b_encLen b_partner b_regMsg b_regStart b_regEnd H
  have HI : i_Rel (k + 5) (f_capacity, f_maxField, f_maxDepth, f_spare, f_writeAt, f_level, f_readAt, f_broken, a_kinds, a_held, a_storeOf, a_cursor, a_items, a_word, a_next, a_schemaOf, a_parentOf, a_depthOf, a_head, a_tail, a_length, a_bytes, a_filled, a_sizeOf, a_placeOf, a_match, a_regionEnd, a_regionMessage) (f_capacity, f_maxField, f_maxDepth, g_outLen, g_regions, g_pos, g_bad, a_kinds, a_held, b_version, b_type, b_cursor, b_items, b_parent, b_field, b_val, a_bytes, a_filled, b_out, b_encStart, b_encLen, b_partner, b_regMsg, b_regStart, b_regEnd) := sr_in H
  obtain ⟨K, C, F, D, st, hC, hSt, hFl, hSl⟩ := H
  obtain ⟨x1, x2, x3, x4, x5, x6, e1, e2, e3, x7⟩ := id hC
  have hbad : ¬ ((0 ≤ v1.toInt ∧ v1.toInt < 2) ∧ (0 ≤ v2.toInt ∧ v2.toInt < 2) ∧ (0 ≤ v3.toInt ∧ v3.toInt < 3 ∧ 0 ≤ v4.toInt ∧ v4.toInt < 3)) → wpY_decode (fun r' v' => r' = (-1) ∧ i_Rel (k + 5) (f_capacity, f_maxField, f_maxDepth, f_spare, f_writeAt, f_level, f_readAt, f_broken, a_kinds, a_held, a_storeOf, a_cursor, a_items, a_word, a_next, a_schemaOf, a_parentOf, a_depthOf, a_head, a_tail, a_length, a_bytes, a_filled, a_sizeOf, a_placeOf, a_match, a_regionEnd, a_regionMessage) v') (f_capacity, f_maxField, f_maxDepth, g_outLen, g_regions, g_pos, g_bad, a_kinds, a_held, b_version, b_type, b_cursor, b_items, b_parent, b_field, b_val, a_bytes, a_filled, b_out, b_encStart, b_encLen, b_partner, b_regMsg, b_regStart, b_regEnd) v1 v2 v3 v4 := by
    intro z
    unfold wpY_decode
    exact sn_br (sn_gt 0 v1) (fun _ => ⟨rfl, HI⟩) (fun _ => sn_br (sn_lt 1 v1) (fun _ => ⟨rfl, HI⟩) (fun _ => sn_br (sn_gt 0 v2) (fun _ => ⟨rfl, HI⟩) (fun _ => sn_br (sn_ge 1 v2) (fun _ => sn_br (sn_gt 0 v3) (fun _ => ⟨rfl, HI⟩) (fun _ => sn_br (sn_lt 2 v3) (fun _ => ⟨rfl, HI⟩) (fun _ => sn_br (sn_gt 0 v4) (fun _ => ⟨rfl, HI⟩) (fun _ => sn_br (sn_ge 2 v4) (fun _ => absurd (by omega) z) (fun _ => ⟨rfl, HI⟩))))) (fun _ => ⟨rfl, HI⟩))))
  unfold wpX_decode
  refine sx_isBuffer (fun z => br_t rfl (hbad (fun y => z y.1))) (fun z1 => br_f (by decide) ?_)
  refine sx_isSlot (fun z => br_t rfl (hbad (fun y => z y.2.1))) (fun z2 => br_f (by decide) ?_)
  refine sx_isSchema (fun z => br_t rfl (hbad (fun y => z y.2.2))) (fun z3 => br_f (by decide) ?_)
  obtain ⟨b, hb, rfl⟩ := sn_of (z := v1) (c := 2) z1.1 z1.2
  obtain ⟨s, hs, rfl⟩ := sn_of (z := v2) (c := 2) z2.1 z2.2
  obtain ⟨v, hv, rfl⟩ := sn_of (z := v3) (c := 3) z3.1 z3.2.1
  obtain ⟨ty, hty, rfl⟩ := sn_of (z := v4) (c := 3) z3.2.2.1 z3.2.2.2
  obtain ⟨L, hL, eL⟩ := hFl b hb
  have eb : (nI b).toNatClampNeg = b := nI_clamp (by omega)
  have es : (nI s).toNatClampNeg = s := nI_clamp (by omega)
  obtain ⟨q1, q2, q3, q4, q5, q6, q7, q8, q9⟩ := id hSt
  obtain ⟨est, hts, hne⟩ := sr_st hSt hs
  have hscr : sw_sc v (fun _ => nI ty) 0 = v * 3 + ty := by rw [sw_sc, nI_clamp (by omega)]
  rw [sn_3, q3]
  refine sx_resetStore (K := K) (F := F) (p := fun _ => 0) (q := fun _ => 0) q6 hty hv (fun a_items' a_word' a_next' a_schemaOf' a_parentOf' a_depthOf' a_head' a_tail' a_length' R1 Fr1 => ?_)
  dsimp only
  rw [eb, eL, sn_m120, sn_m121]
  refine nm_e ⟨vp_in_nI hb (by omega), ?_⟩
  rw [nI_add]
  refine nm_e (nm_e (nm_e ⟨L + 1, ?_⟩))
  -- the reference, from here on
  have hY : ∀ post : Int32 → SY → Prop,
      (¬ sd_Ok (fun i => a_bytes (b * 120 + i)) K F D v (v * 3 + ty) 0 0 L → ∀ (rp rg0 : Int32) (b_version' b_type' b_items' b_parent' b_field' b_val' rMs rSt rEn : Nat → Int32), sy_Fr 2 b_version b_type b_items b_parent b_field b_val b_version' b_type' b_items' b_parent' b_field' b_val' → post (-8) (f_capacity, f_maxField, f_maxDepth, g_outLen, rg0, rp, 1, a_kinds, a_held, b_version', b_type', b_cursor, b_items', b_parent', b_field', b_val', a_bytes, a_filled, b_out, b_encStart, b_encLen, b_partner, rMs, rSt, rEn)) →
      (sd_Ok (fun i => a_bytes (b * 120 + i)) K F D v (v * 3 + ty) 0 0 L → ∀ (rp rg0 : Int32) (n' : Nat) (p' q' : Nat → Nat) (w' : Nat → Int32) (d' : Nat → Nat) (rl' td' : Nat → List sd_At) (rg' : Nat → List (Nat × Nat)) (b_version' b_type' b_items' b_parent' b_field' b_val' rMs rSt rEn : Nat → Int32), sd_Inv (fun i => a_bytes (b * 120 + i)) K C F D v L n' p' q' w' d' rl' td' rg' → (∀ i, i ≤ n' → td' i = []) → w' 0 = nI ty → sy_R s v n' p' q' w' b_version' b_type' b_items' b_parent' b_field' b_val' → (∀ s1 v1 n1 : Nat, ∀ p1 q1 : Nat → Nat, ∀ w1 : Nat → Int32, s1 < 2 → s1 ≠ s → n1 ≤ 120 → sy_R s1 v1 n1 p1 q1 w1 b_version b_type b_items b_parent b_field b_val → sy_R s1 v1 n1 p1 q1 w1 b_version' b_type' b_items' b_parent' b_field' b_val') → post 0 (f_capacity, f_maxField, f_maxDepth, g_outLen, rg0, rp, 0, a_kinds, upd a_held s (vp_nar .boolean 1), b_version', b_type', upd b_cursor s (-1), b_items', b_parent', b_field', b_val', a_bytes, a_filled, b_out, b_encStart, b_encLen, b_partner, rMs, rSt, rEn)) →
      wpY_decode post (f_capacity, f_maxField, f_maxDepth, g_outLen, g_regions, g_pos, g_bad, a_kinds, a_held, b_version, b_type, b_cursor, b_items, b_parent, b_field, b_val, a_bytes, a_filled, b_out, b_encStart, b_encLen, b_partner, b_regMsg, b_regStart, b_regEnd) (nI b) (nI s) (nI v) (nI ty) := by
    intro post Kb Ko
    unfold wpY_decode
    dsimp only
    rw [eb, eL]
    refine pk_lt b 0 (fun _ => by omega) (fun _ => pk_lt 1 b (fun _ => by omega) (fun _ => pk_lt s 0 (fun _ => by omega) (fun _ => pk_le s 1 (fun _ => pk_lt v 0 (fun _ => by omega) (fun _ => pk_lt 2 v (fun _ => by omega) (fun _ => pk_lt ty 0 (fun _ => by omega) (fun _ => pk_le ty 2 (fun _ => ?_) (fun _ => by omega))))) (fun _ => by omega))))
    refine nm_e (nm_e (nm_e ⟨vp_in_nI hb (by omega), ?_⟩))
    unfold wpY_addRegion
    refine br_t (by decide) ⟨vp_in_nI (n := 0) (by omega) (by omega), nm_e ⟨vp_in_nI (n := 0) (by omega) (by omega), nm_e ⟨vp_in_nI (n := 0) (by omega) (by omega), nm_e (nm_e ⟨129, ?_⟩)⟩⟩⟩
    have FrB : sy_Fr 2 b_version b_type b_items b_parent b_field b_val (upd b_version 2 (nI v)) (upd b_type 2 (nI ty)) (upd b_items 2 0) b_parent b_field b_val := by
      intro s1 v1 n1 p1 q1 w1 y1 y2 y3 y4
      exact sy_congr y4 (pk_un y2) (pk_un y2) (pk_un y2) (fun _ _ => ⟨rfl, rfl, rfl⟩)
    have hQ0 : sd_Q (fun i => a_bytes (b * 120 + i)) K F D v (fun _ => nI ty) (fun _ => 0) [(0, 0, L)] 0 = sd_A (fun i => a_bytes (b * 120 + i)) K F D (v * 3 + ty) 0 0 L := by
      rw [sd_Q_cons_s, hscr, sd_Q_none (fun x hx => by cases hx), List.append_nil]
    have key := sy_d89 (post := post) (x2 := nI s) (x3 := nI v) (x4 := nI ty) (B := fun i => a_bytes (b * 120 + i)) (L := L) (v := v) (b := b) (b_version := upd b_version 2 (nI v)) (b_type := upd b_type 2 (nI ty)) (b_items := upd b_items 2 0) (b_parent := b_parent) (b_field := b_field) (b_val := b_val)
      (g_capacity := f_capacity) (g_maxField := f_maxField) (g_maxDepth := f_maxDepth) (g_outLen := g_outLen) (b_kinds := a_kinds) (b_held := a_held) (b_cursor := b_cursor) (b_bytes := a_bytes) (b_length := a_filled) (b_out := b_out) (b_encStart := b_encStart) (b_encLen := b_encLen) (b_partner := b_partner)
      (OKr := sd_Ok (fun i => a_bytes (b * 120 + i)) K F D v (v * 3 + ty) 0 0 L) hC hb rfl hL (nI ty)
      (fun hno rp rg0 ve2 ty2 it2 pa2 fi2 va2 rMs rSt rEn Fr2 => Kb hno rp rg0 ve2 ty2 it2 pa2 fi2 va2 rMs rSt rEn (fun s1 v1 n1 p1 q1 w1 y1 y2 y3 y4 => Fr2 s1 v1 n1 p1 q1 w1 y1 y2 y3 (FrB s1 v1 n1 p1 q1 w1 y1 y2 y3 y4)))
      (fun hyes rp rg0 n2 p2 q2' w2 d2 rl2 td2 rg2 ve2 ty2 it2 pa2 fi2 va2 rMs rSt rEn I2 R2 Fr2 h02 htd2 => by
        have hn2 := I2.1.1
        unfold wY_decode_186
        refine br_t rfl ?_
        unfold wpY_start
        dsimp only
        rw [es]
        have h3 : vp_in (nI s) 3 := vp_in_nI (by omega) (by omega)
        refine pk_lt s 0 (fun _ => by omega) (fun _ => pk_lt 1 s (fun _ => by omega) (fun _ => pk_lt v 0 (fun _ => by omega) (fun _ => pk_lt 2 v (fun _ => by omega) (fun _ => pk_lt ty 0 (fun _ => by omega) (fun _ => pk_le ty 2 (fun _ => ?_) (fun _ => by omega))))))
        refine ⟨h3, nm_e ⟨h3, nm_e ⟨h3, nm_e ⟨h3, nm_e ⟨h3, nm_e ⟨n2 + 1, ?_⟩⟩⟩⟩⟩⟩
        have FrS : sy_Fr s ve2 ty2 it2 pa2 fi2 va2 (upd ve2 s (nI v)) (upd ty2 s (nI ty)) (upd it2 s 0) pa2 fi2 va2 := by
          intro s1 v1 n1 p1 q1 w1 y1 y2 y3 y4
          exact sy_congr y4 (pk_un y2) (pk_un y2) (pk_un y2) (fun _ _ => ⟨rfl, rfl, rfl⟩)
        refine sy_d208 (v := v) (n := n2) (p := p2) (q := q2') (w := w2) hs (by omega) (fun b_version' b_type' b_items' b_parent' b_field' b_val' R3 Fr3 => ?_) n2 0 _ _ _ _ _ _ (by omega) ⟨pk_us, by rw [pk_us, h02], pk_us, fun i hi => by omega⟩ (FrS 2 v n2 p2 q2' w2 (by omega) (by omega) (by omega) R2) (fun s1 v1 n1 p1 q1 w1 y1 y2 y3 y4 => y4)
        refine Ko hyes rp rg0 n2 p2 q2' w2 d2 rl2 td2 rg2 _ _ _ _ _ _ _ _ _ I2 htd2 h02 R3 (fun s1 v1 n1 p1 q1 w1 y1 y2 y3 y4 => Fr3 s1 v1 n1 p1 q1 w1 y1 y2 y3 (FrS s1 v1 n1 p1 q1 w1 (by omega) y2 y3 (Fr2 s1 v1 n1 p1 q1 w1 (by omega) (by omega) y3 (FrB s1 v1 n1 p1 q1 w1 (by omega) (by omega) y3 y4)))))
      128 0 [(0, 0, L)] g_pos 0 (fun _ => 0) (fun _ => 0) (fun _ => nI ty) (fun _ => 0) (fun _ => []) (sd_Q (fun i => a_bytes (b * 120 + i)) K F D v (fun _ => nI ty) (fun _ => 0) [(0, 0, L)]) (fun _ => [(0, L)]) _ _ _ _ _ _ (upd b_regMsg 0 (-1)) (upd b_regStart 0 0) (upd b_regEnd 0 (nI L)) (by omega) (sd_I0 hv hty hQ0) ⟨pk_us, pk_us, pk_us, fun i hi => by omega⟩ sy_Fr_refl rfl
      (fun i x hx => by
        have hi : i = 0 := by
          have := (List.getElem?_eq_some_iff.mp hx).1
          rw [List.length_singleton] at this; omega
        subst hi
        obtain rfl : (0, 0, L) = x := Option.some.inj hx
        refine ⟨?_, ?_, ?_, Nat.le_refl _, sw_ms0, Nat.zero_le _, Nat.le_refl _⟩
        · rw [Nat.add_zero, pk_us, sw_mI_0]
        · rw [Nat.add_zero, pk_us]; rfl
        · rw [Nat.add_zero, pk_us])
      (fun i hi => rfl) (by simp only [sd_wt]; omega) (by simp only [sd_wt, List.length_singleton]; omega)
      (by
        constructor
        · intro g x hx
          rw [List.mem_singleton] at hx
          subst hx
          show sd_Ok _ K F D v (sw_sc v (fun _ => nI ty) 0) 0 0 L
          rw [hscr]; exact g
        · intro g
          have := g (0, 0, L) (List.mem_singleton.mpr rfl)
          have h2 : sd_Ok (fun i => a_bytes (b * 120 + i)) K F D v (sw_sc v (fun _ => nI ty) 0) 0 0 L := this
          rw [hscr] at h2; exact h2)
    exact key
  have hSt2 : sr_St st a_storeOf (nI (st 2)) := by rw [← q3]; exact hSt
  refine sx_dfs (t := st 2) (base := b * 120) (B := fun i => a_bytes (b * 120 + i)) (L := L) (v := v) hC q6 rfl (by omega) hL rfl L 0 L 0 0 0 0 (L + 1) 0 (fun _ => 0) (fun _ => 0) (fun _ => nI ty) (fun _ => 0) (fun _ => []) (fun _ => sd_A (fun i => a_bytes (b * 120 + i)) K F D (v * 3 + ty) 0 0 L) (fun _ => [(0, L)]) _ _ _ _ _ _ _ _ _ _ _ (by omega) (sd_I0 hv hty rfl) R1 (Nat.le_refl _) sw_ms0 rfl (Nat.le_refl _) (by omega) pk_us pk_us (fun i y1 y2 => by omega) (by rw [hscr]) (fun i y1 y2 => by omega) (Nat.le_refl _) (Nat.zero_le _) (Nat.le_refl _) (Nat.le_refl _) (by omega) (fun hno al' r step' fuel' i2 wo2 ne2 sc2 pa2 de2 he2 ta2 le2 rE' rM' Fr2 hf' => ?_) (fun hyes n' p' q' w' d' rl' td' rg' i2 wo2 ne2 sc2 pa2 de2 he2 ta2 le2 rE' rM' al' step' fuel' I2 R2 Fr2 E2 t0 lo2 hi2 hn2 y1 y2 y3 y4 y5 y6 => ?_)
  · rw [hscr] at hno
    obtain ⟨g, rfl⟩ : ∃ g, fuel' = g + 1 := ⟨fuel' - 1, by omega⟩
    have hp := hY (fun r' v' => r' = (-8) ∧ i_Rel (k + 5) (f_capacity, f_maxField, f_maxDepth, nI (st 2), f_writeAt, al', r, 1, a_kinds, a_held, a_storeOf, a_cursor, i2, wo2, ne2, sc2, pa2, de2, he2, ta2, le2, a_bytes, a_filled, a_sizeOf, a_placeOf, a_match, rE', rM') v') (fun _ rp rg0 ve2 ty2 it2 pr2 fi2 va2 rMs rSt rEn Fr3 => ⟨rfl, sr_in ⟨K, C, F, D, st, hC, hSt2, hFl, fun s1 hs1 hh1 => ?_⟩⟩) (fun hyes => absurd hyes hno)
    · unfold wX_decode_97 wX_decode_136
      exact br_c (fun _ => br_f (by decide) hp) (fun _ => br_c (fun _ => br_f (by decide) hp) (fun _ => br_f (by decide) (br_f (by decide) hp)))
    · exact sr_keep x2 (hSl s1 hs1 hh1) (fun t2 v0 n0 p0 q0 w0 d0 z1 z2 z3 z4 => Fr2 t2 v0 n0 p0 q0 w0 d0 z1 z2 z3 (Fr1 t2 v0 n0 p0 q0 w0 d0 z1 z2 z3 z4)) Fr3 (sr_st hSt hs1).2.1 (sr_st hSt hs1).2.2 (by omega) (by omega) rfl rfl
  · rw [hscr] at hyes
    obtain ⟨g, rfl⟩ : ∃ g, fuel' = g + 1 := ⟨fuel' - 1, by omega⟩
    have hw0 : w' 0 = nI ty := ((E2.2 0 (Nat.le_refl _)).2 sw_ms0).2
    have htd0 : ∀ i, i ≤ n' → td' i = [] := fun i hi => by
      by_cases z : i = 0
      · rw [z]; exact t0
      · exact hi2 i (by omega) hi
    have h136 : wX_decode_136 (fun r u' => wpY_decode (fun r' v' => r' = r ∧ i_Rel (k + 5) u' v') (f_capacity, f_maxField, f_maxDepth, g_outLen, g_regions, g_pos, g_bad, a_kinds, a_held, b_version, b_type, b_cursor, b_items, b_parent, b_field, b_val, a_bytes, a_filled, b_out, b_encStart, b_encLen, b_partner, b_regMsg, b_regStart, b_regEnd) (nI b) (nI s) (nI v) (nI ty)) (nI s) f_capacity f_maxField f_maxDepth (nI (st 2)) f_writeAt (nI al') (nI (b * 120 + L)) 0 a_kinds a_held a_storeOf a_cursor i2 wo2 ne2 sc2 pa2 de2 he2 ta2 le2 a_bytes a_filled a_sizeOf a_placeOf a_match rE' rM' := by
      unfold wX_decode_136
      rw [es, est]
      have hv2 : vp_in (nI s) 2 := vp_in_nI hs (by omega)
      refine br_t rfl ⟨hv2, nm_e ⟨hv2, nm_e ⟨hv2, nm_e ⟨hv2, hv2, ?_⟩⟩⟩⟩
      rw [pk_us, sn_m121]
      refine nm_e (hY _ (fun hno => absurd hyes hno) (fun _ rp rg0 n2 p2 q2' w2 d2 rl2 td2 rg2 ve2 ty2 it2 pr2 fi2 va2 rMs rSt rEn I3 htd3 h03 R3 Fr3 => ⟨rfl, ?_⟩))
      have Is := sd_final I2 htd0 I3 htd3 (by rw [h03, hw0])
      have enn := sw_in Is (sw_up_of I2.1) (sw_up_of I3.1)
      subst enn
      refine sr_in ⟨K, C, F, D, fun i => if i = s then st 2 else if i = 2 then st s else st i, hC, ?_, hFl, fun s1 hs1 hh1 => ?_⟩
      · obtain rfl | rfl : s = 0 ∨ s = 1 := by omega
        · exact ⟨pk_us, by rw [pk_un (by decide)]; exact q2, rfl, q6, q5, q4, fun z => q9 z.symm, fun z => q8 z.symm, fun z => q7 z.symm⟩
        · exact ⟨by rw [pk_un (by decide)]; exact q1, pk_us, rfl, q4, q6, q5, q8, q7, fun z => q9 z.symm⟩
      · by_cases e : s1 = s
        · subst e
          dsimp only
          rw [if_pos rfl]
          exact ⟨v, n', p', q', d', p2, q2', d2, w', w2, _, 0, I2.1, I3.1, R2, R3, Is, Nat.zero_le _, sw_ms0, by rw [pk_us, Nat.add_zero], by rw [pk_us, sw_mp0, sw_mI_0]⟩
        · dsimp only
          rw [if_neg e, if_neg (by omega)]
          rw [pk_un e] at hh1
          obtain ⟨v0, n0, p0, q0, d0, p0', q0', d0', w0, w0', σ0, c0, W0, W0', R0, R0', Is0, hc0, hms0, hcx0, hcy0⟩ := hSl s1 hs1 hh1
          have hn0 := W0.1
          have htt := sr_st hSt hs1
          exact ⟨v0, n0, p0, q0, d0, p0', q0', d0', w0, w0', σ0, c0, W0, W0', Fr2 _ _ _ _ _ _ _ htt.2.1 htt.2.2 (by omega) (Fr1 _ _ _ _ _ _ _ htt.2.1 htt.2.2 (by omega) R0), Fr3 _ _ _ _ _ _ hs1 e (by omega) R0', Is0, hc0, hms0, by rw [pk_un e]; exact hcx0, by rw [pk_un e]; exact hcy0⟩
    unfold wX_decode_97
    exact br_c (fun _ => h136) (fun _ => br_t (nI_le (Nat.le_refl _) (by omega)) h136)
end
