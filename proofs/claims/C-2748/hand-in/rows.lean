section
theorem pk_us {f : Nat → Int32} {k : Nat} {x : Int32} : upd f k x k = x := if_pos rfl
theorem pk_un {f : Nat → Int32} {k j : Nat} {x : Int32} (h : j ≠ k) : upd f k x j = f j := if_neg h
theorem pk_sub {a b : Nat} (h : b ≤ a) : nI a - nI b = nI (a - b) := by
  obtain ⟨c, rfl⟩ : ∃ c, a = c + b := ⟨a - b, by omega⟩
  rw [← nI_add, Int32.add_sub_cancel, Nat.add_sub_cancel]
theorem pk_m1 (n : Nat) : nI (n + 1) + (-1) = nI n := by
  rw [← nI_1, Int32.add_assoc, show (1 : Int32) + (-1) = 0 from rfl, Int32.add_zero]
theorem pk_mul (a b : Nat) : nI a * nI b = nI (a * b) := (Int32.ofNat_mul a b).symm
theorem pk_div {a d : Nat} (ha : a < 2 ^ 31) (h0 : 0 < d) (hd : d < 2 ^ 31) : nI a / nI d = nI (a / d) := by
  apply Int32.toInt_inj.mp
  rw [lg_idiv_nonneg (by rw [nI_toInt ha]; omega) (by rw [nI_toInt hd]; omega), nI_toInt ha, nI_toInt hd, nI_toInt (Nat.lt_of_le_of_lt (Nat.div_le_self a d) ha)]
  first | rfl | exact (Int.natCast_ediv _ _).symm
theorem pk_rem {a d : Nat} (ha : a < 2 ^ 31) (h0 : 0 < d) (hd : d < 2 ^ 31) : nI a - nI a / nI d * nI d = nI (a % d) := by
  rw [pk_div ha h0 hd, pk_mul, pk_sub (Nat.div_mul_le_self a d)]
  exact congrArg nI (by have := Nat.div_add_mod' a d; omega)
theorem pk_sub_toInt {a b : Nat} (ha : a < 2 ^ 30) (hb : b < 2 ^ 30) : (nI a - nI b).toInt = (a : Int) - b := by
  rw [Int32.toInt_sub, nI_toInt (by omega), nI_toInt (by omega)]
  exact Int.bmod_eq_of_le (by omega) (by omega)
theorem pk_sneg {a b : Nat} (hb : b < 2 ^ 30) (h : a < b) : nI a - nI b < 0 := by
  rw [Int32.lt_iff_toInt_lt, pk_sub_toInt (by omega) hb, show (0 : Int32).toInt = 0 from by decide]
  omega
theorem pk_ix (x : Int32) {n : Nat} (hn : n < 2 ^ 31) : x < 0 ∨ nI n ≤ x ∨ ∃ j : Nat, j < n ∧ x = nI j := by
  by_cases h : x < 0
  · exact Or.inl h
  · obtain ⟨j, hj, rfl⟩ := nI_of h
    by_cases h2 : j < n
    · exact Or.inr (Or.inr ⟨j, h2, rfl⟩)
    · exact Or.inr (Or.inl (nI_le (by omega) hj))
theorem pk_le {x y : Int32} {A B : Prop} (a b : Nat) (f : a ≤ b → A) (g : b < a → B) (hx : x = nI a := by rfl) (hy : y = nI b := by rfl) (ha : a < 2 ^ 31 := by omega) (hb : b < 2 ^ 31 := by omega) : (x ≤ y → A) ∧ (¬ x ≤ y → B) := by
  subst hx hy
  rw [nI_leI ha hb]
  exact ⟨f, fun z => g (by omega)⟩
theorem pk_lt {x y : Int32} {A B : Prop} (a b : Nat) (f : a < b → A) (g : b ≤ a → B) (hx : x = nI a := by rfl) (hy : y = nI b := by rfl) (ha : a < 2 ^ 31 := by omega) (hb : b < 2 ^ 31 := by omega) : (x < y → A) ∧ (¬ x < y → B) := by
  subst hx hy
  rw [nI_ltI ha hb]
  exact ⟨f, fun z => g (by omega)⟩
theorem pk_eq {x y : Int32} {A B : Prop} (a b : Nat) (f : a = b → A) (g : a ≠ b → B) (hx : x = nI a := by rfl) (hy : y = nI b := by rfl) (ha : a < 2 ^ 31 := by omega) (hb : b < 2 ^ 31 := by omega) : (x = y → A) ∧ (¬ x = y → B) := by
  subst hx hy
  rw [nI_eq ha hb]
  exact ⟨f, g⟩
theorem pk_in {x : Int32} (n N : Nat) (h : n < N) (hx : x = nI n := by rfl) (hN : N < 2 ^ 31 := by omega) : vp_in x N := by
  subst hx
  exact vp_in_nI h hN
theorem pk_cl {x : Int32} (n : Nat) (hx : x = nI n := by rfl) (h : n < 2 ^ 31 := by omega) : x.toNatClampNeg = n := by
  subst hx
  exact nI_clamp h
/-! ===== Int32 by its bits: bt x i ===== -/
def bt (x : Int32) (i : Nat) : Bool := x.toBitVec.getLsbD i
theorem b_ext {x y : Int32} (h : ∀ i, i < 32 → bt x i = bt y i) : x = y := Int32.toBitVec_inj.mp (BitVec.eq_of_getLsbD_eq (fun i hi => h i hi))
theorem b_or (x y : Int32) (i : Nat) : bt (x ||| y) i = (bt x i || bt y i) := by unfold bt; rw [Int32.toBitVec_or, BitVec.getLsbD_or]
theorem b_and (x y : Int32) (i : Nat) : bt (x &&& y) i = (bt x i && bt y i) := by unfold bt; rw [Int32.toBitVec_and, BitVec.getLsbD_and]
theorem b_xor (x y : Int32) (i : Nat) : bt (x ^^^ y) i = (bt x i ^^ bt y i) := by unfold bt; rw [Int32.toBitVec_xor, BitVec.getLsbD_xor]
theorem b_big {x : Int32} {i : Nat} (h : 32 ≤ i) : bt x i = false := BitVec.getLsbD_of_ge _ _ h
theorem b_255 (i : Nat) : bt 255 i = decide (i < 8) := by
  rcases Nat.lt_or_ge i 32 with h | h
  · exact (by decide +kernel : ∀ i, i < 32 → bt 255 i = decide (i < 8)) i h
  · rw [b_big h, decide_eq_false (by omega)]
theorem b_65535 (i : Nat) : bt 65535 i = decide (i < 16) := by
  rcases Nat.lt_or_ge i 32 with h | h
  · exact (by decide +kernel : ∀ i, i < 32 → bt 65535 i = decide (i < 16)) i h
  · rw [b_big h, decide_eq_false (by omega)]
theorem b_m1 : ∀ i, i < 32 → bt (-1) i = true := by decide +kernel
theorem b_0 (i : Nat) : bt 0 i = false := BitVec.getLsbD_zero
theorem s_l : ∀ n, n < 32 → ((nI n &&& 31).toBitVec.smod 32).toNat = n := by decide +kernel
theorem s_u : ∀ n, n < 32 → (((nI n).toUInt32 &&& Int32.toUInt32 31).toBitVec % 32).toNat = n := by decide +kernel
theorem b_shl (n : Nat) (hn : n < 32) (x : Int32) {i : Nat} (hi : i < 32) : bt (x <<< (nI n &&& 31)) i = (decide (n ≤ i) && bt x (i - n)) := by
  unfold bt
  rw [Int32.toBitVec_shiftLeft]
  show (x.toBitVec <<< ((nI n &&& 31).toBitVec.smod 32).toNat).getLsbD i = _
  rw [s_l n hn, BitVec.getLsbD_shiftLeft]
  rcases Nat.lt_or_ge i n with h | h
  · simp [h, Nat.not_le.mpr h]
  · simp [hi, h, Nat.not_lt.mpr h]
theorem b_ushr (n : Nat) (hn : n < 32) (x : Int32) (i : Nat) : bt ((x.toUInt32 >>> ((nI n).toUInt32 &&& Int32.toUInt32 31)).toInt32) i = bt x (n + i) := by
  show (x.toUInt32 >>> ((nI n).toUInt32 &&& Int32.toUInt32 31)).toBitVec.getLsbD i = x.toUInt32.toBitVec.getLsbD (n + i)
  rw [UInt32.toBitVec_shiftRight]
  show (x.toUInt32.toBitVec >>> (((nI n).toUInt32 &&& Int32.toUInt32 31).toBitVec % 32).toNat).getLsbD i = _
  rw [s_u n hn, BitVec.getLsbD_ushiftRight]
theorem b_sshr (n : Nat) (hn : n < 32) (x : Int32) {i : Nat} (hi : i < 32) : bt (x >>> (nI n &&& 31)) i = if n + i < 32 then bt x (n + i) else bt x 31 := by
  unfold bt
  rw [Int32.toBitVec_shiftRight]
  show (x.toBitVec.sshiftRight ((nI n &&& 31).toBitVec.smod 32).toNat).getLsbD i = _
  rw [s_l n hn, BitVec.getLsbD_sshiftRight, BitVec.msb_eq_getLsbD_last]
  simp [hi]
theorem nx_and (a b : Nat) : nI a &&& nI b = nI (a &&& b) := by
  apply Int32.toBitVec_inj.1
  show BitVec.ofNat 32 a &&& BitVec.ofNat 32 b = BitVec.ofNat 32 (a &&& b)
  apply BitVec.eq_of_getLsbD_eq
  intro i hi
  simp [hi]
theorem rx_nor (a b : Nat) : nI a ||| nI b = nI (a ||| b) := by
  apply Int32.toBitVec_inj.1
  show BitVec.ofNat 32 a ||| BitVec.ofNat 32 b = BitVec.ofNat 32 (a ||| b)
  apply BitVec.eq_of_getLsbD_eq
  intro i hi
  simp [hi]
end
section
/-! the pure semantics of patterns: nodes by number, parts before what they are parts of -/
abbrev rx_N := Nat → Int32
abbrev rx_O := Option (Nat × (Nat → Int32))
/-- the first run of part p from place i with notes s, and then k -/
def rx_M (kd fs sd : Nat → Nat) (ht : Nat → Nat → Bool) (n : Nat) (p i : Nat) (s : rx_N) (k : Nat → rx_N → rx_O) : rx_O :=
  if kd p < 4 then (if ht (kd p) i = true then k (i + 1) s else none)
  else if kd p = 4 then k i s
  else if h : fs p < p ∧ sd p < p then
    if kd p = 5 then rx_M kd fs sd ht n (fs p) i s (fun j s' => rx_M kd fs sd ht n (sd p) j s' k)
    else if kd p = 6 then (rx_M kd fs sd ht n (fs p) i s k).or (rx_M kd fs sd ht n (sd p) i s k)
    else if kd p = 7 then (rx_M kd fs sd ht n (fs p) i s (fun j s' => if h2 : i < j ∧ j ≤ n then rx_M kd fs sd ht n p j s' k else none)).or (k i s)
    else if kd p = 8 then (k i s).or (rx_M kd fs sd ht n (fs p) i s (fun j s' => if h2 : i < j ∧ j ≤ n then rx_M kd fs sd ht n p j s' k else none))
    else rx_M kd fs sd ht n (fs p) i (upd s (kd p - 6) (nI i)) (fun j s' => k j (upd s' (kd p - 9) (16 * s' (kd p - 6) + nI j)))
  else none
termination_by (p, n - i)
decreasing_by
  all_goals simp_wf
  all_goals first
    | exact Prod.Lex.left _ _ (by omega)
    | exact Prod.Lex.right _ (by omega)
/-- part p has a run from i to j -/
def rx_E (kd fs sd : Nat → Nat) (ht : Nat → Nat → Bool) (n : Nat) (p i j : Nat) : Prop :=
  if kd p < 4 then ht (kd p) i = true ∧ j = i + 1
  else if kd p = 4 then j = i
  else if h : fs p < p ∧ sd p < p then
    if kd p = 5 then ∃ l, l ≤ n ∧ rx_E kd fs sd ht n (fs p) i l ∧ rx_E kd fs sd ht n (sd p) l j
    else if kd p = 6 then rx_E kd fs sd ht n (fs p) i j ∨ rx_E kd fs sd ht n (sd p) i j
    else if kd p ≤ 8 then j = i ∨ ∃ l, ∃ _ : i < l ∧ l ≤ n, rx_E kd fs sd ht n (fs p) i l ∧ rx_E kd fs sd ht n p l j
    else rx_E kd fs sd ht n (fs p) i j
  else False
termination_by (p, n - i)
decreasing_by
  all_goals simp_wf
  all_goals first
    | exact Prod.Lex.left _ _ (by omega)
    | exact Prod.Lex.right _ (by omega)
/-- the nodes below m are well made: kinds, children before, and the groups in them (bit c of dg) -/
def rx_W (kd fs sd dg : Nat → Nat) (m : Nat) : Prop := ∀ p, p < m → kd p < 12 ∧ dg p < 8 ∧ (5 ≤ kd p → fs p < p ∧ sd p < p) ∧
  (kd p = 5 ∨ kd p = 6 → dg p = dg (fs p) ||| dg (sd p)) ∧ (kd p = 7 ∨ kd p = 8 → dg p = dg (fs p)) ∧
  (9 ≤ kd p → dg p = dg (fs p) ||| 2 ^ (kd p - 9) ∧ (dg (fs p)).testBit (kd p - 9) = false)
/-- letters are met within the text alone -/
def rx_H (ht : Nat → Nat → Bool) (n : Nat) : Prop := ∀ c i, ht c i = true → i < n
section
variable {kd fs sd dg : Nat → Nat} {ht : Nat → Nat → Bool} {n m : Nat}
theorem rx_M0 {p i : Nat} {s : rx_N} {k : Nat → rx_N → rx_O} (h : kd p < 4) : rx_M kd fs sd ht n p i s k = if ht (kd p) i = true then k (i + 1) s else none := by
  rw [rx_M, if_pos h]
theorem rx_M4 {p i : Nat} {s : rx_N} {k : Nat → rx_N → rx_O} (h : kd p = 4) : rx_M kd fs sd ht n p i s k = k i s := by
  rw [rx_M, if_neg (by omega), if_pos h]
theorem rx_M5 {p i : Nat} {s : rx_N} {k : Nat → rx_N → rx_O} (h : kd p = 5) (w : fs p < p ∧ sd p < p) : rx_M kd fs sd ht n p i s k = rx_M kd fs sd ht n (fs p) i s (fun j s' => rx_M kd fs sd ht n (sd p) j s' k) := by
  rw [rx_M, if_neg (by omega), if_neg (by omega), dif_pos w, if_pos h]
theorem rx_M6 {p i : Nat} {s : rx_N} {k : Nat → rx_N → rx_O} (h : kd p = 6) (w : fs p < p ∧ sd p < p) : rx_M kd fs sd ht n p i s k = (rx_M kd fs sd ht n (fs p) i s k).or (rx_M kd fs sd ht n (sd p) i s k) := by
  rw [rx_M, if_neg (by omega), if_neg (by omega), dif_pos w, if_neg (by omega), if_pos h]
/-- a further round: only one that gets ahead -/
def rx_K (kd fs sd : Nat → Nat) (ht : Nat → Nat → Bool) (n p i : Nat) (k : Nat → rx_N → rx_O) : Nat → rx_N → rx_O := fun j s' => if i < j ∧ j ≤ n then rx_M kd fs sd ht n p j s' k else none
theorem rx_Kd {p i : Nat} {k : Nat → rx_N → rx_O} : (fun j s' => if h2 : i < j ∧ j ≤ n then rx_M kd fs sd ht n p j s' k else none) = rx_K kd fs sd ht n p i k := by
  funext j s'
  unfold rx_K
  by_cases h : i < j ∧ j ≤ n
  · rw [dif_pos h, if_pos h]
  · rw [dif_neg h, if_neg h]
theorem rx_M7 {p i : Nat} {s : rx_N} {k : Nat → rx_N → rx_O} (h : kd p = 7) (w : fs p < p ∧ sd p < p) : rx_M kd fs sd ht n p i s k = (rx_M kd fs sd ht n (fs p) i s (rx_K kd fs sd ht n p i k)).or (k i s) := by
  rw [rx_M, if_neg (by omega), if_neg (by omega), dif_pos w, if_neg (by omega), if_neg (by omega), if_pos h, rx_Kd]
theorem rx_M8 {p i : Nat} {s : rx_N} {k : Nat → rx_N → rx_O} (h : kd p = 8) (w : fs p < p ∧ sd p < p) : rx_M kd fs sd ht n p i s k = (k i s).or (rx_M kd fs sd ht n (fs p) i s (rx_K kd fs sd ht n p i k)) := by
  rw [rx_M, if_neg (by omega), if_neg (by omega), dif_pos w, if_neg (by omega), if_neg (by omega), if_neg (by omega), if_pos h, rx_Kd]
theorem rx_M9 {p i : Nat} {s : rx_N} {k : Nat → rx_N → rx_O} (h : 9 ≤ kd p) (w : fs p < p ∧ sd p < p) : rx_M kd fs sd ht n p i s k = rx_M kd fs sd ht n (fs p) i (upd s (kd p - 6) (nI i)) (fun j s' => k j (upd s' (kd p - 9) (16 * s' (kd p - 6) + nI j))) := by
  rw [rx_M, if_neg (by omega), if_neg (by omega), dif_pos w, if_neg (by omega), if_neg (by omega), if_neg (by omega), if_neg (by omega)]
theorem rx_E0 {p i j : Nat} (h : kd p < 4) : rx_E kd fs sd ht n p i j ↔ (ht (kd p) i = true ∧ j = i + 1) := by
  rw [rx_E, if_pos h]
theorem rx_E4 {p i j : Nat} (h : kd p = 4) : rx_E kd fs sd ht n p i j ↔ j = i := by
  rw [rx_E, if_neg (by omega), if_pos h]
theorem rx_E5 {p i j : Nat} (h : kd p = 5) (w : fs p < p ∧ sd p < p) : rx_E kd fs sd ht n p i j ↔ ∃ l, l ≤ n ∧ rx_E kd fs sd ht n (fs p) i l ∧ rx_E kd fs sd ht n (sd p) l j := by
  rw [rx_E, if_neg (by omega), if_neg (by omega), dif_pos w, if_pos h]
theorem rx_E6 {p i j : Nat} (h : kd p = 6) (w : fs p < p ∧ sd p < p) : rx_E kd fs sd ht n p i j ↔ (rx_E kd fs sd ht n (fs p) i j ∨ rx_E kd fs sd ht n (sd p) i j) := by
  rw [rx_E, if_neg (by omega), if_neg (by omega), dif_pos w, if_neg (by omega), if_pos h]
theorem rx_E7 {p i j : Nat} (h : kd p = 7 ∨ kd p = 8) (w : fs p < p ∧ sd p < p) : rx_E kd fs sd ht n p i j ↔ (j = i ∨ ∃ l, ∃ _ : i < l ∧ l ≤ n, rx_E kd fs sd ht n (fs p) i l ∧ rx_E kd fs sd ht n p l j) := by
  rw [rx_E, if_neg (by omega), if_neg (by omega), dif_pos w, if_neg (by omega), if_neg (by omega), if_pos (by omega)]
theorem rx_E9 {p i j : Nat} (h : 9 ≤ kd p) (w : fs p < p ∧ sd p < p) : rx_E kd fs sd ht n p i j ↔ rx_E kd fs sd ht n (fs p) i j := by
  rw [rx_E, if_neg (by omega), if_neg (by omega), dif_pos w, if_neg (by omega), if_neg (by omega), if_neg (by omega)]
/-- kinds one by one -/
theorem rx_cs {P : Prop} {x : Nat} (h : x < 12) (h0 : x < 4 → P) (h4 : x = 4 → P) (h5 : x = 5 → P) (h6 : x = 6 → P) (h7 : x = 7 → P) (h8 : x = 8 → P) (h9 : 9 ≤ x → P) : P := by
  rcases Nat.lt_or_ge x 4 with a | a
  · exact h0 a
  rcases Nat.lt_or_ge x 9 with b | b
  · have : x = 4 ∨ x = 5 ∨ x = 6 ∨ x = 7 ∨ x = 8 := by omega
    rcases this with c | c | c | c | c
    · exact h4 c
    · exact h5 c
    · exact h6 c
    · exact h7 c
    · exact h8 c
  · exact h9 b
/-- a run stays within the text and goes forward -/
theorem rx_Eb (hW : rx_W kd fs sd dg m) (hH : rx_H ht n) : ∀ p, p < m → ∀ d i j, n - i < d → i ≤ n → rx_E kd fs sd ht n p i j → i ≤ j ∧ j ≤ n := by
  intro p
  induction p using Nat.strongRecOn with
  | ind p ih =>
    intro hp d
    have ww := hW p hp
    induction d with
    | zero => intro i j hd; omega
    | succ d ihd =>
      intro i j hd hi he
      have st : (kd p = 7 ∨ kd p = 8) → i ≤ j ∧ j ≤ n := by
        intro h78
        have w := ww.2.2.1 (by omega)
        rw [rx_E7 h78 w] at he
        rcases he with he | ⟨l, hl, h1, h2⟩
        · omega
        · have b := ihd l j (by omega) hl.2 h2
          omega
      refine rx_cs ww.1 (fun h => ?_) (fun h => ?_) (fun h => ?_) (fun h => ?_) (fun h => st (Or.inl h)) (fun h => st (Or.inr h)) (fun h => ?_)
      · rw [rx_E0 h] at he; have := hH _ _ he.1; omega
      · rw [rx_E4 h] at he; omega
      · have w := ww.2.2.1 (by omega)
        rw [rx_E5 h w] at he
        obtain ⟨l, hl, h1, h2⟩ := he
        have a := ih _ w.1 (by omega) (n - i + 1) i l (by omega) hi h1
        have b := ih _ w.2 (by omega) (n - l + 1) l j (by omega) a.2 h2
        omega
      · have w := ww.2.2.1 (by omega)
        rw [rx_E6 h w] at he
        rcases he with he | he
        · exact ih _ w.1 (by omega) (n - i + 1) i j (by omega) hi he
        · exact ih _ w.2 (by omega) (n - i + 1) i j (by omega) hi he
      · have w := ww.2.2.1 (by omega)
        rw [rx_E9 h w] at he
        exact ih _ w.1 (by omega) (n - i + 1) i j (by omega) hi he
theorem rx_Eb' (hW : rx_W kd fs sd dg m) (hH : rx_H ht n) {p i j : Nat} (hp : p < m) (hi : i ≤ n) (h : rx_E kd fs sd ht n p i j) : i ≤ j ∧ j ≤ n := rx_Eb hW hH p hp (n - i + 1) i j (by omega) hi h
/-- only what k answers from i on counts -/
theorem rx_Mc (hW : rx_W kd fs sd dg m) (hH : rx_H ht n) : ∀ p, p < m → ∀ d i, n - i < d → i ≤ n → ∀ s k k', (∀ j s, i ≤ j → j ≤ n → k j s = k' j s) → rx_M kd fs sd ht n p i s k = rx_M kd fs sd ht n p i s k' := by
  intro p
  induction p using Nat.strongRecOn with
  | ind p ih =>
    intro hp d
    have ww := hW p hp
    induction d with
    | zero => intro i hd; omega
    | succ d ihd =>
      intro i hd hi s k k' hk
      have hkk : ∀ j s', i ≤ j → j ≤ n → rx_K kd fs sd ht n p i k j s' = rx_K kd fs sd ht n p i k' j s' := by
        intro j s' h1 h2
        unfold rx_K
        by_cases hx : i < j ∧ j ≤ n
        · rw [if_pos hx, if_pos hx]
          exact ihd j (by omega) h2 _ _ _ (fun j' s'' h3 h4 => hk _ _ (by omega) h4)
        · rw [if_neg hx, if_neg hx]
      refine rx_cs ww.1 (fun h => ?_) (fun h => ?_) (fun h => ?_) (fun h => ?_) (fun h => ?_) (fun h => ?_) (fun h => ?_)
      · rw [rx_M0 h, rx_M0 h]
        by_cases hx : ht (kd p) i = true
        · have := hH _ _ hx
          rw [if_pos hx, if_pos hx, hk _ _ (by omega) (by omega)]
        · rw [if_neg hx, if_neg hx]
      · rw [rx_M4 h, rx_M4 h, hk _ _ (by omega) (by omega)]
      · have w := ww.2.2.1 (by omega)
        rw [rx_M5 h w, rx_M5 h w]
        exact ih _ w.1 (by omega) (n - i + 1) i (by omega) hi _ _ _ (fun j s' h1 h2 => ih _ w.2 (by omega) (n - j + 1) j (by omega) h2 _ _ _ (fun j' s'' h3 h4 => hk _ _ (by omega) h4))
      · have w := ww.2.2.1 (by omega)
        rw [rx_M6 h w, rx_M6 h w, ih _ w.1 (by omega) (n - i + 1) i (by omega) hi _ _ _ hk, ih _ w.2 (by omega) (n - i + 1) i (by omega) hi _ _ _ hk]
      · have w := ww.2.2.1 (by omega)
        rw [rx_M7 h w, rx_M7 h w, hk _ _ (Nat.le_refl _) hi, ih _ w.1 (by omega) (n - i + 1) i (by omega) hi _ _ _ hkk]
      · have w := ww.2.2.1 (by omega)
        rw [rx_M8 h w, rx_M8 h w, hk _ _ (Nat.le_refl _) hi, ih _ w.1 (by omega) (n - i + 1) i (by omega) hi _ _ _ hkk]
      · have w := ww.2.2.1 (by omega)
        rw [rx_M9 h w, rx_M9 h w]
        exact ih _ w.1 (by omega) (n - i + 1) i (by omega) hi _ _ _ (fun j s' h1 h2 => hk _ _ h1 h2)
theorem rx_Mc' (hW : rx_W kd fs sd dg m) (hH : rx_H ht n) {p i : Nat} (hp : p < m) (hi : i ≤ n) {s : rx_N} {k k' : Nat → rx_N → rx_O} (hk : ∀ j s, i ≤ j → j ≤ n → k j s = k' j s) : rx_M kd fs sd ht n p i s k = rx_M kd fs sd ht n p i s k' := rx_Mc hW hH p hp (n - i + 1) i (by omega) hi s k k' hk
theorem rx_orn {a b : rx_O} : a.or b ≠ none ↔ (a ≠ none ∨ b ≠ none) := by
  cases a <;> simp
/-- there is a run then k, if and only if there is an end that k takes (k asks no notes for that) -/
theorem rx_Ms (hW : rx_W kd fs sd dg m) (hH : rx_H ht n) : ∀ p, p < m → ∀ d i, n - i < d → i ≤ n → ∀ s (k : Nat → rx_N → rx_O) (V : Nat → Prop), (∀ j s, j ≤ n → (k j s ≠ none ↔ V j)) → (rx_M kd fs sd ht n p i s k ≠ none ↔ ∃ j, rx_E kd fs sd ht n p i j ∧ V j) := by
  intro p
  induction p using Nat.strongRecOn with
  | ind p ih =>
    intro hp d
    have ww := hW p hp
    induction d with
    | zero => intro i hd; omega
    | succ d ihd =>
      intro i hd hi s k V hk
      have hK : ∀ j s', j ≤ n → (rx_K kd fs sd ht n p i k j s' ≠ none ↔ (i < j ∧ j ≤ n) ∧ ∃ l, rx_E kd fs sd ht n p j l ∧ V l) := by
        intro j s' hj
        unfold rx_K
        by_cases hx : i < j ∧ j ≤ n
        · rw [if_pos hx, ihd j (by omega) hj s' k V hk]
          exact ⟨fun a => ⟨hx, a⟩, fun a => a.2⟩
        · rw [if_neg hx]
          exact ⟨fun a => absurd rfl a, fun a => absurd a.1 hx⟩
      refine rx_cs ww.1 (fun h => ?_) (fun h => ?_) (fun h => ?_) (fun h => ?_) (fun h => ?_) (fun h => ?_) (fun h => ?_)
      · rw [rx_M0 h]
        by_cases hx : ht (kd p) i = true
        · have := hH _ _ hx
          rw [if_pos hx, hk _ _ (by omega)]
          refine ⟨fun a => ⟨i + 1, (rx_E0 h).mpr ⟨hx, rfl⟩, a⟩, ?_⟩
          rintro ⟨j, a, b⟩
          rw [rx_E0 h] at a
          rw [← a.2]; exact b
        · rw [if_neg hx]
          refine ⟨fun a => absurd rfl a, ?_⟩
          rintro ⟨j, a, b⟩
          rw [rx_E0 h] at a
          exact absurd a.1 hx
      · rw [rx_M4 h, hk _ _ hi]
        refine ⟨fun a => ⟨i, (rx_E4 h).mpr rfl, a⟩, ?_⟩
        rintro ⟨j, a, b⟩
        rw [rx_E4 h] at a
        rw [← a]; exact b
      · have w := ww.2.2.1 (by omega)
        rw [rx_M5 h w, ih _ w.1 (by omega) (n - i + 1) i (by omega) hi s _ (fun l => ∃ j, rx_E kd fs sd ht n (sd p) l j ∧ V j) (fun l s' hl => ih _ w.2 (by omega) (n - l + 1) l (by omega) hl s' k V hk)]
        constructor
        · rintro ⟨l, a, j, b, c⟩
          exact ⟨j, (rx_E5 h w).mpr ⟨l, (rx_Eb' hW hH (by omega) hi a).2, a, b⟩, c⟩
        · rintro ⟨j, a, b⟩
          obtain ⟨l, _, c, e⟩ := (rx_E5 h w).mp a
          exact ⟨l, c, j, e, b⟩
      · have w := ww.2.2.1 (by omega)
        rw [rx_M6 h w, rx_orn, ih _ w.1 (by omega) (n - i + 1) i (by omega) hi s k V hk, ih _ w.2 (by omega) (n - i + 1) i (by omega) hi s k V hk]
        constructor
        · rintro (⟨j, a, b⟩ | ⟨j, a, b⟩)
          · exact ⟨j, (rx_E6 h w).mpr (Or.inl a), b⟩
          · exact ⟨j, (rx_E6 h w).mpr (Or.inr a), b⟩
        · rintro ⟨j, a, b⟩
          rcases (rx_E6 h w).mp a with c | c
          · exact Or.inl ⟨j, c, b⟩
          · exact Or.inr ⟨j, c, b⟩
      · have w := ww.2.2.1 (by omega)
        rw [rx_M7 h w, rx_orn, ih _ w.1 (by omega) (n - i + 1) i (by omega) hi s _ _ hK, hk _ _ hi]
        constructor
        · rintro (⟨l, a, ⟨b, j, c, e⟩⟩ | a)
          · exact ⟨j, (rx_E7 (Or.inl h) w).mpr (Or.inr ⟨l, b, a, c⟩), e⟩
          · exact ⟨i, (rx_E7 (Or.inl h) w).mpr (Or.inl rfl), a⟩
        · rintro ⟨j, a, b⟩
          rcases (rx_E7 (Or.inl h) w).mp a with c | ⟨l, c, e, f⟩
          · right; rw [← c]; exact b
          · exact Or.inl ⟨l, e, c, j, f, b⟩
      · have w := ww.2.2.1 (by omega)
        rw [rx_M8 h w, rx_orn, ih _ w.1 (by omega) (n - i + 1) i (by omega) hi s _ _ hK, hk _ _ hi]
        constructor
        · rintro (a | ⟨l, a, ⟨b, j, c, e⟩⟩)
          · exact ⟨i, (rx_E7 (Or.inr h) w).mpr (Or.inl rfl), a⟩
          · exact ⟨j, (rx_E7 (Or.inr h) w).mpr (Or.inr ⟨l, b, a, c⟩), e⟩
        · rintro ⟨j, a, b⟩
          rcases (rx_E7 (Or.inr h) w).mp a with c | ⟨l, c, e, f⟩
          · left; rw [← c]; exact b
          · exact Or.inr ⟨l, e, c, j, f, b⟩
      · have w := ww.2.2.1 (by omega)
        rw [rx_M9 h w, ih _ w.1 (by omega) (n - i + 1) i (by omega) hi _ _ V (fun j s' hj => hk _ _ hj)]
        constructor
        · rintro ⟨j, a, b⟩
          exact ⟨j, (rx_E9 h w).mpr a, b⟩
        · rintro ⟨j, a, b⟩
          exact ⟨j, (rx_E9 h w).mp a, b⟩
theorem rx_Ms' (hW : rx_W kd fs sd dg m) (hH : rx_H ht n) {p i : Nat} (hp : p < m) (hi : i ≤ n) {s : rx_N} {k : Nat → rx_N → rx_O} {V : Nat → Prop} (hk : ∀ j s, j ≤ n → (k j s ≠ none ↔ V j)) : rx_M kd fs sd ht n p i s k ≠ none ↔ ∃ j, rx_E kd fs sd ht n p i j ∧ V j := rx_Ms hW hH p hp (n - i + 1) i (by omega) hi s k V hk
end
end
section
/-! the reference's task machine, by its step rules alone -/
/-- from a wanted set w the places (to n) from which part p leads there, behind place i -/
def rx_St (kd fs sd : Nat → Nat) (ht : Nat → Nat → Bool) (n p : Nat) (w w' : Int32) : Prop := ∀ l, l ≤ n → (bt w' l = true ↔ ∃ j, rx_E kd fs sd ht n p l j ∧ bt w j = true)
def rx_Sa (kd fs sd : Nat → Nat) (ht : Nat → Nat → Bool) (n p i : Nat) (w w' : Int32) : Prop := ∀ l, l ≤ n → (bt w' l = true ↔ (i < l ∧ l ≤ n) ∧ ∃ j, rx_E kd fs sd ht n p l j ∧ bt w j = true)
/-- part p leads from i to a wanted place -/
def rx_Ew (kd fs sd : Nat → Nat) (ht : Nat → Nat → Bool) (n p i : Nat) (w : Int32) : Prop := ∃ j, rx_E kd fs sd ht n p i j ∧ bt w j = true
/-- a further round of p from i can lead to a wanted place -/
def rx_Er (kd fs sd : Nat → Nat) (ht : Nat → Nat → Bool) (n p i : Nat) (w : Int32) : Prop := ∃ l, rx_E kd fs sd ht n (fs p) i l ∧ (i < l ∧ l ≤ n) ∧ rx_Ew kd fs sd ht n p l w
def rx_Zc (kd fs sd : Nat → Nat) (ht : Nat → Nat → Bool) (n : Nat) (Z : List (Nat × Int32) → Nat → (Nat → Int32) → Prop) (p : Nat) (w : Int32) (rest : List (Nat × Int32)) (i : Nat) (g : Nat → Int32) : Prop :=
  (kd p < 4 → Z rest (i + 1) g → Z ((p, w) :: rest) i g) ∧
  (kd p = 4 → Z rest i g → Z ((p, w) :: rest) i g) ∧
  (kd p = 5 → ∃ w', rx_St kd fs sd ht n (sd p) w w' ∧ (Z ((fs p, w') :: (sd p, w) :: rest) i g → Z ((p, w) :: rest) i g)) ∧
  (kd p = 6 → rx_Ew kd fs sd ht n (fs p) i w → Z ((fs p, w) :: rest) i g → Z ((p, w) :: rest) i g) ∧
  (kd p = 6 → ¬ rx_Ew kd fs sd ht n (fs p) i w → Z ((sd p, w) :: rest) i g → Z ((p, w) :: rest) i g) ∧
  (kd p = 7 ∨ kd p = 8 ∧ bt w i = false → rx_Er kd fs sd ht n p i w → ∃ w', rx_Sa kd fs sd ht n p i w w' ∧ (Z ((fs p, w') :: (p, w) :: rest) i g → Z ((p, w) :: rest) i g)) ∧
  (kd p = 7 ∧ ¬ rx_Er kd fs sd ht n p i w ∨ kd p = 8 ∧ bt w i = true → Z rest i g → Z ((p, w) :: rest) i g) ∧
  (9 ≤ kd p → Z ((fs p, w) :: (100 + 16 * (kd p - 9) + i, 0) :: rest) i g → Z ((p, w) :: rest) i g)
def rx_Zr (kd fs sd : Nat → Nat) (ht : Nat → Nat → Bool) (n m : Nat) (Z : List (Nat × Int32) → Nat → (Nat → Int32) → Prop) : Prop :=
  (∀ p w rest i g, p < m → i ≤ n → rest.length + 2 ≤ 64 → rx_Zc kd fs sd ht n Z p w rest i g) ∧
  (∀ c i0 i w rest g, c < 3 → i0 ≤ n → i ≤ n → rest.length + 2 ≤ 64 → Z rest i (upd g c (16 * nI i0 + nI i)) → Z ((100 + 16 * c + i0, w) :: rest) i g)
/-- k takes just the wanted places -/
def rx_Uk (n : Nat) (w : Int32) (k : Nat → rx_N → rx_O) : Prop := ∀ j s, j ≤ n → (k j s ≠ none ↔ bt w j = true)
theorem rx_orl {a b : rx_O} (h : a ≠ none) : a.or b = a := by
  cases a with
  | none => exact absurd rfl h
  | some x => rfl
theorem rx_nn {a : rx_O} (h : ¬ a ≠ none) : a = none := by
  cases a with
  | none => rfl
  | some x => exact absurd (by simp) h
section
variable {kd fs sd dg : Nat → Nat} {ht : Nat → Nat → Bool} {n m : Nat} {Z : List (Nat × Int32) → Nat → (Nat → Int32) → Prop}
/-- what a run of part p does -/
def rx_Go (kd fs sd dg : Nat → Nat) (ht : Nat → Nat → Bool) (n : Nat) (Z : List (Nat × Int32) → Nat → (Nat → Int32) → Prop) (p i : Nat) (s g : Nat → Int32) (w : Int32) (rest : List (Nat × Int32)) : Prop :=
  ∃ j s' g', j ≤ n ∧ i ≤ j ∧ bt w j = true ∧ (∀ x, x < 3 → g' x = s' x) ∧ (∀ c, c < 3 → (dg p).testBit c = false → s' (3 + c) = s (3 + c)) ∧
    (∀ k, rx_Uk n w k → rx_M kd fs sd ht n p i s k = k j s') ∧ (Z rest j g' → Z ((p, w) :: rest) i g)
theorem rx_Zrun (hW : rx_W kd fs sd dg m) (hH : rx_H ht n) (hZ : rx_Zr kd fs sd ht n m Z) : ∀ p, p < m → ∀ d i, n - i < d → i ≤ n → ∀ s g w rest, rest.length + 2 * p + 2 ≤ 64 → (∀ x, x < 3 → g x = s x) → rx_Ew kd fs sd ht n p i w → rx_Go kd fs sd dg ht n Z p i s g w rest := by
  intro p
  induction p using Nat.strongRecOn with
  | ind p ih =>
    intro hp d
    have ww := hW p hp
    induction d with
    | zero => intro i hd; omega
    | succ d ihd =>
      intro i hd hi s g w rest hr hg he
      have zc := hZ.1 p w rest i g hp hi (by omega)
      have rep : (kd p = 7 ∨ kd p = 8 ∧ bt w i = false) → rx_Er kd fs sd ht n p i w → rx_Go kd fs sd dg ht n Z p i s g w rest := by
        intro hc hr'
        have w5 := ww.2.2.1 (by omega)
        obtain ⟨w', hs, hz⟩ := zc.2.2.2.2.2.1 hc hr'
        have hK : ∀ k, rx_Uk n w k → rx_Uk n w' (rx_K kd fs sd ht n p i k) := by
          intro k hk j s' hj
          rw [hs j hj]
          unfold rx_K
          by_cases hx : i < j ∧ j ≤ n
          · rw [if_pos hx, rx_Ms' hW hH hp hj hk]
            exact ⟨fun a => ⟨hx, a⟩, fun a => a.2⟩
          · rw [if_neg hx]
            exact ⟨fun a => absurd rfl a, fun a => absurd a.1 hx⟩
        obtain ⟨l0, a0, b0, c0⟩ := hr'
        obtain ⟨l, s1, g1, hl, hil, hwl, hg1, hn1, hm1, hz1⟩ := ih _ w5.1 (by omega) (n - i + 1) i (by omega) hi s g w' ((p, w) :: rest) (by simp only [List.length_cons]; omega) hg ⟨l0, a0, (hs l0 b0.2).mpr ⟨b0, c0⟩⟩
        have hwl' := (hs l hl).mp hwl
        obtain ⟨j, s', g', hj, hlj, hwj, hg', hn', hm', hz'⟩ := ihd l (by omega) hl s1 g1 w rest hr hg1 hwl'.2
        refine ⟨j, s', g', hj, by omega, hwj, hg', ?_, ?_, fun z => hz (hz1 (hz' z))⟩
        · intro c hc' hb
          have e := ww.2.2.2.2.1 (by omega)
          rw [hn' c hc' hb, hn1 c hc' (by rw [← e]; exact hb)]
        · intro k hk
          have e1 : rx_M kd fs sd ht n (fs p) i s (rx_K kd fs sd ht n p i k) = k j s' := by
            rw [hm1 _ (hK k hk)]
            unfold rx_K
            rw [if_pos hwl'.1]
            exact hm' k hk
          have e2 : k j s' ≠ none := (hk j s' hj).mpr hwj
          rcases hc with hc | hc
          · rw [rx_M7 hc w5, e1, rx_orl e2]
          · have e3 : k i s = none := rx_nn (fun z => by rw [(hk i s hi).mp z] at hc; exact absurd hc.2 (by decide))
            rw [rx_M8 hc.1 w5, e1, e3, Option.none_or]
      have stop : (kd p = 7 ∧ ¬ rx_Er kd fs sd ht n p i w ∨ kd p = 8 ∧ bt w i = true) → bt w i = true → rx_Go kd fs sd dg ht n Z p i s g w rest := by
        intro hc hwi
        refine ⟨i, s, g, hi, Nat.le_refl _, hwi, hg, fun _ _ _ => rfl, ?_, zc.2.2.2.2.2.2.1 hc⟩
        intro k hk
        have w5 := ww.2.2.1 (by omega)
        rcases hc with hc | hc
        · have e1 : rx_M kd fs sd ht n (fs p) i s (rx_K kd fs sd ht n p i k) = none := by
            apply rx_nn
            rw [rx_Ms' hW hH (V := fun j => (i < j ∧ j ≤ n) ∧ rx_Ew kd fs sd ht n p j w) (by omega) hi ?_]
            · rintro ⟨l, a, b, c⟩
              exact hc.2 ⟨l, a, b, c⟩
            · intro j s' hj
              unfold rx_K
              by_cases hx : i < j ∧ j ≤ n
              · rw [if_pos hx, rx_Ms' hW hH hp hj hk]
                exact ⟨fun a => ⟨hx, a⟩, fun a => a.2⟩
              · rw [if_neg hx]
                exact ⟨fun a => absurd rfl a, fun a => absurd a.1 hx⟩
          rw [rx_M7 hc.1 w5, e1, Option.none_or]
        · rw [rx_M8 hc.1 w5, rx_orl ((hk i s hi).mpr hwi)]
      refine rx_cs ww.1 (fun h => ?_) (fun h => ?_) (fun h => ?_) (fun h => ?_) (fun h => ?_) (fun h => ?_) (fun h => ?_)
      · obtain ⟨j, a, b⟩ := he
        rw [rx_E0 h] at a
        obtain ⟨a, rfl⟩ := a
        have := hH _ _ a
        refine ⟨i + 1, s, g, by omega, by omega, b, hg, fun _ _ _ => rfl, ?_, zc.1 h⟩
        intro k hk
        rw [rx_M0 h, if_pos a]
      · obtain ⟨j, a, b⟩ := he
        rw [rx_E4 h] at a
        subst a
        exact ⟨j, s, g, hi, Nat.le_refl _, b, hg, fun _ _ _ => rfl, fun k hk => rx_M4 h, zc.2.1 h⟩
      · have w5 := ww.2.2.1 (by omega)
        obtain ⟨w', hs, hz⟩ := zc.2.2.1 h
        obtain ⟨j, a, b⟩ := he
        obtain ⟨l0, a1, a2, a3⟩ := (rx_E5 h w5).mp a
        obtain ⟨l, s1, g1, hl, hil, hwl, hg1, hn1, hm1, hz1⟩ := ih _ w5.1 (by omega) (n - i + 1) i (by omega) hi s g w' ((sd p, w) :: rest) (by simp only [List.length_cons]; omega) hg ⟨l0, a2, (hs l0 a1).mpr ⟨j, a3, b⟩⟩
        obtain ⟨j, s', g', hj, hlj, hwj, hg', hn', hm', hz'⟩ := ih _ w5.2 (by omega) (n - l + 1) l (by omega) hl s1 g1 w rest (by omega) hg1 ((hs l hl).mp hwl)
        refine ⟨j, s', g', hj, by omega, hwj, hg', ?_, ?_, fun z => hz (hz1 (hz' z))⟩
        · intro c hc hb
          rw [ww.2.2.2.1 (by omega), Nat.testBit_or, Bool.or_eq_false_iff] at hb
          rw [hn' c hc hb.2, hn1 c hc hb.1]
        · intro k hk
          rw [rx_M5 h w5, hm1 _ ?_]
          · exact hm' k hk
          · intro l' s'' hl'
            rw [hs l' hl']
            exact rx_Ms' hW hH (by omega) hl' hk
      · have w5 := ww.2.2.1 (by omega)
        by_cases hx : rx_Ew kd fs sd ht n (fs p) i w
        · obtain ⟨j, s', g', hj, hlj, hwj, hg', hn', hm', hz'⟩ := ih _ w5.1 (by omega) (n - i + 1) i (by omega) hi s g w rest (by omega) hg hx
          refine ⟨j, s', g', hj, hlj, hwj, hg', ?_, ?_, fun z => zc.2.2.2.1 h hx (hz' z)⟩
          · intro c hc hb
            rw [ww.2.2.2.1 (by omega), Nat.testBit_or, Bool.or_eq_false_iff] at hb
            exact hn' c hc hb.1
          · intro k hk
            rw [rx_M6 h w5, hm' k hk, rx_orl ((hk j s' hj).mpr hwj)]
        · have he' : rx_Ew kd fs sd ht n (sd p) i w := by
            obtain ⟨j, a, b⟩ := he
            rcases (rx_E6 h w5).mp a with c | c
            · exact absurd ⟨j, c, b⟩ hx
            · exact ⟨j, c, b⟩
          obtain ⟨j, s', g', hj, hlj, hwj, hg', hn', hm', hz'⟩ := ih _ w5.2 (by omega) (n - i + 1) i (by omega) hi s g w rest (by omega) hg he'
          refine ⟨j, s', g', hj, hlj, hwj, hg', ?_, ?_, fun z => zc.2.2.2.2.1 h hx (hz' z)⟩
          · intro c hc hb
            rw [ww.2.2.2.1 (by omega), Nat.testBit_or, Bool.or_eq_false_iff] at hb
            exact hn' c hc hb.2
          · intro k hk
            have e1 : rx_M kd fs sd ht n (fs p) i s k = none := by
              apply rx_nn
              rw [rx_Ms' hW hH (by omega) hi hk]
              exact hx
            rw [rx_M6 h w5, e1, Option.none_or]
            exact hm' k hk
      · by_cases hx : rx_Er kd fs sd ht n p i w
        · exact rep (Or.inl h) hx
        · refine stop (Or.inl ⟨h, hx⟩) ?_
          obtain ⟨j, a, b⟩ := he
          rcases (rx_E7 (Or.inl h) (ww.2.2.1 (by omega))).mp a with c | ⟨l, c, e, f⟩
          · rw [← c]; exact b
          · exact absurd ⟨l, e, c, j, f, b⟩ hx
      · cases hx : bt w i with
        | true => exact stop (Or.inr ⟨h, hx⟩) hx
        | false =>
          refine rep (Or.inr ⟨h, hx⟩) ?_
          obtain ⟨j, a, b⟩ := he
          rcases (rx_E7 (Or.inr h) (ww.2.2.1 (by omega))).mp a with c | ⟨l, c, e, f⟩
          · rw [c, hx] at b; exact absurd b (by decide)
          · exact ⟨l, e, c, j, f, b⟩
      · have w5 := ww.2.2.1 (by omega)
        have w9 := ww.2.2.2.2.2 h
        have hk12 := ww.1
        have he' : rx_Ew kd fs sd ht n (fs p) i w := by
          obtain ⟨j, a, b⟩ := he
          exact ⟨j, (rx_E9 h w5).mp a, b⟩
        obtain ⟨j, s2, g2, hj, hlj, hwj, hg', hn', hm', hz'⟩ := ih _ w5.1 (by omega) (n - i + 1) i (by omega) hi (upd s (kd p - 6) (nI i)) g w ((100 + 16 * (kd p - 9) + i, 0) :: rest) (by simp only [List.length_cons]; omega) (fun x hx => by rw [pk_un (by omega)]; exact hg x hx) he'
        have e6 : s2 (kd p - 6) = nI i := by
          have := hn' (kd p - 9) (by omega) w9.2
          rw [show 3 + (kd p - 9) = kd p - 6 by omega, pk_us] at this
          exact this
        refine ⟨j, upd s2 (kd p - 9) (16 * s2 (kd p - 6) + nI j), upd g2 (kd p - 9) (16 * nI i + nI j), hj, hlj, hwj, ?_, ?_, ?_, fun z => zc.2.2.2.2.2.2.2 h (hz' (hZ.2 _ _ _ _ _ _ (by omega) hi hj (by omega) z))⟩
        · intro x hx
          rw [e6]
          by_cases hxe : x = kd p - 9
          · rw [hxe, pk_us, pk_us]
          · rw [pk_un hxe, pk_un hxe]; exact hg' x hx
        · intro c hc hb
          rw [w9.1, Nat.testBit_or, Bool.or_eq_false_iff] at hb
          have hcn : c ≠ kd p - 9 := by
            intro hcc
            rw [hcc, Nat.testBit_two_pow_self] at hb
            exact absurd hb.2 (by decide)
          rw [pk_un (by omega), hn' c hc hb.1, pk_un (by omega)]
        · intro k hk
          rw [rx_M9 h w5, hm' _ (fun j s' hj => hk j _ hj)]
end
end
section
/-! the component's program as a machine: configurations (instruction, idle rounds, notes) -/
def rx_t (F : Nat → Int32) (x : Nat) : Nat := (nI x + F x).toNatClampNeg
abbrev rx_C := Nat × Nat × (Nat → Int32)
/-- note o at place i -/
def rx_nt (i : Nat) (s : rx_N) (o : Nat) : rx_N := upd s o (if o < 3 then 16 * s (o + 3) + nI i else nI i)
def rx_kids (C F S : Nat → Int32) (i : Nat) (c : rx_C) : Option (List rx_C) :=
  if C c.1 = 1 then some [(rx_t F c.1, c.2.1, c.2.2), (rx_t S c.1, c.2.1, c.2.2)]
  else if C c.1 = 5 then some [(rx_t F c.1, c.2.1 + 1, c.2.2), (rx_t S c.1, c.2.1, c.2.2)]
  else if C c.1 = 6 then some [(rx_t S c.1, c.2.1, c.2.2), (rx_t F c.1, c.2.1 + 1, c.2.2)]
  else if C c.1 = 2 then some [(rx_t F c.1, c.2.1, c.2.2)]
  else if C c.1 = 7 then (if c.2.1 = 0 then some [(rx_t F c.1, 0, c.2.2)] else some [])
  else if C c.1 = 3 then some [(c.1 + 1, c.2.1, rx_nt i c.2.2 (F c.1).toNatClampNeg)]
  else none
/-- a rank that falls along every such step: a begin of a repetition counts at its exit while nothing is idle -/
def rx_rk (C S : Nat → Int32) (e : Nat) (c : rx_C) : Nat :=
  if c.2.1 = 0 then (if C c.1 = 5 ∨ C c.1 = 6 then e + 2 + 2 * (e + 1 - rx_t S c.1) + 1 else e + 2 + 2 * (e + 1 - c.1)) else e + 1 - c.1
/-- an instruction is well made -/
def rx_I (C F S : Nat → Int32) (e x : Nat) : Prop :=
  (C x = 0 ∧ ∃ c, c < 4 ∧ F x = nI c) ∨
  (C x = 1 ∧ nI x + F x = nI (x + 1) ∧ ∃ y, x < y ∧ y ≤ e ∧ nI x + S x = nI y) ∨
  (C x = 2 ∧ ∃ y, x < y ∧ y ≤ e ∧ nI x + F x = nI y) ∨
  (C x = 3 ∧ ∃ o, o < 6 ∧ F x = nI o) ∨
  ((C x = 5 ∨ C x = 6) ∧ nI x + F x = nI (x + 1) ∧ ∃ y, x + 1 < y ∧ y ≤ e ∧ nI x + S x = nI y) ∨
  (C x = 7 ∧ ∃ g, g < x ∧ (C g = 5 ∨ C g = 6) ∧ nI g + S g = nI (x + 1) ∧ nI x + F x = nI g)
/-- how many repetitions begin ahead of x -/
def rx_cr (C : Nat → Int32) : Nat → Nat
  | 0 => 0
  | x + 1 => rx_cr C x + (if C x = 5 ∨ C x = 6 then 1 else 0)
/-- the program: e instructions, and then done -/
def rx_P (C F S : Nat → Int32) (e : Nat) : Prop := e ≤ 32 ∧ C e = 4 ∧ (∀ x, x < e → rx_I C F S e x) ∧ rx_cr C e ≤ 16
def rx_ok (C : Nat → Int32) (e : Nat) (c : rx_C) : Prop := c.1 ≤ e ∧ c.2.1 ≤ rx_cr C c.1
section
variable {C F S T : Nat → Int32} {e i : Nat}
theorem rx_tI {x y : Nat} (h : nI x + F x = nI y) (hy : y ≤ 64) : rx_t F x = y := by
  unfold rx_t; rw [h]; exact nI_clamp (by omega)
theorem rx_crm {x y : Nat} (h : x ≤ y) : rx_cr C x ≤ rx_cr C y := by
  induction y with
  | zero => rw [show x = 0 by omega]; exact Nat.le_refl _
  | succ y ih =>
    by_cases hx : x = y + 1
    · rw [hx]; exact Nat.le_refl _
    · have := ih (by omega)
      show _ ≤ rx_cr C y + _
      omega
theorem rx_cr1 {x : Nat} (h : C x = 5 ∨ C x = 6) : rx_cr C (x + 1) = rx_cr C x + 1 := by
  show rx_cr C x + _ = _
  rw [if_pos h]
theorem rx_k1 {c : rx_C} (h : C c.1 = 1) : rx_kids C F S i c = some [(rx_t F c.1, c.2.1, c.2.2), (rx_t S c.1, c.2.1, c.2.2)] := if_pos h
theorem rx_k5 {c : rx_C} (h : C c.1 = 5) : rx_kids C F S i c = some [(rx_t F c.1, c.2.1 + 1, c.2.2), (rx_t S c.1, c.2.1, c.2.2)] := by
  unfold rx_kids; rw [if_neg (by rw [h]; decide), if_pos h]
theorem rx_k6 {c : rx_C} (h : C c.1 = 6) : rx_kids C F S i c = some [(rx_t S c.1, c.2.1, c.2.2), (rx_t F c.1, c.2.1 + 1, c.2.2)] := by
  unfold rx_kids; rw [if_neg (by rw [h]; decide), if_neg (by rw [h]; decide), if_pos h]
theorem rx_k2 {c : rx_C} (h : C c.1 = 2) : rx_kids C F S i c = some [(rx_t F c.1, c.2.1, c.2.2)] := by
  unfold rx_kids; rw [if_neg (by rw [h]; decide), if_neg (by rw [h]; decide), if_neg (by rw [h]; decide), if_pos h]
theorem rx_k70 {c : rx_C} (h : C c.1 = 7) (h0 : c.2.1 = 0) : rx_kids C F S i c = some [(rx_t F c.1, 0, c.2.2)] := by
  unfold rx_kids; rw [if_neg (by rw [h]; decide), if_neg (by rw [h]; decide), if_neg (by rw [h]; decide), if_neg (by rw [h]; decide), if_pos h, if_pos h0]
theorem rx_k7 {c : rx_C} (h : C c.1 = 7) (h0 : c.2.1 ≠ 0) : rx_kids C F S i c = some [] := by
  unfold rx_kids; rw [if_neg (by rw [h]; decide), if_neg (by rw [h]; decide), if_neg (by rw [h]; decide), if_neg (by rw [h]; decide), if_pos h, if_neg h0]
theorem rx_k3 {c : rx_C} (h : C c.1 = 3) : rx_kids C F S i c = some [(c.1 + 1, c.2.1, rx_nt i c.2.2 (F c.1).toNatClampNeg)] := by
  unfold rx_kids; rw [if_neg (by rw [h]; decide), if_neg (by rw [h]; decide), if_neg (by rw [h]; decide), if_neg (by rw [h]; decide), if_neg (by rw [h]; decide), if_pos h]
theorem rx_k0 {c : rx_C} (h : C c.1 = 0 ∨ C c.1 = 4) : rx_kids C F S i c = none := by
  unfold rx_kids
  rcases h with h | h <;> rw [if_neg (by rw [h]; decide), if_neg (by rw [h]; decide), if_neg (by rw [h]; decide), if_neg (by rw [h]; decide), if_neg (by rw [h]; decide), if_neg (by rw [h]; decide)]
/-- instructions one by one -/
theorem rx_ci {Q : Prop} (hP : rx_P C F S e) {x : Nat} (hx : x ≤ e)
    (h0 : (C x = 0 ∨ C x = 4) → Q)
    (h1 : C x = 1 → rx_t F x = x + 1 → x < rx_t S x → rx_t S x ≤ e → Q)
    (h2 : C x = 2 → x < rx_t F x → rx_t F x ≤ e → Q)
    (h3 : C x = 3 → x < e → Q)
    (h5 : (C x = 5 ∨ C x = 6) → rx_t F x = x + 1 → x + 1 < rx_t S x → rx_t S x ≤ e → Q)
    (h7 : C x = 7 → rx_t F x < x → (C (rx_t F x) = 5 ∨ C (rx_t F x) = 6) → rx_t S (rx_t F x) = x + 1 → x < e → Q) : Q := by
  have h32 := hP.1
  by_cases hxe : x = e
  · exact h0 (Or.inr (by rw [hxe]; exact hP.2.1))
  rcases hP.2.2.1 x (by omega) with ⟨a, _⟩ | ⟨a, b, y, hy, hye, hs⟩ | ⟨a, y, hy, hye, hs⟩ | ⟨a, _⟩ | ⟨a, b, y, hy, hye, hs⟩ | ⟨a, g, hg, cg, sg, fg⟩
  · exact h0 (Or.inl a)
  · have := rx_tI hs (by omega)
    exact h1 a (rx_tI b (by omega)) (by omega) (by omega)
  · have := rx_tI hs (by omega)
    exact h2 a (by omega) (by omega)
  · exact h3 a (by omega)
  · have := rx_tI hs (by omega)
    exact h5 a (rx_tI b (by omega)) (by omega) (by omega)
  · have t1 := rx_tI fg (by omega)
    have t2 := rx_tI sg (by omega)
    refine h7 a (by omega) ?_ ?_ (by omega)
    · rw [t1]; exact cg
    · rw [t1]; exact t2
theorem rx_rk0 (hP : rx_P C F S e) {c : rx_C} (hc : c.1 ≤ e) : rx_rk C S e c ≤ e + 2 + 2 * (e + 1 - c.1) := by
  unfold rx_rk
  split
  · split
    · rename_i h
      refine rx_ci hP hc (fun a => ?_) (fun a _ _ _ => ?_) (fun a _ _ => ?_) (fun a _ => ?_) (fun a _ b d => ?_) (fun a _ _ _ _ => ?_)
      · rcases a with a | a <;> rw [a] at h <;> exact absurd h (by decide)
      · rw [a] at h; exact absurd h (by decide)
      · rw [a] at h; exact absurd h (by decide)
      · rw [a] at h; exact absurd h (by decide)
      · omega
      · rw [a] at h; exact absurd h (by decide)
    · exact Nat.le_refl _
  · omega
theorem rx_rkn {c : rx_C} (h : c.2.1 = 0) (h5 : ¬ (C c.1 = 5 ∨ C c.1 = 6)) : rx_rk C S e c = e + 2 + 2 * (e + 1 - c.1) := by
  unfold rx_rk; rw [if_pos h, if_neg h5]
theorem rx_rkr {c : rx_C} (h : c.2.1 = 0) (h5 : C c.1 = 5 ∨ C c.1 = 6) : rx_rk C S e c = e + 2 + 2 * (e + 1 - rx_t S c.1) + 1 := by
  unfold rx_rk; rw [if_pos h, if_pos h5]
theorem rx_rki {c : rx_C} (h : c.2.1 ≠ 0) : rx_rk C S e c = e + 1 - c.1 := by
  unfold rx_rk; rw [if_neg h]
/-- a forward step with the same number of idle rounds, not from the begin of a repetition -/
theorem rx_rkf (hP : rx_P C F S e) {c c' : rx_C} (h5 : ¬ (C c.1 = 5 ∨ C c.1 = 6)) (hl : c.1 < c'.1) (he : c'.1 ≤ e) (hi : c'.2.1 = c.2.1) : rx_rk C S e c' < rx_rk C S e c := by
  by_cases h0 : c.2.1 = 0
  · have := rx_rk0 hP he
    rw [rx_rkn h0 h5]; omega
  · rw [rx_rki h0, rx_rki (by rw [hi]; exact h0)]; omega
theorem rx_ok1 (hP : rx_P C F S e) {c : rx_C} (hc : rx_ok C e c) {l : List rx_C} (h : rx_kids C F S i c = some l) : ∀ c', c' ∈ l → rx_ok C e c' ∧ rx_rk C S e c' < rx_rk C S e c := by
  obtain ⟨x, d, s⟩ := c
  have hx : x ≤ e := hc.1
  have hd : d ≤ rx_cr C x := hc.2
  have nr : ∀ {y : Nat}, x ≤ y → d ≤ rx_cr C y := fun hy => Nat.le_trans hd (rx_crm hy)
  refine rx_ci hP hx (fun a => ?_) (fun a b g k => ?_) (fun a b g => ?_) (fun a b => ?_) (fun a b g k => ?_) (fun a b g k k2 => ?_)
  · rw [rx_k0 (c := (x, d, s)) a] at h; exact absurd h (by simp)
  · rw [rx_k1 (c := (x, d, s)) a] at h
    injection h with h
    have h5 : ¬ (C x = 5 ∨ C x = 6) := by rw [a]; decide
    intro c' hc'
    rw [← h] at hc'
    simp only [List.mem_cons, List.not_mem_nil, or_false] at hc'
    rcases hc' with rfl | rfl
    · exact ⟨⟨by show rx_t F x ≤ e; omega, nr (by show x ≤ rx_t F x; omega)⟩, rx_rkf hP (c := (x, d, s)) h5 (by show x < rx_t F x; omega) (by show rx_t F x ≤ e; omega) rfl⟩
    · exact ⟨⟨by show rx_t S x ≤ e; omega, nr (by show x ≤ rx_t S x; omega)⟩, rx_rkf hP (c := (x, d, s)) h5 (by show x < rx_t S x; omega) (by show rx_t S x ≤ e; omega) rfl⟩
  · rw [rx_k2 (c := (x, d, s)) a] at h
    injection h with h
    have h5 : ¬ (C x = 5 ∨ C x = 6) := by rw [a]; decide
    intro c' hc'
    rw [← h] at hc'
    simp only [List.mem_cons, List.not_mem_nil, or_false] at hc'
    subst hc'
    exact ⟨⟨by show rx_t F x ≤ e; omega, nr (by show x ≤ rx_t F x; omega)⟩, rx_rkf hP (c := (x, d, s)) h5 (by show x < rx_t F x; omega) (by show rx_t F x ≤ e; omega) rfl⟩
  · rw [rx_k3 (c := (x, d, s)) a] at h
    injection h with h
    have h5 : ¬ (C x = 5 ∨ C x = 6) := by rw [a]; decide
    intro c' hc'
    rw [← h] at hc'
    simp only [List.mem_cons, List.not_mem_nil, or_false] at hc'
    subst hc'
    exact ⟨⟨by show x + 1 ≤ e; omega, nr (by show x ≤ x + 1; omega)⟩, rx_rkf hP (c := (x, d, s)) h5 (by show x < x + 1; omega) (by show x + 1 ≤ e; omega) rfl⟩
  · have k1 : rx_ok C e (rx_t F x, d + 1, s) ∧ rx_rk C S e (rx_t F x, d + 1, s) < rx_rk C S e (x, d, s) := by
      refine ⟨⟨by show rx_t F x ≤ e; omega, by show d + 1 ≤ rx_cr C (rx_t F x); rw [b, rx_cr1 a]; omega⟩, ?_⟩
      rw [rx_rki (c := (rx_t F x, d + 1, s)) (by show d + 1 ≠ 0; omega)]
      show e + 1 - rx_t F x < _
      by_cases h0 : d = 0
      · rw [rx_rkr (c := (x, d, s)) h0 a]; omega
      · rw [rx_rki (c := (x, d, s)) h0]; show _ < e + 1 - x; omega
    have k2 : rx_ok C e (rx_t S x, d, s) ∧ rx_rk C S e (rx_t S x, d, s) < rx_rk C S e (x, d, s) := by
      refine ⟨⟨by show rx_t S x ≤ e; omega, nr (by show x ≤ rx_t S x; omega)⟩, ?_⟩
      by_cases h0 : d = 0
      · have := rx_rk0 hP (c := (rx_t S x, d, s)) k
        rw [rx_rkr (c := (x, d, s)) h0 a]
        have e2 : (rx_t S x, d, s).1 = rx_t S x := rfl
        rw [e2] at this
        show _ < e + 2 + 2 * (e + 1 - rx_t S x) + 1
        omega
      · rw [rx_rki (c := (x, d, s)) h0, rx_rki (c := (rx_t S x, d, s)) h0]; show e + 1 - rx_t S x < e + 1 - x; omega
    rcases a with a | a
    · rw [rx_k5 (c := (x, d, s)) a] at h
      injection h with h
      intro c' hc'
      rw [← h] at hc'
      simp only [List.mem_cons, List.not_mem_nil, or_false] at hc'
      rcases hc' with rfl | rfl
      · exact k1
      · exact k2
    · rw [rx_k6 (c := (x, d, s)) a] at h
      injection h with h
      intro c' hc'
      rw [← h] at hc'
      simp only [List.mem_cons, List.not_mem_nil, or_false] at hc'
      rcases hc' with rfl | rfl
      · exact k2
      · exact k1
  · by_cases h0 : d = 0
    · rw [rx_k70 (c := (x, d, s)) a h0] at h
      injection h with h
      intro c' hc'
      rw [← h] at hc'
      simp only [List.mem_cons, List.not_mem_nil, or_false] at hc'
      subst hc'
      refine ⟨⟨by show rx_t F x ≤ e; omega, Nat.zero_le _⟩, ?_⟩
      have h5 : ¬ (C x = 5 ∨ C x = 6) := by rw [a]; decide
      rw [rx_rkn (c := (x, d, s)) h0 h5, rx_rkr (c := (rx_t F x, 0, s)) rfl g]
      show e + 2 + 2 * (e + 1 - rx_t S (rx_t F x)) + 1 < e + 2 + 2 * (e + 1 - x)
      omega
    · rw [rx_k7 (c := (x, d, s)) a h0] at h
      injection h with h
      intro c' hc'
      rw [← h] at hc'
      exact absurd hc' (by simp)
end
/-! leaves: what a configuration leads to without reading, in order -/
def rx_L (C F S : Nat → Int32) (i : Nat) : Nat → rx_C → List (Nat × rx_N)
  | 0, _ => []
  | f + 1, c => match rx_kids C F S i c with
    | none => [(c.1, c.2.2)]
    | some l => l.flatMap (rx_L C F S i f)
def rx_lv (C F S : Nat → Int32) (e i : Nat) (c : rx_C) : List (Nat × rx_N) := rx_L C F S i (rx_rk C S e c + 1) c
theorem rx_fmc {α β : Type} {f g : α → List β} : ∀ {l : List α}, (∀ x, x ∈ l → f x = g x) → l.flatMap f = l.flatMap g := by
  intro l
  induction l with
  | nil => intro _; rfl
  | cons a l ih =>
    intro h
    rw [List.flatMap_cons, List.flatMap_cons, h a (List.mem_cons_self ..), ih (fun x hx => h x (List.mem_cons_of_mem _ hx))]
section
variable {C F S T : Nat → Int32} {e i : Nat}
theorem rx_Ls (hP : rx_P C F S e) : ∀ f f' c, rx_ok C e c → rx_rk C S e c < f → rx_rk C S e c < f' → rx_L C F S i f c = rx_L C F S i f' c := by
  intro f
  induction f with
  | zero => intro f' c _ h; omega
  | succ f ih =>
    intro f' c hc h h'
    obtain ⟨g, rfl⟩ : ∃ g, f' = g + 1 := ⟨f' - 1, by omega⟩
    unfold rx_L
    cases hk : rx_kids C F S i c with
    | none => rfl
    | some l =>
      show l.flatMap _ = l.flatMap _
      refine rx_fmc (fun c' hc' => ?_)
      have := rx_ok1 hP hc hk c' hc'
      exact ih g c' this.1 (by omega) (by omega)
theorem rx_lvn {c : rx_C} (h : rx_kids C F S i c = none) : rx_lv C F S e i c = [(c.1, c.2.2)] := by
  unfold rx_lv rx_L
  rw [h]
theorem rx_lvs (hP : rx_P C F S e) {c : rx_C} (hc : rx_ok C e c) {l : List rx_C} (h : rx_kids C F S i c = some l) : rx_lv C F S e i c = l.flatMap (rx_lv C F S e i) := by
  have e1 : rx_lv C F S e i c = l.flatMap (rx_L C F S i (rx_rk C S e c)) := by
    unfold rx_lv
    rw [rx_L, h]
  rw [e1]
  refine rx_fmc (fun c' hc' => ?_)
  have := rx_ok1 hP hc h c' hc'
  exact rx_Ls hP _ _ c' this.1 this.2 (Nat.lt_succ_self _)
/-- where it leads to doesn't depend on the notes -/
theorem rx_Lp : ∀ f x d s s', (rx_L C F S i f (x, d, s)).map Prod.fst = (rx_L C F S i f (x, d, s')).map Prod.fst := by
  intro f
  induction f with
  | zero => intro x d s s'; rfl
  | succ f ih =>
    intro x d s s'
    rw [rx_L, rx_L]
    by_cases h1 : C x = 1
    · rw [rx_k1 (c := (x, d, s)) h1, rx_k1 (c := (x, d, s')) h1]
      simp only [List.flatMap_cons, List.flatMap_nil, List.append_nil, List.map_append]
      rw [ih _ _ s s', ih _ _ s s']
    by_cases h5 : C x = 5
    · rw [rx_k5 (c := (x, d, s)) h5, rx_k5 (c := (x, d, s')) h5]
      simp only [List.flatMap_cons, List.flatMap_nil, List.append_nil, List.map_append]
      rw [ih _ _ s s', ih _ _ s s']
    by_cases h6 : C x = 6
    · rw [rx_k6 (c := (x, d, s)) h6, rx_k6 (c := (x, d, s')) h6]
      simp only [List.flatMap_cons, List.flatMap_nil, List.append_nil, List.map_append]
      rw [ih _ _ s s', ih _ _ s s']
    by_cases h2 : C x = 2
    · rw [rx_k2 (c := (x, d, s)) h2, rx_k2 (c := (x, d, s')) h2]
      simp only [List.flatMap_cons, List.flatMap_nil, List.append_nil]
      rw [ih _ _ s s']
    by_cases h7 : C x = 7
    · by_cases h0 : d = 0
      · rw [rx_k70 (c := (x, d, s)) h7 h0, rx_k70 (c := (x, d, s')) h7 h0]
        simp only [List.flatMap_cons, List.flatMap_nil, List.append_nil]
        rw [ih _ _ s s']
      · rw [rx_k7 (c := (x, d, s)) h7 h0, rx_k7 (c := (x, d, s')) h7 h0]
    by_cases h3 : C x = 3
    · rw [rx_k3 (c := (x, d, s)) h3, rx_k3 (c := (x, d, s')) h3]
      simp only [List.flatMap_cons, List.flatMap_nil, List.append_nil]
      exact ih _ _ _ _
    · have n1 : ∀ s, rx_kids C F S i (x, d, s) = none := by
        intro s
        unfold rx_kids
        rw [if_neg h1, if_neg h5, if_neg h6, if_neg h2, if_neg h7, if_neg h3]
      rw [n1 s, n1 s']
      rfl
theorem rx_lvp (x d : Nat) (s s' : rx_N) : (rx_lv C F S e i (x, d, s)).map Prod.fst = (rx_lv C F S e i (x, d, s')).map Prod.fst := rx_Lp _ x d s s'
end
end
section
/-! what a thread answers, and that a program laid out for a part answers as the part does -/
def rx_Q (C F S T : Nat → Int32) (e : Nat) (acc : Nat → Bool) : Nat → Nat → Nat × rx_N → rx_O
  | 0, i, t => if C t.1 = 4 then (if acc i = true then some (i, t.2) else none) else none
  | d + 1, i, t => if C t.1 = 4 then (if acc i = true then some (i, t.2) else none) else
      if F t.1 = 3 ∨ F t.1 = T i then (rx_lv C F S e (i + 1) (t.1 + 1, 0, t.2)).findSome? (rx_Q C F S T e acc d (i + 1)) else none
/-- the answer from a configuration at place i -/
def rx_A (C F S T : Nat → Int32) (e n : Nat) (acc : Nat → Bool) (i : Nat) (c : rx_C) : rx_O := (rx_lv C F S e i c).findSome? (rx_Q C F S T e acc (n - i) i)
def rx_ht (T : Nat → Int32) (n c i : Nat) : Bool := decide (i < n ∧ (nI c = 3 ∨ nI c = T i))
theorem rx_htH (T : Nat → Int32) (n : Nat) : rx_H (rx_ht T n) n := fun _ _ h => (of_decide_eq_true h).1
theorem rx_fsm {α β γ : Type} {g : α → List β} {f : β → Option γ} : ∀ l : List α, (l.flatMap g).findSome? f = l.findSome? (fun c => (g c).findSome? f) := by
  intro l
  induction l with
  | nil => rfl
  | cons a l ih =>
    rw [List.flatMap_cons, List.findSome?_append, ih, List.findSome?_cons]
    cases (g a).findSome? f <;> rfl
theorem rx_fs2 {α γ : Type} {f : α → Option γ} {a b : α} : [a, b].findSome? f = (f a).or (f b) := by
  rw [List.findSome?_cons, List.findSome?_cons, List.findSome?_nil]
  cases f a <;> cases f b <;> rfl
theorem rx_fs1 {α γ : Type} {f : α → Option γ} {a : α} : [a].findSome? f = f a := by
  rw [List.findSome?_cons, List.findSome?_nil]
  cases f a <;> rfl
/-- the program of part p lies from a on and has z instructions -/
def rx_Y (kd fs sd : Nat → Nat) (C F S : Nat → Int32) (p a z : Nat) : Prop :=
  if kd p < 4 then z = 1 ∧ C a = 0 ∧ F a = nI (kd p)
  else if kd p = 4 then z = 0
  else if h : fs p < p ∧ sd p < p then
    if kd p = 5 then ∃ z1 z2, z = z1 + z2 ∧ rx_Y kd fs sd C F S (fs p) a z1 ∧ rx_Y kd fs sd C F S (sd p) (a + z1) z2
    else if kd p = 6 then ∃ z1 z2, z = z1 + z2 + 2 ∧ C a = 1 ∧ F a = 1 ∧ S a = nI (z1 + 2) ∧ rx_Y kd fs sd C F S (fs p) (a + 1) z1 ∧ C (a + 1 + z1) = 2 ∧ F (a + 1 + z1) = nI (z2 + 1) ∧ rx_Y kd fs sd C F S (sd p) (a + 1 + z1 + 1) z2
    else if kd p ≤ 8 then ∃ z1, z = z1 + 2 ∧ C a = (if kd p = 7 then 5 else 6) ∧ F a = 1 ∧ S a = nI (z1 + 2) ∧ rx_Y kd fs sd C F S (fs p) (a + 1) z1 ∧ C (a + 1 + z1) = 7 ∧ F (a + 1 + z1) = -nI z1 - 1
    else ∃ z1, z = z1 + 2 ∧ C a = 3 ∧ F a = nI (kd p - 6) ∧ rx_Y kd fs sd C F S (fs p) (a + 1) z1 ∧ C (a + 1 + z1) = 3 ∧ F (a + 1 + z1) = nI (kd p - 9)
  else False
termination_by p
section
variable {kd fs sd dg : Nat → Nat} {C F S T : Nat → Int32} {e n m : Nat}
theorem rx_Y0 {p a z : Nat} (h : kd p < 4) : rx_Y kd fs sd C F S p a z ↔ (z = 1 ∧ C a = 0 ∧ F a = nI (kd p)) := by
  rw [rx_Y, if_pos h]
theorem rx_Y4 {p a z : Nat} (h : kd p = 4) : rx_Y kd fs sd C F S p a z ↔ z = 0 := by
  rw [rx_Y, if_neg (by omega), if_pos h]
theorem rx_Y5 {p a z : Nat} (h : kd p = 5) (w : fs p < p ∧ sd p < p) : rx_Y kd fs sd C F S p a z ↔ ∃ z1 z2, z = z1 + z2 ∧ rx_Y kd fs sd C F S (fs p) a z1 ∧ rx_Y kd fs sd C F S (sd p) (a + z1) z2 := by
  rw [rx_Y, if_neg (by omega), if_neg (by omega), dif_pos w, if_pos h]
theorem rx_Y6 {p a z : Nat} (h : kd p = 6) (w : fs p < p ∧ sd p < p) : rx_Y kd fs sd C F S p a z ↔ ∃ z1 z2, z = z1 + z2 + 2 ∧ C a = 1 ∧ F a = 1 ∧ S a = nI (z1 + 2) ∧ rx_Y kd fs sd C F S (fs p) (a + 1) z1 ∧ C (a + 1 + z1) = 2 ∧ F (a + 1 + z1) = nI (z2 + 1) ∧ rx_Y kd fs sd C F S (sd p) (a + 1 + z1 + 1) z2 := by
  rw [rx_Y, if_neg (by omega), if_neg (by omega), dif_pos w, if_neg (by omega), if_pos h]
theorem rx_Y7 {p a z : Nat} (h : kd p = 7 ∨ kd p = 8) (w : fs p < p ∧ sd p < p) : rx_Y kd fs sd C F S p a z ↔ ∃ z1, z = z1 + 2 ∧ C a = (if kd p = 7 then 5 else 6) ∧ F a = 1 ∧ S a = nI (z1 + 2) ∧ rx_Y kd fs sd C F S (fs p) (a + 1) z1 ∧ C (a + 1 + z1) = 7 ∧ F (a + 1 + z1) = -nI z1 - 1 := by
  rw [rx_Y, if_neg (by omega), if_neg (by omega), dif_pos w, if_neg (by omega), if_neg (by omega), if_pos (by omega)]
theorem rx_Y9 {p a z : Nat} (h : 9 ≤ kd p) (w : fs p < p ∧ sd p < p) : rx_Y kd fs sd C F S p a z ↔ ∃ z1, z = z1 + 2 ∧ C a = 3 ∧ F a = nI (kd p - 6) ∧ rx_Y kd fs sd C F S (fs p) (a + 1) z1 ∧ C (a + 1 + z1) = 3 ∧ F (a + 1 + z1) = nI (kd p - 9) := by
  rw [rx_Y, if_neg (by omega), if_neg (by omega), dif_pos w, if_neg (by omega), if_neg (by omega), if_neg (by omega)]
/-- moved, and with nodes added behind, it stays what it is -/
theorem rx_Ym {kd' fs' sd' : Nat → Nat} {C' F' S' : Nat → Int32} (hW : rx_W kd fs sd dg m) : ∀ p, p < m → (∀ q, q ≤ p → kd' q = kd q ∧ fs' q = fs q ∧ sd' q = sd q) → ∀ a a' z, (∀ x, x < z → C' (a' + x) = C (a + x) ∧ F' (a' + x) = F (a + x) ∧ S' (a' + x) = S (a + x)) → rx_Y kd fs sd C F S p a z → rx_Y kd' fs' sd' C' F' S' p a' z := by
  intro p
  induction p using Nat.strongRecOn with
  | ind p ih =>
    intro hp hq a a' z hx hy
    have ww := hW p hp
    obtain ⟨ek, ef, es⟩ := hq p (Nat.le_refl _)
    refine rx_cs ww.1 (fun h => ?_) (fun h => ?_) (fun h => ?_) (fun h => ?_) (fun h => ?_) (fun h => ?_) (fun h => ?_)
    · rw [rx_Y0 h] at hy
      rw [rx_Y0 (by rw [ek]; exact h), ek]
      have := hx 0 (by omega)
      simp only [Nat.add_zero] at this
      rw [this.1, this.2.1]; exact hy
    · rw [rx_Y4 h] at hy
      rw [rx_Y4 (by rw [ek]; exact h)]; exact hy
    · have w := ww.2.2.1 (by omega)
      rw [rx_Y5 h w] at hy
      obtain ⟨z1, z2, hz, h1, h2⟩ := hy
      rw [rx_Y5 (by rw [ek]; exact h) (by rw [ef, es]; exact w), ef, es]
      refine ⟨z1, z2, hz, ih _ w.1 (by omega) (fun q hq' => hq q (by omega)) _ _ _ (fun x hxx => hx x (by omega)) h1, ih _ w.2 (by omega) (fun q hq' => hq q (by omega)) _ _ _ (fun x hxx => ?_) h2⟩
      rw [Nat.add_assoc, Nat.add_assoc]; exact hx (z1 + x) (by omega)
    · have w := ww.2.2.1 (by omega)
      rw [rx_Y6 h w] at hy
      obtain ⟨z1, z2, hz, c1, f1, s1, h1, c2, f2, h2⟩ := hy
      rw [rx_Y6 (by rw [ek]; exact h) (by rw [ef, es]; exact w), ef, es]
      have x0 := hx 0 (by omega)
      simp only [Nat.add_zero] at x0
      have x1 := hx (1 + z1) (by omega)
      simp only [← Nat.add_assoc] at x1
      refine ⟨z1, z2, hz, by rw [x0.1]; exact c1, by rw [x0.2.1]; exact f1, by rw [x0.2.2]; exact s1, ih _ w.1 (by omega) (fun q hq' => hq q (by omega)) _ _ _ (fun x hxx => ?_) h1, by rw [x1.1]; exact c2, by rw [x1.2.1]; exact f2, ih _ w.2 (by omega) (fun q hq' => hq q (by omega)) _ _ _ (fun x hxx => ?_) h2⟩
      · rw [Nat.add_assoc, Nat.add_assoc]; exact hx (1 + x) (by omega)
      · rw [show a' + 1 + z1 + 1 + x = a' + (1 + z1 + 1 + x) by omega, show a + 1 + z1 + 1 + x = a + (1 + z1 + 1 + x) by omega]; exact hx (1 + z1 + 1 + x) (by omega)
    · have w := ww.2.2.1 (by omega)
      rw [rx_Y7 (Or.inl h) w] at hy
      obtain ⟨z1, hz, c1, f1, s1, h1, c2, f2⟩ := hy
      rw [rx_Y7 (Or.inl (by rw [ek]; exact h)) (by rw [ef, es]; exact w), ef, ek]
      have x0 := hx 0 (by omega)
      simp only [Nat.add_zero] at x0
      have x1 := hx (1 + z1) (by omega)
      simp only [← Nat.add_assoc] at x1
      refine ⟨z1, hz, by rw [x0.1]; exact c1, by rw [x0.2.1]; exact f1, by rw [x0.2.2]; exact s1, ih _ w.1 (by omega) (fun q hq' => hq q (by omega)) _ _ _ (fun x hxx => ?_) h1, by rw [x1.1]; exact c2, by rw [x1.2.1]; exact f2⟩
      rw [Nat.add_assoc, Nat.add_assoc]; exact hx (1 + x) (by omega)
    · have w := ww.2.2.1 (by omega)
      rw [rx_Y7 (Or.inr h) w] at hy
      obtain ⟨z1, hz, c1, f1, s1, h1, c2, f2⟩ := hy
      rw [rx_Y7 (Or.inr (by rw [ek]; exact h)) (by rw [ef, es]; exact w), ef, ek]
      have x0 := hx 0 (by omega)
      simp only [Nat.add_zero] at x0
      have x1 := hx (1 + z1) (by omega)
      simp only [← Nat.add_assoc] at x1
      refine ⟨z1, hz, by rw [x0.1]; exact c1, by rw [x0.2.1]; exact f1, by rw [x0.2.2]; exact s1, ih _ w.1 (by omega) (fun q hq' => hq q (by omega)) _ _ _ (fun x hxx => ?_) h1, by rw [x1.1]; exact c2, by rw [x1.2.1]; exact f2⟩
      rw [Nat.add_assoc, Nat.add_assoc]; exact hx (1 + x) (by omega)
    · have w := ww.2.2.1 (by omega)
      rw [rx_Y9 h w] at hy
      obtain ⟨z1, hz, c1, f1, h1, c2, f2⟩ := hy
      rw [rx_Y9 (by rw [ek]; exact h) (by rw [ef, es]; exact w), ef, ek]
      have x0 := hx 0 (by omega)
      simp only [Nat.add_zero] at x0
      have x1 := hx (1 + z1) (by omega)
      simp only [← Nat.add_assoc] at x1
      refine ⟨z1, hz, by rw [x0.1]; exact c1, by rw [x0.2.1]; exact f1, ih _ w.1 (by omega) (fun q hq' => hq q (by omega)) _ _ _ (fun x hxx => ?_) h1, by rw [x1.1]; exact c2, by rw [x1.2.1]; exact f2⟩
      rw [Nat.add_assoc, Nat.add_assoc]; exact hx (1 + x) (by omega)
theorem rx_neg (a z : Nat) : nI (a + 1 + z) + (-nI z - 1) = nI a := by
  rw [← nI_add, ← nI_1]
  grind
theorem rx_p1 (a : Nat) {x : Int32} (h : x = 1) : nI a + x = nI (a + 1) := by rw [h, nI_1]
theorem rx_pz (a z : Nat) {x : Int32} (h : x = nI z) : nI a + x = nI (a + z) := by rw [h, nI_add]
/-- laid out instructions are well made -/
theorem rx_YI (hW : rx_W kd fs sd dg m) : ∀ p, p < m → ∀ a z, a + z ≤ e → rx_Y kd fs sd C F S p a z → (∀ x, a ≤ x → x < a + z → rx_I C F S e x) ∧ 2 * rx_cr C (a + z) ≤ 2 * rx_cr C a + z := by
  intro p
  induction p using Nat.strongRecOn with
  | ind p ih =>
    intro hp a z he hy
    have ww := hW p hp
    have crs : ∀ x, ¬ (C x = 5 ∨ C x = 6) → rx_cr C (x + 1) = rx_cr C x := by
      intro x h
      show rx_cr C x + _ = _
      rw [if_neg h]; rfl
    have rep : (kd p = 7 ∨ kd p = 8) → (∀ x, a ≤ x → x < a + z → rx_I C F S e x) ∧ 2 * rx_cr C (a + z) ≤ 2 * rx_cr C a + z := by
      intro h
      have w := ww.2.2.1 (by omega)
      rw [rx_Y7 h w] at hy
      obtain ⟨z1, hz, c1, f1, s1, h1, c2, f2⟩ := hy
      have c1' : C a = 5 ∨ C a = 6 := by
        rw [c1]; split
        · exact Or.inl rfl
        · exact Or.inr rfl
      obtain ⟨i1, n1⟩ := ih _ w.1 (by omega) (a + 1) z1 (by omega) h1
      have s1' := rx_pz a (z1 + 2) s1
      constructor
      · intro x hx1 hx2
        by_cases hxa : x = a
        · subst hxa
          exact Or.inr (Or.inr (Or.inr (Or.inr (Or.inl ⟨c1', rx_p1 _ f1, x + (z1 + 2), by omega, by omega, s1'⟩))))
        by_cases hxb : x = a + 1 + z1
        · subst hxb
          refine Or.inr (Or.inr (Or.inr (Or.inr (Or.inr ⟨c2, a, by omega, c1', ?_, ?_⟩))))
          · rw [s1', show a + (z1 + 2) = a + 1 + z1 + 1 by omega]
          · rw [f2]; exact rx_neg a z1
        · exact i1 x (by omega) (by omega)
      · have k1 := rx_cr1 (C := C) (x := a) c1'
        have k2 := crs (a + 1 + z1) (by rw [c2]; decide)
        rw [hz, show a + (z1 + 2) = a + 1 + z1 + 1 by omega]
        omega
    refine rx_cs ww.1 (fun h => ?_) (fun h => ?_) (fun h => ?_) (fun h => ?_) (fun h => rep (Or.inl h)) (fun h => rep (Or.inr h)) (fun h => ?_)
    · rw [rx_Y0 h] at hy
      obtain ⟨hz, c1, f1⟩ := hy
      constructor
      · intro x hx1 hx2
        have : x = a := by omega
        subst this
        exact Or.inl ⟨c1, kd p, h, f1⟩
      · rw [hz, crs a (by rw [c1]; decide)]; omega
    · rw [rx_Y4 h] at hy
      rw [hy]
      exact ⟨fun x _ _ => by omega, by simp⟩
    · have w := ww.2.2.1 (by omega)
      rw [rx_Y5 h w] at hy
      obtain ⟨z1, z2, hz, h1, h2⟩ := hy
      obtain ⟨i1, n1⟩ := ih _ w.1 (by omega) a z1 (by omega) h1
      obtain ⟨i2, n2⟩ := ih _ w.2 (by omega) (a + z1) z2 (by omega) h2
      constructor
      · intro x hx1 hx2
        by_cases hxa : x < a + z1
        · exact i1 x hx1 hxa
        · exact i2 x (by omega) (by omega)
      · rw [hz, ← Nat.add_assoc]; omega
    · have w := ww.2.2.1 (by omega)
      rw [rx_Y6 h w] at hy
      obtain ⟨z1, z2, hz, c1, f1, s1, h1, c2, f2, h2⟩ := hy
      obtain ⟨i1, n1⟩ := ih _ w.1 (by omega) (a + 1) z1 (by omega) h1
      obtain ⟨i2, n2⟩ := ih _ w.2 (by omega) (a + 1 + z1 + 1) z2 (by omega) h2
      have s1' := rx_pz a (z1 + 2) s1
      have f2' := rx_pz (a + 1 + z1) (z2 + 1) f2
      constructor
      · intro x hx1 hx2
        by_cases hxa : x = a
        · subst hxa
          exact Or.inr (Or.inl ⟨c1, rx_p1 _ f1, x + (z1 + 2), by omega, by omega, s1'⟩)
        by_cases hxb : x < a + 1 + z1
        · exact i1 x (by omega) hxb
        by_cases hxc : x = a + 1 + z1
        · subst hxc
          exact Or.inr (Or.inr (Or.inl ⟨c2, _, by omega, by omega, f2'⟩))
        · exact i2 x (by omega) (by omega)
      · have k1 := crs a (by rw [c1]; decide)
        have k2 := crs (a + 1 + z1) (by rw [c2]; decide)
        rw [hz, show a + (z1 + z2 + 2) = a + 1 + z1 + 1 + z2 by omega]
        omega
    · have w := ww.2.2.1 (by omega)
      have hk12 := ww.1
      rw [rx_Y9 h w] at hy
      obtain ⟨z1, hz, c1, f1, h1, c2, f2⟩ := hy
      obtain ⟨i1, n1⟩ := ih _ w.1 (by omega) (a + 1) z1 (by omega) h1
      constructor
      · intro x hx1 hx2
        by_cases hxa : x = a
        · subst hxa
          exact Or.inr (Or.inr (Or.inr (Or.inl ⟨c1, kd p - 6, by omega, f1⟩)))
        by_cases hxb : x = a + 1 + z1
        · subst hxb
          exact Or.inr (Or.inr (Or.inr (Or.inl ⟨c2, kd p - 9, by omega, f2⟩)))
        · exact i1 x (by omega) (by omega)
      · have k1 := crs a (by rw [c1]; decide)
        have k2 := crs (a + 1 + z1) (by rw [c2]; decide)
        rw [hz, show a + (z1 + 2) = a + 1 + z1 + 1 by omega]
        omega
end
end
section
section
variable {kd fs sd dg : Nat → Nat} {C F S T : Nat → Int32} {e n m i : Nat} {acc : Nat → Bool}
theorem rx_An {c : rx_C} (h : rx_kids C F S i c = none) : rx_A C F S T e n acc i c = rx_Q C F S T e acc (n - i) i (c.1, c.2.2) := by
  unfold rx_A
  rw [rx_lvn h, rx_fs1]
theorem rx_As (hP : rx_P C F S e) {c : rx_C} (hc : rx_ok C e c) {l : List rx_C} (h : rx_kids C F S i c = some l) : rx_A C F S T e n acc i c = l.findSome? (rx_A C F S T e n acc i) := by
  unfold rx_A
  rw [rx_lvs hP hc h, rx_fsm]
theorem rx_A2 (hP : rx_P C F S e) {c a b : rx_C} (hc : rx_ok C e c) (h : rx_kids C F S i c = some [a, b]) : rx_A C F S T e n acc i c = (rx_A C F S T e n acc i a).or (rx_A C F S T e n acc i b) := by
  rw [rx_As hP hc h, rx_fs2]
theorem rx_A1 (hP : rx_P C F S e) {c a : rx_C} (hc : rx_ok C e c) (h : rx_kids C F S i c = some [a]) : rx_A C F S T e n acc i c = rx_A C F S T e n acc i a := by
  rw [rx_As hP hc h, rx_fs1]
theorem rx_A0 (hP : rx_P C F S e) {c : rx_C} (hc : rx_ok C e c) (h : rx_kids C F S i c = some []) : rx_A C F S T e n acc i c = none := by
  rw [rx_As hP hc h, List.findSome?_nil]
theorem rx_ii {i j l idle : Nat} (h1 : i ≤ j) (h2 : j ≤ l) : (if l = j then (if j = i then idle else 0) else 0) = (if l = i then idle else 0) := by
  by_cases a : l = i
  · rw [if_pos a, if_pos (by omega), if_pos (by omega)]
  · rw [if_neg a]
    by_cases b : l = j
    · rw [if_pos b, if_neg (by omega)]
    · rw [if_neg b]
theorem rx_il {C : Nat → Int32} {x y idle : Nat} {q : Prop} [Decidable q] (h : idle ≤ rx_cr C x) (hxy : x ≤ y) : (if q then idle else 0) ≤ rx_cr C y := by
  have := rx_crm (C := C) hxy
  split
  · omega
  · omega
theorem rx_cc (hP : rx_P C F S e) (hW : rx_W kd fs sd dg m) : ∀ p, p < m → ∀ d i, n - i < d → i ≤ n → ∀ a z idle s, a + z ≤ e → rx_Y kd fs sd C F S p a z → idle ≤ rx_cr C a →
    rx_A C F S T e n acc i (a, idle, s) = rx_M kd fs sd (rx_ht T n) n p i s (fun j s' => rx_A C F S T e n acc j (a + z, if j = i then idle else 0, s')) := by
  have hH := rx_htH T n
  have h32 := hP.1
  intro p
  induction p using Nat.strongRecOn with
  | ind p ih =>
    intro hp d
    have ww := hW p hp
    induction d with
    | zero => intro i hd; omega
    | succ d ihd =>
      intro i hd hi a z idle s he hy hid
      have ok0 : a < e → rx_ok C e (a, idle, s) := fun h => ⟨by show a ≤ e; omega, hid⟩
      have rep : (kd p = 7 ∨ kd p = 8) → rx_A C F S T e n acc i (a, idle, s) = rx_M kd fs sd (rx_ht T n) n p i s (fun j s' => rx_A C F S T e n acc j (a + z, if j = i then idle else 0, s')) := by
        intro h
        have w := ww.2.2.1 (by omega)
        have hy' := hy
        rw [rx_Y7 h w] at hy
        obtain ⟨z1, hz, c1, f1, s1, h1, c2, f2⟩ := hy
        have tF : rx_t F a = a + 1 := rx_tI (rx_p1 _ f1) (by omega)
        have tS : rx_t S a = a + z := rx_tI (rx_pz a z (by rw [s1, hz])) (by omega)
        have tA : rx_t F (a + 1 + z1) = a := rx_tI (by rw [f2]; exact rx_neg a z1) (by omega)
        have c1' : C a = 5 ∨ C a = 6 := by
          rw [c1]; split
          · exact Or.inl rfl
          · exact Or.inr rfl
        have cr1 := rx_cr1 (C := C) c1'
        have body : rx_A C F S T e n acc i (a + 1, idle + 1, s) = rx_M kd fs sd (rx_ht T n) n (fs p) i s (rx_K kd fs sd (rx_ht T n) n p i (fun j s' => rx_A C F S T e n acc j (a + z, if j = i then idle else 0, s'))) := by
          rw [ih _ w.1 (by omega) (n - i + 1) i (by omega) hi (a + 1) z1 (idle + 1) s (by omega) h1 (by omega)]
          refine rx_Mc' hW hH (by omega) hi (fun j s' hj1 hj2 => ?_)
          have okA : ∀ q : Nat, q ≤ idle + 1 → rx_ok C e (a + 1 + z1, q, s') := by
            intro q hq
            refine ⟨by show a + 1 + z1 ≤ e; omega, ?_⟩
            have := rx_crm (C := C) (x := a + 1) (y := a + 1 + z1) (by omega)
            show q ≤ rx_cr C (a + 1 + z1)
            omega
          unfold rx_K
          by_cases hji : j = i
          · rw [if_pos hji, if_neg (by omega)]
            exact rx_A0 hP (okA _ (Nat.le_refl _)) (rx_k7 (c := (a + 1 + z1, idle + 1, s')) c2 (by show idle + 1 ≠ 0; omega))
          · rw [if_neg hji, if_pos (by omega), rx_A1 hP (okA 0 (by omega)) (rx_k70 (c := (a + 1 + z1, 0, s')) c2 rfl)]
            show rx_A C F S T e n acc j (rx_t F (a + 1 + z1), 0, s') = _
            rw [tA, ihd j (by omega) hj2 a z 0 s' he hy' (Nat.zero_le _)]
            refine rx_Mc' hW hH hp hj2 (fun l s'' hl1 hl2 => ?_)
            rw [if_neg (show ¬ l = i by omega), ite_self]
        rcases h with h | h
        · rw [rx_M7 h w, ← body]
          rw [if_pos h] at c1
          rw [rx_A2 hP (ok0 (by omega)) (rx_k5 (c := (a, idle, s)) c1)]
          show (rx_A C F S T e n acc i (rx_t F a, idle + 1, s)).or (rx_A C F S T e n acc i (rx_t S a, idle, s)) = _
          rw [tF, tS, if_pos rfl]
        · rw [rx_M8 h w, ← body]
          rw [if_neg (by omega)] at c1
          rw [rx_A2 hP (ok0 (by omega)) (rx_k6 (c := (a, idle, s)) c1)]
          show (rx_A C F S T e n acc i (rx_t S a, idle, s)).or (rx_A C F S T e n acc i (rx_t F a, idle + 1, s)) = _
          rw [tF, tS, if_pos rfl]
      refine rx_cs ww.1 (fun h => ?_) (fun h => ?_) (fun h => ?_) (fun h => ?_) (fun h => rep (Or.inl h)) (fun h => rep (Or.inr h)) (fun h => ?_)
      · rw [rx_Y0 h] at hy
        obtain ⟨hz, c1, f1⟩ := hy
        subst hz
        rw [rx_An (rx_k0 (c := (a, idle, s)) (Or.inl c1)), rx_M0 h]
        have n4 : ¬ C a = 4 := by rw [c1]; decide
        by_cases hn : i < n
        · obtain ⟨d', hd'⟩ : ∃ d', n - i = d' + 1 := ⟨n - i - 1, by omega⟩
          rw [hd']
          show (if C a = 4 then _ else if F a = 3 ∨ F a = T i then _ else none) = _
          rw [if_neg n4, f1]
          by_cases hm : nI (kd p) = 3 ∨ nI (kd p) = T i
          · rw [if_pos hm, if_pos (show rx_ht T n (kd p) i = true from decide_eq_true ⟨hn, hm⟩)]
            show _ = rx_A C F S T e n acc (i + 1) (a + 1, if i + 1 = i then idle else 0, s)
            rw [if_neg (by omega)]
            unfold rx_A
            rw [show n - (i + 1) = d' by omega]
          · rw [if_neg hm, if_neg (fun hx => hm (of_decide_eq_true hx).2)]
        · rw [show n - i = 0 by omega]
          show (if C a = 4 then _ else none) = _
          rw [if_neg n4, if_neg (fun hx => hn (of_decide_eq_true hx).1)]
      · rw [rx_Y4 h] at hy
        subst hy
        rw [rx_M4 h]
        show _ = rx_A C F S T e n acc i (a + 0, if i = i then idle else 0, s)
        rw [if_pos rfl, Nat.add_zero]
      · have w := ww.2.2.1 (by omega)
        rw [rx_Y5 h w] at hy
        obtain ⟨z1, z2, hz, h1, h2⟩ := hy
        rw [rx_M5 h w, ih _ w.1 (by omega) (n - i + 1) i (by omega) hi a z1 idle s (by omega) h1 hid]
        refine rx_Mc' hW hH (by omega) hi (fun j s' hj1 hj2 => ?_)
        rw [ih _ w.2 (by omega) (n - j + 1) j (by omega) hj2 (a + z1) z2 _ s' (by omega) h2 (rx_il hid (by omega))]
        refine rx_Mc' hW hH (by omega) hj2 (fun l s'' hl1 hl2 => ?_)
        rw [rx_ii hj1 hl1, hz, Nat.add_assoc]
      · have w := ww.2.2.1 (by omega)
        rw [rx_Y6 h w] at hy
        obtain ⟨z1, z2, hz, c1, f1, s1, h1, c2, f2, h2⟩ := hy
        have tF : rx_t F a = a + 1 := rx_tI (rx_p1 _ f1) (by omega)
        have tS : rx_t S a = a + 1 + z1 + 1 := rx_tI (by rw [rx_pz a (z1 + 2) s1, show a + (z1 + 2) = a + 1 + z1 + 1 by omega]) (by omega)
        have tJ : rx_t F (a + 1 + z1) = a + z := rx_tI (by rw [rx_pz (a + 1 + z1) (z2 + 1) f2, show a + 1 + z1 + (z2 + 1) = a + z by omega]) (by omega)
        rw [rx_M6 h w, rx_A2 hP (ok0 (by omega)) (rx_k1 (c := (a, idle, s)) c1)]
        show (rx_A C F S T e n acc i (rx_t F a, idle, s)).or (rx_A C F S T e n acc i (rx_t S a, idle, s)) = _
        have m1 := rx_crm (C := C) (x := a) (y := a + 1) (by omega)
        have m2 := rx_crm (C := C) (x := a) (y := a + 1 + z1 + 1) (by omega)
        rw [tF, tS, ih _ w.1 (by omega) (n - i + 1) i (by omega) hi (a + 1) z1 idle s (by omega) h1 (by omega), ih _ w.2 (by omega) (n - i + 1) i (by omega) hi (a + 1 + z1 + 1) z2 idle s (by omega) h2 (by omega)]
        have e1 : (fun j s' => rx_A C F S T e n acc j (a + 1 + z1, if j = i then idle else 0, s')) = (fun j s' => rx_A C F S T e n acc j (a + z, if j = i then idle else 0, s')) := by
          funext j s'
          rw [rx_A1 hP (c := (a + 1 + z1, if j = i then idle else 0, s')) ⟨by show a + 1 + z1 ≤ e; omega, rx_il hid (by show a ≤ a + 1 + z1; omega)⟩ (rx_k2 (c := (a + 1 + z1, if j = i then idle else 0, s')) c2)]
          show rx_A C F S T e n acc j (rx_t F (a + 1 + z1), _, s') = _
          rw [tJ]
        rw [e1, show a + 1 + z1 + 1 + z2 = a + z by omega]
      · have w := ww.2.2.1 (by omega)
        have hk12 := ww.1
        rw [rx_Y9 h w] at hy
        obtain ⟨z1, hz, c1, f1, h1, c2, f2⟩ := hy
        have o1 : (F a).toNatClampNeg = kd p - 6 := by rw [f1]; exact nI_clamp (by omega)
        have o2 : (F (a + 1 + z1)).toNatClampNeg = kd p - 9 := by rw [f2]; exact nI_clamp (by omega)
        have m1 := rx_crm (C := C) (x := a) (y := a + 1) (by omega)
        rw [rx_M9 h w, rx_A1 hP (ok0 (by omega)) (rx_k3 (c := (a, idle, s)) c1)]
        show rx_A C F S T e n acc i (a + 1, idle, rx_nt i s (F a).toNatClampNeg) = _
        have e0 : rx_nt i s (F a).toNatClampNeg = upd s (kd p - 6) (nI i) := by
          rw [o1]; unfold rx_nt; rw [if_neg (by omega)]
        rw [e0, ih _ w.1 (by omega) (n - i + 1) i (by omega) hi (a + 1) z1 idle _ (by omega) h1 (by omega)]
        have e1 : (fun j s' => rx_A C F S T e n acc j (a + 1 + z1, if j = i then idle else 0, s')) = (fun j s' => rx_A C F S T e n acc j (a + z, if j = i then idle else 0, upd s' (kd p - 9) (16 * s' (kd p - 6) + nI j))) := by
          funext j s'
          rw [rx_A1 hP (c := (a + 1 + z1, if j = i then idle else 0, s')) ⟨by show a + 1 + z1 ≤ e; omega, rx_il hid (by show a ≤ a + 1 + z1; omega)⟩ (rx_k3 (c := (a + 1 + z1, if j = i then idle else 0, s')) c2)]
          show rx_A C F S T e n acc j (a + 1 + z1 + 1, _, rx_nt j s' (F (a + 1 + z1)).toNatClampNeg) = _
          have e2 : rx_nt j s' (F (a + 1 + z1)).toNatClampNeg = upd s' (kd p - 9) (16 * s' (kd p - 6) + nI j) := by
            rw [o2]; unfold rx_nt; rw [if_pos (by omega), show kd p - 9 + 3 = kd p - 6 by omega]
          rw [e2, show a + 1 + z1 + 1 = a + z by omega]
        rw [e1]
/-- the whole: from the first instruction at place i -/
theorem rx_top (hP : rx_P C F S e) (hW : rx_W kd fs sd dg m) {p : Nat} (hp : p < m) (hi : i ≤ n) (hy : rx_Y kd fs sd C F S p 0 e) (s : rx_N) :
    rx_A C F S T e n acc i (0, 0, s) = rx_M kd fs sd (rx_ht T n) n p i s (fun j s' => if acc j = true then some (j, s') else none) := by
  rw [rx_cc hP hW p hp (n - i + 1) i (by omega) hi 0 e 0 s (by omega) hy (Nat.zero_le _)]
  refine rx_Mc' hW (rx_htH T n) hp hi (fun j s' _ _ => ?_)
  rw [Nat.zero_add, ite_self, rx_An (rx_k0 (c := (e, 0, s')) (Or.inr hP.2.1))]
  have c4 : C e = 4 := hP.2.1
  cases hd : n - j with
  | zero =>
    show (if C e = 4 then _ else none) = _
    rw [if_pos c4]
  | succ d =>
    show (if C e = 4 then _ else _) = _
    rw [if_pos c4]
end
end
section
/-! threads merged: the first at each instruction is kept -/
def rx_dd : List (Nat × rx_N) → List (Nat × rx_N) → List (Nat × rx_N)
  | em, [] => em
  | em, x :: xs => if x.1 ∈ em.map Prod.fst then rx_dd em xs else rx_dd (em ++ [x]) xs
theorem rx_dda : ∀ l1 em l2, rx_dd em (l1 ++ l2) = rx_dd (rx_dd em l1) l2 := by
  intro l1
  induction l1 with
  | nil => intro em l2; rfl
  | cons x l1 ih =>
    intro em l2
    show (if x.1 ∈ em.map Prod.fst then _ else _) = rx_dd (if x.1 ∈ em.map Prod.fst then _ else _) l2
    by_cases h : x.1 ∈ em.map Prod.fst
    · rw [if_pos h, if_pos h]; exact ih _ _
    · rw [if_neg h, if_neg h]; exact ih _ _
theorem rx_ddi : ∀ l em, (∀ q, q ∈ l.map Prod.fst → q ∈ em.map Prod.fst) → rx_dd em l = em := by
  intro l
  induction l with
  | nil => intro em _; rfl
  | cons x l ih =>
    intro em h
    show (if x.1 ∈ em.map Prod.fst then _ else _) = _
    rw [if_pos (h x.1 (by simp))]
    exact ih em (fun q hq => h q (by rw [List.map_cons]; exact List.mem_cons_of_mem _ hq))
theorem rx_fsn {f : Nat × rx_N → rx_O} : ∀ {l : List (Nat × rx_N)}, l.findSome? f = none → ∀ x, x ∈ l → f x = none := by
  intro l
  induction l with
  | nil => intro _ x hx; exact absurd hx (by simp)
  | cons a l ih =>
    intro h x hx
    rw [List.findSome?_cons] at h
    cases ha : f a with
    | none =>
      rw [ha] at h
      rcases List.mem_cons.mp hx with rfl | hx
      · exact ha
      · exact ih h x hx
    | some b => rw [ha] at h; exact absurd h (by simp)
/-- merging changes no answer, if whether there is one doesn't depend on the notes -/
theorem rx_ddf {f : Nat × rx_N → rx_O} (hf : ∀ x s s', f (x, s) = none → f (x, s') = none) : ∀ l em, (rx_dd em l).findSome? f = (em.findSome? f).or (l.findSome? f) := by
  intro l
  induction l with
  | nil => intro em; rw [List.findSome?_nil, Option.or_none]; rfl
  | cons x l ih =>
    intro em
    show (if x.1 ∈ em.map Prod.fst then _ else _ : List (Nat × rx_N)).findSome? f = _
    by_cases h : x.1 ∈ em.map Prod.fst
    · rw [if_pos h, ih]
      cases he : em.findSome? f with
      | some b => rfl
      | none =>
        obtain ⟨y, hy, hyx⟩ := List.mem_map.mp h
        have h1 := rx_fsn he y hy
        have h2 : f x = none := by
          have := hf y.1 y.2 x.2 h1
          rw [hyx] at this
          exact this
        rw [List.findSome?_cons, h2]
    · rw [if_neg h, ih, List.findSome?_append, rx_fs1, List.findSome?_cons]
      cases em.findSome? f <;> cases f x <;> rfl
/-- the mark of a configuration -/
def rx_mk (C : Nat → Int32) (c : rx_C) : Nat := c.1 * 17 + (if C c.1 = 0 ∨ C c.1 = 4 then 0 else c.2.1)
section
variable {C F S T : Nat → Int32} {e i : Nat}
theorem rx_ok16 (hP : rx_P C F S e) {c : rx_C} (h : rx_ok C e c) : c.2.1 ≤ 16 := by
  have := rx_crm (C := C) h.1
  have := hP.2.2.2
  have := h.2
  omega
theorem rx_mkl (hP : rx_P C F S e) {c : rx_C} (h : rx_ok C e c) : rx_mk C c < 561 := by
  have h16 := rx_ok16 hP h
  have h1 := h.1
  have h2 := hP.1
  unfold rx_mk
  split
  · omega
  · omega
theorem rx_mki (hP : rx_P C F S e) {c c' : rx_C} (h : rx_ok C e c) (h' : rx_ok C e c') (hm : rx_mk C c = rx_mk C c') : c.1 = c'.1 ∧ ((C c.1 = 0 ∨ C c.1 = 4) ∨ c.2.1 = c'.2.1) := by
  have h16 := rx_ok16 hP h
  have h16' := rx_ok16 hP h'
  unfold rx_mk at hm
  have e1 : c.1 = c'.1 := by
    split at hm
    · split at hm
      · omega
      · omega
    · split at hm
      · omega
      · omega
  refine ⟨e1, ?_⟩
  rw [← e1] at hm
  by_cases hs : C c.1 = 0 ∨ C c.1 = 4
  · exact Or.inl hs
  · rw [if_neg hs, if_neg hs] at hm
    right; omega
/-- same mark, same leaves -/
theorem rx_mkp (hP : rx_P C F S e) {c c' : rx_C} (h : rx_ok C e c) (h' : rx_ok C e c') (hm : rx_mk C c = rx_mk C c') : (rx_lv C F S e i c).map Prod.fst = (rx_lv C F S e i c').map Prod.fst := by
  obtain ⟨x, d, s⟩ := c
  obtain ⟨x', d', s'⟩ := c'
  obtain ⟨e1, e2⟩ := rx_mki hP h h' hm
  have e1 : x = x' := e1
  subst e1
  rcases e2 with e2 | e2
  · rw [rx_lvn (rx_k0 (c := (x, d, s)) e2), rx_lvn (rx_k0 (c := (x, d', s')) e2)]; rfl
  · have e2 : d = d' := e2
    subst e2
    exact rx_lvp x d s s'
theorem rx_kn (hP : rx_P C F S e) {c : rx_C} (h : rx_ok C e c) (hk : rx_kids C F S i c = none) : C c.1 = 0 ∨ C c.1 = 4 := by
  refine rx_ci hP h.1 (fun a => a) (fun a _ _ _ => ?_) (fun a _ _ => ?_) (fun a _ => ?_) (fun a _ _ _ => ?_) (fun a _ _ _ _ => ?_)
  · rw [rx_k1 a] at hk; exact absurd hk (by simp)
  · rw [rx_k2 a] at hk; exact absurd hk (by simp)
  · rw [rx_k3 a] at hk; exact absurd hk (by simp)
  · rcases a with a | a
    · rw [rx_k5 a] at hk; exact absurd hk (by simp)
    · rw [rx_k6 a] at hk; exact absurd hk (by simp)
  · by_cases h0 : c.2.1 = 0
    · rw [rx_k70 a h0] at hk; exact absurd hk (by simp)
    · rw [rx_k7 a h0] at hk; exact absurd hk (by simp)
end
/-- the waiting ones up to the first whose rank isn't below r -/
def rx_tw (C S : Nat → Int32) (e r : Nat) (st : List rx_C) : List rx_C := st.takeWhile (fun c => decide (rx_rk C S e c < r))
theorem rx_twt {C S : Nat → Int32} {e r : Nat} {c : rx_C} {l : List rx_C} (h : rx_rk C S e c < r) : rx_tw C S e r (c :: l) = c :: rx_tw C S e r l := by
  unfold rx_tw; rw [List.takeWhile_cons, if_pos (decide_eq_true h)]
theorem rx_twf {C S : Nat → Int32} {e r : Nat} {c : rx_C} {l : List rx_C} (h : ¬ rx_rk C S e c < r) : rx_tw C S e r (c :: l) = [] := by
  unfold rx_tw; rw [List.takeWhile_cons, if_neg (by rw [decide_eq_true_iff]; exact h)]
theorem rx_twa {C S : Nat → Int32} {e r : Nat} {l' : List rx_C} : ∀ {l : List rx_C}, (∀ c, c ∈ l → rx_rk C S e c < r) → rx_tw C S e r (l ++ l') = l ++ rx_tw C S e r l' := by
  intro l
  induction l with
  | nil => intro _; rfl
  | cons a l ih =>
    intro h
    rw [List.cons_append, rx_twt (h a (List.mem_cons_self ..)), ih (fun c hc => h c (List.mem_cons_of_mem _ hc)), List.cons_append]
/-- where a list of configurations leads to -/
def rx_lp (C F S : Nat → Int32) (e i : Nat) (l : List rx_C) : List Nat := (l.flatMap (rx_lv C F S e i)).map Prod.fst
/-- following: what waits, what was seen, what was kept -/
def rx_Iv (C F S : Nat → Int32) (e i : Nat) (seen : Nat → Int32) (em : List (Nat × rx_N)) (st : List rx_C) (fin : List (Nat × rx_N)) : Prop :=
  (∀ c, c ∈ st → rx_ok C e c) ∧
  (∀ c, rx_ok C e c → seen (rx_mk C c) ≠ 0 → ∀ q, q ∈ (rx_lv C F S e i c).map Prod.fst → q ∈ em.map Prod.fst ∨ q ∈ rx_lp C F S e i (rx_tw C S e (rx_rk C S e c) st)) ∧
  (∀ x, x ∈ em → x.1 ≤ e ∧ (C x.1 = 0 ∨ C x.1 = 4) ∧ seen (x.1 * 17) ≠ 0) ∧
  rx_dd em (st.flatMap (rx_lv C F S e i)) = fin
section
variable {C F S T : Nat → Int32} {e i : Nat} {seen : Nat → Int32} {em fin : List (Nat × rx_N)} {c : rx_C} {st ks : List rx_C}
theorem rx_lpc {q : Nat} : q ∈ rx_lp C F S e i (c :: st) ↔ (q ∈ (rx_lv C F S e i c).map Prod.fst ∨ q ∈ rx_lp C F S e i st) := by
  unfold rx_lp
  rw [List.flatMap_cons, List.map_append, List.mem_append]
theorem rx_lpa {q : Nat} : q ∈ rx_lp C F S e i (ks ++ st) ↔ (q ∈ rx_lp C F S e i ks ∨ q ∈ rx_lp C F S e i st) := by
  unfold rx_lp
  rw [List.flatMap_append, List.map_append, List.mem_append]
/-- one that was seen: nothing new -/
theorem rx_Iv1 (h : rx_Iv C F S e i seen em (c :: st) fin) (hs : seen (rx_mk C c) ≠ 0) : rx_Iv C F S e i seen em st fin := by
  obtain ⟨h1, h2, h3, h4⟩ := h
  have hc := h1 c (List.mem_cons_self ..)
  have hin : ∀ q, q ∈ (rx_lv C F S e i c).map Prod.fst → q ∈ em.map Prod.fst := by
    intro q hq
    rcases h2 c hc hs q hq with h | h
    · exact h
    · rw [rx_twf (Nat.lt_irrefl _)] at h
      exact absurd h (by unfold rx_lp; simp)
  refine ⟨fun c' hc' => h1 c' (List.mem_cons_of_mem _ hc'), fun c' hc' hs' q hq => ?_, h3, ?_⟩
  · rcases h2 c' hc' hs' q hq with h | h
    · exact Or.inl h
    · by_cases hr : rx_rk C S e c < rx_rk C S e c'
      · rw [rx_twt hr, rx_lpc] at h
        rcases h with h | h
        · exact Or.inl (hin q h)
        · exact Or.inr h
      · rw [rx_twf hr] at h
        exact absurd h (by unfold rx_lp; simp)
  · rw [← h4, List.flatMap_cons, rx_dda, rx_ddi _ _ hin]
/-- one that goes on -/
theorem rx_Iv2 (hP : rx_P C F S e) (h : rx_Iv C F S e i seen em (c :: st) fin) (hk : rx_kids C F S i c = some ks) : rx_Iv C F S e i (upd seen (rx_mk C c) 1) em (ks ++ st) fin := by
  obtain ⟨h1, h2, h3, h4⟩ := h
  have hc := h1 c (List.mem_cons_self ..)
  have hks := rx_ok1 hP hc hk
  have hl := rx_lvs hP hc hk
  have hns : ¬ (C c.1 = 0 ∨ C c.1 = 4) := by
    intro hx
    rw [rx_k0 hx] at hk
    exact absurd hk (by simp)
  have hlp : ∀ q, q ∈ (rx_lv C F S e i c).map Prod.fst ↔ q ∈ rx_lp C F S e i ks := by
    intro q; rw [hl]; rfl
  refine ⟨?_, ?_, ?_, ?_⟩
  · intro c' hc'
    rcases List.mem_append.mp hc' with hc' | hc'
    · exact (hks c' hc').1
    · exact h1 c' (List.mem_cons_of_mem _ hc')
  · intro c' hc' hs' q hq
    by_cases hm : rx_mk C c' = rx_mk C c
    · right
      have hr : rx_rk C S e c' = rx_rk C S e c := by
        obtain ⟨e1, e2⟩ := rx_mki hP hc hc' hm.symm
        rcases e2 with e2 | e2
        · exact absurd e2 hns
        · unfold rx_rk; rw [e1, e2]
      rw [hr, rx_twa (fun c'' hc'' => (hks c'' hc'').2), rx_lpa]
      left
      rw [← hlp, ← rx_mkp hP hc' hc hm]; exact hq
    · rw [pk_un hm] at hs'
      rcases h2 c' hc' hs' q hq with h | h
      · exact Or.inl h
      · right
        by_cases hr : rx_rk C S e c < rx_rk C S e c'
        · rw [rx_twt hr, rx_lpc] at h
          rw [rx_twa (fun c'' hc'' => Nat.lt_trans (hks c'' hc'').2 hr), rx_lpa]
          rcases h with h | h
          · exact Or.inl ((hlp q).mp h)
          · exact Or.inr h
        · rw [rx_twf hr] at h
          exact absurd h (by unfold rx_lp; simp)
  · intro x hx
    obtain ⟨a, b, d⟩ := h3 x hx
    refine ⟨a, b, ?_⟩
    unfold upd
    split
    · decide
    · exact d
  · rw [← h4, List.flatMap_append, List.flatMap_cons, hl]
/-- one that reads next, or is done -/
theorem rx_Iv3 (hP : rx_P C F S e) (h : rx_Iv C F S e i seen em (c :: st) fin) (hs : seen (rx_mk C c) = 0) (hk : rx_kids C F S i c = none) : rx_Iv C F S e i (upd seen (rx_mk C c) 1) (em ++ [(c.1, c.2.2)]) st fin := by
  obtain ⟨h1, h2, h3, h4⟩ := h
  have hc := h1 c (List.mem_cons_self ..)
  have hl := rx_lvn (e := e) hk
  have hst := rx_kn hP hc hk
  have hmk : rx_mk C c = c.1 * 17 := by unfold rx_mk; rw [if_pos hst, Nat.add_zero]
  have hnew : c.1 ∈ (em ++ [(c.1, c.2.2)]).map Prod.fst := by simp
  have hold : ∀ q, q ∈ em.map Prod.fst → q ∈ (em ++ [(c.1, c.2.2)]).map Prod.fst := by
    intro q hq; rw [List.map_append]; exact List.mem_append_left _ hq
  have hlq : ∀ q, q ∈ (rx_lv C F S e i c).map Prod.fst → q = c.1 := by
    intro q hq; rw [hl] at hq; simpa using hq
  have hni : c.1 ∉ em.map Prod.fst := by
    intro hx
    obtain ⟨y, hy, hyx⟩ := List.mem_map.mp hx
    have := (h3 y hy).2.2
    rw [hyx, ← hmk] at this
    exact this hs
  refine ⟨fun c' hc' => h1 c' (List.mem_cons_of_mem _ hc'), ?_, ?_, ?_⟩
  · intro c' hc' hs' q hq
    by_cases hm : rx_mk C c' = rx_mk C c
    · left
      rw [rx_mkp hP hc' hc hm] at hq
      rw [hlq q hq]; exact hnew
    · rw [pk_un hm] at hs'
      rcases h2 c' hc' hs' q hq with h | h
      · exact Or.inl (hold q h)
      · by_cases hr : rx_rk C S e c < rx_rk C S e c'
        · rw [rx_twt hr, rx_lpc] at h
          rcases h with h | h
          · left; rw [hlq q h]; exact hnew
          · exact Or.inr h
        · rw [rx_twf hr] at h
          exact absurd h (by unfold rx_lp; simp)
  · intro x hx
    rcases List.mem_append.mp hx with hx | hx
    · obtain ⟨a, b, d⟩ := h3 x hx
      refine ⟨a, b, ?_⟩
      unfold upd
      split
      · decide
      · exact d
    · rw [List.mem_singleton] at hx
      subst hx
      refine ⟨hc.1, hst, ?_⟩
      show upd seen (rx_mk C c) 1 (c.1 * 17) ≠ 0
      rw [hmk, pk_us]; decide
  · rw [← h4, List.flatMap_cons, hl]
    show _ = (if c.1 ∈ em.map Prod.fst then _ else _)
    rw [if_neg hni]
    rfl
/-- nothing waits: a further thread may begin -/
theorem rx_Iv4 (h : rx_Iv C F S e i seen em [] fin) (hc : rx_ok C e c) : rx_Iv C F S e i seen em [c] (rx_dd em (rx_lv C F S e i c)) := by
  obtain ⟨h1, h2, h3, h4⟩ := h
  refine ⟨fun c' hc' => ?_, fun c' hc' hs' q hq => ?_, h3, ?_⟩
  · rw [List.mem_singleton] at hc'; rw [hc']; exact hc
  · rcases h2 c' hc' hs' q hq with h | h
    · exact Or.inl h
    · exact absurd h (by unfold rx_lp rx_tw; simp)
  · rw [List.flatMap_cons, List.flatMap_nil, List.append_nil]
theorem rx_Iv0 (h0 : ∀ k, k < 1088 → seen k = 0) (hP : rx_P C F S e) : rx_Iv C F S e i seen [] [] [] := by
  refine ⟨fun c' hc' => absurd hc' (by simp), fun c' hc' hs' => ?_, fun x hx => absurd hx (by simp), rfl⟩
  have := rx_mkl hP hc'
  exact absurd (h0 _ (by omega)) hs'
theorem rx_Ivf (h : rx_Iv C F S e i seen em [] fin) : em = fin := h.2.2.2
end
/-! counting what wasn't seen -/
def rx_un (a : Nat → Int32) : Nat → Nat
  | 0 => 0
  | x + 1 => rx_un a x + (if a x = 0 then 1 else 0)
theorem rx_unl (a : Nat → Int32) : ∀ N, rx_un a N ≤ N := by
  intro N
  induction N with
  | zero => exact Nat.le_refl _
  | succ N ih => show rx_un a N + _ ≤ _; split <;> omega
theorem rx_unk {a : Nat → Int32} {k : Nat} : ∀ {N : Nat}, N ≤ k → rx_un (upd a k 1) N = rx_un a N := by
  intro N
  induction N with
  | zero => intro _; rfl
  | succ N ih =>
    intro h
    show rx_un _ N + (if upd a k 1 N = 0 then 1 else 0) = rx_un a N + _
    rw [ih (by omega), pk_un (by omega)]
theorem rx_unu {a : Nat → Int32} {k : Nat} (h0 : a k = 0) : ∀ {N : Nat}, k < N → rx_un (upd a k 1) N + 1 = rx_un a N := by
  intro N
  induction N with
  | zero => intro h; omega
  | succ N ih =>
    intro h
    show rx_un _ N + (if upd a k 1 N = 0 then 1 else 0) + 1 = rx_un a N + _
    by_cases hk : N = k
    · subst hk
      rw [rx_unk (Nat.le_refl _), pk_us, if_neg (by decide), if_pos h0]
    · rw [pk_un hk, ← ih (by omega)]; omega
theorem rx_unm {a : Nat → Int32} {k : Nat} : ∀ N : Nat, rx_un (upd a k 1) N ≤ rx_un a N := by
  intro N
  induction N with
  | zero => exact Nat.le_refl _
  | succ N ih =>
    show rx_un _ N + (if upd a k 1 N = 0 then 1 else 0) ≤ rx_un a N + _
    by_cases hk : N = k
    · subst hk
      rw [pk_us, if_neg (by decide)]; omega
    · rw [pk_un hk]; omega
/-- by instructions: the mark without idle rounds -/
def rx_sd (a : Nat → Int32) : Nat → Int32 := fun x => a (x * 17)
theorem rx_sdu {a : Nat → Int32} {x : Nat} : rx_sd (upd a (x * 17) 1) = upd (rx_sd a) x 1 := by
  funext y
  unfold rx_sd upd
  by_cases h : y = x
  · rw [if_pos (by omega), if_pos h]
  · rw [if_neg (by omega), if_neg h]
theorem rx_sdm {a : Nat → Int32} {k : Nat} : ∀ N : Nat, rx_un (rx_sd (upd a k 1)) N ≤ rx_un (rx_sd a) N := by
  intro N
  induction N with
  | zero => exact Nat.le_refl _
  | succ N ih =>
    show rx_un _ N + (if upd a k 1 (N * 17) = 0 then 1 else 0) ≤ rx_un _ N + (if a (N * 17) = 0 then 1 else 0)
    by_cases hk : N * 17 = k
    · subst hk
      rw [pk_us, if_neg (by decide)]; omega
    · rw [pk_un hk]; omega
end
section
/-! the component's walks: copies, push, goOn -/
/-- a with m values of g from o on -/
def rx_cp (a : Nat → Int32) (o : Nat) (g : Nat → Int32) (m : Nat) : Nat → Int32 := fun x => if o ≤ x ∧ x < o + m then g (x - o) else a x
theorem rx_cp0 {a g : Nat → Int32} {o : Nat} : rx_cp a o g 0 = a := by
  funext x
  unfold rx_cp
  rw [if_neg (by omega)]
theorem rx_cps {a g : Nat → Int32} {o m : Nat} : upd (rx_cp a o g m) (o + m) (g m) = rx_cp a o g (m + 1) := by
  funext x
  unfold upd rx_cp
  by_cases h : x = o + m
  · rw [if_pos h, if_pos (by omega), h, show o + m - o = m by omega]
  · rw [if_neg h]
    by_cases h2 : o ≤ x ∧ x < o + m
    · rw [if_pos h2, if_pos (by omega)]
    · rw [if_neg h2, if_neg (by omega)]
theorem rx_cpi {a g : Nat → Int32} {o m k : Nat} (h : k < m) : rx_cp a o g m (o + k) = g k := by
  unfold rx_cp
  rw [if_pos (by omega), show o + k - o = k by omega]
theorem rx_cpo {a g : Nat → Int32} {o m x : Nat} (h : x < o) : rx_cp a o g m x = a x := by
  unfold rx_cp
  rw [if_neg (by omega)]
/-- six notes of a from o on -/
def rx_nm (a : Nat → Int32) (o : Nat) : rx_N := fun k => if k < 6 then a (o + k) else 0
theorem rx_nmc {a a' : Nat → Int32} {o o' : Nat} (h : ∀ k, k < 6 → a (o + k) = a' (o' + k)) : rx_nm a o = rx_nm a' o' := by
  funext k
  unfold rx_nm
  by_cases hk : k < 6
  · rw [if_pos hk, if_pos hk, h k hk]
  · rw [if_neg hk, if_neg hk]
theorem rx_nmp {a b : Nat → Int32} {o : Nat} : rx_nm (rx_cp a o b 6) o = rx_nm b 0 := by
  refine rx_nmc (fun k hk => ?_)
  rw [rx_cpi hk, Nat.zero_add]
theorem rx_nml {a b : Nat → Int32} {o : Nat} : rx_nm (rx_cp a 0 (fun k => b (o + k)) 6) 0 = rx_nm b o := by
  refine rx_nmc (fun k hk => ?_)
  rw [rx_cpi hk]
theorem rx_nmu {a : Nat → Int32} {o : Nat} {v : Int32} (h : o < 6) : rx_nm (upd a o v) 0 = upd (rx_nm a 0) o v := by
  funext k
  unfold rx_nm upd
  simp only [Nat.zero_add]
  by_cases hk : k = o
  · rw [if_pos hk, if_pos hk, if_pos (by omega)]
  · rw [if_neg hk, if_neg hk]
/-- what waits, by the arrays -/
def rx_S (vk vi vj : Nat → Int32) : Nat → List rx_C → Prop
  | 0, l => l = []
  | w + 1, l => ∃ x d l', vk w = nI x ∧ vi w = nI d ∧ l = (x, d, rx_nm vj (w * 6)) :: l' ∧ rx_S vk vi vj w l'
theorem rx_Sc {vk vi vj vk' vi' vj' : Nat → Int32} : ∀ {w : Nat} {l : List rx_C}, (∀ t, t < w → vk' t = vk t ∧ vi' t = vi t) → (∀ x, x < w * 6 → vj' x = vj x) → rx_S vk vi vj w l → rx_S vk' vi' vj' w l := by
  intro w
  induction w with
  | zero => intro l _ _ h; exact h
  | succ w ih =>
    intro l h1 h2 h
    obtain ⟨x, d, l', a, b, c, e⟩ := h
    refine ⟨x, d, l', by rw [(h1 w (by omega)).1]; exact a, by rw [(h1 w (by omega)).2]; exact b, ?_, ih (fun t ht => h1 t (by omega)) (fun x hx => h2 x (by omega)) e⟩
    rw [c, rx_nmc (a := vj') (a' := vj) (fun k hk => h2 _ (by omega))]
theorem rx_Sp {vk vi vj va : Nat → Int32} {w x d : Nat} {l : List rx_C} {p q : Int32} (h : rx_S vk vi vj w l) (hp : p = nI x) (hq : q = nI d) : rx_S (upd vk w p) (upd vi w q) (rx_cp vj (w * 6) va 6) (w + 1) ((x, d, rx_nm va 0) :: l) := by
  refine ⟨x, d, l, by rw [pk_us]; exact hp, by rw [pk_us]; exact hq, by rw [rx_nmp], rx_Sc (fun t ht => ⟨pk_un (by omega), pk_un (by omega)⟩ ) (fun y hy => rx_cpo hy) h⟩
/-- threads, by the arrays: d of them from t on -/
def rx_th (wt wn : Nat → Int32) : Nat → Nat → List (Nat × rx_N)
  | _, 0 => []
  | t, d + 1 => ((wt t).toNatClampNeg, rx_nm wn (t * 6)) :: rx_th wt wn (t + 1) d
theorem rx_tha {wt wn : Nat → Int32} : ∀ d t, rx_th wt wn t (d + 1) = rx_th wt wn t d ++ [((wt (t + d)).toNatClampNeg, rx_nm wn ((t + d) * 6))] := by
  intro d
  induction d with
  | zero => intro t; rfl
  | succ d ih =>
    intro t
    show _ :: rx_th wt wn (t + 1) (d + 1) = _ :: rx_th wt wn (t + 1) d ++ _
    rw [ih (t + 1), List.cons_append, show t + 1 + d = t + (d + 1) by omega]
theorem rx_thc {wt wn wt' wn' : Nat → Int32} : ∀ d t, (∀ x, x < t + d → wt' x = wt x) → (∀ x, x < (t + d) * 6 → wn' x = wn x) → rx_th wt' wn' t d = rx_th wt wn t d := by
  intro d
  induction d with
  | zero => intro t _ _; rfl
  | succ d ih =>
    intro t h1 h2
    show _ :: _ = _ :: _
    rw [h1 t (by omega), rx_nmc (a := wn') (a' := wn) (fun k hk => h2 _ (by omega)), ih (t + 1) (fun x hx => h1 x (by omega)) (fun x hx => h2 x (by omega))]
theorem rx_the {wt wn va : Nat → Int32} {c x : Nat} (hx : x ≤ 64) : rx_th (upd wt c (nI x)) (rx_cp wn (c * 6) va 6) 0 (c + 1) = rx_th wt wn 0 c ++ [(x, rx_nm va 0)] := by
  rw [rx_tha, Nat.zero_add, pk_us, nI_clamp (by omega), rx_nmp, rx_thc c 0 (fun y hy => pk_un (by omega)) (fun y hy => rx_cpo (by omega))]
theorem rx_thl {wt wn : Nat → Int32} : ∀ d t, (rx_th wt wn t d).length = d := by
  intro d
  induction d with
  | zero => intro t; rfl
  | succ d ih => intro t; show (_ :: _ : List (Nat × rx_N)).length = _; rw [List.length_cons, ih]
theorem rx_w6 (w k : Nat) : nI w * 6 + nI k = nI (w * 6 + k) := by
  rw [show (6 : Int32) = nI 6 from rfl, pk_mul, nI_add]
section
variable {xh xm xl xz xn xc xd xw xe : Int32} {vb vg vc vf vs C F S T vt vn wt wn vz vk vi vj va vo : Nat → Int32}
theorem rx_push22 {post : SX → Prop} {w : Nat} (hw : w < 640) (h : post (xh, xm, xl, xz, xn, xc, xd, nI (w + 1), xe, vb, vg, vc, vf, vs, C, F, S, T, vt, vn, wt, wn, vz, vk, vi, rx_cp vj (w * 6) va 6, va, vo)) : ∀ f k, k ≤ 6 → 6 - k < f → wX_push_22 post xh xm xl xz xn xc xd (nI w) xe f (nI k) vb vg vc vf vs C F S T vt vn wt wn vz vk vi (rx_cp vj (w * 6) va k) va vo := by
  intro f
  induction f with
  | zero => intro k _ h; omega
  | succ f ih =>
    intro k hk hf
    refine pk_le 6 k (fun hk6 => ?_) (fun hk6 => ?_)
    · have : k = 6 := by omega
      subst this
      exact nm_r (nI_1 w) h
    · refine And.intro (vp_in_nI hk6 (by omega)) (And.intro ?_ (nm_r (e' := rx_cp vj (w * 6) va (k + 1)) ?_ (nm_r (nI_1 k) (ih (k + 1) (by omega) (by omega)))))
      · rw [rx_w6]; exact vp_in_nI (by omega) (by omega)
      · rw [rx_w6, nI_clamp (by omega), nI_clamp (by omega)]; exact rx_cps
theorem rx_push {post : SX → Prop} {w : Nat} {p q : Int32} (hw : w < 640) (h : post (xh, xm, xl, xz, xn, xc, xd, nI (w + 1), xe, vb, vg, vc, vf, vs, C, F, S, T, vt, vn, wt, wn, vz, upd vk w p, upd vi w q, rx_cp vj (w * 6) va 6, va, vo)) : wpX_push post (xh, xm, xl, xz, xn, xc, xd, nI w, xe, vb, vg, vc, vf, vs, C, F, S, T, vt, vn, wt, wn, vz, vk, vi, vj, va, vo) p q := by
  refine And.intro (vp_in_nI hw (by omega)) (nm_r (e' := upd vk w p) (by rw [nI_clamp (by omega)]) (And.intro (vp_in_nI hw (by omega)) (nm_r (e' := upd vi w q) (by rw [nI_clamp (by omega)]) ⟨7, ?_⟩)))
  have := rx_push22 (vk := upd vk w p) (vi := upd vi w q) hw h 7 0 (by omega) (by omega)
  rw [rx_cp0] at this
  exact this
theorem rx_goOn228 {post : SX → Prop} {c : Nat} (hc : c < 64) (h : post (xh, xm, xl, xz, xn, xc, nI (c + 1), xw, xe, vb, vg, vc, vf, vs, C, F, S, T, vt, vn, wt, rx_cp wn (c * 6) va 6, vz, vk, vi, vj, va, vo)) : ∀ f k, k ≤ 6 → 6 - k < f → wX_goOn_228 post xh xm xl xz xn xc (nI c) xw xe f (nI k) vb vg vc vf vs C F S T vt vn wt (rx_cp wn (c * 6) va k) vz vk vi vj va vo := by
  intro f
  induction f with
  | zero => intro k _ h; omega
  | succ f ih =>
    intro k hk hf
    refine pk_le 6 k (fun hk6 => ?_) (fun hk6 => ?_)
    · have : k = 6 := by omega
      subst this
      exact nm_r (nI_1 c) h
    · refine And.intro (vp_in_nI hk6 (by omega)) (And.intro ?_ (nm_r (e' := rx_cp wn (c * 6) va (k + 1)) ?_ (nm_r (nI_1 k) (ih (k + 1) (by omega) (by omega)))))
      · rw [rx_w6]; exact vp_in_nI (by omega) (by omega)
      · rw [rx_w6, nI_clamp (by omega), nI_clamp (by omega)]; exact rx_cps
/-- what following asks of goOn: its kids wait then, or it is kept -/
def rx_Gs (C F S : Nat → Int32) (e i x d w : Nat) (l : List rx_C) (va : Nat → Int32) (P : Nat → (Nat → Int32) → (Nat → Int32) → (Nat → Int32) → (Nat → Int32) → Prop) : Prop :=
  ∀ ks, rx_kids C F S i (x, d, rx_nm va 0) = some ks → ∀ w' vk' vi' vj' va', w' = w + ks.length → w' ≤ w + 2 → rx_S vk' vi' vj' w' (ks ++ l) → P w' vk' vi' vj' va'
theorem rx_goOn {post : SX → Prop} {e i x d w c : Nat} {l : List rx_C} (hP : rx_P C F S e) (hx : x ≤ e) (hd : d ≤ 16) (hw : w + 2 ≤ 640) (hS : rx_S vk vi vj w l)
    (hs : rx_Gs C F S e i x d w l va (fun w' vk' vi' vj' va' => post (xh, xm, xl, xz, xn, xc, nI c, nI w', xe, vb, vg, vc, vf, vs, C, F, S, T, vt, vn, wt, wn, vz, vk', vi', vj', va', vo)))
    (hn : rx_kids C F S i (x, d, rx_nm va 0) = none → c < 64 ∧ post (xh, xm, xl, xz, xn, xc, nI (c + 1), nI w, xe, vb, vg, vc, vf, vs, C, F, S, T, vt, vn, upd wt c (nI x), rx_cp wn (c * 6) va 6, vz, vk, vi, vj, va, vo)) :
    wpX_goOn post (xh, xm, xl, xz, xn, xc, nI c, nI w, xe, vb, vg, vc, vf, vs, C, F, S, T, vt, vn, wt, wn, vz, vk, vi, vj, va, vo) (nI x) (nI i) (nI d) := by
  have h32 := hP.1
  have hin : vp_in (nI x) 64 := vp_in_nI (by omega) (by omega)
  have hcl : (nI x).toNatClampNeg = x := nI_clamp (by omega)
  refine And.intro hin (nm_r (e' := C x) (by rw [hcl]) ?_)
  by_cases hxe : x = e
  · have h4 : C x = 4 := by rw [hxe]; exact hP.2.1
    obtain ⟨hc, hp⟩ := hn (rx_k0 (c := (x, d, rx_nm va 0)) (Or.inr h4))
    refine br_f (by rw [h4]; decide) (br_f (by rw [h4]; decide) (br_f (by rw [h4]; decide) (br_f (by rw [h4]; decide) (br_f (by rw [h4]; decide) (br_f (by rw [h4]; decide) (br_f (by rw [h4]; decide) ?_))))))
    refine And.intro (vp_in_nI hc (by omega)) (nm_r (e' := upd wt c (nI x)) (by rw [nI_clamp (by omega)]) ⟨7, ?_⟩)
    have := rx_goOn228 (wt := upd wt c (nI x)) hc hp 7 0 (by omega) (by omega)
    rw [rx_cp0] at this
    exact this
  rcases hP.2.2.1 x (by omega) with ⟨a, _⟩ | ⟨a, b, y, hy, hye, ys⟩ | ⟨a, y, hy, hye, ys⟩ | ⟨a, o, ho, fo⟩ | ⟨a, b, y, hy, hye, ys⟩ | ⟨a, g, hg, cg, sg, fg⟩
  · obtain ⟨hc, hp⟩ := hn (rx_k0 (c := (x, d, rx_nm va 0)) (Or.inl a))
    refine br_f (by rw [a]; decide) (br_f (by rw [a]; decide) (br_f (by rw [a]; decide) (br_f (by rw [a]; decide) (br_f (by rw [a]; decide) (br_f (by rw [a]; decide) (br_f (by rw [a]; decide) ?_))))))
    refine And.intro (vp_in_nI hc (by omega)) (nm_r (e' := upd wt c (nI x)) (by rw [nI_clamp (by omega)]) ⟨7, ?_⟩)
    have := rx_goOn228 (wt := upd wt c (nI x)) hc hp 7 0 (by omega) (by omega)
    rw [rx_cp0] at this
    exact this
  · refine br_t a (And.intro hin (rx_push (by omega) (And.intro hin (rx_push (by omega) ?_))))
    refine hs _ (rx_k1 (c := (x, d, rx_nm va 0)) a) (w + 1 + 1) _ _ _ _ rfl (by omega) ?_
    refine rx_Sp (rx_Sp hS ?_ rfl) ?_ rfl
    · rw [hcl, ys]; exact congrArg nI (rx_tI ys (by omega)).symm
    · rw [hcl, b]; exact congrArg nI (rx_tI b (by omega)).symm
  · refine br_f (by rw [a]; decide) (br_f (by rw [a]; decide) (br_f (by rw [a]; decide) (br_t a (And.intro hin (rx_push (by omega) ?_)))))
    refine hs _ (rx_k2 (c := (x, d, rx_nm va 0)) a) (w + 1) _ _ _ _ rfl (by omega) ?_
    refine rx_Sp hS ?_ rfl
    rw [hcl, ys]; exact congrArg nI (rx_tI ys (by omega)).symm
  · refine br_f (by rw [a]; decide) (br_f (by rw [a]; decide) (br_f (by rw [a]; decide) (br_f (by rw [a]; decide) (br_f (by rw [a]; decide) (br_f (by rw [a]; decide) (br_t a (And.intro hin (nm_r (e' := nI o) (by rw [hcl, fo]) ?_))))))))
    have oc : (F x).toNatClampNeg = o := by rw [fo]; exact nI_clamp (by omega)
    have done : ∀ v : Int32, upd (rx_nm va 0) o v = rx_nt i (rx_nm va 0) o → wX_goOn_203 post (nI x) (nI d) v (nI o) xh xm xl xz xn xc (nI c) (nI w) xe vb vg vc vf vs C F S T vt vn wt wn vz vk vi vj va vo := by
      intro v hv
      refine And.intro (vp_in_nI ho (by omega)) (nm_r (e' := upd va o v) (by rw [nI_clamp (by omega)]) (rx_push (by omega) ?_))
      refine hs _ (rx_k3 (c := (x, d, rx_nm va 0)) a) (w + 1) _ _ _ _ rfl (by omega) ?_
      have e1 : rx_nt i (rx_nm va 0) (F x).toNatClampNeg = rx_nm (upd va o v) 0 := by rw [oc, ← hv, rx_nmu ho]
      show rx_S _ _ _ (w + 1) ((x + 1, d, rx_nt i (rx_nm va 0) (F x).toNatClampNeg) :: l)
      rw [e1]
      exact rx_Sp hS (nI_1 x) rfl
    refine pk_lt o 3 (fun ho3 => And.intro ?_ (done _ ?_)) (fun ho3 => done _ ?_)
    · rw [show (3 : Int32) = nI 3 from rfl, nI_add]; exact vp_in_nI (by omega) (by omega)
    · unfold rx_nt
      rw [if_pos ho3]
      have : rx_nm va 0 (o + 3) = va (nI o + 3).toNatClampNeg := by
        unfold rx_nm
        rw [if_pos (by omega), Nat.zero_add, show (3 : Int32) = nI 3 from rfl, nI_add, nI_clamp (by omega)]
      rw [this]
    · unfold rx_nt
      rw [if_neg (by omega)]
  · rcases a with a | a
    · refine br_f (by rw [a]; decide) (br_t a (And.intro hin (rx_push (by omega) (And.intro hin (rx_push (by omega) ?_)))))
      refine hs _ (rx_k5 (c := (x, d, rx_nm va 0)) a) (w + 1 + 1) _ _ _ _ rfl (by omega) ?_
      refine rx_Sp (rx_Sp hS ?_ rfl) ?_ (nI_1 d)
      · rw [hcl, ys]; exact congrArg nI (rx_tI ys (by omega)).symm
      · rw [hcl, b]; exact congrArg nI (rx_tI b (by omega)).symm
    · refine br_f (by rw [a]; decide) (br_f (by rw [a]; decide) (br_t a (And.intro hin (rx_push (by omega) (And.intro hin (rx_push (by omega) ?_))))))
      refine hs _ (rx_k6 (c := (x, d, rx_nm va 0)) a) (w + 1 + 1) _ _ _ _ rfl (by omega) ?_
      refine rx_Sp (rx_Sp hS ?_ (nI_1 d)) ?_ rfl
      · rw [hcl, b]; exact congrArg nI (rx_tI b (by omega)).symm
      · rw [hcl, ys]; exact congrArg nI (rx_tI ys (by omega)).symm
  · refine br_f (by rw [a]; decide) (br_f (by rw [a]; decide) (br_f (by rw [a]; decide) (br_f (by rw [a]; decide) (br_t a ?_))))
    refine pk_eq d 0 (fun h0 => ?_) (fun h0 => ?_)
    · refine And.intro hin (rx_push (by omega) ?_)
      refine hs _ (rx_k70 (c := (x, d, rx_nm va 0)) a h0) (w + 1) _ _ _ _ rfl (by omega) ?_
      refine rx_Sp hS ?_ (by rw [h0])
      rw [hcl, fg]; exact congrArg nI (rx_tI fg (by omega)).symm
    · refine br_t a ?_
      exact hs _ (rx_k7 (c := (x, d, rx_nm va 0)) a h0) w _ _ _ _ rfl (by omega) hS
end
end
section
/-! the component's walks: follow, clearSeen, advance, loadNotes -/
theorem rx_b0 : vp_nar .boolean 0 = 0 := by decide
theorem rx_b1 : vp_nar .boolean 1 = 1 := by decide
def rx_Th (e : Nat) (wt : Nat → Int32) (c : Nat) : Prop := ∀ t, t < c → ∃ q, q ≤ e ∧ wt t = nI q
section
variable {xh xm xl xz xn xc xd xw xe : Int32} {vb vg vc vf vs C F S T vt vn wt wn vz vk vi vj va vo : Nat → Int32}
theorem rx_f94 {post : SX → Prop} {J2 : Int32 → Int32 → Int32 → Int32 → Int32 → Int32 → Int32 → Int32 → Int32 → Int32 → (Nat → Int32) → (Nat → Int32) → (Nat → Int32) → (Nat → Int32) → (Nat → Int32) → (Nat → Int32) → (Nat → Int32) → (Nat → Int32) → (Nat → Int32) → (Nat → Int32) → (Nat → Int32) → (Nat → Int32) → (Nat → Int32) → (Nat → Int32) → (Nat → Int32) → (Nat → Int32) → (Nat → Int32) → (Nat → Int32) → (Nat → Int32) → Prop} {x1 x2 x3 x4 x6 : Int32} {w : Nat} (hw : w < 640)
    (H : wX_follow_94 post J2 x1 x2 x3 x4 x6 xh xm xl xz xn xc xd (nI w) xe 1 (nI 6) vb vg vc vf vs C F S T vt vn wt wn vz vk vi vj (rx_cp va 0 (fun k => vj (w * 6 + k)) 6) vo) :
    ∀ f k, k ≤ 6 → 6 - k < f → wX_follow_94 post J2 x1 x2 x3 x4 x6 xh xm xl xz xn xc xd (nI w) xe f (nI k) vb vg vc vf vs C F S T vt vn wt wn vz vk vi vj (rx_cp va 0 (fun k => vj (w * 6 + k)) k) vo := by
  intro f
  induction f with
  | zero => intro k _ h; omega
  | succ f ih =>
    intro k hk hf
    by_cases hk6 : k = 6
    · subst hk6
      exact br_t (by decide : (6 : Int32) ≤ nI 6) (And.left H (by decide))
    · refine br_f (nI_ge (b := 6) (by omega) (by decide)) ?_
      refine And.intro ?_ (And.intro (vp_in_nI (by omega) (by omega)) (nm_r (e' := rx_cp va 0 (fun k => vj (w * 6 + k)) (k + 1)) ?_ (nm_r (nI_1 k) (ih (k + 1) (by omega) (by omega)))))
      · rw [rx_w6]; exact vp_in_nI (by omega) (by omega)
      · rw [rx_w6, nI_clamp (by omega), nI_clamp (by omega)]
        have := rx_cps (a := va) (g := fun k => vj (w * 6 + k)) (o := 0) (m := k)
        rw [Nat.zero_add] at this
        exact this
theorem rx_fol {post : SX → Prop} {e i : Nat} {fin : List (Nat × rx_N)} (hP : rx_P C F S e)
    (hq : ∀ c vz wt wn vk vi vj va, rx_Iv C F S e i vz fin [] fin → fin = rx_th wt wn 0 c → rx_Th e wt c → c + rx_un (rx_sd vz) 33 ≤ 33 → post (xh, xm, xl, xz, xn, xc, nI c, nI 0, xe, vb, vg, vc, vf, vs, C, F, S, T, vt, vn, wt, wn, vz, vk, vi, vj, va, vo)) :
    ∀ f rd w l c em vz wt wn vk vi vj va, rx_Iv C F S e i vz em l fin → rx_S vk vi vj w l → em = rx_th wt wn 0 c → rx_Th e wt c → w + rx_un vz 561 ≤ 562 → rd + 2 * rx_un vz 561 + w ≤ 1123 → c + rx_un (rx_sd vz) 33 ≤ 33 → 2 * rx_un vz 561 + w < f →
      wX_follow_2 post (nI i) f (nI rd) xh xm xl xz xn xc (nI c) (nI w) xe vb vg vc vf vs C F S T vt vn wt wn vz vk vi vj va vo := by
  intro f
  induction f with
  | zero => intros; omega
  | succ f ih =>
    intro rd w l c em vz wt wn vk vi vj va hI hS hem hT hU hR hN hf
    have h32 := hP.1
    refine pk_le 1300 rd (fun h => absurd h (by omega)) (fun _ => ?_)
    refine pk_le w 0 (fun hw0 => ?_) (fun hw0 => ?_)
    · have hw : w = 0 := by omega
      subst hw
      have hl : l = [] := hS
      subst hl
      have he := rx_Ivf hI
      exact hq c vz wt wn vk vi vj va (by rw [← he]; rw [← he] at hI; exact hI) (by rw [← he]; exact hem) hT hN
    · obtain ⟨w, rfl⟩ : ∃ w', w = w' + 1 := ⟨w - 1, by omega⟩
      obtain ⟨x, d, l', hk, hd, hl, hS'⟩ := hS
      subst hl
      have hok := hI.1 _ (List.mem_cons_self ..)
      have hx : x ≤ e := hok.1
      have hd16 : d ≤ 16 := rx_ok16 hP hok
      have hin : vp_in (nI x) 64 := vp_in_nI (by omega) (by omega)
      have hcl : (nI x).toNatClampNeg = x := nI_clamp (by omega)
      refine nm_r (e' := nI w) (nI_pred w) (And.intro (vp_in_nI (by omega) (by omega)) (nm_r (e' := nI x) (by rw [nI_clamp (by omega), hk]) (And.intro (vp_in_nI (by omega) (by omega)) (nm_r (e' := nI d) (by rw [nI_clamp (by omega), hd]) (And.intro hin ?_)))))
      have hm := rx_mkl hP hok
      have B : ∀ x6 : Int32, x6 = nI (rx_mk C (x, d, rx_nm vj (w * 6))) → ∃ n94, wX_follow_94 post (wX_follow_2 post (nI i) f) (nI i) (nI rd) (nI x) (nI d) x6 xh xm xl xz xn xc (nI c) (nI w) xe n94 0 vb vg vc vf vs C F S T vt vn wt wn vz vk vi vj va vo := by
        intro x6 e6
        subst e6
        have hmc : (nI (rx_mk C (x, d, rx_nm vj (w * 6)))).toNatClampNeg = rx_mk C (x, d, rx_nm vj (w * 6)) := nI_clamp (by omega)
        have hmi : vp_in (nI (rx_mk C (x, d, rx_nm vj (w * 6)))) 1088 := vp_in_nI (by omega) (by omega)
        have enm : rx_nm (rx_cp va 0 (fun k => vj (w * 6 + k)) 6) 0 = rx_nm vj (w * 6) := rx_nml
        refine ⟨7, ?_⟩
        have H : wX_follow_94 post (wX_follow_2 post (nI i) f) (nI i) (nI rd) (nI x) (nI d) (nI (rx_mk C (x, d, rx_nm vj (w * 6)))) xh xm xl xz xn xc (nI c) (nI w) xe 1 (nI 6) vb vg vc vf vs C F S T vt vn wt wn vz vk vi vj (rx_cp va 0 (fun k => vj (w * 6 + k)) 6) vo := by
          refine br_t (by decide : (6 : Int32) ≤ nI 6) (And.intro hmi ?_)
          by_cases hz : vz (rx_mk C (x, d, rx_nm vj (w * 6))) = 0
          · refine br_t (by rw [hmc]; exact hz) (And.intro hmi (nm_r (e' := upd vz (rx_mk C (x, d, rx_nm vj (w * 6))) 1) (by rw [hmc, rx_b1]) ?_))
            have hu := rx_unu hz hm
            refine rx_goOn (e := e) (l := l') hP hx hd16 (by omega) hS' ?_ ?_
            · intro ks hks w' vk' vi' vj' va' hw' hw2 hS2
              rw [enm] at hks
              have hsm := rx_sdm (a := vz) (k := rx_mk C (x, d, rx_nm vj (w * 6))) 33
              exact nm_r (nI_1 rd) (ih (rd + 1) w' (ks ++ l') c em (upd vz (rx_mk C (x, d, rx_nm vj (w * 6))) 1) wt wn vk' vi' vj' va' (rx_Iv2 hP hI hks) hS2 hem hT (by omega) (by omega) (by omega) (by omega))
            · intro hkn
              rw [enm] at hkn
              have hst := rx_kn hP hok hkn
              have hmk : rx_mk C (x, d, rx_nm vj (w * 6)) = x * 17 := by unfold rx_mk; rw [if_pos hst, Nat.add_zero]
              have hsd : rx_un (rx_sd (upd vz (rx_mk C (x, d, rx_nm vj (w * 6))) 1)) 33 + 1 = rx_un (rx_sd vz) 33 := by
                rw [hmk, rx_sdu]
                refine rx_unu ?_ (by omega)
                rw [hmk] at hz
                exact hz
              refine ⟨by omega, nm_r (nI_1 rd) (ih (rd + 1) w l' (c + 1) (em ++ [(x, rx_nm vj (w * 6))]) (upd vz (rx_mk C (x, d, rx_nm vj (w * 6))) 1) _ _ vk vi vj _ (rx_Iv3 hP hI hz hkn) hS' ?_ ?_ (by omega) (by omega) (by omega) (by omega))⟩
              · rw [rx_the (by omega), ← hem, enm]
              · intro t ht
                by_cases htc : t = c
                · exact ⟨x, hx, by rw [htc, pk_us]⟩
                · rw [pk_un htc]; exact hT t (by omega)
          · refine br_f (by rw [hmc]; exact hz) (nm_r (nI_1 rd) (ih (rd + 1) w l' c em vz wt wn vk vi vj _ (rx_Iv1 hI hz) hS' hem hT (by omega) (by omega) (by omega) (by omega)))
        have := rx_f94 (va := va) (by omega) H 7 0 (by omega) (by omega)
        rw [rx_cp0] at this
        exact this
      have m17 : nI x * 17 = nI (x * 17) := pk_mul x 17
      have B0 : (C x = 0 ∨ C x = 4) → wX_follow_71 post (wX_follow_2 post (nI i) f) (nI i) (nI rd) (nI x) (nI d) 1 xh xm xl xz xn xc (nI c) (nI w) xe vb vg vc vf vs C F S T vt vn wt wn vz vk vi vj va vo := by
        intro hs
        refine br_f (by decide) (nm_r rfl (B _ ?_))
        unfold rx_mk
        rw [if_pos hs, Nat.add_zero, m17, Int32.add_zero]
      by_cases h0 : C x = 0
      · exact br_t (by rw [hcl]; exact h0) (B0 (Or.inl h0))
      · refine br_f (by rw [hcl]; exact h0) (And.intro hin ?_)
        by_cases h4 : C x = 4
        · exact br_t (by rw [hcl]; exact h4) (B0 (Or.inr h4))
        · refine br_f (by rw [hcl]; exact h4) (br_t rfl (nm_r rfl (B _ ?_)))
          unfold rx_mk
          rw [if_neg (fun hs => hs.elim h0 h4), m17, nI_add]
/-- nothing waits but one: follow -/
theorem rx_follow {post : SX → Prop} {e i x c : Nat} {em : List (Nat × rx_N)} {s : rx_N} (hP : rx_P C F S e) (hx : x ≤ e) (hI : rx_Iv C F S e i vz em [] em) (hS : rx_S vk vi vj 1 [(x, 0, s)]) (hem : em = rx_th wt wn 0 c) (hT : rx_Th e wt c) (hN : c + rx_un (rx_sd vz) 33 ≤ 33)
    (hq : ∀ c vz wt wn vk vi vj va, rx_Iv C F S e i vz (rx_dd em (rx_lv C F S e i (x, 0, s))) [] (rx_dd em (rx_lv C F S e i (x, 0, s))) → rx_dd em (rx_lv C F S e i (x, 0, s)) = rx_th wt wn 0 c → rx_Th e wt c → c + rx_un (rx_sd vz) 33 ≤ 33 → post (xh, xm, xl, xz, xn, xc, nI c, nI 0, xe, vb, vg, vc, vf, vs, C, F, S, T, vt, vn, wt, wn, vz, vk, vi, vj, va, vo)) :
    wpX_follow post (xh, xm, xl, xz, xn, xc, nI c, nI 1, xe, vb, vg, vc, vf, vs, C, F, S, T, vt, vn, wt, wn, vz, vk, vi, vj, va, vo) (nI i) := by
  have hu := rx_unl vz 561
  exact ⟨1124, rx_fol hP hq 1124 0 1 [(x, 0, s)] c em vz wt wn vk vi vj va (rx_Iv4 hI ⟨hx, Nat.zero_le _⟩) hS hem hT (by omega) (by omega) hN (by omega)⟩
theorem rx_clear2 {post : SX → Prop} (h : post (xh, xm, xl, xz, xn, xc, 0, xw, xe, vb, vg, vc, vf, vs, C, F, S, T, vt, vn, wt, wn, rx_cp vz 0 (fun _ => 0) 1088, vk, vi, vj, va, vo)) : ∀ f k, k ≤ 1088 → 1088 - k < f → wX_clearSeen_2 post xh xm xl xz xn xc xd xw xe f (nI k) vb vg vc vf vs C F S T vt vn wt wn (rx_cp vz 0 (fun _ => 0) k) vk vi vj va vo := by
  intro f
  induction f with
  | zero => intro k _ h; omega
  | succ f ih =>
    intro k hk hf
    refine pk_le 1088 k (fun hk6 => ?_) (fun hk6 => ?_)
    · have : k = 1088 := by omega
      subst this
      exact h
    · refine And.intro (vp_in_nI hk6 (by omega)) (nm_r (e' := rx_cp vz 0 (fun _ => 0) (k + 1)) ?_ (nm_r (nI_1 k) (ih (k + 1) (by omega) (by omega))))
      rw [nI_clamp (by omega), rx_b0]
      have := rx_cps (a := vz) (g := fun _ => 0) (o := 0) (m := k)
      rw [Nat.zero_add] at this
      exact this
theorem rx_clear {post : SX → Prop} (h : post (xh, xm, xl, xz, xn, xc, 0, xw, xe, vb, vg, vc, vf, vs, C, F, S, T, vt, vn, wt, wn, rx_cp vz 0 (fun _ => 0) 1088, vk, vi, vj, va, vo)) : wpX_clearSeen post (xh, xm, xl, xz, xn, xc, xd, xw, xe, vb, vg, vc, vf, vs, C, F, S, T, vt, vn, wt, wn, vz, vk, vi, vj, va, vo) := by
  refine ⟨1089, ?_⟩
  have := rx_clear2 (xd := xd) h 1089 0 (by omega) (by omega)
  rw [rx_cp0] at this
  exact this
theorem rx_adv38 {post : SX → Prop} {c : Nat} (hc : c ≤ 64) (h : post (xh, xm, xl, xz, xn, nI c, xd, xw, xe, vb, vg, vc, vf, vs, C, F, S, T, vt, rx_cp vn 0 wn (6 * c), wt, wn, vz, vk, vi, vj, va, vo)) : ∀ f k, k ≤ 6 * c → 6 * c - k < f → wX_advance_38 post xh xm xl xz xn (nI c) xd xw xe f (nI k) vb vg vc vf vs C F S T vt (rx_cp vn 0 wn k) wt wn vz vk vi vj va vo := by
  intro f
  induction f with
  | zero => intro k _ h; omega
  | succ f ih =>
    intro k hk hf
    refine pk_le (6 * c) k (fun hk6 => ?_) (fun hk6 => ?_) (pk_mul 6 c)
    · have : k = 6 * c := by omega
      subst this
      exact h
    · refine And.intro (vp_in_nI (by omega) (by omega)) (And.intro (vp_in_nI (by omega) (by omega)) (nm_r (e' := rx_cp vn 0 wn (k + 1)) ?_ (nm_r (nI_1 k) (ih (k + 1) (by omega) (by omega)))))
      rw [nI_clamp (by omega)]
      have := rx_cps (a := vn) (g := wn) (o := 0) (m := k)
      rw [Nat.zero_add] at this
      exact this
theorem rx_adv10 {post : SX → Prop} {c : Nat} (hc : c ≤ 64) (h : post (xh, xm, xl, xz, xn, nI c, xd, xw, xe, vb, vg, vc, vf, vs, C, F, S, T, rx_cp vt 0 wt c, rx_cp vn 0 wn (6 * c), wt, wn, vz, vk, vi, vj, va, vo)) : ∀ f k, k ≤ c → c - k < f → wX_advance_10 post xh xm xl xz xn (nI c) xd xw xe f (nI k) vb vg vc vf vs C F S T (rx_cp vt 0 wt k) vn wt wn vz vk vi vj va vo := by
  intro f
  induction f with
  | zero => intro k _ h; omega
  | succ f ih =>
    intro k hk hf
    refine pk_le c k (fun hk6 => ?_) (fun hk6 => ?_)
    · have : k = c := by omega
      subst this
      refine ⟨6 * k + 1, ?_⟩
      have := rx_adv38 (vt := rx_cp vt 0 wt k) hc h (6 * k + 1) 0 (by omega) (by omega)
      rw [rx_cp0] at this
      exact this
    · refine And.intro (vp_in_nI (by omega) (by omega)) (And.intro (vp_in_nI (by omega) (by omega)) (nm_r (e' := rx_cp vt 0 wt (k + 1)) ?_ (nm_r (nI_1 k) (ih (k + 1) (by omega) (by omega)))))
      rw [nI_clamp (by omega)]
      have := rx_cps (a := vt) (g := wt) (o := 0) (m := k)
      rw [Nat.zero_add] at this
      exact this
theorem rx_adv {post : SX → Prop} {c : Nat} (hc : c ≤ 64) (h : post (xh, xm, xl, xz, xn, nI c, nI c, xw, xe, vb, vg, vc, vf, vs, C, F, S, T, rx_cp vt 0 wt c, rx_cp vn 0 wn (6 * c), wt, wn, vz, vk, vi, vj, va, vo)) : wpX_advance post (xh, xm, xl, xz, xn, xc, nI c, xw, xe, vb, vg, vc, vf, vs, C, F, S, T, vt, vn, wt, wn, vz, vk, vi, vj, va, vo) := by
  refine ⟨c + 1, ?_⟩
  have := rx_adv10 (xd := nI c) hc h (c + 1) 0 (by omega) (by omega)
  rw [rx_cp0] at this
  exact this
theorem rx_load2 {post : SX → Prop} {t : Nat} (ht : t < 64) (h : post (xh, xm, xl, xz, xn, xc, xd, xw, xe, vb, vg, vc, vf, vs, C, F, S, T, vt, vn, wt, wn, vz, vk, vi, vj, rx_cp va 0 (fun k => vn (t * 6 + k)) 6, vo)) : ∀ f k, k ≤ 6 → 6 - k < f → wX_loadNotes_2 post (nI t) xh xm xl xz xn xc xd xw xe f (nI k) vb vg vc vf vs C F S T vt vn wt wn vz vk vi vj (rx_cp va 0 (fun k => vn (t * 6 + k)) k) vo := by
  intro f
  induction f with
  | zero => intro k _ h; omega
  | succ f ih =>
    intro k hk hf
    refine pk_le 6 k (fun hk6 => ?_) (fun hk6 => ?_)
    · have : k = 6 := by omega
      subst this
      exact h
    · refine And.intro ?_ (And.intro (vp_in_nI hk6 (by omega)) (nm_r (e' := rx_cp va 0 (fun k => vn (t * 6 + k)) (k + 1)) ?_ (nm_r (nI_1 k) (ih (k + 1) (by omega) (by omega)))))
      · rw [rx_w6]; exact vp_in_nI (by omega) (by omega)
      · rw [rx_w6, nI_clamp (by omega), nI_clamp (by omega)]
        have := rx_cps (a := va) (g := fun k => vn (t * 6 + k)) (o := 0) (m := k)
        rw [Nat.zero_add] at this
        exact this
theorem rx_load {post : SX → Prop} {t : Nat} (ht : t < 64) (h : post (xh, xm, xl, xz, xn, xc, xd, xw, xe, vb, vg, vc, vf, vs, C, F, S, T, vt, vn, wt, wn, vz, vk, vi, vj, rx_cp va 0 (fun k => vn (t * 6 + k)) 6, vo)) : wpX_loadNotes post (xh, xm, xl, xz, xn, xc, xd, xw, xe, vb, vg, vc, vf, vs, C, F, S, T, vt, vn, wt, wn, vz, vk, vi, vj, va, vo) (nI t) := by
  refine ⟨7, ?_⟩
  have := rx_load2 ht h 7 0 (by omega) (by omega)
  rw [rx_cp0] at this
  exact this
theorem rx_step65 {post : SX → Prop} {J9 : Int32 → Int32 → Int32 → Int32 → Int32 → Int32 → Int32 → Int32 → Int32 → Int32 → Int32 → (Nat → Int32) → (Nat → Int32) → (Nat → Int32) → (Nat → Int32) → (Nat → Int32) → (Nat → Int32) → (Nat → Int32) → (Nat → Int32) → (Nat → Int32) → (Nat → Int32) → (Nat → Int32) → (Nat → Int32) → (Nat → Int32) → (Nat → Int32) → (Nat → Int32) → (Nat → Int32) → (Nat → Int32) → (Nat → Int32) → (Nat → Int32) → Prop} {x1 x2 x4 : Int32} (h : J9 0 (x4 + 1) xh xm xl xz xn xc xd xw xe vb vg vc vf vs C F S T vt vn wt wn vz vk vi vj va (rx_cp vo 0 va 6)) : ∀ f k, k ≤ 6 → 6 - k < f → wX_step_65 post J9 x1 x2 x4 xh xm xl xz xn xc xd xw xe f (nI k) vb vg vc vf vs C F S T vt vn wt wn vz vk vi vj va (rx_cp vo 0 va k) := by
  intro f
  induction f with
  | zero => intro k _ h; omega
  | succ f ih =>
    intro k hk hf
    refine pk_le 6 k (fun hk6 => ?_) (fun hk6 => ?_)
    · have : k = 6 := by omega
      subst this
      exact nm_r rfl h
    · refine And.intro (vp_in_nI hk6 (by omega)) (And.intro (vp_in_nI hk6 (by omega)) (nm_r (e' := rx_cp vo 0 va (k + 1)) ?_ (nm_r (nI_1 k) (ih (k + 1) (by omega) (by omega)))))
      rw [nI_clamp (by omega)]
      have := rx_cps (a := vo) (g := va) (o := 0) (m := k)
      rw [Nat.zero_add] at this
      exact this
end
end
section
/-! the component's walks: step, search, findFrom -/
theorem rx_fsa {f : Nat × rx_N → rx_O} : ∀ {l : List (Nat × rx_N)}, (∀ x, x ∈ l → f x = none) → l.findSome? f = none := by
  intro l
  induction l with
  | nil => intro _; rfl
  | cons a l ih =>
    intro h
    rw [List.findSome?_cons, h a (List.mem_cons_self ..)]
    exact ih (fun x hx => h x (List.mem_cons_of_mem _ hx))
section
variable {C F S T : Nat → Int32} {e n i : Nat} {acc : Nat → Bool}
theorem rx_Qn : ∀ d i x s s', rx_Q C F S T e acc d i (x, s) = none → rx_Q C F S T e acc d i (x, s') = none := by
  intro d
  induction d with
  | zero =>
    intro i x s s' h
    show (if C x = 4 then (if acc i = true then some (i, s') else none) else none) = none
    have h : (if C x = 4 then (if acc i = true then some (i, s) else none) else none) = none := h
    by_cases h4 : C x = 4
    · rw [if_pos h4] at h ⊢
      by_cases ha : acc i = true
      · rw [if_pos ha] at h; exact absurd h (by simp)
      · rw [if_neg ha]
    · rw [if_neg h4]
  | succ d ih =>
    intro i x s s' h
    show (if C x = 4 then (if acc i = true then some (i, s') else none) else if F x = 3 ∨ F x = T i then (rx_lv C F S e (i + 1) (x + 1, 0, s')).findSome? (rx_Q C F S T e acc d (i + 1)) else none) = none
    have h : (if C x = 4 then (if acc i = true then some (i, s) else none) else if F x = 3 ∨ F x = T i then (rx_lv C F S e (i + 1) (x + 1, 0, s)).findSome? (rx_Q C F S T e acc d (i + 1)) else none) = none := h
    by_cases h4 : C x = 4
    · rw [if_pos h4] at h ⊢
      by_cases ha : acc i = true
      · rw [if_pos ha] at h; exact absurd h (by simp)
      · rw [if_neg ha]
    · rw [if_neg h4] at h ⊢
      by_cases hm : F x = 3 ∨ F x = T i
      · rw [if_pos hm] at h ⊢
        refine rx_fsa (fun y hy => ?_)
        have hy1 : y.1 ∈ (rx_lv C F S e (i + 1) (x + 1, 0, s)).map Prod.fst := by
          rw [rx_lvp (x + 1) 0 s s']
          exact List.mem_map.mpr ⟨y, hy, rfl⟩
        obtain ⟨z, hz, hzy⟩ := List.mem_map.mp hy1
        have := ih (i + 1) z.1 z.2 y.2 (rx_fsn h z hz)
        rw [hzy] at this
        exact this
      · rw [if_neg hm]
/-- a thread that is done -/
theorem rx_Q4 {d : Nat} {t : Nat × rx_N} (h : C t.1 = 4) : rx_Q C F S T e acc d i t = if acc i = true then some (i, t.2) else none := by
  cases d with
  | zero => show (if C t.1 = 4 then _ else _) = _; rw [if_pos h]
  | succ d => show (if C t.1 = 4 then _ else _) = _; rw [if_pos h]
theorem rx_Qe {t : Nat × rx_N} (h : ¬ C t.1 = 4) : rx_Q C F S T e acc 0 i t = none := by
  show (if C t.1 = 4 then _ else _) = _; rw [if_neg h]
theorem rx_Qr {d : Nat} {t : Nat × rx_N} (h : ¬ C t.1 = 4) (hm : F t.1 = 3 ∨ F t.1 = T i) : rx_Q C F S T e acc (d + 1) i t = (rx_lv C F S e (i + 1) (t.1 + 1, 0, t.2)).findSome? (rx_Q C F S T e acc d (i + 1)) := by
  show (if C t.1 = 4 then _ else if F t.1 = 3 ∨ F t.1 = T i then _ else _) = _; rw [if_neg h, if_pos hm]
theorem rx_Qx {d : Nat} {t : Nat × rx_N} (h : ¬ C t.1 = 4) (hm : ¬ (F t.1 = 3 ∨ F t.1 = T i)) : rx_Q C F S T e acc (d + 1) i t = none := by
  show (if C t.1 = 4 then _ else if F t.1 = 3 ∨ F t.1 = T i then _ else _) = _; rw [if_neg h, if_neg hm]
end
/-- what was found, by the fields -/
def rx_Fd (n : Nat) (xe : Int32) (vo : Nat → Int32) (r : rx_O) : Prop := (r = none ∧ xe = -4) ∨ ∃ j, j ≤ n ∧ r = some (j, rx_nm vo 0) ∧ xe = nI j
/-- the answers of threads at place i -/
def rx_an (C F S T : Nat → Int32) (e n : Nat) (acc : Nat → Bool) (i : Nat) (l : List (Nat × rx_N)) : rx_O := l.findSome? (rx_Q C F S T e acc (n - i) i)
theorem rx_cpt {a g : Nat → Int32} {m k : Nat} (h : k < m) : rx_cp a 0 g m k = g k := by
  have := rx_cpi (a := a) (g := g) (o := 0) h
  rw [Nat.zero_add] at this
  exact this
section
variable {xh xm xl xz xn xc xd xw xe : Int32} {vb vg vc vf vs C F S T vt vn wt wn vz vk vi vj va vo : Nat → Int32}
/-- the end of a step: threads for the next place -/
theorem rx_st154 {post : SX → Prop} {e c : Nat} {em : List (Nat × rx_N)} (hc : c ≤ 33) (hem : em = rx_th wt wn 0 c) (hT : rx_Th e wt c)
    (hq : ∀ vt vn, em = rx_th vt vn 0 c → rx_Th e vt c → post (xh, xm, xl, xz, xn, nI c, nI c, xw, xe, vb, vg, vc, vf, vs, C, F, S, T, vt, vn, wt, wn, vz, vk, vi, vj, va, vo)) : wX_step_154 post xh xm xl xz xn xc (nI c) xw xe vb vg vc vf vs C F S T vt vn wt wn vz vk vi vj va vo := by
  refine rx_adv (by omega) ?_
  refine hq _ _ ?_ ?_
  · rw [hem]
    exact (rx_thc c 0 (fun x hx => rx_cpt (by omega)) (fun x hx => rx_cpt (by omega))).symm
  · intro t ht
    rw [rx_cpt ht]
    exact hT t ht
theorem rx_step9 {post : SX → Prop} {e n i : Nat} {acc : Nat → Bool} {x2 : Int32} {N : Nat} {R : rx_O} (hP : rx_P C F S e) (hn : n ≤ 10) (hi : i ≤ n) (hacc : acc i = true ↔ (x2 < 0 ∨ x2 = nI i)) (hTv : rx_Th e vt N) (hN : N ≤ 33)
    (hq : ∀ c xe vt vn wt wn vz vk vi vj va vo em fnd, c ≤ 33 → em = rx_th vt vn 0 c → rx_Th e vt c → rx_Fd n xe vo fnd → (rx_an C F S T e n acc (i + 1) em).or fnd = R → (i = n → em = []) → post (xh, xm, xl, xz, nI n, nI c, nI c, nI 0, xe, vb, vg, vc, vf, vs, C, F, S, T, vt, vn, wt, wn, vz, vk, vi, vj, va, vo)) :
    ∀ dr f t c xe wt wn vz vk vi vj va vo em fnd, t + dr = N → dr < f → rx_Iv C F S e (i + 1) vz em [] em → em = rx_th wt wn 0 c → rx_Th e wt c → c + rx_un (rx_sd vz) 33 ≤ 33 → rx_Fd n xe vo fnd → (i = n → em = []) →
      ((rx_an C F S T e n acc (i + 1) em).or (rx_an C F S T e n acc i (rx_th vt vn t dr))).or fnd = R →
      wX_step_9 post (nI i) x2 f 1 (nI t) xh xm xl xz (nI n) (nI N) (nI c) (nI 0) xe vb vg vc vf vs C F S T vt vn wt wn vz vk vi vj va vo := by
  have h32 := hP.1
  intro dr
  induction dr with
  | zero =>
    intro f t c xe wt wn vz vk vi vj va vo em fnd ht hf hI hem hT hN' hF hen hR
    obtain ⟨f, rfl⟩ : ∃ f', f = f' + 1 := ⟨f - 1, by omega⟩
    refine br_t (nI_le (by omega) (by omega)) ?_
    refine rx_st154 (e := e) (em := em) (by omega) hem hT (fun vt' vn' h1 h2 => hq c xe vt' vn' wt wn vz vk vi vj va vo em fnd (by omega) h1 h2 hF ?_ hen)
    rw [← hR]
    show _ = ((rx_an C F S T e n acc (i + 1) em).or none).or fnd
    rw [Option.or_none]
  | succ dr ih =>
    intro f t c xe wt wn vz vk vi vj va vo em fnd ht hf hI hem hT hN' hF hen hR
    obtain ⟨f, rfl⟩ : ∃ f', f = f' + 1 := ⟨f - 1, by omega⟩
    obtain ⟨x, hx, hvt⟩ := hTv t (by omega)
    have hin : vp_in (nI x) 64 := vp_in_nI (by omega) (by omega)
    have hcl : (nI x).toNatClampNeg = x := nI_clamp (by omega)
    have hth : rx_th vt vn t (dr + 1) = (x, rx_nm vn (t * 6)) :: rx_th vt vn (t + 1) dr := by
      show ((vt t).toNatClampNeg, _) :: _ = _
      rw [hvt, hcl]
    rw [hth] at hR
    have hR' : ((rx_an C F S T e n acc (i + 1) em).or ((rx_Q C F S T e acc (n - i) i (x, rx_nm vn (t * 6))).or (rx_an C F S T e n acc i (rx_th vt vn (t + 1) dr)))).or fnd = R := by
      rw [← hR]
      unfold rx_an
      rw [List.findSome?_cons]
      cases rx_Q C F S T e acc (n - i) i (x, rx_nm vn (t * 6)) <;> rfl
    refine br_f (nI_ge (by omega) (by omega)) (br_f (by decide) (And.intro (vp_in_nI (by omega) (by omega)) (nm_r (e' := nI x) (by rw [nI_clamp (by omega), hvt]) (rx_load (by omega) (And.intro hin ?_)))))
    have enm : rx_nm (rx_cp va 0 (fun k => vn (t * 6 + k)) 6) 0 = rx_nm vn (t * 6) := rx_nml
    have skip : rx_Q C F S T e acc (n - i) i (x, rx_nm vn (t * 6)) = none → wX_step_9 post (nI i) x2 f 1 (nI (t + 1)) xh xm xl xz (nI n) (nI N) (nI c) (nI 0) xe vb vg vc vf vs C F S T vt vn wt wn vz vk vi vj (rx_cp va 0 (fun k => vn (t * 6 + k)) 6) vo := by
      intro hqn
      refine ih f (t + 1) c xe wt wn vz vk vi vj _ vo em fnd (by omega) (by omega) hI hem hT hN' hF hen ?_
      rw [hqn, Option.none_or] at hR'
      exact hR'
    by_cases h4 : C x = 4
    · refine br_t (by rw [hcl]; exact h4) ?_
      have hq4 := rx_Q4 (F := F) (S := S) (T := T) (e := e) (acc := acc) (i := i) (d := n - i) (t := (x, rx_nm vn (t * 6))) h4
      have found : acc i = true → ∃ n65, wX_step_65 post (wX_step_9 post (nI i) x2 f) (nI i) x2 (nI t) xh xm xl xz (nI n) (nI N) (nI c) (nI 0) (nI i) n65 0 vb vg vc vf vs C F S T vt vn wt wn vz vk vi vj (rx_cp va 0 (fun k => vn (t * 6 + k)) 6) vo := by
        intro ha
        rw [if_pos ha] at hq4
        rw [hq4] at hR'
        refine ⟨7, ?_⟩
        have H : wX_step_9 post (nI i) x2 f 0 (nI t + 1) xh xm xl xz (nI n) (nI N) (nI c) (nI 0) (nI i) vb vg vc vf vs C F S T vt vn wt wn vz vk vi vj (rx_cp va 0 (fun k => vn (t * 6 + k)) 6) (rx_cp vo 0 (rx_cp va 0 (fun k => vn (t * 6 + k)) 6) 6) := by
          obtain ⟨f, rfl⟩ : ∃ f', f = f' + 1 := ⟨f - 1, by omega⟩
          have E : wX_step_154 post xh xm xl xz (nI n) (nI N) (nI c) (nI 0) (nI i) vb vg vc vf vs C F S T vt vn wt wn vz vk vi vj (rx_cp va 0 (fun k => vn (t * 6 + k)) 6) (rx_cp vo 0 (rx_cp va 0 (fun k => vn (t * 6 + k)) 6) 6) := by
            refine rx_st154 (e := e) (em := em) (by omega) hem hT (fun vt' vn' h1 h2 => hq c _ vt' vn' wt wn vz vk vi vj _ _ em (some (i, rx_nm vn (t * 6))) (by omega) h1 h2 (Or.inr ⟨i, hi, ?_, rfl⟩) ?_ hen)
            · rw [rx_nmp, enm]
            · rw [← hR']
              cases rx_an C F S T e n acc (i + 1) em <;> rfl
          exact br_c (fun _ => E) (fun _ => br_t rfl E)
        have := rx_step65 (post := post) (x1 := nI i) (x2 := x2) H 7 0 (by omega) (by omega)
        rw [rx_cp0] at this
        exact this
      by_cases hx2 : x2 < 0
      · exact br_t hx2 (found (hacc.mpr (Or.inl hx2)))
      · refine br_f hx2 ?_
        by_cases hxi : x2 = nI i
        · exact br_t hxi (found (hacc.mpr (Or.inr hxi)))
        · refine br_f hxi (nm_r (nI_1 t) (skip ?_))
          rw [hq4, if_neg]
          intro ha
          rcases hacc.mp ha with h | h
          · exact hx2 h
          · exact hxi h
    · refine br_f (by rw [hcl]; exact h4) ?_
      refine pk_le n i (fun hni => ?_) (fun hni => ?_)
      · refine nm_r (nI_1 t) (skip ?_)
        rw [show n - i = 0 by omega]
        exact rx_Qe h4
      · have hxe : x < e := by
          rcases Nat.lt_or_ge x e with h | h
          · exact h
          · exact absurd (by rw [show x = e by omega]; exact hP.2.1) h4
        obtain ⟨d, hd⟩ : ∃ d, n - i = d + 1 := ⟨n - i - 1, by omega⟩
        have hd' : n - (i + 1) = d := by omega
        have go : (F x = 3 ∨ F x = T i) → wX_step_132 post (wX_step_9 post (nI i) x2 f) (nI i) x2 1 (nI t) (nI x) xh xm xl xz (nI n) (nI N) (nI c) (nI 0) xe vb vg vc vf vs C F S T vt vn wt wn vz vk vi vj (rx_cp va 0 (fun k => vn (t * 6 + k)) 6) vo := by
          intro hm
          have hqr := rx_Qr (S := S) (e := e) (acc := acc) (d := d) (t := (x, rx_nm vn (t * 6))) h4 hm
          rw [hd, hqr] at hR'
          have hS1 : rx_S (upd vk 0 (nI x + 1)) (upd vi 0 0) (rx_cp vj (0 * 6) (rx_cp va 0 (fun k => vn (t * 6 + k)) 6) 6) 1 [(x + 1, 0, rx_nm vn (t * 6))] := by
            rw [← enm]
            exact rx_Sp (rfl : rx_S vk vi vj 0 []) (nI_1 x) rfl
          refine rx_push (w := 0) (by omega) ?_
          show wpX_follow _ _ (nI i + 1)
          rw [nI_1 i]
          refine rx_follow (e := e) (em := em) hP (by omega) hI hS1 hem hT hN' ?_
          intro c' vz' wt' wn' vk' vi' vj' va' hI' hem' hT' hN2
          refine nm_r (nI_1 t) (ih f (t + 1) c' xe wt' wn' vz' vk' vi' vj' va' vo _ fnd (by omega) (by omega) hI' hem' hT' hN2 hF (fun h => absurd h (by omega)) ?_)
          rw [← hR']
          have e1 : rx_an C F S T e n acc (i + 1) (rx_dd em (rx_lv C F S e (i + 1) (x + 1, 0, rx_nm vn (t * 6)))) = (rx_an C F S T e n acc (i + 1) em).or (rx_an C F S T e n acc (i + 1) (rx_lv C F S e (i + 1) (x + 1, 0, rx_nm vn (t * 6)))) := rx_ddf (rx_Qn _ _) _ _
          rw [e1]
          unfold rx_an
          rw [hd']
          simp only [Option.or_assoc]
        refine And.intro hin ?_
        by_cases hm3 : F x = 3
        · exact br_t (by rw [hcl]; exact hm3) (go (Or.inl hm3))
        · refine br_f (by rw [hcl]; exact hm3) (And.intro hin (And.intro (vp_in_nI (by omega) (by omega)) ?_))
          have hci : (nI i).toNatClampNeg = i := nI_clamp (by omega)
          by_cases hmt : F x = T i
          · exact br_t (by rw [hcl, hci]; exact hmt) (go (Or.inr hmt))
          · refine br_f (by rw [hcl, hci]; exact hmt) (nm_r (nI_1 t) (skip ?_))
            rw [hd]
            exact rx_Qx h4 (fun h => h.elim hm3 hmt)
/-- one step: the answers of the threads at i, by those at i + 1 -/
theorem rx_step {post : SX → Prop} {e n i N : Nat} {acc : Nat → Bool} {x2 : Int32} {R fnd : rx_O} {l : List (Nat × rx_N)} (hP : rx_P C F S e) (hn : n ≤ 10) (hi : i ≤ n) (hacc : acc i = true ↔ (x2 < 0 ∨ x2 = nI i)) (hTv : rx_Th e vt N) (hN : N ≤ 33) (hl : l = rx_th vt vn 0 N) (hF : rx_Fd n xe vo fnd) (hR : (rx_an C F S T e n acc i l).or fnd = R)
    (hq : ∀ c xe vt vn wt wn vz vk vi vj va vo em fnd, c ≤ 33 → em = rx_th vt vn 0 c → rx_Th e vt c → rx_Fd n xe vo fnd → (rx_an C F S T e n acc (i + 1) em).or fnd = R → (i = n → em = []) → post (xh, xm, xl, xz, nI n, nI c, nI c, nI 0, xe, vb, vg, vc, vf, vs, C, F, S, T, vt, vn, wt, wn, vz, vk, vi, vj, va, vo)) :
    wpX_step post (xh, xm, xl, xz, nI n, nI N, xd, nI 0, xe, vb, vg, vc, vf, vs, C, F, S, T, vt, vn, wt, wn, vz, vk, vi, vj, va, vo) (nI i) x2 := by
  refine rx_clear ?_
  refine ⟨N + 1, ?_⟩
  have hz : ∀ k, k < 1088 → rx_cp vz 0 (fun _ => 0) 1088 k = 0 := fun k hk => rx_cpt hk
  exact rx_step9 hP hn hi hacc hTv hN hq N (N + 1) 0 0 xe wt wn _ vk vi vj va vo [] fnd (by omega) (by omega) (rx_Iv0 hz hP) rfl (fun t ht => absurd ht (by omega)) (by have := rx_unl (rx_sd (rx_cp vz 0 (fun _ => 0) 1088)) 33; omega) hF (fun _ => rfl) (by rw [← hl]; exact hR)
theorem rx_sr54 {post : SX → Prop} {e n : Nat} {acc : Nat → Bool} {x2 : Int32} {R : rx_O} (hP : rx_P C F S e) (hn : n ≤ 10) (hacc : ∀ i, i ≤ n → (acc i = true ↔ (x2 < 0 ∨ x2 = nI i)))
    (hq : ∀ xc xd xw xe vt vn wt wn vz vk vi vj va vo, rx_Fd n xe vo R → post (xh, xm, xl, xz, nI n, xc, xd, xw, xe, vb, vg, vc, vf, vs, C, F, S, T, vt, vn, wt, wn, vz, vk, vi, vj, va, vo)) :
    ∀ f i N xd xe vt vn wt wn vz vk vi vj va vo l fnd, n + 1 - i < f → i ≤ n + 1 → N ≤ 33 → rx_Th e vt N → l = rx_th vt vn 0 N → rx_Fd n xe vo fnd → (rx_an C F S T e n acc i l).or fnd = R → (i = n + 1 → l = []) →
      wX_search_54 post x2 f (nI i) xh xm xl xz (nI n) (nI N) xd (nI 0) xe vb vg vc vf vs C F S T vt vn wt wn vz vk vi vj va vo := by
  intro f
  induction f with
  | zero => intros; omega
  | succ f ih =>
    intro i N xd xe vt vn wt wn vz vk vi vj va vo l fnd hf hi hN hT hl hF hR hen
    have fin : l = [] → post (xh, xm, xl, xz, nI n, nI N, xd, nI 0, xe, vb, vg, vc, vf, vs, C, F, S, T, vt, vn, wt, wn, vz, vk, vi, vj, va, vo) := by
      intro h
      rw [h] at hR
      have : fnd = R := by
        rw [← hR]; unfold rx_an; rw [List.findSome?_nil, Option.none_or]
      exact hq _ _ _ _ _ _ _ _ _ _ _ _ _ _ (by rw [← this]; exact hF)
    refine pk_lt n i (fun hni => fin (hen (by omega))) (fun hni => ?_)
    refine pk_le N 0 (fun h0 => ?_) (fun h0 => ?_)
    · have : N = 0 := by omega
      subst this
      exact fin hl
    · refine rx_step hP hn hni (hacc i hni) hT hN hl hF hR ?_
      intro c xe' vt' vn' wt' wn' vz' vk' vi' vj' va' vo' em fnd' hc hem hT' hF' hR' hen'
      exact nm_r (nI_1 i) (ih (i + 1) c _ xe' vt' vn' wt' wn' vz' vk' vi' vj' va' vo' em fnd' (by omega) (by omega) hc hT' hem hF' hR' (fun h => hen' (by omega)))
/-- all notes unset -/
def rx_s0 : rx_N := fun k => if k < 6 then -4 else 0
theorem rx_sr12 {post : SX → Prop} {x1 x2 : Int32} (H : wX_search_12 post x1 x2 xh xm xl xz xn xc xd xw xe 1 (nI 6) vb vg vc vf vs C F S T vt vn wt wn vz vk vi vj (rx_cp va 0 (fun _ => -4) 6) vo) : ∀ f k, k ≤ 6 → 6 - k < f → wX_search_12 post x1 x2 xh xm xl xz xn xc xd xw xe f (nI k) vb vg vc vf vs C F S T vt vn wt wn vz vk vi vj (rx_cp va 0 (fun _ => -4) k) vo := by
  intro f
  induction f with
  | zero => intro k _ h; omega
  | succ f ih =>
    intro k hk hf
    by_cases hk6 : k = 6
    · subst hk6
      exact br_t (by decide : (6 : Int32) ≤ nI 6) (And.left H (by decide))
    · refine br_f (nI_ge (b := 6) (by omega) (by decide)) ?_
      refine And.intro (vp_in_nI (by omega) (by omega)) (nm_r (e' := rx_cp va 0 (fun _ => -4) (k + 1)) ?_ (nm_r (nI_1 k) (ih (k + 1) (by omega) (by omega))))
      rw [nI_clamp (by omega)]
      have := rx_cps (a := va) (g := fun _ => -4) (o := 0) (m := k)
      rw [Nat.zero_add] at this
      exact this
/-- a search from i: what the machine answers there -/
theorem rx_search {post : SX → Prop} {e n i : Nat} {acc : Nat → Bool} {x2 : Int32} (hP : rx_P C F S e) (hn : n ≤ 10) (hi : i ≤ n) (hacc : ∀ i, i ≤ n → (acc i = true ↔ (x2 < 0 ∨ x2 = nI i)))
    (hq : ∀ xc xd xw xe vt vn wt wn vz vk vi vj va vo, rx_Fd n xe vo (rx_A C F S T e n acc i (0, 0, rx_s0)) → post (xh, xm, xl, xz, nI n, xc, xd, xw, xe, vb, vg, vc, vf, vs, C, F, S, T, vt, vn, wt, wn, vz, vk, vi, vj, va, vo)) :
    wpX_search post (xh, xm, xl, xz, nI n, xc, xd, xw, xe, vb, vg, vc, vf, vs, C, F, S, T, vt, vn, wt, wn, vz, vk, vi, vj, va, vo) (nI i) x2 := by
  refine rx_clear ?_
  refine ⟨7, ?_⟩
  have hz : ∀ k, k < 1088 → rx_cp vz 0 (fun _ => 0) 1088 k = 0 := fun k hk => rx_cpt hk
  have H : wX_search_12 post (nI i) x2 xh xm xl xz (nI n) xc 0 xw (-4) 1 (nI 6) vb vg vc vf vs C F S T vt vn wt wn (rx_cp vz 0 (fun _ => 0) 1088) vk vi vj (rx_cp va 0 (fun _ => -4) 6) vo := by
    refine br_t (by decide : (6 : Int32) ≤ nI 6) ?_
    have enm : rx_nm (rx_cp va 0 (fun _ => -4) 6) 0 = rx_s0 := by
      funext k
      unfold rx_nm rx_s0
      by_cases hk : k < 6
      · rw [if_pos hk, if_pos hk, Nat.zero_add, rx_cpt hk]
      · rw [if_neg hk, if_neg hk]
    have hS1 : rx_S (upd vk 0 0) (upd vi 0 0) (rx_cp vj (0 * 6) (rx_cp va 0 (fun _ => -4) 6) 6) 1 [(0, 0, rx_s0)] := by
      rw [← enm]
      exact rx_Sp (rfl : rx_S vk vi vj 0 []) rfl rfl
    refine rx_push (w := 0) (by omega) ?_
    refine rx_follow (e := e) (c := 0) (em := []) hP (Nat.zero_le _) (rx_Iv0 hz hP) hS1 rfl (fun t ht => absurd ht (by omega)) (by have := rx_unl (rx_sd (rx_cp vz 0 (fun _ => 0) 1088)) 33; omega) ?_
    intro c vz' wt' wn' vk' vi' vj' va' hI' hem' hT' hN2
    refine rx_adv (by omega) ?_
    refine ⟨n + 2, ?_⟩
    refine rx_sr54 (acc := acc) hP hn hacc hq (n + 2) i c _ _ _ _ wt' wn' vz' vk' vi' vj' va' vo (rx_dd [] (rx_lv C F S e i (0, 0, rx_s0))) none (by omega) (by omega) (by omega) ?_ ?_ (Or.inl ⟨rfl, rfl⟩) ?_ (fun h => absurd h (by omega))
    · intro t ht
      rw [rx_cpt ht]
      exact hT' t ht
    · rw [hem']
      exact (rx_thc c 0 (fun x hx => rx_cpt (by omega)) (fun x hx => rx_cpt (by omega))).symm
    · rw [Option.or_none]
      have := rx_ddf (rx_Qn (C := C) (F := F) (S := S) (T := T) (e := e) (acc := acc) (n - i) i) (rx_lv C F S e i (0, 0, rx_s0)) []
      rw [List.findSome?_nil, Option.none_or] at this
      exact this
  have := rx_sr12 (va := va) H 7 0 (by omega) (by omega)
  rw [rx_cp0] at this
  exact this
/-- the first place from i on with an answer -/
def rx_FF (a : Nat → rx_O) (n : Nat) : Nat → Nat → Option (Nat × Nat × rx_N)
  | 0, _ => none
  | d + 1, i => match a i with
    | some (j, s) => some (i, j, s)
    | none => rx_FF a n d (i + 1)
def rx_Ff (n : Nat) (r xe : Int32) (vo : Nat → Int32) (z : Option (Nat × Nat × rx_N)) : Prop := (z = none ∧ r = -4) ∨ ∃ i j, i ≤ n ∧ j ≤ n ∧ z = some (i, j, rx_nm vo 0) ∧ r = nI i ∧ xe = nI j
theorem rx_find2 {post : Int32 → SX → Prop} {e n : Nat} (hP : rx_P C F S e) (hn : n ≤ 10) {z : Option (Nat × Nat × rx_N)}
    (hq : ∀ r xc xd xw xe vt vn wt wn vz vk vi vj va vo, rx_Ff n r xe vo z → post r (xh, xm, xl, xz, nI n, xc, xd, xw, xe, vb, vg, vc, vf, vs, C, F, S, T, vt, vn, wt, wn, vz, vk, vi, vj, va, vo)) :
    ∀ d i f xc xd xw xe vt vn wt wn vz vk vi vj va vo, i + d = n + 1 → d < f → rx_FF (fun i => rx_A C F S T e n (fun _ => true) i (0, 0, rx_s0)) n d i = z → wX_findFrom_2 post f (nI i) xh xm xl xz (nI n) xc xd xw xe vb vg vc vf vs C F S T vt vn wt wn vz vk vi vj va vo := by
  intro d
  induction d with
  | zero =>
    intro i f xc xd xw xe vt vn wt wn vz vk vi vj va vo hid hf hz
    obtain ⟨f, rfl⟩ : ∃ f', f = f' + 1 := ⟨f - 1, by omega⟩
    exact br_t (nI_lt (by omega) (by omega)) (hq _ _ _ _ _ _ _ _ _ _ _ _ _ _ _ (Or.inl ⟨hz.symm, rfl⟩))
  | succ d ih =>
    intro i f xc xd xw xe vt vn wt wn vz vk vi vj va vo hid hf hz
    obtain ⟨f, rfl⟩ : ∃ f', f = f' + 1 := ⟨f - 1, by omega⟩
    refine br_f (nI_nlt (by omega) (by omega)) ?_
    refine rx_search (acc := fun _ => true) hP hn (by omega) (fun i _ => ⟨fun _ => Or.inl (by decide), fun _ => rfl⟩) ?_
    intro xc' xd' xw' xe' vt' vn' wt' wn' vz' vk' vi' vj' va' vo' hF
    have hz' : (match rx_A C F S T e n (fun _ => true) i (0, 0, rx_s0) with | some (j, s) => some (i, j, s) | none => rx_FF (fun i => rx_A C F S T e n (fun _ => true) i (0, 0, rx_s0)) n d (i + 1)) = z := hz
    rcases hF with ⟨hA, hxe⟩ | ⟨j, hj, hA, hxe⟩
    · rw [hA] at hz'
      refine br_t (by rw [hxe]; decide) (nm_r (nI_1 i) (ih (i + 1) f _ _ _ _ _ _ _ _ _ _ _ _ _ _ (by omega) (by omega) hz'))
    · rw [hA] at hz'
      refine br_f (by rw [hxe]; exact nI_pos (by omega)) (hq _ _ _ _ _ _ _ _ _ _ _ _ _ _ _ (Or.inr ⟨i, j, by omega, hj, hz'.symm, rfl, hxe⟩))
theorem rx_findFrom {post : Int32 → SX → Prop} {e n i : Nat} (hP : rx_P C F S e) (hn : n ≤ 10) (hi : i ≤ n + 1)
    (hq : ∀ r xc xd xw xe vt vn wt wn vz vk vi vj va vo, rx_Ff n r xe vo (rx_FF (fun i => rx_A C F S T e n (fun _ => true) i (0, 0, rx_s0)) n (n + 1 - i) i) → post r (xh, xm, xl, xz, nI n, xc, xd, xw, xe, vb, vg, vc, vf, vs, C, F, S, T, vt, vn, wt, wn, vz, vk, vi, vj, va, vo)) :
    wpX_findFrom post (xh, xm, xl, xz, nI n, xc, xd, xw, xe, vb, vg, vc, vf, vs, C, F, S, T, vt, vn, wt, wn, vz, vk, vi, vj, va, vo) (nI i) :=
  ⟨n + 2, rx_find2 hP hn hq (n + 1 - i) i (n + 2) xc xd xw xe vt vn wt wn vz vk vi vj va vo (by omega) (by omega) rfl⟩
end
end
section
/-! the reference's walks: sets of places as bits, onFrom, startsOf, reachOf, fill, find -/
theorem rx_bt1 : ∀ l, l < 32 → bt 1 l = decide (l = 0) := by decide +kernel
theorem rx_bt2 : ∀ l, l < 32 → bt 2 l = decide (l = 1) := by decide +kernel
theorem rx_and1 (y : Int32) : y &&& 1 = if bt y 0 = true then 1 else 0 := by
  refine b_ext (fun i hi => ?_)
  rw [b_and, rx_bt1 i hi]
  by_cases h : bt y 0 = true
  · rw [if_pos h, rx_bt1 i hi]
    by_cases h0 : i = 0
    · subst h0; rw [h]; rfl
    · rw [decide_eq_false h0, Bool.and_false]
  · rw [if_neg h, b_0]
    by_cases h0 : i = 0
    · subst h0
      cases hb : bt y 0 with
      | true => exact absurd hb h
      | false => rfl
    · rw [decide_eq_false h0, Bool.and_false]
theorem rx_bit {x : Int32} {k : Nat} (hk : k < 31) : ((x >>> (nI k &&& 31)) &&& 1) = 1 ↔ bt x k = true := by
  rw [rx_and1, b_sshr k (by omega) x (by omega), if_pos (show k + 0 < 32 by omega), Nat.add_zero]
  cases bt x k with
  | true => exact ⟨fun _ => rfl, fun _ => rfl⟩
  | false => exact ⟨fun h => absurd h (by decide), fun h => absurd h (by decide)⟩
theorem rx_bit0 {x : Int32} {k : Nat} (hk : k < 31) : ((x >>> (nI k &&& 31)) &&& 1) = 0 ↔ bt x k = false := by
  rw [rx_and1, b_sshr k (by omega) x (by omega), if_pos (show k + 0 < 32 by omega), Nat.add_zero]
  cases bt x k with
  | true => exact ⟨fun h => absurd h (by decide), fun h => absurd h (by decide)⟩
  | false => exact ⟨fun _ => rfl, fun _ => rfl⟩
theorem rx_b32 {x : Int32} {j : Nat} (h : bt x j = true) : j < 32 := by
  rcases Nat.lt_or_ge j 32 with a | a
  · exact a
  · rw [b_big a] at h; exact absurd h (by decide)
theorem rx_shl1 {k j : Nat} (hk : k ≤ 10) : bt ((1 : Int32) <<< (nI k &&& 31)) j = true ↔ j = k := by
  constructor
  · intro h
    have hj := rx_b32 h
    rw [b_shl k (by omega) 1 hj, rx_bt1 _ (by omega), Bool.and_eq_true, decide_eq_true_iff, decide_eq_true_iff] at h
    omega
  · intro h
    subst h
    rw [b_shl j (by omega) 1 (by omega), Nat.sub_self]
    simp only [Nat.le_refl, decide_true, Bool.true_and]
    decide +kernel
theorem rx_shl2 {k j : Nat} (hk : k ≤ 10) : bt ((2 : Int32) <<< (nI k &&& 31)) j = true ↔ j = k + 1 := by
  constructor
  · intro h
    have hj := rx_b32 h
    rw [b_shl k (by omega) 2 hj, rx_bt2 _ (by omega), Bool.and_eq_true, decide_eq_true_iff, decide_eq_true_iff] at h
    omega
  · intro h
    subst h
    rw [b_shl k (by omega) 2 (by omega), show k + 1 - k = 1 by omega]
    simp only [Nat.le_succ, decide_true, Bool.true_and]
    decide +kernel
theorem rx_mask : ∀ k, k < 11 → ∀ l, l < 32 → bt ((((2 : Int32) <<< (nI k &&& 31)) - 1) ^^^ (-1)) l = decide (k < l) := by decide +kernel
theorem rx_maskI {x : Int32} {k l : Nat} (hk : k ≤ 10) : bt (x &&& ((((2 : Int32) <<< (nI k &&& 31)) - 1) ^^^ (-1))) l = true ↔ (bt x l = true ∧ k < l) := by
  rw [b_and, Bool.and_eq_true]
  constructor
  · intro h
    have hl := rx_b32 h.1
    rw [rx_mask k (by omega) l hl, decide_eq_true_iff] at h
    exact h
  · intro h
    have hl := rx_b32 h.1
    rw [rx_mask k (by omega) l hl, decide_eq_true_iff]
    exact h
theorem rx_orI {x y : Int32} {l : Nat} : bt (x ||| y) l = true ↔ (bt x l = true ∨ bt y l = true) := by
  rw [b_or, Bool.or_eq_true]
theorem rx_0I {l : Nat} : ¬ bt 0 l = true := by
  rw [b_0]; decide
theorem rx_and0 {x y : Int32} : (x &&& y) = 0 ↔ ¬ ∃ j, bt x j = true ∧ bt y j = true := by
  constructor
  · rintro h ⟨j, a, b⟩
    have : bt (x &&& y) j = true := by rw [b_and, a, b]; rfl
    rw [h] at this
    exact rx_0I this
  · intro h
    refine b_ext (fun i hi => ?_)
    rw [b_0]
    cases hb : bt (x &&& y) i with
    | false => rfl
    | true =>
      rw [b_and, Bool.and_eq_true] at hb
      exact absurd ⟨i, hb⟩ h
theorem rx_eq0 {x : Int32} : x = 0 ↔ ¬ ∃ j, bt x j = true := by
  constructor
  · rintro h ⟨j, a⟩
    rw [h] at a
    exact rx_0I a
  · intro h
    refine b_ext (fun i hi => ?_)
    rw [b_0]
    cases hb : bt x i with
    | false => rfl
    | true => exact absurd ⟨i, hb⟩ h
theorem rx_11 (p k : Nat) : 11 * nI p + nI k = nI (11 * p + k) := by
  rw [show (11 : Int32) = nI 11 from rfl, pk_mul, nI_add]
/-- the nodes in the arrays -/
def rx_lk (K A B : Nat → Int32) (kd fs sd : Nat → Nat) (m : Nat) : Prop := ∀ p, p < m → K p = nI (kd p) ∧ A p = nI (fs p) ∧ B p = nI (sd p)
/-- the row of part p from i is right -/
def rx_Rr (kd fs sd : Nat → Nat) (ht : Nat → Nat → Bool) (n : Nat) (ur : Nat → Int32) (p i : Nat) : Prop := ∀ j, bt (ur (11 * p + i)) j = true ↔ rx_E kd fs sd ht n p i j
section
variable {ys yd yr yl yw : Int32} {ua ub uc ug uk K A B U ur ut uw uo : Nat → Int32}
theorem rx_on5 {post : Int32 → Prop} {p n : Nat} {x2 : Int32} (hp : p < 16) (hn : n ≤ 10) (h : ∀ r, (∀ j, bt r j = true ↔ ∃ k, k < n + 1 ∧ bt x2 k = true ∧ bt (ur (11 * p + k)) j = true) → post r) :
    ∀ f k r, k ≤ n + 1 → n + 1 - k < f → (∀ j, bt r j = true ↔ ∃ k', k' < k ∧ bt x2 k' = true ∧ bt (ur (11 * p + k')) j = true) → wY_onFrom_5 post (nI p) x2 ys yd yr (nI n) yw ua ub uc ug uk K A B U ur ut uw uo f r (nI k) := by
  intro f
  induction f with
  | zero => intro k r _ h; omega
  | succ f ih =>
    intro k r hk hf hr
    refine pk_lt n k (fun hnk => ?_) (fun hnk => ?_)
    · have : k = n + 1 := by omega
      subst this
      exact h r hr
    · by_cases hb : bt x2 k = true
      · refine br_t ((rx_bit (by omega)).mpr hb) (And.intro ?_ (nm_r rfl (nm_r (nI_1 k) (ih (k + 1) _ (by omega) (by omega) ?_))))
        · rw [rx_11]; exact vp_in_nI (by omega) (by omega)
        · intro j
          rw [rx_11, nI_clamp (by omega), rx_orI, hr j]
          constructor
          · rintro (⟨k', a, b, c⟩ | a)
            · exact ⟨k', by omega, b, c⟩
            · exact ⟨k, by omega, hb, a⟩
          · rintro ⟨k', a, b, c⟩
            by_cases hkk : k' = k
            · subst hkk; exact Or.inr c
            · exact Or.inl ⟨k', by omega, b, c⟩
      · refine br_f (fun z => hb ((rx_bit (by omega)).mp z)) (nm_r (nI_1 k) (ih (k + 1) r (by omega) (by omega) ?_))
        intro j
        rw [hr j]
        constructor
        · rintro ⟨k', a, b, c⟩
          exact ⟨k', by omega, b, c⟩
        · rintro ⟨k', a, b, c⟩
          have hkk : k' ≠ k := fun z => hb (by rw [← z]; exact b)
          exact ⟨k', by omega, b, c⟩
theorem rx_onFrom {post : Int32 → Prop} {p n : Nat} {x2 : Int32} (hp : p < 16) (hn : n ≤ 10) (h : ∀ r, (∀ j, bt r j = true ↔ ∃ k, k < n + 1 ∧ bt x2 k = true ∧ bt (ur (11 * p + k)) j = true) → post r) : wpY_onFrom post (ys, yd, yr, nI n, yw, ua, ub, uc, ug, uk, K, A, B, U, ur, ut, uw, uo) (nI p) x2 :=
  ⟨n + 2, rx_on5 hp hn h (n + 2) 0 0 (by omega) (by omega) (fun j => ⟨fun z => absurd z rx_0I, fun ⟨k, a, _⟩ => absurd a (by omega)⟩)⟩
/-- the places (below k) from which a row leads to one of x2 -/
def rx_sv (ur : Nat → Int32) (p : Nat) (x2 : Int32) : Nat → Int32
  | 0 => 0
  | k + 1 => if (ur (11 * p + k) &&& x2) = 0 then rx_sv ur p x2 k else rx_sv ur p x2 k ||| ((1 : Int32) <<< (nI k &&& 31))
theorem rx_svI {p : Nat} {x2 : Int32} : ∀ k l, k ≤ 11 → (bt (rx_sv ur p x2 k) l = true ↔ l < k ∧ ∃ j, bt (ur (11 * p + l)) j = true ∧ bt x2 j = true) := by
  intro k
  induction k with
  | zero => intro l _; exact ⟨fun z => absurd z rx_0I, fun ⟨a, _⟩ => absurd a (by omega)⟩
  | succ k ih =>
    intro l hk
    show bt (if (ur (11 * p + k) &&& x2) = 0 then rx_sv ur p x2 k else rx_sv ur p x2 k ||| ((1 : Int32) <<< (nI k &&& 31))) l = true ↔ _
    by_cases hb : ∃ j, bt (ur (11 * p + k)) j = true ∧ bt x2 j = true
    · rw [if_neg (by rw [rx_and0]; exact fun z => z hb), rx_orI, ih l (by omega), rx_shl1 (by omega)]
      constructor
      · rintro (⟨a, b⟩ | a)
        · exact ⟨by omega, b⟩
        · subst a; exact ⟨by omega, hb⟩
      · rintro ⟨a, b⟩
        by_cases hkk : l = k
        · exact Or.inr hkk
        · exact Or.inl ⟨by omega, b⟩
    · rw [if_pos (by rw [rx_and0]; exact hb), ih l (by omega)]
      constructor
      · rintro ⟨a, b⟩
        exact ⟨by omega, b⟩
      · rintro ⟨a, b⟩
        have hkk : l ≠ k := fun z => hb (by rw [← z]; exact b)
        exact ⟨by omega, b⟩
theorem rx_so5 {post : Int32 → Prop} {p n : Nat} {x2 : Int32} (hp : p < 16) (hn : n ≤ 10) (h : post (rx_sv ur p x2 (n + 1))) :
    ∀ f k, k ≤ n + 1 → n + 1 - k < f → wY_startsOf_5 post (nI p) x2 ys yd yr (nI n) yw ua ub uc ug uk K A B U ur ut uw uo f (rx_sv ur p x2 k) (nI k) := by
  intro f
  induction f with
  | zero => intro k _ h; omega
  | succ f ih =>
    intro k hk hf
    refine pk_lt n k (fun hnk => ?_) (fun hnk => ?_)
    · have : k = n + 1 := by omega
      subst this
      exact h
    · have hc : (11 * nI p + nI k).toNatClampNeg = 11 * p + k := by rw [rx_11]; exact nI_clamp (by omega)
      refine And.intro (by rw [rx_11]; exact vp_in_nI (by omega) (by omega)) ?_
      have hs := ih (k + 1) (by omega) (by omega)
      by_cases hb : (ur (11 * p + k) &&& x2) = 0
      · rw [show rx_sv ur p x2 (k + 1) = rx_sv ur p x2 k from if_pos hb] at hs
        exact br_t (by rw [hc]; exact hb) (nm_r (nI_1 k) hs)
      · rw [show rx_sv ur p x2 (k + 1) = rx_sv ur p x2 k ||| ((1 : Int32) <<< (nI k &&& 31)) from if_neg hb] at hs
        exact br_f (by rw [hc]; exact hb) (nm_r rfl (nm_r (nI_1 k) hs))
theorem rx_startsOf {post : Int32 → Prop} {p n : Nat} {x2 : Int32} (hp : p < 16) (hn : n ≤ 10) (h : post (rx_sv ur p x2 (n + 1))) : wpY_startsOf post (ys, yd, yr, nI n, yw, ua, ub, uc, ug, uk, K, A, B, U, ur, ut, uw, uo) (nI p) x2 :=
  ⟨n + 2, rx_so5 hp hn h (n + 2) 0 (by omega) (by omega)⟩
/-- one entry of the table -/
theorem rx_reachOf {post : Int32 → Prop} {kd fs sd dg : Nat → Nat} {m n p i : Nat} (hW : rx_W kd fs sd dg m) (hk : rx_lk K A B kd fs sd m) (hm : m ≤ 16) (hn : n ≤ 10) (hp : p < m) (hi : i ≤ n)
    (hR : ∀ p' i', i' ≤ n → (p' < p ∨ p' = p ∧ i < i') → rx_Rr kd fs sd (rx_ht U n) n ur p' i')
    (h : ∀ r, (∀ j, bt r j = true ↔ rx_E kd fs sd (rx_ht U n) n p i j) → post r) : wpY_reachOf post (ys, yd, yr, nI n, yw, ua, ub, uc, ug, uk, K, A, B, U, ur, ut, uw, uo) (nI p) (nI i) := by
  have ww := hW p hp
  obtain ⟨ek, ea, eb⟩ := hk p hp
  have hin : vp_in (nI p) 16 := vp_in_nI (by omega) (by omega)
  have hcl : (nI p).toNatClampNeg = p := nI_clamp (by omega)
  have hci : (nI i).toNatClampNeg = i := nI_clamp (by omega)
  have hk12 := ww.1
  refine And.intro hin (nm_r (e' := nI (kd p)) (by rw [hcl, ek]) ?_)
  refine pk_le 4 (kd p) (fun h4 => ?_) (fun h4 => ?_)
  · refine pk_eq (kd p) 4 (fun h => ?_) (fun hn4 => ?_)
    · rename_i hpost
      refine hpost _ (fun j => ?_)
      rw [rx_shl1 (by omega), rx_E4 h]
    · have w := ww.2.2.1 (by omega)
      have hcf : (11 * A (nI p).toNatClampNeg + nI i).toNatClampNeg = 11 * fs p + i := by
        rw [hcl, ea, rx_11]; exact nI_clamp (by omega)
      have hfirst := hR (fs p) i hi (Or.inl w.1)
      refine And.intro hin (And.intro ?_ (nm_r (e' := ur (11 * fs p + i)) (by rw [hcf]) ?_))
      · rw [hcl, ea, rx_11]; exact vp_in_nI (by omega) (by omega)
      refine pk_eq (kd p) 5 (fun h5 => And.intro hin ?_) (fun h5 => ?_)
      · rw [show B (nI p).toNatClampNeg = nI (sd p) by rw [hcl, eb]]
        refine rx_onFrom (by omega) hn (fun r hr => h r (fun j => ?_))
        rw [hr j, rx_E5 h5 w]
        constructor
        · rintro ⟨k, a, b, c⟩
          exact ⟨k, by omega, (hfirst k).mp b, (hR (sd p) k (by omega) (Or.inl w.2) j).mp c⟩
        · rintro ⟨k, a, b, c⟩
          exact ⟨k, by omega, (hfirst k).mpr b, (hR (sd p) k (by omega) (Or.inl w.2) j).mpr c⟩
      refine pk_eq (kd p) 6 (fun h6 => And.intro hin (And.intro ?_ (h _ (fun j => ?_)))) (fun h6 => ?_)
      · rw [hcl, eb, rx_11]; exact vp_in_nI (by omega) (by omega)
      · rw [show (11 * B (nI p).toNatClampNeg + nI i).toNatClampNeg = 11 * sd p + i by rw [hcl, eb, rx_11]; exact nI_clamp (by omega)]
        rw [rx_orI, rx_E6 h6 w, hfirst j, hR (sd p) i hi (Or.inl w.2) j]
      refine pk_le (kd p) 8 (fun h8 => ?_) (fun h8 => h _ (fun j => ?_))
      · refine rx_onFrom (by omega) hn (fun r hr => h _ (fun j => ?_))
        rw [rx_orI, rx_shl1 (by omega), hr j, rx_E7 (by omega) w]
        constructor
        · rintro (a | ⟨k, a, b, c⟩)
          · exact Or.inl a
          · rw [rx_maskI (by omega)] at b
            exact Or.inr ⟨k, ⟨b.2, by omega⟩, (hfirst k).mp b.1, (hR p k (by omega) (Or.inr ⟨rfl, b.2⟩) j).mp c⟩
        · rintro (a | ⟨k, a, b, c⟩)
          · exact Or.inl a
          · exact Or.inr ⟨k, by omega, (rx_maskI (by omega)).mpr ⟨(hfirst k).mpr b, a.1⟩, (hR p k a.2 (Or.inr ⟨rfl, a.1⟩) j).mpr c⟩
      · rw [rx_E9 (by omega) w]; exact hfirst j
  · have no : ¬ rx_ht U n (kd p) i = true → ∀ j, bt 0 j = true ↔ rx_E kd fs sd (rx_ht U n) n p i j := by
      intro hx j
      rw [rx_E0 h4]
      exact ⟨fun z => absurd z rx_0I, fun z => absurd z.1 hx⟩
    have yes : rx_ht U n (kd p) i = true → ∀ j, bt ((2 : Int32) <<< (nI i &&& 31)) j = true ↔ rx_E kd fs sd (rx_ht U n) n p i j := by
      intro hx j
      rw [rx_shl2 (by omega), rx_E0 h4]
      exact ⟨fun z => ⟨hx, z⟩, fun z => z.2⟩
    refine pk_le n i (fun hni => h _ (no (fun z => absurd (of_decide_eq_true z).1 (by omega)))) (fun hni => ?_)
    by_cases h3 : nI (kd p) = 3
    · exact br_t h3 (h _ (yes (decide_eq_true ⟨hni, Or.inl h3⟩)))
    · refine br_f h3 (And.intro (vp_in_nI (by omega) (by omega)) ?_)
      by_cases ht : U i = nI (kd p)
      · exact br_t (by rw [hci]; exact ht) (h _ (yes (decide_eq_true ⟨hni, Or.inr ht.symm⟩)))
      · exact br_f (by rw [hci]; exact ht) (h _ (no (fun z => (of_decide_eq_true z).2.elim h3 (fun y => ht y.symm))))
/-- rows of parts below p, and of p from c on -/
def rx_Fl (kd fs sd : Nat → Nat) (ht : Nat → Nat → Bool) (n : Nat) (ur : Nat → Int32) (p c : Nat) : Prop := ∀ p' i', i' ≤ n → (p' < p ∨ p' = p ∧ c ≤ i') → rx_Rr kd fs sd ht n ur p' i'
theorem rx_fill15 {post : SY → Prop} {J : Int32 → (Nat → Int32) → (Nat → Int32) → (Nat → Int32) → (Nat → Int32) → (Nat → Int32) → (Nat → Int32) → (Nat → Int32) → (Nat → Int32) → (Nat → Int32) → (Nat → Int32) → (Nat → Int32) → (Nat → Int32) → (Nat → Int32) → Prop} {kd fs sd dg : Nat → Nat} {m n p : Nat} (hW : rx_W kd fs sd dg m) (hk : rx_lk K A B kd fs sd m) (hm : m ≤ 16) (hn : n ≤ 10) (hp : p < m)
    (h : ∀ ur, rx_Fl kd fs sd (rx_ht U n) n ur p 0 → J (nI (p + 1)) ua ub uc ug uk K A B U ur ut uw uo) :
    ∀ c f ur x2, c ≤ n + 1 → c < f → x2 = nI c + (-1) → rx_Fl kd fs sd (rx_ht U n) n ur p c → wY_fill_15 post J (nI p) ys yd yr (nI n) yw f x2 ua ub uc ug uk K A B U ur ut uw uo := by
  intro c
  induction c with
  | zero =>
    intro f ur x2 hc hf hx hF
    obtain ⟨f, rfl⟩ : ∃ f', f = f' + 1 := ⟨f - 1, by omega⟩
    exact br_t (by rw [hx]; decide) (nm_r (nI_1 p) (h ur hF))
  | succ i ih =>
    intro f ur x2 hc hf hx hF
    obtain ⟨f, rfl⟩ : ∃ f', f = f' + 1 := ⟨f - 1, by omega⟩
    rw [pk_m1] at hx
    subst hx
    refine br_f (nI_pos (by omega)) ?_
    refine rx_reachOf hW hk hm hn hp (by omega) (fun p' i' h1 h2 => hF p' i' h1 (h2.elim Or.inl (fun z => Or.inr ⟨z.1, by omega⟩))) (fun r hr => ?_)
    have hcl : (11 * nI p + nI i).toNatClampNeg = 11 * p + i := by rw [rx_11]; exact nI_clamp (by omega)
    refine And.intro (by rw [rx_11]; exact vp_in_nI (by omega) (by omega)) (nm_r (e' := upd ur (11 * p + i) r) (by rw [hcl]) (nm_r rfl (ih f _ _ (by omega) (by omega) rfl ?_)))
    intro p' i' h1 h2 j
    by_cases hx : p' = p ∧ i' = i
    · obtain ⟨rfl, rfl⟩ := hx
      rw [pk_us]; exact hr j
    · rw [pk_un (by omega)]
      exact hF p' i' h1 (by omega) j
theorem rx_fill2 {post : SY → Prop} {kd fs sd dg : Nat → Nat} {m n : Nat} (hW : rx_W kd fs sd dg (m + 1)) (hk : rx_lk K A B kd fs sd (m + 1)) (hm : m < 16) (hn : n ≤ 10)
    (h : ∀ ur, (∀ p i, p ≤ m → i ≤ n → rx_Rr kd fs sd (rx_ht U n) n ur p i) → post (ys, yd, nI m, nI n, yw, ua, ub, uc, ug, uk, K, A, B, U, ur, ut, uw, uo)) :
    ∀ f p ur, p ≤ m + 1 → m + 1 - p < f → rx_Fl kd fs sd (rx_ht U n) n ur p (n + 1) → wY_fill_2 post ys yd (nI m) (nI n) yw f (nI p) ua ub uc ug uk K A B U ur ut uw uo := by
  intro f
  induction f with
  | zero => intro p ur _ h; omega
  | succ f ih =>
    intro p ur hp hf hF
    refine pk_lt m p (fun hmp => ?_) (fun hmp => ?_)
    · exact h ur (fun p' i' h1 h2 => hF p' i' h2 (Or.inl (by omega)))
    · refine ⟨n + 2, rx_fill15 hW hk (by omega) hn (by omega) (fun ur' hF' => ih (p + 1) ur' (by omega) (by omega) ?_) (n + 1) (n + 2) ur (nI n) (by omega) (by omega) (pk_m1 n).symm hF⟩
      intro p' i' h1 h2
      exact hF' p' i' h1 (by omega)
/-- the table of all parts -/
theorem rx_fill {post : SY → Prop} {kd fs sd dg : Nat → Nat} {m n : Nat} (hW : rx_W kd fs sd dg (m + 1)) (hk : rx_lk K A B kd fs sd (m + 1)) (hm : m < 16) (hn : n ≤ 10)
    (h : ∀ ur, (∀ p i, p ≤ m → i ≤ n → rx_Rr kd fs sd (rx_ht U n) n ur p i) → post (ys, yd, nI m, nI n, yw, ua, ub, uc, ug, uk, K, A, B, U, ur, ut, uw, uo)) : wpY_fill post (ys, yd, nI m, nI n, yw, ua, ub, uc, ug, uk, K, A, B, U, ur, ut, uw, uo) :=
  ⟨m + 2, rx_fill2 hW hk hm hn h (m + 2) 0 ur (by omega) (by omega) (fun p' i' h1 h2 => absurd h2 (by omega))⟩
end
end
section
/-! the reference's walks: plan, repeats, doPart, doRun -/
def rx_Tk (ut uw : Nat → Int32) : List (Nat × Int32) → Prop
  | [] => True
  | (t, q) :: l => ut l.length = nI t ∧ uw l.length = q ∧ rx_Tk ut uw l
theorem rx_Tkc {ut uw ut' uw' : Nat → Int32} : ∀ {l : List (Nat × Int32)}, (∀ x, x < l.length → ut' x = ut x ∧ uw' x = uw x) → rx_Tk ut uw l → rx_Tk ut' uw' l := by
  intro l
  induction l with
  | nil => intro _ _; exact True.intro
  | cons a l ih =>
    intro h hT
    obtain ⟨t, q⟩ := a
    obtain ⟨e1, e2, hT⟩ := hT
    have := h l.length (by simp)
    exact ⟨by rw [this.1]; exact e1, by rw [this.2]; exact e2, ih (fun x hx => h x (by rw [List.length_cons]; omega)) hT⟩
theorem rx_Tkp {ut uw : Nat → Int32} {l : List (Nat × Int32)} {t : Nat} {q x : Int32} (h : rx_Tk ut uw l) (hx : x = nI t) : rx_Tk (upd ut l.length x) (upd uw l.length q) ((t, q) :: l) :=
  ⟨by rw [pk_us]; exact hx, pk_us, rx_Tkc (fun y hy => ⟨pk_un (by omega), pk_un (by omega)⟩) h⟩
section
variable {ys yd yr yl yw : Int32} {ua ub uc ug uk K A B U ur ut uw uo : Nat → Int32}
theorem rx_plan {post : SY → Prop} {w : Nat} {t q : Int32} (hw : w < 64) (h : post (ys, yd, yr, yl, nI (w + 1), ua, ub, uc, ug, uk, K, A, B, U, ur, upd ut w t, upd uw w q, uo)) : wpY_plan post (ys, yd, yr, yl, nI w, ua, ub, uc, ug, uk, K, A, B, U, ur, ut, uw, uo) t q := by
  exact And.intro (vp_in_nI hw (by omega)) (nm_r (e' := upd ut w t) (by rw [nI_clamp (by omega)]) (And.intro (vp_in_nI hw (by omega)) (nm_r (e' := upd uw w q) (by rw [nI_clamp (by omega)]) (nm_r (nI_1 w) h))))
section
variable {post : Int32 → SY → Prop} {kd fs sd dg : Nat → Nat} {m n p i w : Nat} {q : Int32}
/-- the row of the first part from i, and what is ahead -/
theorem rx_repeats (hm : m ≤ 16) (hn : n ≤ 10) (hp : p < m) (hi : i ≤ n) (hw : w + 2 ≤ 64) (ea : A p = nI (fs p)) (hf : fs p < p)
    (h0 : (ur (11 * fs p + i) &&& (rx_sv ur p q (n + 1) &&& ((((2 : Int32) <<< (nI i &&& 31)) - 1) ^^^ (-1)))) = 0 → post 0 (ys, yd, yr, nI n, nI w, ua, ub, uc, ug, uk, K, A, B, U, ur, ut, uw, uo))
    (h1 : ¬ (ur (11 * fs p + i) &&& (rx_sv ur p q (n + 1) &&& ((((2 : Int32) <<< (nI i &&& 31)) - 1) ^^^ (-1)))) = 0 → post 1 (ys, yd, yr, nI n, nI (w + 2), ua, ub, uc, ug, uk, K, A, B, U, ur, upd (upd ut w (nI p)) (w + 1) (nI (fs p)), upd (upd uw w q) (w + 1) (rx_sv ur p q (n + 1) &&& ((((2 : Int32) <<< (nI i &&& 31)) - 1) ^^^ (-1))), uo)) :
    wpY_repeats post (ys, yd, yr, nI n, nI w, ua, ub, uc, ug, uk, K, A, B, U, ur, ut, uw, uo) (nI p) (nI i) q := by
  have hin : vp_in (nI p) 16 := vp_in_nI (by omega) (by omega)
  have hcl : (nI p).toNatClampNeg = p := nI_clamp (by omega)
  have hA : A (nI p).toNatClampNeg = nI (fs p) := by rw [hcl, ea]
  have hcf : (11 * nI (fs p) + nI i).toNatClampNeg = 11 * fs p + i := by
    rw [rx_11]; exact nI_clamp (by omega)
  refine rx_startsOf (by omega) hn (nm_r rfl (And.intro hin (And.intro ?_ ?_)))
  · rw [hA, rx_11]; exact vp_in_nI (by omega) (by omega)
  · rw [hA, hcf]
    refine br_c h0 (fun z => ?_)
    refine rx_plan (by omega) (And.intro hin ?_)
    refine rx_plan (w := w + 1) (by omega) ?_
    rw [hA]
    exact h1 z
theorem rx_dp0 (hk : rx_lk K A B kd fs sd m) (hm : m ≤ 16) (hp : p < m) (h : kd p < 4) (H : post (nI (i + 1)) (ys, yd, yr, yl, yw, ua, ub, uc, ug, uk, K, A, B, U, ur, ut, uw, uo)) : wpY_doPart post (ys, yd, yr, yl, yw, ua, ub, uc, ug, uk, K, A, B, U, ur, ut, uw, uo) (nI p) (nI i) q := by
  obtain ⟨ek, ea, eb⟩ := hk p hp
  refine And.intro (vp_in_nI (by omega) (by omega)) (nm_r (e' := nI (kd p)) (by rw [nI_clamp (by omega), ek]) ?_)
  refine br_f (nI_ge (b := 4) h (by decide)) ?_
  rw [nI_1]; exact H
theorem rx_dp4 (hk : rx_lk K A B kd fs sd m) (hm : m ≤ 16) (hp : p < m) (h : kd p = 4) (H : post (nI i) (ys, yd, yr, yl, yw, ua, ub, uc, ug, uk, K, A, B, U, ur, ut, uw, uo)) : wpY_doPart post (ys, yd, yr, yl, yw, ua, ub, uc, ug, uk, K, A, B, U, ur, ut, uw, uo) (nI p) (nI i) q := by
  obtain ⟨ek, ea, eb⟩ := hk p hp
  refine And.intro (vp_in_nI (by omega) (by omega)) (nm_r (e' := 4) (by rw [nI_clamp (by omega), ek, h]; rfl) ?_)
  exact br_t (by decide) (br_f (by decide) (br_f (by decide) (br_f (by decide) (br_f (by decide) (br_t (by decide) H)))))
theorem rx_dp5 (hk : rx_lk K A B kd fs sd m) (hm : m ≤ 16) (hn : n ≤ 10) (hp : p < m) (hw : w + 2 ≤ 64) (h : kd p = 5) (hs : sd p < p)
    (H : post (nI i) (ys, yd, yr, nI n, nI (w + 2), ua, ub, uc, ug, uk, K, A, B, U, ur, upd (upd ut w (nI (sd p))) (w + 1) (nI (fs p)), upd (upd uw w q) (w + 1) (rx_sv ur (sd p) q (n + 1)), uo)) : wpY_doPart post (ys, yd, yr, nI n, nI w, ua, ub, uc, ug, uk, K, A, B, U, ur, ut, uw, uo) (nI p) (nI i) q := by
  obtain ⟨ek, ea, eb⟩ := hk p hp
  have hin : vp_in (nI p) 16 := vp_in_nI (by omega) (by omega)
  have hcl : (nI p).toNatClampNeg = p := nI_clamp (by omega)
  refine And.intro hin (nm_r (e' := 5) (by rw [hcl, ek, h]; rfl) ?_)
  refine br_t (by decide) (br_t rfl (And.intro hin ?_))
  rw [hcl, eb]
  refine rx_startsOf (by omega) hn (And.intro hin ?_)
  refine rx_plan (by omega) (And.intro hin ?_)
  refine rx_plan (w := w + 1) (by omega) ?_
  rw [ea]
  exact H
theorem rx_dp6 (hk : rx_lk K A B kd fs sd m) (hm : m ≤ 16) (hp : p < m) (hi : i ≤ 10) (hw : w + 2 ≤ 64) (h : kd p = 6) (hf : fs p < p)
    (H : post (nI i) (ys, yd, yr, yl, nI (w + 1), ua, ub, uc, ug, uk, K, A, B, U, ur, upd ut w (nI (if (ur (11 * fs p + i) &&& q) = 0 then sd p else fs p)), upd uw w q, uo)) : wpY_doPart post (ys, yd, yr, yl, nI w, ua, ub, uc, ug, uk, K, A, B, U, ur, ut, uw, uo) (nI p) (nI i) q := by
  obtain ⟨ek, ea, eb⟩ := hk p hp
  have hin : vp_in (nI p) 16 := vp_in_nI (by omega) (by omega)
  have hcl : (nI p).toNatClampNeg = p := nI_clamp (by omega)
  have hA : A (nI p).toNatClampNeg = nI (fs p) := by rw [hcl, ea]
  have hB : B (nI p).toNatClampNeg = nI (sd p) := by rw [hcl, eb]
  have hcf : (11 * nI (fs p) + nI i).toNatClampNeg = 11 * fs p + i := by
    rw [rx_11]; exact nI_clamp (by omega)
  refine And.intro hin (nm_r (e' := 6) (by rw [hcl, ek, h]; rfl) ?_)
  refine br_t (by decide) (br_f (by decide) (br_t rfl (And.intro hin (And.intro ?_ ?_))))
  · rw [hA, rx_11]; exact vp_in_nI (by omega) (by omega)
  · rw [hA, hcf]
    by_cases hz : (ur (11 * fs p + i) &&& q) = 0
    · rw [if_pos hz] at H
      refine br_t hz (br_t rfl (And.intro hin ?_))
      rw [hB]
      exact rx_plan (by omega) H
    · rw [if_neg hz] at H
      refine br_f hz (br_f (by decide) (And.intro hin ?_))
      rw [hA]
      exact rx_plan (by omega) H
theorem rx_dp7 (hk : rx_lk K A B kd fs sd m) (hm : m ≤ 16) (hn : n ≤ 10) (hp : p < m) (hi : i ≤ n) (hw : w + 2 ≤ 64) (h : kd p = 7 ∨ kd p = 8 ∧ bt q i = false) (hf : fs p < p)
    (h0 : (ur (11 * fs p + i) &&& (rx_sv ur p q (n + 1) &&& ((((2 : Int32) <<< (nI i &&& 31)) - 1) ^^^ (-1)))) = 0 → post (nI i) (ys, yd, yr, nI n, nI w, ua, ub, uc, ug, uk, K, A, B, U, ur, ut, uw, uo))
    (h1 : ¬ (ur (11 * fs p + i) &&& (rx_sv ur p q (n + 1) &&& ((((2 : Int32) <<< (nI i &&& 31)) - 1) ^^^ (-1)))) = 0 → post (nI i) (ys, yd, yr, nI n, nI (w + 2), ua, ub, uc, ug, uk, K, A, B, U, ur, upd (upd ut w (nI p)) (w + 1) (nI (fs p)), upd (upd uw w q) (w + 1) (rx_sv ur p q (n + 1) &&& ((((2 : Int32) <<< (nI i &&& 31)) - 1) ^^^ (-1))), uo)) :
    wpY_doPart post (ys, yd, yr, nI n, nI w, ua, ub, uc, ug, uk, K, A, B, U, ur, ut, uw, uo) (nI p) (nI i) q := by
  obtain ⟨ek, ea, eb⟩ := hk p hp
  have hin : vp_in (nI p) 16 := vp_in_nI (by omega) (by omega)
  have hcl : (nI p).toNatClampNeg = p := nI_clamp (by omega)
  have R : wY_doPart_148 post (nI p) (nI i) q ys yd yr (nI n) (nI w) ua ub uc ug uk K A B U ur ut uw uo := rx_repeats hm hn hp hi hw ea hf h0 h1
  rcases h with h | h
  · refine And.intro hin (nm_r (e' := 7) (by rw [hcl, ek, h]; rfl) ?_)
    exact br_t (by decide) (br_f (by decide) (br_f (by decide) (br_t rfl R)))
  · refine And.intro hin (nm_r (e' := 8) (by rw [hcl, ek, h.1]; rfl) ?_)
    exact br_t (by decide) (br_f (by decide) (br_f (by decide) (br_f (by decide) (br_t rfl (br_t ((rx_bit0 (by omega)).mpr h.2) R)))))
theorem rx_dp8 (hk : rx_lk K A B kd fs sd m) (hm : m ≤ 16) (hp : p < m) (hi : i ≤ 10) (h : kd p = 8 ∧ bt q i = true) (H : post (nI i) (ys, yd, yr, yl, yw, ua, ub, uc, ug, uk, K, A, B, U, ur, ut, uw, uo)) : wpY_doPart post (ys, yd, yr, yl, yw, ua, ub, uc, ug, uk, K, A, B, U, ur, ut, uw, uo) (nI p) (nI i) q := by
  obtain ⟨ek, ea, eb⟩ := hk p hp
  refine And.intro (vp_in_nI (by omega) (by omega)) (nm_r (e' := 8) (by rw [nI_clamp (by omega), ek, h.1]; rfl) ?_)
  refine br_t (by decide) (br_f (by decide) (br_f (by decide) (br_f (by decide) (br_t rfl (br_f (fun z => ?_) (br_t (by decide) H))))))
  rw [rx_bit0 (by omega), h.2] at z
  exact absurd z (by decide)
theorem rx_dp9 (hk : rx_lk K A B kd fs sd m) (hm : m ≤ 16) (hp : p < m) (hw : w + 2 ≤ 64) (h : 9 ≤ kd p) (h12 : kd p < 12) (hf : fs p < p)
    (H : post (nI i) (ys, yd, yr, yl, nI (w + 2), ua, ub, uc, ug, uk, K, A, B, U, ur, upd (upd ut w (nI (100 + 16 * (kd p - 9) + i))) (w + 1) (nI (fs p)), upd (upd uw w 0) (w + 1) q, uo)) : wpY_doPart post (ys, yd, yr, yl, nI w, ua, ub, uc, ug, uk, K, A, B, U, ur, ut, uw, uo) (nI p) (nI i) q := by
  obtain ⟨ek, ea, eb⟩ := hk p hp
  have hin : vp_in (nI p) 16 := vp_in_nI (by omega) (by omega)
  have hcl : (nI p).toNatClampNeg = p := nI_clamp (by omega)
  refine And.intro hin (nm_r (e' := nI (kd p)) (by rw [hcl, ek]) ?_)
  refine pk_le 4 (kd p) (fun _ => ?_) (fun z => absurd z (by omega))
  refine pk_eq (kd p) 5 (fun z => absurd z (by omega)) (fun _ => ?_)
  refine pk_eq (kd p) 6 (fun z => absurd z (by omega)) (fun _ => ?_)
  refine pk_eq (kd p) 7 (fun z => absurd z (by omega)) (fun _ => ?_)
  refine pk_eq (kd p) 8 (fun z => absurd z (by omega)) (fun _ => ?_)
  refine pk_le (kd p) 8 (fun z => absurd z (by omega)) (fun _ => ?_)
  have e9 : 100 + 16 * (nI (kd p) - 9) + nI i = nI (100 + 16 * (kd p - 9) + i) := by
    rw [show (9 : Int32) = nI 9 from rfl, pk_sub h, show (16 : Int32) = nI 16 from rfl, pk_mul, show (100 : Int32) = nI 100 from rfl, nI_add, nI_add]
  refine rx_plan (by omega) (And.intro hin ?_)
  refine rx_plan (w := w + 1) (by omega) ?_
  rw [e9, hcl, ea]
  exact H
end
/-- a task that is a part -/
theorem rx_hd {post : Int32 → SY → Prop} {f p i w : Nat} {q : Int32} (hw : w < 64) (hp : p < 16) (e1 : ut w = nI p) (e2 : uw w = q)
    (H : ∀ Q : Int32 → SY → Prop, (∀ r yw ut uw, wY_doRun_37 post f r ys yd yr yl yw ua ub uc ug uk K A B U ur ut uw uo → Q r (ys, yd, yr, yl, yw, ua, ub, uc, ug, uk, K, A, B, U, ur, ut, uw, uo)) → wpY_doPart Q (ys, yd, yr, yl, nI w, ua, ub, uc, ug, uk, K, A, B, U, ur, ut, uw, uo) (nI p) (nI i) q) : wY_doRun_37 post (f + 1) (nI i) ys yd yr yl (nI (w + 1)) ua ub uc ug uk K A B U ur ut uw uo := by
  have hc : (nI w).toNatClampNeg = w := nI_clamp (by omega)
  refine br_f (nI_nle (by omega) (by omega)) (nm_r (e' := nI w) (nI_pred w) (And.intro (vp_in_nI (by omega) (by omega)) (nm_r (e' := nI p) (by rw [hc, e1]) (br_t (nI_lt (b := 100) (by omega) (by decide)) (And.intro (vp_in_nI (by omega) (by omega)) ?_)))))
  rw [hc, e2]
  exact H _ (fun r yw ut uw h => h)
/-- a task that ends a group -/
theorem rx_hm {post : Int32 → SY → Prop} {f c i0 i w : Nat} (hw : w < 64) (hc : c < 3) (hi0 : i0 ≤ 10) (e1 : ut w = nI (100 + 16 * c + i0))
    (H : wY_doRun_37 post f (nI i) ys yd yr yl (nI w) ua ub uc ug uk K A B U ur ut uw (upd uo c (16 * nI i0 + nI i))) : wY_doRun_37 post (f + 1) (nI i) ys yd yr yl (nI (w + 1)) ua ub uc ug uk K A B U ur ut uw uo := by
  have hcw : (nI w).toNatClampNeg = w := nI_clamp (by omega)
  have s1 : nI (100 + 16 * c + i0) - 100 = nI (16 * c + i0) := by
    rw [show (100 : Int32) = nI 100 from rfl, pk_sub (by omega)]
    exact congrArg nI (by omega)
  have d1 : nI (16 * c + i0) / 16 = nI c := by
    rw [show (16 : Int32) = nI 16 from rfl, pk_div (by omega) (by omega) (by omega)]
    exact congrArg nI (by omega)
  have r1 : nI (16 * c + i0) - nI (16 * c + i0) / 16 * 16 = nI i0 := by
    have := pk_rem (a := 16 * c + i0) (d := 16) (by omega) (by omega) (by omega)
    rw [show (nI 16 : Int32) = 16 from rfl] at this
    rw [this]
    exact congrArg nI (by omega)
  refine br_f (nI_nle (by omega) (by omega)) (nm_r (e' := nI w) (nI_pred w) (And.intro (vp_in_nI (by omega) (by omega)) (nm_r (e' := nI (100 + 16 * c + i0)) (by rw [hcw, e1]) (br_f (nI_nlt (b := 100) (by omega) (by omega)) ?_))))
  refine And.intro (by decide) (And.intro (by decide) (And.intro ?_ ?_))
  · rw [s1, d1]; exact vp_in_nI (by omega) (by omega)
  · rw [s1, r1, d1, nI_clamp (by omega)]
    exact nm_r rfl H
/-- the rules of the task machine hold -/
theorem rx_ZR {post : Int32 → SY → Prop} {kd fs sd dg : Nat → Nat} {m n : Nat} (hW : rx_W kd fs sd dg m) (hk : rx_lk K A B kd fs sd m) (hm : m ≤ 16) (hn : n ≤ 10) (hR : ∀ p i, p < m → i ≤ n → rx_Rr kd fs sd (rx_ht U n) n ur p i) :
    rx_Zr kd fs sd (rx_ht U n) n m (fun l i g => ∀ ut uw, rx_Tk ut uw l → ∃ f, wY_doRun_37 post f (nI i) ys yd yr (nI n) (nI l.length) ua ub uc ug uk K A B U ur ut uw g) := by
  have hH := rx_htH U n
  refine ⟨fun p q rest i g hp hi hr => ?_, fun c i0 i q rest g hc hi0 hi hr hz ut uw hT => ?_⟩
  · have ww := hW p hp
    have wf : 5 ≤ kd p → fs p < p ∧ sd p < p := ww.2.2.1
    have ew : ∀ p', p' < m → ((ur (11 * p' + i) &&& q) = 0 ↔ ¬ rx_Ew kd fs sd (rx_ht U n) n p' i q) := by
      intro p' hp'
      rw [rx_and0]
      have : (∃ j, bt (ur (11 * p' + i)) j = true ∧ bt q j = true) ↔ rx_Ew kd fs sd (rx_ht U n) n p' i q :=
        ⟨fun ⟨j, a, b⟩ => ⟨j, (hR p' i hp' hi j).mp a, b⟩, fun ⟨j, a, b⟩ => ⟨j, (hR p' i hp' hi j).mpr a, b⟩⟩
      rw [this]
    have sv : ∀ p', p' < m → rx_St kd fs sd (rx_ht U n) n p' q (rx_sv ur p' q (n + 1)) := by
      intro p' hp' l hl
      rw [rx_svI (n + 1) l (by omega)]
      exact ⟨fun ⟨_, j, a, b⟩ => ⟨j, (hR p' l hp' hl j).mp a, b⟩, fun ⟨j, a, b⟩ => ⟨by omega, j, (hR p' l hp' hl j).mpr a, b⟩⟩
    have sa : rx_Sa kd fs sd (rx_ht U n) n p i q (rx_sv ur p q (n + 1) &&& ((((2 : Int32) <<< (nI i &&& 31)) - 1) ^^^ (-1))) := by
      intro l hl
      rw [rx_maskI (by omega), sv p hp l hl]
      exact ⟨fun ⟨a, b⟩ => ⟨⟨b, hl⟩, a⟩, fun ⟨a, b⟩ => ⟨b, a.1⟩⟩
    have er : fs p < p → ((ur (11 * fs p + i) &&& (rx_sv ur p q (n + 1) &&& ((((2 : Int32) <<< (nI i &&& 31)) - 1) ^^^ (-1)))) = 0 ↔ ¬ rx_Er kd fs sd (rx_ht U n) n p i q) := by
      intro hf
      rw [rx_and0]
      have : (∃ j, bt (ur (11 * fs p + i)) j = true ∧ bt (rx_sv ur p q (n + 1) &&& ((((2 : Int32) <<< (nI i &&& 31)) - 1) ^^^ (-1))) j = true) ↔ rx_Er kd fs sd (rx_ht U n) n p i q := by
        constructor
        · rintro ⟨j, a, b⟩
          have a' := (hR (fs p) i (by omega) hi j).mp a
          have hj := (rx_Eb' hW hH (by omega) hi a').2
          have := (sa j hj).mp b
          exact ⟨j, a', this.1, this.2⟩
        · rintro ⟨j, a, b, c⟩
          exact ⟨j, (hR (fs p) i (by omega) hi j).mpr a, (sa j b.2).mpr ⟨b, c⟩⟩
      rw [this]
    refine ⟨fun h hz ut uw hT => ?_, fun h hz ut uw hT => ?_, fun h => ⟨_, sv (sd p) (by have := (wf (by omega)).2; omega), fun hz ut uw hT => ?_⟩, fun h he hz ut uw hT => ?_, fun h he hz ut uw hT => ?_, fun h he => ⟨_, sa, fun hz ut uw hT => ?_⟩, fun h hz ut uw hT => ?_, fun h hz ut uw hT => ?_⟩
    · obtain ⟨e1, e2, hT'⟩ := hT
      obtain ⟨f, hf⟩ := hz ut uw hT'
      exact ⟨f + 1, rx_hd (by omega) (by omega) e1 e2 (fun Q hQ => rx_dp0 hk hm hp h (hQ _ _ _ _ hf))⟩
    · obtain ⟨e1, e2, hT'⟩ := hT
      obtain ⟨f, hf⟩ := hz ut uw hT'
      exact ⟨f + 1, rx_hd (by omega) (by omega) e1 e2 (fun Q hQ => rx_dp4 hk hm hp h (hQ _ _ _ _ hf))⟩
    · obtain ⟨e1, e2, hT'⟩ := hT
      obtain ⟨f, hf⟩ := hz _ _ (rx_Tkp (rx_Tkp hT' rfl) rfl)
      exact ⟨f + 1, rx_hd (by omega) (by omega) e1 e2 (fun Q hQ => rx_dp5 hk hm hn hp hr h (wf (by omega)).2 (hQ _ _ _ _ hf))⟩
    · obtain ⟨e1, e2, hT'⟩ := hT
      have w5 := wf (by omega)
      obtain ⟨f, hf⟩ := hz _ _ (rx_Tkp hT' rfl)
      refine ⟨f + 1, rx_hd (by omega) (by omega) e1 e2 (fun Q hQ => rx_dp6 hk hm hp (by omega) hr h w5.1 ?_)⟩
      rw [if_neg (by rw [ew (fs p) (by omega)]; exact fun z => z he)]
      exact hQ _ _ _ _ hf
    · obtain ⟨e1, e2, hT'⟩ := hT
      have w5 := wf (by omega)
      obtain ⟨f, hf⟩ := hz _ _ (rx_Tkp hT' rfl)
      refine ⟨f + 1, rx_hd (by omega) (by omega) e1 e2 (fun Q hQ => rx_dp6 hk hm hp (by omega) hr h w5.1 ?_)⟩
      rw [if_pos (by rw [ew (fs p) (by omega)]; exact he)]
      exact hQ _ _ _ _ hf
    · obtain ⟨e1, e2, hT'⟩ := hT
      have w5 := wf (by omega)
      obtain ⟨f, hf⟩ := hz _ _ (rx_Tkp (rx_Tkp hT' rfl) rfl)
      exact ⟨f + 1, rx_hd (by omega) (by omega) e1 e2 (fun Q hQ => rx_dp7 hk hm hn hp hi hr h w5.1 (fun z => absurd he ((er w5.1).mp z)) (fun _ => hQ _ _ _ _ hf))⟩
    · obtain ⟨e1, e2, hT'⟩ := hT
      have w5 := wf (by omega)
      obtain ⟨f, hf⟩ := hz ut uw hT'
      refine ⟨f + 1, rx_hd (by omega) (by omega) e1 e2 (fun Q hQ => ?_)⟩
      rcases h with h | h
      · exact rx_dp7 hk hm hn hp hi hr (Or.inl h.1) w5.1 (fun _ => hQ _ _ _ _ hf) (fun z => absurd ((er w5.1).mpr h.2) z)
      · exact rx_dp8 hk hm hp (by omega) h (hQ _ _ _ _ hf)
    · obtain ⟨e1, e2, hT'⟩ := hT
      have w5 := wf (by omega)
      obtain ⟨f, hf⟩ := hz _ _ (rx_Tkp (rx_Tkp hT' rfl) rfl)
      exact ⟨f + 1, rx_hd (by omega) (by omega) e1 e2 (fun Q hQ => rx_dp9 hk hm hp hr h ww.1 w5.1 (hQ _ _ _ _ hf))⟩
  · obtain ⟨e1, e2, hT'⟩ := hT
    obtain ⟨f, hf⟩ := hz ut uw hT'
    exact ⟨f + 1, rx_hm (by omega) hc (by omega) e1 hf⟩
theorem rx_dr2 {post : Int32 → SY → Prop} {x1 x2 : Int32} (H : wY_doRun_2 post x1 x2 ys yd yr yl yw 1 (nI 3) ua ub uc ug uk K A B U ur ut uw (rx_cp uo 0 (fun _ => -4) 3)) : ∀ f k, k ≤ 3 → 3 - k < f → wY_doRun_2 post x1 x2 ys yd yr yl yw f (nI k) ua ub uc ug uk K A B U ur ut uw (rx_cp uo 0 (fun _ => -4) k) := by
  intro f
  induction f with
  | zero => intro k _ h; omega
  | succ f ih =>
    intro k hk hf
    by_cases hk6 : k = 3
    · subst hk6
      exact br_t (by decide : (3 : Int32) ≤ nI 3) (And.left H (by decide))
    · refine br_f (nI_ge (b := 3) (by omega) (by decide)) ?_
      refine And.intro (vp_in_nI (by omega) (by omega)) (nm_r (e' := rx_cp uo 0 (fun _ => -4) (k + 1)) ?_ (nm_r (nI_1 k) (ih (k + 1) (by omega) (by omega))))
      rw [nI_clamp (by omega)]
      have := rx_cps (a := uo) (g := fun _ => -4) (o := 0) (m := k)
      rw [Nat.zero_add] at this
      exact this
/-- the run from i to one of the places of q -/
theorem rx_doRun {post : Int32 → SY → Prop} {kd fs sd dg : Nat → Nat} {m n i : Nat} {q : Int32} (hW : rx_W kd fs sd dg (m + 1)) (hk : rx_lk K A B kd fs sd (m + 1)) (hm : m < 16) (hn : n ≤ 10) (hi : i ≤ n) (hR : ∀ p i, p ≤ m → i ≤ n → rx_Rr kd fs sd (rx_ht U n) n ur p i)
    (hE : rx_Ew kd fs sd (rx_ht U n) n m i q)
    (h : ∀ j s yw ut uw uo, j ≤ n → i ≤ j → bt q j = true → (∀ x, x < 3 → uo x = s x) → (∀ k, rx_Uk n q k → rx_M kd fs sd (rx_ht U n) n m i rx_s0 k = k j s) → post (nI j) (ys, yd, nI m, nI n, yw, ua, ub, uc, ug, uk, K, A, B, U, ur, ut, uw, uo)) :
    wpY_doRun post (ys, yd, nI m, nI n, yw, ua, ub, uc, ug, uk, K, A, B, U, ur, ut, uw, uo) (nI i) q := by
  refine ⟨4, ?_⟩
  have H : wY_doRun_2 post (nI i) q ys yd (nI m) (nI n) yw 1 (nI 3) ua ub uc ug uk K A B U ur ut uw (rx_cp uo 0 (fun _ => -4) 3) := by
    refine br_t (by decide : (3 : Int32) ≤ nI 3) ?_
    refine rx_plan (w := 0) (by omega) ?_
    have Z := rx_ZR (post := post) (ys := ys) (yd := yd) (yr := nI m) (ua := ua) (ub := ub) (uc := uc) (ug := ug) (uk := uk) hW hk (by omega) hn (fun p i hp hi => hR p i (by omega) hi)
    have g0 : ∀ x, x < 3 → rx_cp uo 0 (fun _ => -4) 3 x = rx_s0 x := by
      intro x hx
      rw [rx_cpt hx]
      unfold rx_s0
      rw [if_pos (by omega)]
    obtain ⟨j, s, g, hj, hij, hqj, hg, _, hM, hz⟩ := rx_Zrun hW (rx_htH U n) Z m (by omega) (n - i + 1) i (by omega) hi rx_s0 (rx_cp uo 0 (fun _ => -4) 3) q [] (by simp only [List.length_nil]; omega) g0 hE
    refine hz ?_ _ _ (rx_Tkp (l := []) (ut := ut) (uw := uw) True.intro rfl)
    intro ut' uw' _
    exact ⟨1, br_t (by decide) (h j s _ ut' uw' g hj hij hqj hg hM)⟩
  have := rx_dr2 (uo := uo) H 4 0 (by omega) (by omega)
  rw [rx_cp0] at this
  exact this
end
end
section
/-! the answers, and the reference's find and end -/
section
variable {kd fs sd dg : Nat → Nat} {ht : Nat → Nat → Bool} {n m : Nat}
theorem rx_ors {a b : rx_O} {v : Nat × rx_N} (h : a.or b = some v) : a = some v ∨ b = some v := by
  cases a with
  | none => rw [Option.none_or] at h; exact Or.inr h
  | some x => exact Or.inl h
/-- an answer is one of k's -/
theorem rx_Mk (hW : rx_W kd fs sd dg m) (hH : rx_H ht n) : ∀ p, p < m → ∀ d i, n - i < d → i ≤ n → ∀ s (k : Nat → rx_N → rx_O) v, rx_M kd fs sd ht n p i s k = some v → ∃ j s', i ≤ j ∧ j ≤ n ∧ k j s' = some v := by
  intro p
  induction p using Nat.strongRecOn with
  | ind p ih =>
    intro hp d
    have ww := hW p hp
    induction d with
    | zero => intro i hd; omega
    | succ d ihd =>
      intro i hd hi s k v hv
      have hK : ∀ l s', rx_K kd fs sd ht n p i k l s' = some v → ∃ j s'', i ≤ j ∧ j ≤ n ∧ k j s'' = some v := by
        intro l s' h
        unfold rx_K at h
        by_cases hx : i < l ∧ l ≤ n
        · rw [if_pos hx] at h
          obtain ⟨j, s'', a, b, c⟩ := ihd l (by omega) hx.2 s' k v h
          exact ⟨j, s'', by omega, b, c⟩
        · rw [if_neg hx] at h
          exact absurd h (by simp)
      refine rx_cs ww.1 (fun h => ?_) (fun h => ?_) (fun h => ?_) (fun h => ?_) (fun h => ?_) (fun h => ?_) (fun h => ?_)
      · rw [rx_M0 h] at hv
        by_cases hx : ht (kd p) i = true
        · have := hH _ _ hx
          rw [if_pos hx] at hv
          exact ⟨i + 1, s, by omega, by omega, hv⟩
        · rw [if_neg hx] at hv
          exact absurd hv (by simp)
      · rw [rx_M4 h] at hv
        exact ⟨i, s, Nat.le_refl _, hi, hv⟩
      · have w := ww.2.2.1 (by omega)
        rw [rx_M5 h w] at hv
        obtain ⟨l, s1, a, b, c⟩ := ih _ w.1 (by omega) (n - i + 1) i (by omega) hi s _ v hv
        obtain ⟨j, s2, a2, b2, c2⟩ := ih _ w.2 (by omega) (n - l + 1) l (by omega) b s1 k v c
        exact ⟨j, s2, by omega, b2, c2⟩
      · have w := ww.2.2.1 (by omega)
        rw [rx_M6 h w] at hv
        rcases rx_ors hv with hv | hv
        · exact ih _ w.1 (by omega) (n - i + 1) i (by omega) hi s k v hv
        · exact ih _ w.2 (by omega) (n - i + 1) i (by omega) hi s k v hv
      · have w := ww.2.2.1 (by omega)
        rw [rx_M7 h w] at hv
        rcases rx_ors hv with hv | hv
        · obtain ⟨l, s1, a, b, c⟩ := ih _ w.1 (by omega) (n - i + 1) i (by omega) hi s _ v hv
          exact hK l s1 c
        · exact ⟨i, s, Nat.le_refl _, hi, hv⟩
      · have w := ww.2.2.1 (by omega)
        rw [rx_M8 h w] at hv
        rcases rx_ors hv with hv | hv
        · exact ⟨i, s, Nat.le_refl _, hi, hv⟩
        · obtain ⟨l, s1, a, b, c⟩ := ih _ w.1 (by omega) (n - i + 1) i (by omega) hi s _ v hv
          exact hK l s1 c
      · have w := ww.2.2.1 (by omega)
        rw [rx_M9 h w] at hv
        obtain ⟨l, s1, a, b, c⟩ := ih _ w.1 (by omega) (n - i + 1) i (by omega) hi _ _ v hv
        exact ⟨l, _, a, b, c⟩
end
/-- the answer from place i: the first run of part m that ends where acc takes it -/
def rx_B (kd fs sd : Nat → Nat) (T : Nat → Int32) (n m : Nat) (acc : Nat → Bool) (i : Nat) : rx_O := rx_M kd fs sd (rx_ht T n) n m i rx_s0 (fun j s' => if acc j = true then some (j, s') else none)
section
variable {kd fs sd dg : Nat → Nat} {T : Nat → Int32} {n m i : Nat} {acc : Nat → Bool}
theorem rx_Bk (hW : rx_W kd fs sd dg (m + 1)) (hi : i ≤ n) {j : Nat} {s : rx_N} (h : rx_B kd fs sd T n m acc i = some (j, s)) : i ≤ j ∧ j ≤ n ∧ acc j = true := by
  obtain ⟨j', s', a, b, c⟩ := rx_Mk hW (rx_htH T n) m (by omega) (n - i + 1) i (by omega) hi _ _ _ h
  by_cases ha : acc j' = true
  · rw [if_pos ha] at c
    injection c with c
    injection c with c1 c2
    subst c1
    exact ⟨a, b, ha⟩
  · rw [if_neg ha] at c
    exact absurd c (by simp)
theorem rx_Bn (hW : rx_W kd fs sd dg (m + 1)) (hi : i ≤ n) : rx_B kd fs sd T n m acc i ≠ none ↔ ∃ j, rx_E kd fs sd (rx_ht T n) n m i j ∧ acc j = true := by
  refine rx_Ms' hW (rx_htH T n) (by omega) hi (fun j s _ => ?_)
  by_cases ha : acc j = true
  · rw [if_pos ha]; exact ⟨fun _ => ha, fun _ => by simp⟩
  · rw [if_neg ha]; exact ⟨fun z => absurd rfl z, fun z => absurd z ha⟩
theorem rx_Uk1 {q : Int32} (h : ∀ j, j ≤ n → (acc j = true ↔ bt q j = true)) : rx_Uk n q (fun j s' => if acc j = true then some (j, s') else none) := by
  intro j s hj
  rw [← h j hj]
  show (if acc j = true then some (j, s) else none) ≠ none ↔ _
  by_cases ha : acc j = true
  · rw [if_pos ha]; exact ⟨fun _ => ha, fun _ => by simp⟩
  · rw [if_neg ha]; exact ⟨fun z => absurd rfl z, fun z => absurd z ha⟩
end
theorem rx_FFs {a : Nat → rx_O} {n : Nat} : ∀ d i {i' j : Nat} {s : rx_N}, rx_FF a n d i = some (i', j, s) → i ≤ i' ∧ i' < i + d ∧ a i' = some (j, s) := by
  intro d
  induction d with
  | zero => intro i i' j s h; exact absurd h (by simp [rx_FF])
  | succ d ih =>
    intro i i' j s h
    have h : (match a i with | some (j, s) => some (i, j, s) | none => rx_FF a n d (i + 1)) = some (i', j, s) := h
    cases ha : a i with
    | none =>
      rw [ha] at h
      have := ih (i + 1) h
      exact ⟨by omega, by omega, this.2.2⟩
    | some v =>
      obtain ⟨j0, s0⟩ := v
      rw [ha] at h
      injection h with h
      injection h with h1 h2
      injection h2 with h2 h3
      subst h1 h2 h3
      exact ⟨Nat.le_refl _, by omega, ha⟩
theorem rx_FFc {a b : Nat → rx_O} {n : Nat} : ∀ d i, i + d = n + 1 → (∀ i, i ≤ n → a i = b i) → rx_FF a n d i = rx_FF b n d i := by
  intro d
  induction d with
  | zero => intro i _ _; rfl
  | succ d ih =>
    intro i hi h
    show (match a i with | some (j, s) => some (i, j, s) | none => rx_FF a n d (i + 1)) = (match b i with | some (j, s) => some (i, j, s) | none => rx_FF b n d (i + 1))
    rw [h i (by omega), ih (i + 1) (by omega) h]
/-- the find from v on, v any number -/
def rx_zz (a : Nat → rx_O) (n : Nat) (v : Int32) : Option (Nat × Nat × rx_N) := if v < 0 then none else if nI n < v then none else rx_FF a n (n + 1 - v.toNatClampNeg) v.toNatClampNeg
theorem rx_zzn {a : Nat → rx_O} {n f : Nat} (hn : n ≤ 10) (hf : f ≤ n) : rx_zz a n (nI f) = rx_FF a n (n + 1 - f) f := by
  unfold rx_zz
  rw [if_neg (nI_pos (by omega)), if_neg (nI_nlt hf (by omega)), nI_clamp (by omega)]
/-- a number from 0 to n, or not -/
theorem rx_vc {P : Prop} {n : Nat} (hn : n ≤ 10) (v : Int32) (h1 : v < 0 → P) (h2 : ¬ v < 0 → nI n < v → P) (h3 : ∀ f, f ≤ n → v = nI f → P) : P := by
  by_cases a : v < 0
  · exact h1 a
  · obtain ⟨f, hf, e⟩ := nI_of a
    by_cases b : f ≤ n
    · exact h3 f b e
    · refine h2 a ?_
      rw [e]
      exact nI_lt (by omega) hf
def rx_any : Nat → Bool := fun _ => true
section
variable {ys yd yr yl yw : Int32} {ua ub uc ug uk K A B U ur ut uw uo : Nat → Int32}
variable {kd fs sd dg : Nat → Nat} {m n : Nat}
theorem rx_yf6 {post : Int32 → SY → Prop} {b : Nat → rx_O} {z : Option (Nat × Nat × rx_N)} (hm : m < 16) (hn : n ≤ 10) (hb : ∀ i, i ≤ n → (ur (11 * m + i) = 0 ↔ b i = none))
    (hq : ∀ r, (z = none ∧ r = -4 ∨ ∃ i j s, z = some (i, j, s) ∧ r = nI i) → post r (ys, yd, nI m, nI n, yw, ua, ub, uc, ug, uk, K, A, B, U, ur, ut, uw, uo)) : ∀ d i f, i + d = n + 1 → d < f → rx_FF b n d i = z → wY_find_6 post ys yd (nI m) (nI n) yw ua ub uc ug uk K A B U ur ut uw uo f (nI i) := by
  intro d
  induction d with
  | zero =>
    intro i f hi hf hz
    obtain ⟨f, rfl⟩ : ∃ f', f = f' + 1 := ⟨f - 1, by omega⟩
    exact br_f (nI_pos (by omega)) (br_t (nI_lt (by omega) (by omega)) (hq _ (Or.inl ⟨hz.symm, rfl⟩)))
  | succ d ih =>
    intro i f hi hf hz
    obtain ⟨f, rfl⟩ : ∃ f', f = f' + 1 := ⟨f - 1, by omega⟩
    have hz' : (match b i with | some (j, s) => some (i, j, s) | none => rx_FF b n d (i + 1)) = z := hz
    have hcl : (11 * nI m + nI i).toNatClampNeg = 11 * m + i := by rw [rx_11]; exact nI_clamp (by omega)
    refine br_f (nI_pos (by omega)) (br_f (nI_nlt (by omega) (by omega)) (And.intro (by rw [rx_11]; exact vp_in_nI (by omega) (by omega)) ?_))
    cases hbi : b i with
    | none =>
      rw [hbi] at hz'
      exact br_t (by rw [hcl]; exact (hb i (by omega)).mpr hbi) (nm_r (nI_1 i) (ih (i + 1) f (by omega) (by omega) hz'))
    | some v =>
      obtain ⟨j, s⟩ := v
      rw [hbi] at hz'
      refine br_f (fun h => ?_) (hq _ (Or.inr ⟨i, j, s, hz'.symm, rfl⟩))
      rw [hcl, hb i (by omega), hbi] at h
      exact absurd h (by simp)
/-- the table is right -/
def rx_Tb (kd fs sd : Nat → Nat) (U : Nat → Int32) (n m : Nat) (ur : Nat → Int32) : Prop := ∀ p i, p ≤ m → i ≤ n → rx_Rr kd fs sd (rx_ht U n) n ur p i
theorem rx_Tb0 (hW : rx_W kd fs sd dg (m + 1)) (hT : rx_Tb kd fs sd U n m ur) : ∀ i, i ≤ n → (ur (11 * m + i) = 0 ↔ rx_B kd fs sd U n m rx_any i = none) := by
  intro i hi
  have h1 := rx_Bn (T := U) (acc := rx_any) hW hi
  rw [rx_eq0]
  constructor
  · intro h
    refine rx_nn (fun z => ?_)
    obtain ⟨j, a, _⟩ := h1.mp z
    exact h ⟨j, (hT m i (Nat.le_refl _) hi j).mpr a⟩
  · rintro h ⟨j, a⟩
    exact h1.mpr ⟨j, (hT m i (Nat.le_refl _) hi j).mp a, rfl⟩ h
theorem rx_yfind {post : Int32 → SY → Prop} (hW : rx_W kd fs sd dg (m + 1)) (hk : rx_lk K A B kd fs sd (m + 1)) (hm : m < 16) (hn : n ≤ 10) (v : Int32)
    (hq : ∀ r ur, rx_Tb kd fs sd U n m ur → (rx_zz (rx_B kd fs sd U n m rx_any) n v = none ∧ r = -4 ∨ ∃ i j s, rx_zz (rx_B kd fs sd U n m rx_any) n v = some (i, j, s) ∧ r = nI i) → post r (ys, yd, nI m, nI n, yw, ua, ub, uc, ug, uk, K, A, B, U, ur, ut, uw, uo)) :
    wpY_find post (ys, yd, nI m, nI n, yw, ua, ub, uc, ug, uk, K, A, B, U, ur, ut, uw, uo) v := by
  refine rx_fill hW hk hm hn (fun ur hT => ?_)
  refine rx_vc hn v (fun h => ?_) (fun h0 h => ?_) (fun f hf e => ?_)
  · refine ⟨1, br_t h (hq _ ur hT (Or.inl ⟨?_, rfl⟩))⟩
    unfold rx_zz; rw [if_pos h]
  · refine ⟨1, br_f h0 (br_t h (hq _ ur hT (Or.inl ⟨?_, rfl⟩)))⟩
    unfold rx_zz; rw [if_neg h0, if_pos h]
  · subst e
    exact ⟨n + 2, rx_yf6 hm hn (rx_Tb0 hW hT) (fun r hr => hq r ur hT hr) (n + 1 - f) f (n + 2) (by omega) (by omega) (rx_zzn hn hf).symm⟩
theorem rx_zzi {a : Nat → rx_O} {v : Int32} (hn : n ≤ 10) {i j : Nat} {s : rx_N} (h : rx_zz a n v = some (i, j, s)) : i ≤ n ∧ a i = some (j, s) := by
  refine rx_vc hn v (fun h0 => ?_) (fun h0 h1 => ?_) (fun f hf e => ?_)
  · unfold rx_zz at h; rw [if_pos h0] at h; exact absurd h (by simp)
  · unfold rx_zz at h; rw [if_neg h0, if_pos h1] at h; exact absurd h (by simp)
  · subst e
    rw [rx_zzn hn hf] at h
    have := rx_FFs _ _ h
    exact ⟨by omega, this.2.2⟩
theorem rx_2047 : ∀ j, j < 11 → bt 2047 j = true := by decide +kernel
theorem rx_yend {post : Int32 → SY → Prop} (hW : rx_W kd fs sd dg (m + 1)) (hk : rx_lk K A B kd fs sd (m + 1)) (hm : m < 16) (hn : n ≤ 10) (v : Int32)
    (hq : ∀ r yw ur ut uw uo, (rx_zz (rx_B kd fs sd U n m rx_any) n v = none ∧ r = -4 ∨ ∃ i j s, rx_zz (rx_B kd fs sd U n m rx_any) n v = some (i, j, s) ∧ r = nI j ∧ ∀ x, x < 3 → uo x = s x) → post r (ys, yd, nI m, nI n, yw, ua, ub, uc, ug, uk, K, A, B, U, ur, ut, uw, uo)) :
    wpY_end post (ys, yd, nI m, nI n, yw, ua, ub, uc, ug, uk, K, A, B, U, ur, ut, uw, uo) v := by
  refine rx_yfind hW hk hm hn v (fun r ur hT hr => ?_)
  rcases hr with ⟨hz, hr⟩ | ⟨i, j, s, hz, hr⟩
  · exact br_f (by rw [hr]; decide) (hq _ yw ur ut uw uo (Or.inl ⟨hz, rfl⟩))
  · obtain ⟨hi, hB⟩ := rx_zzi hn hz
    have hBk := rx_Bk hW hi hB
    refine br_t (by rw [hr]; exact nI_pos' (by omega)) ?_
    rw [hr]
    refine rx_doRun hW hk hm hn hi hT ?_ ?_
    · obtain ⟨j0, a, _⟩ := (rx_Bn (T := U) (acc := rx_any) hW hi).mp (by rw [hB]; simp)
      have := rx_Eb' hW (rx_htH U n) (by omega) hi a
      exact ⟨j0, a, rx_2047 j0 (by omega)⟩
    · intro j' s' yw' ut' uw' uo' hj' _ _ hg hM
      have e1 := hM _ (rx_Uk1 (acc := rx_any) (fun j0 hj0 => ⟨fun _ => rx_2047 j0 (by omega), fun _ => rfl⟩))
      have e2 : rx_B kd fs sd U n m rx_any i = some (j', s') := e1
      rw [hB] at e2
      injection e2 with e2
      injection e2 with e2 e3
      subst e2 e3
      exact hq _ yw' ur ut' uw' uo' (Or.inr ⟨i, j, s, hz, rfl, hg⟩)
end
end
section
/-! the questions, each side against the answers rx_B -/
theorem rx_nmg {a : Nat → Int32} {g : Nat} (h : g < 6) : rx_nm a 0 g = a g := by
  unfold rx_nm
  rw [if_pos h, Nat.zero_add]
/-- the loop of count and longest -/
def rx_ct (st : Int32 → Nat → Nat → Int32) (a : Nat → rx_O) (n : Nat) : Nat → Nat → Int32 → Int32
  | 0, _, x => x
  | d + 1, f, x => if n < f then x else match rx_FF a n (n + 1 - f) f with
    | none => x
    | some (i, j, _) => rx_ct st a n d (if j = i then j + 1 else j) (st x i j)
theorem rx_ct0 {st : Int32 → Nat → Nat → Int32} {a : Nat → rx_O} {n d f : Nat} {x : Int32} (h : n < f) : rx_ct st a n d f x = x := by
  cases d with
  | zero => rfl
  | succ d => exact if_pos h
theorem rx_ctn {st : Int32 → Nat → Nat → Int32} {a : Nat → rx_O} {n d f : Nat} {x : Int32} (h : rx_FF a n (n + 1 - f) f = none) : rx_ct st a n (d + 1) f x = x := by
  show (if n < f then x else match rx_FF a n (n + 1 - f) f with | none => x | some (i, j, _) => rx_ct st a n d (if j = i then j + 1 else j) (st x i j)) = x
  rw [h]
  split <;> rfl
theorem rx_cts {st : Int32 → Nat → Nat → Int32} {a : Nat → rx_O} {n d f i j : Nat} {s : rx_N} {x : Int32} (hf : f ≤ n) (h : rx_FF a n (n + 1 - f) f = some (i, j, s)) : rx_ct st a n (d + 1) f x = rx_ct st a n d (if j = i then j + 1 else j) (st x i j) := by
  show (if n < f then x else match rx_FF a n (n + 1 - f) f with | none => x | some (i, j, _) => rx_ct st a n d (if j = i then j + 1 else j) (st x i j)) = _
  rw [h, if_neg (by omega)]
def rx_s1 (x : Int32) (_ _ : Nat) : Int32 := x + 1
def rx_s2 (x : Int32) (i j : Nat) : Int32 := if nI j - nI i ≤ x then x else nI j - nI i
def rx_at (l : Nat) : Nat → Bool := fun j => decide (j = l)
section
variable {xh xm xl xz xn xc xd xw xe : Int32} {vb vg vc vf vs C F S T vt vn wt wn vz vk vi vj va vo : Nat → Int32}
variable {kd fs sd dg : Nat → Nat} {m n e : Nat}
theorem rx_xff {post : Int32 → SX → Prop} {f : Nat} (hP : rx_P C F S e) (hW : rx_W kd fs sd dg (m + 1)) (hy : rx_Y kd fs sd C F S m 0 e) (hn : n ≤ 10) (hf : f ≤ n)
    (hq : ∀ r xc xd xw xe vt vn wt wn vz vk vi vj va vo, rx_Ff n r xe vo (rx_FF (rx_B kd fs sd T n m rx_any) n (n + 1 - f) f) → post r (xh, xm, xl, xz, nI n, xc, xd, xw, xe, vb, vg, vc, vf, vs, C, F, S, T, vt, vn, wt, wn, vz, vk, vi, vj, va, vo)) : wpX_findFrom post (xh, xm, xl, xz, nI n, xc, xd, xw, xe, vb, vg, vc, vf, vs, C, F, S, T, vt, vn, wt, wn, vz, vk, vi, vj, va, vo) (nI f) := by
  refine rx_findFrom hP hn (by omega) ?_
  rw [rx_FFc (a := fun i => rx_A C F S T e n (fun _ => true) i (0, 0, rx_s0)) (b := rx_B kd fs sd T n m rx_any) (n + 1 - f) f (by omega) (fun i hi => rx_top (acc := rx_any) hP hW (by omega) hi hy rx_s0)]
  exact hq
theorem rx_xoff {post : Int32 → Prop} {v : Int32} (hn : n ≤ 10) (h1 : v < 0 ∨ nI n < v → post 1) (h0 : ∀ f, f ≤ n → v = nI f → post 0) : wpX_off post (xh, xm, xl, xz, nI n, xc, xd, xw, xe, vb, vg, vc, vf, vs, C, F, S, T, vt, vn, wt, wn, vz, vk, vi, vj, va, vo) v := by
  refine rx_vc hn v (fun h => br_t h (h1 (Or.inl h))) (fun h h2 => br_f h (br_f (fun z => ?_) (h1 (Or.inr h2)))) (fun f hf ef => ?_)
  · exact absurd h2 (Int32.not_lt.mpr z)
  · refine br_f (by rw [ef]; exact nI_pos (by omega)) (br_t (by rw [ef]; exact nI_le hf (by omega)) (h0 f hf ef))
theorem rx_zzb {a : Nat → rx_O} {v : Int32} (h : v < 0 ∨ nI n < v) : rx_zz a n v = none := by
  unfold rx_zz
  split
  · rfl
  · rw [if_pos (by
      rcases h with h | h
      · rename_i h'; exact absurd h h'
      · exact h)]
theorem rx_xfind {post : Int32 → SX → Prop} {v : Int32} (hP : rx_P C F S e) (hW : rx_W kd fs sd dg (m + 1)) (hy : rx_Y kd fs sd C F S m 0 e) (hn : n ≤ 10)
    (hq : ∀ r xc xd xw xe vt vn wt wn vz vk vi vj va vo, (rx_zz (rx_B kd fs sd T n m rx_any) n v = none ∧ r = -4 ∨ ∃ i j s, rx_zz (rx_B kd fs sd T n m rx_any) n v = some (i, j, s) ∧ r = nI i) → post r (xh, xm, xl, xz, nI n, xc, xd, xw, xe, vb, vg, vc, vf, vs, C, F, S, T, vt, vn, wt, wn, vz, vk, vi, vj, va, vo)) : wpX_find post (xh, xm, xl, xz, nI n, xc, xd, xw, xe, vb, vg, vc, vf, vs, C, F, S, T, vt, vn, wt, wn, vz, vk, vi, vj, va, vo) v := by
  unfold wpX_find
  dsimp only
  refine rx_xoff hn ?_ ?_
  · intro h; exact br_f (by decide) (hq _ _ _ _ _ _ _ _ _ _ _ _ _ _ _ (Or.inl ⟨rx_zzb h, rfl⟩))
  intro f hf ef
  refine br_t rfl ?_
  subst ef
  rw [rx_zzn hn hf] at hq
  refine rx_xff hP hW hy hn hf (fun r xc xd xw xe vt vn wt wn vz vk vi vj va vo h => hq _ _ _ _ _ _ _ _ _ _ _ _ _ _ _ ?_)
  rcases h with h | ⟨i, j, _, _, h1, h2, _⟩
  · exact Or.inl h
  · exact Or.inr ⟨i, j, _, h1, h2⟩
theorem rx_xend {post : Int32 → SX → Prop} {v : Int32} (hP : rx_P C F S e) (hW : rx_W kd fs sd dg (m + 1)) (hy : rx_Y kd fs sd C F S m 0 e) (hn : n ≤ 10)
    (hq : ∀ r xc xd xw xe vt vn wt wn vz vk vi vj va vo, (rx_zz (rx_B kd fs sd T n m rx_any) n v = none ∧ r = -4 ∨ ∃ i j s, rx_zz (rx_B kd fs sd T n m rx_any) n v = some (i, j, s) ∧ r = nI j) → post r (xh, xm, xl, xz, nI n, xc, xd, xw, xe, vb, vg, vc, vf, vs, C, F, S, T, vt, vn, wt, wn, vz, vk, vi, vj, va, vo)) : wpX_end post (xh, xm, xl, xz, nI n, xc, xd, xw, xe, vb, vg, vc, vf, vs, C, F, S, T, vt, vn, wt, wn, vz, vk, vi, vj, va, vo) v := by
  unfold wpX_end
  dsimp only
  refine rx_xoff hn ?_ ?_
  · intro h; exact br_f (by decide) (hq _ _ _ _ _ _ _ _ _ _ _ _ _ _ _ (Or.inl ⟨rx_zzb h, rfl⟩))
  intro f hf ef
  refine br_t rfl ?_
  subst ef
  rw [rx_zzn hn hf] at hq
  refine rx_xff hP hW hy hn hf (fun r xc xd xw xe vt vn wt wn vz vk vi vj va vo h => ?_)
  rcases h with ⟨h1, h2⟩ | ⟨i, j, hi, _, h1, h2, h3⟩
  · exact br_f (by rw [h2]; decide) (hq _ _ _ _ _ _ _ _ _ _ _ _ _ _ _ (Or.inl ⟨h1, rfl⟩))
  · exact br_t (by rw [h2]; exact nI_pos' (by omega)) (hq _ _ _ _ _ _ _ _ _ _ _ _ _ _ _ (Or.inr ⟨i, j, _, h1, h3⟩))
theorem rx_xgin {post : Int32 → SX → Prop} {v : Int32} {g : Nat} (hP : rx_P C F S e) (hW : rx_W kd fs sd dg (m + 1)) (hy : rx_Y kd fs sd C F S m 0 e) (hn : n ≤ 10) (hg : g < 3)
    (hq : ∀ r xc xd xw xe vt vn wt wn vz vk vi vj va vo, (rx_zz (rx_B kd fs sd T n m rx_any) n v = none ∧ r = -4 ∨ ∃ i j s, rx_zz (rx_B kd fs sd T n m rx_any) n v = some (i, j, s) ∧ r = s g) → post r (xh, xm, xl, xz, nI n, xc, xd, xw, xe, vb, vg, vc, vf, vs, C, F, S, T, vt, vn, wt, wn, vz, vk, vi, vj, va, vo)) : wpX_groupIn post (xh, xm, xl, xz, nI n, xc, xd, xw, xe, vb, vg, vc, vf, vs, C, F, S, T, vt, vn, wt, wn, vz, vk, vi, vj, va, vo) v (nI g) := by
  unfold wpX_groupIn
  dsimp only
  refine rx_xoff hn ?_ ?_
  · intro h; exact br_f (by decide) (hq _ _ _ _ _ _ _ _ _ _ _ _ _ _ _ (Or.inl ⟨rx_zzb h, rfl⟩))
  intro f hf ef
  refine br_t rfl ?_
  subst ef
  rw [rx_zzn hn hf] at hq
  refine br_f (nI_pos (by omega)) (br_t (nI_le (b := 2) (by omega) (by decide)) ?_)
  refine rx_xff hP hW hy hn hf (fun r xc xd xw xe vt vn wt wn vz vk vi vj va vo h => ?_)
  rcases h with ⟨h1, h2⟩ | ⟨i, j, hi, _, h1, h2, h3⟩
  · exact br_f (by rw [h2]; decide) (hq _ _ _ _ _ _ _ _ _ _ _ _ _ _ _ (Or.inl ⟨h1, rfl⟩))
  · refine br_t (by rw [h2]; exact nI_pos' (by omega)) (And.intro (vp_in_nI (by omega) (by omega)) (hq _ _ _ _ _ _ _ _ _ _ _ _ _ _ _ (Or.inr ⟨i, j, _, h1, ?_⟩)))
    rw [rx_nmg (by omega), nI_clamp (by omega)]
theorem rx_xsp {post : Int32 → SX → Prop} {i j : Nat} (hP : rx_P C F S e) (hW : rx_W kd fs sd dg (m + 1)) (hy : rx_Y kd fs sd C F S m 0 e) (hn : n ≤ 10) (hi : i ≤ n) (hj : j ≤ n)
    (hq : ∀ xc xd xw xe vt vn wt wn vz vk vi vj va vo, post (if (rx_B kd fs sd T n m (rx_at j) i).isSome = true then 1 else 0) (xh, xm, xl, xz, nI n, xc, xd, xw, xe, vb, vg, vc, vf, vs, C, F, S, T, vt, vn, wt, wn, vz, vk, vi, vj, va, vo)) : wpX_spans post (xh, xm, xl, xz, nI n, xc, xd, xw, xe, vb, vg, vc, vf, vs, C, F, S, T, vt, vn, wt, wn, vz, vk, vi, vj, va, vo) (nI i) (nI j) := by
  unfold wpX_spans
  dsimp only
  refine rx_xoff hn ?_ ?_
  · rintro (h | h)
    · exact absurd h (nI_pos (by omega))
    · exact absurd h (nI_nlt hi (by omega))
  intro f hf ef
  refine br_t rfl ?_
  refine rx_xoff hn ?_ ?_
  · rintro (h | h)
    · exact absurd h (nI_pos (by omega))
    · exact absurd h (nI_nlt hj (by omega))
  intro f hf ef
  refine br_t rfl ?_
  · refine rx_search (acc := rx_at j) hP hn hi (fun l hl => ?_) (fun xc xd xw xe vt vn wt wn vz vk vi vj va vo h => ?_)
    · unfold rx_at
      rw [decide_eq_true_iff]
      constructor
      · intro z; right; rw [z]
      · rintro (z | z)
        · exact absurd z (nI_pos (by omega))
        · exact ((nI_eq (by omega) (by omega)).mp z).symm
    · rw [rx_top (acc := rx_at j) hP hW (by omega) hi hy rx_s0] at h
      have h : rx_Fd n xe vo (rx_B kd fs sd T n m (rx_at j) i) := h
      rcases h with ⟨h1, h2⟩ | ⟨l, hl, h1, h2⟩
      · rw [h1] at hq
        refine br_f (fun z => ?_) (hq _ _ _ _ _ _ _ _ _ _ _ _ _ _)
        have z : xe = nI j := z
        have : nI j < 0 := by rw [← z, h2]; decide
        exact nI_pos (by omega) this
      · have := (rx_Bk hW hi h1).2.2
        have : l = j := of_decide_eq_true this
        subst this
        rw [h1] at hq
        exact br_t h2 (hq _ _ _ _ _ _ _ _ _ _ _ _ _ _)
theorem rx_xsb {post : Int32 → SX → Prop} {v w : Int32} (hn : n ≤ 10) (hb : (v < 0 ∨ nI n < v) ∨ (w < 0 ∨ nI n < w)) (hq : post 0 (xh, xm, xl, xz, nI n, xc, xd, xw, xe, vb, vg, vc, vf, vs, C, F, S, T, vt, vn, wt, wn, vz, vk, vi, vj, va, vo)) : wpX_spans post (xh, xm, xl, xz, nI n, xc, xd, xw, xe, vb, vg, vc, vf, vs, C, F, S, T, vt, vn, wt, wn, vz, vk, vi, vj, va, vo) v w := by
  unfold wpX_spans
  dsimp only
  refine rx_xoff hn ?_ ?_
  · intro h; exact br_f (by decide) hq
  intro f hf ef
  refine br_t rfl ?_
  refine rx_xoff hn ?_ ?_
  · intro h; exact br_f (by decide) hq
  intro f' hf' ef'
  refine absurd hb ?_
  subst ef ef'
  rintro ((h | h) | (h | h))
  · exact nI_pos (by omega) h
  · exact nI_nlt hf (by omega) h
  · exact nI_pos (by omega) h
  · exact nI_nlt hf' (by omega) h
theorem rx_xgw {post : Int32 → SX → Prop} {g : Nat} (hP : rx_P C F S e) (hW : rx_W kd fs sd dg (m + 1)) (hy : rx_Y kd fs sd C F S m 0 e) (hn : n ≤ 10) (hg : g < 3)
    (hq : ∀ r xc xd xw xe vt vn wt wn vz vk vi vj va vo, (rx_B kd fs sd T n m (rx_at n) 0 = none ∧ r = -4 ∨ ∃ j s, rx_B kd fs sd T n m (rx_at n) 0 = some (j, s) ∧ r = s g) → post r (xh, xm, xl, xz, nI n, xc, xd, xw, xe, vb, vg, vc, vf, vs, C, F, S, T, vt, vn, wt, wn, vz, vk, vi, vj, va, vo)) : wpX_groupInWhole post (xh, xm, xl, xz, nI n, xc, xd, xw, xe, vb, vg, vc, vf, vs, C, F, S, T, vt, vn, wt, wn, vz, vk, vi, vj, va, vo) (nI g) := by
  refine br_f (nI_pos (by omega)) (br_t (nI_le (b := 2) (by omega) (by decide)) ?_)
  refine rx_search (i := 0) (acc := rx_at n) hP hn (by omega) (fun l hl => ?_) (fun xc xd xw xe vt vn wt wn vz vk vi vj va vo h => ?_)
  · unfold rx_at
    rw [decide_eq_true_iff]
    constructor
    · intro z; right; rw [z]
    · rintro (z | z)
      · exact absurd z (nI_pos (by omega))
      · exact ((nI_eq (by omega) (by omega)).mp z).symm
  · rw [rx_top (acc := rx_at n) hP hW (by omega) (by omega) hy rx_s0] at h
    have h : rx_Fd n xe vo (rx_B kd fs sd T n m (rx_at n) 0) := h
    rcases h with ⟨h1, h2⟩ | ⟨l, hl, h1, h2⟩
    · exact br_f (by rw [h2]; decide) (hq _ _ _ _ _ _ _ _ _ _ _ _ _ _ _ (Or.inl ⟨h1, rfl⟩))
    · refine br_t (by rw [h2]; exact nI_pos' (by omega)) (And.intro (vp_in_nI (by omega) (by omega)) (hq _ _ _ _ _ _ _ _ _ _ _ _ _ _ _ (Or.inr ⟨l, _, h1, ?_⟩)))
      rw [rx_nmg (by omega), nI_clamp (by omega)]
theorem rx_xct {post : Int32 → SX → Prop} {R : Int32} (hP : rx_P C F S e) (hW : rx_W kd fs sd dg (m + 1)) (hy : rx_Y kd fs sd C F S m 0 e) (hn : n ≤ 10)
    (hq : ∀ xc xd xw xe vt vn wt wn vz vk vi vj va vo, post R (xh, xm, xl, xz, nI n, xc, xd, xw, xe, vb, vg, vc, vf, vs, C, F, S, T, vt, vn, wt, wn, vz, vk, vi, vj, va, vo)) :
    ∀ d fu f rd x xc xd xw xe vt vn wt wn vz vk vi vj va vo, n + 1 - f ≤ d → d < fu → f ≤ n + 1 → rd ≤ f → rx_ct rx_s1 (rx_B kd fs sd T n m rx_any) n d f x = R → wX_count_6 post fu x (nI f) (nI rd) xh xm xl xz (nI n) xc xd xw xe vb vg vc vf vs C F S T vt vn wt wn vz vk vi vj va vo := by
  intro d
  induction d with
  | zero =>
    intro fu f rd x xc xd xw xe vt vn wt wn vz vk vi vj va vo hd hfu hf hrd hR
    obtain ⟨fu, rfl⟩ : ∃ f', fu = f' + 1 := ⟨fu - 1, by omega⟩
    have hR' : x = R := by rw [← hR]; exact (rx_ct0 (by omega)).symm
    subst hR'
    exact br_c (fun _ => hq _ _ _ _ _ _ _ _ _ _ _ _ _ _) (fun _ => br_t (nI_lt (by omega) (by omega)) (hq _ _ _ _ _ _ _ _ _ _ _ _ _ _))
  | succ d ih =>
    intro fu f rd x xc xd xw xe vt vn wt wn vz vk vi vj va vo hd hfu hf hrd hR
    obtain ⟨fu, rfl⟩ : ∃ f', fu = f' + 1 := ⟨fu - 1, by omega⟩
    by_cases hfn : n < f
    · have hR' : x = R := by rw [← hR]; exact (rx_ct0 hfn).symm
      subst hR'
      exact br_c (fun _ => hq _ _ _ _ _ _ _ _ _ _ _ _ _ _) (fun _ => br_t (nI_lt (by omega) (by omega)) (hq _ _ _ _ _ _ _ _ _ _ _ _ _ _))
    · refine br_f (nI_nlt (a := 10) (b := rd) (by omega) (by omega)) (br_f (nI_nlt (by omega) (by omega)) ?_)
      refine rx_xff hP hW hy hn (by omega) (fun r xc xd xw xe vt vn wt wn vz vk vi vj va vo h => ?_)
      rcases h with ⟨h1, h2⟩ | ⟨i, j, hi, hj, h1, h2, h3⟩
      · have hR' : x = R := by rw [← hR]; exact (rx_ctn h1).symm
        subst hR'
        exact br_f (by rw [h2]; decide) (hq _ _ _ _ _ _ _ _ _ _ _ _ _ _)
      · rw [rx_cts (by omega) h1] at hR
        have hs := rx_FFs _ _ h1
        have hk := rx_Bk hW hi hs.2.2
        subst h2 h3
        refine br_t (nI_pos' (by omega)) (nm_r rfl ?_)
        refine pk_le j i (fun hji => ?_) (fun hji => ?_)
        · rw [if_pos (by omega)] at hR
          exact nm_r (nI_1 j) (nm_r (nI_1 rd) (ih fu (j + 1) (rd + 1) _ _ _ _ _ _ _ _ _ _ _ _ _ _ _ (by omega) (by omega) (by omega) (by omega) hR))
        · rw [if_neg (by omega)] at hR
          exact nm_r (nI_1 rd) (ih fu j (rd + 1) _ _ _ _ _ _ _ _ _ _ _ _ _ _ _ (by omega) (by omega) (by omega) (by omega) hR)
theorem rx_xlg {post : Int32 → SX → Prop} {R : Int32} (hP : rx_P C F S e) (hW : rx_W kd fs sd dg (m + 1)) (hy : rx_Y kd fs sd C F S m 0 e) (hn : n ≤ 10)
    (hq : ∀ xc xd xw xe vt vn wt wn vz vk vi vj va vo, post R (xh, xm, xl, xz, nI n, xc, xd, xw, xe, vb, vg, vc, vf, vs, C, F, S, T, vt, vn, wt, wn, vz, vk, vi, vj, va, vo)) :
    ∀ d fu f rd x xc xd xw xe vt vn wt wn vz vk vi vj va vo, n + 1 - f ≤ d → d < fu → f ≤ n + 1 → rd ≤ f → rx_ct rx_s2 (rx_B kd fs sd T n m rx_any) n d f x = R → wX_longest_7 post fu x (nI f) (nI rd) xh xm xl xz (nI n) xc xd xw xe vb vg vc vf vs C F S T vt vn wt wn vz vk vi vj va vo := by
  intro d
  induction d with
  | zero =>
    intro fu f rd x xc xd xw xe vt vn wt wn vz vk vi vj va vo hd hfu hf hrd hR
    obtain ⟨fu, rfl⟩ : ∃ f', fu = f' + 1 := ⟨fu - 1, by omega⟩
    have hR' : x = R := by rw [← hR]; exact (rx_ct0 (by omega)).symm
    subst hR'
    exact br_c (fun _ => hq _ _ _ _ _ _ _ _ _ _ _ _ _ _) (fun _ => br_t (nI_lt (by omega) (by omega)) (hq _ _ _ _ _ _ _ _ _ _ _ _ _ _))
  | succ d ih =>
    intro fu f rd x xc xd xw xe vt vn wt wn vz vk vi vj va vo hd hfu hf hrd hR
    obtain ⟨fu, rfl⟩ : ∃ f', fu = f' + 1 := ⟨fu - 1, by omega⟩
    by_cases hfn : n < f
    · have hR' : x = R := by rw [← hR]; exact (rx_ct0 hfn).symm
      subst hR'
      exact br_c (fun _ => hq _ _ _ _ _ _ _ _ _ _ _ _ _ _) (fun _ => br_t (nI_lt (by omega) (by omega)) (hq _ _ _ _ _ _ _ _ _ _ _ _ _ _))
    · refine br_f (nI_nlt (a := 10) (b := rd) (by omega) (by omega)) (br_f (nI_nlt (by omega) (by omega)) ?_)
      refine rx_xff hP hW hy hn (by omega) (fun r xc xd xw xe vt vn wt wn vz vk vi vj va vo h => ?_)
      rcases h with ⟨h1, h2⟩ | ⟨i, j, hi, hj, h1, h2, h3⟩
      · have hR' : x = R := by rw [← hR]; exact (rx_ctn h1).symm
        subst hR'
        exact br_f (by rw [h2]; decide) (hq _ _ _ _ _ _ _ _ _ _ _ _ _ _)
      · rw [rx_cts (by omega) h1] at hR
        have hs := rx_FFs _ _ h1
        have hk := rx_Bk hW hi hs.2.2
        subst h2 h3
        have go : ∀ y, rx_ct rx_s2 (rx_B kd fs sd T n m rx_any) n d (if j = i then j + 1 else j) y = R → wX_longest_57 post (wX_longest_7 post fu) (nI rd) (nI i) y xh xm xl xz (nI n) xc xd xw (nI j) vb vg vc vf vs C F S T vt vn wt wn vz vk vi vj va vo := by
          intro y hR
          refine pk_le j i (fun hji => ?_) (fun hji => ?_)
          · rw [if_pos (by omega)] at hR
            exact nm_r (nI_1 j) (nm_r (nI_1 rd) (ih fu (j + 1) (rd + 1) _ _ _ _ _ _ _ _ _ _ _ _ _ _ _ (by omega) (by omega) (by omega) (by omega) hR))
          · rw [if_neg (by omega)] at hR
            exact nm_r (nI_1 rd) (ih fu j (rd + 1) _ _ _ _ _ _ _ _ _ _ _ _ _ _ _ (by omega) (by omega) (by omega) (by omega) hR)
        refine br_t (nI_pos' (by omega)) ?_
        by_cases hle : nI j - nI i ≤ x
        · rw [show rx_s2 x i j = x from if_pos hle] at hR
          exact br_t hle (go _ hR)
        · rw [show rx_s2 x i j = nI j - nI i from if_neg hle] at hR
          exact br_f hle (go _ hR)
end
end
section
section
variable {ys yd yr yl yw : Int32} {ua ub uc ug uk K A B U ur ut uw uo : Nat → Int32}
variable {kd fs sd dg : Nat → Nat} {m n : Nat}
theorem rx_ygin {post : Int32 → SY → Prop} {v : Int32} {g : Nat} (hW : rx_W kd fs sd dg (m + 1)) (hk : rx_lk K A B kd fs sd (m + 1)) (hm : m < 16) (hn : n ≤ 10) (hg : g < 3)
    (hq : ∀ r yw ur ut uw uo, (rx_zz (rx_B kd fs sd U n m rx_any) n v = none ∧ r = -4 ∨ ∃ i j s, rx_zz (rx_B kd fs sd U n m rx_any) n v = some (i, j, s) ∧ r = s g) → post r (ys, yd, nI m, nI n, yw, ua, ub, uc, ug, uk, K, A, B, U, ur, ut, uw, uo)) : wpY_groupIn post (ys, yd, nI m, nI n, yw, ua, ub, uc, ug, uk, K, A, B, U, ur, ut, uw, uo) v (nI g) := by
  unfold wpY_groupIn
  dsimp only
  refine rx_yend hW hk hm hn v ?_
  intro r yw ur ut uw uo h
  rcases h with ⟨h1, h2⟩ | ⟨i, j, s, h1, h2, h3⟩
  · exact br_t (by rw [h2]; decide) (hq _ _ _ _ _ _ (Or.inl ⟨h1, rfl⟩))
  · have hj := (rx_Bk hW (rx_zzi hn h1).1 (rx_zzi hn h1).2).2.1
    refine br_f (by rw [h2]; exact nI_pos (by omega)) (br_f (nI_pos (by omega)) (br_t (nI_le (b := 2) (by omega) (by decide)) (And.intro (vp_in_nI (by omega) (by omega)) (hq _ _ _ _ _ _ (Or.inr ⟨i, j, s, h1, ?_⟩)))))
    rw [nI_clamp (by omega)]
    exact h3 g hg
/-- a group that isn't there -/
theorem rx_ygb {post : Int32 → SY → Prop} {v w : Int32} (hW : rx_W kd fs sd dg (m + 1)) (hk : rx_lk K A B kd fs sd (m + 1)) (hm : m < 16) (hn : n ≤ 10) (hw : w < 0 ∨ ¬ w ≤ 2)
    (hq : ∀ yw ur ut uw uo, post (-4) (ys, yd, nI m, nI n, yw, ua, ub, uc, ug, uk, K, A, B, U, ur, ut, uw, uo)) : wpY_groupIn post (ys, yd, nI m, nI n, yw, ua, ub, uc, ug, uk, K, A, B, U, ur, ut, uw, uo) v w := by
  unfold wpY_groupIn
  dsimp only
  refine rx_yend hW hk hm hn v ?_
  intro r yw ur ut uw uo h
  refine br_c (fun _ => hq _ _ _ _ _) (fun _ => br_c (fun _ => hq _ _ _ _ _) (fun h0 => br_f (hw.elim (fun z => absurd z h0) (fun z => z)) (hq _ _ _ _ _)))
theorem rx_ysp {post : Int32 → SY → Prop} {i j : Nat} (hW : rx_W kd fs sd dg (m + 1)) (hk : rx_lk K A B kd fs sd (m + 1)) (hm : m < 16) (hn : n ≤ 10) (hi : i ≤ n) (hj : j ≤ n)
    (hq : ∀ ur, rx_Tb kd fs sd U n m ur → post (if (rx_B kd fs sd U n m (rx_at j) i).isSome = true then 1 else 0) (ys, yd, nI m, nI n, yw, ua, ub, uc, ug, uk, K, A, B, U, ur, ut, uw, uo)) : wpY_spans post (ys, yd, nI m, nI n, yw, ua, ub, uc, ug, uk, K, A, B, U, ur, ut, uw, uo) (nI i) (nI j) := by
  refine br_f (nI_pos (by omega)) (br_f (nI_nlt hi (by omega)) (br_f (nI_pos (by omega)) (br_t (nI_le hj (by omega)) ?_)))
  refine rx_fill hW hk hm hn (fun ur hT => ?_)
  refine And.intro (by rw [rx_11]; exact vp_in_nI (by omega) (by omega)) ?_
  rw [rx_11, nI_clamp (by omega)]
  have hb := hT m i (Nat.le_refl _) hi j
  have hB := rx_Bn (T := U) (acc := rx_at j) hW hi
  have hE : rx_E kd fs sd (rx_ht U n) n m i j ↔ rx_B kd fs sd U n m (rx_at j) i ≠ none := by
    rw [hB]
    constructor
    · intro h; exact ⟨j, h, decide_eq_true rfl⟩
    · rintro ⟨j', a, b⟩
      have : j' = j := of_decide_eq_true b
      rw [← this]; exact a
  have hP := hq ur hT
  by_cases hx : bt (ur (11 * m + i)) j = true
  · have h1 : (rx_B kd fs sd U n m (rx_at j) i).isSome = true := by
      cases hc : rx_B kd fs sd U n m (rx_at j) i with
      | none => exact absurd hc (hE.mp (hb.mp hx))
      | some v => rfl
    rw [if_pos h1] at hP
    exact br_t ((rx_bit (by omega)).mpr hx) hP
  · have h1 : ¬ (rx_B kd fs sd U n m (rx_at j) i).isSome = true := by
      cases hc : rx_B kd fs sd U n m (rx_at j) i with
      | none => simp
      | some v => exact absurd (hb.mpr (hE.mpr (by rw [hc]; simp))) hx
    rw [if_neg h1] at hP
    exact br_f (fun z => hx ((rx_bit (by omega)).mp z)) hP
theorem rx_ysb {post : Int32 → SY → Prop} {v w : Int32} (hb : (v < 0 ∨ nI n < v) ∨ (w < 0 ∨ nI n < w)) (hq : post 0 (ys, yd, yr, nI n, yw, ua, ub, uc, ug, uk, K, A, B, U, ur, ut, uw, uo)) : wpY_spans post (ys, yd, yr, nI n, yw, ua, ub, uc, ug, uk, K, A, B, U, ur, ut, uw, uo) v w := by
  refine br_c (fun _ => hq) (fun h1 => br_c (fun _ => hq) (fun h2 => br_c (fun _ => hq) (fun h3 => br_f (fun h4 => ?_) hq)))
  rcases hb with (h | h) | (h | h)
  · exact h1 h
  · exact h2 h
  · exact h3 h
  · exact absurd h (Int32.not_lt.mpr h4)
theorem rx_ygw {post : Int32 → SY → Prop} {g : Nat} (hW : rx_W kd fs sd dg (m + 1)) (hk : rx_lk K A B kd fs sd (m + 1)) (hm : m < 16) (hn : n ≤ 10) (hg : g < 3)
    (hq : ∀ r yw ur ut uw uo, (rx_B kd fs sd U n m (rx_at n) 0 = none ∧ r = -4 ∨ ∃ j s, rx_B kd fs sd U n m (rx_at n) 0 = some (j, s) ∧ r = s g) → post r (ys, yd, nI m, nI n, yw, ua, ub, uc, ug, uk, K, A, B, U, ur, ut, uw, uo)) : wpY_groupInWhole post (ys, yd, nI m, nI n, yw, ua, ub, uc, ug, uk, K, A, B, U, ur, ut, uw, uo) (nI g) := by
  refine br_f (nI_pos (by omega)) (br_f (nI_nlt (a := 2) (by omega) (by decide)) ?_)
  refine rx_ysp (i := 0) (j := n) hW hk hm hn (by omega) (Nat.le_refl _) (fun ur hT => ?_)
  cases hB : rx_B kd fs sd U n m (rx_at n) 0 with
  | none => exact br_t rfl (hq _ _ _ _ _ _ (Or.inl ⟨hB, rfl⟩))
  | some v =>
    obtain ⟨j, s⟩ := v
    refine br_f (by show ¬ (1 : Int32) = 0; decide) ?_
    refine rx_doRun (i := 0) hW hk hm hn (by omega) hT ?_ ?_
    · obtain ⟨j0, a, b⟩ := (rx_Bn (T := U) (acc := rx_at n) (i := 0) hW (by omega)).mp (by rw [hB]; simp)
      have : j0 = n := of_decide_eq_true b
      exact ⟨j0, a, (rx_shl1 hn).mpr this⟩
    · intro j' s' yw' ut' uw' uo' hj' _ hqj hgg hM
      have e1 := hM _ (rx_Uk1 (acc := rx_at n) (fun j0 hj0 => by
        rw [rx_shl1 hn]; unfold rx_at; rw [decide_eq_true_iff]))
      rw [if_pos (show rx_at n j' = true from decide_eq_true ((rx_shl1 hn).mp hqj))] at e1
      have e2 : rx_B kd fs sd U n m (rx_at n) 0 = some (j', s') := e1
      refine And.intro (vp_in_nI (by omega) (by omega)) (hq _ _ _ _ _ _ (Or.inr ⟨j', s', e2, ?_⟩))
      rw [nI_clamp (by omega)]
      exact hgg g hg
theorem rx_yct {post : Int32 → SY → Prop} {R : Int32} (hW : rx_W kd fs sd dg (m + 1)) (hk : rx_lk K A B kd fs sd (m + 1)) (hm : m < 16) (hn : n ≤ 10)
    (hq : ∀ yw ur ut uw uo, post R (ys, yd, nI m, nI n, yw, ua, ub, uc, ug, uk, K, A, B, U, ur, ut, uw, uo)) :
    ∀ d fu f x yw ur ut uw uo, n + 1 - f ≤ d → d < fu → f ≤ n + 1 → rx_ct rx_s1 (rx_B kd fs sd U n m rx_any) n d f x = R → wY_count_4 post fu x (nI f) ys yd (nI m) (nI n) yw ua ub uc ug uk K A B U ur ut uw uo := by
  intro d
  induction d with
  | zero =>
    intro fu f x yw ur ut uw uo hd hfu hf hR
    obtain ⟨fu, rfl⟩ : ∃ f', fu = f' + 1 := ⟨fu - 1, by omega⟩
    have hR' : x = R := by rw [← hR]; exact (rx_ct0 (by omega)).symm
    subst hR'
    exact br_t (nI_lt (by omega) (by omega)) (hq _ _ _ _ _)
  | succ d ih =>
    intro fu f x yw ur ut uw uo hd hfu hf hR
    obtain ⟨fu, rfl⟩ : ∃ f', fu = f' + 1 := ⟨fu - 1, by omega⟩
    by_cases hfn : n < f
    · have hR' : x = R := by rw [← hR]; exact (rx_ct0 hfn).symm
      subst hR'
      exact br_t (nI_lt (by omega) (by omega)) (hq _ _ _ _ _)
    · have ez := rx_zzn (a := rx_B kd fs sd U n m rx_any) hn (show f ≤ n by omega)
      refine br_f (nI_nlt (by omega) (by omega)) ?_
      refine rx_yfind hW hk hm hn (nI f) ?_
      intro r1 ur1 _ h1
      rcases h1 with ⟨h1, h2⟩ | ⟨i, j, s, h1, h2⟩
      · rw [ez] at h1
        have hR' : x = R := by rw [← hR]; exact (rx_ctn h1).symm
        subst hR'
        exact br_t (by rw [h2]; decide) (hq _ _ _ _ _)
      · obtain ⟨hi, hB⟩ := rx_zzi hn h1
        have hbk := rx_Bk hW hi hB
        have hs := rx_FFs (n := n) _ _ (by rw [← ez]; exact h1)
        rw [rx_cts (by omega) (by rw [← ez]; exact h1)] at hR
        refine br_f (by rw [h2]; exact nI_pos (by omega)) ?_
        refine rx_yfind hW hk hm hn (nI f) ?_
        intro r2 ur2 _ h3
        refine rx_yend hW hk hm hn (nI f) ?_
        intro r3 yw' ur3 ut' uw' uo' h4
        rw [h1] at h3 h4
        rcases h3 with ⟨h3, _⟩ | ⟨i2, j2, s2, h3, h3r⟩
        · exact absurd h3 (by simp)
        rcases h4 with ⟨h4, _⟩ | ⟨i3, j3, s3, h4, h4r, _⟩
        · exact absurd h4 (by simp)
        injection h3 with h3
        injection h3 with h3 _
        injection h4 with h4
        injection h4 with _ h4
        injection h4 with h4 _
        subst h3 h4 h3r h4r
        refine nm_r rfl ?_
        refine pk_eq j i (fun hji => ?_) (fun hji => ?_)
        · rw [if_pos hji] at hR
          exact nm_r (nI_1 j) (ih fu (j + 1) _ _ _ _ _ _ (by omega) (by omega) (by omega) hR)
        · rw [if_neg hji] at hR
          exact ih fu j _ _ _ _ _ _ (by omega) (by omega) (by omega) hR
theorem rx_ylg {post : Int32 → SY → Prop} {R : Int32} (hW : rx_W kd fs sd dg (m + 1)) (hk : rx_lk K A B kd fs sd (m + 1)) (hm : m < 16) (hn : n ≤ 10)
    (hq : ∀ yw ur ut uw uo, post R (ys, yd, nI m, nI n, yw, ua, ub, uc, ug, uk, K, A, B, U, ur, ut, uw, uo)) :
    ∀ d fu f x yw ur ut uw uo, n + 1 - f ≤ d → d < fu → f ≤ n + 1 → rx_ct rx_s2 (rx_B kd fs sd U n m rx_any) n d f x = R → wY_longest_5 post fu x (nI f) ys yd (nI m) (nI n) yw ua ub uc ug uk K A B U ur ut uw uo := by
  intro d
  induction d with
  | zero =>
    intro fu f x yw ur ut uw uo hd hfu hf hR
    obtain ⟨fu, rfl⟩ : ∃ f', fu = f' + 1 := ⟨fu - 1, by omega⟩
    have hR' : x = R := by rw [← hR]; exact (rx_ct0 (by omega)).symm
    subst hR'
    exact br_t (nI_lt (by omega) (by omega)) (hq _ _ _ _ _)
  | succ d ih =>
    intro fu f x yw ur ut uw uo hd hfu hf hR
    obtain ⟨fu, rfl⟩ : ∃ f', fu = f' + 1 := ⟨fu - 1, by omega⟩
    by_cases hfn : n < f
    · have hR' : x = R := by rw [← hR]; exact (rx_ct0 hfn).symm
      subst hR'
      exact br_t (nI_lt (by omega) (by omega)) (hq _ _ _ _ _)
    · have ez := rx_zzn (a := rx_B kd fs sd U n m rx_any) hn (show f ≤ n by omega)
      refine br_f (nI_nlt (by omega) (by omega)) ?_
      refine rx_yfind hW hk hm hn (nI f) ?_
      intro r1 ur1 _ h1
      rcases h1 with ⟨h1, h2⟩ | ⟨i, j, s, h1, h2⟩
      · rw [ez] at h1
        have hR' : x = R := by rw [← hR]; exact (rx_ctn h1).symm
        subst hR'
        exact br_t (by rw [h2]; decide) (hq _ _ _ _ _)
      · obtain ⟨hi, hB⟩ := rx_zzi hn h1
        have hbk := rx_Bk hW hi hB
        have hs := rx_FFs (n := n) _ _ (by rw [← ez]; exact h1)
        rw [rx_cts (by omega) (by rw [← ez]; exact h1)] at hR
        refine br_f (by rw [h2]; exact nI_pos (by omega)) ?_
        refine rx_yfind hW hk hm hn (nI f) ?_
        intro r2 ur2 _ h3
        refine rx_yend hW hk hm hn (nI f) ?_
        intro r3 yw' ur3 ut' uw' uo' h4
        rw [h1] at h3 h4
        rcases h3 with ⟨h3, _⟩ | ⟨i2, j2, s2, h3, h3r⟩
        · exact absurd h3 (by simp)
        rcases h4 with ⟨h4, _⟩ | ⟨i3, j3, s3, h4, h4r, _⟩
        · exact absurd h4 (by simp)
        injection h3 with h3
        injection h3 with h3 _
        injection h4 with h4
        injection h4 with _ h4
        injection h4 with h4 _
        subst h3 h4 h3r h4r
        have go : ∀ y, rx_ct rx_s2 (rx_B kd fs sd U n m rx_any) n d (if j = i then j + 1 else j) y = R → wY_longest_50 post (wY_longest_5 post fu) (nI i) (nI j) y ys yd (nI m) (nI n) yw' ua ub uc ug uk K A B U ur3 ut' uw' uo' := by
          intro y hR
          refine pk_eq j i (fun hji => ?_) (fun hji => ?_)
          · rw [if_pos hji] at hR
            exact nm_r (nI_1 j) (ih fu (j + 1) _ _ _ _ _ _ (by omega) (by omega) (by omega) hR)
          · rw [if_neg hji] at hR
            exact ih fu j _ _ _ _ _ _ (by omega) (by omega) (by omega) hR
        by_cases hle : nI j - nI i ≤ x
        · rw [show rx_s2 x i j = x from if_pos hle] at hR
          exact br_t hle (go _ hR)
        · rw [show rx_s2 x i j = nI j - nI i from if_neg hle] at hR
          exact br_f hle (go _ hR)
end
end
section
/-! making patterns: the two drafts -/
def rx_D (xh xm xl : Int32) (vb vg vc vf vs : Nat → Int32) (ys yd : Int32) (ua ub uc ug uk : Nat → Int32) : Prop :=
  ∃ (h m L : Nat) (kd fs sd dg st bg : Nat → Nat), xh = nI h ∧ yd = nI h ∧ h ≤ 6 ∧ xm = nI m ∧ ys = nI m ∧ m ≤ 16 ∧ xl = nI L ∧ L ≤ 2 * m ∧
    rx_W kd fs sd dg m ∧ rx_lk ua ub uc kd fs sd m ∧ (∀ p, p < m → ug p = nI (dg p)) ∧ bg 0 = 0 ∧ bg h = L ∧
    (∀ t, t < h → vb t = nI (bg t) ∧ uk t = nI (st t) ∧ st t < m ∧ vg t = nI (dg (st t)) ∧ ∃ z, bg (t + 1) = bg t + z ∧ rx_Y kd fs sd vc vf vs (st t) (bg t) z)
def rx_uN (f : Nat → Nat) (m v : Nat) : Nat → Nat := fun q => if q = m then v else f q
theorem rx_uNs {f : Nat → Nat} {m v : Nat} : rx_uN f m v m = v := if_pos rfl
theorem rx_uNn {f : Nat → Nat} {m v q : Nat} (h : q ≠ m) : rx_uN f m v q = f q := if_neg h
/-- a new node is well made -/
def rx_Wn (dg : Nat → Nat) (m k a b g : Nat) : Prop := k < 12 ∧ g < 8 ∧ (5 ≤ k → a < m ∧ b < m) ∧ (k = 5 ∨ k = 6 → g = dg a ||| dg b) ∧ (k = 7 ∨ k = 8 → g = dg a) ∧ (9 ≤ k → g = dg a ||| 2 ^ (k - 9) ∧ (dg a).testBit (k - 9) = false)
section
variable {kd fs sd dg st bg : Nat → Nat} {h m L k a b g p0 L' z : Nat} {ua ub uc ug uk vb vg vc vf vs vb' vg' vc' vf' vs' : Nat → Int32}
theorem rx_Wu (hW : rx_W kd fs sd dg m) (hn : rx_Wn dg m k a b g) : rx_W (rx_uN kd m k) (rx_uN fs m a) (rx_uN sd m b) (rx_uN dg m g) (m + 1) := by
  intro p hp
  by_cases hpm : p = m
  · subst hpm
    rw [rx_uNs, rx_uNs, rx_uNs, rx_uNs]
    obtain ⟨h1, h2, h3, h4, h5, h6⟩ := hn
    refine ⟨h1, h2, h3, fun h => ?_, fun h => ?_, fun h => ?_⟩
    · have := h3 (by omega)
      rw [rx_uNn (by omega), rx_uNn (by omega)]; exact h4 h
    · have := h3 (by omega)
      rw [rx_uNn (by omega)]; exact h5 h
    · have := h3 (by omega)
      rw [rx_uNn (by omega)]; exact h6 h
  · have ww := hW p (by omega)
    rw [rx_uNn hpm, rx_uNn hpm, rx_uNn hpm, rx_uNn hpm]
    obtain ⟨h1, h2, h3, h4, h5, h6⟩ := ww
    refine ⟨h1, h2, h3, fun h => ?_, fun h => ?_, fun h => ?_⟩
    · have := h3 (by omega)
      rw [rx_uNn (by omega), rx_uNn (by omega)]; exact h4 h
    · have := h3 (by omega)
      rw [rx_uNn (by omega)]; exact h5 h
    · have := h3 (by omega)
      rw [rx_uNn (by omega)]; exact h6 h
theorem rx_lku (hk : rx_lk ua ub uc kd fs sd m) : rx_lk (upd ua m (nI k)) (upd ub m (nI a)) (upd uc m (nI b)) (rx_uN kd m k) (rx_uN fs m a) (rx_uN sd m b) (m + 1) := by
  intro p hp
  by_cases hpm : p = m
  · subst hpm
    rw [rx_uNs, rx_uNs, rx_uNs, pk_us, pk_us, pk_us]
    exact ⟨rfl, rfl, rfl⟩
  · rw [rx_uNn hpm, rx_uNn hpm, rx_uNn hpm, pk_un hpm, pk_un hpm, pk_un hpm]
    exact hk p (by omega)
theorem rx_uY {p x x' : Nat} (hW : rx_W kd fs sd dg m) (hp : p < m) (hc : ∀ y, y < z → vc' (x' + y) = vc (x + y) ∧ vf' (x' + y) = vf (x + y) ∧ vs' (x' + y) = vs (x + y)) (hy : rx_Y kd fs sd vc vf vs p x z) : rx_Y (rx_uN kd m k) (rx_uN fs m a) (rx_uN sd m b) vc' vf' vs' p x' z :=
  rx_Ym hW p hp (fun q hq => ⟨rx_uNn (by omega), rx_uNn (by omega), rx_uNn (by omega)⟩) x x' z hc hy
theorem rx_bgm (hb : ∀ t, t < h → ∃ z, bg (t + 1) = bg t + z) : ∀ t s, s ≤ t → t ≤ h → bg s ≤ bg t := by
  intro t
  induction t with
  | zero => intro s hs _; rw [show s = 0 by omega]; exact Nat.le_refl _
  | succ t ih =>
    intro s hs ht
    by_cases hst : s = t + 1
    · rw [hst]; exact Nat.le_refl _
    · obtain ⟨z, hz⟩ := hb t (by omega)
      have := ih s (by omega) (by omega)
      omega
/-- a new node on top at level p0 -/
theorem rx_Dk (hh : h ≤ 6) (hm : m < 16) (hW : rx_W kd fs sd dg m) (hk : rx_lk ua ub uc kd fs sd m) (hg : ∀ p, p < m → ug p = nI (dg p)) (hb0 : bg 0 = 0)
    (hst : ∀ t, t < h → vb t = nI (bg t) ∧ uk t = nI (st t) ∧ st t < m ∧ vg t = nI (dg (st t)) ∧ ∃ z, bg (t + 1) = bg t + z ∧ rx_Y kd fs sd vc vf vs (st t) (bg t) z)
    (hn : rx_Wn dg m k a b g) (hp0 : p0 ≤ h) (hp6 : p0 < 6) (hL : L' ≤ 2 * (m + 1)) (hlow : ∀ y, y < bg p0 → vc' y = vc y ∧ vf' y = vf y ∧ vs' y = vs y)
    (hz : bg p0 + z = L') (hy : rx_Y (rx_uN kd m k) (rx_uN fs m a) (rx_uN sd m b) vc' vf' vs' m (bg p0) z)
    (hvb : ∀ t, t < p0 → vb' t = vb t) (hvb0 : vb' p0 = nI (bg p0)) (hvg : ∀ t, t < p0 → vg' t = vg t) (hvg0 : vg' p0 = nI g) :
    rx_D (nI (p0 + 1)) (nI (m + 1)) (nI L') vb' vg' vc' vf' vs' (nI (m + 1)) (nI (p0 + 1)) (upd ua m (nI k)) (upd ub m (nI a)) (upd uc m (nI b)) (upd ug m (nI g)) (upd uk p0 (nI m)) := by
  have hmono := rx_bgm (h := h) (bg := bg) (fun t ht => by obtain ⟨_, _, _, _, z, hz, _⟩ := hst t ht; exact ⟨z, hz⟩)
  refine ⟨p0 + 1, m + 1, L', rx_uN kd m k, rx_uN fs m a, rx_uN sd m b, rx_uN dg m g, rx_uN st p0 m, rx_uN bg (p0 + 1) L', rfl, rfl, by omega, rfl, rfl, by omega, rfl, hL, rx_Wu hW hn, rx_lku hk, ?_, ?_, rx_uNs, ?_⟩
  · intro p hp
    by_cases hpm : p = m
    · subst hpm; rw [pk_us, rx_uNs]
    · rw [pk_un hpm, rx_uNn hpm]; exact hg p (by omega)
  · rw [rx_uNn (by omega)]; exact hb0
  · intro t ht
    by_cases htp : t = p0
    · subst htp
      rw [rx_uNs, rx_uNn (show t ≠ t + 1 by omega), pk_us, rx_uNs, rx_uNs]
      exact ⟨hvb0, rfl, by omega, hvg0, z, hz.symm, hy⟩
    · obtain ⟨h1, h2, h3, h4, z', h5, h6⟩ := hst t (by omega)
      rw [rx_uNn htp, rx_uNn (show t ≠ p0 + 1 by omega), rx_uNn (show t + 1 ≠ p0 + 1 by omega), pk_un htp, rx_uNn (show st t ≠ m by omega), hvb t (by omega), hvg t (by omega)]
      refine ⟨h1, h2, by omega, h4, z', h5, rx_uY hW h3 (fun y hy' => ?_) h6⟩
      have := hmono p0 (t + 1) (by omega) hp0
      exact hlow _ (by omega)
end
/-- both ends alike, whatever is asked then -/
def rx_Lk (mX : Int32 → Int32 → Int32 → rx_N → rx_N → rx_N → rx_N → rx_N → SX) (mY : Int32 → Int32 → rx_N → rx_N → rx_N → rx_N → rx_N → SY) (PX : (Int32 → SX → Prop) → Prop) (PY : (Int32 → SY → Prop) → Prop) : Prop :=
  ∃ r xh xm xl vb vg vc vf vs ys yd ua ub uc ug uk, rx_D xh xm xl vb vg vc vf vs ys yd ua ub uc ug uk ∧ (∀ post : Int32 → SX → Prop, post r (mX xh xm xl vb vg vc vf vs) → PX post) ∧ (∀ post : Int32 → SY → Prop, post r (mY ys yd ua ub uc ug uk) → PY post)
/-- from x on all moved by one, up to L -/
def rx_sh (a : Nat → Int32) (x L : Nat) : Nat → Int32 := fun y => if x < y ∧ y ≤ L then a (y - 1) else a y
theorem rx_shL {a : Nat → Int32} {L : Nat} : rx_sh a L L = a := by
  funext y
  unfold rx_sh
  rw [if_neg (by omega)]
theorem rx_shs {a : Nat → Int32} {c L : Nat} (h : c < L) : upd (rx_sh a (c + 1) L) (c + 1) (rx_sh a (c + 1) L c) = rx_sh a c L := by
  funext y
  unfold rx_sh upd
  by_cases hy : y = c + 1
  · rw [if_pos hy, if_neg (by omega), if_pos (by omega), hy, Nat.add_sub_cancel]
  · rw [if_neg hy]
    show (if c + 1 < y ∧ y ≤ L then a (y - 1) else a y) = _
    by_cases h2 : c + 1 < y ∧ y ≤ L
    · rw [if_pos h2, if_pos (by omega)]
    · rw [if_neg h2, if_neg (by omega)]
theorem rx_shl {a : Nat → Int32} {x L y : Nat} (h : y ≤ x) : rx_sh a x L y = a y := by
  unfold rx_sh; rw [if_neg (by omega)]
theorem rx_shm {a : Nat → Int32} {x L y : Nat} (h : x ≤ y) (h2 : y < L) : rx_sh a x L (y + 1) = a y := by
  unfold rx_sh; rw [if_pos (by omega), Nat.add_sub_cancel]
section
variable {xh xm xl xz xn xc xd xw xe : Int32} {vb vg vc vf vs C F S T vt vn wt wn vz vk vi vj va vo : Nat → Int32}
theorem rx_open7 {post : SX → Prop} {x L : Nat} (hL : L < 63) (H : post (xh, xm, nI (L + 1), xz, xn, xc, xd, xw, xe, vb, vg, rx_sh vc x L, rx_sh vf x L, rx_sh vs x L, C, F, S, T, vt, vn, wt, wn, vz, vk, vi, vj, va, vo)) :
    ∀ d c f x3, c = x + d → c ≤ L → d < f → x3 = nI c + (-1) → wX_open_7 post (nI x) 1 xh xm (nI L) xz xn xc xd xw xe f x3 vb vg (rx_sh vc c L) (rx_sh vf c L) (rx_sh vs c L) C F S T vt vn wt wn vz vk vi vj va vo := by
  intro d
  induction d with
  | zero =>
    intro c f x3 hc hcL hf hx3
    obtain ⟨f, rfl⟩ : ∃ f', f = f' + 1 := ⟨f - 1, by omega⟩
    have : c = x := by omega
    subst this
    refine br_t ?_ (nm_r (nI_1 L) H)
    rw [hx3]
    cases c with
    | zero => decide
    | succ c => rw [pk_m1]; exact nI_lt (by omega) (by omega)
  | succ d ih =>
    intro c f x3 hc hcL hf hx3
    obtain ⟨f, rfl⟩ : ∃ f', f = f' + 1 := ⟨f - 1, by omega⟩
    obtain ⟨c, rfl⟩ : ∃ c', c = c' + 1 := ⟨c - 1, by omega⟩
    rw [pk_m1] at hx3
    subst hx3
    have hin : vp_in (nI c) 64 := vp_in_nI (by omega) (by omega)
    have hin1 : vp_in (nI c + 1) 64 := by rw [nI_1]; exact vp_in_nI (by omega) (by omega)
    have hc0 : (nI c).toNatClampNeg = c := nI_clamp (by omega)
    have hc1 : (nI c + 1).toNatClampNeg = c + 1 := by rw [nI_1]; exact nI_clamp (by omega)
    refine br_f (nI_nlt (by omega) (by omega)) (And.intro hin (And.intro hin1 (nm_r (e' := rx_sh vc c L) ?_ (And.intro hin (And.intro hin1 (nm_r (e' := rx_sh vf c L) ?_ (And.intro hin (And.intro hin1 (nm_r (e' := rx_sh vs c L) ?_ (nm_r rfl (ih c f _ (by omega) (by omega) (by omega) rfl)))))))))))
    · rw [hc0, hc1]; exact rx_shs (by omega)
    · rw [hc0, hc1]; exact rx_shs (by omega)
    · rw [hc0, hc1]; exact rx_shs (by omega)
/-- room for one instruction at x -/
theorem rx_room {post : SX → Prop} {x L : Nat} (hL : L < 63) (hx : x ≤ L) (H : post (xh, xm, nI (L + 1), xz, xn, xc, xd, xw, xe, vb, vg, rx_sh vc x L, rx_sh vf x L, rx_sh vs x L, C, F, S, T, vt, vn, wt, wn, vz, vk, vi, vj, va, vo)) : wpX_open post (xh, xm, nI L, xz, xn, xc, xd, xw, xe, vb, vg, vc, vf, vs, C, F, S, T, vt, vn, wt, wn, vz, vk, vi, vj, va, vo) (nI x) 1 := by
  refine nm_r rfl ⟨L - x + 1, ?_⟩
  have := rx_open7 hL H (L - x) L (L - x + 1) (nI L - 1) (by omega) (by omega) (by omega) (Int32.sub_eq_add_neg ..)
  rw [rx_shL, rx_shL, rx_shL] at this
  exact this
theorem rx_put {post : SX → Prop} {x : Nat} {c a b : Int32} (hx : x < 64) (H : post (xh, xm, xl, xz, xn, xc, xd, xw, xe, vb, vg, upd vc x c, upd vf x a, upd vs x b, C, F, S, T, vt, vn, wt, wn, vz, vk, vi, vj, va, vo)) : wpX_put post (xh, xm, xl, xz, xn, xc, xd, xw, xe, vb, vg, vc, vf, vs, C, F, S, T, vt, vn, wt, wn, vz, vk, vi, vj, va, vo) (nI x) c a b := by
  have hin : vp_in (nI x) 64 := vp_in_nI (by omega) (by omega)
  have hcl : (nI x).toNatClampNeg = x := nI_clamp (by omega)
  exact And.intro hin (nm_r (e' := upd vc x c) (by rw [hcl]) (And.intro hin (nm_r (e' := upd vf x a) (by rw [hcl]) (And.intro hin (nm_r (e' := upd vs x b) (by rw [hcl]) H)))))
theorem rx_emit {post : SX → Prop} {L : Nat} {c a b : Int32} (hx : L < 64) (H : post (xh, xm, nI (L + 1), xz, xn, xc, xd, xw, xe, vb, vg, upd vc L c, upd vf L a, upd vs L b, C, F, S, T, vt, vn, wt, wn, vz, vk, vi, vj, va, vo)) : wpX_emit post (xh, xm, nI L, xz, xn, xc, xd, xw, xe, vb, vg, vc, vf, vs, C, F, S, T, vt, vn, wt, wn, vz, vk, vi, vj, va, vo) c a b := by
  have hin : vp_in (nI L) 64 := vp_in_nI (by omega) (by omega)
  have hcl : (nI L).toNatClampNeg = L := nI_clamp (by omega)
  exact And.intro hin (nm_r (e' := upd vc L c) (by rw [hcl]) (And.intro hin (nm_r (e' := upd vf L a) (by rw [hcl]) (And.intro hin (nm_r (e' := upd vs L b) (by rw [hcl]) (nm_r (nI_1 L) H))))))
theorem rx_xref {post : Int32 → Prop} {h m w : Nat} (hh : h ≤ 6) (hm : m ≤ 16) (hw : w ≤ 2) (h1 : m = 16 → post (-2)) (h2 : m ≠ 16 → w ≤ h → post 0) (h3 : m ≠ 16 → h < w → post (-3)) : wpX_refused post (nI h, nI m, xl, xz, xn, xc, xd, xw, xe, vb, vg, vc, vf, vs, C, F, S, T, vt, vn, wt, wn, vz, vk, vi, vj, va, vo) (nI w) := by
  refine pk_eq m 16 h1 (fun hm' => ?_)
  exact pk_le w h (h2 hm') (h3 hm')
end
section
variable {ys yd yr yl yw : Int32} {ua ub uc ug uk K A B U ur ut uw uo : Nat → Int32}
theorem rx_ynote {post : Int32 → SY → Prop} {m h : Nat} {k a b g : Int32} (hm : m < 16) (hh : h < 6) (H : post (nI (h + 1)) (nI (m + 1), nI (h + 1), yr, yl, yw, upd ua m k, upd ub m a, upd uc m b, upd ug m g, upd uk h (nI m), K, A, B, U, ur, ut, uw, uo)) : wpY_note post (nI m, nI h, yr, yl, yw, ua, ub, uc, ug, uk, K, A, B, U, ur, ut, uw, uo) k a b g := by
  have hin : vp_in (nI m) 16 := vp_in_nI (by omega) (by omega)
  have hcl : (nI m).toNatClampNeg = m := nI_clamp (by omega)
  exact And.intro hin (nm_r (e' := upd ua m k) (by rw [hcl]) (And.intro hin (nm_r (e' := upd ub m a) (by rw [hcl]) (And.intro hin (nm_r (e' := upd uc m b) (by rw [hcl]) (And.intro hin (nm_r (e' := upd ug m g) (by rw [hcl]) (And.intro (vp_in_nI (by omega) (by omega)) (nm_r (e' := upd uk h (nI m)) (by rw [nI_clamp (by omega)]) (nm_r (nI_1 m) (nm_r (nI_1 h) H)))))))))))
end
end
section
section
variable {xh xm xl xz xn xc xd xw xe : Int32} {vb vg vc vf vs C F S T vt vn wt wn vz vk vi vj va vo : Nat → Int32}
/-- a new leaf: read one letter -/
theorem rx_xleaf {post : Int32 → SX → Prop} {h m L : Nat} {w c c' : Int32} (hm : m < 16) (hh : h < 6) (hL : L < 64) (hw : w = 0 ∧ c' = c ∨ w = 1 ∧ c' = 3)
    (H : post (nI (h + 1)) (nI (h + 1), nI (m + 1), nI (L + 1), xz, xn, xc, xd, xw, xe, upd vb h (nI L), upd vg h 0, upd vc L 0, upd vf L c', upd vs L 0, C, F, S, T, vt, vn, wt, wn, vz, vk, vi, vj, va, vo)) : wpX_leaf post (nI h, nI m, nI L, xz, xn, xc, xd, xw, xe, vb, vg, vc, vf, vs, C, F, S, T, vt, vn, wt, wn, vz, vk, vi, vj, va, vo) w c := by
  have hin : vp_in (nI h) 6 := vp_in_nI (by omega) (by omega)
  have hcl : (nI h).toNatClampNeg = h := nI_clamp (by omega)
  refine pk_eq m 16 (fun z => absurd z (by omega)) (fun _ => pk_eq h 6 (fun z => absurd z (by omega)) (fun _ => ?_))
  refine And.intro hin (nm_r (e' := upd vb h (nI L)) (by rw [hcl]) (And.intro hin (nm_r (e' := upd vg h 0) (by rw [hcl]) (nm_r (nI_1 h) (nm_r (nI_1 m) ?_)))))
  rcases hw with ⟨rfl, rfl⟩ | ⟨rfl, rfl⟩
  · refine br_t rfl (br_f (by decide) ?_)
    exact rx_emit hL H
  · refine br_f (by decide) (br_t rfl (br_t rfl ?_))
    exact rx_emit hL H
theorem rx_xleafE {post : Int32 → SX → Prop} {h m : Nat} {c : Int32} (hm : m < 16) (hh : h < 6)
    (H : post (nI (h + 1)) (nI (h + 1), nI (m + 1), xl, xz, xn, xc, xd, xw, xe, upd vb h xl, upd vg h 0, vc, vf, vs, C, F, S, T, vt, vn, wt, wn, vz, vk, vi, vj, va, vo)) : wpX_leaf post (nI h, nI m, xl, xz, xn, xc, xd, xw, xe, vb, vg, vc, vf, vs, C, F, S, T, vt, vn, wt, wn, vz, vk, vi, vj, va, vo) 2 c := by
  have hin : vp_in (nI h) 6 := vp_in_nI (by omega) (by omega)
  have hcl : (nI h).toNatClampNeg = h := nI_clamp (by omega)
  refine pk_eq m 16 (fun z => absurd z (by omega)) (fun _ => pk_eq h 6 (fun z => absurd z (by omega)) (fun _ => ?_))
  refine And.intro hin (nm_r (e' := upd vb h xl) (by rw [hcl]) (And.intro hin (nm_r (e' := upd vg h 0) (by rw [hcl]) (nm_r (nI_1 h) (nm_r (nI_1 m) ?_)))))
  exact br_f (by decide) (br_f (by decide) H)
theorem rx_xleafF {post : Int32 → SX → Prop} {h m : Nat} {w c : Int32} (hm : m ≤ 16) (hh : h ≤ 6) (hf : m = 16 ∨ h = 6) (H : post (-2) (nI h, nI m, xl, xz, xn, xc, xd, xw, xe, vb, vg, vc, vf, vs, C, F, S, T, vt, vn, wt, wn, vz, vk, vi, vj, va, vo)) : wpX_leaf post (nI h, nI m, xl, xz, xn, xc, xd, xw, xe, vb, vg, vc, vf, vs, C, F, S, T, vt, vn, wt, wn, vz, vk, vi, vj, va, vo) w c := by
  refine pk_eq m 16 (fun z => H) (fun hm' => pk_eq h 6 (fun z => H) (fun hh' => ?_))
  exact absurd hf (by omega)
theorem rx_xcat {post : Int32 → SX → Prop} {h m : Nat} (hm : m < 16) (hh : h + 2 ≤ 6)
    (H : post (nI (h + 1)) (nI (h + 1), nI (m + 1), xl, xz, xn, xc, xd, xw, xe, vb, upd vg h (vg h ||| vg (h + 1)), vc, vf, vs, C, F, S, T, vt, vn, wt, wn, vz, vk, vi, vj, va, vo)) : wpX_cat post (nI (h + 2), nI m, xl, xz, xn, xc, xd, xw, xe, vb, vg, vc, vf, vs, C, F, S, T, vt, vn, wt, wn, vz, vk, vi, vj, va, vo) := by
  unfold wpX_cat
  dsimp only
  refine rx_xref (w := 2) (by omega) (by omega) (by omega) (fun z => absurd z (by omega)) (fun _ _ => ?_) (fun _ z => absurd z (by omega))
  have hin : vp_in (nI h) 6 := vp_in_nI (by omega) (by omega)
  have hin1 : vp_in (nI (h + 1)) 6 := vp_in_nI (by omega) (by omega)
  have hcl : (nI h).toNatClampNeg = h := nI_clamp (by omega)
  have hcl1 : (nI (h + 1)).toNatClampNeg = h + 1 := nI_clamp (by omega)
  refine br_t (by decide) (nm_r (nI_pred (h + 1)) ?_)
  rw [nI_pred]
  exact And.intro hin (And.intro hin1 (And.intro hin (nm_r (e' := upd vg h (vg h ||| vg (h + 1))) (by rw [hcl, hcl1]) (nm_r (nI_1 m) H))))
theorem rx_m2 (h : Nat) : nI (h + 2) - 2 = nI h := pk_sub (a := h + 2) (b := 2) (by omega)
theorem rx_xalt {post : Int32 → SX → Prop} {h m L x y : Nat} (hm : m < 16) (hh : h + 2 ≤ 6) (hL : L ≤ 32) (hxy : x ≤ y) (hyL : y ≤ L) (ex : vb h = nI x) (ey : vb (h + 1) = nI y)
    (H : post (nI (h + 1)) (nI (h + 1), nI (m + 1), nI (L + 1 + 1), xz, xn, xc, xd, xw, xe, vb, upd vg h (vg h ||| vg (h + 1)), upd (rx_sh (upd (rx_sh vc y L) y 2) x (L + 1)) x 1, upd (rx_sh (upd (rx_sh vf y L) y (nI (L - y) + 1)) x (L + 1)) x 1, upd (rx_sh (upd (rx_sh vs y L) y 0) x (L + 1)) x (nI (y - x) + 2), C, F, S, T, vt, vn, wt, wn, vz, vk, vi, vj, va, vo)) : wpX_alt post (nI (h + 2), nI m, nI L, xz, xn, xc, xd, xw, xe, vb, vg, vc, vf, vs, C, F, S, T, vt, vn, wt, wn, vz, vk, vi, vj, va, vo) := by
  have hin : vp_in (nI h) 6 := vp_in_nI (by omega) (by omega)
  have hin1 : vp_in (nI (h + 1)) 6 := vp_in_nI (by omega) (by omega)
  have hcl : (nI h).toNatClampNeg = h := nI_clamp (by omega)
  have hcl1 : (nI (h + 1)).toNatClampNeg = h + 1 := nI_clamp (by omega)
  have e2 : nI (h + 2) - 2 = nI h := rx_m2 h
  have e1 : nI (h + 2) - 1 = nI (h + 1) := nI_pred (h + 1)
  have e0 : nI (h + 1) - 1 = nI h := nI_pred h
  unfold wpX_alt
  refine rx_xref (w := 2) (by omega) (by omega) (by omega) (fun z => absurd z (by omega)) (fun _ _ => ?_) (fun _ z => absurd z (by omega))
  refine br_t (by decide) (And.intro (by rw [e2]; exact hin) (nm_r (e' := nI x) (by rw [e2, hcl, ex]) (And.intro (by rw [e1]; exact hin1) (nm_r (e' := nI y) (by rw [e1, hcl1, ey]) (nm_r (e' := nI (y - x)) (pk_sub hxy) (nm_r (e' := nI (L - y)) (pk_sub hyL) ?_))))))
  refine rx_room (by omega) hyL ?_
  refine rx_put (by omega) ?_
  refine rx_room (L := L + 1) (by omega) (by omega) ?_
  refine rx_put (by omega) ?_
  exact nm_r (e' := nI (h + 1)) e1 (And.intro (by rw [e0]; exact hin) (And.intro hin1 (And.intro (by rw [e0]; exact hin) (nm_r (e' := upd vg h (vg h ||| vg (h + 1))) (by rw [e0, hcl, hcl1]) (nm_r (nI_1 m) H)))))
theorem rx_xrep {post : Int32 → SX → Prop} {h m L x : Nat} {p q : Int32} (hm : m < 16) (hh : h + 1 ≤ 6) (hL : L ≤ 32) (hx : x ≤ L) (ex : vb h = nI x) (hpq : p = 0 ∧ q = 6 ∨ p = 1 ∧ q = 5)
    (H : post (nI (h + 1)) (nI (h + 1), nI (m + 1), nI (L + 2), xz, xn, xc, xd, xw, xe, vb, vg, upd (upd (rx_sh vc x L) x q) (L + 1) 7, upd (upd (rx_sh vf x L) x 1) (L + 1) (-nI (L - x) - 1), upd (upd (rx_sh vs x L) x (nI (L - x + 2))) (L + 1) 0, C, F, S, T, vt, vn, wt, wn, vz, vk, vi, vj, va, vo)) : wpX_repeat post (nI (h + 1), nI m, nI L, xz, xn, xc, xd, xw, xe, vb, vg, vc, vf, vs, C, F, S, T, vt, vn, wt, wn, vz, vk, vi, vj, va, vo) p := by
  unfold wpX_repeat
  dsimp only
  refine rx_xref (w := 1) (by omega) (by omega) (by omega) (fun z => absurd z (by omega)) (fun _ _ => ?_) (fun _ z => absurd z (by omega))
  have hin : vp_in (nI h) 6 := vp_in_nI (by omega) (by omega)
  have hcl : (nI h).toNatClampNeg = h := nI_clamp (by omega)
  refine br_t (by decide) ?_
  rw [nI_pred]
  refine And.intro hin (nm_r (e' := nI x) (by rw [hcl, ex]) (nm_r (pk_sub hx) ?_))
  refine rx_room (by omega) hx ?_
  have R : wX_repeat_50 post (nI (L - x)) q (nI x) (nI (h + 1)) (nI m) (nI (L + 1)) xz xn xc xd xw xe vb vg (rx_sh vc x L) (rx_sh vf x L) (rx_sh vs x L) C F S T vt vn wt wn vz vk vi vj va vo := by
    refine rx_put (by omega) ?_
    refine rx_emit (by omega) (nm_r (nI_1 m) ?_)
    rw [show nI (L - x) + 2 = nI (L - x + 2) from nI_add (L - x) 2]
    exact H
  rcases hpq with ⟨rfl, rfl⟩ | ⟨rfl, rfl⟩
  · exact br_t rfl R
  · exact br_f (by decide) R
end
section
variable {xh xm xl xz xn xc xd xw xe : Int32} {vb vg vc vf vs C F S T vt vn wt wn vz vk vi vj va vo : Nat → Int32}
/-- a group's bit -/
theorem rx_gb : ∀ d, d < 8 → ∀ g, g < 3 → ((((nI d >>> (nI g &&& 31)) &&& 1) = 1 ↔ d.testBit g = true) ∧ (((nI d &&& ((1 : Int32) <<< ((nI (9 + g) - 9) &&& 31))) = 0) ↔ d.testBit g = false) ∧ (nI d ||| ((1 : Int32) <<< (nI g &&& 31))) = nI (d ||| 2 ^ g) ∧ (nI d ||| ((1 : Int32) <<< ((nI (9 + g) - 9) &&& 31))) = nI (d ||| 2 ^ g) ∧ d ||| 2 ^ g < 8) := by decide +kernel
theorem rx_xgr {post : Int32 → SX → Prop} {h m L x d g : Nat} (hm : m < 16) (hh : h + 1 ≤ 6) (hL : L ≤ 32) (hx : x ≤ L) (ex : vb h = nI x) (ed : vg h = nI d) (hd : d < 8) (hg : g < 3) (hb : d.testBit g = false)
    (H : post (nI (h + 1)) (nI (h + 1), nI (m + 1), nI (L + 2), xz, xn, xc, xd, xw, xe, vb, upd vg h (nI (d ||| 2 ^ g)), upd (upd (rx_sh vc x L) x 3) (L + 1) 3, upd (upd (rx_sh vf x L) x (nI (3 + g))) (L + 1) (nI g), upd (upd (rx_sh vs x L) x 0) (L + 1) 0, C, F, S, T, vt, vn, wt, wn, vz, vk, vi, vj, va, vo)) : wpX_group post (nI (h + 1), nI m, nI L, xz, xn, xc, xd, xw, xe, vb, vg, vc, vf, vs, C, F, S, T, vt, vn, wt, wn, vz, vk, vi, vj, va, vo) (nI g) := by
  refine br_f (nI_pos (by omega)) (br_t (nI_le (b := 2) (by omega) (by decide)) ?_)
  refine rx_xref (w := 1) (by omega) (by omega) (by omega) (fun z => absurd z (by omega)) (fun _ _ => ?_) (fun _ z => absurd z (by omega))
  have hin : vp_in (nI h) 6 := vp_in_nI (by omega) (by omega)
  have hcl : (nI h).toNatClampNeg = h := nI_clamp (by omega)
  have gb := rx_gb d hd g hg
  refine br_t (by decide) ?_
  rw [nI_pred, hcl, ed]
  refine And.intro hin (br_f (fun z => by rw [gb.1, hb] at z; exact absurd z (by decide)) (And.intro hin (And.intro hin (nm_r (e' := upd vg h (nI (d ||| 2 ^ g))) (by rw [gb.2.2.1]) (And.intro hin (nm_r ex ?_))))))
  refine rx_room (by omega) hx ?_
  refine rx_put (by omega) ?_
  refine rx_emit (by omega) (nm_r (nI_1 m) ?_)
  rw [show 3 + nI g = nI (3 + g) from nI_add 3 g]
  exact H
theorem rx_xgn {post : Int32 → SX → Prop} {h m d g : Nat} (hm : m < 16) (hh : h + 1 ≤ 6) (ed : vg h = nI d) (hd : d < 8) (hg : g < 3) (hb : d.testBit g = true) (H : post (-4) (nI (h + 1), nI m, xl, xz, xn, xc, xd, xw, xe, vb, vg, vc, vf, vs, C, F, S, T, vt, vn, wt, wn, vz, vk, vi, vj, va, vo)) : wpX_group post (nI (h + 1), nI m, xl, xz, xn, xc, xd, xw, xe, vb, vg, vc, vf, vs, C, F, S, T, vt, vn, wt, wn, vz, vk, vi, vj, va, vo) (nI g) := by
  refine br_f (nI_pos (by omega)) (br_t (nI_le (b := 2) (by omega) (by decide)) ?_)
  refine rx_xref (w := 1) (by omega) (by omega) (by omega) (fun z => absurd z (by omega)) (fun _ _ => ?_) (fun _ z => absurd z (by omega))
  have hin : vp_in (nI h) 6 := vp_in_nI (by omega) (by omega)
  have hcl : (nI h).toNatClampNeg = h := nI_clamp (by omega)
  have gb := rx_gb d hd g hg
  refine br_t (by decide) ?_
  rw [nI_pred, hcl, ed]
  exact And.intro hin (br_t (gb.1.mpr hb) H)
end
section
variable {ys yd yr yl yw : Int32} {ua ub uc ug uk K A B U ur ut uw uo : Nat → Int32}
theorem rx_yleaf {post : Int32 → SY → Prop} {h m : Nat} {k : Int32} (hm : m < 16) (hh : h < 6) (H : post (nI (h + 1)) (nI (m + 1), nI (h + 1), yr, yl, yw, upd ua m k, upd ub m 0, upd uc m 0, upd ug m 0, upd uk h (nI m), K, A, B, U, ur, ut, uw, uo)) : wpY_leaf post (nI m, nI h, yr, yl, yw, ua, ub, uc, ug, uk, K, A, B, U, ur, ut, uw, uo) k := by
  refine pk_eq m 16 (fun z => absurd z (by omega)) (fun _ => pk_eq h 6 (fun z => absurd z (by omega)) (fun _ => ?_))
  exact rx_ynote hm hh H
theorem rx_yleafF {post : Int32 → SY → Prop} {h m : Nat} {k : Int32} (hm : m ≤ 16) (hh : h ≤ 6) (hf : m = 16 ∨ h = 6) (H : post (-2) (nI m, nI h, yr, yl, yw, ua, ub, uc, ug, uk, K, A, B, U, ur, ut, uw, uo)) : wpY_leaf post (nI m, nI h, yr, yl, yw, ua, ub, uc, ug, uk, K, A, B, U, ur, ut, uw, uo) k := by
  refine pk_eq m 16 (fun z => H) (fun hm' => pk_eq h 6 (fun z => H) (fun hh' => ?_))
  exact absurd hf (by omega)
theorem rx_ypair {post : Int32 → SY → Prop} {h m x y : Nat} {k : Int32} (hm : m < 16) (hh : h + 2 ≤ 6) (hx : x < m) (hy : y < m) (ex : uk h = nI x) (ey : uk (h + 1) = nI y) (H : post (nI (h + 1)) (nI (m + 1), nI (h + 1), yr, yl, yw, upd ua m k, upd ub m (nI x), upd uc m (nI y), upd ug m (ug x ||| ug y), upd uk h (nI m), K, A, B, U, ur, ut, uw, uo)) : wpY_pair post (nI m, nI (h + 2), yr, yl, yw, ua, ub, uc, ug, uk, K, A, B, U, ur, ut, uw, uo) k := by
  refine pk_eq m 16 (fun z => absurd z (by omega)) (fun _ => br_t (nI_le (a := 2) (by omega) (by omega)) (nm_r (rx_m2 h) ?_))
  rw [nI_1]
  refine And.intro (vp_in_nI (by omega) (by omega)) (nm_r (e' := nI x) (by rw [nI_clamp (by omega), ex]) (And.intro (vp_in_nI (by omega) (by omega)) (nm_r (e' := nI y) (by rw [nI_clamp (by omega), ey]) (And.intro (vp_in_nI (by omega) (by omega)) (And.intro (vp_in_nI (by omega) (by omega)) ?_)))))
  rw [nI_clamp (show x < 2 ^ 31 by omega), nI_clamp (show y < 2 ^ 31 by omega)]
  exact rx_ynote hm (by omega) H
theorem rx_ypairF {post : Int32 → SY → Prop} {h m : Nat} {k r : Int32} (hm : m ≤ 16) (hh : h ≤ 6) (hf : m = 16 ∧ r = -2 ∨ m ≠ 16 ∧ h < 2 ∧ r = -3) (H : post r (nI m, nI h, yr, yl, yw, ua, ub, uc, ug, uk, K, A, B, U, ur, ut, uw, uo)) : wpY_pair post (nI m, nI h, yr, yl, yw, ua, ub, uc, ug, uk, K, A, B, U, ur, ut, uw, uo) k := by
  refine pk_eq m 16 (fun z => ?_) (fun hm' => pk_le 2 h (fun z => absurd hf (by omega)) (fun z => ?_))
  · rcases hf with ⟨_, rfl⟩ | ⟨h1, _⟩
    · exact H
    · exact absurd z h1
  · rcases hf with ⟨h1, _⟩ | ⟨_, _, rfl⟩
    · exact absurd h1 hm'
    · exact H
theorem rx_ysingle {post : Int32 → SY → Prop} {h m x k d g : Nat} (hm : m < 16) (hh : h + 1 ≤ 6) (hx : x < m) (ex : uk h = nI x) (ed : ug x = nI d) (hk : k = 7 ∧ g = d ∨ k = 8 ∧ g = d ∨ ∃ c, c < 3 ∧ k = 9 + c ∧ d < 8 ∧ d.testBit c = false ∧ g = d ||| 2 ^ c)
    (H : post (nI (h + 1)) (nI (m + 1), nI (h + 1), yr, yl, yw, upd ua m (nI k), upd ub m (nI x), upd uc m 0, upd ug m (nI g), upd uk h (nI m), K, A, B, U, ur, ut, uw, uo)) : wpY_single post (nI m, nI (h + 1), yr, yl, yw, ua, ub, uc, ug, uk, K, A, B, U, ur, ut, uw, uo) (nI k) := by
  have hin : vp_in (nI x) 16 := vp_in_nI (by omega) (by omega)
  have hcl : (nI x).toNatClampNeg = x := nI_clamp (by omega)
  have S50 : ∀ o : Int32, (nI d &&& o) = 0 → (nI d ||| o) = nI g → wY_single_50 post (nI k) (nI x) o (nI m) (nI (h + 1)) yr yl yw ua ub uc ug uk K A B U ur ut uw uo := by
    intro o h1 h2
    refine And.intro hin (br_t (by rw [hcl, ed]; exact h1) (nm_r (nI_pred h) (And.intro hin ?_)))
    rw [hcl, ed, h2]
    exact rx_ynote hm (by omega) H
  refine pk_eq m 16 (fun z => absurd z (by omega)) (fun _ => br_f (nI_ne0 (by omega) (by omega)) ?_)
  rw [nI_pred]
  refine And.intro (vp_in_nI (by omega) (by omega)) (nm_r (e' := nI x) (by rw [nI_clamp (by omega), ex]) ?_)
  rcases hk with ⟨hk, hg⟩ | ⟨hk, hg⟩ | ⟨c, hc, hk, hd, hb, hg⟩
  · subst hk hg
    exact br_t (by decide) (S50 0 (Int32.and_zero ..) (Int32.or_zero ..))
  · subst hk hg
    exact br_t (by decide) (S50 0 (Int32.and_zero ..) (Int32.or_zero ..))
  · subst hk hg
    have gb := rx_gb d hd c hc
    exact br_f (nI_ge (a := 8) (by omega) (by omega)) (S50 _ (gb.2.1.mpr hb) gb.2.2.2.1)
theorem rx_ysingleF {post : Int32 → SY → Prop} {h m : Nat} {k r : Int32} (hm : m ≤ 16) (hh : h ≤ 6) (hf : m = 16 ∧ r = -2 ∨ m ≠ 16 ∧ h = 0 ∧ r = -3) (H : post r (nI m, nI h, yr, yl, yw, ua, ub, uc, ug, uk, K, A, B, U, ur, ut, uw, uo)) : wpY_single post (nI m, nI h, yr, yl, yw, ua, ub, uc, ug, uk, K, A, B, U, ur, ut, uw, uo) k := by
  refine pk_eq m 16 (fun z => ?_) (fun hm' => pk_eq h 0 (fun z => ?_) (fun z => absurd hf (by omega)))
  · rcases hf with ⟨_, rfl⟩ | ⟨h1, _⟩
    · exact H
    · exact absurd z h1
  · rcases hf with ⟨h1, _⟩ | ⟨_, _, rfl⟩
    · exact absurd h1 hm'
    · exact H
theorem rx_ysingleN {post : Int32 → SY → Prop} {h m x d c : Nat} (hm : m < 16) (hh : h + 1 ≤ 6) (hx : x < m) (ex : uk h = nI x) (ed : ug x = nI d) (hc : c < 3) (hd : d < 8) (hb : d.testBit c = true)
    (H : post (-4) (nI m, nI (h + 1), yr, yl, yw, ua, ub, uc, ug, uk, K, A, B, U, ur, ut, uw, uo)) : wpY_single post (nI m, nI (h + 1), yr, yl, yw, ua, ub, uc, ug, uk, K, A, B, U, ur, ut, uw, uo) (nI (9 + c)) := by
  have hin : vp_in (nI x) 16 := vp_in_nI (by omega) (by omega)
  have hcl : (nI x).toNatClampNeg = x := nI_clamp (by omega)
  refine pk_eq m 16 (fun z => absurd z (by omega)) (fun _ => br_f (nI_ne0 (by omega) (by omega)) ?_)
  rw [nI_pred]
  refine And.intro (vp_in_nI (by omega) (by omega)) (nm_r (e' := nI x) (by rw [nI_clamp (by omega), ex]) ?_)
  have gb := rx_gb d hd c hc
  refine br_f (nI_ge (a := 8) (by omega) (by omega)) (And.intro hin (br_f (fun z => ?_) H))
  rw [hcl, ed, gb.2.1, hb] at z
  exact absurd z (by decide)
end
end
section
section
variable {xh xm xl xz xn xc xd xw xe : Int32} {vb vg vc vf vs C F S T vt vn wt wn vz vk vi vj va vo : Nat → Int32}
theorem rx_xcatF {post : Int32 → SX → Prop} {h m : Nat} {r : Int32} (hm : m ≤ 16) (hh : h ≤ 6) (hf : m = 16 ∧ r = -2 ∨ m ≠ 16 ∧ h < 2 ∧ r = -3) (H : post r (nI h, nI m, xl, xz, xn, xc, xd, xw, xe, vb, vg, vc, vf, vs, C, F, S, T, vt, vn, wt, wn, vz, vk, vi, vj, va, vo)) : wpX_cat post (nI h, nI m, xl, xz, xn, xc, xd, xw, xe, vb, vg, vc, vf, vs, C, F, S, T, vt, vn, wt, wn, vz, vk, vi, vj, va, vo) := by
  unfold wpX_cat
  refine rx_xref (w := 2) hh hm (by omega) (fun z => ?_) (fun z1 z2 => absurd hf (by omega)) (fun z1 z2 => ?_)
  · rcases hf with ⟨_, rfl⟩ | ⟨h1, _⟩
    · exact br_f (by decide) H
    · exact absurd z h1
  · rcases hf with ⟨h1, _⟩ | ⟨_, _, rfl⟩
    · exact absurd h1 z1
    · exact br_f (by decide) H
theorem rx_xaltF {post : Int32 → SX → Prop} {h m : Nat} {r : Int32} (hm : m ≤ 16) (hh : h ≤ 6) (hf : m = 16 ∧ r = -2 ∨ m ≠ 16 ∧ h < 2 ∧ r = -3) (H : post r (nI h, nI m, xl, xz, xn, xc, xd, xw, xe, vb, vg, vc, vf, vs, C, F, S, T, vt, vn, wt, wn, vz, vk, vi, vj, va, vo)) : wpX_alt post (nI h, nI m, xl, xz, xn, xc, xd, xw, xe, vb, vg, vc, vf, vs, C, F, S, T, vt, vn, wt, wn, vz, vk, vi, vj, va, vo) := by
  unfold wpX_alt
  refine rx_xref (w := 2) hh hm (by omega) (fun z => ?_) (fun z1 z2 => absurd hf (by omega)) (fun z1 z2 => ?_)
  · rcases hf with ⟨_, rfl⟩ | ⟨h1, _⟩
    · exact br_f (by decide) H
    · exact absurd z h1
  · rcases hf with ⟨h1, _⟩ | ⟨_, _, rfl⟩
    · exact absurd h1 z1
    · exact br_f (by decide) H
theorem rx_xrepF {post : Int32 → SX → Prop} {h m : Nat} {p r : Int32} (hm : m ≤ 16) (hh : h ≤ 6) (hf : m = 16 ∧ r = -2 ∨ m ≠ 16 ∧ h = 0 ∧ r = -3) (H : post r (nI h, nI m, xl, xz, xn, xc, xd, xw, xe, vb, vg, vc, vf, vs, C, F, S, T, vt, vn, wt, wn, vz, vk, vi, vj, va, vo)) : wpX_repeat post (nI h, nI m, xl, xz, xn, xc, xd, xw, xe, vb, vg, vc, vf, vs, C, F, S, T, vt, vn, wt, wn, vz, vk, vi, vj, va, vo) p := by
  unfold wpX_repeat
  refine rx_xref (w := 1) hh hm (by omega) (fun z => ?_) (fun z1 z2 => absurd hf (by omega)) (fun z1 z2 => ?_)
  · rcases hf with ⟨_, rfl⟩ | ⟨h1, _⟩
    · exact br_f (by decide) H
    · exact absurd z h1
  · rcases hf with ⟨h1, _⟩ | ⟨_, _, rfl⟩
    · exact absurd h1 z1
    · exact br_f (by decide) H
theorem rx_xgrF {post : Int32 → SX → Prop} {h m g : Nat} {r : Int32} (hg : g < 3) (hm : m ≤ 16) (hh : h ≤ 6) (hf : m = 16 ∧ r = -2 ∨ m ≠ 16 ∧ h = 0 ∧ r = -3) (H : post r (nI h, nI m, xl, xz, xn, xc, xd, xw, xe, vb, vg, vc, vf, vs, C, F, S, T, vt, vn, wt, wn, vz, vk, vi, vj, va, vo)) : wpX_group post (nI h, nI m, xl, xz, xn, xc, xd, xw, xe, vb, vg, vc, vf, vs, C, F, S, T, vt, vn, wt, wn, vz, vk, vi, vj, va, vo) (nI g) := by
  refine br_f (nI_pos (by omega)) (br_t (nI_le (b := 2) (by omega) (by decide)) ?_)
  refine rx_xref (w := 1) hh hm (by omega) (fun z => ?_) (fun z1 z2 => absurd hf (by omega)) (fun z1 z2 => ?_)
  · rcases hf with ⟨_, rfl⟩ | ⟨h1, _⟩
    · exact br_f (by decide) H
    · exact absurd z h1
  · rcases hf with ⟨h1, _⟩ | ⟨_, _, rfl⟩
    · exact absurd h1 z1
    · exact br_f (by decide) H
end
section
variable {xh xm xl xz xn xc xd xw xe : Int32} {vb vg vc vf vs C F S T vt vn wt wn vz vk vi vj va vo : Nat → Int32}
variable {ys yd yr yl yw : Int32} {ua ub uc ug uk K A B U ur ut uw uo : Nat → Int32}
theorem rx_LkRead {w c : Int32} {k : Nat} (hD : rx_D xh xm xl vb vg vc vf vs ys yd ua ub uc ug uk) (hk : k < 4) (hw : w = 0 ∧ nI k = c ∨ w = 1 ∧ nI k = 3) : rx_Lk (fun xh xm xl vb vg vc vf vs => (xh, xm, xl, xz, xn, xc, xd, xw, xe, vb, vg, vc, vf, vs, C, F, S, T, vt, vn, wt, wn, vz, vk, vi, vj, va, vo)) (fun ys yd ua ub uc ug uk => (ys, yd, yr, yl, yw, ua, ub, uc, ug, uk, K, A, B, U, ur, ut, uw, uo)) (fun post => wpX_leaf post (xh, xm, xl, xz, xn, xc, xd, xw, xe, vb, vg, vc, vf, vs, C, F, S, T, vt, vn, wt, wn, vz, vk, vi, vj, va, vo) w c) (fun post => wpY_leaf post (ys, yd, yr, yl, yw, ua, ub, uc, ug, uk, K, A, B, U, ur, ut, uw, uo) (nI k)) := by
  have hD' := hD
  obtain ⟨h, m, L, kd, fs, sd, dg, st, bg, rfl, rfl, hh, rfl, rfl, hm, rfl, hL, hW, hl, hg, hb0, hbh, hst⟩ := hD
  by_cases hf : m = 16 ∨ h = 6
  · exact ⟨-2, _, _, _, _, _, _, _, _, _, _, _, _, _, _, _, hD', fun post H => rx_xleafF hm hh hf H, fun post H => rx_yleafF hm hh hf H⟩
  · subst hbh
    refine ⟨nI (h + 1), nI (h + 1), nI (m + 1), nI (bg h + 1), upd vb h (nI (bg h)), upd vg h 0, upd vc (bg h) 0, upd vf (bg h) (nI k), upd vs (bg h) 0, nI (m + 1), nI (h + 1), upd ua m (nI k), upd ub m (nI 0), upd uc m (nI 0), upd ug m (nI 0), upd uk h (nI m), ?_, fun post H => rx_xleaf (by omega) (by omega) (by omega) hw H, fun post H => rx_yleaf (by omega) (by omega) H⟩
    refine rx_Dk (k := k) (a := 0) (b := 0) (g := 0) (p0 := h) (z := 1) hh (by omega) hW hl hg hb0 hst ⟨by omega, by omega, fun z => absurd z (by omega), fun z => absurd z (by omega), fun z => absurd z (by omega), fun z => absurd z (by omega)⟩ (Nat.le_refl _) (by omega) (by omega) (fun y hy => ⟨pk_un (by omega), pk_un (by omega), pk_un (by omega)⟩) rfl ?_ (fun t ht => pk_un (by omega)) pk_us (fun t ht => pk_un (by omega)) pk_us
    rw [rx_Y0 (by rw [rx_uNs]; exact hk), rx_uNs]
    exact ⟨rfl, pk_us, pk_us⟩
theorem rx_LkEmpty {c : Int32} (hD : rx_D xh xm xl vb vg vc vf vs ys yd ua ub uc ug uk) : rx_Lk (fun xh xm xl vb vg vc vf vs => (xh, xm, xl, xz, xn, xc, xd, xw, xe, vb, vg, vc, vf, vs, C, F, S, T, vt, vn, wt, wn, vz, vk, vi, vj, va, vo)) (fun ys yd ua ub uc ug uk => (ys, yd, yr, yl, yw, ua, ub, uc, ug, uk, K, A, B, U, ur, ut, uw, uo)) (fun post => wpX_leaf post (xh, xm, xl, xz, xn, xc, xd, xw, xe, vb, vg, vc, vf, vs, C, F, S, T, vt, vn, wt, wn, vz, vk, vi, vj, va, vo) 2 c) (fun post => wpY_leaf post (ys, yd, yr, yl, yw, ua, ub, uc, ug, uk, K, A, B, U, ur, ut, uw, uo) 4) := by
  have hD' := hD
  obtain ⟨h, m, L, kd, fs, sd, dg, st, bg, rfl, rfl, hh, rfl, rfl, hm, rfl, hL, hW, hl, hg, hb0, hbh, hst⟩ := hD
  by_cases hf : m = 16 ∨ h = 6
  · exact ⟨-2, _, _, _, _, _, _, _, _, _, _, _, _, _, _, _, hD', fun post H => rx_xleafF hm hh hf H, fun post H => rx_yleafF hm hh hf H⟩
  · subst hbh
    refine ⟨nI (h + 1), nI (h + 1), nI (m + 1), nI (bg h), upd vb h (nI (bg h)), upd vg h 0, vc, vf, vs, nI (m + 1), nI (h + 1), upd ua m (nI 4), upd ub m (nI 0), upd uc m (nI 0), upd ug m (nI 0), upd uk h (nI m), ?_, fun post H => rx_xleafE (by omega) (by omega) H, fun post H => rx_yleaf (by omega) (by omega) H⟩
    refine rx_Dk (k := 4) (a := 0) (b := 0) (g := 0) (p0 := h) (z := 0) hh (by omega) hW hl hg hb0 hst ⟨by omega, by omega, fun z => absurd z (by omega), fun z => absurd z (by omega), fun z => absurd z (by omega), fun z => absurd z (by omega)⟩ (Nat.le_refl _) (by omega) (by omega) (fun y hy => ⟨rfl, rfl, rfl⟩) rfl ?_ (fun t ht => pk_un (by omega)) pk_us (fun t ht => pk_un (by omega)) pk_us
    rw [rx_Y4 (by rw [rx_uNs])]
theorem rx_or8 {a b : Nat} (ha : a < 8) (hb : b < 8) : a ||| b < 8 := Nat.or_lt_two_pow (n := 3) ha hb
theorem rx_LkCat (hD : rx_D xh xm xl vb vg vc vf vs ys yd ua ub uc ug uk) : rx_Lk (fun xh xm xl vb vg vc vf vs => (xh, xm, xl, xz, xn, xc, xd, xw, xe, vb, vg, vc, vf, vs, C, F, S, T, vt, vn, wt, wn, vz, vk, vi, vj, va, vo)) (fun ys yd ua ub uc ug uk => (ys, yd, yr, yl, yw, ua, ub, uc, ug, uk, K, A, B, U, ur, ut, uw, uo)) (fun post => wpX_cat post (xh, xm, xl, xz, xn, xc, xd, xw, xe, vb, vg, vc, vf, vs, C, F, S, T, vt, vn, wt, wn, vz, vk, vi, vj, va, vo)) (fun post => wpY_pair post (ys, yd, yr, yl, yw, ua, ub, uc, ug, uk, K, A, B, U, ur, ut, uw, uo) 5) := by
  have hD' := hD
  obtain ⟨h, m, L, kd, fs, sd, dg, st, bg, rfl, rfl, hh, rfl, rfl, hm, rfl, hL, hW, hl, hg, hb0, hbh, hst⟩ := hD
  by_cases hm16 : m = 16
  · exact ⟨-2, _, _, _, _, _, _, _, _, _, _, _, _, _, _, _, hD', fun post H => rx_xcatF hm hh (Or.inl ⟨hm16, rfl⟩) H, fun post H => rx_ypairF hm hh (Or.inl ⟨hm16, rfl⟩) H⟩
  by_cases hh2 : h < 2
  · exact ⟨-3, _, _, _, _, _, _, _, _, _, _, _, _, _, _, _, hD', fun post H => rx_xcatF hm hh (Or.inr ⟨hm16, hh2, rfl⟩) H, fun post H => rx_ypairF hm hh (Or.inr ⟨hm16, hh2, rfl⟩) H⟩
  obtain ⟨h, rfl⟩ : ∃ h', h = h' + 2 := ⟨h - 2, by omega⟩
  obtain ⟨b1, k1, s1, g1, z1, e1, y1⟩ := hst h (by omega)
  obtain ⟨b2, k2, s2, g2, z2, e2, y2⟩ := hst (h + 1) (by omega)
  have e2 : bg (h + 2) = bg (h + 1) + z2 := e2
  have d1 := (hW _ s1).2.1
  have d2 := (hW _ s2).2.1
  subst hbh
  refine ⟨nI (h + 1), nI (h + 1), nI (m + 1), nI (bg (h + 2)), vb, upd vg h (vg h ||| vg (h + 1)), vc, vf, vs, nI (m + 1), nI (h + 1), upd ua m (nI 5), upd ub m (nI (st h)), upd uc m (nI (st (h + 1))), upd ug m (nI (dg (st h) ||| dg (st (h + 1)))), upd uk h (nI m), ?_, fun post H => rx_xcat (by omega) hh H, fun post H => rx_ypair (by omega) hh s1 s2 k1 k2 ?_⟩
  · refine rx_Dk (k := 5) (g := dg (st h) ||| dg (st (h + 1))) (p0 := h) (z := z1 + z2) hh (by omega) hW hl hg hb0 hst ⟨by omega, rx_or8 d1 d2, fun _ => ⟨s1, s2⟩, fun _ => rfl, fun z => absurd z (by omega), fun z => absurd z (by omega)⟩ (by omega) (by omega) (by omega) (fun y hy => ⟨rfl, rfl, rfl⟩) (by omega) ?_ (fun t ht => rfl) b1 (fun t ht => pk_un (by omega)) (by rw [pk_us, g1, g2, rx_nor])
    rw [rx_Y5 rx_uNs (by rw [rx_uNs, rx_uNs]; exact ⟨s1, s2⟩), rx_uNs, rx_uNs]
    refine ⟨z1, z2, rfl, rx_uY hW s1 (fun y hy => ⟨rfl, rfl, rfl⟩) y1, rx_uY hW s2 (fun y hy => ⟨rfl, rfl, rfl⟩) ?_⟩
    rw [← e1]; exact y2
  · rw [hg _ s1, hg _ s2, rx_nor]; exact H
theorem rx_LkAlt (hD : rx_D xh xm xl vb vg vc vf vs ys yd ua ub uc ug uk) : rx_Lk (fun xh xm xl vb vg vc vf vs => (xh, xm, xl, xz, xn, xc, xd, xw, xe, vb, vg, vc, vf, vs, C, F, S, T, vt, vn, wt, wn, vz, vk, vi, vj, va, vo)) (fun ys yd ua ub uc ug uk => (ys, yd, yr, yl, yw, ua, ub, uc, ug, uk, K, A, B, U, ur, ut, uw, uo)) (fun post => wpX_alt post (xh, xm, xl, xz, xn, xc, xd, xw, xe, vb, vg, vc, vf, vs, C, F, S, T, vt, vn, wt, wn, vz, vk, vi, vj, va, vo)) (fun post => wpY_pair post (ys, yd, yr, yl, yw, ua, ub, uc, ug, uk, K, A, B, U, ur, ut, uw, uo) 6) := by
  have hD' := hD
  obtain ⟨h, m, L, kd, fs, sd, dg, st, bg, rfl, rfl, hh, rfl, rfl, hm, rfl, hL, hW, hl, hg, hb0, hbh, hst⟩ := hD
  by_cases hm16 : m = 16
  · exact ⟨-2, _, _, _, _, _, _, _, _, _, _, _, _, _, _, _, hD', fun post H => rx_xaltF hm hh (Or.inl ⟨hm16, rfl⟩) H, fun post H => rx_ypairF hm hh (Or.inl ⟨hm16, rfl⟩) H⟩
  by_cases hh2 : h < 2
  · exact ⟨-3, _, _, _, _, _, _, _, _, _, _, _, _, _, _, _, hD', fun post H => rx_xaltF hm hh (Or.inr ⟨hm16, hh2, rfl⟩) H, fun post H => rx_ypairF hm hh (Or.inr ⟨hm16, hh2, rfl⟩) H⟩
  obtain ⟨h, rfl⟩ : ∃ h', h = h' + 2 := ⟨h - 2, by omega⟩
  obtain ⟨b1, k1, s1, g1, z1, e1, y1⟩ := hst h (by omega)
  obtain ⟨b2, k2, s2, g2, z2, e2, y2⟩ := hst (h + 1) (by omega)
  have e2 : bg (h + 2) = bg (h + 1) + z2 := e2
  have d1 := (hW _ s1).2.1
  have d2 := (hW _ s2).2.1
  subst hbh
  generalize hx : bg h = x at *
  generalize hy : bg (h + 1) = y at *
  generalize hLL : bg (h + 2) = L at *
  refine ⟨nI (h + 1), nI (h + 1), nI (m + 1), nI (L + 1 + 1), vb, upd vg h (vg h ||| vg (h + 1)), upd (rx_sh (upd (rx_sh vc y L) y 2) x (L + 1)) x 1, upd (rx_sh (upd (rx_sh vf y L) y (nI (L - y) + 1)) x (L + 1)) x 1, upd (rx_sh (upd (rx_sh vs y L) y 0) x (L + 1)) x (nI (y - x) + 2), nI (m + 1), nI (h + 1), upd ua m (nI 6), upd ub m (nI (st h)), upd uc m (nI (st (h + 1))), upd ug m (nI (dg (st h) ||| dg (st (h + 1)))), upd uk h (nI m), ?_, fun post H => rx_xalt (by omega) hh (by omega) (by omega) (by omega) b1 b2 H, fun post H => rx_ypair (by omega) hh s1 s2 k1 k2 ?_⟩
  · have at0 : ∀ (a : Nat → Int32) (u v : Int32), upd (rx_sh (upd (rx_sh a y L) y u) x (L + 1)) x v x = v := fun a u v => pk_us
    have at1 : ∀ (a : Nat → Int32) (u v : Int32) (q : Nat), q < z1 → upd (rx_sh (upd (rx_sh a y L) y u) x (L + 1)) x v (x + 1 + q) = a (x + q) := by
      intro a u v q hq
      rw [pk_un (by omega), show x + 1 + q = x + q + 1 by omega, rx_shm (by omega) (by omega), pk_un (by omega), rx_shl (by omega)]
    have at2 : ∀ (a : Nat → Int32) (u v : Int32), upd (rx_sh (upd (rx_sh a y L) y u) x (L + 1)) x v (x + 1 + z1) = u := by
      intro a u v
      rw [pk_un (by omega), show x + 1 + z1 = y + 1 by omega, rx_shm (by omega) (by omega), pk_us]
    have at3 : ∀ (a : Nat → Int32) (u v : Int32) (q : Nat), q < z2 → upd (rx_sh (upd (rx_sh a y L) y u) x (L + 1)) x v (x + 1 + z1 + 1 + q) = a (y + q) := by
      intro a u v q hq
      rw [pk_un (by omega), show x + 1 + z1 + 1 + q = y + q + 1 + 1 by omega, rx_shm (by omega) (by omega), pk_un (by omega), rx_shm (by omega) (by omega)]
    have lo : ∀ (a : Nat → Int32) (u v : Int32) (q : Nat), q < x → upd (rx_sh (upd (rx_sh a y L) y u) x (L + 1)) x v q = a q := by
      intro a u v q hq
      rw [pk_un (by omega), rx_shl (by omega), pk_un (by omega), rx_shl (by omega)]
    rw [← hx] at *
    refine rx_Dk (k := 6) (g := dg (st h) ||| dg (st (h + 1))) (p0 := h) (z := z1 + z2 + 2) hh (by omega) hW hl hg hb0 hst ⟨by omega, rx_or8 d1 d2, fun _ => ⟨s1, s2⟩, fun _ => rfl, fun z => absurd z (by omega), fun z => absurd z (by omega)⟩ (by omega) (by omega) (by omega) (fun q hq => ⟨lo _ _ _ q hq, lo _ _ _ q hq, lo _ _ _ q hq⟩) (by omega) ?_ (fun t ht => rfl) b1 (fun t ht => pk_un (by omega)) (by rw [pk_us, g1, g2, rx_nor])
    rw [rx_Y6 rx_uNs (by rw [rx_uNs, rx_uNs]; exact ⟨s1, s2⟩), rx_uNs, rx_uNs]
    refine ⟨z1, z2, rfl, at0 _ _ _, at0 _ _ _, ?_, rx_uY hW s1 (fun q hq => ⟨at1 _ _ _ q hq, at1 _ _ _ q hq, at1 _ _ _ q hq⟩) y1, at2 _ _ _, ?_, rx_uY hW s2 (fun q hq => ⟨at3 _ _ _ q hq, at3 _ _ _ q hq, at3 _ _ _ q hq⟩) y2⟩
    · rw [at0, show y - bg h = z1 by omega]; exact nI_add z1 2
    · rw [at2, show L - y = z2 by omega]; exact nI_1 z2
  · rw [hg _ s1, hg _ s2, rx_nor]; exact H
end
end
section
section
variable {xh xm xl xz xn xc xd xw xe : Int32} {vb vg vc vf vs C F S T vt vn wt wn vz vk vi vj va vo : Nat → Int32}
variable {ys yd yr yl yw : Int32} {ua ub uc ug uk K A B U ur ut uw uo : Nat → Int32}
/-- a frame around the top program: what stands where -/
theorem rx_fr0 {a : Nat → Int32} {x z : Nat} {u v : Int32} : upd (upd (rx_sh a x (x + z)) x u) (x + z + 1) v x = u := by
  rw [pk_un (by omega), pk_us]
theorem rx_fr1 {a : Nat → Int32} {x z q : Nat} {u v : Int32} (h : q < z) : upd (upd (rx_sh a x (x + z)) x u) (x + z + 1) v (x + 1 + q) = a (x + q) := by
  rw [pk_un (by omega), pk_un (by omega), show x + 1 + q = x + q + 1 by omega, rx_shm (by omega) (by omega)]
theorem rx_fr2 {a : Nat → Int32} {x z : Nat} {u v : Int32} : upd (upd (rx_sh a x (x + z)) x u) (x + z + 1) v (x + 1 + z) = v := by
  rw [show x + 1 + z = x + z + 1 by omega, pk_us]
theorem rx_frl {a : Nat → Int32} {x z q : Nat} {u v : Int32} (h : q < x) : upd (upd (rx_sh a x (x + z)) x u) (x + z + 1) v q = a q := by
  rw [pk_un (by omega), pk_un (by omega), rx_shl (by omega)]
theorem rx_LkRep {p : Int32} {k : Nat} (hD : rx_D xh xm xl vb vg vc vf vs ys yd ua ub uc ug uk) (hk : k = 7 ∧ p = 1 ∨ k = 8 ∧ p = 0) : rx_Lk (fun xh xm xl vb vg vc vf vs => (xh, xm, xl, xz, xn, xc, xd, xw, xe, vb, vg, vc, vf, vs, C, F, S, T, vt, vn, wt, wn, vz, vk, vi, vj, va, vo)) (fun ys yd ua ub uc ug uk => (ys, yd, yr, yl, yw, ua, ub, uc, ug, uk, K, A, B, U, ur, ut, uw, uo)) (fun post => wpX_repeat post (xh, xm, xl, xz, xn, xc, xd, xw, xe, vb, vg, vc, vf, vs, C, F, S, T, vt, vn, wt, wn, vz, vk, vi, vj, va, vo) p) (fun post => wpY_single post (ys, yd, yr, yl, yw, ua, ub, uc, ug, uk, K, A, B, U, ur, ut, uw, uo) (nI k)) := by
  have hD' := hD
  obtain ⟨h, m, L, kd, fs, sd, dg, st, bg, rfl, rfl, hh, rfl, rfl, hm, rfl, hL, hW, hl, hg, hb0, hbh, hst⟩ := hD
  by_cases hm16 : m = 16
  · exact ⟨-2, _, _, _, _, _, _, _, _, _, _, _, _, _, _, _, hD', fun post H => rx_xrepF hm hh (Or.inl ⟨hm16, rfl⟩) H, fun post H => rx_ysingleF hm hh (Or.inl ⟨hm16, rfl⟩) H⟩
  by_cases hh2 : h = 0
  · exact ⟨-3, _, _, _, _, _, _, _, _, _, _, _, _, _, _, _, hD', fun post H => rx_xrepF hm hh (Or.inr ⟨hm16, hh2, rfl⟩) H, fun post H => rx_ysingleF hm hh (Or.inr ⟨hm16, hh2, rfl⟩) H⟩
  obtain ⟨h, rfl⟩ : ∃ h', h = h' + 1 := ⟨h - 1, by omega⟩
  obtain ⟨b1, k1, s1, g1, z, e1, y1⟩ := hst h (by omega)
  have d1 := (hW _ s1).2.1
  rw [e1] at hbh
  subst hbh
  have hk' : k = 7 ∨ k = 8 := by omega
  refine ⟨nI (h + 1), nI (h + 1), nI (m + 1), nI (bg h + z + 2), vb, vg, upd (upd (rx_sh vc (bg h) (bg h + z)) (bg h) (if k = 7 then 5 else 6)) (bg h + z + 1) 7, upd (upd (rx_sh vf (bg h) (bg h + z)) (bg h) 1) (bg h + z + 1) (-nI (bg h + z - bg h) - 1), upd (upd (rx_sh vs (bg h) (bg h + z)) (bg h) (nI (bg h + z - bg h + 2))) (bg h + z + 1) 0, nI (m + 1), nI (h + 1), upd ua m (nI k), upd ub m (nI (st h)), upd uc m (nI 0), upd ug m (nI (dg (st h))), upd uk h (nI m), ?_, fun post H => rx_xrep (q := if k = 7 then 5 else 6) (by omega) hh (by omega) (by omega) b1 ?_ H, fun post H => rx_ysingle (g := dg (st h)) (by omega) hh s1 k1 (hg _ s1) ?_ H⟩
  · refine rx_Dk (k := k) (a := st h) (b := 0) (g := dg (st h)) (p0 := h) (z := z + 2) hh (by omega) hW hl hg hb0 hst ⟨by omega, d1, fun _ => ⟨s1, by omega⟩, fun z => absurd z (by omega), fun _ => rfl, fun z => absurd z (by omega)⟩ (by omega) (by omega) (by omega) (fun q hq => ⟨rx_frl hq, rx_frl hq, rx_frl hq⟩) (by omega) ?_ (fun t ht => rfl) b1 (fun t ht => rfl) g1
    rw [rx_Y7 (by rw [rx_uNs]; exact hk') (by rw [rx_uNs, rx_uNs]; exact ⟨s1, by omega⟩), rx_uNs, rx_uNs]
    refine ⟨z, rfl, rx_fr0, rx_fr0, ?_, rx_uY hW s1 (fun q hq => ⟨rx_fr1 hq, rx_fr1 hq, rx_fr1 hq⟩) y1, rx_fr2, ?_⟩
    · rw [rx_fr0, show bg h + z - bg h = z by omega]
    · rw [rx_fr2, show bg h + z - bg h = z by omega]
  · rcases hk with ⟨rfl, rfl⟩ | ⟨rfl, rfl⟩
    · exact Or.inr ⟨rfl, rfl⟩
    · exact Or.inl ⟨rfl, rfl⟩
  · rcases hk' with h | h
    · exact Or.inl ⟨h, rfl⟩
    · exact Or.inr (Or.inl ⟨h, rfl⟩)
theorem rx_LkGroup {g : Nat} (hD : rx_D xh xm xl vb vg vc vf vs ys yd ua ub uc ug uk) (hgr : g < 3) : rx_Lk (fun xh xm xl vb vg vc vf vs => (xh, xm, xl, xz, xn, xc, xd, xw, xe, vb, vg, vc, vf, vs, C, F, S, T, vt, vn, wt, wn, vz, vk, vi, vj, va, vo)) (fun ys yd ua ub uc ug uk => (ys, yd, yr, yl, yw, ua, ub, uc, ug, uk, K, A, B, U, ur, ut, uw, uo)) (fun post => wpX_group post (xh, xm, xl, xz, xn, xc, xd, xw, xe, vb, vg, vc, vf, vs, C, F, S, T, vt, vn, wt, wn, vz, vk, vi, vj, va, vo) (nI g)) (fun post => wpY_single post (ys, yd, yr, yl, yw, ua, ub, uc, ug, uk, K, A, B, U, ur, ut, uw, uo) (nI (9 + g))) := by
  have hD' := hD
  obtain ⟨h, m, L, kd, fs, sd, dg, st, bg, rfl, rfl, hh, rfl, rfl, hm, rfl, hL, hW, hl, hg, hb0, hbh, hst⟩ := hD
  by_cases hm16 : m = 16
  · exact ⟨-2, _, _, _, _, _, _, _, _, _, _, _, _, _, _, _, hD', fun post H => rx_xgrF hgr hm hh (Or.inl ⟨hm16, rfl⟩) H, fun post H => rx_ysingleF hm hh (Or.inl ⟨hm16, rfl⟩) H⟩
  by_cases hh2 : h = 0
  · exact ⟨-3, _, _, _, _, _, _, _, _, _, _, _, _, _, _, _, hD', fun post H => rx_xgrF hgr hm hh (Or.inr ⟨hm16, hh2, rfl⟩) H, fun post H => rx_ysingleF hm hh (Or.inr ⟨hm16, hh2, rfl⟩) H⟩
  obtain ⟨h, rfl⟩ : ∃ h', h = h' + 1 := ⟨h - 1, by omega⟩
  obtain ⟨b1, k1, s1, g1, z, e1, y1⟩ := hst h (by omega)
  have d1 := (hW _ s1).2.1
  cases hb : (dg (st h)).testBit g with
  | true => exact ⟨-4, _, _, _, _, _, _, _, _, _, _, _, _, _, _, _, hD', fun post H => rx_xgn (by omega) hh g1 d1 hgr hb H, fun post H => rx_ysingleN (by omega) hh s1 k1 (hg _ s1) hgr d1 hb H⟩
  | false =>
    have gb := rx_gb (dg (st h)) d1 g hgr
    rw [e1] at hbh
    subst hbh
    refine ⟨nI (h + 1), nI (h + 1), nI (m + 1), nI (bg h + z + 2), vb, upd vg h (nI (dg (st h) ||| 2 ^ g)), upd (upd (rx_sh vc (bg h) (bg h + z)) (bg h) 3) (bg h + z + 1) 3, upd (upd (rx_sh vf (bg h) (bg h + z)) (bg h) (nI (3 + g))) (bg h + z + 1) (nI g), upd (upd (rx_sh vs (bg h) (bg h + z)) (bg h) 0) (bg h + z + 1) 0, nI (m + 1), nI (h + 1), upd ua m (nI (9 + g)), upd ub m (nI (st h)), upd uc m (nI 0), upd ug m (nI (dg (st h) ||| 2 ^ g)), upd uk h (nI m), ?_, fun post H => rx_xgr (by omega) hh (by omega) (by omega) b1 g1 d1 hgr hb H, fun post H => rx_ysingle (g := dg (st h) ||| 2 ^ g) (by omega) hh s1 k1 (hg _ s1) (Or.inr (Or.inr ⟨g, hgr, rfl, d1, hb, rfl⟩)) H⟩
    refine rx_Dk (k := 9 + g) (a := st h) (b := 0) (g := dg (st h) ||| 2 ^ g) (p0 := h) (z := z + 2) hh (by omega) hW hl hg hb0 hst ⟨by omega, gb.2.2.2.2, fun _ => ⟨s1, by omega⟩, fun z => absurd z (by omega), fun z => absurd z (by omega), fun _ => ?_⟩ (by omega) (by omega) (by omega) (fun q hq => ⟨rx_frl hq, rx_frl hq, rx_frl hq⟩) (by omega) ?_ (fun t ht => rfl) b1 (fun t ht => pk_un (by omega)) pk_us
    · rw [show 9 + g - 9 = g by omega]; exact ⟨rfl, hb⟩
    · rw [rx_Y9 (by rw [rx_uNs]; omega) (by rw [rx_uNs, rx_uNs]; exact ⟨s1, by omega⟩), rx_uNs, rx_uNs]
      refine ⟨z, rfl, rx_fr0, ?_, rx_uY hW s1 (fun q hq => ⟨rx_fr1 hq, rx_fr1 hq, rx_fr1 hq⟩) y1, rx_fr2, ?_⟩
      · rw [rx_fr0]; exact congrArg nI (by omega)
      · rw [rx_fr2]; exact congrArg nI (by omega)
end
end
section
/-! the relation; define -/
def rx_U (C F S : Nat → Int32) (yr : Int32) (K A B : Nat → Int32) : Prop :=
  ∃ (kd fs sd dg : Nat → Nat) (m e : Nat), yr = nI m ∧ m < 16 ∧ rx_W kd fs sd dg (m + 1) ∧ rx_lk K A B kd fs sd (m + 1) ∧ rx_P C F S e ∧ rx_Y kd fs sd C F S m 0 e
def rx_Tx (xn : Int32) (T : Nat → Int32) (yl : Int32) (U : Nat → Int32) : Prop := U = T ∧ ∃ n, n ≤ 10 ∧ xn = nI n ∧ yl = nI n
theorem rx_D0 (vb vg vc vf vs ua ub uc ug uk : Nat → Int32) : rx_D 0 0 0 vb vg vc vf vs 0 0 ua ub uc ug uk :=
  ⟨0, 0, 0, fun _ => 0, fun _ => 0, fun _ => 0, fun _ => 0, fun _ => 0, fun _ => 0, rfl, rfl, by omega, rfl, rfl, by omega, rfl, by omega, fun p hp => absurd hp (by omega), fun p hp => absurd hp (by omega), fun p hp => absurd hp (by omega), rfl, rfl, fun t ht => absurd ht (by omega)⟩
section
variable {xh xm xl xz xn xc xd xw xe : Int32} {vb vg vc vf vs C F S T vt vn wt wn vz vk vi vj va vo : Nat → Int32}
theorem rx_df29 {post : Int32 → SX → Prop} {x z : Nat} (hz : x + z ≤ 32) (H : post xh (0, 0, 0, nI (z + 1), xn, xc, xd, xw, xe, vb, vg, vc, vf, vs, upd (rx_cp C 0 (fun k => vc (x + k)) z) z 4, rx_cp F 0 (fun k => vf (x + k)) z, rx_cp S 0 (fun k => vs (x + k)) z, T, vt, vn, wt, wn, vz, vk, vi, vj, va, vo)) :
    ∀ d k f, k + d = z → d < f → wX_define_29 post xh xm (nI (x + z)) xn xc xd xw xe f (nI (x + k)) (nI k) vb vg vc vf vs (rx_cp C 0 (fun k => vc (x + k)) k) (rx_cp F 0 (fun k => vf (x + k)) k) (rx_cp S 0 (fun k => vs (x + k)) k) T vt vn wt wn vz vk vi vj va vo := by
  intro d
  induction d with
  | zero =>
    intro k f hk hf
    obtain ⟨f, rfl⟩ : ∃ f', f = f' + 1 := ⟨f - 1, by omega⟩
    have : k = z := by omega
    subst this
    refine br_t (nI_le (by omega) (by omega)) (And.intro (vp_in_nI (by omega) (by omega)) (nm_r (e' := upd (rx_cp C 0 (fun k => vc (x + k)) k) k 4) (by rw [nI_clamp (by omega)]) (nm_r (nI_1 k) ?_)))
    exact H
  | succ d ih =>
    intro k f hk hf
    obtain ⟨f, rfl⟩ : ∃ f', f = f' + 1 := ⟨f - 1, by omega⟩
    have hin : vp_in (nI (x + k)) 64 := vp_in_nI (by omega) (by omega)
    have hik : vp_in (nI k) 64 := vp_in_nI (by omega) (by omega)
    have hc : (nI (x + k)).toNatClampNeg = x + k := nI_clamp (by omega)
    have hck : (nI k).toNatClampNeg = k := nI_clamp (by omega)
    have st : ∀ a g : Nat → Int32, upd (rx_cp a 0 (fun k => g (x + k)) k) k (g (x + k)) = rx_cp a 0 (fun k => g (x + k)) (k + 1) := by
      intro a g
      have := rx_cps (a := a) (g := fun k => g (x + k)) (o := 0) (m := k)
      rw [Nat.zero_add] at this
      exact this
    refine br_f (nI_ge (by omega) (by omega)) (And.intro hin (And.intro hik (nm_r (e' := rx_cp C 0 (fun k => vc (x + k)) (k + 1)) (by rw [hc, hck]; exact st _ _) (And.intro hin (And.intro hik (nm_r (e' := rx_cp F 0 (fun k => vf (x + k)) (k + 1)) (by rw [hc, hck]; exact st _ _) (And.intro hin (And.intro hik (nm_r (e' := rx_cp S 0 (fun k => vs (x + k)) (k + 1)) (by rw [hc, hck]; exact st _ _) (nm_r (nI_1 k) (nm_r (nI_1 (x + k)) (ih (k + 1) f (by omega) (by omega)))))))))))))
theorem rx_xdef {post : Int32 → SX → Prop} {h x z : Nat} (hh : h + 1 ≤ 6) (ex : vb h = nI x) (hz : x + z ≤ 32) (H : post (nI (h + 1)) (0, 0, 0, nI (z + 1), xn, xc, xd, xw, xe, vb, vg, vc, vf, vs, upd (rx_cp C 0 (fun k => vc (x + k)) z) z 4, rx_cp F 0 (fun k => vf (x + k)) z, rx_cp S 0 (fun k => vs (x + k)) z, T, vt, vn, wt, wn, vz, vk, vi, vj, va, vo)) : wpX_define post (nI (h + 1), xm, nI (x + z), xz, xn, xc, xd, xw, xe, vb, vg, vc, vf, vs, C, F, S, T, vt, vn, wt, wn, vz, vk, vi, vj, va, vo) := by
  refine br_f (nI_ne0 (by omega) (by omega)) (And.intro (by rw [nI_pred]; exact vp_in_nI (by omega) (by omega)) (nm_r (e' := nI x) (by rw [nI_pred, nI_clamp (by omega), ex]) ⟨z + 1, ?_⟩))
  have := rx_df29 (xm := xm) hz H z 0 (z + 1) (by omega) (by omega)
  rw [rx_cp0, rx_cp0, rx_cp0, Nat.add_zero] at this
  exact this
end
section
variable {ys yd yr yl yw : Int32} {ua ub uc ug uk K A B U ur ut uw uo : Nat → Int32}
theorem rx_df12 {post : Int32 → SY → Prop} {h m r : Nat} (hh : h + 1 ≤ 6) (hm : m ≤ 16) (er : uk h = nI r) (H : post (nI (h + 1)) (0, 0, nI r, yl, yw, ua, ub, uc, ug, uk, rx_cp K 0 ua m, rx_cp A 0 ub m, rx_cp B 0 uc m, U, ur, ut, uw, uo)) :
    ∀ d k f, k + d = m → d < f → wY_define_12 post (nI m) (nI (h + 1)) yr yl yw f (nI k) ua ub uc ug uk (rx_cp K 0 ua k) (rx_cp A 0 ub k) (rx_cp B 0 uc k) U ur ut uw uo := by
  intro d
  induction d with
  | zero =>
    intro k f hk hf
    obtain ⟨f, rfl⟩ : ∃ f', f = f' + 1 := ⟨f - 1, by omega⟩
    have : k = m := by omega
    subst this
    refine br_t (nI_le (by omega) (by omega)) (And.intro (by rw [nI_pred]; exact vp_in_nI (by omega) (by omega)) (nm_r (e' := nI r) (by rw [nI_pred, nI_clamp (by omega), er]) ?_))
    exact H
  | succ d ih =>
    intro k f hk hf
    obtain ⟨f, rfl⟩ : ∃ f', f = f' + 1 := ⟨f - 1, by omega⟩
    have hik : vp_in (nI k) 16 := vp_in_nI (by omega) (by omega)
    have hck : (nI k).toNatClampNeg = k := nI_clamp (by omega)
    have st : ∀ a g : Nat → Int32, upd (rx_cp a 0 g k) k (g k) = rx_cp a 0 g (k + 1) := by
      intro a g
      have := rx_cps (a := a) (g := g) (o := 0) (m := k)
      rw [Nat.zero_add] at this
      exact this
    exact br_f (nI_ge (by omega) (by omega)) (And.intro hik (And.intro hik (nm_r (e' := rx_cp K 0 ua (k + 1)) (by rw [hck]; exact st _ _) (And.intro hik (And.intro hik (nm_r (e' := rx_cp A 0 ub (k + 1)) (by rw [hck]; exact st _ _) (And.intro hik (And.intro hik (nm_r (e' := rx_cp B 0 uc (k + 1)) (by rw [hck]; exact st _ _) (nm_r (nI_1 k) (ih (k + 1) f (by omega) (by omega))))))))))))
theorem rx_ydef {post : Int32 → SY → Prop} {h m r : Nat} (hh : h + 1 ≤ 6) (hm : m ≤ 16) (er : uk h = nI r) (H : post (nI (h + 1)) (0, 0, nI r, yl, yw, ua, ub, uc, ug, uk, rx_cp K 0 ua m, rx_cp A 0 ub m, rx_cp B 0 uc m, U, ur, ut, uw, uo)) : wpY_define post (nI m, nI (h + 1), yr, yl, yw, ua, ub, uc, ug, uk, K, A, B, U, ur, ut, uw, uo) := by
  refine br_f (nI_ne0 (by omega) (by omega)) ⟨m + 1, ?_⟩
  have := rx_df12 (yr := yr) hh hm er H m 0 (m + 1) (by omega) (by omega)
  rw [rx_cp0, rx_cp0, rx_cp0] at this
  exact this
end
def rx_R (u : SX) (v : SY) : Prop := match u with
  | (xh, xm, xl, xz, xn, xc, xd, xw, xe, vb, vg, vc, vf, vs, C, F, S, T, vt, vn, wt, wn, vz, vk, vi, vj, va, vo) => match v with
    | (ys, yd, yr, yl, yw, ua, ub, uc, ug, uk, K, A, B, U, ur, ut, uw, uo) => rx_D xh xm xl vb vg vc vf vs ys yd ua ub uc ug uk ∧ rx_U C F S yr K A B ∧ rx_Tx xn T yl U
/-- drafts, programs in use and texts of the two are alike -/
def i_Rel (k : Nat) (u : SX) (v : SY) : Prop := rx_R u v
theorem i_up {k : Nat} {u : SX} {v : SY} (h : i_Rel k u v) : i_Rel (k + 3) u v := h
theorem i_vc0 : wpX_init (fun u => wpY_init (fun v => i_Rel 0 u v)) := by
  refine nm_e (nm_e ?_)
  refine And.intro (rx_D0 _ _ _ _ _ _ _ _ _ _) (And.intro ?_ (And.intro rfl ⟨0, by omega, rfl, rfl⟩))
  have W : rx_W (fun _ => 4) (fun _ => 0) (fun _ => 0) (fun _ => 0) 1 := by
    intro p hp
    dsimp only
    exact ⟨by decide, by decide, fun z => absurd z (by decide), fun z => absurd z (by decide), fun z => absurd z (by decide), fun z => absurd z (by decide)⟩
  refine ⟨fun _ => 4, fun _ => 0, fun _ => 0, fun _ => 0, 0, 0, rfl, by omega, W, ?_, ⟨by omega, pk_us, fun x hx => absurd hx (by omega), by show (0 : Nat) ≤ 16; omega⟩, ?_⟩
  · intro p hp
    have : p = 0 := by omega
    subst this
    exact ⟨pk_us, rfl, rfl⟩
  · rw [rx_Y4 rfl]
theorem rx_el {k : Nat} {u : SX} {v : SY} {P : SX → SY → Prop} (h : ∀ xh xm xl xz xn xc xd xw xe vb vg vc vf vs C F S T vt vn wt wn vz vk vi vj va vo ys yd yr yl yw ua ub uc ug uk K A B U ur ut uw uo, rx_D xh xm xl vb vg vc vf vs ys yd ua ub uc ug uk → rx_U C F S yr K A B → rx_Tx xn T yl U → P (xh, xm, xl, xz, xn, xc, xd, xw, xe, vb, vg, vc, vf, vs, C, F, S, T, vt, vn, wt, wn, vz, vk, vi, vj, va, vo) (ys, yd, yr, yl, yw, ua, ub, uc, ug, uk, K, A, B, U, ur, ut, uw, uo)) (I : i_Rel k u v) : P u v := by
  obtain ⟨xh, xm, xl, xz, xn, xc, xd, xw, xe, vb, vg, vc, vf, vs, C, F, S, T, vt, vn, wt, wn, vz, vk, vi, vj, va, vo⟩ := u
  obtain ⟨ys, yd, yr, yl, yw, ua, ub, uc, ug, uk, K, A, B, U, ur, ut, uw, uo⟩ := v
  have I' : rx_D xh xm xl vb vg vc vf vs ys yd ua ub uc ug uk ∧ rx_U C F S yr K A B ∧ rx_Tx xn T yl U := I
  exact h _ _ _ _ _ _ _ _ _ _ _ _ _ _ _ _ _ _ _ _ _ _ _ _ _ _ _ _ _ _ _ _ _ _ _ _ _ _ _ _ _ _ _ _ _ _ I'.1 I'.2.1 I'.2.2
theorem i_vc_steps {k : Nat} {u : SX} {v : SY} (I : i_Rel k u v) (hk : k + 3 ≤ 1536) : wpX_steps (fun r => wpY_steps (fun r' => r' = r ∧ i_Rel (k + 3) u v) v) u := by
  refine rx_el (P := fun u v => wpX_steps (fun r => wpY_steps (fun r' => r' = r ∧ i_Rel (k + 3) u v) v) u) ?_ I
  intro xh xm xl xz xn xc xd xw xe vb vg vc vf vs C F S T vt vn wt wn vz vk vi vj va vo ys yd yr yl yw ua ub uc ug uk K A B U ur ut uw uo hD hU hT
  refine And.intro ?_ (And.intro hD (And.intro hU hT))
  obtain ⟨h, m, L, kd, fs, sd, dg, st, bg, e1, e2, hh, e3, e4, _⟩ := hD
  rw [e3]; exact e4
theorem i_vc_depth {k : Nat} {u : SX} {v : SY} (I : i_Rel k u v) (hk : k + 3 ≤ 1536) : wpX_depth (fun r => wpY_depth (fun r' => r' = r ∧ i_Rel (k + 3) u v) v) u := by
  refine rx_el (P := fun u v => wpX_depth (fun r => wpY_depth (fun r' => r' = r ∧ i_Rel (k + 3) u v) v) u) ?_ I
  intro xh xm xl xz xn xc xd xw xe vb vg vc vf vs C F S T vt vn wt wn vz vk vi vj va vo ys yd yr yl yw ua ub uc ug uk K A B U ur ut uw uo hD hU hT
  refine And.intro ?_ (And.intro hD (And.intro hU hT))
  obtain ⟨h, m, L, kd, fs, sd, dg, st, bg, e1, e2, hh, e3, e4, _⟩ := hD
  rw [e1]; exact e2
theorem i_vc_length {k : Nat} {u : SX} {v : SY} (I : i_Rel k u v) (hk : k + 3 ≤ 1536) : wpX_length (fun r => wpY_length (fun r' => r' = r ∧ i_Rel (k + 3) u v) v) u := by
  refine rx_el (P := fun u v => wpX_length (fun r => wpY_length (fun r' => r' = r ∧ i_Rel (k + 3) u v) v) u) ?_ I
  intro xh xm xl xz xn xc xd xw xe vb vg vc vf vs C F S T vt vn wt wn vz vk vi vj va vo ys yd yr yl yw ua ub uc ug uk K A B U ur ut uw uo hD hU hT
  refine And.intro ?_ (And.intro hD (And.intro hU hT))
  obtain ⟨_, n, _, e1, e2⟩ := hT
  rw [e1]; exact e2
theorem i_vc_discard {k : Nat} {u : SX} {v : SY} (I : i_Rel k u v) (hk : k + 3 ≤ 1536) : wpX_discard (fun u' => wpY_discard (fun v' => i_Rel (k + 3) u' v') v) u := by
  refine rx_el (P := fun u v => wpX_discard (fun u' => wpY_discard (fun v' => i_Rel (k + 3) u' v') v) u) ?_ I
  intro xh xm xl xz xn xc xd xw xe vb vg vc vf vs C F S T vt vn wt wn vz vk vi vj va vo ys yd yr yl yw ua ub uc ug uk K A B U ur ut uw uo hD hU hT
  exact And.intro (rx_D0 _ _ _ _ _ _ _ _ _ _) (And.intro hU hT)
theorem i_vc_erase {k : Nat} {u : SX} {v : SY} (I : i_Rel k u v) (hk : k + 3 ≤ 1536) : wpX_erase (fun u' => wpY_erase (fun v' => i_Rel (k + 3) u' v') v) u := by
  refine rx_el (P := fun u v => wpX_erase (fun u' => wpY_erase (fun v' => i_Rel (k + 3) u' v') v) u) ?_ I
  intro xh xm xl xz xn xc xd xw xe vb vg vc vf vs C F S T vt vn wt wn vz vk vi vj va vo ys yd yr yl yw ua ub uc ug uk K A B U ur ut uw uo hD hU hT
  exact And.intro hD (And.intro hU (And.intro hT.1 ⟨0, by omega, rfl, rfl⟩))
theorem i_vc_feed {k : Nat} {u : SX} {v : SY} (I : i_Rel k u v) (hk : k + 3 ≤ 1536) (v1 : Int32) : wpX_feed (fun r u' => wpY_feed (fun r' v' => r' = r ∧ i_Rel (k + 3) u' v') v v1) u v1 := by
  refine rx_el (P := fun u v => wpX_feed (fun r u' => wpY_feed (fun r' v' => r' = r ∧ i_Rel (k + 3) u' v') v v1) u v1) ?_ I
  intro xh xm xl xz xn xc xd xw xe vb vg vc vf vs C F S T vt vn wt wn vz vk vi vj va vo ys yd yr yl yw ua ub uc ug uk K A B U ur ut uw uo hD hU hT
  have hT' := hT
  obtain ⟨rfl, n, hn, rfl, rfl⟩ := hT
  have same : ∀ r : Int32, r = r ∧ i_Rel (k + 3) (xh, xm, xl, xz, nI n, xc, xd, xw, xe, vb, vg, vc, vf, vs, C, F, S, U, vt, vn, wt, wn, vz, vk, vi, vj, va, vo) (ys, yd, yr, nI n, yw, ua, ub, uc, ug, uk, K, A, B, U, ur, ut, uw, uo) := fun r => And.intro rfl (And.intro hD (And.intro hU hT'))
  by_cases h0 : v1 < 0
  · exact br_t h0 (br_t h0 (same _))
  · by_cases h2 : v1 ≤ 2
    · refine br_f h0 (br_t h2 (pk_eq n 10 (fun hn10 => ?_) (fun hn10 => ?_)))
      · exact br_f h0 (br_t h2 (br_t (by rw [hn10]; rfl) (same _)))
      · refine And.intro (vp_in_nI (by omega) (by omega)) (nm_r (e' := upd U n v1) (by rw [nI_clamp (by omega)]) (nm_r (nI_1 n) ?_))
        refine br_f h0 (br_t h2 (br_f (fun z => hn10 ((nI_eq (by omega) (by omega)).mp z)) ?_))
        refine And.intro (vp_in_nI (by omega) (by omega)) (nm_r (e' := upd U n v1) (by rw [nI_clamp (by omega)]) (nm_r (nI_1 n) ?_))
        exact And.intro rfl (And.intro hD (And.intro hU (And.intro rfl ⟨n + 1, by omega, rfl, rfl⟩)))
    · exact br_f h0 (br_f h2 (br_f h0 (br_f h2 (same _))))
end
section
/-! the owed statements -/
theorem i_vc_any {k : Nat} {u : SX} {v : SY} (I : i_Rel k u v) (hk : k + 3 ≤ 1536) : wpX_any (fun r u' => wpY_any (fun r' v' => r' = r ∧ i_Rel (k + 3) u' v') v) u := by
  refine rx_el (P := fun u v => wpX_any (fun r u' => wpY_any (fun r' v' => r' = r ∧ i_Rel (k + 3) u' v') v) u) ?_ I
  intro xh xm xl xz xn xc xd xw xe vb vg vc vf vs C F S T vt vn wt wn vz vk vi vj va vo ys yd yr yl yw ua ub uc ug uk K A B U ur ut uw uo hD hU hT
  obtain ⟨r, xh', xm', xl', vb', vg', vc', vf', vs', ys', yd', ua', ub', uc', ug', uk', hD', hX, hY⟩ := rx_LkRead (xz := xz) (xn := xn) (xc := xc) (xd := xd) (xw := xw) (xe := xe) (C := C) (F := F) (S := S) (T := T) (vt := vt) (vn := vn) (wt := wt) (wn := wn) (vz := vz) (vk := vk) (vi := vi) (vj := vj) (va := va) (vo := vo) (yr := yr) (yl := yl) (yw := yw) (K := K) (A := A) (B := B) (U := U) (ur := ur) (ut := ut) (uw := uw) (uo := uo) (w := 1) (c := 0) (k := 3) hD (by omega) (Or.inr ⟨rfl, rfl⟩)
  unfold wpX_any wpY_any
  exact hX _ (hY _ (And.intro rfl (And.intro hD' (And.intro hU hT))))
theorem i_vc_empty {k : Nat} {u : SX} {v : SY} (I : i_Rel k u v) (hk : k + 3 ≤ 1536) : wpX_empty (fun r u' => wpY_empty (fun r' v' => r' = r ∧ i_Rel (k + 3) u' v') v) u := by
  refine rx_el (P := fun u v => wpX_empty (fun r u' => wpY_empty (fun r' v' => r' = r ∧ i_Rel (k + 3) u' v') v) u) ?_ I
  intro xh xm xl xz xn xc xd xw xe vb vg vc vf vs C F S T vt vn wt wn vz vk vi vj va vo ys yd yr yl yw ua ub uc ug uk K A B U ur ut uw uo hD hU hT
  obtain ⟨r, xh', xm', xl', vb', vg', vc', vf', vs', ys', yd', ua', ub', uc', ug', uk', hD', hX, hY⟩ := rx_LkEmpty (xz := xz) (xn := xn) (xc := xc) (xd := xd) (xw := xw) (xe := xe) (C := C) (F := F) (S := S) (T := T) (vt := vt) (vn := vn) (wt := wt) (wn := wn) (vz := vz) (vk := vk) (vi := vi) (vj := vj) (va := va) (vo := vo) (yr := yr) (yl := yl) (yw := yw) (K := K) (A := A) (B := B) (U := U) (ur := ur) (ut := ut) (uw := uw) (uo := uo) (c := 0) hD
  unfold wpX_empty wpY_empty
  exact hX _ (hY _ (And.intro rfl (And.intro hD' (And.intro hU hT))))
theorem i_vc_cat {k : Nat} {u : SX} {v : SY} (I : i_Rel k u v) (hk : k + 3 ≤ 1536) : wpX_cat (fun r u' => wpY_cat (fun r' v' => r' = r ∧ i_Rel (k + 3) u' v') v) u := by
  refine rx_el (P := fun u v => wpX_cat (fun r u' => wpY_cat (fun r' v' => r' = r ∧ i_Rel (k + 3) u' v') v) u) ?_ I
  intro xh xm xl xz xn xc xd xw xe vb vg vc vf vs C F S T vt vn wt wn vz vk vi vj va vo ys yd yr yl yw ua ub uc ug uk K A B U ur ut uw uo hD hU hT
  obtain ⟨r, xh', xm', xl', vb', vg', vc', vf', vs', ys', yd', ua', ub', uc', ug', uk', hD', hX, hY⟩ := rx_LkCat (xz := xz) (xn := xn) (xc := xc) (xd := xd) (xw := xw) (xe := xe) (C := C) (F := F) (S := S) (T := T) (vt := vt) (vn := vn) (wt := wt) (wn := wn) (vz := vz) (vk := vk) (vi := vi) (vj := vj) (va := va) (vo := vo) (yr := yr) (yl := yl) (yw := yw) (K := K) (A := A) (B := B) (U := U) (ur := ur) (ut := ut) (uw := uw) (uo := uo) hD
  unfold wpY_cat
  exact hX _ (hY _ (And.intro rfl (And.intro hD' (And.intro hU hT))))
theorem i_vc_alt {k : Nat} {u : SX} {v : SY} (I : i_Rel k u v) (hk : k + 3 ≤ 1536) : wpX_alt (fun r u' => wpY_alt (fun r' v' => r' = r ∧ i_Rel (k + 3) u' v') v) u := by
  refine rx_el (P := fun u v => wpX_alt (fun r u' => wpY_alt (fun r' v' => r' = r ∧ i_Rel (k + 3) u' v') v) u) ?_ I
  intro xh xm xl xz xn xc xd xw xe vb vg vc vf vs C F S T vt vn wt wn vz vk vi vj va vo ys yd yr yl yw ua ub uc ug uk K A B U ur ut uw uo hD hU hT
  obtain ⟨r, xh', xm', xl', vb', vg', vc', vf', vs', ys', yd', ua', ub', uc', ug', uk', hD', hX, hY⟩ := rx_LkAlt (xz := xz) (xn := xn) (xc := xc) (xd := xd) (xw := xw) (xe := xe) (C := C) (F := F) (S := S) (T := T) (vt := vt) (vn := vn) (wt := wt) (wn := wn) (vz := vz) (vk := vk) (vi := vi) (vj := vj) (va := va) (vo := vo) (yr := yr) (yl := yl) (yw := yw) (K := K) (A := A) (B := B) (U := U) (ur := ur) (ut := ut) (uw := uw) (uo := uo) hD
  unfold wpY_alt
  exact hX _ (hY _ (And.intro rfl (And.intro hD' (And.intro hU hT))))
theorem i_vc_star {k : Nat} {u : SX} {v : SY} (I : i_Rel k u v) (hk : k + 3 ≤ 1536) : wpX_star (fun r u' => wpY_star (fun r' v' => r' = r ∧ i_Rel (k + 3) u' v') v) u := by
  refine rx_el (P := fun u v => wpX_star (fun r u' => wpY_star (fun r' v' => r' = r ∧ i_Rel (k + 3) u' v') v) u) ?_ I
  intro xh xm xl xz xn xc xd xw xe vb vg vc vf vs C F S T vt vn wt wn vz vk vi vj va vo ys yd yr yl yw ua ub uc ug uk K A B U ur ut uw uo hD hU hT
  obtain ⟨r, xh', xm', xl', vb', vg', vc', vf', vs', ys', yd', ua', ub', uc', ug', uk', hD', hX, hY⟩ := rx_LkRep (xz := xz) (xn := xn) (xc := xc) (xd := xd) (xw := xw) (xe := xe) (C := C) (F := F) (S := S) (T := T) (vt := vt) (vn := vn) (wt := wt) (wn := wn) (vz := vz) (vk := vk) (vi := vi) (vj := vj) (va := va) (vo := vo) (yr := yr) (yl := yl) (yw := yw) (K := K) (A := A) (B := B) (U := U) (ur := ur) (ut := ut) (uw := uw) (uo := uo) (p := 1) (k := 7) hD (Or.inl ⟨rfl, rfl⟩)
  unfold wpX_star wpY_star
  exact hX _ (hY _ (And.intro rfl (And.intro hD' (And.intro hU hT))))
theorem i_vc_lazy {k : Nat} {u : SX} {v : SY} (I : i_Rel k u v) (hk : k + 3 ≤ 1536) : wpX_lazy (fun r u' => wpY_lazy (fun r' v' => r' = r ∧ i_Rel (k + 3) u' v') v) u := by
  refine rx_el (P := fun u v => wpX_lazy (fun r u' => wpY_lazy (fun r' v' => r' = r ∧ i_Rel (k + 3) u' v') v) u) ?_ I
  intro xh xm xl xz xn xc xd xw xe vb vg vc vf vs C F S T vt vn wt wn vz vk vi vj va vo ys yd yr yl yw ua ub uc ug uk K A B U ur ut uw uo hD hU hT
  obtain ⟨r, xh', xm', xl', vb', vg', vc', vf', vs', ys', yd', ua', ub', uc', ug', uk', hD', hX, hY⟩ := rx_LkRep (xz := xz) (xn := xn) (xc := xc) (xd := xd) (xw := xw) (xe := xe) (C := C) (F := F) (S := S) (T := T) (vt := vt) (vn := vn) (wt := wt) (wn := wn) (vz := vz) (vk := vk) (vi := vi) (vj := vj) (va := va) (vo := vo) (yr := yr) (yl := yl) (yw := yw) (K := K) (A := A) (B := B) (U := U) (ur := ur) (ut := ut) (uw := uw) (uo := uo) (p := 0) (k := 8) hD (Or.inr ⟨rfl, rfl⟩)
  unfold wpX_lazy wpY_lazy
  exact hX _ (hY _ (And.intro rfl (And.intro hD' (And.intro hU hT))))
theorem i_vc_letter {k : Nat} {u : SX} {v : SY} (I : i_Rel k u v) (hk : k + 3 ≤ 1536) (v1 : Int32) : wpX_letter (fun r u' => wpY_letter (fun r' v' => r' = r ∧ i_Rel (k + 3) u' v') v v1) u v1 := by
  refine rx_el (P := fun u v => wpX_letter (fun r u' => wpY_letter (fun r' v' => r' = r ∧ i_Rel (k + 3) u' v') v v1) u v1) ?_ I
  intro xh xm xl xz xn xc xd xw xe vb vg vc vf vs C F S T vt vn wt wn vz vk vi vj va vo ys yd yr yl yw ua ub uc ug uk K A B U ur ut uw uo hD hU hT
  have same : ∀ r : Int32, r = r ∧ i_Rel (k + 3) (xh, xm, xl, xz, xn, xc, xd, xw, xe, vb, vg, vc, vf, vs, C, F, S, T, vt, vn, wt, wn, vz, vk, vi, vj, va, vo) (ys, yd, yr, yl, yw, ua, ub, uc, ug, uk, K, A, B, U, ur, ut, uw, uo) := fun r => And.intro rfl (And.intro hD (And.intro hU hT))
  by_cases h0 : v1 < 0
  · exact br_t h0 (br_t h0 (same _))
  · by_cases h2 : v1 ≤ 2
    · obtain ⟨c, hc, rfl⟩ := nI_of2 (M := 2) (n := 2) (by decide) h0 h2
      obtain ⟨r, xh', xm', xl', vb', vg', vc', vf', vs', ys', yd', ua', ub', uc', ug', uk', hD', hX, hY⟩ := rx_LkRead (xz := xz) (xn := xn) (xc := xc) (xd := xd) (xw := xw) (xe := xe) (C := C) (F := F) (S := S) (T := T) (vt := vt) (vn := vn) (wt := wt) (wn := wn) (vz := vz) (vk := vk) (vi := vi) (vj := vj) (va := va) (vo := vo) (yr := yr) (yl := yl) (yw := yw) (K := K) (A := A) (B := B) (U := U) (ur := ur) (ut := ut) (uw := uw) (uo := uo) (w := 0) (c := nI c) (k := c) hD (by omega) (Or.inl ⟨rfl, rfl⟩)
      refine br_f h0 (br_t h2 (hX _ ?_))
      exact br_f h0 (br_t h2 (hY _ (And.intro rfl (And.intro hD' (And.intro hU hT)))))
    · exact br_f h0 (br_f h2 (br_f h0 (br_f h2 (same _))))
theorem i_vc_group {k : Nat} {u : SX} {v : SY} (I : i_Rel k u v) (hk : k + 3 ≤ 1536) (v1 : Int32) : wpX_group (fun r u' => wpY_group (fun r' v' => r' = r ∧ i_Rel (k + 3) u' v') v v1) u v1 := by
  refine rx_el (P := fun u v => wpX_group (fun r u' => wpY_group (fun r' v' => r' = r ∧ i_Rel (k + 3) u' v') v v1) u v1) ?_ I
  intro xh xm xl xz xn xc xd xw xe vb vg vc vf vs C F S T vt vn wt wn vz vk vi vj va vo ys yd yr yl yw ua ub uc ug uk K A B U ur ut uw uo hD hU hT
  have same : ∀ r : Int32, r = r ∧ i_Rel (k + 3) (xh, xm, xl, xz, xn, xc, xd, xw, xe, vb, vg, vc, vf, vs, C, F, S, T, vt, vn, wt, wn, vz, vk, vi, vj, va, vo) (ys, yd, yr, yl, yw, ua, ub, uc, ug, uk, K, A, B, U, ur, ut, uw, uo) := fun r => And.intro rfl (And.intro hD (And.intro hU hT))
  by_cases h0 : v1 < 0
  · exact br_t h0 (br_t h0 (same _))
  · by_cases h2 : v1 ≤ 2
    · obtain ⟨g, hg, rfl⟩ := nI_of2 (M := 2) (n := 2) (by decide) h0 h2
      obtain ⟨r, xh', xm', xl', vb', vg', vc', vf', vs', ys', yd', ua', ub', uc', ug', uk', hD', hX, hY⟩ := rx_LkGroup (xz := xz) (xn := xn) (xc := xc) (xd := xd) (xw := xw) (xe := xe) (C := C) (F := F) (S := S) (T := T) (vt := vt) (vn := vn) (wt := wt) (wn := wn) (vz := vz) (vk := vk) (vi := vi) (vj := vj) (va := va) (vo := vo) (yr := yr) (yl := yl) (yw := yw) (K := K) (A := A) (B := B) (U := U) (ur := ur) (ut := ut) (uw := uw) (uo := uo) (g := g) hD (by omega)
      refine hX _ ?_
      refine br_f h0 (br_t h2 ?_)
      rw [show (9 : Int32) + nI g = nI (9 + g) from nI_add 9 g]
      exact hY _ (And.intro rfl (And.intro hD' (And.intro hU hT)))
    · exact br_f h0 (br_f h2 (br_f h0 (br_f h2 (same _))))
end
section
/-! the owed statements: define and the questions -/
theorem i_vc_define {k : Nat} {u : SX} {v : SY} (I : i_Rel k u v) (hk : k + 3 ≤ 1536) : wpX_define (fun r u' => wpY_define (fun r' v' => r' = r ∧ i_Rel (k + 3) u' v') v) u := by
  refine rx_el (P := fun u v => wpX_define (fun r u' => wpY_define (fun r' v' => r' = r ∧ i_Rel (k + 3) u' v') v) u) ?_ I
  intro xh xm xl xz xn xc xd xw xe vb vg vc vf vs C F S T vt vn wt wn vz vk vi vj va vo ys yd yr yl yw ua ub uc ug uk K A B U ur ut uw uo hD hU hT
  have hT' := hT
  have hD' := hD
  obtain ⟨h, m, L, kd, fs, sd, dg, st, bg, rfl, rfl, hh, rfl, rfl, hm, rfl, hL, hW, hl, hg, hb0, hbh, hst⟩ := hD
  by_cases hh0 : h = 0
  · subst hh0
    exact br_t rfl (br_t rfl (And.intro rfl (And.intro hD' (And.intro hU hT))))
  · obtain ⟨h, rfl⟩ : ∃ h', h = h' + 1 := ⟨h - 1, by omega⟩
    obtain ⟨b1, k1, s1, g1, z, e1, y1⟩ := hst h (by omega)
    rw [e1] at hbh
    subst hbh
    refine rx_xdef hh b1 (by omega) (rx_ydef hh hm k1 (And.intro rfl (And.intro (rx_D0 _ _ _ _ _ _ _ _ _ _) (And.intro ?_ hT))))
    have hW' : rx_W kd fs sd dg (st h + 1) := fun p hp => hW p (by omega)
    have hy : rx_Y kd fs sd (upd (rx_cp C 0 (fun k => vc (bg h + k)) z) z 4) (rx_cp F 0 (fun k => vf (bg h + k)) z) (rx_cp S 0 (fun k => vs (bg h + k)) z) (st h) 0 z := by
      refine rx_Ym hW (st h) s1 (fun q _ => ⟨rfl, rfl, rfl⟩) (bg h) 0 z (fun x hx => ?_) y1
      rw [Nat.zero_add, pk_un (by omega), rx_cpt hx, rx_cpt hx, rx_cpt hx]
      exact ⟨rfl, rfl, rfl⟩
    obtain ⟨hI, hc⟩ := rx_YI (e := z) hW (st h) s1 0 z (by omega) hy
    rw [Nat.zero_add] at hI hc
    refine ⟨kd, fs, sd, dg, st h, z, rfl, by omega, hW', ?_, ⟨by omega, pk_us, fun x hx => hI x (Nat.zero_le _) hx, ?_⟩, hy⟩
    · intro p hp
      rw [rx_cpt (by omega), rx_cpt (by omega), rx_cpt (by omega)]
      exact hl p (by omega)
    · have : rx_cr (upd (rx_cp C 0 (fun k => vc (bg h + k)) z) z 4) 0 = 0 := rfl
      omega
theorem i_vc_find {k : Nat} {u : SX} {v : SY} (I : i_Rel k u v) (hk : k + 3 ≤ 1536) (v1 : Int32) : wpX_find (fun r u' => wpY_find (fun r' v' => r' = r ∧ i_Rel (k + 3) u' v') v v1) u v1 := by
  refine rx_el (P := fun u v => wpX_find (fun r u' => wpY_find (fun r' v' => r' = r ∧ i_Rel (k + 3) u' v') v v1) u v1) ?_ I
  intro xh xm xl xz xn xc xd xw xe vb vg vc vf vs C F S T vt vn wt wn vz vk vi vj va vo ys yd yr yl yw ua ub uc ug uk K A B U ur ut uw uo hD hU hT
  have hU' := hU
  have hT' := hT
  obtain ⟨kd, fs, sd, dg, m, e, rfl, hm, hW, hl, hP, hy⟩ := hU
  obtain ⟨rfl, n, hn, rfl, rfl⟩ := hT
  refine rx_xfind hP hW hy hn ?_
  intro r xc xd xw xe vt vn wt wn vz vk vi vj va vo h1
  refine rx_yfind hW hl hm hn v1 ?_
  intro r' ur _ h2
  refine And.intro ?_ (And.intro hD (And.intro hU' hT'))
  rcases h1 with ⟨a1, b1⟩ | ⟨i, j, s, a1, b1⟩
  · rcases h2 with ⟨a2, b2⟩ | ⟨i2, j2, s2, a2, b2⟩
    · rw [b1, b2]
    · rw [a1] at a2; exact absurd a2 (by simp)
  · rcases h2 with ⟨a2, b2⟩ | ⟨i2, j2, s2, a2, b2⟩
    · rw [a1] at a2; exact absurd a2 (by simp)
    · rw [a1] at a2
      injection a2 with a2
      injection a2 with a2 _
      rw [b1, b2, a2]
theorem i_vc_end {k : Nat} {u : SX} {v : SY} (I : i_Rel k u v) (hk : k + 3 ≤ 1536) (v1 : Int32) : wpX_end (fun r u' => wpY_end (fun r' v' => r' = r ∧ i_Rel (k + 3) u' v') v v1) u v1 := by
  refine rx_el (P := fun u v => wpX_end (fun r u' => wpY_end (fun r' v' => r' = r ∧ i_Rel (k + 3) u' v') v v1) u v1) ?_ I
  intro xh xm xl xz xn xc xd xw xe vb vg vc vf vs C F S T vt vn wt wn vz vk vi vj va vo ys yd yr yl yw ua ub uc ug uk K A B U ur ut uw uo hD hU hT
  have hU' := hU
  have hT' := hT
  obtain ⟨kd, fs, sd, dg, m, e, rfl, hm, hW, hl, hP, hy⟩ := hU
  obtain ⟨rfl, n, hn, rfl, rfl⟩ := hT
  refine rx_xend hP hW hy hn ?_
  intro r xc xd xw xe vt vn wt wn vz vk vi vj va vo h1
  refine rx_yend hW hl hm hn v1 ?_
  intro r' yw ur ut uw uo h2
  refine And.intro ?_ (And.intro hD (And.intro hU' hT'))
  rcases h1 with ⟨a1, b1⟩ | ⟨i, j, s, a1, b1⟩
  · rcases h2 with ⟨a2, b2⟩ | ⟨i2, j2, s2, a2, b2, _⟩
    · rw [b1, b2]
    · rw [a1] at a2; exact absurd a2 (by simp)
  · rcases h2 with ⟨a2, b2⟩ | ⟨i2, j2, s2, a2, b2, _⟩
    · rw [a1] at a2; exact absurd a2 (by simp)
    · rw [a1] at a2
      injection a2 with a2
      injection a2 with _ a2
      injection a2 with a2 _
      rw [b1, b2, a2]
theorem i_vc_groupIn {k : Nat} {u : SX} {v : SY} (I : i_Rel k u v) (hk : k + 3 ≤ 1536) (v1 : Int32) (v2 : Int32) : wpX_groupIn (fun r u' => wpY_groupIn (fun r' v' => r' = r ∧ i_Rel (k + 3) u' v') v v1 v2) u v1 v2 := by
  refine rx_el (P := fun u v => wpX_groupIn (fun r u' => wpY_groupIn (fun r' v' => r' = r ∧ i_Rel (k + 3) u' v') v v1 v2) u v1 v2) ?_ I
  intro xh xm xl xz xn xc xd xw xe vb vg vc vf vs C F S T vt vn wt wn vz vk vi vj va vo ys yd yr yl yw ua ub uc ug uk K A B U ur ut uw uo hD hU hT
  have hU' := hU
  have hT' := hT
  obtain ⟨kd, fs, sd, dg, m, e, rfl, hm, hW, hl, hP, hy⟩ := hU
  obtain ⟨rfl, n, hn, rfl, rfl⟩ := hT
  by_cases h0 : v2 < 0
  · unfold wpX_groupIn
    refine rx_xoff hn ?_ ?_
    · intro _
      exact br_f (by decide) (rx_ygb hW hl hm hn (Or.inl h0) (fun _ _ _ _ _ => And.intro rfl (And.intro hD (And.intro hU' hT'))))
    · intro f hf ef
      exact br_t rfl (br_t h0 (rx_ygb hW hl hm hn (Or.inl h0) (fun _ _ _ _ _ => And.intro rfl (And.intro hD (And.intro hU' hT')))))
  by_cases h2 : v2 ≤ 2
  · obtain ⟨g, hg, rfl⟩ := nI_of2 (M := 2) (n := 2) (by decide) h0 h2
    refine rx_xgin hP hW hy hn (by omega) ?_
    intro r xc xd xw xe vt vn wt wn vz vk vi vj va vo h1
    refine rx_ygin hW hl hm hn (by omega) ?_
    intro r' yw ur ut uw uo h2
    refine And.intro ?_ (And.intro hD (And.intro hU' hT'))
    rcases h1 with ⟨a1, b1⟩ | ⟨i, j, s, a1, b1⟩
    · rcases h2 with ⟨a2, b2⟩ | ⟨i2, j2, s2, a2, b2⟩
      · rw [b1, b2]
      · rw [a1] at a2; exact absurd a2 (by simp)
    · rcases h2 with ⟨a2, b2⟩ | ⟨i2, j2, s2, a2, b2⟩
      · rw [a1] at a2; exact absurd a2 (by simp)
      · rw [a1] at a2
        injection a2 with a2
        injection a2 with _ a2
        injection a2 with _ a2
        rw [b1, b2, a2]
  · unfold wpX_groupIn
    refine rx_xoff hn ?_ ?_
    · intro _
      exact br_f (by decide) (rx_ygb hW hl hm hn (Or.inr h2) (fun _ _ _ _ _ => And.intro rfl (And.intro hD (And.intro hU' hT'))))
    · intro f hf ef
      exact br_t rfl (br_f h0 (br_f h2 (rx_ygb hW hl hm hn (Or.inr h2) (fun _ _ _ _ _ => And.intro rfl (And.intro hD (And.intro hU' hT'))))))
theorem i_vc_spans {k : Nat} {u : SX} {v : SY} (I : i_Rel k u v) (hk : k + 3 ≤ 1536) (v1 : Int32) (v2 : Int32) : wpX_spans (fun r u' => wpY_spans (fun r' v' => r' = r ∧ i_Rel (k + 3) u' v') v v1 v2) u v1 v2 := by
  refine rx_el (P := fun u v => wpX_spans (fun r u' => wpY_spans (fun r' v' => r' = r ∧ i_Rel (k + 3) u' v') v v1 v2) u v1 v2) ?_ I
  intro xh xm xl xz xn xc xd xw xe vb vg vc vf vs C F S T vt vn wt wn vz vk vi vj va vo ys yd yr yl yw ua ub uc ug uk K A B U ur ut uw uo hD hU hT
  have hU' := hU
  have hT' := hT
  obtain ⟨kd, fs, sd, dg, m, e, rfl, hm, hW, hl, hP, hy⟩ := hU
  obtain ⟨rfl, n, hn, rfl, rfl⟩ := hT
  by_cases hb : (v1 < 0 ∨ nI n < v1) ∨ (v2 < 0 ∨ nI n < v2)
  · exact rx_xsb hn hb (rx_ysb hb (And.intro rfl (And.intro hD (And.intro hU' hT'))))
  · refine rx_vc hn v1 (fun z => absurd (Or.inl (Or.inl z)) hb) (fun _ z => absurd (Or.inl (Or.inr z)) hb) (fun i hi e1 => ?_)
    refine rx_vc hn v2 (fun z => absurd (Or.inr (Or.inl z)) hb) (fun _ z => absurd (Or.inr (Or.inr z)) hb) (fun j hj e2 => ?_)
    subst e1 e2
    refine rx_xsp hP hW hy hn hi hj ?_
    intro xc xd xw xe vt vn wt wn vz vk vi vj va vo
    refine rx_ysp hW hl hm hn hi hj ?_
    intro ur _
    exact And.intro rfl (And.intro hD (And.intro hU' hT'))
theorem i_vc_groupInWhole {k : Nat} {u : SX} {v : SY} (I : i_Rel k u v) (hk : k + 3 ≤ 1536) (v1 : Int32) : wpX_groupInWhole (fun r u' => wpY_groupInWhole (fun r' v' => r' = r ∧ i_Rel (k + 3) u' v') v v1) u v1 := by
  refine rx_el (P := fun u v => wpX_groupInWhole (fun r u' => wpY_groupInWhole (fun r' v' => r' = r ∧ i_Rel (k + 3) u' v') v v1) u v1) ?_ I
  intro xh xm xl xz xn xc xd xw xe vb vg vc vf vs C F S T vt vn wt wn vz vk vi vj va vo ys yd yr yl yw ua ub uc ug uk K A B U ur ut uw uo hD hU hT
  have hU' := hU
  have hT' := hT
  obtain ⟨kd, fs, sd, dg, m, e, rfl, hm, hW, hl, hP, hy⟩ := hU
  obtain ⟨rfl, n, hn, rfl, rfl⟩ := hT
  by_cases h0 : v1 < 0
  · exact br_t h0 (br_t h0 (And.intro rfl (And.intro hD (And.intro hU' hT'))))
  by_cases h2 : v1 ≤ 2
  · obtain ⟨g, hg, rfl⟩ := nI_of2 (M := 2) (n := 2) (by decide) h0 h2
    refine rx_xgw hP hW hy hn (by omega) ?_
    intro r xc xd xw xe vt vn wt wn vz vk vi vj va vo h1
    refine rx_ygw hW hl hm hn (by omega) ?_
    intro r' yw ur ut uw uo h2
    refine And.intro ?_ (And.intro hD (And.intro hU' hT'))
    rcases h1 with ⟨a1, b1⟩ | ⟨j, s, a1, b1⟩
    · rcases h2 with ⟨a2, b2⟩ | ⟨j2, s2, a2, b2⟩
      · rw [b1, b2]
      · rw [a1] at a2; exact absurd a2 (by simp)
    · rcases h2 with ⟨a2, b2⟩ | ⟨j2, s2, a2, b2⟩
      · rw [a1] at a2; exact absurd a2 (by simp)
      · rw [a1] at a2
        injection a2 with a2
        injection a2 with _ a2
        rw [b1, b2, a2]
  · exact br_f h0 (br_f h2 (br_f h0 (br_t (Int32.not_le.mp h2) (And.intro rfl (And.intro hD (And.intro hU' hT'))))))
theorem i_vc_count {k : Nat} {u : SX} {v : SY} (I : i_Rel k u v) (hk : k + 3 ≤ 1536) : wpX_count (fun r u' => wpY_count (fun r' v' => r' = r ∧ i_Rel (k + 3) u' v') v) u := by
  refine rx_el (P := fun u v => wpX_count (fun r u' => wpY_count (fun r' v' => r' = r ∧ i_Rel (k + 3) u' v') v) u) ?_ I
  intro xh xm xl xz xn xc xd xw xe vb vg vc vf vs C F S T vt vn wt wn vz vk vi vj va vo ys yd yr yl yw ua ub uc ug uk K A B U ur ut uw uo hD hU hT
  have hU' := hU
  have hT' := hT
  obtain ⟨kd, fs, sd, dg, m, e, rfl, hm, hW, hl, hP, hy⟩ := hU
  obtain ⟨rfl, n, hn, rfl, rfl⟩ := hT
  refine ⟨n + 2, rx_xct (R := rx_ct rx_s1 (rx_B kd fs sd U n m rx_any) n (n + 1) 0 0) hP hW hy hn ?_ (n + 1) (n + 2) 0 0 _ _ _ _ _ _ _ _ _ _ _ _ _ _ _ (by omega) (by omega) (by omega) (by omega) rfl⟩
  intro xc xd xw xe vt vn wt wn vz vk vi vj va vo
  refine ⟨n + 2, rx_yct (R := rx_ct rx_s1 (rx_B kd fs sd U n m rx_any) n (n + 1) 0 0) hW hl hm hn ?_ (n + 1) (n + 2) 0 _ _ _ _ _ _ (by omega) (by omega) (by omega) rfl⟩
  intro yw ur ut uw uo
  exact And.intro rfl (And.intro hD (And.intro hU' hT'))
theorem i_vc_longest {k : Nat} {u : SX} {v : SY} (I : i_Rel k u v) (hk : k + 3 ≤ 1536) : wpX_longest (fun r u' => wpY_longest (fun r' v' => r' = r ∧ i_Rel (k + 3) u' v') v) u := by
  refine rx_el (P := fun u v => wpX_longest (fun r u' => wpY_longest (fun r' v' => r' = r ∧ i_Rel (k + 3) u' v') v) u) ?_ I
  intro xh xm xl xz xn xc xd xw xe vb vg vc vf vs C F S T vt vn wt wn vz vk vi vj va vo ys yd yr yl yw ua ub uc ug uk K A B U ur ut uw uo hD hU hT
  have hU' := hU
  have hT' := hT
  obtain ⟨kd, fs, sd, dg, m, e, rfl, hm, hW, hl, hP, hy⟩ := hU
  obtain ⟨rfl, n, hn, rfl, rfl⟩ := hT
  refine ⟨n + 2, rx_xlg (R := rx_ct rx_s2 (rx_B kd fs sd U n m rx_any) n (n + 1) 0 (-4)) hP hW hy hn ?_ (n + 1) (n + 2) 0 0 _ _ _ _ _ _ _ _ _ _ _ _ _ _ _ (by omega) (by omega) (by omega) (by omega) rfl⟩
  intro xc xd xw xe vt vn wt wn vz vk vi vj va vo
  refine ⟨n + 2, rx_ylg (R := rx_ct rx_s2 (rx_B kd fs sd U n m rx_any) n (n + 1) 0 (-4)) hW hl hm hn ?_ (n + 1) (n + 2) 0 _ _ _ _ _ _ (by omega) (by omega) (by omega) rfl⟩
  intro yw ur ut uw uo
  exact And.intro rfl (And.intro hD (And.intro hU' hT'))
end
