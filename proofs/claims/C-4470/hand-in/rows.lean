section
/-! pure rows to paste: stores, nI and lN arithmetic, masks, shifts, narrowing, branches by naturals (pk_le, pk_lt, pk_eq), loops (lp1 .. lp16: the measure of the state; rp1 ..: recursion), negatives. Take what you need -/
theorem pk_us {f : Nat → Int32} {k : Nat} {x : Int32} : upd f k x k = x := if_pos rfl
theorem pk_un {f : Nat → Int32} {k j : Nat} {x : Int32} (h : j ≠ k) : upd f k x j = f j := if_neg h
theorem pk_uLs {f : Nat → Int64} {k : Nat} {x : Int64} : vp_updL f k x k = x := if_pos rfl
theorem pk_uLn {f : Nat → Int64} {k j : Nat} {x : Int64} (h : j ≠ k) : vp_updL f k x j = f j := if_neg h
theorem pk_sub {a b : Nat} (h : b ≤ a) : nI a - nI b = nI (a - b) := by
  obtain ⟨c, rfl⟩ : ∃ c, a = c + b := ⟨a - b, by omega⟩
  rw [← nI_add, Int32.add_sub_cancel, Nat.add_sub_cancel]
theorem pk_m1 (n : Nat) : nI (n + 1) + (-1) = nI n := by
  rw [← nI_1, Int32.add_assoc, show (1 : Int32) + (-1) = 0 from rfl, Int32.add_zero]
theorem pk_mul (a b : Nat) : nI a * nI b = nI (a * b) := (Int32.ofNat_mul a b).symm
theorem pk_div {a d : Nat} (ha : a < 2 ^ 31) (h0 : 0 < d) (hd : d < 2 ^ 31) : nI a / nI d = nI (a / d) := by
  apply Int32.toInt_inj.mp
  rw [lg_idiv_nonneg (by rw [nI_toInt ha]; omega) (by rw [nI_toInt hd]; omega), nI_toInt ha, nI_toInt hd, nI_toInt (Nat.lt_of_le_of_lt (Nat.div_le_self a d) ha)]
  first | rfl | exact (Int.natCast_ediv _ _).symm
theorem pk_rem {a d : Nat} (ha : a < 2 ^ 31) (h0 : 0 < d) (hd : d < 2 ^ 31) : nI a - nI a / nI d * nI d = nI (a % d) := by
  rw [pk_div ha h0 hd, pk_mul, pk_sub (Nat.div_mul_le_self a d)]
  exact congrArg nI (by have := Nat.div_add_mod' a d; omega)
theorem pk_sub_toInt {a b : Nat} (ha : a < 2 ^ 30) (hb : b < 2 ^ 30) : (nI a - nI b).toInt = (a : Int) - b := by
  rw [Int32.toInt_sub, nI_toInt (by omega), nI_toInt (by omega)]
  exact Int.bmod_eq_of_le (by omega) (by omega)
theorem pk_sneg {a b : Nat} (hb : b < 2 ^ 30) (h : a < b) : nI a - nI b < 0 := by
  rw [Int32.lt_iff_toInt_lt, pk_sub_toInt (by omega) hb, show (0 : Int32).toInt = 0 from by decide]
  omega
theorem pk_ix (x : Int32) {n : Nat} (hn : n < 2 ^ 31) : x < 0 ∨ nI n ≤ x ∨ ∃ j : Nat, j < n ∧ x = nI j := by
  by_cases h : x < 0
  · exact Or.inl h
  · obtain ⟨j, hj, rfl⟩ := nI_of h
    by_cases h2 : j < n
    · exact Or.inr (Or.inr ⟨j, h2, rfl⟩)
    · exact Or.inr (Or.inl (nI_le (by omega) hj))
theorem pk_le {x y : Int32} {A B : Prop} (a b : Nat) (f : a ≤ b → A) (g : b < a → B) (hx : x = nI a := by rfl) (hy : y = nI b := by rfl) (ha : a < 2 ^ 31 := by omega) (hb : b < 2 ^ 31 := by omega) : (x ≤ y → A) ∧ (¬ x ≤ y → B) := by
  subst hx hy
  rw [nI_leI ha hb]
  exact ⟨f, fun z => g (by omega)⟩
theorem pk_lt {x y : Int32} {A B : Prop} (a b : Nat) (f : a < b → A) (g : b ≤ a → B) (hx : x = nI a := by rfl) (hy : y = nI b := by rfl) (ha : a < 2 ^ 31 := by omega) (hb : b < 2 ^ 31 := by omega) : (x < y → A) ∧ (¬ x < y → B) := by
  subst hx hy
  rw [nI_ltI ha hb]
  exact ⟨f, fun z => g (by omega)⟩
theorem pk_eq {x y : Int32} {A B : Prop} (a b : Nat) (f : a = b → A) (g : a ≠ b → B) (hx : x = nI a := by rfl) (hy : y = nI b := by rfl) (ha : a < 2 ^ 31 := by omega) (hb : b < 2 ^ 31 := by omega) : (x = y → A) ∧ (¬ x = y → B) := by
  subst hx hy
  rw [nI_eq ha hb]
  exact ⟨f, g⟩
theorem pk_in {x : Int32} (n N : Nat) (h : n < N) (hx : x = nI n := by rfl) (hN : N < 2 ^ 31 := by omega) : vp_in x N := by
  subst hx
  exact vp_in_nI h hN
theorem pk_cl {x : Int32} (n : Nat) (hx : x = nI n := by rfl) (h : n < 2 ^ 31 := by omega) : x.toNatClampNeg = n := by
  subst hx
  exact nI_clamp h
/-! rows on bits, shifts and unsigned numbers, to paste: each family out of a closed proof of our own, whole with what it rests on; each by itself clean at Lean in its own claim (generation 39, form 5). Take a family whole -/
/-! ===== Int32 by its bits: bt x i ===== -/
def bt (x : Int32) (i : Nat) : Bool := x.toBitVec.getLsbD i
theorem b_ext {x y : Int32} (h : ∀ i, i < 32 → bt x i = bt y i) : x = y := Int32.toBitVec_inj.mp (BitVec.eq_of_getLsbD_eq (fun i hi => h i hi))
theorem b_or (x y : Int32) (i : Nat) : bt (x ||| y) i = (bt x i || bt y i) := by unfold bt; rw [Int32.toBitVec_or, BitVec.getLsbD_or]
theorem b_and (x y : Int32) (i : Nat) : bt (x &&& y) i = (bt x i && bt y i) := by unfold bt; rw [Int32.toBitVec_and, BitVec.getLsbD_and]
theorem b_xor (x y : Int32) (i : Nat) : bt (x ^^^ y) i = (bt x i ^^ bt y i) := by unfold bt; rw [Int32.toBitVec_xor, BitVec.getLsbD_xor]
theorem b_big {x : Int32} {i : Nat} (h : 32 ≤ i) : bt x i = false := BitVec.getLsbD_of_ge _ _ h
theorem b_255 (i : Nat) : bt 255 i = decide (i < 8) := by
  rcases Nat.lt_or_ge i 32 with h | h
  · exact (by decide +kernel : ∀ i, i < 32 → bt 255 i = decide (i < 8)) i h
  · rw [b_big h, decide_eq_false (by omega)]
theorem b_65535 (i : Nat) : bt 65535 i = decide (i < 16) := by
  rcases Nat.lt_or_ge i 32 with h | h
  · exact (by decide +kernel : ∀ i, i < 32 → bt 65535 i = decide (i < 16)) i h
  · rw [b_big h, decide_eq_false (by omega)]
theorem b_m1 : ∀ i, i < 32 → bt (-1) i = true := by decide +kernel
theorem b_0 (i : Nat) : bt 0 i = false := BitVec.getLsbD_zero
theorem s_l : ∀ n, n < 32 → ((nI n &&& 31).toBitVec.smod 32).toNat = n := by decide +kernel
theorem s_u : ∀ n, n < 32 → (((nI n).toUInt32 &&& Int32.toUInt32 31).toBitVec % 32).toNat = n := by decide +kernel
theorem b_shl (n : Nat) (hn : n < 32) (x : Int32) {i : Nat} (hi : i < 32) : bt (x <<< (nI n &&& 31)) i = (decide (n ≤ i) && bt x (i - n)) := by
  unfold bt
  rw [Int32.toBitVec_shiftLeft]
  show (x.toBitVec <<< ((nI n &&& 31).toBitVec.smod 32).toNat).getLsbD i = _
  rw [s_l n hn, BitVec.getLsbD_shiftLeft]
  rcases Nat.lt_or_ge i n with h | h
  · simp [h, Nat.not_le.mpr h]
  · simp [hi, h, Nat.not_lt.mpr h]
theorem b_ushr (n : Nat) (hn : n < 32) (x : Int32) (i : Nat) : bt ((x.toUInt32 >>> ((nI n).toUInt32 &&& Int32.toUInt32 31)).toInt32) i = bt x (n + i) := by
  show (x.toUInt32 >>> ((nI n).toUInt32 &&& Int32.toUInt32 31)).toBitVec.getLsbD i = x.toUInt32.toBitVec.getLsbD (n + i)
  rw [UInt32.toBitVec_shiftRight]
  show (x.toUInt32.toBitVec >>> (((nI n).toUInt32 &&& Int32.toUInt32 31).toBitVec % 32).toNat).getLsbD i = _
  rw [s_u n hn, BitVec.getLsbD_ushiftRight]
theorem b_sshr (n : Nat) (hn : n < 32) (x : Int32) {i : Nat} (hi : i < 32) : bt (x >>> (nI n &&& 31)) i = if n + i < 32 then bt x (n + i) else bt x 31 := by
  unfold bt
  rw [Int32.toBitVec_shiftRight]
  show (x.toBitVec.sshiftRight ((nI n &&& 31).toBitVec.smod 32).toNat).getLsbD i = _
  rw [s_l n hn, BitVec.getLsbD_sshiftRight, BitVec.msb_eq_getLsbD_last]
  simp [hi]
end
section
/-! pure: agreement (hr_af) and order (hr_cb) of bit functions; the orders (hr_L) of n rows; sums and maxima -/
def hr_af (f g : Nat → Bool) : Nat → Nat
  | 0 => 0
  | c + 1 => if f c = g c then hr_af f g c else c + 1
def hr_cb (t : Bool) (f g : Nat → Bool) : Nat → Bool
  | 0 => t
  | c + 1 => if f c = g c then hr_cb t f g c else !(f c)
theorem hr_af_s {f g : Nat → Bool} {c : Nat} (h : f c = g c) : hr_af f g (c + 1) = hr_af f g c := if_pos h
theorem hr_af_d {f g : Nat → Bool} {c : Nat} (h : ¬ f c = g c) : hr_af f g (c + 1) = c + 1 := if_neg h
theorem hr_cb_s {t : Bool} {f g : Nat → Bool} {c : Nat} (h : f c = g c) : hr_cb t f g (c + 1) = hr_cb t f g c := if_pos h
theorem hr_cb_d {t : Bool} {f g : Nat → Bool} {c : Nat} (h : ¬ f c = g c) : hr_cb t f g (c + 1) = !(f c) := if_neg h
theorem hr_af_le (f g : Nat → Bool) (c : Nat) : hr_af f g c ≤ c := by
  induction c with
  | zero => exact Nat.le_refl 0
  | succ c ih =>
    by_cases h : f c = g c
    · rw [hr_af_s h]; omega
    · rw [hr_af_d h]; exact Nat.le_refl _
theorem hr_af_self (f : Nat → Bool) (c : Nat) : hr_af f f c = 0 := by
  induction c with
  | zero => rfl
  | succ c ih => rw [hr_af_s rfl, ih]
theorem hr_af_comm (f g : Nat → Bool) (c : Nat) : hr_af f g c = hr_af g f c := by
  induction c with
  | zero => rfl
  | succ c ih =>
    by_cases h : f c = g c
    · rw [hr_af_s h, hr_af_s h.symm, ih]
    · rw [hr_af_d h, hr_af_d (fun e => h e.symm)]
theorem hr_af_tri (f g h : Nat → Bool) (c a : Nat) : hr_af f g c ≤ a → hr_af g h c ≤ a → hr_af f h c ≤ a := by
  induction c with
  | zero => intro _ _; exact Nat.zero_le _
  | succ c ih =>
    intro h1 h2
    by_cases e1 : f c = g c
    · by_cases e2 : g c = h c
      · rw [hr_af_s e1] at h1
        rw [hr_af_s e2] at h2
        rw [hr_af_s (e1.trans e2)]
        exact ih h1 h2
      · rw [hr_af_d e2] at h2
        exact Nat.le_trans (hr_af_le f h (c + 1)) h2
    · rw [hr_af_d e1] at h1
      exact Nat.le_trans (hr_af_le f h (c + 1)) h1
theorem hr_cb_tt {t : Bool} (f g : Nat → Bool) (c : Nat) : hr_cb t f g c = true → hr_cb true f g c = true := by
  induction c with
  | zero => intro _; rfl
  | succ c ih =>
    intro h1
    by_cases e : f c = g c
    · rw [hr_cb_s e] at h1 ⊢
      exact ih h1
    · rw [hr_cb_d e] at h1 ⊢
      exact h1
theorem hr_cb_self (t : Bool) (f : Nat → Bool) (c : Nat) : hr_cb t f f c = t := by
  induction c with
  | zero => rfl
  | succ c ih => rw [hr_cb_s rfl, ih]
theorem hr_cb_neg (t : Bool) (f g : Nat → Bool) (c : Nat) : hr_cb t f g c = !(hr_cb (!t) g f c) := by
  induction c with
  | zero => exact (Bool.not_not t).symm
  | succ c ih =>
    by_cases e : f c = g c
    · rw [hr_cb_s e, hr_cb_s e.symm, ih]
    · rw [hr_cb_d e, hr_cb_d (fun z => e z.symm)]
      revert e
      cases f c <;> cases g c <;> simp
theorem hr_af_mx (f g h : Nat → Bool) (c : Nat) : hr_cb true f g c = true → hr_cb true g h c = true → hr_af f h c = max (hr_af f g c) (hr_af g h c) := by
  induction c with
  | zero => intro _ _; rfl
  | succ c ih =>
    intro h1 h2
    by_cases e1 : f c = g c
    · by_cases e2 : g c = h c
      · rw [hr_cb_s e1] at h1
        rw [hr_cb_s e2] at h2
        rw [hr_af_s e1, hr_af_s e2, hr_af_s (e1.trans e2)]
        exact ih h1 h2
      · have e3 : ¬ f c = h c := fun z => e2 (e1.symm.trans z)
        rw [hr_af_d e2, hr_af_d e3]
        exact (Nat.max_eq_right (hr_af_le f g (c + 1))).symm
    · by_cases e2 : g c = h c
      · have e3 : ¬ f c = h c := fun z => e1 (z.trans e2.symm)
        rw [hr_af_d e1, hr_af_d e3]
        exact (Nat.max_eq_left (hr_af_le g h (c + 1))).symm
      · exfalso
        rw [hr_cb_d e1] at h1
        rw [hr_cb_d e2] at h2
        revert e1 h1 h2
        cases f c <;> cases g c <;> simp
/-- the rows in the order for column c -/
def hr_L (B : Nat → Nat → Bool) (n : Nat) : Nat → List Nat
  | 0 => List.range n
  | c + 1 => (hr_L B n c).filter (fun r => !(B r c)) ++ (hr_L B n c).filter (fun r => B r c)
theorem hr_L_perm (B : Nat → Nat → Bool) (n c : Nat) : (hr_L B n c).Perm (List.range n) := by
  induction c with
  | zero => exact List.Perm.refl _
  | succ c ih =>
    have h := List.filter_append_perm (fun r => !(B r c)) (hr_L B n c)
    simp only [Bool.not_not] at h
    exact h.trans ih
theorem hr_L_len (B : Nat → Nat → Bool) (n c : Nat) : (hr_L B n c).length = n := by
  rw [(hr_L_perm B n c).length_eq, List.length_range]
theorem hr_L_mem (B : Nat → Nat → Bool) (n c r : Nat) : r ∈ hr_L B n c ↔ r < n := by
  rw [(hr_L_perm B n c).mem_iff, List.mem_range]
theorem hr_L_srt (B : Nat → Nat → Bool) (n c : Nat) : (hr_L B n c).Pairwise (fun r s => hr_cb (decide (r < s)) (B r) (B s) c = true) := by
  induction c with
  | zero => exact List.pairwise_lt_range.imp (fun h => decide_eq_true h)
  | succ c ih =>
    refine List.pairwise_append.mpr ⟨?_, ?_, ?_⟩
    · refine (ih.filter (fun r => !(B r c))).imp_of_mem (fun {a b} ha hb h => ?_)
      have ea := (List.mem_filter.mp ha).2
      have eb := (List.mem_filter.mp hb).2
      have e : B a c = B b c := by
        revert ea eb
        cases B a c <;> cases B b c <;> simp
      rw [hr_cb_s e]
      exact h
    · refine (ih.filter (fun r => B r c)).imp_of_mem (fun {a b} ha hb h => ?_)
      have ea := (List.mem_filter.mp ha).2
      have eb := (List.mem_filter.mp hb).2
      have e : B a c = B b c := by
        revert ea eb
        cases B a c <;> cases B b c <;> simp
      rw [hr_cb_s e]
      exact h
    · intro a ha b hb
      have ea := (List.mem_filter.mp ha).2
      have eb := (List.mem_filter.mp hb).2
      have e : ¬ B a c = B b c := by
        revert ea eb
        cases B a c <;> cases B b c <;> simp
      rw [hr_cb_d e]
      exact ea
theorem hr_gd {l : List Nat} {i : Nat} (h : i < l.length) : l.getD i 0 = l[i] := by
  rw [List.getD_eq_getElem?_getD, List.getElem?_eq_getElem h, Option.getD_some]
/-- the i-th row of the order for column c -/
def hr_o (B : Nat → Nat → Bool) (n c i : Nat) : Nat := (hr_L B n c).getD i 0
/-- since when it agrees with the one before it -/
def hr_b (B : Nat → Nat → Bool) (n c i : Nat) : Nat := if i = 0 then c else hr_af (B (hr_o B n c (i - 1))) (B (hr_o B n c i)) c
theorem hr_b_s (B : Nat → Nat → Bool) (n c i : Nat) : hr_b B n c (i + 1) = hr_af (B (hr_o B n c i)) (B (hr_o B n c (i + 1))) c := by
  unfold hr_b
  rw [if_neg (by omega), Nat.add_sub_cancel]
theorem hr_b_0 (B : Nat → Nat → Bool) (n c : Nat) : hr_b B n c 0 = c := if_pos rfl
theorem hr_b_le (B : Nat → Nat → Bool) (n c i : Nat) : hr_b B n c i ≤ c := by
  cases i with
  | zero => rw [hr_b_0]; exact Nat.le_refl c
  | succ i => rw [hr_b_s]; exact hr_af_le _ _ c
theorem hr_o_lt (B : Nat → Nat → Bool) {n c i : Nat} (h : i < n) : hr_o B n c i < n := by
  have hl : i < (hr_L B n c).length := by rw [hr_L_len]; exact h
  unfold hr_o
  rw [hr_gd hl]
  exact (hr_L_mem B n c _).mp (List.getElem_mem hl)
theorem hr_o_srt (B : Nat → Nat → Bool) {n c i j : Nat} (h : i < j) (hj : j < n) : hr_cb (decide (hr_o B n c i < hr_o B n c j)) (B (hr_o B n c i)) (B (hr_o B n c j)) c = true := by
  have hl : j < (hr_L B n c).length := by rw [hr_L_len]; exact hj
  have hk : i < (hr_L B n c).length := by omega
  unfold hr_o
  rw [hr_gd hl, hr_gd hk]
  exact List.pairwise_iff_getElem.mp (hr_L_srt B n c) i j hk hl h
theorem hr_o_le (B : Nat → Nat → Bool) {n c i j : Nat} (h : i ≤ j) (hj : j < n) : hr_cb true (B (hr_o B n c i)) (B (hr_o B n c j)) c = true := by
  rcases Nat.lt_or_ge i j with h1 | h1
  · exact hr_cb_tt _ _ c (hr_o_srt B h1 hj)
  · have e : i = j := by omega
    subst e
    exact hr_cb_self true _ c
theorem hr_o_ne (B : Nat → Nat → Bool) {n c i j : Nat} (h : i < j) (hj : j < n) : hr_o B n c i ≠ hr_o B n c j := by
  intro e
  have h1 := hr_o_srt B (c := c) h hj
  rw [e, hr_cb_self, decide_eq_true_eq] at h1
  omega
theorem hr_o_inj (B : Nat → Nat → Bool) {n c i j : Nat} (hi : i < n) (hj : j < n) (e : hr_o B n c i = hr_o B n c j) : i = j := by
  rcases Nat.lt_trichotomy i j with h | h | h
  · exact absurd e (hr_o_ne B h hj)
  · exact h
  · exact absurd e.symm (hr_o_ne B h hi)
theorem hr_o_sur (B : Nat → Nat → Bool) {n c r : Nat} (h : r < n) : ∃ i, i < n ∧ hr_o B n c i = r := by
  obtain ⟨i, hi, e⟩ := List.mem_iff_getElem.mp ((hr_L_mem B n c r).mpr h)
  refine ⟨i, by rw [hr_L_len] at hi; exact hi, ?_⟩
  unfold hr_o
  rw [hr_gd hi, e]
/-- the latest begin on the way is the agreement -/
theorem hr_stp (B : Nat → Nat → Bool) {n c i j : Nat} (h : i ≤ j) (hj : j + 1 < n) : max (hr_b B n c (j + 1)) (hr_af (B (hr_o B n c i)) (B (hr_o B n c j)) c) = hr_af (B (hr_o B n c i)) (B (hr_o B n c (j + 1))) c := by
  rw [hr_b_s, Nat.max_comm]
  exact (hr_af_mx _ _ _ c (hr_o_le B h (by omega)) (hr_o_le B (Nat.le_succ j) hj)).symm
/-- three rows in order -/
theorem hr_o3 (B : Nat → Nat → Bool) {n c i j k : Nat} (h : i ≤ j) (h2 : j ≤ k) (hk : k < n) : hr_af (B (hr_o B n c i)) (B (hr_o B n c k)) c = max (hr_af (B (hr_o B n c i)) (B (hr_o B n c j)) c) (hr_af (B (hr_o B n c j)) (B (hr_o B n c k)) c) :=
  hr_af_mx _ _ _ c (hr_o_le B h (by omega)) (hr_o_le B h2 hk)
/-! sums -/
def hr_sm (f : Nat → Nat) : Nat → Nat
  | 0 => 0
  | n + 1 => hr_sm f n + f n
theorem hr_sm_cg {f g : Nat → Nat} {n : Nat} (h : ∀ i, i < n → f i = g i) : hr_sm f n = hr_sm g n := by
  induction n with
  | zero => rfl
  | succ n ih =>
    show hr_sm f n + f n = hr_sm g n + g n
    rw [ih (fun i hi => h i (by omega)), h n (by omega)]
theorem hr_sm_0 {f : Nat → Nat} {n : Nat} (h : ∀ i, i < n → f i = 0) : hr_sm f n = 0 := by
  induction n with
  | zero => rfl
  | succ n ih =>
    show hr_sm f n + f n = 0
    rw [ih (fun i hi => h i (by omega)), h n (by omega)]
theorem hr_sm_add (f g : Nat → Nat) (n : Nat) : hr_sm (fun i => f i + g i) n = hr_sm f n + hr_sm g n := by
  induction n with
  | zero => rfl
  | succ n ih =>
    show hr_sm (fun i => f i + g i) n + (f n + g n) = (hr_sm f n + f n) + (hr_sm g n + g n)
    rw [ih]; omega
theorem hr_sm_sw (f : Nat → Nat → Nat) (n m : Nat) : hr_sm (fun i => hr_sm (fun j => f i j) m) n = hr_sm (fun j => hr_sm (fun i => f i j) n) m := by
  induction n with
  | zero => exact (hr_sm_0 (fun _ _ => rfl)).symm
  | succ n ih =>
    show hr_sm (fun i => hr_sm (fun j => f i j) m) n + hr_sm (fun j => f n j) m = hr_sm (fun j => hr_sm (fun i => f i j) n + f n j) m
    rw [ih, hr_sm_add]
theorem hr_sm_ext {f : Nat → Nat} {n m : Nat} (h : n ≤ m) (h0 : ∀ i, n ≤ i → i < m → f i = 0) : hr_sm f m = hr_sm f n := by
  induction m with
  | zero => rw [Nat.le_zero.mp h]
  | succ m ih =>
    rcases Nat.lt_or_ge m n with h1 | h1
    · have e : n = m + 1 := by omega
      rw [e]
    · show hr_sm f m + f m = _
      rw [ih h1 (fun i a b => h0 i a (by omega)), h0 m h1 (by omega), Nat.add_zero]
theorem hr_sm_one {f : Nat → Nat} {n a : Nat} (ha : a < n) (h0 : ∀ i, i < n → i ≠ a → f i = 0) : hr_sm f n = f a := by
  rw [hr_sm_ext (n := a + 1) (m := n) ha (fun i h1 h2 => h0 i h2 (by omega))]
  show hr_sm f a + f a = f a
  rw [hr_sm_0 (fun i hi => h0 i (by omega) (by omega)), Nat.zero_add]
theorem hr_sm_app (f : Nat → Nat) (a b : Nat) : hr_sm f (a + b) = hr_sm f a + hr_sm (fun i => f (a + i)) b := by
  induction b with
  | zero => rfl
  | succ b ih =>
    show hr_sm f (a + b) + f (a + b) = hr_sm f a + (hr_sm (fun i => f (a + i)) b + f (a + b))
    rw [ih]; omega
theorem hr_sm_pair (g : Nat → Nat → Nat) (k m : Nat) (hk : 0 < k) : hr_sm (fun p => g (p / k) (p % k)) (m * k) = hr_sm (fun r => hr_sm (g r) k) m := by
  induction m with
  | zero => rw [Nat.zero_mul]; rfl
  | succ m ih =>
    rw [Nat.succ_mul, hr_sm_app, ih]
    show _ = hr_sm (fun r => hr_sm (g r) k) m + hr_sm (g m) k
    congr 1
    refine hr_sm_cg (fun i hi => ?_)
    show g ((m * k + i) / k) ((m * k + i) % k) = g m i
    rw [Nat.mul_comm m k, Nat.mul_add_div hk, Nat.mul_add_mod, Nat.div_eq_of_lt hi, Nat.mod_eq_of_lt hi, Nat.add_zero]
theorem hr_sm_l (f : Nat → Nat) (n : Nat) : hr_sm f n = ((List.range n).map f).sum := by
  induction n with
  | zero => rfl
  | succ n ih =>
    rw [List.range_succ, List.map_append, List.sum_append_nat, ← ih]
    show hr_sm f n + f n = hr_sm f n + (f n + 0)
    rw [Nat.add_zero]
theorem hr_o_map (B : Nat → Nat → Bool) (n c : Nat) : (List.range n).map (hr_o B n c) = hr_L B n c := by
  refine List.ext_getElem (by rw [List.length_map, List.length_range, hr_L_len]) (fun i h1 h2 => ?_)
  rw [List.getElem_map, List.getElem_range]
  exact hr_gd h2
/-- a sum over the places of an order is the sum over the rows -/
theorem hr_sm_o (B : Nat → Nat → Bool) (n c : Nat) (f : Nat → Nat) : hr_sm (fun i => f (hr_o B n c i)) n = hr_sm f n := by
  rw [hr_sm_l, hr_sm_l, ← ((hr_L_perm B n c).map f).sum_nat, ← hr_o_map, List.map_map]
  rfl
noncomputable def hr_q (P : Prop) : Nat := @ite Nat P (Classical.propDecidable P) 1 0
theorem hr_q_t {P : Prop} (h : P) : hr_q P = 1 := by unfold hr_q; rw [if_pos h]
theorem hr_q_f {P : Prop} (h : ¬ P) : hr_q P = 0 := by unfold hr_q; rw [if_neg h]
theorem hr_q_i {P Q : Prop} (h : P ↔ Q) : hr_q P = hr_q Q := by rw [propext h]
/-- pairs of places against pairs of rows, for a symmetric question -/
theorem hr_sm_sym (g : Nat → Nat → Nat) (n : Nat) (hg : ∀ i j, i < n → j < n → g i j = g j i) : hr_sm (fun i => hr_sm (fun j => if i = j then 0 else g i j) n) n = 2 * hr_sm (fun i => hr_sm (fun j => if i < j then g i j else 0) n) n := by
  have h1 : hr_sm (fun i => hr_sm (fun j => if i = j then 0 else g i j) n) n = hr_sm (fun i => hr_sm (fun j => if i < j then g i j else 0) n + hr_sm (fun j => if j < i then g i j else 0) n) n := by
    refine hr_sm_cg (fun i hi => ?_)
    rw [← hr_sm_add]
    refine hr_sm_cg (fun j hj => ?_)
    show (if i = j then 0 else g i j) = (if i < j then g i j else 0) + (if j < i then g i j else 0)
    rcases Nat.lt_trichotomy i j with h | h | h
    · rw [if_neg (by omega), if_pos h, if_neg (by omega), Nat.add_zero]
    · rw [if_pos h, if_neg (by omega), if_neg (by omega)]
    · rw [if_neg (by omega), if_neg (by omega), if_pos h, Nat.zero_add]
  have h2 : hr_sm (fun i => hr_sm (fun j => if j < i then g i j else 0) n) n = hr_sm (fun i => hr_sm (fun j => if i < j then g i j else 0) n) n := by
    rw [hr_sm_sw (fun i j => if j < i then g i j else 0)]
    refine hr_sm_cg (fun j hj => hr_sm_cg (fun i hi => ?_))
    show (if j < i then g i j else 0) = (if j < i then g j i else 0)
    rw [hg i j hi hj]
  rw [h1, hr_sm_add, h2]
  omega
theorem hr_sm_prs (B : Nat → Nat → Bool) (n c : Nat) (g : Nat → Nat → Nat) (hg : ∀ i j, g i j = g j i) : hr_sm (fun i => hr_sm (fun j => if i < j then g (hr_o B n c i) (hr_o B n c j) else 0) n) n = hr_sm (fun i => hr_sm (fun j => if i < j then g i j else 0) n) n := by
  have h1 := hr_sm_sym g n (fun i j _ _ => hg i j)
  have h2 := hr_sm_sym (fun i j => g (hr_o B n c i) (hr_o B n c j)) n (fun i j _ _ => hg _ _)
  have h3 : hr_sm (fun i => hr_sm (fun j => if i = j then 0 else g (hr_o B n c i) (hr_o B n c j)) n) n = hr_sm (fun i => hr_sm (fun j => if i = j then 0 else g i j) n) n := by
    rw [← hr_sm_o B n c (fun i => hr_sm (fun j => if i = j then 0 else g i j) n)]
    refine hr_sm_cg (fun i hi => ?_)
    show hr_sm (fun j => if i = j then 0 else g (hr_o B n c i) (hr_o B n c j)) n = hr_sm (fun j => if hr_o B n c i = j then 0 else g (hr_o B n c i) j) n
    rw [← hr_sm_o B n c (fun j => if hr_o B n c i = j then 0 else g (hr_o B n c i) j)]
    refine hr_sm_cg (fun j hj => ?_)
    show (if i = j then 0 else g (hr_o B n c i) (hr_o B n c j)) = (if hr_o B n c i = hr_o B n c j then 0 else g (hr_o B n c i) (hr_o B n c j))
    by_cases e : i = j
    · rw [if_pos e, if_pos (by rw [e])]
    · rw [if_neg e, if_neg (fun z => e (hr_o_inj B hi hj z))]
  have h4 : hr_sm (fun i => hr_sm (fun j => if i < j then (fun i j => g (hr_o B n c i) (hr_o B n c j)) i j else 0) n) n = hr_sm (fun i => hr_sm (fun j => if i < j then g (hr_o B n c i) (hr_o B n c j) else 0) n) n := rfl
  rw [h4] at h2
  have h5 : hr_sm (fun i => hr_sm (fun j => if i = j then 0 else (fun i j => g (hr_o B n c i) (hr_o B n c j)) i j) n) n = hr_sm (fun i => hr_sm (fun j => if i = j then 0 else g (hr_o B n c i) (hr_o B n c j)) n) n := rfl
  rw [h5, h3] at h2
  omega
/-! maxima -/
def hr_mx (f : Nat → Nat) : Nat → Nat
  | 0 => 0
  | n + 1 => max (hr_mx f n) (f n)
theorem hr_mx_ub {f : Nat → Nat} {n i : Nat} (h : i < n) : f i ≤ hr_mx f n := by
  induction n with
  | zero => omega
  | succ n ih =>
    show f i ≤ max (hr_mx f n) (f n)
    rcases Nat.lt_or_ge i n with h1 | h1
    · exact Nat.le_trans (ih h1) (Nat.le_max_left _ _)
    · have e : i = n := by omega
      subst e
      exact Nat.le_max_right _ _
theorem hr_mx_le {f : Nat → Nat} {n v : Nat} (h : ∀ i, i < n → f i ≤ v) : hr_mx f n ≤ v := by
  induction n with
  | zero => exact Nat.zero_le _
  | succ n ih => exact Nat.max_le.mpr ⟨ih (fun i hi => h i (by omega)), h n (by omega)⟩
end
section
/-! bits of an Int32, the loop law, reads -/
def hr_B (bits : Nat → Int32) (r c : Nat) : Bool := bt (bits r) c
def hr_bI (b : Bool) : Int32 := if b = true then 1 else 0
theorem hr_b1 {i : Nat} (h : i < 32) : bt 1 i = decide (i = 0) := (by decide +kernel : ∀ i, i < 32 → bt 1 i = decide (i = 0)) i h
theorem hr_bit (x : Int32) {c : Nat} (hc : c < 32) : (x >>> (nI c &&& 31)) &&& 1 = hr_bI (bt x c) := by
  apply b_ext
  intro i hi
  rw [b_and, b_sshr c hc x hi, hr_b1 hi]
  by_cases h : i = 0
  · subst h
    rw [Nat.add_zero, if_pos hc, decide_eq_true rfl, Bool.and_true]
    cases bt x c <;> decide
  · rw [decide_eq_false h, Bool.and_false]
    cases bt x c
    · exact (b_0 i).symm
    · show false = bt 1 i
      rw [hr_b1 hi, decide_eq_false h]
theorem hr_bI0 (b : Bool) : hr_bI b = 0 ↔ b = false := by cases b <;> decide
theorem hr_bIe (a b : Bool) : hr_bI a = hr_bI b ↔ a = b := by cases a <;> cases b <;> decide
theorem hr_dif (x y : Int32) {c : Nat} (hc : c < 32) : (((x ^^^ y) >>> (nI c &&& 31)) &&& 1) = 1 ↔ ¬ bt x c = bt y c := by
  rw [hr_bit _ hc, b_xor]
  cases bt x c <;> cases bt y c <;> decide
theorem hr_dif0 (x y : Int32) {c : Nat} (hc : c < 32) : (((x ^^^ y) >>> (nI c &&& 31)) &&& 1) = 0 ↔ bt x c = bt y c := by
  rw [hr_bit _ hc, b_xor]
  cases bt x c <;> cases bt y c <;> decide
theorem hr_af_iff (f g : Nat → Bool) (a c : Nat) : hr_af f g c ≤ a ↔ ∀ k, a ≤ k → k < c → f k = g k := by
  induction c with
  | zero => exact ⟨fun _ k _ h => absurd h (Nat.not_lt_zero k), fun _ => Nat.zero_le a⟩
  | succ c ih =>
    by_cases e : f c = g c
    · rw [hr_af_s e, ih]
      constructor
      · intro h k h1 h2
        rcases Nat.lt_or_ge k c with h3 | h3
        · exact h k h1 h3
        · have e2 : k = c := by omega
          rw [e2]
          exact e
      · intro h k h1 h2
        exact h k h1 (by omega)
    · rw [hr_af_d e]
      constructor
      · intro h k h1 h2
        omega
      · intro h
        rcases Nat.lt_or_ge c a with h3 | h3
        · exact h3
        · exact absurd (h c h3 (by omega)) e
theorem hr_mask : ∀ n, n < 13 → ∀ i, i < 32 → bt (((1 : Int32) <<< (nI n &&& 31)) - 1) i = decide (i < n) := by decide +kernel
theorem hr_wr (p q m : Int32) : ((p ^^^ q) &&& m) = 0 ↔ (p &&& m) = (q &&& m) := by
  have h : ∀ i, bt ((p ^^^ q) &&& m) i = (bt (p &&& m) i ^^ bt (q &&& m) i) := by
    intro i
    rw [b_and, b_and, b_and, b_xor]
    cases bt p i <;> cases bt q i <;> cases bt m i <;> rfl
  constructor
  · intro e
    apply b_ext
    intro i _
    have h1 := h i
    rw [e, b_0] at h1
    revert h1
    cases bt (p &&& m) i <;> cases bt (q &&& m) i <;> simp
  · intro e
    apply b_ext
    intro i _
    rw [h i, e, b_0]
    cases bt (q &&& m) i <;> rfl
theorem hr_mk (x y : Int32) {a n : Nat} (h : a + n ≤ 12) : ((x >>> (nI a &&& 31)) &&& (((1 : Int32) <<< (nI n &&& 31)) - 1)) = ((y >>> (nI a &&& 31)) &&& (((1 : Int32) <<< (nI n &&& 31)) - 1)) ↔ hr_af (bt x) (bt y) (a + n) ≤ a := by
  rw [hr_af_iff]
  constructor
  · intro e k h1 h2
    have e1 := congrArg (fun z => bt z (k - a)) e
    try dsimp only at e1
    rw [b_and, b_and, b_sshr a (by omega) x (by omega), b_sshr a (by omega) y (by omega), hr_mask n (by omega) (k - a) (by omega), decide_eq_true (by omega), Bool.and_true, Bool.and_true, if_pos (by omega), if_pos (by omega), show a + (k - a) = k by omega] at e1
    exact e1
  · intro h1
    apply b_ext
    intro i hi
    rw [b_and, b_and, b_sshr a (by omega) x hi, b_sshr a (by omega) y hi, hr_mask n (by omega) i hi]
    by_cases h2 : i < n
    · rw [if_pos (by omega), if_pos (by omega), h1 (a + i) (by omega) (by omega)]
    · rw [decide_eq_false h2, Bool.and_false, Bool.and_false]
theorem hr_loop (W : Nat → Nat → Prop) (e i0 : Nat) (hx : ∀ w, W (w + 1) e) (hs : ∀ w i, i0 ≤ i → i < e → W w (i + 1) → W (w + 1) i) : ∀ w i, i0 ≤ i → i ≤ e → e - i < w → W w i := by
  intro w
  induction w with
  | zero => intro i _ _ h; omega
  | succ w ih =>
    intro i h0 h1 h2
    rcases Nat.lt_or_ge i e with h | h
    · exact hs w i h0 h (ih (i + 1) (by omega) h (by omega))
    · have e1 : i = e := by omega
      subst e1
      exact hx w
theorem hr_lpE (W : Nat → Nat → Prop) (e i0 : Nat) (h : i0 ≤ e) (hx : ∀ w, W (w + 1) e) (hs : ∀ w i, i0 ≤ i → i < e → W w (i + 1) → W (w + 1) i) : ∃ w, W w i0 :=
  ⟨e - i0 + 1, hr_loop W e i0 hx hs (e - i0 + 1) i0 (Nat.le_refl _) h (by omega)⟩
theorem hr_ix (c j : Nat) : (8 : Int32) * nI c + nI j = nI (8 * c + j) := by
  rw [show (8 : Int32) = nI 8 from rfl, pk_mul, nI_add]
theorem hr_ixin {c i : Nat} (hc : c ≤ 12) (hi : i < 8) : vp_in ((8 : Int32) * nI c + nI i) 104 := by
  rw [hr_ix]
  exact vp_in_nI (by omega) (by omega)
theorem hr_ixc {c i : Nat} (hc : c ≤ 12) (hi : i < 8) : ((8 : Int32) * nI c + nI i).toNatClampNeg = 8 * c + i := by
  rw [hr_ix, nI_clamp (by omega)]
theorem hr_cl {i : Nat} (hi : i < 8) : (nI i).toNatClampNeg = i := nI_clamp (by omega)
/-- the arrays hold the orders -/
def hr_Bt (n : Nat) (bits od bg : Nat → Int32) : Prop :=
  ∀ c, c ≤ 12 → ∀ i, i < n → od (8 * c + i) = nI (hr_o (hr_B bits) n c i) ∧ bg (8 * c + i) = nI (hr_b (hr_B bits) n c i)
theorem hx_od {n : Nat} {bits od bg : Nat → Int32} (HB : hr_Bt n bits od bg) (hn : n ≤ 8) {c i : Nat} (hc : c ≤ 12) (hi : i < n) : od ((8 : Int32) * nI c + nI i).toNatClampNeg = nI (hr_o (hr_B bits) n c i) := by
  rw [hr_ixc hc (by omega)]
  exact (HB c hc i hi).1
theorem hx_bg {n : Nat} {bits od bg : Nat → Int32} (HB : hr_Bt n bits od bg) (hn : n ≤ 8) {c i : Nat} (hc : c ≤ 12) (hi : i < n) : bg ((8 : Int32) * nI c + nI i).toNatClampNeg = nI (hr_b (hr_B bits) n c i) := by
  rw [hr_ixc hc (by omega)]
  exact (HB c hc i hi).2
end
section
/-! X: at, part, build -/
theorem hr_gr (x : Nat) (t : List Nat) : ∀ m : List Nat, (m ++ x :: t).getD m.length 0 = x := by
  intro m
  induction m with
  | nil => rfl
  | cons a m ih =>
    rw [List.cons_append, List.length_cons, List.getD_cons_succ]
    exact ih
theorem hr_ga {m t : List Nat} {k : Nat} (h : k < m.length) : (m ++ t).getD k 0 = m.getD k 0 := by
  rw [hr_gd h, hr_gd (by rw [List.length_append]; omega), List.getElem_append_left h]
theorem hr_gb (m t : List Nat) (k : Nat) : (m ++ t).getD (m.length + k) 0 = t.getD k 0 := by
  rw [List.getD_eq_getElem?_getD, List.getElem?_append_right (by omega), Nat.add_sub_cancel_left, ← List.getD_eq_getElem?_getD]
def hr_zc (p : Nat → Bool) (g : Nat → Nat) : Nat → Nat
  | 0 => 0
  | i + 1 => hr_zc p g i + (if p (g i) = true then 1 else 0)
theorem hr_zc_t {p : Nat → Bool} {g : Nat → Nat} {i : Nat} (h : p (g i) = true) : hr_zc p g (i + 1) = hr_zc p g i + 1 := by
  show hr_zc p g i + (if p (g i) = true then 1 else 0) = _
  rw [if_pos h]
theorem hr_zc_f {p : Nat → Bool} {g : Nat → Nat} {i : Nat} (h : ¬ p (g i) = true) : hr_zc p g (i + 1) = hr_zc p g i := by
  show hr_zc p g i + (if p (g i) = true then 1 else 0) = _
  rw [if_neg h, Nat.add_zero]
theorem hr_zc_le (p : Nat → Bool) (g : Nat → Nat) (i : Nat) : hr_zc p g i ≤ i := by
  induction i with
  | zero => exact Nat.le_refl 0
  | succ i ih =>
    by_cases h : p (g i) = true
    · rw [hr_zc_t h]; omega
    · rw [hr_zc_f h]; omega
theorem hr_zc_tk (p : Nat → Bool) (l : List Nat) (i : Nat) (hi : i ≤ l.length) : hr_zc p (fun k => l.getD k 0) i = ((l.take i).filter p).length := by
  induction i with
  | zero => rw [List.take_zero]; rfl
  | succ i ih =>
    have hl : i < l.length := by omega
    have e : l.take (i + 1) = l.take i ++ [l.getD i 0] := by rw [List.take_succ_eq_append_getElem hl, hr_gd hl]
    rw [e, List.filter_append, List.length_append, ← ih (by omega)]
    by_cases h : p (l.getD i 0) = true
    · rw [hr_zc_t (g := fun k => l.getD k 0) h, List.filter_cons_of_pos h]; rfl
    · rw [hr_zc_f (g := fun k => l.getD k 0) h, List.filter_cons_of_neg h]; rfl
theorem hr_zc_n (p : Nat → Bool) (l : List Nat) : hr_zc p (fun k => l.getD k 0) l.length = (l.filter p).length := by
  rw [hr_zc_tk p l l.length (Nat.le_refl _), List.take_length]
theorem hr_F1 (p : Nat → Bool) (l : List Nat) {i : Nat} (hi : i < l.length) (h : p (l.getD i 0) = true) : (l.filter p).getD (hr_zc p (fun k => l.getD k 0) i) 0 = l.getD i 0 := by
  have e0 : l.take i ++ l.getD i 0 :: l.drop (i + 1) = l := by
    rw [hr_gd hi, ← List.drop_eq_getElem_cons hi, List.take_append_drop]
  have e1 := congrArg (List.filter p) e0
  rw [List.filter_append, List.filter_cons_of_pos h] at e1
  rw [← e1, hr_zc_tk p l i (by omega)]
  exact hr_gr _ _ _
theorem hr_F2 (p : Nat → Bool) (l : List Nat) (i : Nat) (hi : i ≤ l.length) (h : 0 < hr_zc p (fun k => l.getD k 0) i) : ∃ j, j < i ∧ p (l.getD j 0) = true ∧ (l.filter p).getD (hr_zc p (fun k => l.getD k 0) i - 1) 0 = l.getD j 0 := by
  induction i with
  | zero => exact absurd h (Nat.lt_irrefl 0)
  | succ i ih =>
    by_cases e : p (l.getD i 0) = true
    · refine ⟨i, Nat.lt_succ_self i, e, ?_⟩
      rw [hr_zc_t (g := fun k => l.getD k 0) e, Nat.add_sub_cancel]
      exact hr_F1 p l hi e
    · rw [hr_zc_f (g := fun k => l.getD k 0) e] at h ⊢
      obtain ⟨j, a, b, d⟩ := ih (by omega) h
      exact ⟨j, by omega, b, d⟩
/-- begins of a list of rows -/
def hr_bl (B : Nat → Nat → Bool) (col : Nat) (l : List Nat) (k : Nat) : Nat := if k = 0 then col else hr_af (B (l.getD (k - 1) 0)) (B (l.getD k 0)) col
/-- the latest begin met since the last of the first z of l -/
def hr_sn (B : Nat → Nat → Bool) (c : Nat) (l : List Nat) (z x : Nat) : Nat := if z = 0 then c + 1 else hr_af (B (l.getD (z - 1) 0)) (B x) c
theorem hr_sn_stp (B : Nat → Nat → Bool) (n c : Nat) (p : Nat → Bool) {i : Nat} (hi : i < n) : max (hr_b B n c i) (hr_sn B c ((hr_L B n c).filter p) (hr_zc p (hr_o B n c) i) (hr_o B n c (i - 1))) = hr_sn B c ((hr_L B n c).filter p) (hr_zc p (hr_o B n c) i) (hr_o B n c i) := by
  by_cases h : hr_zc p (hr_o B n c) i = 0
  · unfold hr_sn
    rw [if_pos h, if_pos h]
    have := hr_b_le B n c i
    omega
  · obtain ⟨j, h1, h2, h3⟩ := hr_F2 p (hr_L B n c) i (by rw [hr_L_len]; omega) (Nat.pos_of_ne_zero h)
    have h4 : ((hr_L B n c).filter p).getD (hr_zc p (hr_o B n c) i - 1) 0 = hr_o B n c j := h3
    unfold hr_sn
    rw [if_neg h, if_neg h, h4]
    obtain ⟨k, rfl⟩ : ∃ k, i = k + 1 := ⟨i - 1, by omega⟩
    rw [Nat.add_sub_cancel]
    exact hr_stp B (by omega) hi
theorem hr_bl_sn (B : Nat → Nat → Bool) (n c : Nat) (p : Nat → Bool) (hp : ∀ r s, p r = true → p s = true → B r c = B s c) {i : Nat} (hi : i < n) (h : p (hr_o B n c i) = true) : hr_bl B (c + 1) ((hr_L B n c).filter p) (hr_zc p (hr_o B n c) i) = hr_sn B c ((hr_L B n c).filter p) (hr_zc p (hr_o B n c) i) (hr_o B n c i) := by
  unfold hr_bl hr_sn
  by_cases e : hr_zc p (hr_o B n c) i = 0
  · rw [if_pos e, if_pos e]
  · rw [if_neg e, if_neg e]
    obtain ⟨j, h1, h2, h3⟩ := hr_F2 p (hr_L B n c) i (by rw [hr_L_len]; omega) (Nat.pos_of_ne_zero e)
    have h4 : ((hr_L B n c).filter p).getD (hr_zc p (hr_o B n c) i - 1) 0 = hr_o B n c j := h3
    have h5 : ((hr_L B n c).filter p).getD (hr_zc p (hr_o B n c) i) 0 = hr_o B n c i := hr_F1 p (hr_L B n c) (by rw [hr_L_len]; exact hi) h
    rw [h4, h5]
    exact hr_af_s (hp _ _ h2 h)
theorem hr_sn_0 (B : Nat → Nat → Bool) (n c : Nat) (p : Nat → Bool) {i : Nat} (hi : i < n) (h : p (hr_o B n c i) = true) : hr_sn B c ((hr_L B n c).filter p) (hr_zc p (hr_o B n c) i + 1) (hr_o B n c i) = 0 := by
  unfold hr_sn
  have h5 : ((hr_L B n c).filter p).getD (hr_zc p (hr_o B n c) i) 0 = hr_o B n c i := hr_F1 p (hr_L B n c) (by rw [hr_L_len]; exact hi) h
  rw [if_neg (by omega), Nat.add_sub_cancel, h5, hr_af_self]
/-- the first m places of two arrays, from base on, hold list and begins -/
def hr_Pg (B : Nat → Nat → Bool) (col base : Nat) (l : List Nat) (m : Nat) (od bg : Nat → Int32) : Prop := ∀ k, k < m → od (base + k) = nI (l.getD k 0) ∧ bg (base + k) = nI (hr_bl B col l k)
theorem hr_Pg_push {B : Nat → Nat → Bool} {col base : Nat} {l : List Nat} {m : Nat} {od bg : Nat → Int32} (h : hr_Pg B col base l m od bg) {x v : Nat} (hx : l.getD m 0 = x) (hv : hr_bl B col l m = v) : hr_Pg B col base l (m + 1) (upd od (base + m) (nI x)) (upd bg (base + m) (nI v)) := by
  intro k hk
  by_cases e : k = m
  · subst e
    rw [pk_us, pk_us, hx, hv]
    exact ⟨rfl, rfl⟩
  · rw [pk_un (by omega), pk_un (by omega)]
    exact h k (by omega)
theorem hr_Pg_keep {B : Nat → Nat → Bool} {col base : Nat} {l : List Nat} {m : Nat} {od bg : Nat → Int32} (h : hr_Pg B col base l m od bg) {q : Nat} (hq : base + m ≤ q) (x v : Int32) : hr_Pg B col base l m (upd od q x) (upd bg q v) := by
  intro k hk
  rw [pk_un (by omega), pk_un (by omega)]
  exact h k hk
/-- the orders up to column c -/
def hr_Up (bits : Nat → Int32) (n c : Nat) (od bg : Nat → Int32) : Prop := ∀ d, d ≤ c → hr_Pg (hr_B bits) d (8 * d) (hr_L (hr_B bits) n d) n od bg
theorem hr_Up_keep {bits : Nat → Int32} {n c : Nat} {od bg : Nat → Int32} (h : hr_Up bits n c od bg) (hn : n ≤ 8) {q : Nat} (hq : 8 * (c + 1) ≤ q) (x v : Int32) : hr_Up bits n c (upd od q x) (upd bg q v) :=
  fun d hd => hr_Pg_keep (h d hd) (by omega) x v
theorem hr_Up_s {bits : Nat → Int32} {n c : Nat} {od bg : Nat → Int32} (h : hr_Up bits n c od bg) (h2 : hr_Pg (hr_B bits) (c + 1) (8 * (c + 1)) (hr_L (hr_B bits) n (c + 1)) n od bg) : hr_Up bits n (c + 1) od bg := by
  intro d hd
  by_cases e : d = c + 1
  · subst e; exact h2
  · exact h d (by omega)
theorem hr_Up_Bt {bits : Nat → Int32} {n : Nat} {od bg : Nat → Int32} (h : hr_Up bits n 12 od bg) : hr_Bt n bits od bg :=
  fun c hc i hi => h c hc i hi
theorem hx_at {post : Int32 → Prop} {fc fb : Int32} {bits od bg on ob : Nat → Int32} {r c : Nat} (hr : r < 8) (hc : c < 32) (h : post (hr_bI (hr_B bits r c))) : wpX_at post (fc, fb, bits, od, bg, on, ob) (nI r) (nI c) := by
  unfold wpX_at
  dsimp only
  refine And.intro (vp_in_nI hr (by omega)) ?_
  rw [hr_cl hr, hr_bit _ hc]
  exact h
section
variable {n : Nat} {fb : Int32} {bits : Nat → Int32}
theorem hx_part166 {post : SX → Prop} {c : Nat} (hc : c < 12) (hn : n ≤ 8) {on ob : Nat → Int32} {Z O : List Nat} (eZ : Z = (hr_L (hr_B bits) n c).filter (fun r => !(hr_B bits r c))) (eO : O = (hr_L (hr_B bits) n c).filter (fun r => hr_B bits r c)) (hO : hr_Pg (hr_B bits) (c + 1) 0 O O.length on ob)
    (H : ∀ od bg, hr_Up bits n (c + 1) od bg → post (nI n, fb, bits, od, bg, on, ob)) {od bg : Nat → Int32} (hU : hr_Up bits n c od bg) (hZ : hr_Pg (hr_B bits) (c + 1) (8 * (c + 1)) Z Z.length od bg) :
    ∃ w, wX_part_166 post (nI (8 * (c + 1))) (nI Z.length) (nI O.length) (nI n) fb w 0 bits od bg on ob := by
  have eL : hr_L (hr_B bits) n (c + 1) = Z ++ O := by rw [eZ, eO]; rfl
  have hl : Z.length + O.length = n := by rw [← List.length_append, ← eL, hr_L_len]
  have K := hr_lpE (fun w i => ∀ od bg, hr_Up bits n c od bg → hr_Pg (hr_B bits) (c + 1) (8 * (c + 1)) (Z ++ O) (Z.length + i) od bg → wX_part_166 post (nI (8 * (c + 1))) (nI Z.length) (nI O.length) (nI n) fb w (nI i) bits od bg on ob) O.length 0 (Nat.zero_le _) ?_ ?_
  · obtain ⟨w, hw⟩ := K
    refine ⟨w, hw od bg hU ?_⟩
    intro k hk
    have hk2 : k < Z.length := hk
    have h1 := hZ k hk2
    rw [hr_ga hk2]
    refine ⟨h1.1, ?_⟩
    rw [h1.2]
    unfold hr_bl
    by_cases e : k = 0
    · rw [if_pos e, if_pos e]
    · rw [if_neg e, if_neg e, hr_ga hk2, hr_ga (by omega)]
  · intro w od bg h1 h2
    unfold wX_part_166
    refine br_t (nI_le (Nat.le_refl _) (by omega)) (H od bg (hr_Up_s h1 ?_))
    rw [eL]
    rw [hl] at h2
    exact h2
  · intro w i _ hi hw od bg h1 h2
    have hv : hr_bl (hr_B bits) (c + 1) (Z ++ O) (Z.length + i) = hr_bl (hr_B bits) (c + 1) O i := by
      unfold hr_bl
      by_cases e : i = 0
      · subst e
        rw [if_pos rfl, Nat.add_zero]
        by_cases e2 : Z.length = 0
        · rw [if_pos e2]
        · rw [if_neg e2]
          have e3 : (Z ++ O).getD Z.length 0 = O.getD 0 0 := hr_gb Z O 0
          have e4 : (Z ++ O).getD (Z.length - 1) 0 = Z.getD (Z.length - 1) 0 := hr_ga (by omega)
          rw [e3, e4]
          have m1 : O.getD 0 0 ∈ O := by rw [hr_gd hi]; exact List.getElem_mem hi
          have m2 : Z.getD (Z.length - 1) 0 ∈ Z := by rw [hr_gd (by omega)]; exact List.getElem_mem _
          generalize O.getD 0 0 = y at m1
          generalize Z.getD (Z.length - 1) 0 = z at m2
          rw [eO] at m1
          rw [eZ] at m2
          have m3 := (List.mem_filter.mp m1).2
          have m4 := (List.mem_filter.mp m2).2
          refine hr_af_d ?_
          revert m3 m4
          cases hr_B bits y c <;> cases hr_B bits z c <;> simp
      · rw [if_neg (by omega), if_neg e, hr_gb, show Z.length + i - 1 = Z.length + (i - 1) by omega, hr_gb]
    have ho := hO i hi
    rw [Nat.zero_add] at ho
    have ei : (nI (8 * (c + 1)) + nI Z.length) + nI i = nI (8 * (c + 1) + (Z.length + i)) := by rw [nI_add, nI_add, Nat.add_assoc]
    have ec : ((nI (8 * (c + 1)) + nI Z.length) + nI i).toNatClampNeg = 8 * (c + 1) + (Z.length + i) := by rw [ei, nI_clamp (by omega)]
    have en : vp_in ((nI (8 * (c + 1)) + nI Z.length) + nI i) 104 := by rw [ei]; exact vp_in_nI (by omega) (by omega)
    have e8 : vp_in (nI i) 8 := vp_in_nI (by omega) (by omega)
    unfold wX_part_166
    refine br_f (nI_ge hi (by omega)) ⟨e8, en, nm_r (e' := upd od (8 * (c + 1) + (Z.length + i)) (nI (O.getD i 0))) (by rw [ec, hr_cl (by omega), ho.1]) ⟨e8, en, nm_r (e' := upd bg (8 * (c + 1) + (Z.length + i)) (nI (hr_bl (hr_B bits) (c + 1) O i))) (by rw [ec, hr_cl (by omega), ho.2]) (nm_r (nI_1 i) ?_)⟩⟩
    refine hw _ _ (hr_Up_keep h1 hn (by omega) _ _) ?_
    exact hr_Pg_push h2 (hr_gb Z O i) hv
theorem hx_part90 {post : SX → Prop} {J : Int32 → Int32 → Int32 → Int32 → Int32 → (Nat → Int32) → (Nat → Int32) → (Nat → Int32) → (Nat → Int32) → (Nat → Int32) → Prop} {x2 : Int32} {c z m i x mz mo : Nat} {od bg on ob : Nat → Int32} (hc : c < 12) (hx : x < 8) (hz : z < 8) (hm : m < 8)
    (h0 : hr_B bits x c = false → J (nI (z + 1)) (nI m) 0 (nI mo) (nI (i + 1)) bits (upd od (8 * (c + 1) + z) (nI x)) (upd bg (8 * (c + 1) + z) (nI mz)) on ob)
    (h1 : hr_B bits x c = true → J (nI z) (nI (m + 1)) (nI mz) 0 (nI (i + 1)) bits od bg (upd on m (nI x)) (upd ob m (nI mo))) :
    wX_part_90 post J (nI c) x2 (nI (8 * (c + 1))) (nI z) (nI m) (nI mz) (nI i) (nI x) (nI mo) (nI n) fb bits od bg on ob := by
  unfold wX_part_90
  refine hx_at hx (by omega) ?_
  cases e : hr_B bits x c
  · have ec : (nI (8 * (c + 1)) + nI z).toNatClampNeg = 8 * (c + 1) + z := by rw [nI_add, nI_clamp (by omega)]
    have en : vp_in (nI (8 * (c + 1)) + nI z) 104 := by rw [nI_add]; exact vp_in_nI (by omega) (by omega)
    refine br_t ((hr_bI0 _).mpr rfl) ⟨en, nm_r (e' := upd od (8 * (c + 1) + z) (nI x)) (by rw [ec]) ⟨en, nm_r (e' := upd bg (8 * (c + 1) + z) (nI mz)) (by rw [ec]) (nm_r (nI_1 z) (nm_r (nI_1 i) ?_))⟩⟩
    exact h0 e
  · have en : vp_in (nI m) 8 := vp_in_nI hm (by omega)
    refine br_f (by decide) ⟨en, nm_r (e' := upd on m (nI x)) (by rw [hr_cl hm]) ⟨en, nm_r (e' := upd ob m (nI mo)) (by rw [hr_cl hm]) (nm_r (nI_1 m) (nm_r (nI_1 i) ?_))⟩⟩
    exact h1 e
theorem hx_part {post : SX → Prop} {c : Nat} (hc : c < 12) (hn : n ≤ 8) {od bg on ob : Nat → Int32} (hU : hr_Up bits n c od bg) (H : ∀ od bg on ob, hr_Up bits n (c + 1) od bg → post (nI n, fb, bits, od, bg, on, ob)) : wpX_part post (nI n, fb, bits, od, bg, on, ob) (nI c) := by
  unfold wpX_part
  dsimp only
  refine nm_r (e' := nI (8 * c)) (by rw [show (8 : Int32) = nI 8 from rfl, pk_mul]) (nm_r (e' := nI (8 * (c + 1))) (by rw [show (8 : Int32) = nI 8 from rfl, nI_add]; rfl) (nm_r (nI_1 c) (nm_r (nI_1 c) ?_)))
  generalize eZ : (hr_L (hr_B bits) n c).filter (fun r => !(hr_B bits r c)) = Z
  generalize eO : (hr_L (hr_B bits) n c).filter (fun r => hr_B bits r c) = O
  generalize ez : hr_zc (fun r => !(hr_B bits r c)) (hr_o (hr_B bits) n c) = zc
  generalize eo : hr_zc (fun r => hr_B bits r c) (hr_o (hr_B bits) n c) = oc
  have hzn : zc n = Z.length := by
    have h := hr_zc_n (fun r => !(hr_B bits r c)) (hr_L (hr_B bits) n c)
    rw [hr_L_len, eZ] at h
    rw [← ez]; exact h
  have hon : oc n = O.length := by
    have h := hr_zc_n (fun r => hr_B bits r c) (hr_L (hr_B bits) n c)
    rw [hr_L_len, eO] at h
    rw [← eo]; exact h
  have K := hr_lpE (fun w i => ∀ od bg on ob, hr_Up bits n c od bg → hr_Pg (hr_B bits) (c + 1) (8 * (c + 1)) Z (zc i) od bg → hr_Pg (hr_B bits) (c + 1) 0 O (oc i) on ob → wX_part_29 post (nI c) (nI (8 * c)) (nI (8 * (c + 1))) (nI n) fb w (nI (zc i)) (nI (oc i)) (nI (hr_sn (hr_B bits) c Z (zc i) (hr_o (hr_B bits) n c (i - 1)))) (nI (hr_sn (hr_B bits) c O (oc i) (hr_o (hr_B bits) n c (i - 1)))) (nI i) bits od bg on ob) n 0 (Nat.zero_le _) ?_ ?_
  · obtain ⟨w, hw⟩ := K
    refine ⟨w, ?_⟩
    have z0 : zc 0 = 0 := by rw [← ez]; rfl
    have o0 : oc 0 = 0 := by rw [← eo]; rfl
    have hw2 := hw od bg on ob hU (by rw [z0]; exact fun k hk => absurd hk (Nat.not_lt_zero k)) (by rw [o0]; exact fun k hk => absurd hk (Nat.not_lt_zero k))
    rw [z0, o0] at hw2
    exact hw2
  · intro w od bg on ob h1 h2 h3
    rw [hzn] at h2
    rw [hon] at h3
    unfold wX_part_29
    refine br_t (nI_le (Nat.le_refl _) (by omega)) ?_
    rw [hzn, hon]
    exact hx_part166 hc hn eZ.symm eO.symm h3 (fun od bg h => H od bg on ob h) h1 h2
  · intro w i _ hi hw od bg on ob h1 h2 h3
    have hr1 := (h1 c (Nat.le_refl c) i hi).1
    have hr2 := (h1 c (Nat.le_refl c) i hi).2
    have ei : nI (8 * c) + nI i = nI (8 * c + i) := nI_add _ _
    have ec : (nI (8 * c) + nI i).toNatClampNeg = 8 * c + i := by rw [ei, nI_clamp (by omega)]
    have en : vp_in (nI (8 * c) + nI i) 104 := by rw [ei]; exact vp_in_nI (by omega) (by omega)
    have hs1 := hr_sn_stp (hr_B bits) n c (fun r => !(hr_B bits r c)) hi
    have hs2 := hr_sn_stp (hr_B bits) n c (fun r => hr_B bits r c) hi
    rw [eZ, ez] at hs1
    rw [eO, eo] at hs2
    have lz : zc i ≤ i := by rw [← ez]; exact hr_zc_le _ _ _
    have lo : oc i ≤ i := by rw [← eo]; exact hr_zc_le _ _ _
    have lx : hr_o (hr_B bits) n c i < n := hr_o_lt _ hi
    have lb := hr_b_le (hr_B bits) n c i
    have ls1 : hr_sn (hr_B bits) c Z (zc i) (hr_o (hr_B bits) n c (i - 1)) ≤ c + 1 := by
      unfold hr_sn
      split
      · omega
      · exact Nat.le_trans (hr_af_le _ _ _) (by omega)
    have ls2 : hr_sn (hr_B bits) c O (oc i) (hr_o (hr_B bits) n c (i - 1)) ≤ c + 1 := by
      unfold hr_sn
      split
      · omega
      · exact Nat.le_trans (hr_af_le _ _ _) (by omega)
    have K90 : wX_part_90 post (wX_part_29 post (nI c) (nI (8 * c)) (nI (8 * (c + 1))) (nI n) fb w) (nI c) (nI (8 * c)) (nI (8 * (c + 1))) (nI (zc i)) (nI (oc i)) (nI (hr_sn (hr_B bits) c Z (zc i) (hr_o (hr_B bits) n c i))) (nI i) (nI (hr_o (hr_B bits) n c i)) (nI (hr_sn (hr_B bits) c O (oc i) (hr_o (hr_B bits) n c i))) (nI n) fb bits od bg on ob := by
      refine hx_part90 hc (by omega) (by omega) (by omega) ?_ ?_
      · intro e
        have e1 : (fun r => !(hr_B bits r c)) (hr_o (hr_B bits) n c i) = true := by show (!(hr_B bits _ c)) = true; rw [e]; rfl
        have e2 : ¬ (fun r => hr_B bits r c) (hr_o (hr_B bits) n c i) = true := by show ¬ (hr_B bits _ c) = true; rw [e]; decide
        have q1 : zc (i + 1) = zc i + 1 := by rw [← ez]; exact hr_zc_t e1
        have q2 : oc (i + 1) = oc i := by rw [← eo]; exact hr_zc_f e2
        have q3 := hr_F1 (fun r => !(hr_B bits r c)) (hr_L (hr_B bits) n c) (i := i) (by rw [hr_L_len]; exact hi) e1
        have q4 : Z.getD (zc i) 0 = hr_o (hr_B bits) n c i := by rw [← eZ, ← ez]; exact q3
        have q5 := hr_bl_sn (hr_B bits) n c (fun r => !(hr_B bits r c)) (by intro r s; cases hr_B bits r c <;> cases hr_B bits s c <;> simp) hi e1
        rw [eZ, ez] at q5
        have q6 := hr_sn_0 (hr_B bits) n c (fun r => !(hr_B bits r c)) hi e1
        rw [eZ, ez] at q6
        have hw2 := hw (upd od (8 * (c + 1) + zc i) (nI (hr_o (hr_B bits) n c i))) (upd bg (8 * (c + 1) + zc i) (nI (hr_sn (hr_B bits) c Z (zc i) (hr_o (hr_B bits) n c i)))) on ob (hr_Up_keep h1 hn (by omega) _ _) (by rw [q1]; exact hr_Pg_push h2 q4 q5) (by rw [q2]; exact h3)
        rw [q1, q2, Nat.add_sub_cancel, q6] at hw2
        exact hw2
      · intro e
        have e1 : (fun r => hr_B bits r c) (hr_o (hr_B bits) n c i) = true := e
        have e2 : ¬ (fun r => !(hr_B bits r c)) (hr_o (hr_B bits) n c i) = true := by show ¬ (!(hr_B bits _ c)) = true; rw [e]; decide
        have q1 : oc (i + 1) = oc i + 1 := by rw [← eo]; exact hr_zc_t e1
        have q2 : zc (i + 1) = zc i := by rw [← ez]; exact hr_zc_f e2
        have q3 := hr_F1 (fun r => hr_B bits r c) (hr_L (hr_B bits) n c) (i := i) (by rw [hr_L_len]; exact hi) e1
        have q4 : O.getD (oc i) 0 = hr_o (hr_B bits) n c i := by rw [← eO, ← eo]; exact q3
        have q5 := hr_bl_sn (hr_B bits) n c (fun r => hr_B bits r c) (by intro r s; cases hr_B bits r c <;> cases hr_B bits s c <;> simp) hi e1
        rw [eO, eo] at q5
        have q6 := hr_sn_0 (hr_B bits) n c (fun r => hr_B bits r c) hi e1
        rw [eO, eo] at q6
        have q7 := hr_Pg_push h3 q4 q5
        rw [Nat.zero_add] at q7
        have hw2 := hw od bg (upd on (oc i) (nI (hr_o (hr_B bits) n c i))) (upd ob (oc i) (nI (hr_sn (hr_B bits) c O (oc i) (hr_o (hr_B bits) n c i)))) h1 (by rw [q2]; exact h2) (by rw [q1]; exact q7)
        rw [q1, q2, Nat.add_sub_cancel, q6] at hw2
        exact hw2
    have K74 : wX_part_74 post (wX_part_29 post (nI c) (nI (8 * c)) (nI (8 * (c + 1))) (nI n) fb w) (nI c) (nI (8 * c)) (nI (8 * (c + 1))) (nI (zc i)) (nI (oc i)) (nI (hr_sn (hr_B bits) c O (oc i) (hr_o (hr_B bits) n c (i - 1)))) (nI i) (nI (hr_o (hr_B bits) n c i)) (nI (hr_b (hr_B bits) n c i)) (nI (hr_sn (hr_B bits) c Z (zc i) (hr_o (hr_B bits) n c i))) (nI n) fb bits od bg on ob := by
      unfold wX_part_74
      refine pk_le (hr_b (hr_B bits) n c i) (hr_sn (hr_B bits) c O (oc i) (hr_o (hr_B bits) n c (i - 1))) (fun h => ?_) (fun h => ?_)
      · rw [Nat.max_eq_right h] at hs2
        rw [hs2]
        exact K90
      · rw [Nat.max_eq_left (by omega)] at hs2
        rw [← hs2] at K90
        exact K90
    unfold wX_part_29
    refine br_f (nI_ge hi (by omega)) ⟨en, nm_r (e' := nI (hr_o (hr_B bits) n c i)) (by rw [ec]; exact hr1) ⟨en, nm_r (e' := nI (hr_b (hr_B bits) n c i)) (by rw [ec]; exact hr2) ?_⟩⟩
    refine pk_le (hr_b (hr_B bits) n c i) (hr_sn (hr_B bits) c Z (zc i) (hr_o (hr_B bits) n c (i - 1))) (fun h => ?_) (fun h => ?_)
    · rw [Nat.max_eq_right h] at hs1
      rw [hs1]
      exact K74
    · rw [Nat.max_eq_left (by omega)] at hs1
      rw [← hs1] at K74
      exact K74
theorem hx_build {post : SX → Prop} (hn : n ≤ 8) {od bg on ob : Nat → Int32} (hB : ¬ fb = 0 → hr_Bt n bits od bg) (H : ∀ fb od bg on ob, hr_Bt n bits od bg → post (nI n, fb, bits, od, bg, on, ob)) : wpX_build post (nI n, fb, bits, od, bg, on, ob) := by
  unfold wpX_build
  dsimp only
  refine br_c (fun _ => ?_) (fun h => H fb od bg on ob (hB h))
  have K := hr_lpE (fun w i => ∀ od bg, hr_Pg (hr_B bits) 0 0 (hr_L (hr_B bits) n 0) i od bg → wX_build_10 post (nI n) fb w (nI i) bits od bg on ob) n 0 (Nat.zero_le _) ?_ ?_
  · obtain ⟨w, hw⟩ := K
    exact ⟨w, hw od bg (fun k hk => absurd hk (Nat.not_lt_zero k))⟩
  · intro w od bg h1
    unfold wX_build_10
    refine br_t (nI_le (Nat.le_refl _) (by omega)) ?_
    have K2 := hr_lpE (fun w c => ∀ od bg on ob, hr_Up bits n c od bg → wX_build_40 post w (nI c) (nI n) fb bits od bg on ob) 12 0 (Nat.zero_le _) ?_ ?_
    · obtain ⟨w2, hw2⟩ := K2
      refine ⟨w2, hw2 od bg on ob ?_⟩
      intro d hd
      rw [Nat.le_zero.mp hd]
      exact h1
    · intro w2 od bg on ob h2
      unfold wX_build_40
      exact br_t (by decide) (H 1 od bg on ob (hr_Up_Bt h2))
    · intro w2 c _ hc hw2 od bg on ob h2
      unfold wX_build_40
      refine br_f (nI_ge (b := 12) hc (by decide)) (hx_part hc hn h2 ?_)
      intro od bg on ob h3
      exact nm_r (nI_1 c) (hw2 od bg on ob h3)
  · intro w i _ hi hw od bg h1
    have en : vp_in (nI i) 104 := vp_in_nI (by omega) (by omega)
    unfold wX_build_10
    refine br_f (nI_ge hi (by omega)) ⟨en, nm_r (e' := upd od i (nI i)) (by rw [hr_cl (by omega)]) ⟨en, nm_r (e' := upd bg i (nI 0)) (by rw [hr_cl (by omega)]; rfl) (nm_r (nI_1 i) ?_)⟩⟩
    have h2 := hr_Pg_push h1 (x := i) (v := 0) (by
      have hl : i < (List.range n).length := by rw [List.length_range]; exact hi
      show (List.range n).getD i 0 = i
      rw [hr_gd hl, List.getElem_range]) (by
      unfold hr_bl
      split
      · rfl
      · rfl)
    rw [Nat.zero_add] at h2
    exact hw _ _ h2
end
end
section
/-! X: what the private readers answer over built arrays -/
def hr_pt (B : Nat → Nat → Bool) (r s c : Nat) : Prop := c = 12 ∨ ¬ B r c = B s c
def hr_mn (B : Nat → Nat → Bool) (r c : Nat) : Nat → Nat
  | 0 => c
  | k + 1 => if k = r then hr_mn B r c k else min (hr_mn B r c k) (hr_af (B r) (B k) c)
theorem hr_mn_le (B : Nat → Nat → Bool) (r c k : Nat) : hr_mn B r c k ≤ c := by
  induction k with
  | zero => exact Nat.le_refl c
  | succ k ih =>
    show (if k = r then hr_mn B r c k else min (hr_mn B r c k) (hr_af (B r) (B k) c)) ≤ c
    split
    · exact ih
    · exact Nat.le_trans (Nat.min_le_left _ _) ih
theorem hr_mn_lb (B : Nat → Nat → Bool) (r c k s : Nat) (hs : s < k) (hne : s ≠ r) : hr_mn B r c k ≤ hr_af (B r) (B s) c := by
  induction k with
  | zero => exact absurd hs (Nat.not_lt_zero s)
  | succ k ih =>
    show (if k = r then hr_mn B r c k else min (hr_mn B r c k) (hr_af (B r) (B k) c)) ≤ _
    by_cases e : s = k
    · subst e
      rw [if_neg hne]
      exact Nat.min_le_right _ _
    · have h1 := ih (by omega)
      split
      · exact h1
      · exact Nat.le_trans (Nat.min_le_left _ _) h1
theorem hr_mn_at (B : Nat → Nat → Bool) (r c k : Nat) : hr_mn B r c k = c ∨ ∃ s, s < k ∧ s ≠ r ∧ hr_mn B r c k = hr_af (B r) (B s) c := by
  induction k with
  | zero => exact Or.inl rfl
  | succ k ih =>
    have hu : hr_mn B r c (k + 1) = if k = r then hr_mn B r c k else min (hr_mn B r c k) (hr_af (B r) (B k) c) := rfl
    by_cases e : k = r
    · rw [if_pos e] at hu
      rw [hu]
      rcases ih with h | ⟨s, h1, h2, h3⟩
      · exact Or.inl h
      · exact Or.inr ⟨s, by omega, h2, h3⟩
    · rw [if_neg e] at hu
      rcases Nat.le_total (hr_mn B r c k) (hr_af (B r) (B k) c) with h | h
      · rw [Nat.min_eq_left h] at hu
        rw [hu]
        rcases ih with h | ⟨s, h1, h2, h3⟩
        · exact Or.inl h
        · exact Or.inr ⟨s, by omega, h2, h3⟩
      · rw [Nat.min_eq_right h] at hu
        exact Or.inr ⟨k, Nat.lt_succ_self k, e, hu⟩
theorem hr_mn_u (B : Nat → Nat → Bool) (r c k v : Nat) (h1 : v ≤ c) (h2 : ∀ s, s < k → s ≠ r → v ≤ hr_af (B r) (B s) c) (h3 : v = c ∨ ∃ s, s < k ∧ s ≠ r ∧ v = hr_af (B r) (B s) c) : v = hr_mn B r c k := by
  refine Nat.le_antisymm ?_ ?_
  · rcases hr_mn_at B r c k with h | ⟨s, a, b, h⟩
    · rw [h]; exact h1
    · rw [h]; exact h2 s a b
  · rcases h3 with h | ⟨s, a, b, h⟩
    · rw [h]; exact hr_mn_le B r c k
    · rw [h]; exact hr_mn_lb B r c k s a b
/-- the neighbours agree longest -/
theorem hr_nb (B : Nat → Nat → Bool) {n c p : Nat} (hp : p < n) : min (if p = 0 then c else hr_b B n c p) (if p + 1 < n then hr_b B n c (p + 1) else c) = hr_mn B (hr_o B n c p) c n := by
  refine hr_mn_u B _ c n _ ?_ ?_ ?_
  · refine Nat.le_trans (Nat.min_le_left _ _) ?_
    split
    · exact Nat.le_refl c
    · exact hr_b_le B n c p
  · intro s hs hne
    obtain ⟨q, hq, rfl⟩ := hr_o_sur B (c := c) hs
    have hqp : q ≠ p := fun e => hne (by rw [e])
    rcases Nat.lt_or_ge q p with h | h
    · refine Nat.le_trans (Nat.min_le_left _ _) ?_
      obtain ⟨t, rfl⟩ : ∃ t, p = t + 1 := ⟨p - 1, by omega⟩
      rw [if_neg (by omega), hr_b_s, hr_af_comm (B (hr_o B n c (t + 1))), hr_o3 B (i := q) (j := t) (k := t + 1) (by omega) (by omega) hp]
      exact Nat.le_max_right _ _
    · refine Nat.le_trans (Nat.min_le_right _ _) ?_
      rw [if_pos (by omega), hr_b_s, hr_o3 B (i := p) (j := p + 1) (k := q) (by omega) (by omega) hq]
      exact Nat.le_max_left _ _
  · have hu : (if p = 0 then c else hr_b B n c p) = c ∨ ∃ s, s < n ∧ s ≠ hr_o B n c p ∧ (if p = 0 then c else hr_b B n c p) = hr_af (B (hr_o B n c p)) (B s) c := by
      by_cases e : p = 0
      · rw [if_pos e]; exact Or.inl rfl
      · rw [if_neg e]
        obtain ⟨t, rfl⟩ : ∃ t, p = t + 1 := ⟨p - 1, by omega⟩
        exact Or.inr ⟨hr_o B n c t, hr_o_lt B (by omega), hr_o_ne B (by omega) hp, by rw [hr_b_s, hr_af_comm]⟩
    have hd : (if p + 1 < n then hr_b B n c (p + 1) else c) = c ∨ ∃ s, s < n ∧ s ≠ hr_o B n c p ∧ (if p + 1 < n then hr_b B n c (p + 1) else c) = hr_af (B (hr_o B n c p)) (B s) c := by
      by_cases e : p + 1 < n
      · rw [if_pos e]
        exact Or.inr ⟨hr_o B n c (p + 1), hr_o_lt B e, fun z => hr_o_ne B (Nat.lt_succ_self p) e z.symm, by rw [hr_b_s]⟩
      · rw [if_neg e]; exact Or.inl rfl
    rcases Nat.le_total (if p = 0 then c else hr_b B n c p) (if p + 1 < n then hr_b B n c (p + 1) else c) with h | h
    · rw [Nat.min_eq_left h]; exact hu
    · rw [Nat.min_eq_right h]; exact hd
section
variable {n : Nat} {fb : Int32} {bits od bg on ob : Nat → Int32}
theorem hx_parts {post : Int32 → Prop} {r s c : Nat} (hr : r < 8) (hs : s < 8) (hc : c ≤ 12) (h1 : hr_pt (hr_B bits) r s c → post 1) (h0 : ¬ hr_pt (hr_B bits) r s c → post 0) : wpX_parts post (nI n, fb, bits, od, bg, on, ob) (nI r) (nI s) (nI c) := by
  unfold wpX_parts
  dsimp only
  refine pk_eq c 12 (fun e => h1 (Or.inl e)) (fun e => ?_)
  refine hx_at hr (by omega) (hx_at hs (by omega) ?_)
  refine br_c (fun z => h0 ?_) (fun z => h1 (Or.inr ?_))
  · rw [hr_bIe] at z
    intro h
    rcases h with h | h
    · exact e h
    · exact h z
  · rw [hr_bIe] at z
    exact z
theorem hx_placeOf {post : Int32 → Prop} (HB : hr_Bt n bits od bg) (hn : n ≤ 8) {c p : Nat} (hc : c ≤ 12) (hp : p < n) (h : post (nI p)) : wpX_placeOf post (nI n, fb, bits, od, bg, on, ob) (nI (hr_o (hr_B bits) n c p)) (nI c) := by
  have K := hr_lpE (fun w i => wX_placeOf_5 post (nI (hr_o (hr_B bits) n c p)) (nI c) (nI n) fb bits od bg on ob w (nI (if p < i then p else 0)) (nI i)) n 0 (Nat.zero_le _) ?_ ?_
  · exact K
  · intro w
    unfold wX_placeOf_5
    refine br_t (nI_le (Nat.le_refl _) (by omega)) ?_
    rw [if_pos hp]
    exact h
  · intro w i _ hi hw
    have l1 := hr_o_lt (hr_B bits) (c := c) hi
    have l2 := hr_o_lt (hr_B bits) (c := c) hp
    unfold wX_placeOf_5
    refine br_f (nI_ge hi (by omega)) ⟨hr_ixin hc (by omega), pk_eq (hr_o (hr_B bits) n c i) (hr_o (hr_B bits) n c p) (fun e => ?_) (fun e => ?_) (hx_od HB hn hc hi) rfl⟩
    · have e2 := hr_o_inj (hr_B bits) hi hp e
      subst e2
      try dsimp only at hw
      rw [if_pos (Nat.lt_succ_self i)] at hw
      exact nm_r (nI_1 i) hw
    · have e2 : i ≠ p := fun z => e (by rw [z])
      have e3 : (if p < i + 1 then p else 0) = (if p < i then p else 0) := by
        by_cases h3 : p < i
        · rw [if_pos h3, if_pos (by omega)]
        · rw [if_neg h3, if_neg (by omega)]
      try dsimp only at hw
      rw [e3] at hw
      exact nm_r (nI_1 i) hw
theorem hx_as57 {post : Int32 → Prop} (HB : hr_Bt n bits od bg) (hn : n ≤ 8) {c p q : Nat} (hc : c ≤ 12) (hpq : p ≤ q) (hq : q < n) (h : post (nI (hr_af (hr_B bits (hr_o (hr_B bits) n c p)) (hr_B bits (hr_o (hr_B bits) n c q)) c))) : ∃ w, wX_agreeSince_57 post (nI c) (nI q) (nI n) fb bits od bg on ob w 0 (nI (p + 1)) := by
  have K := hr_lpE (fun w t => wX_agreeSince_57 post (nI c) (nI q) (nI n) fb bits od bg on ob w (nI (hr_af (hr_B bits (hr_o (hr_B bits) n c p)) (hr_B bits (hr_o (hr_B bits) n c t)) c)) (nI (t + 1))) q p hpq ?_ ?_
  · obtain ⟨w, hw⟩ := K
    try dsimp only at hw
    rw [hr_af_self] at hw
    exact ⟨w, hw⟩
  · intro w
    unfold wX_agreeSince_57
    exact br_t (nI_lt (Nat.lt_succ_self q) (by omega)) h
  · intro w t h1 h2 hw
    have hst := hr_stp (hr_B bits) (n := n) (c := c) h1 (by omega : t + 1 < n)
    have l1 := hr_af_le (hr_B bits (hr_o (hr_B bits) n c p)) (hr_B bits (hr_o (hr_B bits) n c t)) c
    have l2 := hr_b_le (hr_B bits) n c (t + 1)
    unfold wX_agreeSince_57
    refine br_f (nI_nlt (by omega) (by omega)) ⟨hr_ixin hc (by omega), nm_r (hx_bg HB hn hc (by omega)) (pk_le (hr_b (hr_B bits) n c (t + 1)) (hr_af (hr_B bits (hr_o (hr_B bits) n c p)) (hr_B bits (hr_o (hr_B bits) n c t)) c) (fun hl => ?_) (fun hl => ?_))⟩
    · rw [Nat.max_eq_right hl] at hst
      rw [hst]
      exact nm_r (nI_1 (t + 1)) hw
    · rw [Nat.max_eq_left (by omega)] at hst
      rw [hst]
      exact nm_r (nI_1 (t + 1)) hw
theorem hx_agO {post : Int32 → Prop} (HB : hr_Bt n bits od bg) (hn : n ≤ 8) {c p q : Nat} (hc : c ≤ 12) (hp : p < n) (hq : q < n) (h : post (nI (hr_af (hr_B bits (hr_o (hr_B bits) n c p)) (hr_B bits (hr_o (hr_B bits) n c q)) c))) : wpX_agreeSince post (nI n, fb, bits, od, bg, on, ob) (nI (hr_o (hr_B bits) n c p)) (nI (hr_o (hr_B bits) n c q)) (nI c) := by
  unfold wpX_agreeSince
  dsimp only
  refine hx_placeOf HB hn hc hp (hx_placeOf HB hn hc hq ?_)
  refine pk_le q p (fun hl => ?_) (fun hl => ?_)
  · unfold wX_agreeSince_30
    refine br_t (nI_le hl (by omega)) (nm_r (nI_1 q) (hx_as57 HB hn hc hl hp ?_))
    rw [hr_af_comm]
    exact h
  · unfold wX_agreeSince_30
    exact br_f (nI_ge hl (by omega)) (nm_r (nI_1 p) (hx_as57 HB hn hc (by omega) hq h))
theorem hx_agS {post : Int32 → Prop} (HB : hr_Bt n bits od bg) (hn : n ≤ 8) {c r s : Nat} (hc : c ≤ 12) (hr : r < n) (hs : s < n) (h : post (nI (hr_af (hr_B bits r) (hr_B bits s) c))) : wpX_agreeSince post (nI n, fb, bits, od, bg, on, ob) (nI r) (nI s) (nI c) := by
  obtain ⟨p, hp, rfl⟩ := hr_o_sur (hr_B bits) (c := c) hr
  obtain ⟨q, hq, rfl⟩ := hr_o_sur (hr_B bits) (c := c) hs
  exact hx_agO HB hn hc hp hq h
theorem hx_bs55 {post : Int32 → Prop} {a b : Nat} (ha : a ≤ 12) (hb : b ≤ 12) (h : post (nI (min a b))) : wX_bestSince_55 post (nI a) (nI b) (nI n) fb bits od bg on ob := by
  unfold wX_bestSince_55
  refine pk_le b a (fun hl => ?_) (fun hl => ?_)
  · rw [Nat.min_eq_right hl] at h
    exact h
  · rw [Nat.min_eq_left (by omega)] at h
    exact h
theorem hx_bs26 {post : Int32 → Prop} (HB : hr_Bt n bits od bg) (hn : n ≤ 8) {c p up : Nat} (hc : c ≤ 12) (hp : p < n) (hu : up ≤ 12) (h : post (nI (min up (if p + 1 < n then hr_b (hr_B bits) n c (p + 1) else c)))) : wX_bestSince_26 post (nI c) (nI p) (nI up) (nI n) fb bits od bg on ob := by
  have lb := hr_b_le (hr_B bits) n c (p + 1)
  unfold wX_bestSince_26
  refine pk_le n (p + 1) (fun hl => ?_) (fun hl => ?_) rfl (nI_1 p)
  · rw [if_neg (by omega)] at h
    exact hx_bs55 hu hc h
  · rw [if_pos hl] at h
    have e : ((8 : Int32) * nI c + nI p) + 1 = (8 : Int32) * nI c + nI (p + 1) := by rw [Int32.add_assoc, nI_1]
    rw [e]
    refine ⟨hr_ixin hc (by omega), ?_⟩
    rw [hx_bg HB hn hc hl]
    exact hx_bs55 hu (by omega) h
theorem hx_bestSince {post : Int32 → Prop} (HB : hr_Bt n bits od bg) (hn : n ≤ 8) {c r : Nat} (hc : c ≤ 12) (hr : r < n) (h : post (nI (hr_mn (hr_B bits) r c n))) : wpX_bestSince post (nI n, fb, bits, od, bg, on, ob) (nI r) (nI c) := by
  obtain ⟨p, hp, rfl⟩ := hr_o_sur (hr_B bits) (c := c) hr
  rw [← hr_nb (hr_B bits) hp] at h
  have lb := hr_b_le (hr_B bits) n c p
  unfold wpX_bestSince
  dsimp only
  refine hx_placeOf HB hn hc hp (pk_le p 0 (fun hl => ?_) (fun hl => ?_))
  · rw [if_pos (by omega)] at h
    exact hx_bs26 HB hn hc hp hc h
  · rw [if_neg (by omega)] at h
    refine ⟨hr_ixin hc (by omega), ?_⟩
    rw [hx_bg HB hn hc hp]
    exact hx_bs26 HB hn hc hp (by omega) h
end
end
section
/-! X: what the public methods answer over built arrays -/
theorem hr_sm_le1 {f : Nat → Nat} (h : ∀ i, f i ≤ 1) (n : Nat) : hr_sm f n ≤ n := by
  induction n with
  | zero => exact Nat.le_refl 0
  | succ n ih =>
    have := h n
    show hr_sm f n + f n ≤ n + 1
    omega
theorem hr_q_le (P : Prop) : hr_q P ≤ 1 := by
  by_cases h : P
  · rw [hr_q_t h]; exact Nat.le_refl 1
  · rw [hr_q_f h]; exact Nat.zero_le 1
def hr_P (B : Nat → Nat → Bool) (c m r s : Nat) : Prop := m + hr_af (B r) (B s) c ≤ c ∧ hr_pt B r s c
noncomputable def hr_F (B : Nat → Nat → Bool) (n c m i k : Nat) : Nat := if i < k then hr_q (hr_P B c m (hr_o B n c i) (hr_o B n c k)) else 0
noncomputable def hr_xe (B : Nat → Nat → Bool) (n m c : Nat) : Nat := hr_sm (fun i => hr_sm (hr_F B n c m i) n) n
noncomputable def hr_xm (B : Nat → Nat → Bool) (n m : Nat) : Nat := hr_sm (fun t => hr_xe B n m (t + 1)) 12
def hr_lo (B : Nat → Nat → Bool) (r s : Nat) : Nat := hr_mx (fun t => (t + 1) - hr_af (B r) (B s) (t + 1)) 12
theorem hr_mx_b {f : Nat → Nat} {v : Nat} (h : ∀ i, f i ≤ v) (n : Nat) : hr_mx f n ≤ v := hr_mx_le (fun i _ => h i)
section
variable {n : Nat} {fb : Int32} {bits od bg on ob : Nat → Int32}
theorem hx_ea60 {post : Int32 → Prop} {J5 : Int32 → Int32 → Prop} {J23 : Int32 → Int32 → Int32 → Prop} (HB : hr_Bt n bits od bg) (hn : n ≤ 8) {c m X i j a : Nat} (hc : c ≤ 12) (hm : m ≤ 12) (hi : i < n) (hj : j < n) (ha : a = hr_af (hr_B bits (hr_o (hr_B bits) n c i)) (hr_B bits (hr_o (hr_B bits) n c j)) c)
    (h : J23 (nI (X + hr_q (hr_P (hr_B bits) c m (hr_o (hr_B bits) n c i) (hr_o (hr_B bits) n c j)))) (nI a) (nI (j + 1))) : wX_endingAt_60 post J5 J23 (nI c) (nI m) (nI X) (nI i) (nI j) (nI a) (nI n) fb bits od bg on ob := by
  have la : a ≤ c := by rw [ha]; exact hr_af_le _ _ c
  have l1 := hr_o_lt (hr_B bits) (c := c) hi
  have l2 := hr_o_lt (hr_B bits) (c := c) hj
  unfold wX_endingAt_60
  refine ⟨hr_ixin hc (by omega), nm_r (hx_od HB hn hc hi) ⟨hr_ixin hc (by omega), nm_r (hx_od HB hn hc hj) ?_⟩⟩
  refine pk_lt (c - a) m (fun hl => ?_) (fun hl => ?_) (pk_sub la) rfl
  · rw [hr_q_f (fun z => by have := z.1; omega), Nat.add_zero] at h
    exact nm_r (nI_1 j) h
  · refine hx_parts (by omega) (by omega) hc (fun hp => ?_) (fun hp => ?_)
    · rw [hr_q_t ⟨by omega, hp⟩] at h
      exact br_f (by decide) (nm_r (nI_1 X) (nm_r (nI_1 j) h))
    · rw [hr_q_f (fun z => hp z.2), Nat.add_zero] at h
      exact br_t rfl (nm_r (nI_1 j) h)
theorem hx_ea23 {post : Int32 → Prop} {J5 : Int32 → Int32 → Prop} (HB : hr_Bt n bits od bg) (hn : n ≤ 8) {c m X i : Nat} (hc : c ≤ 12) (hm : m ≤ 12) (hi : i < n) (h : J5 (nI (X + hr_sm (hr_F (hr_B bits) n c m i) n)) (nI (i + 1))) : ∃ w, wX_endingAt_23 post J5 (nI c) (nI m) (nI i) (nI n) fb bits od bg on ob w (nI X) 0 (nI (i + 1)) := by
  obtain ⟨e, he⟩ : ∃ e, e + 1 = n := ⟨n - 1, by omega⟩
  have K := hr_lpE (fun w t => wX_endingAt_23 post J5 (nI c) (nI m) (nI i) (nI n) fb bits od bg on ob w (nI (X + hr_sm (hr_F (hr_B bits) n c m i) (t + 1))) (nI (hr_af (hr_B bits (hr_o (hr_B bits) n c i)) (hr_B bits (hr_o (hr_B bits) n c t)) c)) (nI (t + 1))) e i (by omega) ?_ ?_
  · obtain ⟨w, hw⟩ := K
    try dsimp only at hw
    have e0 : hr_sm (hr_F (hr_B bits) n c m i) (i + 1) = 0 := hr_sm_0 (fun k hk => by
      unfold hr_F
      rw [if_neg (by omega)])
    rw [hr_af_self, e0, Nat.add_zero] at hw
    exact ⟨w, hw⟩
  · intro w
    unfold wX_endingAt_23
    refine br_t (nI_le (by omega) (by omega)) (nm_r (nI_1 i) ?_)
    rw [he]
    exact h
  · intro w t h1 h2 hw
    have h3 : t + 1 < n := by omega
    have hst := hr_stp (hr_B bits) (c := c) h1 h3
    have l1 := hr_af_le (hr_B bits (hr_o (hr_B bits) n c i)) (hr_B bits (hr_o (hr_B bits) n c t)) c
    have l2 := hr_b_le (hr_B bits) n c (t + 1)
    have eF : hr_F (hr_B bits) n c m i (t + 1) = hr_q (hr_P (hr_B bits) c m (hr_o (hr_B bits) n c i) (hr_o (hr_B bits) n c (t + 1))) := if_pos (by omega)
    have eS : X + hr_sm (hr_F (hr_B bits) n c m i) (t + 1 + 1) = (X + hr_sm (hr_F (hr_B bits) n c m i) (t + 1)) + hr_q (hr_P (hr_B bits) c m (hr_o (hr_B bits) n c i) (hr_o (hr_B bits) n c (t + 1))) := by
      rw [← eF]
      exact (Nat.add_assoc X _ _).symm
    try dsimp only at hw
    rw [eS] at hw
    have K60 := hx_ea60 (post := post) (J5 := J5) (fb := fb) (on := on) (ob := ob) HB hn hc hm hi h3 rfl hw
    unfold wX_endingAt_23
    refine br_f (nI_ge h3 (by omega)) ⟨hr_ixin hc (by omega), nm_r (hx_bg HB hn hc h3) (pk_le (hr_b (hr_B bits) n c (t + 1)) (hr_af (hr_B bits (hr_o (hr_B bits) n c i)) (hr_B bits (hr_o (hr_B bits) n c t)) c) (fun hl => ?_) (fun hl => ?_))⟩
    · rw [Nat.max_eq_right hl] at hst
      rw [hst]
      exact K60
    · rw [Nat.max_eq_left (by omega)] at hst
      rw [hst]
      exact K60
theorem hx_endingAt {post : Int32 → Prop} (HB : hr_Bt n bits od bg) (hn : n ≤ 8) {c m : Nat} (hc : c ≤ 12) (hm : m ≤ 12) (h : post (nI (hr_xe (hr_B bits) n m c))) : wpX_endingAt post (nI n, fb, bits, od, bg, on, ob) (nI c) (nI m) := by
  have K := hr_lpE (fun w i => wX_endingAt_5 post (nI c) (nI m) (nI n) fb bits od bg on ob w (nI (hr_sm (fun i => hr_sm (hr_F (hr_B bits) n c m i) n) i)) (nI i)) n 0 (Nat.zero_le _) ?_ ?_
  · exact K
  · intro w
    unfold wX_endingAt_5
    exact br_t (nI_le (Nat.le_refl _) (by omega)) h
  · intro w i _ hi hw
    unfold wX_endingAt_5
    exact br_f (nI_ge hi (by omega)) (nm_r (nI_1 i) (hx_ea23 HB hn hc hm hi hw))
theorem hx_matches {post : Int32 → SX → Prop} (hn : n ≤ 8) (hB : ¬ fb = 0 → hr_Bt n bits od bg) {m : Nat} (hm1 : 1 ≤ m) (hm : m ≤ 12) (H : ∀ fb od bg on ob, hr_Bt n bits od bg → post (nI (hr_xm (hr_B bits) n m)) (nI n, fb, bits, od, bg, on, ob)) : wpX_matches post (nI n, fb, bits, od, bg, on, ob) (nI m) := by
  unfold wpX_matches
  dsimp only
  refine br_f (nI_nlt (b := 1) hm1 (by omega)) (br_t (nI_le (b := 12) hm (by decide)) (hx_build hn hB (fun fb od bg on ob HB => ?_)))
  have K := hr_lpE (fun w t => wX_matches_21 post (nI m) (nI n) fb bits od bg on ob w (nI (hr_sm (fun t => hr_xe (hr_B bits) n m (t + 1)) t)) (nI (t + 1))) 12 0 (Nat.zero_le _) ?_ ?_
  · exact K
  · intro w
    unfold wX_matches_21
    exact br_t (by decide) (H fb od bg on ob HB)
  · intro w t _ ht hw
    unfold wX_matches_21
    exact br_f (nI_nlt (a := 12) (by omega) (by decide)) (hx_endingAt HB hn (by omega) hm (nm_r (nI_add _ _) (nm_r (nI_1 (t + 1)) hw)))
theorem hx_lng {post : Int32 → SX → Prop} (HB : hr_Bt n bits od bg) (hn : n ≤ 8) {r s : Nat} (hr : r < n) (hs : s < n) (h : post (nI (hr_lo (hr_B bits) r s)) (nI n, fb, bits, od, bg, on, ob)) : ∃ w, wX_longest_33 post (nI r) (nI s) (nI n) fb bits od bg on ob w 0 1 := by
  have K := hr_lpE (fun w t => wX_longest_33 post (nI r) (nI s) (nI n) fb bits od bg on ob w (nI (hr_mx (fun t => (t + 1) - hr_af (hr_B bits r) (hr_B bits s) (t + 1)) t)) (nI (t + 1))) 12 0 (Nat.zero_le _) ?_ ?_
  · exact K
  · intro w
    unfold wX_longest_33
    exact br_t (by decide) h
  · intro w t _ ht hw
    have l1 := hr_af_le (hr_B bits r) (hr_B bits s) (t + 1)
    have l2 : hr_mx (fun t => (t + 1) - hr_af (hr_B bits r) (hr_B bits s) (t + 1)) t ≤ 12 := hr_mx_le (fun i hi => by omega)
    have e : hr_mx (fun t => (t + 1) - hr_af (hr_B bits r) (hr_B bits s) (t + 1)) (t + 1) = max (hr_mx (fun t => (t + 1) - hr_af (hr_B bits r) (hr_B bits s) (t + 1)) t) ((t + 1) - hr_af (hr_B bits r) (hr_B bits s) (t + 1)) := rfl
    try dsimp only at hw
    rw [e] at hw
    unfold wX_longest_33
    refine br_f (nI_nlt (a := 12) (by omega) (by decide)) (hx_agS HB hn (by omega) hr hs (pk_le ((t + 1) - hr_af (hr_B bits r) (hr_B bits s) (t + 1)) (hr_mx (fun t => (t + 1) - hr_af (hr_B bits r) (hr_B bits s) (t + 1)) t) (fun hl => ?_) (fun hl => ?_) (pk_sub l1) rfl))
    · rw [Nat.max_eq_left hl] at hw
      exact nm_r (nI_1 (t + 1)) hw
    · rw [Nat.max_eq_right (by omega)] at hw
      exact nm_r (pk_sub l1) (nm_r (nI_1 (t + 1)) hw)
/-! winning -/
theorem hx_wb23 {post : Int32 → Prop} (HB : hr_Bt n bits od bg) (hn : n ≤ 8) {c r v : Nat} (hc : c ≤ 12) (hr : r < n) (hv : v ≤ 12)
    (h : post (nI (hr_sm (fun s => hr_q ((s ≠ r ∧ hr_af (hr_B bits r) (hr_B bits s) c = v) ∧ ¬ ∃ t, t < n ∧ (t ≠ r ∧ hr_af (hr_B bits r) (hr_B bits t) c = v) ∧ ¬ hr_pt (hr_B bits) r t c)) n))) : ∃ w, wX_winsBefore_23 post (nI r) (nI c) (nI v) (nI n) fb bits od bg on ob w 0 0 0 := by
  generalize eF : (fun s => hr_q (s ≠ r ∧ hr_af (hr_B bits r) (hr_B bits s) c = v)) = F
  generalize eO : (fun i => ∃ t, t < i ∧ (t ≠ r ∧ hr_af (hr_B bits r) (hr_B bits t) c = v) ∧ ¬ hr_pt (hr_B bits) r t c) = O
  have fF : ∀ s, F s = hr_q (s ≠ r ∧ hr_af (hr_B bits r) (hr_B bits s) c = v) := fun s => by rw [← eF]
  have fO : ∀ i, O i = ∃ t, t < i ∧ (t ≠ r ∧ hr_af (hr_B bits r) (hr_B bits t) c = v) ∧ ¬ hr_pt (hr_B bits) r t c := fun i => by rw [← eO]
  have sO : ∀ i, ¬ ((i ≠ r ∧ hr_af (hr_B bits r) (hr_B bits i) c = v) ∧ ¬ hr_pt (hr_B bits) r i c) → (O (i + 1) ↔ O i) := by
    intro i hi
    rw [fO, fO]
    constructor
    · rintro ⟨t, h1, h2⟩
      by_cases e : t = i
      · subst e
        exact absurd h2 hi
      · exact ⟨t, by omega, h2⟩
    · rintro ⟨t, h1, h2⟩
      exact ⟨t, by omega, h2⟩
  have K := hr_lpE (fun w i => wX_winsBefore_23 post (nI r) (nI c) (nI v) (nI n) fb bits od bg on ob w (nI (hr_sm F i)) (nI (hr_q (O i))) (nI i)) n 0 (Nat.zero_le _) ?_ ?_
  · obtain ⟨w, hw⟩ := K
    try dsimp only at hw
    rw [hr_q_f (P := O 0) (by rw [fO]; rintro ⟨t, h1, h2⟩; exact absurd h1 (Nat.not_lt_zero t))] at hw
    exact ⟨w, hw⟩
  · intro w
    unfold wX_winsBefore_23
    refine br_t (nI_le (Nat.le_refl _) (by omega)) ?_
    by_cases ho : O n
    · rw [hr_q_t ho]
      refine br_f (by decide) ?_
      rw [hr_sm_0 (fun s _ => hr_q_f (fun z => z.2 (by rw [← fO]; exact ho)))] at h
      exact h
    · rw [hr_q_f ho]
      refine br_t rfl ?_
      have e : hr_sm F n = hr_sm (fun s => hr_q ((s ≠ r ∧ hr_af (hr_B bits r) (hr_B bits s) c = v) ∧ ¬ ∃ t, t < n ∧ (t ≠ r ∧ hr_af (hr_B bits r) (hr_B bits t) c = v) ∧ ¬ hr_pt (hr_B bits) r t c)) n := by
        refine hr_sm_cg (fun s _ => ?_)
        rw [fF]
        exact hr_q_i ⟨fun z => ⟨z, by rw [← fO]; exact ho⟩, fun z => z.1⟩
      rw [e]
      exact h
  · intro w i _ hi hw
    have la := hr_af_le (hr_B bits r) (hr_B bits i) c
    have eS : hr_sm F (i + 1) = hr_sm F i + F i := rfl
    try dsimp only at hw
    rw [eS, fF] at hw
    unfold wX_winsBefore_23
    refine br_f (nI_ge hi (by omega)) (pk_eq i r (fun e => ?_) (fun e => ?_))
    · rw [hr_q_f (fun z => z.1 e), Nat.add_zero, hr_q_i (sO i (fun z => z.1.1 e))] at hw
      exact nm_r (nI_1 i) hw
    · refine hx_agS HB hn hc hr hi (pk_eq (hr_af (hr_B bits r) (hr_B bits i) c) v (fun e2 => ?_) (fun e2 => ?_))
      · rw [hr_q_t ⟨e, e2⟩] at hw
        refine nm_r (nI_1 _) (hx_parts (by omega) (by omega) hc (fun hp => ?_) (fun hp => ?_))
        · rw [hr_q_i (sO i (fun z => z.2 hp))] at hw
          by_cases ho : O i
          · rw [hr_q_t ho] at hw ⊢
            exact br_f (by decide) (nm_r (nI_1 i) hw)
          · rw [hr_q_f ho] at hw ⊢
            exact br_t rfl (br_f (by decide) (nm_r (nI_1 i) hw))
        · rw [hr_q_t (P := O (i + 1)) (by rw [fO]; exact ⟨i, Nat.lt_succ_self i, ⟨e, e2⟩, hp⟩)] at hw
          by_cases ho : O i
          · rw [hr_q_t ho]
            exact br_f (by decide) (nm_r (nI_1 i) hw)
          · rw [hr_q_f ho]
            exact br_t rfl (br_t rfl (nm_r (nI_1 i) hw))
      · rw [hr_q_f (fun z => e2 z.2), Nat.add_zero, hr_q_i (sO i (fun z => e2 z.1.2))] at hw
        exact nm_r (nI_1 i) hw
end
/-- row s wins with row r before column c -/
def hr_W (B : Nat → Nat → Bool) (n r c s : Nat) : Prop := hr_mn B r c n < c ∧ (s ≠ r ∧ hr_af (B r) (B s) c = hr_mn B r c n) ∧ ¬ ∃ t, t < n ∧ (t ≠ r ∧ hr_af (B r) (B t) c = hr_mn B r c n) ∧ ¬ hr_pt B r t c
noncomputable def hr_xw (B : Nat → Nat → Bool) (n r c : Nat) : Nat := hr_sm (fun s => hr_q (hr_W B n r c s)) n
/-- the longest stretch over column col that ends before column t + 1 -/
def hr_xcf (B : Nat → Nat → Bool) (n r col t : Nat) : Nat := if col ≤ t ∧ hr_mn B r (t + 1) n ≤ col then (t + 1) - hr_mn B r (t + 1) n else 0
def hr_xc (B : Nat → Nat → Bool) (n r col : Nat) : Nat := hr_mx (hr_xcf B n r col) 12
theorem hr_xcf_le (B : Nat → Nat → Bool) (n r col t : Nat) (ht : t < 12) : hr_xcf B n r col t ≤ 12 := by
  unfold hr_xcf
  split
  · omega
  · omega
section
variable {n : Nat} {fb : Int32} {bits od bg on ob : Nat → Int32}
theorem hx_wins {post : Int32 → Prop} (HB : hr_Bt n bits od bg) (hn : n ≤ 8) {c r : Nat} (hc : c ≤ 12) (hr : r < n) (h : post (nI (hr_xw (hr_B bits) n r c))) : wpX_winsBefore post (nI n, fb, bits, od, bg, on, ob) (nI r) (nI c) := by
  have lm := hr_mn_le (hr_B bits) r c n
  unfold wpX_winsBefore
  dsimp only
  refine hx_bestSince HB hn hc hr (pk_eq (hr_mn (hr_B bits) r c n) c (fun e => ?_) (fun e => ?_))
  · unfold hr_xw at h
    rw [hr_sm_0 (fun s _ => hr_q_f (fun z => by have := z.1; omega))] at h
    exact h
  · refine hx_wb23 HB hn hc hr (by omega) ?_
    have e2 : hr_xw (hr_B bits) n r c = hr_sm (fun s => hr_q ((s ≠ r ∧ hr_af (hr_B bits r) (hr_B bits s) c = hr_mn (hr_B bits) r c n) ∧ ¬ ∃ t, t < n ∧ (t ≠ r ∧ hr_af (hr_B bits r) (hr_B bits t) c = hr_mn (hr_B bits) r c n) ∧ ¬ hr_pt (hr_B bits) r t c)) n :=
      hr_sm_cg (fun s _ => hr_q_i ⟨fun z => z.2, fun z => ⟨by omega, z⟩⟩)
    rw [e2] at h
    exact h
theorem hx_winning {post : Int32 → SX → Prop} (HB : hr_Bt n bits od bg) (hn : n ≤ 8) {r : Nat} (hr : r < n) (h : post (nI (hr_sm (fun t => hr_xw (hr_B bits) n r (t + 1)) 12)) (nI n, fb, bits, od, bg, on, ob)) : ∃ w, wX_winning_19 post (nI r) (nI n) fb bits od bg on ob w 0 1 := by
  have K := hr_lpE (fun w t => wX_winning_19 post (nI r) (nI n) fb bits od bg on ob w (nI (hr_sm (fun t => hr_xw (hr_B bits) n r (t + 1)) t)) (nI (t + 1))) 12 0 (Nat.zero_le _) ?_ ?_
  · exact K
  · intro w
    unfold wX_winning_19
    exact br_t (by decide) h
  · intro w t _ ht hw
    unfold wX_winning_19
    exact br_f (nI_nlt (a := 12) (by omega) (by decide)) (hx_wins HB hn (by omega) hr (nm_r (nI_add _ _) (nm_r (nI_1 (t + 1)) hw)))
/-! cover -/
theorem hx_cv64 {post : Int32 → SX → Prop} {J19 J33 : Int32 → Int32 → Prop} {x1 x2 x3 : Int32} {a t z : Nat} (ha : a ≤ 12) (hz : z ≤ 12) (h : J33 (nI (max a z)) (nI (t + 1))) : wX_cover_64 post J19 J33 x1 x2 x3 (nI a) (nI t) (nI z) (nI n) fb bits od bg on ob := by
  unfold wX_cover_64
  refine pk_le z a (fun hl => ?_) (fun hl => ?_)
  · rw [Nat.max_eq_left hl] at h
    exact nm_r (nI_1 t) h
  · rw [Nat.max_eq_right (by omega)] at h
    exact nm_r (nI_1 t) h
theorem hx_cv33 {post : Int32 → SX → Prop} {J19 : Int32 → Int32 → Prop} (HB : hr_Bt n bits od bg) (hn : n ≤ 8) {r col X : Nat} (hr : r < n) (hcol : col < 12) (h : J19 (nI (X + hr_xc (hr_B bits) n r col)) (nI (col + 1))) : ∃ w, wX_cover_33 post J19 (nI r) (nI X) (nI col) (nI n) fb bits od bg on ob w 0 (nI (col + 1)) := by
  have K := hr_lpE (fun w t => wX_cover_33 post J19 (nI r) (nI X) (nI col) (nI n) fb bits od bg on ob w (nI (hr_mx (hr_xcf (hr_B bits) n r col) t)) (nI (t + 1))) 12 col (by omega) ?_ ?_
  · obtain ⟨w, hw⟩ := K
    try dsimp only at hw
    have e : hr_mx (hr_xcf (hr_B bits) n r col) col = 0 := Nat.le_zero.mp (hr_mx_le (fun i hi => by
      unfold hr_xcf
      rw [if_neg (by omega)]
      exact Nat.le_refl 0))
    rw [e] at hw
    exact ⟨w, hw⟩
  · intro w
    unfold wX_cover_33
    exact br_t (by decide) (nm_r (nI_add _ _) (nm_r (nI_1 col) h))
  · intro w t h1 ht hw
    have lm := hr_mn_le (hr_B bits) r (t + 1) n
    have l2 : hr_mx (hr_xcf (hr_B bits) n r col) t ≤ 12 := hr_mx_le (fun i hi => hr_xcf_le _ _ _ _ _ (by omega))
    have e : hr_mx (hr_xcf (hr_B bits) n r col) (t + 1) = max (hr_mx (hr_xcf (hr_B bits) n r col) t) (hr_xcf (hr_B bits) n r col t) := rfl
    try dsimp only at hw
    rw [e] at hw
    unfold wX_cover_33
    refine br_f (nI_nlt (a := 12) (by omega) (by decide)) (hx_bestSince HB hn (by omega) hr (pk_lt col (hr_mn (hr_B bits) r (t + 1) n) (fun hl => ?_) (fun hl => ?_)))
    · have e2 : hr_xcf (hr_B bits) n r col t = 0 := if_neg (by omega)
      rw [e2] at hw
      exact hx_cv64 (z := 0) l2 (Nat.zero_le _) hw
    · have e2 : hr_xcf (hr_B bits) n r col t = (t + 1) - hr_mn (hr_B bits) r (t + 1) n := if_pos ⟨h1, hl⟩
      rw [e2] at hw
      rw [pk_sub lm]
      exact hx_cv64 l2 (by omega) hw
theorem hx_cover {post : Int32 → SX → Prop} (HB : hr_Bt n bits od bg) (hn : n ≤ 8) {r : Nat} (hr : r < n) (h : post (nI (hr_sm (hr_xc (hr_B bits) n r) 12)) (nI n, fb, bits, od, bg, on, ob)) : ∃ w, wX_cover_19 post (nI r) (nI n) fb bits od bg on ob w 0 0 := by
  have K := hr_lpE (fun w t => wX_cover_19 post (nI r) (nI n) fb bits od bg on ob w (nI (hr_sm (hr_xc (hr_B bits) n r) t)) (nI t)) 12 0 (Nat.zero_le _) ?_ ?_
  · exact K
  · intro w
    unfold wX_cover_19
    exact br_t (by decide) h
  · intro w t _ ht hw
    unfold wX_cover_19
    exact br_f (nI_ge (b := 12) ht (by decide)) (nm_r (nI_1 t) (hx_cv33 HB hn hr ht hw))
/-! kinds -/
theorem hx_kinds {post : Int32 → SX → Prop} (HB : hr_Bt n bits od bg) (hn : n ≤ 8) {a b : Nat} (ha : a ≤ b) (hb : b < 12) (h : post (nI (hr_sm (fun i => hr_q (i = 0 ∨ a < hr_b (hr_B bits) n (b + 1) i)) n)) (nI n, fb, bits, od, bg, on, ob)) : ∃ w, wX_kinds_26 post (nI a) (nI b) (nI n) fb bits od bg on ob w 0 0 := by
  generalize eF : (fun i => hr_q (i = 0 ∨ a < hr_b (hr_B bits) n (b + 1) i)) = F at h
  have fF : ∀ i, F i = hr_q (i = 0 ∨ a < hr_b (hr_B bits) n (b + 1) i) := fun s => by rw [← eF]
  have K := hr_lpE (fun w i => wX_kinds_26 post (nI a) (nI b) (nI n) fb bits od bg on ob w (nI (hr_sm F i)) (nI i)) n 0 (Nat.zero_le _) ?_ ?_
  · exact K
  · intro w
    unfold wX_kinds_26
    exact br_t (nI_le (Nat.le_refl _) (by omega)) h
  · intro w i _ hi hw
    have eS : hr_sm F (i + 1) = hr_sm F i + F i := rfl
    have lb := hr_b_le (hr_B bits) n (b + 1) i
    try dsimp only at hw
    rw [eS, fF] at hw
    unfold wX_kinds_26
    refine br_f (nI_ge hi (by omega)) (pk_eq i 0 (fun e => ?_) (fun e => ?_))
    · rw [hr_q_t (Or.inl e)] at hw
      exact nm_r (nI_1 _) (nm_r (nI_1 i) hw)
    · rw [nI_1 b]
      refine ⟨hr_ixin (by omega) (by omega), ?_⟩
      rw [hx_bg HB hn (by omega : b + 1 ≤ 12) hi]
      refine pk_le (hr_b (hr_B bits) n (b + 1) i) a (fun hl => ?_) (fun hl => ?_)
      · rw [hr_q_f (fun z => by omega), Nat.add_zero] at hw
        exact nm_r (nI_1 i) hw
      · rw [hr_q_t (Or.inr hl)] at hw
        exact nm_r (nI_1 _) (nm_r (nI_1 i) hw)
end
end
section
/-! X: having and fit -/
theorem hr_cb_af (f g : Nat → Bool) (c : Nat) : hr_cb false f g c = true ↔ 0 < hr_af f g c ∧ f (hr_af f g c - 1) = false := by
  induction c with
  | zero => exact ⟨fun h => absurd (show false = true from h) (by decide), fun h => absurd h.1 (Nat.lt_irrefl 0)⟩
  | succ c ih =>
    by_cases e : f c = g c
    · rw [hr_cb_s e, hr_af_s e]
      exact ih
    · rw [hr_cb_d e, hr_af_d e, Nat.add_sub_cancel]
      cases f c <;> simp
def hr_pc (p : Nat → Bool) : Nat → Nat
  | 0 => 0
  | i + 1 => if p i = true then i + 1 else hr_pc p i
theorem hr_pc_le (p : Nat → Bool) (i : Nat) : hr_pc p i ≤ i := by
  induction i with
  | zero => exact Nat.le_refl 0
  | succ i ih =>
    show (if p i = true then i + 1 else hr_pc p i) ≤ i + 1
    split <;> omega
theorem hr_pc_at (p : Nat → Bool) (i : Nat) : hr_pc p i = 0 ∨ ∃ t, hr_pc p i = t + 1 ∧ p t = true := by
  induction i with
  | zero => exact Or.inl rfl
  | succ i ih =>
    have e : hr_pc p (i + 1) = if p i = true then i + 1 else hr_pc p i := rfl
    by_cases h : p i = true
    · rw [if_pos h] at e
      exact Or.inr ⟨i, e, h⟩
    · rw [if_neg h] at e
      rw [e]
      exact ih
theorem hr_pc_gt (p : Nat → Bool) (i k : Nat) (h1 : hr_pc p i ≤ k) (h2 : k < i) : ¬ p k = true := by
  induction i with
  | zero => omega
  | succ i ih =>
    have e : hr_pc p (i + 1) = if p i = true then i + 1 else hr_pc p i := rfl
    by_cases h : p i = true
    · rw [if_pos h] at e
      omega
    · rw [if_neg h] at e
      by_cases e2 : k = i
      · rw [e2]; exact h
      · exact ih (by omega) (by omega)
def hr_fp (B : Nat → Nat → Bool) (n c : Nat) (Q : Nat → Bool) : Nat := hr_pc (fun i => hr_cb false (B (hr_o B n c i)) Q c) n
def hr_xf (B : Nat → Nat → Bool) (n c : Nat) (Q : Nat → Bool) : Nat := max (if hr_fp B n c Q = 0 then 0 else c - hr_af (B (hr_o B n c (hr_fp B n c Q - 1))) Q c) (if hr_fp B n c Q < n then c - hr_af (B (hr_o B n c (hr_fp B n c Q))) Q c else 0)
section
variable {n : Nat} {fb : Int32} {bits od bg on ob : Nat → Int32}
theorem hx_h149_0 {post : Int32 → SX → Prop} {J66 : Int32 → Int32 → Int32 → Prop} {x1 x3 x4 x5 : Int32} {X i : Nat} (h : J66 (nI X) 0 (nI (i + 1))) : wX_having_149 post J66 x1 x3 x4 x5 (nI X) 0 (nI i) (nI n) fb bits od bg on ob := by
  unfold wX_having_149
  exact br_t rfl (nm_r (nI_1 i) h)
theorem hx_h149_1 {post : Int32 → SX → Prop} {J66 : Int32 → Int32 → Int32 → Prop} {x1 x3 x4 x5 : Int32} {X i : Nat} (h : J66 (nI (X + 1)) 1 (nI (i + 1))) : wX_having_149 post J66 x1 x3 x4 x5 (nI X) 1 (nI i) (nI n) fb bits od bg on ob := by
  unfold wX_having_149
  exact br_f (by decide) (nm_r (nI_1 X) (nm_r (nI_1 i) h))
theorem hx_having {post : Int32 → SX → Prop} (HB : hr_Bt n bits od bg) (hn : n ≤ 8) {a c : Nat} {st mk : Int32} (hc : c ≤ 12) (ha : a ≤ 12) (M : Nat → Prop) (eM : ∀ r, ((bits r >>> (nI a &&& 31)) &&& mk) = (st &&& mk) ↔ M r) (hM : ∀ r s, M r → (M s ↔ hr_af (hr_B bits r) (hr_B bits s) c ≤ a))
    (h : post (nI (hr_sm (fun i => hr_q (M (hr_o (hr_B bits) n c i))) n)) (nI n, fb, bits, od, bg, on, ob)) : ∃ w, wX_having_66 post (nI a) st mk (nI c) (nI n) fb bits od bg on ob w 0 0 0 := by
  generalize eF : (fun i => hr_q (M (hr_o (hr_B bits) n c i))) = F at h
  have fF : ∀ i, F i = hr_q (M (hr_o (hr_B bits) n c i)) := fun s => by rw [← eF]
  generalize eI : (fun i => ∃ k, i = k + 1 ∧ M (hr_o (hr_B bits) n c k)) = I
  have fI : ∀ i, I i = ∃ k, i = k + 1 ∧ M (hr_o (hr_B bits) n c k) := fun s => by rw [← eI]
  have sI : ∀ i, I (i + 1) ↔ M (hr_o (hr_B bits) n c i) := by
    intro i
    rw [fI]
    constructor
    · rintro ⟨k, h1, h2⟩
      have e : k = i := by omega
      rw [← e]
      exact h2
    · intro h1
      exact ⟨i, rfl, h1⟩
  have lF : ∀ i, hr_sm F i ≤ i := fun i => hr_sm_le1 (fun k => by rw [fF]; exact hr_q_le _) i
  have K := hr_lpE (fun w i => wX_having_66 post (nI a) st mk (nI c) (nI n) fb bits od bg on ob w (nI (hr_sm F i)) (nI (hr_q (I i))) (nI i)) n 0 (Nat.zero_le _) ?_ ?_
  · obtain ⟨w, hw⟩ := K
    try dsimp only at hw
    rw [hr_q_f (P := I 0) (by rw [fI]; rintro ⟨k, h1, h2⟩; omega)] at hw
    exact ⟨w, hw⟩
  · intro w
    unfold wX_having_66
    exact br_t (nI_le (Nat.le_refl _) (by omega)) h
  · intro w i _ hi hw
    have eS : hr_sm F (i + 1) = hr_sm F i + F i := rfl
    have lf := lF i
    have lb := hr_b_le (hr_B bits) n c i
    have lo := hr_o_lt (hr_B bits) (c := c) hi
    try dsimp only at hw
    rw [eS, fF, hr_q_i (sI i)] at hw
    unfold wX_having_66
    refine br_f (nI_ge hi (by omega)) ?_
    by_cases hin : I i
    · rw [hr_q_t hin]
      refine br_f (by decide) ⟨hr_ixin hc (by omega), ?_⟩
      rw [hx_bg HB hn hc hi]
      have hk : M (hr_o (hr_B bits) n c i) ↔ hr_b (hr_B bits) n c i ≤ a := by
        rw [fI] at hin
        obtain ⟨t, rfl, ht⟩ := hin
        rw [hr_b_s]
        exact hM _ _ ht
      refine pk_lt a (hr_b (hr_B bits) n c i) (fun hl => ?_) (fun hl => ?_)
      · rw [hr_q_f (fun z => by have := hk.mp z; omega), Nat.add_zero] at hw
        unfold wX_having_102
        exact hx_h149_0 hw
      · rw [hr_q_t (hk.mpr hl)] at hw
        unfold wX_having_102
        exact hx_h149_1 hw
    · rw [hr_q_f hin]
      refine br_t rfl (pk_eq (hr_sm F i) 0 (fun e => ?_) (fun e => ?_))
      · refine ⟨hr_ixin hc (by omega), ?_⟩
        rw [hx_od HB hn hc hi]
        refine ⟨vp_in_nI (by omega) (by omega), ?_⟩
        rw [hr_cl (by omega)]
        refine br_c (fun z => ?_) (fun z => ?_)
        · rw [hr_q_t ((eM _).mp z)] at hw
          unfold wX_having_147
          exact hx_h149_1 hw
        · rw [hr_q_f (fun y => z ((eM _).mpr y)), Nat.add_zero] at hw
          unfold wX_having_147
          exact hx_h149_0 hw
      · have hnm : ¬ M (hr_o (hr_B bits) n c i) := by
          intro hm
          apply e
          refine hr_sm_0 (fun k hk => ?_)
          rw [fF]
          refine hr_q_f (fun hmk => hin ?_)
          obtain ⟨t, rfl⟩ : ∃ t, i = t + 1 := ⟨i - 1, by omega⟩
          rw [sI]
          refine (hM _ _ hmk).mpr ?_
          have h1 := (hM _ _ hmk).mp hm
          rw [hr_o3 (hr_B bits) (i := k) (j := t) (k := t + 1) (by omega) (by omega) hi] at h1
          exact Nat.le_trans (Nat.le_max_left _ _) h1
        rw [hr_q_f hnm, Nat.add_zero] at hw
        exact hx_h149_0 hw
/-! fit -/
theorem hx_sameBack {post : Int32 → Prop} {r c : Nat} {q : Int32} (hr : r < 8) (hc : c ≤ 12) (h : post (nI (c - hr_af (hr_B bits r) (bt q) c))) : wpX_sameBack post (nI n, fb, bits, od, bg, on, ob) (nI r) q (nI c) := by
  have K : ∀ d w, d < w → d ≤ c → post (nI (c - hr_af (hr_B bits r) (bt q) d)) → wX_sameBack_8 post (nI r) q (nI n) fb bits od bg on ob w (nI (c - d)) (nI d - 1) := by
    intro d
    induction d with
    | zero =>
      intro w hw hd h
      obtain ⟨w, rfl⟩ : ∃ v, w = v + 1 := ⟨w - 1, by omega⟩
      unfold wX_sameBack_8
      exact br_t (by decide) h
    | succ d ih =>
      intro w hw hd h
      obtain ⟨w, rfl⟩ : ∃ v, w = v + 1 := ⟨w - 1, by omega⟩
      rw [nI_pred d]
      unfold wX_sameBack_8
      refine br_f (nI_pos (by omega)) (hx_at hr (by omega) ?_)
      rw [hr_bit q (by omega)]
      refine br_c (fun e => ?_) (fun e => ?_)
      · rw [hr_bIe] at e
        rw [hr_af_s e] at h
        refine nm_r (e' := nI (c - d)) (by rw [nI_1]; exact congrArg nI (by omega)) (nm_r (e' := nI d - 1) (Int32.sub_eq_add_neg (nI d) 1).symm ?_)
        exact ih w (by omega) (by omega) h
      · rw [hr_bIe] at e
        rw [hr_af_d e] at h
        exact h
  unfold wpX_sameBack
  dsimp only
  have K2 := K c (c + 1) (Nat.lt_succ_self c) (Nat.le_refl c) h
  rw [Nat.sub_self] at K2
  exact nm_e ⟨c + 1, K2⟩
theorem hx_isBefore {post : Int32 → Prop} {r c : Nat} {q : Int32} (hr : r < 8) (hc : c ≤ 12) (h1 : hr_cb false (hr_B bits r) (bt q) c = true → post 1) (h0 : ¬ hr_cb false (hr_B bits r) (bt q) c = true → post 0) : wpX_isBefore post (nI n, fb, bits, od, bg, on, ob) (nI r) q (nI c) := by
  have la := hr_af_le (hr_B bits r) (bt q) c
  rw [hr_cb_af] at h1 h0
  unfold wpX_isBefore
  dsimp only
  refine hx_sameBack hr hc (pk_le c (c - hr_af (hr_B bits r) (bt q) c) (fun hl => h0 (fun z => by omega)) (fun hl => ?_))
  have e : (nI c - 1) - nI (c - hr_af (hr_B bits r) (bt q) c) = nI (hr_af (hr_B bits r) (bt q) c - 1) := by
    rw [show (1 : Int32) = nI 1 from rfl, pk_sub (by omega), pk_sub (by omega)]
    exact congrArg nI (by omega)
  rw [e]
  refine hx_at hr (by omega) (br_c (fun z => h1 ⟨by omega, (hr_bI0 _).mp z⟩) (fun z => h0 (fun y => z ((hr_bI0 _).mpr y.2))))
theorem hx_fit139 {post : Int32 → SX → Prop} {a b : Nat} (ha : a ≤ 12) (hb : b ≤ 12) (h : post (nI (max a b)) (nI n, fb, bits, od, bg, on, ob)) : wX_fit_139 post (nI a) (nI b) (nI n) fb bits od bg on ob := by
  unfold wX_fit_139
  refine pk_le a b (fun hl => ?_) (fun hl => ?_)
  · rw [Nat.max_eq_right hl] at h
    exact h
  · rw [Nat.max_eq_left (by omega)] at h
    exact h
theorem hx_fit108 {post : Int32 → SX → Prop} (HB : hr_Bt n bits od bg) (hn : n ≤ 8) {c P z : Nat} {q : Int32} (hc : c ≤ 12) (hP : P ≤ n) (hz : z ≤ 12) (h : post (nI (max z (if P < n then c - hr_af (hr_B bits (hr_o (hr_B bits) n c P)) (bt q) c else 0))) (nI n, fb, bits, od, bg, on, ob)) : wX_fit_108 post (nI c) q (nI P) (nI z) (nI n) fb bits od bg on ob := by
  unfold wX_fit_108
  refine pk_le n P (fun hl => ?_) (fun hl => ?_)
  · rw [if_neg (by omega)] at h
    exact hx_fit139 (b := 0) hz (Nat.zero_le _) h
  · rw [if_pos hl] at h
    refine ⟨hr_ixin hc (by omega), ?_⟩
    rw [hx_od HB hn hc hl]
    have lo := hr_o_lt (hr_B bits) (c := c) hl
    exact hx_sameBack (by omega) hc (hx_fit139 hz (by omega) h)
theorem hx_fit {post : Int32 → SX → Prop} (HB : hr_Bt n bits od bg) (hn : n ≤ 8) {c : Nat} {q : Int32} (hc : c ≤ 12) (h : post (nI (hr_xf (hr_B bits) n c (bt q))) (nI n, fb, bits, od, bg, on, ob)) : ∃ w, wX_fit_32 post (nI c) q (nI n) fb bits od bg on ob w 0 0 := by
  have K := hr_lpE (fun w i => wX_fit_32 post (nI c) q (nI n) fb bits od bg on ob w (nI (hr_pc (fun i => hr_cb false (hr_B bits (hr_o (hr_B bits) n c i)) (bt q) c) i)) (nI i)) n 0 (Nat.zero_le _) ?_ ?_
  · exact K
  · intro w
    have lp : hr_fp (hr_B bits) n c (bt q) ≤ n := hr_pc_le _ n
    show wX_fit_32 post (nI c) q (nI n) fb bits od bg on ob (w + 1) (nI (hr_fp (hr_B bits) n c (bt q))) (nI n)
    unfold hr_xf at h
    generalize hr_fp (hr_B bits) n c (bt q) = P at h lp
    unfold wX_fit_32
    refine br_t (nI_le (Nat.le_refl _) (by omega)) (pk_le P 0 (fun hl => ?_) (fun hl => ?_))
    · rw [if_pos (by omega)] at h
      exact hx_fit108 (z := 0) HB hn hc lp (Nat.zero_le _) h
    · rw [if_neg (by omega)] at h
      obtain ⟨t, rfl⟩ : ∃ t, P = t + 1 := ⟨P - 1, by omega⟩
      rw [Nat.add_sub_cancel] at h
      have e : ((8 : Int32) * nI c + nI (t + 1)) - 1 = (8 : Int32) * nI c + nI t := by
        rw [hr_ix, hr_ix]
        exact nI_pred (8 * c + t)
      have lo := hr_o_lt (hr_B bits) (c := c) (by omega : t < n)
      rw [e]
      refine ⟨hr_ixin hc (by omega), ?_⟩
      rw [hx_od HB hn hc (by omega : t < n)]
      exact hx_sameBack (by omega) hc (hx_fit108 HB hn hc lp (by omega) h)
  · intro w i _ hi hw
    have lo := hr_o_lt (hr_B bits) (c := c) hi
    have e : hr_pc (fun i => hr_cb false (hr_B bits (hr_o (hr_B bits) n c i)) (bt q) c) (i + 1) = if hr_cb false (hr_B bits (hr_o (hr_B bits) n c i)) (bt q) c = true then i + 1 else hr_pc (fun i => hr_cb false (hr_B bits (hr_o (hr_B bits) n c i)) (bt q) c) i := rfl
    try dsimp only at hw
    rw [e] at hw
    unfold wX_fit_32
    refine br_f (nI_ge hi (by omega)) ⟨hr_ixin hc (by omega), ?_⟩
    rw [hx_od HB hn hc hi]
    refine hx_isBefore (by omega) hc (fun z => ?_) (fun z => ?_)
    · rw [if_pos z] at hw
      exact br_f (by decide) (nm_r (nI_1 i) (nm_r (nI_1 i) hw))
    · rw [if_neg z] at hw
      exact br_t rfl (nm_r (nI_1 i) hw)
end
end
section
/-! Y: what the reference's methods answer -/
theorem hr_len {a b m : Nat} (ha : a < 12) (hb : b < 12) (hm : m ≤ 12) : (nI b - nI a) + 1 < nI m ↔ b + 1 < m + a := by
  have e : (nI b - nI a) + 1 = nI (b + 1) - nI a := by
    rw [← nI_1, Int32.sub_eq_add_neg, Int32.sub_eq_add_neg, Int32.add_assoc, Int32.add_comm (-nI a) 1, ← Int32.add_assoc]
  rw [e, Int32.lt_iff_toInt_lt, pk_sub_toInt (by omega) (by omega), nI_toInt (by omega)]
  omega
/-- the place of row r in the order for column c, as the reference counts it -/
noncomputable def hr_pl (B : Nat → Nat → Bool) (n c r : Nat) : Nat := hr_sm (fun s => hr_q (s ≠ r ∧ hr_cb (decide (s < r)) (B s) (B r) c = true)) n
theorem hr_sm_lt (i n : Nat) (h : i ≤ n) : hr_sm (fun k => if k < i then 1 else 0) n = i := by
  rw [hr_sm_ext h (fun k h1 _ => if_neg (by omega))]
  have K : ∀ j, j ≤ i → hr_sm (fun k => if k < i then 1 else 0) j = j := by
    intro j
    induction j with
    | zero => intro _; rfl
    | succ j ih =>
      intro hj
      show hr_sm (fun k => if k < i then 1 else 0) j + (if j < i then 1 else 0) = j + 1
      rw [ih (by omega), if_pos (by omega)]
  exact K i (Nat.le_refl i)
theorem hr_pl_o (B : Nat → Nat → Bool) {n c i : Nat} (hi : i < n) : hr_pl B n c (hr_o B n c i) = i := by
  unfold hr_pl
  rw [← hr_sm_o B n c (fun s => hr_q (s ≠ hr_o B n c i ∧ hr_cb (decide (s < hr_o B n c i)) (B s) (B (hr_o B n c i)) c = true))]
  refine Eq.trans (hr_sm_cg (fun k hk => ?_)) (hr_sm_lt i n (by omega))
  show hr_q (hr_o B n c k ≠ hr_o B n c i ∧ hr_cb (decide (hr_o B n c k < hr_o B n c i)) (B (hr_o B n c k)) (B (hr_o B n c i)) c = true) = if k < i then 1 else 0
  rcases Nat.lt_trichotomy k i with h | h | h
  · rw [if_pos h, hr_q_t ⟨hr_o_ne B h hi, hr_o_srt B h hi⟩]
  · rw [if_neg (by omega)]
    exact hr_q_f (fun z => z.1 (by rw [h]))
  · rw [if_neg (by omega)]
    refine hr_q_f (fun z => ?_)
    have h1 := hr_o_srt B (c := c) h hk
    have h2 := z.2
    rw [hr_cb_neg] at h2
    have h3 : (!decide (hr_o B n c k < hr_o B n c i)) = decide (hr_o B n c i < hr_o B n c k) := by
      have h4 := z.1
      rcases Nat.lt_or_ge (hr_o B n c k) (hr_o B n c i) with h5 | h5
      · rw [decide_eq_true h5, decide_eq_false (by omega)]; rfl
      · rw [decide_eq_false (by omega), decide_eq_true (by omega)]; rfl
    rw [h3, h1] at h2
    exact absurd h2 (by decide)
section
variable {n : Nat} {bits : Nat → Int32}
theorem hy_differ {post : Int32 → Prop} {r s c : Nat} (hr : r < 8) (hs : s < 8) (hc : c < 32) (h1 : ¬ hr_B bits r c = hr_B bits s c → post 1) (h0 : hr_B bits r c = hr_B bits s c → post 0) : wpY_differ post (nI n, bits) (nI r) (nI s) (nI c) := by
  unfold wpY_differ
  dsimp only
  refine ⟨vp_in_nI hr (by omega), vp_in_nI hs (by omega), ?_⟩
  rw [hr_cl hr, hr_cl hs]
  exact br_c (fun z => h1 ((hr_dif _ _ hc).mp z)) (fun z => h0 (Classical.byContradiction (fun y => z ((hr_dif _ _ hc).mpr y))))
theorem hy_cmB {post : Int32 → Prop} {r s c : Nat} (hr : r < 8) (hs : s < 8) (hc : c ≤ 12) (h1 : hr_cb (decide (r < s)) (hr_B bits r) (hr_B bits s) c = true → post 1) (h0 : ¬ hr_cb (decide (r < s)) (hr_B bits r) (hr_B bits s) c = true → post 0) : wpY_comesBefore post (nI n, bits) (nI r) (nI s) (nI c) := by
  have K : ∀ d w, d < w → d ≤ 12 → (hr_cb (decide (r < s)) (hr_B bits r) (hr_B bits s) d = true → post 1) → (¬ hr_cb (decide (r < s)) (hr_B bits r) (hr_B bits s) d = true → post 0) → wY_comesBefore_5 post (nI r) (nI s) (nI n) bits w (nI d - 1) := by
    intro d
    induction d with
    | zero =>
      intro w hw hd h1 h0
      obtain ⟨w, rfl⟩ : ∃ v, w = v + 1 := ⟨w - 1, by omega⟩
      unfold wY_comesBefore_5
      refine br_t (by decide) (pk_le s r (fun hl => h0 ?_) (fun hl => h1 ?_))
      · show ¬ decide (r < s) = true
        rw [decide_eq_true_eq]
        omega
      · show decide (r < s) = true
        rw [decide_eq_true_eq]
        exact hl
    | succ d ih =>
      intro w hw hd h1 h0
      obtain ⟨w, rfl⟩ : ∃ v, w = v + 1 := ⟨w - 1, by omega⟩
      rw [nI_pred d]
      unfold wY_comesBefore_5
      refine br_f (nI_pos (by omega)) (hy_differ hr hs (by omega) (fun ne => ?_) (fun eq => ?_))
      · refine br_f (by decide) ⟨vp_in_nI hr (by omega), ?_⟩
        rw [hr_cl hr, hr_bit _ (by omega)]
        rw [hr_cb_d ne] at h1 h0
        refine br_c (fun z => h1 ?_) (fun z => h0 ?_)
        · have y := (hr_bI0 _).mp z
          show (!(bt (bits r) d)) = true
          rw [y]; rfl
        · intro y
          apply z
          rw [hr_bI0]
          have y2 : (!(bt (bits r) d)) = true := y
          revert y2
          cases bt (bits r) d <;> simp
      · rw [hr_cb_s eq] at h1 h0
        exact br_t rfl (nm_r (e' := nI d - 1) (Int32.sub_eq_add_neg (nI d) 1).symm (ih w (by omega) (by omega) h1 h0))
  unfold wpY_comesBefore
  dsimp only
  exact nm_e ⟨c + 1, K c (c + 1) (Nat.lt_succ_self c) hc h1 h0⟩
theorem hy_rw16 {post : Int32 → Prop} {J2 : Int32 → Prop} {x : Int32} {r c : Nat} (hn : n ≤ 8) (hr : r < n) (hc : c ≤ 12) (h1 : nI (hr_pl (hr_B bits) n c r) = x → post (nI r)) (h0 : ¬ nI (hr_pl (hr_B bits) n c r) = x → J2 (nI (r + 1))) : ∃ w, wY_rowAt_16 post J2 (nI c) x (nI r) (nI n) bits w 0 0 := by
  generalize eF : (fun s => hr_q (s ≠ r ∧ hr_cb (decide (s < r)) (hr_B bits s) (hr_B bits r) c = true)) = F
  have fF : ∀ s, F s = hr_q (s ≠ r ∧ hr_cb (decide (s < r)) (hr_B bits s) (hr_B bits r) c = true) := fun s => by rw [← eF]
  have eP : hr_pl (hr_B bits) n c r = hr_sm F n := by rw [← eF]; rfl
  rw [eP] at h1 h0
  have K := hr_lpE (fun w s => wY_rowAt_16 post J2 (nI c) x (nI r) (nI n) bits w (nI (hr_sm F s)) (nI s)) n 0 (Nat.zero_le _) ?_ ?_
  · exact K
  · intro w
    unfold wY_rowAt_16
    exact br_t (nI_le (Nat.le_refl _) (by omega)) (br_c h1 (fun z => nm_r (nI_1 r) (h0 z)))
  · intro w s _ hs hw
    have eS : hr_sm F (s + 1) = hr_sm F s + F s := rfl
    try dsimp only at hw
    rw [eS, fF] at hw
    unfold wY_rowAt_16
    refine br_f (nI_ge hs (by omega)) (pk_eq s r (fun e => ?_) (fun e => ?_))
    · rw [hr_q_f (fun z => z.1 e), Nat.add_zero] at hw
      exact nm_r (nI_1 s) hw
    · refine hy_cmB (by omega) (by omega) hc (fun z => ?_) (fun z => ?_)
      · rw [hr_q_t ⟨e, z⟩] at hw
        exact br_f (by decide) (nm_r (nI_1 _) (nm_r (nI_1 s) hw))
      · rw [hr_q_f (fun y => z y.2), Nat.add_zero] at hw
        exact br_t rfl (nm_r (nI_1 s) hw)
theorem hy_rowAt_in {post : Int32 → Prop} {c i : Nat} (hn : n ≤ 8) (hc : c ≤ 12) (hi : i < n) (h : post (nI (hr_o (hr_B bits) n c i))) : wpY_rowAt post (nI n, bits) (nI c) (nI i) := by
  have lo := hr_o_lt (hr_B bits) (c := c) hi
  have K := hr_lpE (fun w r => wY_rowAt_2 post (nI c) (nI i) (nI n) bits w (nI r)) (hr_o (hr_B bits) n c i) 0 (Nat.zero_le _) ?_ ?_
  · exact K
  · intro w
    unfold wY_rowAt_2
    refine br_f (nI_ge lo (by omega)) (hy_rw16 hn lo hc (fun _ => h) (fun z => ?_))
    rw [hr_pl_o (hr_B bits) hi] at z
    exact absurd rfl z
  · intro w r _ hr hw
    unfold wY_rowAt_2
    refine br_f (nI_ge (by omega) (by omega)) (hy_rw16 hn (by omega) hc (fun z => ?_) (fun _ => hw))
    obtain ⟨j, hj, e⟩ := hr_o_sur (hr_B bits) (c := c) (by omega : r < n)
    rw [← e, hr_pl_o (hr_B bits) hj, nI_eq (by omega) (by omega)] at z
    rw [z] at e
    omega
theorem hy_rowAt_out {post : Int32 → Prop} {c : Nat} {x : Int32} (hn : n ≤ 8) (hc : c ≤ 12) (hx : ∀ i, i < n → ¬ nI i = x) (h : post (-4)) : wpY_rowAt post (nI n, bits) (nI c) x := by
  have K := hr_lpE (fun w r => wY_rowAt_2 post (nI c) x (nI n) bits w (nI r)) n 0 (Nat.zero_le _) ?_ ?_
  · exact K
  · intro w
    unfold wY_rowAt_2
    exact br_t (nI_le (Nat.le_refl _) (by omega)) h
  · intro w r _ hr hw
    unfold wY_rowAt_2
    refine br_f (nI_ge hr (by omega)) (hy_rw16 hn hr hc (fun z => ?_) (fun _ => hw))
    obtain ⟨j, hj, e⟩ := hr_o_sur (hr_B bits) (c := c) hr
    rw [← e, hr_pl_o (hr_B bits) hj] at z
    exact absurd z (hx j hj)
theorem hy_agF {post : Int32 → Prop} {r s c : Nat} (hr : r < 8) (hs : s < 8) (hc : c ≤ 12) (h : post (nI (hr_af (hr_B bits r) (hr_B bits s) c))) : wpY_agreeFrom post (nI n, bits) (nI r) (nI s) (nI c) := by
  have K : ∀ d w, d < w → d ≤ 12 → post (nI (hr_af (hr_B bits r) (hr_B bits s) d)) → wY_agreeFrom_3 post (nI r) (nI s) (nI n) bits w (nI d) := by
    intro d
    induction d with
    | zero =>
      intro w hw hd h
      obtain ⟨w, rfl⟩ : ∃ v, w = v + 1 := ⟨w - 1, by omega⟩
      unfold wY_agreeFrom_3
      exact br_t (by decide) h
    | succ d ih =>
      intro w hw hd h
      obtain ⟨w, rfl⟩ : ∃ v, w = v + 1 := ⟨w - 1, by omega⟩
      unfold wY_agreeFrom_3
      rw [nI_pred d]
      refine br_f (nI_nle (Nat.succ_pos d) (by omega)) (hy_differ hr hs (by omega) (fun ne => ?_) (fun eq => ?_))
      · rw [hr_af_d ne] at h
        exact br_f (by decide) h
      · rw [hr_af_s eq] at h
        exact br_t rfl (nm_r (pk_m1 d) (ih w (by omega) (by omega) h))
  unfold wpY_agreeFrom
  dsimp only
  exact ⟨c + 1, K c (c + 1) (Nat.lt_succ_self c) hc h⟩
theorem hy_agM {post : Int32 → Prop} {r s a b : Nat} (hr : r < 8) (hs : s < 8) (ha : a < 12) (hb : b < 12) (h1 : hr_af (hr_B bits r) (hr_B bits s) (b + 1) = a ∧ hr_pt (hr_B bits) r s (b + 1) → post 1) (h0 : ¬ (hr_af (hr_B bits r) (hr_B bits s) (b + 1) = a ∧ hr_pt (hr_B bits) r s (b + 1)) → post 0) : wpY_agreeMost post (nI n, bits) (nI r) (nI s) (nI a) (nI b) := by
  have la := hr_af_le (hr_B bits r) (hr_B bits s) (b + 1)
  unfold wpY_agreeMost
  dsimp only
  rw [nI_1 b]
  refine hy_agF hr hs (by omega) (pk_eq (hr_af (hr_B bits r) (hr_B bits s) (b + 1)) a (fun e => ?_) (fun e => h0 (fun z => e z.1)))
  refine pk_eq b 11 (fun e2 => h1 ⟨e, Or.inl (by omega)⟩) (fun e2 => ?_)
  refine hy_differ hr hs (by omega) (fun ne => br_f (by decide) (h1 ⟨e, Or.inr ne⟩)) (fun eq => br_t rfl (h0 ?_))
  intro z
  rcases z.2 with y | y
  · omega
  · exact y eq
theorem hy_agree {post : Int32 → Prop} {r s a b : Nat} (hr : r < 8) (hs : s < 8) (ha : a < 12) (hb : b < 12) (h1 : hr_af (hr_B bits r) (hr_B bits s) (b + 1) ≤ a → post 1) (h0 : ¬ hr_af (hr_B bits r) (hr_B bits s) (b + 1) ≤ a → post 0) : wpY_agree post (nI n, bits) (nI r) (nI s) (nI a) (nI b) := by
  have la := hr_af_le (hr_B bits r) (hr_B bits s) (b + 1)
  unfold wpY_agree
  dsimp only
  rw [nI_1 b]
  exact hy_agF hr hs (by omega) (pk_lt a (hr_af (hr_B bits r) (hr_B bits s) (b + 1)) (fun hl => h0 (by omega)) (fun hl => h1 hl))
end
end
section
/-! Y: matches, longest, winning, cover, kinds, having, fit -/
def hr_yp (B : Nat → Nat → Bool) (n m r s a b : Nat) : Prop := r < s ∧ s < n ∧ m + a ≤ b + 1 ∧ hr_af (B r) (B s) (b + 1) = a ∧ hr_pt B r s (b + 1)
noncomputable def hr_ymi (B : Nat → Nat → Bool) (n m p st : Nat) : Nat := hr_q (hr_yp B n m (p / 8) (p % 8) (st / 12) (st % 12))
noncomputable def hr_ym (B : Nat → Nat → Bool) (n m : Nat) : Nat := hr_sm (fun p => hr_sm (hr_ymi B n m p) 144) 64
/-- row r over the columns a to b is beaten by row t -/
def hr_bt (B : Nat → Nat → Bool) (r a b t : Nat) : Prop := t ≠ r ∧ ((0 < a ∧ hr_af (B r) (B t) (b + 1) ≤ a - 1) ∨ (b < 11 ∧ hr_af (B r) (B t) (b + 1 + 1) ≤ a))
def hr_yw (B : Nat → Nat → Bool) (n r s a b : Nat) : Prop := s ≠ r ∧ a ≤ b ∧ (hr_af (B r) (B s) (b + 1) = a ∧ hr_pt B r s (b + 1)) ∧ ¬ ∃ t, t < n ∧ hr_bt B r a b t
noncomputable def hr_ywi (B : Nat → Nat → Bool) (n r s st : Nat) : Nat := hr_q (hr_yw B n r s (st / 12) (st % 12))
def hr_ycf (B : Nat → Nat → Bool) (r col s b : Nat) : Nat := if col ≤ b ∧ hr_af (B r) (B s) (b + 1) ≤ col then (b + 1) - hr_af (B r) (B s) (b + 1) else 0
def hr_ycs (B : Nat → Nat → Bool) (r col s : Nat) : Nat := if s = r then 0 else hr_mx (hr_ycf B r col s) 12
def hr_yc (B : Nat → Nat → Bool) (n r col : Nat) : Nat := hr_mx (hr_ycs B r col) n
theorem hr_ycf_le (B : Nat → Nat → Bool) (r col s b : Nat) (hb : b < 12) : hr_ycf B r col s b ≤ 12 := by
  unfold hr_ycf
  split <;> omega
theorem hr_ycs_le (B : Nat → Nat → Bool) (r col s : Nat) : hr_ycs B r col s ≤ 12 := by
  unfold hr_ycs
  split
  · omega
  · exact hr_mx_le (fun b hb => hr_ycf_le B r col s b hb)
def hr_yf (B : Nat → Nat → Bool) (n c : Nat) (Q : Nat → Bool) : Nat := hr_mx (fun r => c - hr_af (B r) Q c) n
section
variable {n : Nat} {bits : Nat → Int32}
theorem hy_m107_0 {post : Int32 → Prop} {J17 J26 : Int32 → Int32 → Prop} {x1 x3 : Int32} {X i : Nat} (h : J26 (nI X) (nI (i + 1))) : wY_matches_107 post J17 J26 x1 (nI X) x3 (nI i) 0 (nI n) bits := by
  unfold wY_matches_107
  exact br_t rfl (nm_r (nI_1 i) h)
theorem hy_m107_1 {post : Int32 → Prop} {J17 J26 : Int32 → Int32 → Prop} {x1 x3 : Int32} {X i : Nat} (h : J26 (nI (X + 1)) (nI (i + 1))) : wY_matches_107 post J17 J26 x1 (nI X) x3 (nI i) 1 (nI n) bits := by
  unfold wY_matches_107
  exact br_f (by decide) (nm_r (nI_1 X) (nm_r (nI_1 i) h))
theorem hy_m106 {post : Int32 → Prop} {J17 J26 : Int32 → Int32 → Prop} {x1 x3 : Int32} {X i : Nat} (h : J26 (nI X) (nI (i + 1))) : wY_matches_106 post J17 J26 x1 (nI X) x3 (nI i) (nI n) bits := by
  unfold wY_matches_106
  exact hy_m107_0 h
theorem hy_m26 {post : Int32 → Prop} {J17 : Int32 → Int32 → Prop} (hn : n ≤ 8) {m p X : Nat} (hm : m ≤ 12) (hp : p < 64) (h : J17 (nI (X + hr_sm (hr_ymi (hr_B bits) n m p) 144)) (nI (p + 1))) : ∃ w, wY_matches_26 post J17 (nI m) (nI p) (nI n) bits w (nI X) 0 := by
  have K := hr_lpE (fun w st => wY_matches_26 post J17 (nI m) (nI p) (nI n) bits w (nI (X + hr_sm (hr_ymi (hr_B bits) n m p) st)) (nI st)) 144 0 (Nat.zero_le _) ?_ ?_
  · exact K
  · intro w
    unfold wY_matches_26
    exact br_t (by decide) (nm_r (nI_1 p) h)
  · intro w st _ hst hw
    have eS : X + hr_sm (hr_ymi (hr_B bits) n m p) (st + 1) = (X + hr_sm (hr_ymi (hr_B bits) n m p) st) + hr_q (hr_yp (hr_B bits) n m (p / 8) (p % 8) (st / 12) (st % 12)) := (Nat.add_assoc X _ _).symm
    try dsimp only at hw
    rw [eS] at hw
    have lr : p / 8 < 8 := by omega
    have ls : p % 8 < 8 := by omega
    have la : st / 12 < 12 := by omega
    have lb : st % 12 < 12 := by omega
    unfold wY_matches_26
    refine br_f (nI_ge (b := 144) hst (by decide)) ⟨by decide, nm_r (pk_div (a := p) (d := 8) (by omega) (by decide) (by decide)) ⟨by decide, nm_r (pk_rem (a := p) (d := 8) (by omega) (by decide) (by decide)) ⟨by decide, nm_r (pk_div (a := st) (d := 12) (by omega) (by decide) (by decide)) ⟨by decide, nm_r (pk_rem (a := st) (d := 12) (by omega) (by decide) (by decide)) ?_⟩⟩⟩⟩
    generalize p / 8 = r at hw lr ⊢
    generalize p % 8 = s at hw ls ⊢
    generalize st / 12 = a at hw la ⊢
    generalize st % 12 = b at hw lb ⊢
    refine pk_le s r (fun hl => ?_) (fun hl => ?_)
    · rw [hr_q_f (fun z => by have := z.1; omega), Nat.add_zero] at hw
      exact hy_m106 hw
    · refine pk_le n s (fun h2 => ?_) (fun h2 => ?_)
      · rw [hr_q_f (fun z => by have := z.2.1; omega), Nat.add_zero] at hw
        exact hy_m106 hw
      · refine br_c (fun h3 => ?_) (fun h3 => ?_)
        · rw [hr_len la lb hm] at h3
          rw [hr_q_f (fun z => by have := z.2.2.1; omega), Nat.add_zero] at hw
          exact hy_m106 hw
        · rw [hr_len la lb hm] at h3
          refine hy_agM lr ls la lb (fun z => ?_) (fun z => ?_)
          · rw [hr_q_t ⟨hl, h2, by omega, z.1, z.2⟩] at hw
            exact br_f (by decide) (hy_m107_1 hw)
          · rw [hr_q_f (fun y => z ⟨y.2.2.2.1, y.2.2.2.2⟩), Nat.add_zero] at hw
            exact br_t rfl (hy_m106 hw)
theorem hy_matches {post : Int32 → Prop} (hn : n ≤ 8) {m : Nat} (hm1 : 1 ≤ m) (hm : m ≤ 12) (h : post (nI (hr_ym (hr_B bits) n m))) : wpY_matches post (nI n, bits) (nI m) := by
  unfold wpY_matches
  dsimp only
  refine br_f (nI_nlt (b := 1) hm1 (by omega)) (br_t (nI_le (b := 12) hm (by decide)) ?_)
  have K := hr_lpE (fun w p => wY_matches_17 post (nI m) (nI n) bits w (nI (hr_sm (fun p => hr_sm (hr_ymi (hr_B bits) n m p) 144) p)) (nI p)) 64 0 (Nat.zero_le _) ?_ ?_
  · exact K
  · intro w
    unfold wY_matches_17
    exact br_t (by decide) h
  · intro w p _ hp hw
    unfold wY_matches_17
    exact br_f (nI_ge (b := 64) hp (by decide)) (hy_m26 hn hm hp hw)
theorem hy_lng {post : Int32 → Prop} {r s : Nat} (hr : r < 8) (hs : s < 8) (h : post (nI (hr_lo (hr_B bits) r s))) : ∃ w, wY_longest_29 post (nI r) (nI s) (nI n) bits w 0 1 := by
  have K := hr_lpE (fun w t => wY_longest_29 post (nI r) (nI s) (nI n) bits w (nI (hr_mx (fun t => (t + 1) - hr_af (hr_B bits r) (hr_B bits s) (t + 1)) t)) (nI (t + 1))) 12 0 (Nat.zero_le _) ?_ ?_
  · exact K
  · intro w
    unfold wY_longest_29
    exact br_t (by decide) h
  · intro w t _ ht hw
    have l1 := hr_af_le (hr_B bits r) (hr_B bits s) (t + 1)
    have l2 : hr_mx (fun t => (t + 1) - hr_af (hr_B bits r) (hr_B bits s) (t + 1)) t ≤ 12 := hr_mx_le (fun i hi => by omega)
    have e : hr_mx (fun t => (t + 1) - hr_af (hr_B bits r) (hr_B bits s) (t + 1)) (t + 1) = max (hr_mx (fun t => (t + 1) - hr_af (hr_B bits r) (hr_B bits s) (t + 1)) t) ((t + 1) - hr_af (hr_B bits r) (hr_B bits s) (t + 1)) := rfl
    try dsimp only at hw
    rw [e] at hw
    unfold wY_longest_29
    refine br_f (nI_nlt (a := 12) (by omega) (by decide)) (hy_agF hr hs (by omega) (nm_r (pk_sub l1) (pk_le ((t + 1) - hr_af (hr_B bits r) (hr_B bits s) (t + 1)) (hr_mx (fun t => (t + 1) - hr_af (hr_B bits r) (hr_B bits s) (t + 1)) t) (fun hl => ?_) (fun hl => ?_))))
    · rw [Nat.max_eq_left hl] at hw
      exact nm_r (nI_1 (t + 1)) hw
    · rw [Nat.max_eq_right (by omega)] at hw
      exact nm_r (nI_1 (t + 1)) hw
/-! winning -/
theorem hy_b54 {post : Int32 → Prop} {J3 : Int32 → Prop} {x2 x3 : Int32} {r t : Nat} (hr : r < 8) (ht : t < 8) (h : J3 (nI (t + 1))) : wY_isBeaten_54 post J3 (nI r) x2 x3 (nI t) (nI n) bits := by
  unfold wY_isBeaten_54 wY_isBeaten_55
  exact br_c (fun _ => nm_r (nI_1 t) h) (fun _ => br_t rfl (nm_r (nI_1 t) h))
theorem hy_b50 {post : Int32 → Prop} {J3 : Int32 → Prop} {x2 x3 : Int32} {r t : Nat} (hr : r < 8) (ht : t < 8) (h : t = r → J3 (nI (t + 1))) (h1 : t ≠ r → post 1) : wY_isBeaten_50 post J3 (nI r) x2 x3 (nI t) (nI n) bits := by
  unfold wY_isBeaten_50 wY_isBeaten_55
  exact pk_eq t r (fun e => nm_r (nI_1 t) (h e)) (fun e => br_f (by decide) (h1 e))
theorem hy_b30 {post : Int32 → Prop} {J3 : Int32 → Prop} {r a b t : Nat} (hr : r < 8) (ht : t < 8) (ha : a < 12) (hb : b < 12) (h0 : ¬ (b < 11 ∧ hr_af (hr_B bits r) (hr_B bits t) (b + 1 + 1) ≤ a) → J3 (nI (t + 1))) (h1 : (b < 11 ∧ hr_af (hr_B bits r) (hr_B bits t) (b + 1 + 1) ≤ a) → t = r → J3 (nI (t + 1))) (h2 : (b < 11 ∧ hr_af (hr_B bits r) (hr_B bits t) (b + 1 + 1) ≤ a) → t ≠ r → post 1) : wY_isBeaten_30 post J3 (nI r) (nI a) (nI b) (nI t) (nI n) bits := by
  unfold wY_isBeaten_30
  refine pk_le 11 b (fun hl => ?_) (fun hl => ?_)
  · exact hy_b54 hr ht (h0 (fun z => by omega))
  · rw [nI_1 b]
    refine hy_agree hr ht ha (by omega) (fun z => ?_) (fun z => ?_)
    · exact br_f (by decide) (hy_b50 hr ht (h1 ⟨hl, z⟩) (h2 ⟨hl, z⟩))
    · exact br_t rfl (hy_b54 hr ht (h0 (fun y => z y.2)))
theorem hy_beaten {post : Int32 → Prop} (hn : n ≤ 8) {r a b : Nat} (hr : r < 8) (ha : a < 12) (hb : b < 12) (h1 : (∃ t, t < n ∧ hr_bt (hr_B bits) r a b t) → post 1) (h0 : ¬ (∃ t, t < n ∧ hr_bt (hr_B bits) r a b t) → post 0) : wpY_isBeaten post (nI n, bits) (nI r) (nI a) (nI b) := by
  have K := hr_lpE (fun w t => (∀ u, u < t → ¬ hr_bt (hr_B bits) r a b u) → wY_isBeaten_3 post (nI r) (nI a) (nI b) (nI n) bits w (nI t)) n 0 (Nat.zero_le _) ?_ ?_
  · obtain ⟨w, hw⟩ := K
    exact ⟨w, hw (fun u hu => absurd hu (Nat.not_lt_zero u))⟩
  · intro w hno
    unfold wY_isBeaten_3
    exact br_t (nI_le (Nat.le_refl _) (by omega)) (h0 (fun z => z.elim (fun t y => hno t y.1 y.2)))
  · intro w t _ ht hw hno
    have hgo : ¬ hr_bt (hr_B bits) r a b t → wY_isBeaten_3 post (nI r) (nI a) (nI b) (nI n) bits w (nI (t + 1)) := by
      intro hnt
      refine hw (fun u hu => ?_)
      by_cases e : u = t
      · rw [e]; exact hnt
      · exact hno u (by omega)
    have hst : hr_bt (hr_B bits) r a b t → post 1 := fun z => h1 ⟨t, ht, z⟩
    have K30 : ¬ (0 < a ∧ hr_af (hr_B bits r) (hr_B bits t) (b + 1) ≤ a - 1) → wY_isBeaten_30 post (wY_isBeaten_3 post (nI r) (nI a) (nI b) (nI n) bits w) (nI r) (nI a) (nI b) (nI t) (nI n) bits := by
      intro hna
      refine hy_b30 hr (by omega) ha hb (fun z => hgo ?_) (fun _ e => hgo (fun y => y.1 e)) (fun z e => hst ⟨e, Or.inr z⟩)
      intro y
      rcases y.2 with q | q
      · exact hna q
      · exact z q
    unfold wY_isBeaten_3
    refine br_f (nI_ge ht (by omega)) (pk_le a 0 (fun hl => ?_) (fun hl => ?_))
    · exact K30 (fun z => by omega)
    · rw [show (1 : Int32) = nI 1 from rfl, pk_sub (by omega)]
      refine hy_agree hr (by omega) (by omega) hb (fun z => ?_) (fun z => ?_)
      · exact br_f (by decide) (hy_b50 hr (by omega) (fun e => hgo (fun y => y.1 e)) (fun e => hst ⟨e, Or.inl ⟨hl, z⟩⟩))
      · exact br_t rfl (K30 (fun y => z y.2))
theorem hy_w26 {post : Int32 → Prop} {J15 : Int32 → Int32 → Prop} (hn : n ≤ 8) {r s X : Nat} (hr : r < n) (hs : s < n) (h : J15 (nI (X + hr_sm (hr_ywi (hr_B bits) n r s) 144)) (nI (s + 1))) : ∃ w, wY_winning_26 post J15 (nI r) (nI s) (nI n) bits w (nI X) 0 := by
  have K := hr_lpE (fun w st => wY_winning_26 post J15 (nI r) (nI s) (nI n) bits w (nI (X + hr_sm (hr_ywi (hr_B bits) n r s) st)) (nI st)) 144 0 (Nat.zero_le _) ?_ ?_
  · exact K
  · intro w
    unfold wY_winning_26
    exact br_t (by decide) (nm_r (nI_1 s) h)
  · intro w st _ hst hw
    have eS : X + hr_sm (hr_ywi (hr_B bits) n r s) (st + 1) = (X + hr_sm (hr_ywi (hr_B bits) n r s) st) + hr_q (hr_yw (hr_B bits) n r s (st / 12) (st % 12)) := (Nat.add_assoc X _ _).symm
    try dsimp only at hw
    rw [eS] at hw
    have la : st / 12 < 12 := by omega
    have lb : st % 12 < 12 := by omega
    unfold wY_winning_26
    refine br_f (nI_ge (b := 144) hst (by decide)) ⟨by decide, nm_r (pk_div (a := st) (d := 12) (by omega) (by decide) (by decide)) ⟨by decide, nm_r (pk_rem (a := st) (d := 12) (by omega) (by decide) (by decide)) ?_⟩⟩
    generalize st / 12 = a at hw la ⊢
    generalize st % 12 = b at hw lb ⊢
    refine pk_eq s r (fun e => ?_) (fun e => ?_)
    · rw [hr_q_f (fun z => z.1 e), Nat.add_zero] at hw
      exact nm_r (nI_1 st) hw
    · refine pk_lt b a (fun hl => ?_) (fun hl => ?_)
      · rw [hr_q_f (fun z => by have := z.2.1; omega), Nat.add_zero] at hw
        exact nm_r (nI_1 st) hw
      · refine hy_agM (by omega) (by omega) la lb (fun z => ?_) (fun z => ?_)
        · refine br_f (by decide) (hy_beaten hn (by omega) la lb (fun y => ?_) (fun y => ?_))
          · rw [hr_q_f (fun x => x.2.2.2 y), Nat.add_zero] at hw
            exact br_f (by decide) (nm_r (nI_1 st) hw)
          · rw [hr_q_t ⟨e, hl, z, y⟩] at hw
            exact br_t rfl (nm_r (nI_1 _) (nm_r (nI_1 st) hw))
        · rw [hr_q_f (fun x => z x.2.2.1), Nat.add_zero] at hw
          exact br_t rfl (nm_r (nI_1 st) hw)
theorem hy_winning {post : Int32 → Prop} (hn : n ≤ 8) {r : Nat} (hr : r < n) (h : post (nI (hr_sm (fun s => hr_sm (hr_ywi (hr_B bits) n r s) 144) n))) : ∃ w, wY_winning_15 post (nI r) (nI n) bits w 0 0 := by
  have K := hr_lpE (fun w s => wY_winning_15 post (nI r) (nI n) bits w (nI (hr_sm (fun s => hr_sm (hr_ywi (hr_B bits) n r s) 144) s)) (nI s)) n 0 (Nat.zero_le _) ?_ ?_
  · exact K
  · intro w
    unfold wY_winning_15
    exact br_t (nI_le (Nat.le_refl _) (by omega)) h
  · intro w s _ hs hw
    unfold wY_winning_15
    exact br_f (nI_ge hs (by omega)) (hy_w26 hn hr hs hw)
/-! cover -/
theorem hy_wd17 {post : Int32 → Prop} {J5 : Int32 → Int32 → Prop} (hn : n ≤ 8) {r col s M : Nat} (hr : r < n) (hs : s < n) (hcol : col < 12) (hM : M ≤ 12) (h : J5 (nI (max M (hr_ycs (hr_B bits) r col s))) (nI (s + 1))) : ∃ w, wY_widestOver_17 post J5 (nI r) (nI col) (nI s) (nI n) bits w (nI M) (nI col) := by
  by_cases e : s = r
  · have e2 : hr_ycs (hr_B bits) r col s = 0 := if_pos e
    rw [e2, Nat.max_zero] at h
    refine ⟨1, ?_⟩
    unfold wY_widestOver_17
    exact br_f (nI_ge (b := 12) hcol (by decide)) (br_t (by rw [e]) (nm_r (nI_1 s) h))
  · have e2 : hr_ycs (hr_B bits) r col s = hr_mx (hr_ycf (hr_B bits) r col s) 12 := if_neg e
    rw [e2] at h
    have K := hr_lpE (fun w b => wY_widestOver_17 post J5 (nI r) (nI col) (nI s) (nI n) bits w (nI (max M (hr_mx (hr_ycf (hr_B bits) r col s) b))) (nI b)) 12 col (by omega) ?_ ?_
    · obtain ⟨w, hw⟩ := K
      try dsimp only at hw
      have e3 : hr_mx (hr_ycf (hr_B bits) r col s) col = 0 := Nat.le_zero.mp (hr_mx_le (fun i hi => by
        unfold hr_ycf
        rw [if_neg (by omega)]
        exact Nat.le_refl 0))
      rw [e3, Nat.max_zero] at hw
      exact ⟨w, hw⟩
    · intro w
      unfold wY_widestOver_17
      exact br_t (by decide) (nm_r (nI_1 s) h)
    · intro w b h1 hb hw
      have la := hr_af_le (hr_B bits r) (hr_B bits s) (b + 1)
      have l2 : hr_mx (hr_ycf (hr_B bits) r col s) b ≤ 12 := hr_mx_le (fun i hi => hr_ycf_le _ _ _ _ _ (by omega))
      have l3 : max M (hr_mx (hr_ycf (hr_B bits) r col s) b) ≤ 12 := Nat.max_le.mpr ⟨hM, l2⟩
      have e3 : max M (hr_mx (hr_ycf (hr_B bits) r col s) (b + 1)) = max (max M (hr_mx (hr_ycf (hr_B bits) r col s) b)) (hr_ycf (hr_B bits) r col s b) := by
        rw [Nat.max_assoc]
        rfl
      try dsimp only at hw
      rw [e3] at hw
      unfold wY_widestOver_17
      refine br_f (nI_ge (b := 12) hb (by decide)) (br_f (fun z => e ((nI_eq (by omega) (by omega)).mp z)) ?_)
      rw [nI_1 b]
      refine hy_agF (by omega) (by omega) (by omega) (pk_lt col (hr_af (hr_B bits r) (hr_B bits s) (b + 1)) (fun hl => ?_) (fun hl => ?_))
      · have e4 : hr_ycf (hr_B bits) r col s b = 0 := if_neg (by omega)
        rw [e4, Nat.max_zero] at hw
        exact nm_e hw
      · have e4 : hr_ycf (hr_B bits) r col s b = (b + 1) - hr_af (hr_B bits r) (hr_B bits s) (b + 1) := if_pos ⟨h1, hl⟩
        rw [e4] at hw
        have e5 : (nI b - nI (hr_af (hr_B bits r) (hr_B bits s) (b + 1))) + 1 = nI ((b + 1) - hr_af (hr_B bits r) (hr_B bits s) (b + 1)) := by
          rw [← pk_sub la, ← nI_1 b, Int32.sub_eq_add_neg, Int32.sub_eq_add_neg, Int32.add_assoc, Int32.add_comm (-nI _) 1, ← Int32.add_assoc]
        refine pk_le ((b + 1) - hr_af (hr_B bits r) (hr_B bits s) (b + 1)) (max M (hr_mx (hr_ycf (hr_B bits) r col s) b)) (fun h2 => ?_) (fun h2 => ?_) e5 rfl
        · rw [Nat.max_eq_left h2] at hw
          exact nm_e hw
        · rw [Nat.max_eq_right (by omega)] at hw
          exact nm_r e5 (nm_e hw)
theorem hy_widest {post : Int32 → Prop} (hn : n ≤ 8) {r col : Nat} (hr : r < n) (hcol : col < 12) (h : post (nI (hr_yc (hr_B bits) n r col))) : wpY_widestOver post (nI n, bits) (nI r) (nI col) := by
  have K := hr_lpE (fun w s => wY_widestOver_5 post (nI r) (nI col) (nI n) bits w (nI (hr_mx (hr_ycs (hr_B bits) r col) s)) (nI s)) n 0 (Nat.zero_le _) ?_ ?_
  · exact K
  · intro w
    unfold wY_widestOver_5
    exact br_t (nI_le (Nat.le_refl _) (by omega)) h
  · intro w s _ hs hw
    unfold wY_widestOver_5
    exact br_f (nI_ge hs (by omega)) (hy_wd17 hn hr hs hcol (hr_mx_le (fun i _ => hr_ycs_le _ _ _ _)) hw)
theorem hy_cover {post : Int32 → Prop} (hn : n ≤ 8) {r : Nat} (hr : r < n) (h : post (nI (hr_sm (hr_yc (hr_B bits) n r) 12))) : ∃ w, wY_cover_15 post (nI r) (nI n) bits w 0 0 := by
  have K := hr_lpE (fun w t => wY_cover_15 post (nI r) (nI n) bits w (nI (hr_sm (hr_yc (hr_B bits) n r) t)) (nI t)) 12 0 (Nat.zero_le _) ?_ ?_
  · exact K
  · intro w
    unfold wY_cover_15
    exact br_t (by decide) h
  · intro w t _ ht hw
    unfold wY_cover_15
    exact br_f (nI_ge (b := 12) ht (by decide)) (hy_widest hn hr ht (nm_r (nI_add _ _) (nm_r (nI_1 t) hw)))
/-! kinds -/
theorem hy_k37 {post : Int32 → Prop} {J22 : Int32 → Int32 → Prop} (hn : n ≤ 8) {r a b X : Nat} (hr : r < n) (ha : a < 12) (hb : b < 12) (h : J22 (nI (X + hr_q (∀ t, t < r → ¬ hr_af (hr_B bits r) (hr_B bits t) (b + 1) ≤ a))) (nI (r + 1))) : ∃ w, wY_kinds_37 post J22 (nI a) (nI b) (nI X) (nI r) (nI n) bits w 1 0 := by
  generalize eI : (fun i => ∀ t, t < i → ¬ hr_af (hr_B bits r) (hr_B bits t) (b + 1) ≤ a) = I
  have fI : ∀ i, I i = ∀ t, t < i → ¬ hr_af (hr_B bits r) (hr_B bits t) (b + 1) ≤ a := fun s => by rw [← eI]
  have h2 : J22 (nI (X + hr_q (I r))) (nI (r + 1)) := by rw [fI]; exact h
  have K := hr_lpE (fun w s => wY_kinds_37 post J22 (nI a) (nI b) (nI X) (nI r) (nI n) bits w (nI (hr_q (I s))) (nI s)) r 0 (Nat.zero_le _) ?_ ?_
  · obtain ⟨w, hw⟩ := K
    try dsimp only at hw
    rw [hr_q_t (P := I 0) (by rw [fI]; exact fun t ht => absurd ht (Nat.not_lt_zero t))] at hw
    exact ⟨w, hw⟩
  · intro w
    unfold wY_kinds_37
    refine br_t (nI_le (Nat.le_refl _) (by omega)) ?_
    by_cases hi : I r
    · rw [hr_q_t hi] at h2 ⊢
      exact br_f (by decide) (nm_r (nI_1 X) (nm_r (nI_1 r) h2))
    · rw [hr_q_f hi] at h2 ⊢
      exact br_t rfl (nm_r (nI_1 r) h2)
  · intro w s _ hs hw
    try dsimp only at hw
    unfold wY_kinds_37
    refine br_f (nI_ge hs (by omega)) ?_
    by_cases hi : I s
    · rw [hr_q_t hi]
      refine br_f (by decide) (hy_agree (by omega) (by omega) ha hb (fun z => ?_) (fun z => ?_))
      · rw [hr_q_f (P := I (s + 1)) (by rw [fI]; exact fun y => y s (Nat.lt_succ_self s) z)] at hw
        exact br_f (by decide) (nm_r (nI_1 s) hw)
      · rw [hr_q_t (P := I (s + 1)) (by
          rw [fI] at hi ⊢
          intro t ht
          by_cases e : t = s
          · rw [e]; exact z
          · exact hi t (by omega))] at hw
        exact br_t rfl (nm_r (nI_1 s) hw)
    · rw [hr_q_f hi]
      rw [hr_q_f (P := I (s + 1)) (by
        rw [fI] at hi ⊢
        exact fun y => hi (fun t ht => y t (by omega)))] at hw
      exact br_t rfl (nm_r (nI_1 s) hw)
theorem hy_kinds {post : Int32 → Prop} (hn : n ≤ 8) {a b : Nat} (ha : a < 12) (hb : b < 12) (h : post (nI (hr_sm (fun r => hr_q (∀ t, t < r → ¬ hr_af (hr_B bits r) (hr_B bits t) (b + 1) ≤ a)) n))) : ∃ w, wY_kinds_22 post (nI a) (nI b) (nI n) bits w 0 0 := by
  have K := hr_lpE (fun w r => wY_kinds_22 post (nI a) (nI b) (nI n) bits w (nI (hr_sm (fun r => hr_q (∀ t, t < r → ¬ hr_af (hr_B bits r) (hr_B bits t) (b + 1) ≤ a)) r)) (nI r)) n 0 (Nat.zero_le _) ?_ ?_
  · exact K
  · intro w
    unfold wY_kinds_22
    exact br_t (nI_le (Nat.le_refl _) (by omega)) h
  · intro w r _ hr hw
    unfold wY_kinds_22
    exact br_f (nI_ge hr (by omega)) (hy_k37 hn hr ha hb hw)
theorem hy_having {post : Int32 → Prop} (hn : n ≤ 8) {a : Nat} {x2 st : Int32} (M : Nat → Prop) (eM : ∀ r, (((bits r >>> (nI a &&& 31)) ^^^ st) &&& (((1 : Int32) <<< (x2 &&& 31)) - 1)) = 0 ↔ M r) (h : post (nI (hr_sm (fun r => hr_q (M r)) n))) : ∃ w, wY_having_42 post (nI a) x2 st (nI n) bits w 0 0 := by
  have K := hr_lpE (fun w r => wY_having_42 post (nI a) x2 st (nI n) bits w (nI (hr_sm (fun r => hr_q (M r)) r)) (nI r)) n 0 (Nat.zero_le _) ?_ ?_
  · exact K
  · intro w
    unfold wY_having_42
    exact br_t (nI_le (Nat.le_refl _) (by omega)) h
  · intro w r _ hr hw
    have eS : hr_sm (fun r => hr_q (M r)) (r + 1) = hr_sm (fun r => hr_q (M r)) r + hr_q (M r) := rfl
    try dsimp only at hw
    rw [eS] at hw
    unfold wY_having_42
    refine br_f (nI_ge hr (by omega)) ⟨vp_in_nI (by omega) (by omega), ?_⟩
    rw [hr_cl (by omega)]
    refine nm_e (br_c (fun z => ?_) (fun z => ?_))
    · rw [hr_q_t ((eM r).mp z)] at hw
      exact nm_r (nI_1 _) (nm_r (nI_1 r) hw)
    · rw [hr_q_f (fun y => z ((eM r).mpr y)), Nat.add_zero] at hw
      exact nm_r (nI_1 r) hw
/-! fit -/
theorem hy_f68 {post : Int32 → Prop} {J23 : Int32 → Int32 → Prop} {x1 x2 : Int32} {M r v : Nat} (hM : M ≤ 12) (hv : v ≤ 12) (h : J23 (nI (max M v)) (nI (r + 1))) : wY_fit_68 post J23 x1 x2 (nI M) (nI r) (nI v) (nI n) bits := by
  unfold wY_fit_68
  refine pk_le v M (fun hl => ?_) (fun hl => ?_)
  · rw [Nat.max_eq_left hl] at h
    exact nm_r (nI_1 r) h
  · rw [Nat.max_eq_right (by omega)] at h
    exact nm_r (nI_1 r) h
theorem hy_f35 {post : Int32 → Prop} {J23 : Int32 → Int32 → Prop} {c M r : Nat} {q : Int32} (hc : c ≤ 12) (hM : M ≤ 12) (hr : r < 8) (h : J23 (nI (max M (c - hr_af (hr_B bits r) (bt q) c))) (nI (r + 1))) : ∃ w, wY_fit_35 post J23 (nI c) q (nI M) (nI r) (nI n) bits w 0 := by
  have K : ∀ d w, d < w → d ≤ c → J23 (nI (max M (c - hr_af (hr_B bits r) (bt q) d))) (nI (r + 1)) → wY_fit_35 post J23 (nI c) q (nI M) (nI r) (nI n) bits w (nI (c - d)) := by
    intro d
    induction d with
    | zero =>
      intro w hw hd h
      obtain ⟨w, rfl⟩ : ∃ v, w = v + 1 := ⟨w - 1, by omega⟩
      unfold wY_fit_35
      exact br_t (nI_le (Nat.le_refl _) (by omega)) (hy_f68 hM (by omega) h)
    | succ d ih =>
      intro w hw hd h
      obtain ⟨w, rfl⟩ : ∃ v, w = v + 1 := ⟨w - 1, by omega⟩
      have e : (nI c - 1) - nI (c - (d + 1)) = nI d := by
        rw [show (1 : Int32) = nI 1 from rfl, pk_sub (by omega), pk_sub (by omega)]
        exact congrArg nI (by omega)
      unfold wY_fit_35
      refine br_f (nI_ge (by omega) (by omega)) ⟨vp_in_nI hr (by omega), ?_⟩
      rw [e, hr_cl hr]
      refine br_c (fun z => ?_) (fun z => ?_)
      · rw [hr_dif0 _ _ (by omega)] at z
        have z2 : hr_B bits r d = bt q d := z
        rw [hr_af_s z2] at h
        exact nm_r (e' := nI (c - d)) (by rw [nI_1]; exact congrArg nI (by omega)) (ih w (by omega) (by omega) h)
      · rw [hr_dif0 _ _ (by omega)] at z
        have z2 : ¬ hr_B bits r d = bt q d := z
        rw [hr_af_d z2] at h
        exact hy_f68 hM (by omega) h
  have K2 := K c (c + 1) (Nat.lt_succ_self c) (Nat.le_refl c) h
  rw [Nat.sub_self] at K2
  exact ⟨c + 1, K2⟩
theorem hy_fit {post : Int32 → Prop} (hn : n ≤ 8) {c : Nat} {q : Int32} (hc : c ≤ 12) (h : post (nI (hr_yf (hr_B bits) n c (bt q)))) : ∃ w, wY_fit_23 post (nI c) q (nI n) bits w 0 0 := by
  have K := hr_lpE (fun w r => wY_fit_23 post (nI c) q (nI n) bits w (nI (hr_mx (fun r => c - hr_af (hr_B bits r) (bt q) c) r)) (nI r)) n 0 (Nat.zero_le _) ?_ ?_
  · exact K
  · intro w
    unfold wY_fit_23
    exact br_t (nI_le (Nat.le_refl _) (by omega)) h
  · intro w r _ hr hw
    unfold wY_fit_23
    exact br_f (nI_ge hr (by omega)) (hy_f35 hc (hr_mx_le (fun i _ => by omega)) (by omega) hw)
end
end
section
/-! pure laws: X's answer is Y's -/
theorem hr_P_sym (B : Nat → Nat → Bool) (c m r s : Nat) : hr_q (hr_P B c m r s) = hr_q (hr_P B c m s r) := by
  refine hr_q_i ?_
  unfold hr_P hr_pt
  rw [hr_af_comm (B r) (B s) c]
  constructor
  · rintro ⟨h1, h2 | h2⟩
    · exact ⟨h1, Or.inl h2⟩
    · exact ⟨h1, Or.inr (fun e => h2 e.symm)⟩
  · rintro ⟨h1, h2 | h2⟩
    · exact ⟨h1, Or.inl h2⟩
    · exact ⟨h1, Or.inr (fun e => h2 e.symm)⟩
theorem hr_xe_eq (B : Nat → Nat → Bool) (n m c : Nat) : hr_xe B n m c = hr_sm (fun r => hr_sm (fun s => if r < s then hr_q (hr_P B c m r s) else 0) n) n :=
  hr_sm_prs B n c (fun r s => hr_q (hr_P B c m r s)) (fun r s => hr_P_sym B c m r s)
theorem hr_sm_144 (g : Nat → Nat → Nat) : hr_sm (fun st => g (st / 12) (st % 12)) 144 = hr_sm (fun b => hr_sm (fun a => g a b) 12) 12 := by
  have h := hr_sm_pair g 12 12 (by decide)
  rw [show 12 * 12 = 144 from rfl] at h
  rw [h]
  exact hr_sm_sw g 12 12
theorem hr_ym_a (B : Nat → Nat → Bool) (n m r s b : Nat) (hm : 1 ≤ m) (hb : b < 12) : hr_sm (fun a => hr_q (hr_yp B n m r s a b)) 12 = hr_q (r < s ∧ s < n ∧ hr_P B (b + 1) m r s) := by
  by_cases h : r < s ∧ s < n ∧ hr_P B (b + 1) m r s
  · have h1 := h.2.2.1
    rw [hr_q_t h, hr_sm_one (a := hr_af (B r) (B s) (b + 1)) (by omega) (fun a _ hne => hr_q_f (fun z => hne z.2.2.2.1.symm))]
    exact hr_q_t ⟨h.1, h.2.1, h1, rfl, h.2.2.2⟩
  · rw [hr_q_f h]
    refine hr_sm_0 (fun a _ => hr_q_f (fun z => h ⟨z.1, z.2.1, ?_, z.2.2.2.2⟩))
    rw [z.2.2.2.1]
    exact z.2.2.1
theorem hr_matches (B : Nat → Nat → Bool) (n m : Nat) (hn : n ≤ 8) (hm : 1 ≤ m) : hr_ym B n m = hr_xm B n m := by
  have e1 : hr_ym B n m = hr_sm (fun r => hr_sm (fun s => hr_sm (fun b => hr_q (r < s ∧ s < n ∧ hr_P B (b + 1) m r s)) 12) 8) 8 := by
    have h := hr_sm_pair (fun r s => hr_sm (fun st => hr_q (hr_yp B n m r s (st / 12) (st % 12))) 144) 8 8 (by decide)
    have h2 : hr_ym B n m = hr_sm (fun p => (fun r s => hr_sm (fun st => hr_q (hr_yp B n m r s (st / 12) (st % 12))) 144) (p / 8) (p % 8)) (8 * 8) := rfl
    rw [h2, h]
    refine hr_sm_cg (fun r _ => hr_sm_cg (fun s _ => ?_))
    show hr_sm (fun st => hr_q (hr_yp B n m r s (st / 12) (st % 12))) 144 = _
    rw [hr_sm_144 (fun a b => hr_q (hr_yp B n m r s a b))]
    exact hr_sm_cg (fun b hb => hr_ym_a B n m r s b hm hb)
  have e2 : hr_sm (fun r => hr_sm (fun s => hr_sm (fun b => hr_q (r < s ∧ s < n ∧ hr_P B (b + 1) m r s)) 12) 8) 8 = hr_sm (fun b => hr_sm (fun r => hr_sm (fun s => hr_q (r < s ∧ s < n ∧ hr_P B (b + 1) m r s)) 8) 8) 12 := by
    have h : hr_sm (fun r => hr_sm (fun s => hr_sm (fun b => hr_q (r < s ∧ s < n ∧ hr_P B (b + 1) m r s)) 12) 8) 8 = hr_sm (fun r => hr_sm (fun b => hr_sm (fun s => hr_q (r < s ∧ s < n ∧ hr_P B (b + 1) m r s)) 8) 12) 8 :=
      hr_sm_cg (fun r _ => hr_sm_sw (fun s b => hr_q (r < s ∧ s < n ∧ hr_P B (b + 1) m r s)) 8 12)
    rw [h]
    exact hr_sm_sw (fun r b => hr_sm (fun s => hr_q (r < s ∧ s < n ∧ hr_P B (b + 1) m r s)) 8) 8 12
  rw [e1, e2]
  refine hr_sm_cg (fun b hb => ?_)
  show hr_sm (fun r => hr_sm (fun s => hr_q (r < s ∧ s < n ∧ hr_P B (b + 1) m r s)) 8) 8 = hr_xe B n m (b + 1)
  rw [hr_xe_eq]
  have e3 : ∀ r, hr_sm (fun s => hr_q (r < s ∧ s < n ∧ hr_P B (b + 1) m r s)) 8 = hr_sm (fun s => if r < s then hr_q (hr_P B (b + 1) m r s) else 0) n := by
    intro r
    rw [hr_sm_ext (f := fun s => hr_q (r < s ∧ s < n ∧ hr_P B (b + 1) m r s)) hn (fun s h1 _ => hr_q_f (fun z => by have := z.2.1; omega))]
    refine hr_sm_cg (fun s hs => ?_)
    by_cases h : r < s
    · rw [if_pos h]
      exact hr_q_i ⟨fun z => z.2.2, fun z => ⟨h, hs, z⟩⟩
    · rw [if_neg h]
      exact hr_q_f (fun z => h z.1)
  rw [hr_sm_cg (fun r _ => e3 r)]
  refine hr_sm_ext hn (fun r h1 _ => hr_sm_0 (fun s hs => if_neg (by omega)))
/-! winning -/
theorem hr_yw_iff (B : Nat → Nat → Bool) {n r s a b : Nat} (hs : s < n) (hb : b < 12) : hr_yw B n r s a b ↔ hr_af (B r) (B s) (b + 1) = a ∧ hr_W B n r (b + 1) s := by
  have hmle := hr_mn_le B r (b + 1) n
  constructor
  · rintro ⟨h1, h2, ⟨h3, h4⟩, h5⟩
    have hge : ∀ t, t < n → t ≠ r → a ≤ hr_af (B r) (B t) (b + 1) := by
      intro t ht hne
      rcases Nat.lt_or_ge (hr_af (B r) (B t) (b + 1)) a with h | h
      · exact absurd ⟨t, ht, hne, Or.inl ⟨by omega, by omega⟩⟩ h5
      · exact h
    have hma : hr_mn B r (b + 1) n = a := by
      refine (hr_mn_u B r (b + 1) n a (by omega) hge (Or.inr ⟨s, hs, h1, h3.symm⟩)).symm
    refine ⟨h3, by omega, ⟨h1, by rw [h3, hma]⟩, ?_⟩
    rintro ⟨t, ht, ⟨hne, hat⟩, hpt⟩
    apply h5
    refine ⟨t, ht, hne, Or.inr ?_⟩
    have e1 : b + 1 ≠ 12 := fun e => hpt (Or.inl e)
    have e2 : B r (b + 1) = B t (b + 1) := Classical.byContradiction (fun z => hpt (Or.inr z))
    rw [hr_af_s e2]
    exact ⟨by omega, by omega⟩
  · rintro ⟨h1, h2, ⟨h3, h4⟩, h5⟩
    refine ⟨h3, by omega, ⟨h1, ?_⟩, ?_⟩
    · exact Classical.byContradiction (fun z => h5 ⟨s, hs, ⟨h3, h4⟩, z⟩)
    · rintro ⟨t, ht, hne, h | h⟩
      · have := hr_mn_lb B r (b + 1) n t ht hne
        omega
      · have h6 := hr_mn_lb B r (b + 1) n t ht hne
        by_cases e2 : B r (b + 1) = B t (b + 1)
        · rw [hr_af_s e2] at h
          apply h5
          refine ⟨t, ht, ⟨hne, by omega⟩, ?_⟩
          rintro (z | z)
          · omega
          · exact z e2
        · rw [hr_af_d e2] at h
          omega
theorem hr_yw_a (B : Nat → Nat → Bool) {n r s b : Nat} (hs : s < n) (hb : b < 12) : hr_sm (fun a => hr_q (hr_yw B n r s a b)) 12 = hr_q (hr_W B n r (b + 1) s) := by
  by_cases h : hr_W B n r (b + 1) s
  · have h1 := h.1
    have h2 := h.2.1.2
    rw [hr_q_t h, hr_sm_one (a := hr_af (B r) (B s) (b + 1)) (by omega) (fun a _ hne => hr_q_f (fun z => hne ((hr_yw_iff B hs hb).mp z).1.symm))]
    exact hr_q_t ((hr_yw_iff B hs hb).mpr ⟨rfl, h⟩)
  · rw [hr_q_f h]
    exact hr_sm_0 (fun a _ => hr_q_f (fun z => h ((hr_yw_iff B hs hb).mp z).2))
theorem hr_winning (B : Nat → Nat → Bool) (n r : Nat) : hr_sm (fun s => hr_sm (hr_ywi B n r s) 144) n = hr_sm (fun t => hr_xw B n r (t + 1)) 12 := by
  have e1 : hr_sm (fun s => hr_sm (hr_ywi B n r s) 144) n = hr_sm (fun s => hr_sm (fun b => hr_q (hr_W B n r (b + 1) s)) 12) n := by
    refine hr_sm_cg (fun s hs => ?_)
    show hr_sm (fun st => hr_q (hr_yw B n r s (st / 12) (st % 12))) 144 = _
    rw [hr_sm_144 (fun a b => hr_q (hr_yw B n r s a b))]
    exact hr_sm_cg (fun b hb => hr_yw_a B hs hb)
  rw [e1]
  exact hr_sm_sw (fun s b => hr_q (hr_W B n r (b + 1) s)) n 12
/-! cover -/
theorem hr_cover (B : Nat → Nat → Bool) (n r col : Nat) : hr_yc B n r col = hr_xc B n r col := by
  refine Nat.le_antisymm ?_ ?_
  · refine hr_mx_le (fun s hs => ?_)
    unfold hr_ycs
    split
    · exact Nat.zero_le _
    · rename_i hne
      refine hr_mx_le (fun b hb => ?_)
      unfold hr_ycf
      split
      · rename_i h
        have h1 := hr_mn_lb B r (b + 1) n s hs hne
        have h2 : hr_xcf B n r col b ≤ hr_xc B n r col := hr_mx_ub hb
        unfold hr_xcf at h2
        rw [if_pos ⟨h.1, by omega⟩] at h2
        omega
      · exact Nat.zero_le _
  · refine hr_mx_le (fun t ht => ?_)
    unfold hr_xcf
    split
    · rename_i h
      rcases hr_mn_at B r (t + 1) n with e | ⟨s, hs, hne, e⟩
      · omega
      · have h1 : hr_ycs B r col s ≤ hr_yc B n r col := hr_mx_ub hs
        have h2 : hr_ycf B r col s t ≤ hr_mx (hr_ycf B r col s) 12 := hr_mx_ub ht
        unfold hr_ycs at h1
        rw [if_neg hne] at h1
        unfold hr_ycf at h2
        rw [if_pos ⟨h.1, by omega⟩] at h2
        unfold hr_ycf at h1
        omega
    · exact Nat.zero_le _
/-! kinds -/
noncomputable def hr_kd (E : Nat → Nat → Prop) : List Nat → Nat
  | [] => 0
  | x :: l => hr_q (∀ y, y ∈ l → ¬ E x y) + hr_kd E l
theorem hr_kd_perm (E : Nat → Nat → Prop) (hs : ∀ x y, E x y → E y x) (ht : ∀ x y z, E x y → E y z → E x z) {l1 l2 : List Nat} (h : l1.Perm l2) : hr_kd E l1 = hr_kd E l2 := by
  induction h with
  | nil => rfl
  | cons x p ih =>
    rename_i l1 l2
    show hr_q (∀ y, y ∈ l1 → ¬ E x y) + hr_kd E l1 = hr_q (∀ y, y ∈ l2 → ¬ E x y) + hr_kd E l2
    rw [ih, hr_q_i (P := ∀ y, y ∈ l1 → ¬ E x y) (Q := ∀ y, y ∈ l2 → ¬ E x y) ⟨fun z y hy => z y (p.mem_iff.mpr hy), fun z y hy => z y (p.mem_iff.mp hy)⟩]
  | swap x y l =>
    show hr_q (∀ z, z ∈ x :: l → ¬ E y z) + (hr_q (∀ z, z ∈ l → ¬ E x z) + hr_kd E l) = hr_q (∀ z, z ∈ y :: l → ¬ E x z) + (hr_q (∀ z, z ∈ l → ¬ E y z) + hr_kd E l)
    by_cases e : E x y
    · rw [hr_q_f (P := ∀ z, z ∈ x :: l → ¬ E y z) (fun z => z x (List.mem_cons_self) (hs _ _ e)), hr_q_f (P := ∀ z, z ∈ y :: l → ¬ E x z) (fun z => z y (List.mem_cons_self) e), hr_q_i (P := ∀ z, z ∈ l → ¬ E x z) (Q := ∀ z, z ∈ l → ¬ E y z) ⟨fun h z hz q => h z hz (ht _ _ _ e q), fun h z hz q => h z hz (ht _ _ _ (hs _ _ e) q)⟩]
    · rw [hr_q_i (P := ∀ z, z ∈ x :: l → ¬ E y z) (Q := ∀ z, z ∈ l → ¬ E y z) ⟨fun h z hz => h z (List.mem_cons_of_mem _ hz), fun h z hz => by
        rcases List.mem_cons.mp hz with q | q
        · rw [q]; exact fun w => e (hs _ _ w)
        · exact h z q⟩, hr_q_i (P := ∀ z, z ∈ y :: l → ¬ E x z) (Q := ∀ z, z ∈ l → ¬ E x z) ⟨fun h z hz => h z (List.mem_cons_of_mem _ hz), fun h z hz => by
        rcases List.mem_cons.mp hz with q | q
        · rw [q]; exact e
        · exact h z q⟩]
      omega
  | trans p1 p2 i1 i2 => exact i1.trans i2
def hr_rl (o : Nat → Nat) : Nat → List Nat
  | 0 => []
  | n + 1 => o n :: hr_rl o n
theorem hr_rl_eq (o : Nat → Nat) (n : Nat) : hr_rl o n = ((List.range n).map o).reverse := by
  induction n with
  | zero => rfl
  | succ n ih =>
    rw [List.range_succ, List.map_append, List.reverse_append, ← ih]
    rfl
theorem hr_rl_mem (o : Nat → Nat) (n y : Nat) : y ∈ hr_rl o n ↔ ∃ j, j < n ∧ y = o j := by
  induction n with
  | zero => exact ⟨fun h => absurd h (List.not_mem_nil), fun ⟨j, hj, _⟩ => absurd hj (Nat.not_lt_zero j)⟩
  | succ n ih =>
    show y ∈ o n :: hr_rl o n ↔ _
    rw [List.mem_cons, ih]
    constructor
    · rintro (h | ⟨j, hj, e⟩)
      · exact ⟨n, Nat.lt_succ_self n, h⟩
      · exact ⟨j, by omega, e⟩
    · rintro ⟨j, hj, e⟩
      by_cases h : j = n
      · exact Or.inl (by rw [e, h])
      · exact Or.inr ⟨j, by omega, e⟩
theorem hr_kd_rl (E : Nat → Nat → Prop) (o : Nat → Nat) (n : Nat) : hr_kd E (hr_rl o n) = hr_sm (fun i => hr_q (∀ j, j < i → ¬ E (o i) (o j))) n := by
  induction n with
  | zero => rfl
  | succ n ih =>
    show hr_q (∀ y, y ∈ hr_rl o n → ¬ E (o n) y) + hr_kd E (hr_rl o n) = hr_sm (fun i => hr_q (∀ j, j < i → ¬ E (o i) (o j))) n + hr_q (∀ j, j < n → ¬ E (o n) (o j))
    rw [ih, hr_q_i (P := ∀ y, y ∈ hr_rl o n → ¬ E (o n) y) (Q := ∀ j, j < n → ¬ E (o n) (o j)) ⟨fun h j hj => h (o j) ((hr_rl_mem o n _).mpr ⟨j, hj, rfl⟩), fun h y hy => by
      obtain ⟨j, hj, e⟩ := (hr_rl_mem o n _).mp hy
      rw [e]
      exact h j hj⟩]
    exact Nat.add_comm _ _
theorem hr_kinds (B : Nat → Nat → Bool) (n a c : Nat) : hr_sm (fun r => hr_q (∀ t, t < r → ¬ hr_af (B r) (B t) c ≤ a)) n = hr_sm (fun i => hr_q (i = 0 ∨ a < hr_b B n c i)) n := by
  have e1 : hr_sm (fun i => hr_q (i = 0 ∨ a < hr_b B n c i)) n = hr_sm (fun i => hr_q (∀ j, j < i → ¬ hr_af (B (hr_o B n c i)) (B (hr_o B n c j)) c ≤ a)) n := by
    refine hr_sm_cg (fun i hi => hr_q_i ?_)
    cases i with
    | zero => exact ⟨fun _ j hj => absurd hj (Nat.not_lt_zero j), fun _ => Or.inl rfl⟩
    | succ t =>
      rw [hr_b_s]
      constructor
      · rintro (h | h)
        · omega
        · intro j hj
          rw [hr_af_comm, hr_o3 B (i := j) (j := t) (k := t + 1) (by omega) (by omega) hi]
          have := Nat.le_max_right (hr_af (B (hr_o B n c j)) (B (hr_o B n c t)) c) (hr_af (B (hr_o B n c t)) (B (hr_o B n c (t + 1))) c)
          omega
      · intro h
        have h1 := h t (Nat.lt_succ_self t)
        rw [hr_af_comm] at h1
        exact Or.inr (by omega)
  have e2 := hr_kd_rl (fun r s => hr_af (B r) (B s) c ≤ a) (hr_o B n c) n
  have e3 := hr_kd_rl (fun r s => hr_af (B r) (B s) c ≤ a) (fun i => i) n
  have e4 : (hr_rl (hr_o B n c) n).Perm (hr_rl (fun i => i) n) := by
    rw [hr_rl_eq, hr_rl_eq, hr_o_map]
    have e5 : (List.range n).map (fun i => i) = List.range n := List.map_id' _
    rw [e5]
    exact ((List.reverse_perm _).trans (hr_L_perm B n c)).trans (List.reverse_perm _).symm
  have e6 := hr_kd_perm (fun r s => hr_af (B r) (B s) c ≤ a) (fun x y h => by rw [hr_af_comm]; exact h) (fun x y z h1 h2 => hr_af_tri _ _ _ c a h1 h2) e4
  rw [e1, ← e2, e6, e3]
/-! fit -/
theorem hr_fit (B : Nat → Nat → Bool) (n c : Nat) (Q : Nat → Bool) : hr_yf B n c Q = hr_xf B n c Q := by
  have hP : hr_fp B n c Q ≤ n := hr_pc_le _ n
  have hat : hr_fp B n c Q = 0 ∨ ∃ t, hr_fp B n c Q = t + 1 ∧ hr_cb false (B (hr_o B n c t)) Q c = true := hr_pc_at (fun i => hr_cb false (B (hr_o B n c i)) Q c) n
  have hgt : ∀ k, hr_fp B n c Q ≤ k → k < n → ¬ hr_cb false (B (hr_o B n c k)) Q c = true := fun k h1 h2 => hr_pc_gt (fun i => hr_cb false (B (hr_o B n c i)) Q c) n k h1 h2
  have hub : ∀ i, i < n → c - hr_af (B (hr_o B n c i)) Q c ≤ hr_yf B n c Q := fun i hi => hr_mx_ub (f := fun r => c - hr_af (B r) Q c) (hr_o_lt B hi)
  refine Nat.le_antisymm ?_ ?_
  · refine hr_mx_le (fun r hr => ?_)
    obtain ⟨i, hi, rfl⟩ := hr_o_sur B (c := c) hr
    unfold hr_xf
    rcases Nat.lt_or_ge i (hr_fp B n c Q) with h | h
    · refine Nat.le_trans ?_ (Nat.le_max_left _ _)
      rcases hat with e | ⟨t, e, ht⟩
      · omega
      · rw [if_neg (by omega), e, Nat.add_sub_cancel, hr_af_mx _ _ _ c (hr_o_le B (by omega : i ≤ t) (by omega)) (hr_cb_tt _ _ c ht)]
        have := Nat.le_max_right (hr_af (B (hr_o B n c i)) (B (hr_o B n c t)) c) (hr_af (B (hr_o B n c t)) Q c)
        omega
    · refine Nat.le_trans ?_ (Nat.le_max_right _ _)
      have hlt : hr_fp B n c Q < n := by omega
      rw [if_pos hlt]
      have h1 := hgt _ (Nat.le_refl _) hlt
      have h2 : hr_cb true Q (B (hr_o B n c (hr_fp B n c Q))) c = true := by
        rw [hr_cb_neg] at h1
        revert h1
        show ¬ (!(hr_cb true Q (B (hr_o B n c (hr_fp B n c Q))) c)) = true → _
        cases hr_cb true Q (B (hr_o B n c (hr_fp B n c Q))) c <;> simp
      rw [hr_af_comm (B (hr_o B n c i)) Q, hr_af_comm (B (hr_o B n c (hr_fp B n c Q))) Q, hr_af_mx _ _ _ c h2 (hr_o_le B h hi)]
      have := Nat.le_max_left (hr_af Q (B (hr_o B n c (hr_fp B n c Q))) c) (hr_af (B (hr_o B n c (hr_fp B n c Q))) (B (hr_o B n c i)) c)
      omega
  · unfold hr_xf
    refine Nat.max_le.mpr ⟨?_, ?_⟩
    · split
      · exact Nat.zero_le _
      · exact hub _ (by omega)
    · split
      · exact hub _ (by omega)
      · exact Nat.zero_le _
end
section
/-! arguments: checks of rows, columns, bits on both sides; the relation -/
theorem hr_ge {x : Int32} {m : Nat} (hm : m < 2 ^ 31) (h : nI m ≤ x) : (m : Int) ≤ x.toInt := by
  rw [Int32.le_iff_toInt_le, nI_toInt hm] at h
  exact h
theorem hr_13 {x : Int32} (h : nI 13 ≤ x) : 12 < x := by
  have h1 := hr_ge (m := 13) (by decide) h
  rw [Int32.lt_iff_toInt_lt, show (12 : Int32).toInt = 12 by decide]
  omega
theorem hr_12a {x : Int32} (h : nI 12 ≤ x) : ¬ x < 12 := by
  have h1 := hr_ge (m := 12) (by decide) h
  rw [Int32.lt_iff_toInt_lt, show (12 : Int32).toInt = 12 by decide]
  omega
theorem hr_12b {x : Int32} (h : nI 12 ≤ x) : ¬ x ≤ 11 := by
  have h1 := hr_ge (m := 12) (by decide) h
  rw [Int32.le_iff_toInt_le, show (11 : Int32).toInt = 11 by decide]
  omega
theorem hr_12c (x : Int32) : 12 ≤ x ↔ 11 < x := by
  rw [Int32.le_iff_toInt_le, Int32.lt_iff_toInt_lt, show (11 : Int32).toInt = 11 by decide, show (12 : Int32).toInt = 12 by decide]
  omega
theorem hr_nle (x y : Int32) : ¬ x ≤ y ↔ y < x := Int32.not_le
section
variable {n : Nat} {fb : Int32} {bits od bg on ob : Nat → Int32}
theorem hx_noRow_1 {post : Int32 → Prop} {v : Int32} (h : v < 0 ∨ nI n ≤ v) (hp : post 1) : wpX_noRow post (nI n, fb, bits, od, bg, on, ob) v := by
  unfold wpX_noRow
  dsimp only
  rcases h with h | h
  · exact br_t h hp
  · exact br_c (fun _ => hp) (fun _ => br_f (Int32.not_lt.mpr h) hp)
theorem hx_noRow_0 {post : Int32 → Prop} {r : Nat} (hn : n ≤ 8) (hr : r < n) (hp : post 0) : wpX_noRow post (nI n, fb, bits, od, bg, on, ob) (nI r) := by
  unfold wpX_noRow
  dsimp only
  exact br_f (nI_pos (by omega)) (br_t (nI_lt hr (by omega)) hp)
theorem hy_isRow_0 {post : Int32 → Prop} {v : Int32} (h : v < 0 ∨ nI n ≤ v) (hp : post 0) : wpY_isRow post (nI n, bits) v := by
  unfold wpY_isRow
  dsimp only
  rcases h with h | h
  · exact br_t h hp
  · exact br_c (fun _ => hp) (fun _ => br_t h hp)
theorem hy_isRow_1 {post : Int32 → Prop} {r : Nat} (hn : n ≤ 8) (hr : r < n) (hp : post 1) : wpY_isRow post (nI n, bits) (nI r) := by
  unfold wpY_isRow
  dsimp only
  exact br_f (nI_pos (by omega)) (br_f (nI_ge hr (by omega)) hp)
theorem hy_isB {post : Int32 → Prop} {v : Int32} (h0 : (v < 0 ∨ ¬ v ≤ 4095) → post 0) (h1 : ¬ v < 0 → v ≤ 4095 → post 1) : wpY_isBits post (nI n, bits) v := by
  unfold wpY_isBits
  dsimp only
  exact br_c (fun a => h0 (Or.inl a)) (fun a => br_c (fun b => h0 (Or.inr (Int32.not_le.mpr b))) (fun b => h1 a (Int32.not_lt.mp b)))
theorem hy_isCol {post : Int32 → Prop} {v : Int32} (h0 : (v < 0 ∨ 12 < v) → post 0) (h1 : ¬ v < 0 → ¬ 12 < v → post 1) : wpY_isColumn post (nI n, bits) v := by
  unfold wpY_isColumn
  dsimp only
  exact br_c (fun a => h0 (Or.inl a)) (fun a => br_c (fun b => h0 (Or.inr b)) (fun b => h1 a b))
theorem hx_noPl_1 {post : Int32 → Prop} {v1 v2 : Int32} (h : v1 < 0 ∨ 12 < v1 ∨ v2 < 0 ∨ nI n ≤ v2) (hp : post 1) : wpX_noPlace post (nI n, fb, bits, od, bg, on, ob) v1 v2 := by
  unfold wpX_noPlace
  dsimp only
  refine br_c (fun _ => hp) (fun a => br_c (fun _ => hp) (fun b => br_c (fun _ => hp) (fun c => br_c (fun d => ?_) (fun _ => hp))))
  rcases h with h | h | h | h
  · exact absurd h a
  · exact absurd h b
  · exact absurd h c
  · exact absurd d (Int32.not_lt.mpr h)
theorem hx_noPl_0 {post : Int32 → Prop} {c i : Nat} (hn : n ≤ 8) (hc : c ≤ 12) (hi : i < n) (hp : post 0) : wpX_noPlace post (nI n, fb, bits, od, bg, on, ob) (nI c) (nI i) := by
  unfold wpX_noPlace
  dsimp only
  exact br_f (nI_pos (by omega)) (br_f (nI_nlt (a := 12) hc (by decide)) (br_f (nI_pos (by omega)) (br_t (nI_lt hi (by omega)) hp)))
end
/-- same count, same rows; the arrays hold the orders unless they are to be built -/
def i_Rel (k : Nat) (u : SX) (v : SY) : Prop := ∃ n : Nat, n ≤ 8 ∧ u.1 = nI n ∧ v = (nI n, u.2.2.1) ∧ (¬ u.2.1 = 0 → hr_Bt n u.2.2.1 u.2.2.2.1 u.2.2.2.2.1)
theorem i_up {k : Nat} {u : SX} {v : SY} (h : i_Rel k u v) : i_Rel (k + 4) u v := h
theorem hr_in {k n : Nat} {fb : Int32} {bits od bg on ob : Nat → Int32} (hn : n ≤ 8) (hB : ¬ fb = 0 → hr_Bt n bits od bg) : i_Rel k (nI n, fb, bits, od, bg, on, ob) (nI n, bits) := ⟨n, hn, rfl, rfl, hB⟩
theorem hr_el {k : Nat} {u : SX} {v : SY} {P : SX → SY → Prop} (I : i_Rel k u v) (h : ∀ (n : Nat) (fb : Int32) (bits od bg on ob : Nat → Int32), n ≤ 8 → (¬ fb = 0 → hr_Bt n bits od bg) → P (nI n, fb, bits, od, bg, on, ob) (nI n, bits)) : P u v := by
  obtain ⟨fc, fb, bits, od, bg, on, ob⟩ := u
  obtain ⟨n, hn, e1, e2, hB⟩ := I
  dsimp only at e1 e2 hB
  subst e1 e2
  exact h n fb bits od bg on ob hn hB
theorem i_vc0 : wpX_init (fun u => wpY_init (fun v => i_Rel 0 u v)) := by
  unfold wpX_init wpY_init
  exact ⟨0, by decide, rfl, rfl, fun h => absurd rfl h⟩
end
section
/-! what is owed: one statement a method -/
theorem hr_ixo (x : Int32) {n : Nat} (hn : n ≤ 8) : (x < 0 ∨ nI n ≤ x) ∨ ∃ j, j < n ∧ x = nI j := by
  rcases pk_ix x (n := n) (by omega) with h | h | h
  · exact Or.inl (Or.inl h)
  · exact Or.inl (Or.inr h)
  · exact Or.inr h
theorem hr_ixk (x : Int32) : (x < 0 ∨ 12 < x) ∨ ∃ c, c ≤ 12 ∧ x = nI c := by
  rcases pk_ix x (n := 13) (by decide) with h | h | ⟨c, hc, e⟩
  · exact Or.inl (Or.inl h)
  · exact Or.inl (Or.inr (hr_13 h))
  · exact Or.inr ⟨c, by omega, e⟩
theorem hr_out {x : Int32} {n : Nat} (hn : n ≤ 8) (h : x < 0 ∨ nI n ≤ x) (i : Nat) (hi : i < n) : ¬ nI i = x := by
  intro e
  rcases h with h | h
  · exact nI_pos (n := i) (by omega) (by rw [e]; exact h)
  · exact nI_ge hi (by omega) (by rw [e]; exact h)
theorem i_vc_add {k : Nat} {u : SX} {v : SY} (I : i_Rel k u v) (hk : k + 4 ≤ 2048) (v1 : Int32) : wpX_add (fun r u' => wpY_add (fun r' v' => r' = r ∧ i_Rel (k + 4) u' v') v v1) u v1 := by
  refine hr_el (P := fun u v => wpX_add (fun r u' => wpY_add (fun r' v' => r' = r ∧ i_Rel (k + 4) u' v') v v1) u v1) I ?_
  intro n fb bits od bg on ob hn hB
  have Yb : ∀ (post : Int32 → SY → Prop), (v1 < 0 ∨ ¬ v1 ≤ 4095) → post (-1) (nI n, bits) → wpY_add post (nI n, bits) v1 := by
    intro post hv hp
    unfold wpY_add
    dsimp only
    refine hy_isB (fun _ => br_t rfl hp) (fun a b => ?_)
    rcases hv with hv | hv
    · exact absurd hv a
    · exact absurd b hv
  unfold wpX_add
  dsimp only
  by_cases h0 : v1 < 0
  · exact br_t h0 (Yb _ (Or.inl h0) ⟨rfl, hr_in hn hB⟩)
  · refine br_f h0 ?_
    by_cases h1 : v1 ≤ 4095
    · refine br_t h1 ?_
      have Yg : ∀ (post : Int32 → Prop), post 1 → wpY_isBits post (nI n, bits) v1 := by
        intro post hp
        refine hy_isB (fun z => ?_) (fun _ _ => hp)
        rcases z with z | z
        · exact absurd z h0
        · exact absurd h1 z
      refine pk_eq n 8 (fun e => ?_) (fun e => ?_)
      · unfold wpY_add
        dsimp only
        exact Yg _ (br_f (by decide) (br_t (by rw [e]; rfl) ⟨rfl, hr_in hn hB⟩))
      · refine ⟨vp_in_nI (by omega) (by omega), nm_e (nm_r (nI_1 n) ?_)⟩
        unfold wpY_add
        dsimp only
        refine Yg _ (br_f (by decide) (br_f (fun z => e ((nI_eq (b := 8) (by omega) (by decide)).mp z)) ⟨vp_in_nI (by omega) (by omega), nm_e (nm_r (nI_1 n) ⟨rfl, hr_in (by omega) (fun z => absurd rfl z)⟩)⟩))
    · exact br_f h1 (Yb _ (Or.inr h1) ⟨rfl, hr_in hn hB⟩)
theorem i_vc_remove {k : Nat} {u : SX} {v : SY} (I : i_Rel k u v) (hk : k + 4 ≤ 2048) : wpX_remove (fun r u' => wpY_remove (fun r' v' => r' = r ∧ i_Rel (k + 4) u' v') v) u := by
  refine hr_el (P := fun u v => wpX_remove (fun r u' => wpY_remove (fun r' v' => r' = r ∧ i_Rel (k + 4) u' v') v) u) I ?_
  intro n fb bits od bg on ob hn hB
  unfold wpX_remove wpY_remove
  dsimp only
  refine pk_eq n 0 (fun e => ?_) (fun e => ?_)
  · exact br_t (by rw [e]; rfl) ⟨rfl, hr_in hn hB⟩
  · obtain ⟨t, rfl⟩ : ∃ t, n = t + 1 := ⟨n - 1, by omega⟩
    exact nm_r (nI_pred t) ⟨vp_in_nI (by omega) (by omega), br_f (nI_ne0 (by omega) (by omega)) (nm_r (nI_pred t) ⟨vp_in_nI (by omega) (by omega), rfl, hr_in (by omega) (fun z => absurd rfl z)⟩)⟩
theorem i_vc_turn {k : Nat} {u : SX} {v : SY} (I : i_Rel k u v) (hk : k + 4 ≤ 2048) (v1 : Int32) (v2 : Int32) : wpX_turn (fun r u' => wpY_turn (fun r' v' => r' = r ∧ i_Rel (k + 4) u' v') v v1 v2) u v1 v2 := by
  refine hr_el (P := fun u v => wpX_turn (fun r u' => wpY_turn (fun r' v' => r' = r ∧ i_Rel (k + 4) u' v') v v1 v2) u v1 v2) I ?_
  intro n fb bits od bg on ob hn hB
  unfold wpX_turn wpY_turn
  dsimp only
  rcases hr_ixo v1 hn with h | ⟨r, hr, rfl⟩
  · exact hx_noRow_1 h (br_f (by decide) (hy_isRow_0 h (br_t rfl ⟨rfl, hr_in hn hB⟩)))
  · refine hx_noRow_0 hn hr (br_t rfl ?_)
    rcases pk_ix v2 (n := 12) (by decide) with h | h | ⟨c, hc, rfl⟩
    · exact br_t h (hy_isRow_1 hn hr (br_f (by decide) (br_t h ⟨rfl, hr_in hn hB⟩)))
    · refine br_c (fun z => ?_) (fun z => br_f (hr_12a h) ?_)
      · exact hy_isRow_1 hn hr (br_f (by decide) (br_t z ⟨rfl, hr_in hn hB⟩))
      · exact hy_isRow_1 hn hr (br_f (by decide) (br_f z (br_f (hr_12b h) ⟨rfl, hr_in hn hB⟩)))
    · have r8 : vp_in (nI r) 8 := vp_in_nI (by omega) (by omega)
      refine br_f (nI_pos (by omega)) (br_t (nI_lt (b := 12) hc (by decide)) ⟨r8, r8, nm_e ⟨r8, ?_⟩⟩)
      exact hy_isRow_1 hn hr (br_f (by decide) (br_f (nI_pos (by omega)) (br_t (nI_le (b := 11) (by omega) (by decide)) ⟨r8, r8, nm_e ⟨r8, rfl, hr_in hn (fun z => absurd rfl z)⟩⟩)))
theorem i_vc_rows {k : Nat} {u : SX} {v : SY} (I : i_Rel k u v) (hk : k + 4 ≤ 2048) : wpX_rows (fun r => wpY_rows (fun r' => r' = r ∧ i_Rel (k + 4) u v) v) u := by
  refine hr_el (P := fun u v => wpX_rows (fun r => wpY_rows (fun r' => r' = r ∧ i_Rel (k + 4) u v) v) u) I ?_
  intro n fb bits od bg on ob hn hB
  unfold wpX_rows wpY_rows
  dsimp only
  exact ⟨rfl, hr_in hn hB⟩
theorem i_vc_ordered {k : Nat} {u : SX} {v : SY} (I : i_Rel k u v) (hk : k + 4 ≤ 2048) (v1 : Int32) (v2 : Int32) : wpX_ordered (fun r u' => wpY_ordered (fun r' => r' = r ∧ i_Rel (k + 4) u' v) v v1 v2) u v1 v2 := by
  refine hr_el (P := fun u v => wpX_ordered (fun r u' => wpY_ordered (fun r' => r' = r ∧ i_Rel (k + 4) u' v) v v1 v2) u v1 v2) I ?_
  intro n fb bits od bg on ob hn hB
  unfold wpX_ordered wpY_ordered
  dsimp only
  rcases hr_ixk v1 with h | ⟨c, hc, rfl⟩
  · exact hx_noPl_1 (h.elim Or.inl (fun z => Or.inr (Or.inl z))) (br_f (by decide) (hy_isCol (fun _ => br_t rfl ⟨rfl, hr_in hn hB⟩) (fun a b => (h.elim a b).elim)))
  · have Yc : ∀ (post : Int32 → Prop), post 1 → wpY_isColumn post (nI n, bits) (nI c) := fun post hp => hy_isCol (fun z => (z.elim (nI_pos (by omega)) (nI_nlt (a := 12) (by omega) (by decide))).elim) (fun _ _ => hp)
    rcases hr_ixo v2 hn with h | ⟨i, hi, rfl⟩
    · exact hx_noPl_1 (Or.inr (Or.inr h)) (br_f (by decide) (Yc _ (br_f (by decide) (hy_rowAt_out hn (by omega) (hr_out hn h) ⟨rfl, hr_in hn hB⟩))))
    · refine hx_noPl_0 hn (by omega) hi (br_t rfl (hx_build hn hB (fun fb od bg on ob HB => ⟨hr_ixin (by omega) (by omega), ?_⟩)))
      exact Yc _ (br_f (by decide) (hy_rowAt_in hn (by omega) hi ⟨(hx_od HB hn (by omega) hi).symm, hr_in hn (fun _ => HB)⟩))
theorem i_vc_since {k : Nat} {u : SX} {v : SY} (I : i_Rel k u v) (hk : k + 4 ≤ 2048) (v1 : Int32) (v2 : Int32) : wpX_since (fun r u' => wpY_since (fun r' => r' = r ∧ i_Rel (k + 4) u' v) v v1 v2) u v1 v2 := by
  refine hr_el (P := fun u v => wpX_since (fun r u' => wpY_since (fun r' => r' = r ∧ i_Rel (k + 4) u' v) v v1 v2) u v1 v2) I ?_
  intro n fb bits od bg on ob hn hB
  unfold wpX_since wpY_since wpY_ordered
  dsimp only
  rcases hr_ixk v1 with h | ⟨c, hc, rfl⟩
  · exact hx_noPl_1 (h.elim Or.inl (fun z => Or.inr (Or.inl z))) (br_f (by decide) (hy_isCol (fun _ => br_t rfl (br_f (by decide) ⟨rfl, hr_in hn hB⟩)) (fun a b => (h.elim a b).elim)))
  · have Yc : ∀ (post : Int32 → Prop), post 1 → wpY_isColumn post (nI n, bits) (nI c) := fun post hp => hy_isCol (fun z => (z.elim (nI_pos (by omega)) (nI_nlt (a := 12) (by omega) (by decide))).elim) (fun _ _ => hp)
    rcases hr_ixo v2 hn with h | ⟨i, hi, rfl⟩
    · exact hx_noPl_1 (Or.inr (Or.inr h)) (br_f (by decide) (Yc _ (br_f (by decide) (hy_rowAt_out hn (by omega) (hr_out hn h) (br_f (by decide) ⟨rfl, hr_in hn hB⟩)))))
    · have lo := hr_o_lt (hr_B bits) (c := c) hi
      refine hx_noPl_0 hn (by omega) hi (br_t rfl (hx_build hn hB (fun fb od bg on ob HB => pk_eq i 0 (fun e => ?_) (fun e => ⟨hr_ixin (by omega) (by omega), ?_⟩))))
      · exact Yc _ (br_f (by decide) (hy_rowAt_in hn (by omega) hi (br_t (nI_pos' (by omega)) (br_t (by rw [e]; rfl) ⟨rfl, hr_in hn (fun _ => HB)⟩))))
      · obtain ⟨t, rfl⟩ : ∃ t, i = t + 1 := ⟨i - 1, by omega⟩
        have lo2 := hr_o_lt (hr_B bits) (c := c) (by omega : t < n)
        refine Yc _ (br_f (by decide) (hy_rowAt_in hn (by omega) hi (br_t (nI_pos' (by omega)) (br_f (nI_ne0 (by omega) (by omega)) ?_))))
        rw [nI_pred t]
        refine hy_rowAt_in hn (by omega) (by omega) (hy_agF (by omega) (by omega) (by omega) ⟨?_, hr_in hn (fun _ => HB)⟩)
        have hr := hx_bg HB hn hc hi
        rw [hr_b_s, hr_af_comm] at hr
        exact hr.symm
theorem i_vc_matches {k : Nat} {u : SX} {v : SY} (I : i_Rel k u v) (hk : k + 4 ≤ 2048) (v1 : Int32) : wpX_matches (fun r u' => wpY_matches (fun r' => r' = r ∧ i_Rel (k + 4) u' v) v v1) u v1 := by
  refine hr_el (P := fun u v => wpX_matches (fun r u' => wpY_matches (fun r' => r' = r ∧ i_Rel (k + 4) u' v) v v1) u v1) I ?_
  intro n fb bits od bg on ob hn hB
  by_cases h1 : v1 < 1
  · unfold wpX_matches wpY_matches
    exact br_t h1 (br_t h1 ⟨rfl, hr_in hn hB⟩)
  · by_cases h2 : v1 ≤ 12
    · have h3 : ¬ v1 < 0 := fun z => h1 (Int32.lt_trans z (by decide))
      obtain ⟨m, hm, rfl⟩ := nI_of2 (n := 12) (by decide) h3 h2
      have hm1 : 1 ≤ m := by
        rcases Nat.eq_zero_or_pos m with e | e
        · subst e
          exact absurd (by decide) h1
        · exact e
      refine hx_matches hn hB hm1 hm (fun fb od bg on ob HB => hy_matches hn hm1 hm ⟨?_, hr_in hn (fun _ => HB)⟩)
      rw [hr_matches _ n m hn hm1]
    · unfold wpX_matches wpY_matches
      exact br_f h1 (br_f h2 (br_f h1 (br_f h2 ⟨rfl, hr_in hn hB⟩)))
theorem i_vc_longest {k : Nat} {u : SX} {v : SY} (I : i_Rel k u v) (hk : k + 4 ≤ 2048) (v1 : Int32) (v2 : Int32) : wpX_longest (fun r u' => wpY_longest (fun r' => r' = r ∧ i_Rel (k + 4) u' v) v v1 v2) u v1 v2 := by
  refine hr_el (P := fun u v => wpX_longest (fun r u' => wpY_longest (fun r' => r' = r ∧ i_Rel (k + 4) u' v) v v1 v2) u v1 v2) I ?_
  intro n fb bits od bg on ob hn hB
  unfold wpX_longest wpY_longest
  dsimp only
  rcases hr_ixo v1 hn with h | ⟨r, hr, rfl⟩
  · exact hx_noRow_1 h (br_f (by decide) (hy_isRow_0 h (br_t rfl ⟨rfl, hr_in hn hB⟩)))
  · rcases hr_ixo v2 hn with h | ⟨s, hs, rfl⟩
    · exact hx_noRow_0 hn hr (br_t rfl (hx_noRow_1 h (br_f (by decide) (hy_isRow_1 hn hr (br_f (by decide) (hy_isRow_0 h (br_t rfl ⟨rfl, hr_in hn hB⟩)))))))
    · refine hx_noRow_0 hn hr (br_t rfl (hx_noRow_0 hn hs (br_t rfl (br_c (fun e => ?_) (fun e => ?_)))))
      · exact hy_isRow_1 hn hr (br_f (by decide) (hy_isRow_1 hn hs (br_f (by decide) (br_t e ⟨rfl, hr_in hn hB⟩))))
      · refine hx_build hn hB (fun fb od bg on ob HB => hx_lng HB hn hr hs ?_)
        exact hy_isRow_1 hn hr (br_f (by decide) (hy_isRow_1 hn hs (br_f (by decide) (br_f e (hy_lng (by omega) (by omega) ⟨rfl, hr_in hn (fun _ => HB)⟩)))))
theorem i_vc_winning {k : Nat} {u : SX} {v : SY} (I : i_Rel k u v) (hk : k + 4 ≤ 2048) (v1 : Int32) : wpX_winning (fun r u' => wpY_winning (fun r' => r' = r ∧ i_Rel (k + 4) u' v) v v1) u v1 := by
  refine hr_el (P := fun u v => wpX_winning (fun r u' => wpY_winning (fun r' => r' = r ∧ i_Rel (k + 4) u' v) v v1) u v1) I ?_
  intro n fb bits od bg on ob hn hB
  unfold wpX_winning wpY_winning
  dsimp only
  rcases hr_ixo v1 hn with h | ⟨r, hr, rfl⟩
  · exact hx_noRow_1 h (br_f (by decide) (hy_isRow_0 h (br_t rfl ⟨rfl, hr_in hn hB⟩)))
  · refine hx_noRow_0 hn hr (br_t rfl (hx_build hn hB (fun fb od bg on ob HB => hx_winning HB hn hr ?_)))
    refine hy_isRow_1 hn hr (br_f (by decide) (hy_winning hn hr ⟨?_, hr_in hn (fun _ => HB)⟩))
    rw [hr_winning]
theorem i_vc_cover {k : Nat} {u : SX} {v : SY} (I : i_Rel k u v) (hk : k + 4 ≤ 2048) (v1 : Int32) : wpX_cover (fun r u' => wpY_cover (fun r' => r' = r ∧ i_Rel (k + 4) u' v) v v1) u v1 := by
  refine hr_el (P := fun u v => wpX_cover (fun r u' => wpY_cover (fun r' => r' = r ∧ i_Rel (k + 4) u' v) v v1) u v1) I ?_
  intro n fb bits od bg on ob hn hB
  unfold wpX_cover wpY_cover
  dsimp only
  rcases hr_ixo v1 hn with h | ⟨r, hr, rfl⟩
  · exact hx_noRow_1 h (br_f (by decide) (hy_isRow_0 h (br_t rfl ⟨rfl, hr_in hn hB⟩)))
  · refine hx_noRow_0 hn hr (br_t rfl (hx_build hn hB (fun fb od bg on ob HB => hx_cover HB hn hr ?_)))
    refine hy_isRow_1 hn hr (br_f (by decide) (hy_cover hn hr ⟨?_, hr_in hn (fun _ => HB)⟩))
    rw [hr_sm_cg (fun col _ => hr_cover (hr_B bits) n r col)]
theorem i_vc_kinds {k : Nat} {u : SX} {v : SY} (I : i_Rel k u v) (hk : k + 4 ≤ 2048) (v1 : Int32) (v2 : Int32) : wpX_kinds (fun r u' => wpY_kinds (fun r' => r' = r ∧ i_Rel (k + 4) u' v) v v1 v2) u v1 v2 := by
  refine hr_el (P := fun u v => wpX_kinds (fun r u' => wpY_kinds (fun r' => r' = r ∧ i_Rel (k + 4) u' v) v v1 v2) u v1 v2) I ?_
  intro n fb bits od bg on ob hn hB
  unfold wpX_kinds wpY_kinds
  dsimp only
  by_cases h0 : v1 < 0
  · exact br_t h0 (br_t h0 ⟨rfl, hr_in hn hB⟩)
  · refine br_f h0 ?_
    by_cases h1 : 12 ≤ v2
    · exact br_t h1 (br_f h0 (br_t ((hr_12c v2).mp h1) ⟨rfl, hr_in hn hB⟩))
    · refine br_f h1 ?_
      have h1y : ¬ 11 < v2 := fun z => h1 ((hr_12c v2).mpr z)
      by_cases h2 : v1 ≤ v2
      · refine br_t h2 ?_
        have h3 : ¬ v2 < 0 := fun z => h0 (Int32.lt_of_le_of_lt h2 z)
        obtain ⟨a, ha, rfl⟩ := nI_of h0
        obtain ⟨b, hb, rfl⟩ := nI_of2 (n := 11) (by decide) h3 (Int32.not_lt.mp h1y)
        have hab : a ≤ b := (nI_leI ha (by omega)).mp h2
        refine hx_build hn hB (fun fb od bg on ob HB => hx_kinds HB hn hab (by omega) (br_f h0 (br_f h1y (br_t h2 (hy_kinds hn (by omega) (by omega) ⟨?_, hr_in hn (fun _ => HB)⟩)))))
        rw [hr_kinds]
      · exact br_f h2 (br_f h0 (br_f h1y (br_f h2 ⟨rfl, hr_in hn hB⟩)))
theorem i_vc_having {k : Nat} {u : SX} {v : SY} (I : i_Rel k u v) (hk : k + 4 ≤ 2048) (v1 : Int32) (v2 : Int32) (v3 : Int32) : wpX_having (fun r u' => wpY_having (fun r' => r' = r ∧ i_Rel (k + 4) u' v) v v1 v2 v3) u v1 v2 v3 := by
  refine hr_el (P := fun u v => wpX_having (fun r u' => wpY_having (fun r' => r' = r ∧ i_Rel (k + 4) u' v) v v1 v2 v3) u v1 v2 v3) I ?_
  intro n fb bits od bg on ob hn hB
  have Yb : ∀ (post : Int32 → Prop), (v1 < 0 ∨ 12 < v1 ∨ v2 < 0 ∨ 12 < v2 ∨ 12 < v1 + v2 ∨ v3 < 0 ∨ ¬ v3 ≤ 4095) → post (-1) → wpY_having post (nI n, bits) v1 v2 v3 := by
    intro post hv hp
    unfold wpY_having
    dsimp only
    refine br_c (fun _ => hp) (fun a => br_c (fun _ => hp) (fun b => hy_isCol (fun _ => br_t rfl hp) (fun c d => br_f (by decide) (br_c (fun _ => hp) (fun e => hy_isB (fun _ => br_t rfl hp) (fun f g => ?_))))))
    rcases hv with hv | hv | hv | hv | hv | hv | hv
    · exact absurd hv c
    · exact absurd hv d
    · exact absurd hv a
    · exact absurd hv b
    · exact absurd hv e
    · exact absurd hv f
    · exact absurd g hv
  unfold wpX_having
  dsimp only
  refine br_c (fun z => Yb _ (Or.inl z) ⟨rfl, hr_in hn hB⟩) (fun h1 => ?_)
  refine br_c (fun z => Yb _ (Or.inr (Or.inl z)) ⟨rfl, hr_in hn hB⟩) (fun h2 => ?_)
  refine br_c (fun z => Yb _ (Or.inr (Or.inr (Or.inl z))) ⟨rfl, hr_in hn hB⟩) (fun h3 => ?_)
  refine br_c (fun z => Yb _ (Or.inr (Or.inr (Or.inr (Or.inl z)))) ⟨rfl, hr_in hn hB⟩) (fun h4 => ?_)
  refine br_c (fun z => Yb _ (Or.inr (Or.inr (Or.inr (Or.inr (Or.inl z))))) ⟨rfl, hr_in hn hB⟩) (fun h5 => ?_)
  refine br_c (fun z => Yb _ (Or.inr (Or.inr (Or.inr (Or.inr (Or.inr (Or.inl z)))))) ⟨rfl, hr_in hn hB⟩) (fun h6 => ?_)
  refine br_c (fun h7 => ?_) (fun z => Yb _ (Or.inr (Or.inr (Or.inr (Or.inr (Or.inr (Or.inr z)))))) ⟨rfl, hr_in hn hB⟩)
  obtain ⟨a, ha, rfl⟩ := nI_of2 (n := 12) (by decide) h1 (Int32.not_lt.mp h2)
  obtain ⟨m, hm, rfl⟩ := nI_of2 (n := 12) (by decide) h3 (Int32.not_lt.mp h4)
  have ham : a + m ≤ 12 := by
    have h8 := h5
    rw [nI_add] at h8
    rcases Nat.lt_or_ge 12 (a + m) with z | z
    · exact absurd (nI_lt (a := 12) z (by omega)) h8
    · exact z
  have key : ∀ r s, ((bits r >>> (nI a &&& 31)) &&& (((1 : Int32) <<< (nI m &&& 31)) - 1)) = (v3 &&& (((1 : Int32) <<< (nI m &&& 31)) - 1)) → (((bits s >>> (nI a &&& 31)) &&& (((1 : Int32) <<< (nI m &&& 31)) - 1)) = (v3 &&& (((1 : Int32) <<< (nI m &&& 31)) - 1)) ↔ hr_af (hr_B bits r) (hr_B bits s) (a + m) ≤ a) := by
    intro r s hr
    have h9 := hr_mk (bits r) (bits s) ham
    rw [hr] at h9
    exact ⟨fun z => h9.mp z.symm, fun z => (h9.mpr z).symm⟩
  refine hx_build hn hB (fun fb od bg on ob HB => nm_e (nm_r (nI_add a m) ?_))
  refine hx_having HB hn ham (by omega) (fun r => ((bits r >>> (nI a &&& 31)) &&& (((1 : Int32) <<< (nI m &&& 31)) - 1)) = (v3 &&& (((1 : Int32) <<< (nI m &&& 31)) - 1))) (fun r => Iff.rfl) key ?_
  unfold wpY_having
  dsimp only
  refine br_f h3 (br_f h4 (hy_isCol (fun z => (z.elim h1 h2).elim) (fun _ _ => br_f (by decide) (br_f h5 (hy_isB (fun z => (z.elim h6 (fun y => y h7)).elim) (fun _ _ => br_f (by decide) ?_))))))
  refine hy_having hn (fun r => ((bits r >>> (nI a &&& 31)) &&& (((1 : Int32) <<< (nI m &&& 31)) - 1)) = (v3 &&& (((1 : Int32) <<< (nI m &&& 31)) - 1))) (fun r => hr_wr _ _ _) ⟨?_, hr_in hn (fun _ => HB)⟩
  rw [hr_sm_o (hr_B bits) n (a + m) (fun r => hr_q (((bits r >>> (nI a &&& 31)) &&& (((1 : Int32) <<< (nI m &&& 31)) - 1)) = (v3 &&& (((1 : Int32) <<< (nI m &&& 31)) - 1))))]
theorem i_vc_fit {k : Nat} {u : SX} {v : SY} (I : i_Rel k u v) (hk : k + 4 ≤ 2048) (v1 : Int32) (v2 : Int32) : wpX_fit (fun r u' => wpY_fit (fun r' => r' = r ∧ i_Rel (k + 4) u' v) v v1 v2) u v1 v2 := by
  refine hr_el (P := fun u v => wpX_fit (fun r u' => wpY_fit (fun r' => r' = r ∧ i_Rel (k + 4) u' v) v v1 v2) u v1 v2) I ?_
  intro n fb bits od bg on ob hn hB
  have Yb : ∀ (post : Int32 → Prop), (v1 < 0 ∨ 12 < v1 ∨ v2 < 0 ∨ ¬ v2 ≤ 4095) → post (-1) → wpY_fit post (nI n, bits) v1 v2 := by
    intro post hv hp
    unfold wpY_fit
    dsimp only
    refine hy_isCol (fun _ => br_t rfl hp) (fun c d => br_f (by decide) (hy_isB (fun _ => br_t rfl hp) (fun f g => ?_)))
    rcases hv with hv | hv | hv | hv
    · exact absurd hv c
    · exact absurd hv d
    · exact absurd hv f
    · exact absurd g hv
  unfold wpX_fit
  dsimp only
  refine br_c (fun z => Yb _ (Or.inl z) ⟨rfl, hr_in hn hB⟩) (fun h1 => ?_)
  refine br_c (fun z => Yb _ (Or.inr (Or.inl z)) ⟨rfl, hr_in hn hB⟩) (fun h2 => ?_)
  refine br_c (fun z => Yb _ (Or.inr (Or.inr (Or.inl z))) ⟨rfl, hr_in hn hB⟩) (fun h3 => ?_)
  refine br_c (fun h4 => ?_) (fun z => Yb _ (Or.inr (Or.inr (Or.inr z))) ⟨rfl, hr_in hn hB⟩)
  obtain ⟨c, hc, rfl⟩ := nI_of2 (n := 12) (by decide) h1 (Int32.not_lt.mp h2)
  refine hx_build hn hB (fun fb od bg on ob HB => hx_fit HB hn hc ?_)
  unfold wpY_fit
  dsimp only
  refine hy_isCol (fun z => (z.elim h1 h2).elim) (fun _ _ => br_f (by decide) (hy_isB (fun z => (z.elim h3 (fun y => y h4)).elim) (fun _ _ => br_f (by decide) (hy_fit hn hc ⟨?_, hr_in hn (fun _ => HB)⟩))))
  rw [hr_fit]
end
