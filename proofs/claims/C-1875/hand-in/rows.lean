section
/-! 01: rows taken from kit/rows (pk_, wb_), then numbers, bits and the definitions of this proof -/
theorem pk_us {f : Nat → Int32} {k : Nat} {x : Int32} : upd f k x k = x := if_pos rfl
theorem pk_un {f : Nat → Int32} {k j : Nat} {x : Int32} (h : j ≠ k) : upd f k x j = f j := if_neg h
theorem pk_uLs {f : Nat → Int64} {k : Nat} {x : Int64} : vp_updL f k x k = x := if_pos rfl
theorem pk_uLn {f : Nat → Int64} {k j : Nat} {x : Int64} (h : j ≠ k) : vp_updL f k x j = f j := if_neg h
theorem pk_sub {a b : Nat} (h : b ≤ a) : nI a - nI b = nI (a - b) := by
  obtain ⟨c, rfl⟩ : ∃ c, a = c + b := ⟨a - b, by omega⟩
  rw [← nI_add, Int32.add_sub_cancel, Nat.add_sub_cancel]
theorem pk_m1 (n : Nat) : nI (n + 1) + (-1) = nI n := by
  rw [← nI_1, Int32.add_assoc, show (1 : Int32) + (-1) = 0 from rfl, Int32.add_zero]
theorem pk_mul (a b : Nat) : nI a * nI b = nI (a * b) := (Int32.ofNat_mul a b).symm
theorem pk_ix (x : Int32) {n : Nat} (hn : n < 2 ^ 31) : x < 0 ∨ nI n ≤ x ∨ ∃ j : Nat, j < n ∧ x = nI j := by
  by_cases h : x < 0
  · exact Or.inl h
  · obtain ⟨j, hj, rfl⟩ := nI_of h
    by_cases h2 : j < n
    · exact Or.inr (Or.inr ⟨j, h2, rfl⟩)
    · exact Or.inr (Or.inl (nI_le (by omega) hj))
theorem pk_le {x y : Int32} {A B : Prop} (a b : Nat) (f : a ≤ b → A) (g : b < a → B) (hx : x = nI a := by rfl) (hy : y = nI b := by rfl) (ha : a < 2 ^ 31 := by omega) (hb : b < 2 ^ 31 := by omega) : (x ≤ y → A) ∧ (¬ x ≤ y → B) := by
  subst hx hy
  rw [nI_leI ha hb]
  exact ⟨f, fun z => g (by omega)⟩
theorem pk_lt {x y : Int32} {A B : Prop} (a b : Nat) (f : a < b → A) (g : b ≤ a → B) (hx : x = nI a := by rfl) (hy : y = nI b := by rfl) (ha : a < 2 ^ 31 := by omega) (hb : b < 2 ^ 31 := by omega) : (x < y → A) ∧ (¬ x < y → B) := by
  subst hx hy
  rw [nI_ltI ha hb]
  exact ⟨f, fun z => g (by omega)⟩
theorem pk_eq {x y : Int32} {A B : Prop} (a b : Nat) (f : a = b → A) (g : a ≠ b → B) (hx : x = nI a := by rfl) (hy : y = nI b := by rfl) (ha : a < 2 ^ 31 := by omega) (hb : b < 2 ^ 31 := by omega) : (x = y → A) ∧ (¬ x = y → B) := by
  subst hx hy
  rw [nI_eq ha hb]
  exact ⟨f, g⟩
theorem pk_in {x : Int32} (n N : Nat) (h : n < N) (hx : x = nI n := by rfl) (hN : N < 2 ^ 31 := by omega) : vp_in x N := by
  subst hx
  exact vp_in_nI h hN
theorem pk_cl {x : Int32} (n : Nat) (hx : x = nI n := by rfl) (h : n < 2 ^ 31 := by omega) : x.toNatClampNeg = n := by
  subst hx
  exact nI_clamp h
theorem wb_tb (n : Nat) : (lN n).toBitVec = BitVec.ofNat 64 n := rfl
theorem wb_inj {a b : Int64} (h : a.toBitVec = b.toBitVec) : a = b := Int64.toBitVec_inj.mp h
theorem wb_tn {n : Nat} (h : n < 2 ^ 64) : (lN n).toBitVec.toNat = n := by rw [wb_tb, BitVec.toNat_ofNat, Nat.mod_eq_of_lt h]
theorem wb_of (x : Int64) : ∃ n, n < 2 ^ 64 ∧ x = lN n := ⟨x.toBitVec.toNat, x.toBitVec.isLt, wb_inj (by rw [wb_tb]; simp)⟩
theorem wb_of32 (x : Int32) : ∃ n, n < 2 ^ 32 ∧ x = nI n := ⟨x.toBitVec.toNat, x.toBitVec.isLt, Int32.toBitVec_inj.mp (by show _ = BitVec.ofNat 32 _; simp)⟩
theorem wb_c : ∀ k, k < 64 → ((nI k).toInt64 &&& 63) = lN k := by decide +kernel
theorem wb_cu : ∀ k, k < 64 → ((nI k).toInt64.toUInt64 &&& Int64.toUInt64 63) = UInt64.ofNat k := by decide +kernel
theorem wb_sm : ∀ k, k < 64 → (BitVec.ofNat 64 k).smod 64 = BitVec.ofNat 64 k := by decide +kernel
theorem wb_pw {a b : Nat} (h : a ≤ b) : 2 ^ b = 2 ^ a * 2 ^ (b - a) := by rw [← Nat.pow_add]; congr 1; omega
theorem wb_lt2 {a b : Nat} (h : a < b) : 2 ^ a < 2 ^ b := Nat.pow_lt_pow_right (by decide) h
theorem wb_mod (n : Nat) : lN n = lN (n % 2 ^ 64) := wb_inj (by rw [wb_tb, wb_tb]; apply BitVec.eq_of_toNat_eq; rw [BitVec.toNat_ofNat, BitVec.toNat_ofNat, Nat.mod_mod])
theorem wb_shr {n k : Nat} (hn : n < 2 ^ 64) (hk : k < 64) : ((lN n).toUInt64 >>> ((nI k).toInt64.toUInt64 &&& Int64.toUInt64 63)).toInt64 = lN (n / 2 ^ k) := by
  rw [wb_cu k hk]
  apply wb_inj
  apply BitVec.eq_of_toNat_eq
  show ((lN n).toUInt64 >>> UInt64.ofNat k).toNat = (BitVec.ofNat 64 _).toNat
  have h1 : (UInt64.ofNat k).toNat = k := by
    show (BitVec.ofNat 64 k).toNat = k
    rw [BitVec.toNat_ofNat, Nat.mod_eq_of_lt (by omega)]
  have h2 : (lN n).toUInt64.toNat = n := wb_tn hn
  rw [UInt64.toNat_shiftRight, h1, h2, Nat.mod_eq_of_lt hk, Nat.shiftRight_eq_div_pow, BitVec.toNat_ofNat, Nat.mod_eq_of_lt (Nat.lt_of_le_of_lt (Nat.div_le_self _ _) hn)]
theorem wb_shl (n : Nat) {k : Nat} (hk : k < 64) : lN n <<< ((nI k).toInt64 &&& 63) = lN (n * 2 ^ k) := by
  rw [wb_c k hk]
  apply wb_inj
  rw [Int64.toBitVec_shiftLeft, wb_tb, wb_tb, wb_tb, wb_sm k hk]
  apply BitVec.eq_of_toNat_eq
  rw [BitVec.shiftLeft_eq', BitVec.toNat_shiftLeft, BitVec.toNat_ofNat, BitVec.toNat_ofNat, BitVec.toNat_ofNat, Nat.mod_eq_of_lt (show k < 2 ^ 64 by omega), Nat.shiftLeft_eq, Nat.mul_mod, Nat.mod_mod, ← Nat.mul_mod]
theorem wb_and {a b : Nat} (ha : a < 2 ^ 64) (hb : b < 2 ^ 64) : lN a &&& lN b = lN (a &&& b) := by
  apply wb_inj
  rw [Int64.toBitVec_and, wb_tb, wb_tb, wb_tb]
  apply BitVec.eq_of_toNat_eq
  rw [BitVec.toNat_and, BitVec.toNat_ofNat, BitVec.toNat_ofNat, BitVec.toNat_ofNat, Nat.mod_eq_of_lt ha, Nat.mod_eq_of_lt hb, Nat.mod_eq_of_lt (Nat.and_lt_two_pow _ hb)]
theorem wb_or {a b : Nat} (ha : a < 2 ^ 64) (hb : b < 2 ^ 64) : lN a ||| lN b = lN (a ||| b) := by
  apply wb_inj
  rw [Int64.toBitVec_or, wb_tb, wb_tb, wb_tb]
  apply BitVec.eq_of_toNat_eq
  rw [BitVec.toNat_or, BitVec.toNat_ofNat, BitVec.toNat_ofNat, BitVec.toNat_ofNat, Nat.mod_eq_of_lt ha, Nat.mod_eq_of_lt hb, Nat.mod_eq_of_lt (Nat.or_lt_two_pow ha hb)]
theorem wb_mask {n k : Nat} (hn : n < 2 ^ 64) (hk : k < 64) : lN n &&& lN (2 ^ k - 1) = lN (n % 2 ^ k) := by
  rw [wb_and hn (by have := wb_lt2 hk; omega), Nat.and_two_pow_sub_one_eq_mod]
theorem wb_a1 {n : Nat} (hn : n < 2 ^ 64) : lN n &&& 1 = lN (n % 2) := wb_mask (k := 1) hn (by decide)
theorem wb_bit {n k : Nat} (hn : n < 2 ^ 64) (hk : k < 64) : ((lN n).toUInt64 >>> ((nI k).toInt64.toUInt64 &&& Int64.toUInt64 63)).toInt64 &&& 1 = lN (n / 2 ^ k % 2) := by
  rw [wb_shr hn hk, wb_a1 (Nat.lt_of_le_of_lt (Nat.div_le_self _ _) hn)]
/-! numbers -/
theorem dt_40 : nI 40 = 40 := by decide +kernel
theorem dt_4 : nI 4 = 4 := by decide +kernel
theorem dt_ix (q i : Nat) : nI q * 40 + nI i = nI (q * 40 + i) := by rw [← dt_40, pk_mul, nI_add]
theorem dt_i0 (q : Nat) : nI q * 40 = nI (q * 40) := by rw [← dt_40, pk_mul]
theorem dt_i4 (s d : Nat) : nI s * 4 + nI d = nI (s * 4 + d) := by rw [← dt_4, pk_mul, nI_add]
theorem dt_im (q i : Nat) : nI (q * 40 + (i + 1)) - 1 = nI (q * 40 + i) := nI_pred (q * 40 + i)
theorem dt_other {s : Nat} (h : s < 2) : 1 - nI s = nI (1 - s) := by
  have : s = 0 ∨ s = 1 := by omega
  rcases this with rfl | rfl <;> decide +kernel
theorem dt_neg1 : ((-1 : Int32) < 0) := by decide +kernel
theorem dt_neg5 : ((-5 : Int32) < 0) := by decide +kernel
theorem dt_neg1_ne {r : Nat} (h : r < 2 ^ 31) : ¬ (-1 : Int32) = nI r := by
  intro e
  have h2 := nI_pos h
  rw [← e] at h2
  exact h2 dt_neg1
/-! booleans as ints -/
def dt_b (x : Bool) : Int32 := if x = true then 1 else 0
theorem dt_b_t : dt_b true = 1 := rfl
theorem dt_b_f : dt_b false = 0 := rfl
theorem dt_b_ne : ¬ (1 : Int32) = 0 := by decide +kernel
theorem dt_b0 {x : Bool} : dt_b x = 0 ↔ x = false := by cases x <;> decide +kernel
theorem dt_br {x : Bool} {A B : Prop} (f : x = false → A) (t : x = true → B) : (dt_b x = 0 → A) ∧ (¬ dt_b x = 0 → B) := by
  cases x with
  | false => exact ⟨fun _ => f rfl, fun h => absurd rfl h⟩
  | true => exact ⟨fun h => absurd h dt_b_ne, fun _ => t rfl⟩
theorem dt_b_nar (x : Bool) : narrow .boolean (.int (dt_b x)) = .int (dt_b x) := by cases x <;> rfl
theorem dt_vn0 : vp_nar .boolean 0 = 0 := rfl
theorem dt_vn1 : vp_nar .boolean 1 = 1 := rfl
theorem dt_vnb (x : Bool) : vp_nar .boolean (dt_b x) = dt_b x := by cases x <;> rfl
theorem dt_01 {x : Int32} (h : x = 0 ∨ x = 1) : ∃ b : Bool, x = dt_b b := by
  rcases h with rfl | rfl
  · exact ⟨false, rfl⟩
  · exact ⟨true, rfl⟩
/-! a parent: none is -1 -/
def dt_par : Option Nat → Int32
  | none => -1
  | some p => nI p
theorem dt_par_eq {o : Option Nat} {r : Nat} (ho : ∀ p, o = some p → p < 2 ^ 31) (hr : r < 2 ^ 31) : dt_par o = nI r ↔ o = some r := by
  cases o with
  | none => exact ⟨fun h => absurd h (dt_neg1_ne hr), fun h => nomatch h⟩
  | some p =>
    constructor
    · intro h
      rw [(nI_eq (ho p rfl) hr).mp h]
    · intro h
      cases h
      rfl
/-! bits of a long -/
def dt_bit (w : Int64) (r : Nat) : Bool := w.toBitVec.getLsbD r
theorem dt_bit_sh {w : Int64} {r : Nat} (hr : r < 64) : (((w.toUInt64 >>> ((nI r).toInt64.toUInt64 &&& Int64.toUInt64 63)).toInt64) &&& 1) = 1 ↔ dt_bit w r = true := by
  obtain ⟨n, hn, rfl⟩ := wb_of w
  rw [wb_bit hn hr]
  have h2 : n / 2 ^ r % 2 < 2 := Nat.mod_lt _ (by decide)
  have e : lN (n / 2 ^ r % 2) = 1 ↔ n / 2 ^ r % 2 = 1 := lN_eq (b := 1) (by omega) (by decide)
  rw [e]
  unfold dt_bit
  rw [wb_tb, BitVec.getLsbD_ofNat, Nat.testBit_eq_decide_div_mod_eq]
  simp [hr]
theorem dt_bit_or (a b : Int64) (j : Nat) : dt_bit (a ||| b) j = (dt_bit a j || dt_bit b j) := by
  unfold dt_bit
  rw [Int64.toBitVec_or, BitVec.getLsbD_or]
theorem dt_tp : ∀ l, l < 64 → ((1 : Int64) <<< ((nI l).toInt64 &&& 63)).toBitVec = BitVec.twoPow 64 l := by decide +kernel
theorem dt_bit_one {r : Nat} (hr : r < 64) (j : Nat) : dt_bit ((1 : Int64) <<< ((nI r).toInt64 &&& 63)) j = decide (r = j) := by
  unfold dt_bit
  rw [dt_tp r hr, BitVec.getLsbD_twoPow]
  simp [hr]
theorem dt_bit_not (m : Int64) {j : Nat} (hj : j < 64) : dt_bit (m ^^^ (-1)) j = !dt_bit m j := by
  unfold dt_bit
  rw [Int64.toBitVec_xor, BitVec.getLsbD_xor]
  have h : ∀ i, i < 64 → (-1 : Int64).toBitVec.getLsbD i = true := by decide +kernel
  rw [h j hj]
  simp
theorem dt_bit_and (a b : Int64) (j : Nat) : dt_bit (a &&& b) j = (dt_bit a j && dt_bit b j) := by
  unfold dt_bit
  rw [Int64.toBitVec_and, BitVec.getLsbD_and]
theorem dt_bit_0 (j : Nat) : dt_bit 0 j = false := BitVec.getLsbD_zero
end
section
/-! 02: the order of the leaves, sorted lists, counts -/
def dt_w (T B L : Nat → Int32) (a b : Nat) : Bool := decide ((L a).toInt < (L b).toInt ∨ ((L a).toInt = (L b).toInt ∧ ((T b).toInt < (T a).toInt ∨ ((T b).toInt = (T a).toInt ∧ ((B b).toInt < (B a).toInt ∨ ((B b).toInt = (B a).toInt ∧ b < a))))))
section
variable {T B L : Nat → Int32} {a b c : Nat}
theorem dt_w_iff : dt_w T B L a b = true ↔ ((L a).toInt < (L b).toInt ∨ ((L a).toInt = (L b).toInt ∧ ((T b).toInt < (T a).toInt ∨ ((T b).toInt = (T a).toInt ∧ ((B b).toInt < (B a).toInt ∨ ((B b).toInt = (B a).toInt ∧ b < a)))))) := decide_eq_true_iff
theorem dt_w_t (h : (L a).toInt < (L b).toInt ∨ ((L a).toInt = (L b).toInt ∧ ((T b).toInt < (T a).toInt ∨ ((T b).toInt = (T a).toInt ∧ ((B b).toInt < (B a).toInt ∨ ((B b).toInt = (B a).toInt ∧ b < a)))))) : dt_w T B L a b = true := dt_w_iff.mpr h
theorem dt_w_f (h : ¬ ((L a).toInt < (L b).toInt ∨ ((L a).toInt = (L b).toInt ∧ ((T b).toInt < (T a).toInt ∨ ((T b).toInt = (T a).toInt ∧ ((B b).toInt < (B a).toInt ∨ ((B b).toInt = (B a).toInt ∧ b < a))))))) : dt_w T B L a b = false := decide_eq_false h
theorem dt_w_irr : dt_w T B L a a = false := dt_w_f (by omega)
theorem dt_w_asym (h : dt_w T B L a b = true) : dt_w T B L b a = false := by
  rw [dt_w_iff] at h
  exact dt_w_f (by omega)
theorem dt_w_trans (h : dt_w T B L a b = true) (h2 : dt_w T B L b c = true) : dt_w T B L a c = true := by
  rw [dt_w_iff] at h h2
  exact dt_w_t (by omega)
theorem dt_w_tot (h : a ≠ b) (h2 : dt_w T B L a b = false) : dt_w T B L b a = true := by
  have h3 : ¬ dt_w T B L a b = true := by rw [h2]; exact Bool.false_ne_true
  rw [dt_w_iff] at h3
  exact dt_w_t (by omega)
theorem dt_w_ne (h : dt_w T B L a b = true) : a ≠ b := by
  intro e
  rw [e, dt_w_irr] at h
  exact Bool.false_ne_true h
/-- who wins against one that is no deletion is none either -/
theorem dt_w_open (h : dt_w T B L a b = true) (ha : L a = 0 ∨ L a = 1) (hb : L b = 0) : L a = 0 := by
  rcases ha with ha | ha
  · exact ha
  · exfalso
    rw [dt_w_iff, ha, hb, show (1 : Int32).toInt = 1 from by decide, show (0 : Int32).toInt = 0 from by decide] at h
    omega
/-- the order looks at the two alone -/
theorem dt_w_congr {T' B' L' : Nat → Int32} (hT : ∀ x, x = a ∨ x = b → T' x = T x) (hB : ∀ x, x = a ∨ x = b → B' x = B x) (hL : ∀ x, x = a ∨ x = b → L' x = L x) : dt_w T' B' L' a b = dt_w T B L a b := by
  unfold dt_w
  rw [hT a (Or.inl rfl), hT b (Or.inr rfl), hB a (Or.inl rfl), hB b (Or.inr rfl), hL a (Or.inl rfl), hL b (Or.inr rfl)]
end
/-- the best first -/
def dt_srt (T B L : Nat → Int32) (l : List Nat) : Prop := l.Pairwise (fun a b => dt_w T B L a b = true)
section
variable {T B L : Nat → Int32}
theorem dt_srt_nodup {l : List Nat} (h : dt_srt T B L l) : l.Nodup := List.Pairwise.imp (fun hab => dt_w_ne hab) h
theorem dt_srt_filter {l : List Nat} (p : Nat → Bool) (h : dt_srt T B L l) : dt_srt T B L (l.filter p) := List.Pairwise.filter p h
theorem dt_srt_congr {T' B' L' : Nat → Int32} {l : List Nat} (hT : ∀ x, x ∈ l → T' x = T x) (hB : ∀ x, x ∈ l → B' x = B x) (hL : ∀ x, x ∈ l → L' x = L x) (h : dt_srt T B L l) : dt_srt T' B' L' l := by
  refine List.Pairwise.imp_of_mem ?_ h
  intro a b ha hb hab
  rw [dt_w_congr (T := T) (B := B) (L := L)]
  · exact hab
  · intro x hx
    rcases hx with rfl | rfl
    · exact hT _ ha
    · exact hT _ hb
  · intro x hx
    rcases hx with rfl | rfl
    · exact hB _ ha
    · exact hB _ hb
  · intro x hx
    rcases hx with rfl | rfl
    · exact hL _ ha
    · exact hL _ hb
theorem dt_srt_ins {l1 l2 : List Nat} {r : Nat} (h : dt_srt T B L (l1 ++ l2)) (hr : r ∉ l1 ++ l2) (h2 : ∀ x, x ∈ l2 → dt_w T B L r x = true) (h1 : l1 = [] ∨ ∃ l0 x, l1 = l0 ++ [x] ∧ dt_w T B L r x = false) : dt_srt T B L (l1 ++ r :: l2) := by
  unfold dt_srt at *
  rw [List.pairwise_append] at h ⊢
  obtain ⟨p1, p2, p3⟩ := h
  have k1 : ∀ y, y ∈ l1 → dt_w T B L y r = true := by
    intro y hy
    rcases h1 with h1 | ⟨l0, x, rfl, hx⟩
    · rw [h1] at hy
      exact absurd hy List.not_mem_nil
    · have hxr : dt_w T B L x r = true := by
        refine dt_w_tot (fun e => hr ?_) hx
        rw [e]
        simp
      rw [List.pairwise_append] at p1
      rw [List.mem_append] at hy
      rcases hy with hy | hy
      · exact dt_w_trans (p1.2.2 y hy x (by simp)) hxr
      · rw [List.mem_singleton] at hy
        rw [hy]
        exact hxr
  refine ⟨p1, List.pairwise_cons.mpr ⟨h2, p2⟩, ?_⟩
  intro y hy z hz
  rw [List.mem_cons] at hz
  rcases hz with rfl | hz
  · exact k1 y hy
  · exact p3 y hy z hz
/-- the place in the list is the number of those that win -/
theorem dt_srt_cnt {l1 l2 : List Nat} {x : Nat} (h : dt_srt T B L (l1 ++ x :: l2)) : (l1 ++ x :: l2).countP (fun y => dt_w T B L y x) = l1.length := by
  unfold dt_srt at h
  rw [List.pairwise_append, List.pairwise_cons] at h
  obtain ⟨p1, ⟨p2, p3⟩, p4⟩ := h
  rw [List.countP_append, List.countP_cons_of_neg (by rw [dt_w_irr]; exact Bool.false_ne_true)]
  have e1 : l1.countP (fun y => dt_w T B L y x) = l1.length := List.countP_eq_length.mpr (fun y hy => p4 y hy x (by simp))
  have e2 : l2.countP (fun y => dt_w T B L y x) = 0 := List.countP_eq_zero.mpr (fun y hy => by rw [dt_w_asym (p2 y hy)]; exact Bool.false_ne_true)
  rw [e1, e2]
  rfl
end
/-- how many below n -/
def dt_cnt (f : Nat → Bool) : Nat → Nat
  | 0 => 0
  | n + 1 => dt_cnt f n + (if f n = true then 1 else 0)
theorem dt_cnt_le (f : Nat → Bool) (n : Nat) : dt_cnt f n ≤ n := by
  induction n with
  | zero => exact Nat.le_refl 0
  | succ n ih =>
    show dt_cnt f n + (if f n = true then 1 else 0) ≤ n + 1
    split <;> omega
theorem dt_cnt_t {f : Nat → Bool} {n : Nat} (h : f n = true) : dt_cnt f (n + 1) = dt_cnt f n + 1 := by
  show dt_cnt f n + (if f n = true then 1 else 0) = _
  rw [if_pos h]
theorem dt_cnt_f {f : Nat → Bool} {n : Nat} (h : f n = false) : dt_cnt f (n + 1) = dt_cnt f n := by
  show dt_cnt f n + (if f n = true then 1 else 0) = _
  rw [if_neg (by rw [h]; exact Bool.false_ne_true)]
  rfl
theorem dt_cnt_range (f : Nat → Bool) (n : Nat) : dt_cnt f n = (List.range n).countP f := by
  induction n with
  | zero => rfl
  | succ n ih =>
    rw [List.range_succ, List.countP_append, ← ih]
    show dt_cnt f n + (if f n = true then 1 else 0) = _
    rw [List.countP_cons, List.countP_nil]
    omega
/-- counting over all numbers is counting over the list of those that are meant -/
theorem dt_cnt_list {q g : Nat → Bool} {n : Nat} {l : List Nat} (hn : l.Nodup) (hl : ∀ r, r ∈ l ↔ r < n ∧ q r = true) : dt_cnt (fun r => q r && g r) n = l.countP g := by
  have hp : ((List.range n).filter q).Perm l := by
    rw [List.perm_ext_iff_of_nodup (List.Pairwise.filter q List.nodup_range) hn]
    intro r
    rw [List.mem_filter, List.mem_range, hl]
  rw [dt_cnt_range, ← List.Perm.countP_eq g hp, List.countP_filter]
  congr 1
  funext r
  exact Bool.and_comm _ _
theorem dt_len {l : List Nat} {n : Nat} (hn : l.Nodup) (hl : ∀ r, r ∈ l → r < n) : l.length ≤ n := by
  have h := List.Nodup.length_le_of_subset hn (l₂ := List.range n) (fun r hr => List.mem_range.mpr (hl r hr))
  rw [List.length_range] at h
  exact h
theorem dt_len_ne {l : List Nat} {n r : Nat} (hn : l.Nodup) (hl : ∀ x, x ∈ l → x < n) (hr : r < n) (hx : r ∉ l) : l.length < n := by
  have h := dt_len (l := r :: l) (n := n) (List.nodup_cons.mpr ⟨hx, hn⟩) (by
    intro x hm
    rw [List.mem_cons] at hm
    rcases hm with rfl | hm
    · exact hr
    · exact hl x hm)
  exact h
/-! ints along a list in an array -/
def dt_At (g : Nat → Int32) : List Nat → Nat → Prop
  | [], _ => True
  | x :: l, b => g b = nI x ∧ dt_At g l (b + 1)
theorem dt_At_app {g : Nat → Int32} : ∀ (l1 l2 : List Nat) (b : Nat), dt_At g (l1 ++ l2) b ↔ dt_At g l1 b ∧ dt_At g l2 (b + l1.length) := by
  intro l1
  induction l1 with
  | nil => exact fun l2 b => ⟨fun h => ⟨trivial, h⟩, fun h => h.2⟩
  | cons x l1 ih =>
    intro l2 b
    have e : b + (x :: l1).length = b + 1 + l1.length := by rw [List.length_cons]; omega
    rw [e]
    show g b = nI x ∧ dt_At g (l1 ++ l2) (b + 1) ↔ (g b = nI x ∧ dt_At g l1 (b + 1)) ∧ _
    rw [ih, and_assoc]
theorem dt_At_congr {g g' : Nat → Int32} : ∀ (l : List Nat) (b : Nat), (∀ j, b ≤ j → j < b + l.length → g' j = g j) → dt_At g l b → dt_At g' l b := by
  intro l
  induction l with
  | nil => exact fun _ _ _ => trivial
  | cons x l ih =>
    intro b h hA
    rw [List.length_cons] at h
    exact ⟨(h b (by omega) (by omega)).trans hA.1, ih (b + 1) (fun j h1 h2 => h j (by omega) (by omega)) hA.2⟩
theorem dt_At_get {g : Nat → Int32} : ∀ (l1 : List Nat) (x : Nat) (l2 : List Nat) (b : Nat), dt_At g (l1 ++ x :: l2) b → g (b + l1.length) = nI x := by
  intro l1 x l2 b h
  exact ((dt_At_app l1 (x :: l2) b).mp h).2.1
/-! a leaf: here, and no child here -/
def dt_leaf (R : Nat) (pp : Nat → Option Nat) (h : Nat → Nat → Bool) (s r : Nat) : Bool := decide (h s r = true ∧ ∀ c, c < R → (h s c = true → pp c ≠ some r))
theorem dt_leaf_iff {R : Nat} {pp : Nat → Option Nat} {h : Nat → Nat → Bool} {s r : Nat} : dt_leaf R pp h s r = true ↔ (h s r = true ∧ ∀ c, c < R → (h s c = true → pp c ≠ some r)) := decide_eq_true_iff
theorem dt_leaf_f {R : Nat} {pp : Nat → Option Nat} {h : Nat → Nat → Bool} {s r : Nat} (hf : ¬ (h s r = true ∧ ∀ c, c < R → (h s c = true → pp c ≠ some r))) : dt_leaf R pp h s r = false := decide_eq_false hf
/-! the relation's parts -/
def dt_Sh (R : Nat) (D P T L : Nat → Int32) (dd : Nat → Nat) (pp : Nat → Option Nat) (tt : Nat → Nat) : Prop :=
  R ≤ 40 ∧ (∀ r, r < R → D r = nI (dd r) ∧ dd r < 4) ∧ (∀ r, r < R → P r = dt_par (pp r)) ∧ (∀ r p, r < R → pp r = some p → p < r ∧ dd p = dd r ∧ tt r = tt p + 1) ∧ (∀ r, r < R → T r = nI (tt r) ∧ tt r ≤ r + 1) ∧ (∀ r, r < R → L r = 0 ∨ L r = 1)
def dt_HX (hX : Nat → Int64) (h : Nat → Nat → Bool) : Prop := ∀ s r, s < 2 → r < 40 → dt_bit (hX s) r = h s r
def dt_HY (hY : Nat → Int32) (h : Nat → Nat → Bool) : Prop := ∀ s r, s < 2 → r < 40 → hY (s * 40 + r) = dt_b (h s r)
def dt_Si (R : Nat) (pp : Nat → Option Nat) (h k : Nat → Nat → Bool) : Prop :=
  (∀ s r, s < 2 → h s r = true → r < R) ∧ (∀ s r, s < 2 → k s r = true → h s r = true) ∧ (∀ s r p, s < 2 → h s r = true → pp r = some p → h s p = true)
def dt_Li (R : Nat) (T B L : Nat → Int32) (dd : Nat → Nat) (pp : Nat → Option Nat) (h : Nat → Nat → Bool) (ll : Nat → List Nat) : Prop :=
  ∀ s d, s < 2 → d < 4 → (∀ r, r ∈ ll (s * 4 + d) ↔ (dd r = d ∧ dt_leaf R pp h s r = true)) ∧ dt_srt T B L (ll (s * 4 + d))
def dt_Rp (lc lf : Nat → Int32) (q : Nat) (l : List Nat) : Prop := lc q = nI l.length ∧ dt_At lf l (q * 40)
def dt_LX (lc lf : Nat → Int32) (ll : Nat → List Nat) : Prop := ∀ q, q < 8 → dt_Rp lc lf q (ll q)
/-- all of it, the ghosts named -/
def dt_G (R : Nat) (D P T B L : Nat → Int32) (hX kX : Nat → Int64) (lc lf hY kY : Nat → Int32) (dd : Nat → Nat) (pp : Nat → Option Nat) (tt : Nat → Nat) (h k : Nat → Nat → Bool) (ll : Nat → List Nat) : Prop :=
  dt_Sh R D P T L dd pp tt ∧ dt_HX hX h ∧ dt_HX kX k ∧ dt_HY hY h ∧ dt_HY kY k ∧ dt_Si R pp h k ∧ dt_Li R T B L dd pp h ll ∧ dt_LX lc lf ll
end
section
/-! 03: the component's small methods: badSite, badDoc, isIn, wins, isLeaf, winnerOf, refusal, hasOf, leafOf -/
theorem dt_site (v : Int32) : (∃ s, s < 2 ∧ v = nI s) ∨ (v < 0 ∨ (¬ v < 0 ∧ ¬ v ≤ 1)) := by
  by_cases h : v < 0
  · exact Or.inr (Or.inl h)
  · by_cases h1 : v ≤ 1
    · obtain ⟨j, hj, rfl⟩ := nI_of h
      have h2 : nI j ≤ nI 1 ↔ j ≤ 1 := nI_leI hj (by decide)
      exact Or.inl ⟨j, by have := h2.mp h1; omega, rfl⟩
    · exact Or.inr (Or.inr ⟨h, h1⟩)
theorem dt_doc (v : Int32) : (∃ d, d < 4 ∧ v = nI d) ∨ (v < 0 ∨ (¬ v < 0 ∧ ¬ v < 4 ∧ ¬ v ≤ 3)) := by
  by_cases h : v < 0
  · exact Or.inr (Or.inl h)
  · obtain ⟨j, hj, rfl⟩ := nI_of h
    have h2 : nI j ≤ nI 3 ↔ j ≤ 3 := nI_leI hj (by decide)
    have h3 : nI j < nI 4 ↔ j < 4 := nI_ltI hj (by decide)
    by_cases h1 : j < 4
    · exact Or.inl ⟨j, h1, rfl⟩
    · exact Or.inr (Or.inr ⟨h, fun z => h1 (h3.mp z), fun z => h1 (by have := h2.mp z; omega)⟩)
section
variable {R : Nat} {D P T B L cm lc lf hY kY : Nat → Int32} {hX kX : Nat → Int64}
theorem dt_xbs0 {s : Nat} (hs : s < 2) (post : Int32 → Prop) (hp : post 0) : wpX_badSite post (nI s) :=
  br_f (nI_pos (by omega)) (br_t (nI_le (b := 1) (by omega) (by decide)) hp)
theorem dt_xbs1 {v : Int32} (h : v < 0 ∨ (¬ v < 0 ∧ ¬ v ≤ 1)) (post : Int32 → Prop) (hp : post 1) : wpX_badSite post v := by
  rcases h with h | ⟨h, h1⟩
  · exact br_t h hp
  · exact br_f h (br_f h1 hp)
theorem dt_xbd0 {d : Nat} (hd : d < 4) (post : Int32 → Prop) (hp : post 0) : wpX_badDoc post (nI d) :=
  br_f (nI_pos (by omega)) (br_t (nI_lt (b := 4) (by omega) (by decide)) hp)
theorem dt_xbd1 {v : Int32} (h : v < 0 ∨ (¬ v < 0 ∧ ¬ v < 4 ∧ ¬ v ≤ 3)) (post : Int32 → Prop) (hp : post 1) : wpX_badDoc post v := by
  rcases h with h | ⟨h, h1, _⟩
  · exact br_t h hp
  · exact br_f h (br_f h1 hp)
theorem dt_ybs0 {s : Nat} (hs : s < 2) (post : Int32 → Prop) (hp : post 0) : wpY_badSite post (nI R, D, P, T, B, L, hY, kY, cm) (nI s) :=
  br_f (nI_pos (by omega)) (br_t (nI_le (b := 1) (by omega) (by decide)) hp)
theorem dt_ybs1 {v : Int32} (h : v < 0 ∨ (¬ v < 0 ∧ ¬ v ≤ 1)) (post : Int32 → Prop) (hp : post 1) : wpY_badSite post (nI R, D, P, T, B, L, hY, kY, cm) v := by
  rcases h with h | ⟨h, h1⟩
  · exact br_t h hp
  · exact br_f h (br_f h1 hp)
theorem dt_ybd0 {d : Nat} (hd : d < 4) (post : Int32 → Prop) (hp : post 0) : wpY_badDoc post (nI R, D, P, T, B, L, hY, kY, cm) (nI d) :=
  br_f (nI_pos (by omega)) (br_t (nI_le (b := 3) (by omega) (by decide)) hp)
theorem dt_ybd1 {v : Int32} (h : v < 0 ∨ (¬ v < 0 ∧ ¬ v < 4 ∧ ¬ v ≤ 3)) (post : Int32 → Prop) (hp : post 1) : wpY_badDoc post (nI R, D, P, T, B, L, hY, kY, cm) v := by
  rcases h with h | ⟨h, _, h1⟩
  · exact br_t h hp
  · exact br_f h (br_f h1 hp)
theorem dt_yref0 {s d : Nat} (hs : s < 2) (hd : d < 4) (post : Int32 → Prop) (hp : post 0) : wpY_refusal post (nI R, D, P, T, B, L, hY, kY, cm) (nI s) (nI d) := by
  unfold wpY_refusal
  dsimp only
  refine dt_ybs0 hs _ (br_t rfl ?_)
  exact dt_ybd0 hd _ (br_t rfl hp)
theorem dt_yref1 {v w : Int32} (h : v < 0 ∨ (¬ v < 0 ∧ ¬ v ≤ 1)) (post : Int32 → Prop) (hp : post (-1)) : wpY_refusal post (nI R, D, P, T, B, L, hY, kY, cm) v w := by
  unfold wpY_refusal
  dsimp only
  exact dt_ybs1 h _ (br_f dt_b_ne hp)
theorem dt_yref2 {s : Nat} {w : Int32} (hs : s < 2) (h : w < 0 ∨ (¬ w < 0 ∧ ¬ w < 4 ∧ ¬ w ≤ 3)) (post : Int32 → Prop) (hp : post (-2)) : wpY_refusal post (nI R, D, P, T, B, L, hY, kY, cm) (nI s) w := by
  unfold wpY_refusal
  dsimp only
  refine dt_ybs0 hs _ (br_t rfl ?_)
  exact dt_ybd1 h _ (br_f dt_b_ne hp)
theorem dt_xref0 {s d : Nat} (hs : s < 2) (hd : d < 4) (hR : R < 40) (post : Int32 → Prop) (hp : post 0) : wpX_refusal post (nI R, D, P, T, B, L, hX, kX, cm, lc, lf) (nI s) (nI d) := by
  unfold wpX_refusal
  dsimp only
  refine dt_xbs0 hs _ (br_t rfl ?_)
  exact dt_xbd0 hd _ (br_t rfl (br_t (nI_lt (b := 40) hR (by decide)) hp))
theorem dt_xref3 {s d : Nat} (hs : s < 2) (hd : d < 4) (hR : R = 40) (post : Int32 → Prop) (hp : post (-3)) : wpX_refusal post (nI R, D, P, T, B, L, hX, kX, cm, lc, lf) (nI s) (nI d) := by
  unfold wpX_refusal
  dsimp only
  refine dt_xbs0 hs _ (br_t rfl ?_)
  exact dt_xbd0 hd _ (br_t rfl (br_f (nI_nlt (b := 40) (by omega) (by omega)) hp))
theorem dt_xref1 {v w : Int32} (h : v < 0 ∨ (¬ v < 0 ∧ ¬ v ≤ 1)) (post : Int32 → Prop) (hp : post (-1)) : wpX_refusal post (nI R, D, P, T, B, L, hX, kX, cm, lc, lf) v w := by
  unfold wpX_refusal
  dsimp only
  exact dt_xbs1 h _ (br_f dt_b_ne hp)
theorem dt_xref2 {s : Nat} {w : Int32} (hs : s < 2) (h : w < 0 ∨ (¬ w < 0 ∧ ¬ w < 4 ∧ ¬ w ≤ 3)) (post : Int32 → Prop) (hp : post (-2)) : wpX_refusal post (nI R, D, P, T, B, L, hX, kX, cm, lc, lf) (nI s) w := by
  unfold wpX_refusal
  dsimp only
  refine dt_xbs0 hs _ (br_t rfl ?_)
  exact dt_xbd1 h _ (br_f dt_b_ne hp)
theorem dt_xisin {w : Int64} {r : Nat} (hR : R ≤ 40) (hr : r < R) (post : Int32 → Prop) (hp : post (dt_b (dt_bit w r))) : wpX_isIn post (nI R, D, P, T, B, L, hX, kX, cm, lc, lf) w (nI r) := by
  unfold wpX_isIn
  dsimp only
  refine br_f (nI_pos (by omega)) (br_f (nI_ge hr (by omega)) ?_)
  by_cases hb : dt_bit w r = true
  · rw [hb] at hp
    exact br_t ((dt_bit_sh (by omega)).mpr hb) hp
  · rw [Bool.not_eq_true] at hb
    have hn : ¬ dt_bit w r = true := by rw [hb]; exact Bool.false_ne_true
    rw [hb] at hp
    exact br_f (fun z => hn ((dt_bit_sh (by omega)).mp z)) hp
theorem dt_xisin0 {w : Int64} {x : Int32} (hx : x < 0 ∨ nI R ≤ x) (post : Int32 → Prop) (hp : post 0) : wpX_isIn post (nI R, D, P, T, B, L, hX, kX, cm, lc, lf) w x := by
  unfold wpX_isIn
  dsimp only
  by_cases h0 : x < 0
  · exact br_t h0 hp
  · rcases hx with hx | hx
    · exact absurd hx h0
    · exact br_f h0 (br_t hx hp)
theorem dt_xwins {a b : Nat} (ha : a < 40) (hb : b < 40) (hLa : L a = 0 ∨ L a = 1) (hLb : L b = 0 ∨ L b = 1) (post : Int32 → Prop) (hp : post (dt_b (dt_w T B L a b))) : wpX_wins post (nI R, D, P, T, B, L, hX, kX, cm, lc, lf) (nI a) (nI b) := by
  have ia : vp_in (nI a) 40 := vp_in_nI ha (by decide)
  have ib : vp_in (nI b) 40 := vp_in_nI hb (by decide)
  unfold wpX_wins
  dsimp only
  rw [nI_clamp (show a < 2 ^ 31 by omega), nI_clamp (show b < 2 ^ 31 by omega)]
  have pt : dt_w T B L a b = true → post 1 := fun e => by rw [e] at hp; exact hp
  have pf : dt_w T B L a b = false → post 0 := fun e => by rw [e] at hp; exact hp
  have t0 : (0 : Int32).toInt = 0 := by decide
  have t1 : (1 : Int32).toInt = 1 := by decide
  refine ⟨ia, ib, br_c (fun h1 => ⟨ia, ib, br_c (fun h2 => ⟨ia, ib, br_c (fun h3 => br_c (fun h4 => pf ?_) (fun h4 => pt ?_)) (fun h3 => ⟨ia, ib, br_c (fun h4 => pf ?_) (fun h4 => pt ?_)⟩)⟩) (fun h2 => ⟨ia, ib, br_c (fun h4 => pf ?_) (fun h4 => pt ?_)⟩)⟩) (fun h1 => ⟨ib, ?_, ?_⟩)⟩
  · rw [nI_leI (by omega) (by omega)] at h4
    rw [← Int32.toInt_inj] at h1 h2 h3
    exact dt_w_f (by omega)
  · rw [nI_leI (by omega) (by omega)] at h4
    rw [← Int32.toInt_inj] at h1 h2 h3
    exact dt_w_t (by omega)
  · rw [Int32.le_iff_toInt_le] at h4
    rw [← Int32.toInt_inj] at h1 h2 h3
    exact dt_w_f (by omega)
  · rw [Int32.le_iff_toInt_le] at h4
    rw [← Int32.toInt_inj] at h1 h2 h3
    exact dt_w_t (by omega)
  · rw [Int32.le_iff_toInt_le] at h4
    rw [← Int32.toInt_inj] at h1 h2
    exact dt_w_f (by omega)
  · rw [Int32.le_iff_toInt_le] at h4
    rw [← Int32.toInt_inj] at h1 h2
    exact dt_w_t (by omega)
  · rcases hLb with e | e
    · rw [e]; rfl
    · rw [e]; rfl
  · rcases hLb with e | e
    · rw [e]
      rcases hLa with e' | e'
      · exact absurd (e'.trans e.symm) h1
      · exact pf (dt_w_f (by rw [e, e', t0, t1]; omega))
    · rw [e]
      rcases hLa with e' | e'
      · exact pt (dt_w_t (by rw [e, e', t0, t1]; omega))
      · exact absurd (e'.trans e.symm) h1
theorem dt_xisleaf14 {q r N : Nat} (hq : q < 8) (hN : N ≤ 40) (hc : lc q = nI N) (hr : r < 2 ^ 31) (post : Int32 → Prop) : ∀ (l : List Nat) (i n : Nat), i + l.length = N → dt_At lf l (q * 40 + i) → (∀ x, x ∈ l → x < 2 ^ 31) → l.length < n → post (dt_b (decide (r ∈ l))) → wX_isLeaf_14 post (nI r) (nI q) (nI R) D P T B L hX kX cm lc lf n (nI i) := by
  intro l
  induction l with
  | nil =>
    intro i n hi hA hx hn hp
    obtain ⟨n, rfl⟩ : ∃ m, n = m + 1 := ⟨n - 1, by omega⟩
    rw [List.length_nil] at hi
    simp only [wX_isLeaf_14, nI_clamp (show q < 2 ^ 31 by omega), hc]
    refine ⟨vp_in_nI hq (by decide), br_t (nI_le (by omega) (by omega)) ?_⟩
    rw [decide_eq_false List.not_mem_nil] at hp
    exact hp
  | cons x l ih =>
    intro i n hi hA hx hn hp
    obtain ⟨n, rfl⟩ : ∃ m, n = m + 1 := ⟨n - 1, by omega⟩
    rw [List.length_cons] at hi hn
    simp only [wX_isLeaf_14, nI_clamp (show q < 2 ^ 31 by omega), hc, dt_ix, nI_clamp (show q * 40 + i < 2 ^ 31 by omega)]
    refine ⟨vp_in_nI hq (by decide), br_f (nI_ge (by omega) (by omega)) ⟨vp_in_nI (by omega) (by decide), ?_⟩⟩
    rw [hA.1, nI_eq (hx x (by simp)) hr]
    by_cases h : x = r
    · refine br_t h ?_
      rw [decide_eq_true (by rw [h]; simp)] at hp
      exact hp
    · refine br_f h (nm_r (nI_1 i) (ih (i + 1) n (by omega) hA.2 (fun y hy => hx y (by simp [hy])) (by omega) ?_))
      have e : (r ∈ x :: l) = (r ∈ l) := by
        rw [List.mem_cons]
        exact propext ⟨fun z => z.resolve_left (fun y => h y.symm), Or.inr⟩
      simp only [e] at hp
      exact hp
theorem dt_xisleaf {s r d : Nat} {l : List Nat} (hs : s < 2) (hr : r < 40) (hd : d < 4) (hD : D r = nI d) (hRp : dt_Rp lc lf (s * 4 + d) l) (hl : l.length ≤ 40) (hx : ∀ x, x ∈ l → x < 40) (post : Int32 → Prop) (hp : post (dt_b (decide (r ∈ l)))) : wpX_isLeaf post (nI R, D, P, T, B, L, hX, kX, cm, lc, lf) (nI s) (nI r) := by
  unfold wpX_isLeaf
  dsimp only
  refine ⟨vp_in_nI hr (by decide), nm_r (e' := nI (s * 4 + d)) ?_ ⟨l.length + 1, ?_⟩⟩
  · rw [nI_clamp (by omega), hD, dt_i4]
  · exact dt_xisleaf14 (by omega) hl hRp.1 (by omega) post l 0 (l.length + 1) (by omega) hRp.2 (fun x h => by have := hx x h; omega) (by omega) hp
/-- the first of the list, or -5 -/
def dt_hd : List Nat → Int32
  | [] => -5
  | x :: _ => nI x
theorem dt_xwinof {s d : Nat} {l : List Nat} (hs : s < 2) (hd : d < 4) (hRp : dt_Rp lc lf (s * 4 + d) l) (hl : l.length ≤ 40) (post : Int32 → Prop) (hp : post (dt_hd l)) : wpX_winnerOf post (nI R, D, P, T, B, L, hX, kX, cm, lc, lf) (nI s) (nI d) := by
  unfold wpX_winnerOf
  dsimp only
  refine nm_r (dt_i4 s d) ⟨vp_in_nI (by omega) (by decide), ?_⟩
  rw [nI_clamp (by omega), hRp.1, dt_i0, nI_clamp (by omega)]
  cases l with
  | nil => exact br_t rfl hp
  | cons x l =>
    refine br_f (nI_ne0 (by simp) (by omega)) ⟨vp_in_nI (by omega) (by decide), ?_⟩
    rw [hRp.2.1]
    exact hp
end
end
section
/-! 04: dropLeaf, addLeaf, come -/
def dt_Fr (lc lf lc' lf' : Nat → Int32) (q : Nat) : Prop := ∀ q' l', q' ≠ q → l'.length ≤ 40 → dt_Rp lc lf q' l' → dt_Rp lc' lf' q' l'
theorem dt_Fr_of {lc lf lf' : Nat → Int32} {q : Nat} {x : Int32} (h : ∀ j, (j < q * 40 ∨ q * 40 + 40 ≤ j) → lf' j = lf j) : dt_Fr lc lf (upd lc q x) lf' q := by
  intro q' l' hne hl hR
  refine ⟨(pk_un hne).trans hR.1, dt_At_congr l' (q' * 40) (fun j h1 h2 => h j ?_) hR.2⟩
  omega
theorem dt_Fr_trans {lc lf lc' lf' lc'' lf'' : Nat → Int32} {q : Nat} (h : dt_Fr lc lf lc' lf' q) (h2 : dt_Fr lc' lf' lc'' lf'' q) : dt_Fr lc lf lc'' lf'' q :=
  fun q' l' hne hl hR => h2 q' l' hne hl (h q' l' hne hl hR)
def dt_fil (o : Option Nat) (l : List Nat) : List Nat := match o with
  | none => l
  | some p => l.filter (fun x => x != p)
section
variable {R : Nat} {D P T B L cm lc : Nat → Int32} {hX kX : Nat → Int64}
theorem dt_xdrop5 {q p N : Nat} (hq : q < 8) (hN : N ≤ 40) (hc : lc q = nI N) (hp : p < 2 ^ 31) : ∀ (l kl : List Nat) (kn i : Nat) (lf : Nat → Int32), kn = kl.length → kn ≤ i → i + l.length = N → dt_At lf kl (q * 40) → dt_At lf l (q * 40 + i) → (∀ x, x ∈ l → x < 2 ^ 31) → ∃ lf' : Nat → Int32, dt_At lf' (kl ++ l.filter (fun x => x != p)) (q * 40) ∧ (∀ j, (j < q * 40 ∨ q * 40 + 40 ≤ j) → lf' j = lf j) ∧ ∀ (post : SX → Prop) (n : Nat), l.length < n → post (nI R, D, P, T, B, L, hX, kX, cm, upd lc q (nI (kl ++ l.filter (fun x => x != p)).length), lf') → wX_dropLeaf_5 post (nI q) (nI p) (nI R) n (nI kn) (nI i) D P T B L hX kX cm lc lf := by
  intro l
  induction l with
  | nil =>
    intro kl kn i lf hkn hki hi hk hA hx
    rw [List.length_nil] at hi
    refine ⟨lf, ?_, fun _ _ => rfl, fun post n hn hpost => ?_⟩
    · rw [List.filter_nil, List.append_nil]
      exact hk
    · obtain ⟨n, rfl⟩ : ∃ m, n = m + 1 := ⟨n - 1, by omega⟩
      rw [List.filter_nil, List.append_nil, ← hkn] at hpost
      simp only [wX_dropLeaf_5, nI_clamp (show q < 2 ^ 31 by omega), hc]
      exact ⟨vp_in_nI hq (by decide), br_t (nI_le (by omega) (by omega)) ⟨vp_in_nI hq (by decide), nm_e hpost⟩⟩
  | cons x l ih =>
    intro kl kn i lf hkn hki hi hk hA hx
    rw [List.length_cons] at hi
    have hx31 : x < 2 ^ 31 := hx x (by simp)
    by_cases h : x = p
    · obtain ⟨lf', h1, h2, h3⟩ := ih kl kn (i + 1) lf hkn (by omega) (by omega) hk hA.2 (fun y hy => hx y (by simp [hy]))
      have ef : (x :: l).filter (fun x => x != p) = l.filter (fun x => x != p) := List.filter_cons_of_neg (by simp [h])
      rw [ef]
      refine ⟨lf', h1, h2, fun post n hn hpost => ?_⟩
      rw [List.length_cons] at hn
      obtain ⟨n, rfl⟩ : ∃ m, n = m + 1 := ⟨n - 1, by omega⟩
      simp only [wX_dropLeaf_5, nI_clamp (show q < 2 ^ 31 by omega), hc, dt_ix, nI_clamp (show q * 40 + i < 2 ^ 31 by omega), hA.1]
      exact ⟨vp_in_nI hq (by decide), br_f (nI_ge (by omega) (by omega)) ⟨vp_in_nI (by omega) (by decide), nm_e (br_t (congrArg nI h) (nm_r (nI_1 i) (h3 post n (by omega) hpost)))⟩⟩
    · have ef : (x :: l).filter (fun x => x != p) = x :: l.filter (fun x => x != p) := List.filter_cons_of_pos (by simp [h])
      obtain ⟨lf', h1, h2, h3⟩ := ih (kl ++ [x]) (kn + 1) (i + 1) (upd lf (q * 40 + kn) (nI x)) (by rw [List.length_append, ← hkn]; rfl) (by omega) (by omega)
        ((dt_At_app kl [x] (q * 40)).mpr ⟨dt_At_congr kl (q * 40) (fun j hj1 hj2 => pk_un (by omega)) hk, by rw [← hkn]; exact ⟨pk_us, trivial⟩⟩)
        (dt_At_congr l (q * 40 + (i + 1)) (fun j hj1 hj2 => pk_un (by omega)) hA.2)
        (fun y hy => hx y (by simp [hy]))
      have ea : kl ++ [x] ++ l.filter (fun x => x != p) = kl ++ x :: l.filter (fun x => x != p) := by rw [List.append_assoc]; rfl
      rw [ea] at h1 h3
      rw [ef]
      refine ⟨lf', h1, fun j hj => (h2 j hj).trans (pk_un (by omega)), fun post n hn hpost => ?_⟩
      rw [List.length_cons] at hn
      obtain ⟨n, rfl⟩ : ∃ m, n = m + 1 := ⟨n - 1, by omega⟩
      have hne : ¬ nI x = nI p := fun e => h ((nI_eq hx31 hp).mp e)
      simp only [wX_dropLeaf_5, nI_clamp (show q < 2 ^ 31 by omega), hc, dt_ix, nI_clamp (show q * 40 + i < 2 ^ 31 by omega), nI_clamp (show q * 40 + kn < 2 ^ 31 by omega), hA.1]
      exact ⟨vp_in_nI hq (by decide), br_f (nI_ge (by omega) (by omega)) ⟨vp_in_nI (by omega) (by decide), nm_e (br_f hne ⟨vp_in_nI (by omega) (by decide), nm_e (nm_r (nI_1 kn) (nm_r (nI_1 i) (h3 post n (by omega) hpost)))⟩)⟩⟩
theorem dt_xdrop {lf : Nat → Int32} {q p : Nat} {l : List Nat} (hq : q < 8) (hp : p < 2 ^ 31) (hRp : dt_Rp lc lf q l) (hl : l.length ≤ 40) (hx : ∀ x, x ∈ l → x < 2 ^ 31) : ∃ lc' lf' : Nat → Int32, dt_Rp lc' lf' q (l.filter (fun x => x != p)) ∧ dt_Fr lc lf lc' lf' q ∧ ∀ post : SX → Prop, post (nI R, D, P, T, B, L, hX, kX, cm, lc', lf') → wpX_dropLeaf post (nI R, D, P, T, B, L, hX, kX, cm, lc, lf) (nI q) (nI p) := by
  obtain ⟨lf', h1, h2, h3⟩ := dt_xdrop5 (R := R) (D := D) (P := P) (T := T) (B := B) (L := L) (cm := cm) (hX := hX) (kX := kX) hq hl hRp.1 hp l [] 0 0 lf rfl (by omega) (by omega) trivial hRp.2 hx
  rw [List.nil_append] at h1 h3
  refine ⟨upd lc q (nI (l.filter (fun x => x != p)).length), lf', ⟨pk_us, h1⟩, dt_Fr_of h2, fun post hpost => ?_⟩
  exact ⟨l.length + 1, h3 post (l.length + 1) (by omega) hpost⟩
theorem dt_xadd62 {lf : Nat → Int32} {q r m N : Nat} (hq : q < 8) (hm : m < 40) (hc : lc q = nI N) (post : SX → Prop) (hpost : post (nI R, D, P, T, B, L, hX, kX, cm, upd lc q (nI (N + 1)), upd lf (q * 40 + m) (nI r))) : wX_addLeaf_62 post (nI q) (nI r) (nI m) (nI R) D P T B L hX kX cm lc lf := by
  simp only [wX_addLeaf_62, nI_clamp (show q < 2 ^ 31 by omega), hc, dt_ix, nI_clamp (show q * 40 + m < 2 ^ 31 by omega), nI_1]
  exact ⟨vp_in_nI (by omega) (by decide), nm_e ⟨vp_in_nI hq (by decide), vp_in_nI hq (by decide), nm_e hpost⟩⟩
theorem dt_xadd7 {q r N : Nat} (hq : q < 8) (hN : N < 40) (hc : lc q = nI N) (hr : r < 40) (hLr : L r = 0 ∨ L r = 1) : ∀ (m : Nat) (l1 l2 : List Nat) (lf : Nat → Int32), l1.length = m → m + l2.length = N → dt_At lf l1 (q * 40) → dt_At lf l2 (q * 40 + m + 1) → (∀ x, x ∈ l1 → x < 40 ∧ (L x = 0 ∨ L x = 1)) → (∀ x, x ∈ l2 → dt_w T B L r x = true) → ∃ (lf' : Nat → Int32) (a1 a2 : List Nat), a1 ++ a2 = l1 ++ l2 ∧ (∀ x, x ∈ a2 → dt_w T B L r x = true) ∧ (a1 = [] ∨ ∃ l0 x, a1 = l0 ++ [x] ∧ dt_w T B L r x = false) ∧ dt_At lf' (a1 ++ r :: a2) (q * 40) ∧ (∀ j, (j < q * 40 ∨ q * 40 + 40 ≤ j) → lf' j = lf j) ∧ ∀ (post : SX → Prop) (n : Nat), m < n → post (nI R, D, P, T, B, L, hX, kX, cm, upd lc q (nI (N + 1)), lf') → wX_addLeaf_7 post (nI q) (nI r) (nI R) n (nI m) D P T B L hX kX cm lc lf := by
  intro m
  induction m with
  | zero =>
    intro l1 l2 lf h1 h2 hA1 hA2 hx hw
    cases List.eq_nil_of_length_eq_zero h1
    refine ⟨upd lf (q * 40 + 0) (nI r), [], l2, rfl, hw, Or.inl rfl, ⟨pk_us, ?_⟩, fun j hj => pk_un (by omega), fun post n hn hpost => ?_⟩
    · exact dt_At_congr l2 (q * 40 + 1) (fun j h3 h4 => pk_un (by omega)) hA2
    · obtain ⟨n, rfl⟩ : ∃ m, n = m + 1 := ⟨n - 1, by omega⟩
      rw [wX_addLeaf_7]
      exact br_t (nI_le (a := 0) (b := 0) (by omega) (by decide)) (dt_xadd62 hq (by omega) hc post hpost)
  | succ m ih =>
    intro l1 l2 lf h1 h2 hA1 hA2 hx hw
    obtain ⟨l0, x, rfl⟩ : ∃ l0 x, l1 = l0 ++ [x] := by
      rcases List.eq_nil_or_concat l1 with e | ⟨l0, x, e⟩
      · rw [e] at h1
        exact absurd h1 (by simp)
      · exact ⟨l0, x, by rw [e, List.concat_eq_append]⟩
    have hl0 : l0.length = m := by
      rw [List.length_append] at h1
      simpa using h1
    have hx0 := hx x (by simp)
    have hA3 := (dt_At_app l0 [x] (q * 40)).mp hA1
    rw [hl0] at hA3
    have ex : lf (q * 40 + m) = nI x := hA3.2.1
    have hnle : ¬ nI (m + 1) ≤ 0 := nI_nle (by omega) (by omega)
    cases hwx : dt_w T B L r x with
    | false =>
      refine ⟨upd lf (q * 40 + (m + 1)) (nI r), l0 ++ [x], l2, rfl, hw, Or.inr ⟨l0, x, rfl, hwx⟩, ?_, fun j hj => pk_un (by omega), fun post n hn hpost => ?_⟩
      · refine (dt_At_app (l0 ++ [x]) (r :: l2) (q * 40)).mpr ⟨dt_At_congr (l0 ++ [x]) (q * 40) (fun j h3 h4 => pk_un (by omega)) hA1, ?_⟩
        rw [h1]
        exact ⟨pk_us, dt_At_congr l2 (q * 40 + (m + 1) + 1) (fun j h3 h4 => pk_un (by omega)) hA2⟩
      · obtain ⟨n, rfl⟩ : ∃ m, n = m + 1 := ⟨n - 1, by omega⟩
        simp only [wX_addLeaf_7, dt_ix, dt_im, nI_clamp (show q * 40 + m < 2 ^ 31 by omega), ex]
        refine br_f hnle ⟨vp_in_nI (by omega) (by decide), dt_xwins hr hx0.1 hLr hx0.2 _ ?_⟩
        rw [hwx]
        exact br_t rfl (dt_xadd62 hq (by omega) hc post hpost)
    | true =>
      obtain ⟨lf', a1, a2, g1, g2, g3, g4, g5, g6⟩ := ih l0 (x :: l2) (upd lf (q * 40 + (m + 1)) (nI x)) hl0 (by rw [List.length_cons]; omega)
        (dt_At_congr l0 (q * 40) (fun j h3 h4 => pk_un (by omega)) hA3.1)
        ⟨pk_us, dt_At_congr l2 (q * 40 + (m + 1) + 1) (fun j h3 h4 => pk_un (by omega)) hA2⟩
        (fun y hy => hx y (by simp [hy]))
        (by
          intro y hy
          rw [List.mem_cons] at hy
          rcases hy with rfl | hy
          · exact hwx
          · exact hw y hy)
      refine ⟨lf', a1, a2, by rw [g1, List.append_assoc]; rfl, g2, g3, g4, fun j hj => (g5 j hj).trans (pk_un (by omega)), fun post n hn hpost => ?_⟩
      obtain ⟨n, rfl⟩ : ∃ m, n = m + 1 := ⟨n - 1, by omega⟩
      simp only [wX_addLeaf_7, dt_ix, dt_im, nI_clamp (show q * 40 + m < 2 ^ 31 by omega), nI_clamp (show q * 40 + (m + 1) < 2 ^ 31 by omega), ex]
      refine br_f hnle ⟨vp_in_nI (by omega) (by decide), dt_xwins hr hx0.1 hLr hx0.2 _ ?_⟩
      rw [hwx]
      exact br_f dt_b_ne ⟨vp_in_nI (by omega) (by decide), vp_in_nI (by omega) (by decide), nm_e (nm_r (pk_m1 m) (g6 post n (by omega) hpost))⟩
theorem dt_xadd {lf : Nat → Int32} {q r : Nat} {l : List Nat} (hq : q < 8) (hr : r < 40) (hLr : L r = 0 ∨ L r = 1) (hRp : dt_Rp lc lf q l) (hl : l.length < 40) (hx : ∀ x, x ∈ l → x < 40 ∧ (L x = 0 ∨ L x = 1)) : ∃ (lc' lf' : Nat → Int32) (a1 a2 : List Nat), a1 ++ a2 = l ∧ (∀ x, x ∈ a2 → dt_w T B L r x = true) ∧ (a1 = [] ∨ ∃ l0 x, a1 = l0 ++ [x] ∧ dt_w T B L r x = false) ∧ dt_Rp lc' lf' q (a1 ++ r :: a2) ∧ dt_Fr lc lf lc' lf' q ∧ ∀ post : SX → Prop, post (nI R, D, P, T, B, L, hX, kX, cm, lc', lf') → wpX_addLeaf post (nI R, D, P, T, B, L, hX, kX, cm, lc, lf) (nI q) (nI r) := by
  obtain ⟨lf', a1, a2, g1, g2, g3, g4, g5, g6⟩ := dt_xadd7 (R := R) (D := D) (P := P) (T := T) (B := B) (L := L) (cm := cm) (hX := hX) (kX := kX) hq hl hRp.1 hr hLr l.length l [] lf rfl rfl hRp.2 trivial hx (fun x hm => absurd hm List.not_mem_nil)
  rw [List.append_nil] at g1
  refine ⟨upd lc q (nI (l.length + 1)), lf', a1, a2, g1, g2, g3, ⟨pk_us.trans (congrArg nI ?_), g4⟩, dt_Fr_of g5, fun post hpost => ?_⟩
  · rw [← g1, List.length_append, List.length_append, List.length_cons]
    rfl
  · unfold wpX_addLeaf
    dsimp only
    refine ⟨vp_in_nI hq (by decide), nm_r (e' := nI l.length) ?_ ⟨l.length + 1, g6 post (l.length + 1) (by omega) hpost⟩⟩
    rw [nI_clamp (by omega), hRp.1]
theorem dt_xcome28 {lf : Nat → Int32} {s r d : Nat} {o : Option Nat} {l : List Nat} (hs : s < 2) (hr : r < 40) (hd : d < 4) (hD : D r = nI d) (hP : P r = dt_par o) (ho : ∀ p, o = some p → p < 40) (hLr : L r = 0 ∨ L r = 1) (hRp : dt_Rp lc lf (s * 4 + d) l) (hl : l.length ≤ 40) (hl2 : (dt_fil o l).length < 40) (hx : ∀ x, x ∈ l → x < 40 ∧ (L x = 0 ∨ L x = 1)) : ∃ (lc' lf' : Nat → Int32) (a1 a2 : List Nat), a1 ++ a2 = dt_fil o l ∧ (∀ x, x ∈ a2 → dt_w T B L r x = true) ∧ (a1 = [] ∨ ∃ l0 x, a1 = l0 ++ [x] ∧ dt_w T B L r x = false) ∧ dt_Rp lc' lf' (s * 4 + d) (a1 ++ r :: a2) ∧ dt_Fr lc lf lc' lf' (s * 4 + d) ∧ ∀ post : SX → Prop, post (nI R, D, P, T, B, L, hX, kX, upd cm s (cm s + 1), lc', lf') → wX_come_28 post (nI s) (nI r) (nI R) D P T B L hX kX cm lc lf := by
  have is : vp_in (nI s) 2 := vp_in_nI hs (by decide)
  have ir : vp_in (nI r) 40 := vp_in_nI hr (by decide)
  have c1 : (nI s).toNatClampNeg = s := nI_clamp (by omega)
  have c2 : (nI r).toNatClampNeg = r := nI_clamp (by omega)
  have hq : s * 4 + d < 8 := by omega
  have e4 : nI s * 4 + D (nI r).toNatClampNeg = nI (s * 4 + d) := by rw [c2, hD, dt_i4]
  cases o with
  | none =>
    obtain ⟨lc', lf', a1, a2, g1, g2, g3, g4, g5, g6⟩ := dt_xadd (R := R) (D := D) (P := P) (T := T) (B := B) (L := L) (cm := upd cm s (cm s + 1)) (hX := hX) (kX := kX) hq hr hLr hRp hl2 hx
    refine ⟨lc', lf', a1, a2, g1, g2, g3, g4, g5, fun post hpost => ?_⟩
    unfold wX_come_28
    refine ⟨is, is, nm_r (e' := upd cm s (cm s + 1)) (by rw [c1]) ⟨ir, nm_r e4 ⟨ir, br_t ?_ ?_⟩⟩⟩
    · rw [c2, hP]
      exact dt_neg1
    · unfold wX_come_71
      exact g6 _ hpost
  | some p =>
    have hp : p < 40 := ho p rfl
    obtain ⟨lc1, lf1, f1, f2, f3⟩ := dt_xdrop (R := R) (D := D) (P := P) (T := T) (B := B) (L := L) (cm := upd cm s (cm s + 1)) (hX := hX) (kX := kX) (p := p) hq (by omega) hRp hl (fun x hm => by have := (hx x hm).1; omega)
    obtain ⟨lc', lf', a1, a2, g1, g2, g3, g4, g5, g6⟩ := dt_xadd (R := R) (D := D) (P := P) (T := T) (B := B) (L := L) (cm := upd cm s (cm s + 1)) (hX := hX) (kX := kX) hq hr hLr f1 hl2 (fun x hm => hx x (List.mem_filter.mp hm).1)
    refine ⟨lc', lf', a1, a2, g1, g2, g3, g4, dt_Fr_trans f2 g5, fun post hpost => ?_⟩
    unfold wX_come_28
    refine ⟨is, is, nm_r (e' := upd cm s (cm s + 1)) (by rw [c1]) ⟨ir, nm_r e4 ⟨ir, br_f ?_ ⟨ir, ?_⟩⟩⟩⟩
    · rw [c2, hP]
      exact nI_pos (by omega)
    · rw [c2, hP]
      refine f3 _ ?_
      dsimp only
      unfold wX_come_71
      exact g6 _ hpost
theorem dt_xcome {lf : Nat → Int32} {s r d : Nat} {o : Option Nat} {l : List Nat} (b : Bool) (hs : s < 2) (hr : r < 40) (hd : d < 4) (hD : D r = nI d) (hP : P r = dt_par o) (ho : ∀ p, o = some p → p < 40) (hLr : L r = 0 ∨ L r = 1) (hRp : dt_Rp lc lf (s * 4 + d) l) (hl : l.length ≤ 40) (hl2 : (dt_fil o l).length < 40) (hx : ∀ x, x ∈ l → x < 40 ∧ (L x = 0 ∨ L x = 1)) : ∃ (kX' : Nat → Int64) (lc' lf' : Nat → Int32) (a1 a2 : List Nat), (kX' = if b = true then vp_updL kX s (kX s ||| ((1 : Int64) <<< ((nI r).toInt64 &&& 63))) else kX) ∧ a1 ++ a2 = dt_fil o l ∧ (∀ x, x ∈ a2 → dt_w T B L r x = true) ∧ (a1 = [] ∨ ∃ l0 x, a1 = l0 ++ [x] ∧ dt_w T B L r x = false) ∧ dt_Rp lc' lf' (s * 4 + d) (a1 ++ r :: a2) ∧ dt_Fr lc lf lc' lf' (s * 4 + d) ∧ ∀ post : SX → Prop, post (nI R, D, P, T, B, L, vp_updL hX s (hX s ||| ((1 : Int64) <<< ((nI r).toInt64 &&& 63))), kX', upd cm s (cm s + 1), lc', lf') → wpX_come post (nI R, D, P, T, B, L, hX, kX, cm, lc, lf) (nI s) (nI r) (dt_b b) := by
  have is : vp_in (nI s) 2 := vp_in_nI hs (by decide)
  have c1 : (nI s).toNatClampNeg = s := nI_clamp (by omega)
  cases b with
  | false =>
    obtain ⟨lc', lf', a1, a2, g1, g2, g3, g4, g5, g6⟩ := dt_xcome28 (R := R) (D := D) (P := P) (T := T) (B := B) (L := L) (cm := cm) (hX := vp_updL hX s (hX s ||| ((1 : Int64) <<< ((nI r).toInt64 &&& 63)))) (kX := kX) hs hr hd hD hP ho hLr hRp hl hl2 hx
    refine ⟨kX, lc', lf', a1, a2, rfl, g1, g2, g3, g4, g5, fun post hpost => ?_⟩
    unfold wpX_come
    dsimp only
    rw [c1]
    exact ⟨is, is, nm_e (br_t rfl (g6 post hpost))⟩
  | true =>
    obtain ⟨lc', lf', a1, a2, g1, g2, g3, g4, g5, g6⟩ := dt_xcome28 (R := R) (D := D) (P := P) (T := T) (B := B) (L := L) (cm := cm) (hX := vp_updL hX s (hX s ||| ((1 : Int64) <<< ((nI r).toInt64 &&& 63)))) (kX := vp_updL kX s (kX s ||| ((1 : Int64) <<< ((nI r).toInt64 &&& 63)))) hs hr hd hD hP ho hLr hRp hl hl2 hx
    refine ⟨_, lc', lf', a1, a2, rfl, g1, g2, g3, g4, g5, fun post hpost => ?_⟩
    unfold wpX_come
    dsimp only
    rw [c1]
    exact ⟨is, is, nm_e (br_f dt_b_ne ⟨is, is, nm_e (g6 post hpost)⟩)⟩
end
end
section
/-! 05: what a coming revision and a new revision do to the relation's parts; no program in sight but come -/
def dt_set (h : Nat → Nat → Bool) (s r : Nat) (b : Bool) : Nat → Nat → Bool := fun s' r' => if s' = s ∧ r' = r then b else h s' r'
theorem dt_set_s {h : Nat → Nat → Bool} {s r : Nat} {b : Bool} : dt_set h s r b s r = b := if_pos ⟨rfl, rfl⟩
theorem dt_set_n {h : Nat → Nat → Bool} {s r s' r' : Nat} {b : Bool} (hn : ¬ (s' = s ∧ r' = r)) : dt_set h s r b s' r' = h s' r' := if_neg hn
section
variable {R : Nat} {D P T B L cm lc lf hY kY : Nat → Int32} {hX kX : Nat → Int64} {dd : Nat → Nat} {pp : Nat → Option Nat} {tt : Nat → Nat} {h k : Nat → Nat → Bool} {ll : Nat → List Nat}
theorem dt_q8 {q : Nat} (hq : q < 8) : ∃ s d, s < 2 ∧ d < 4 ∧ q = s * 4 + d := ⟨q / 4, q % 4, by omega, by omega, by omega⟩
theorem dt_Li_mem (hS : dt_Si R pp h k) (hL : dt_Li R T B L dd pp h ll) {s d x : Nat} (hs : s < 2) (hd : d < 4) (hx : x ∈ ll (s * 4 + d)) : x < R :=
  hS.1 s x hs (dt_leaf_iff.mp (((hL s d hs hd).1 x).mp hx).2).1
theorem dt_Li_len (hS : dt_Si R pp h k) (hL : dt_Li R T B L dd pp h ll) {s d : Nat} (hs : s < 2) (hd : d < 4) : (ll (s * 4 + d)).length ≤ R :=
  dt_len (dt_srt_nodup (hL s d hs hd).2) (fun x hx => dt_Li_mem hS hL hs hd hx)
theorem dt_HX_set (hH : dt_HX hX h) {s r : Nat} (hr : r < 40) : dt_HX (vp_updL hX s (hX s ||| ((1 : Int64) <<< ((nI r).toInt64 &&& 63)))) (dt_set h s r true) := by
  intro s' r' hs' hr'
  by_cases e : s' = s
  · subst e
    rw [pk_uLs, dt_bit_or, hH s' r' hs' hr', dt_bit_one (by omega)]
    by_cases e2 : r' = r
    · subst e2
      rw [dt_set_s, decide_eq_true rfl, Bool.or_true]
    · rw [dt_set_n (fun z => e2 z.2), decide_eq_false (fun z => e2 z.symm), Bool.or_false]
  · rw [pk_uLn e, dt_set_n (fun z => e z.1)]
    exact hH s' r' hs' hr'
theorem dt_HX_clr (hH : dt_HX hX h) {s r : Nat} (hr : r < 40) : dt_HX (vp_updL hX s (hX s &&& (((1 : Int64) <<< ((nI r).toInt64 &&& 63)) ^^^ (-1)))) (dt_set h s r false) := by
  intro s' r' hs' hr'
  by_cases e : s' = s
  · subst e
    rw [pk_uLs, dt_bit_and, hH s' r' hs' hr', dt_bit_not _ (by omega), dt_bit_one (by omega)]
    by_cases e2 : r' = r
    · subst e2
      rw [dt_set_s, decide_eq_true rfl, Bool.not_true, Bool.and_false]
    · rw [dt_set_n (fun z => e2 z.2), decide_eq_false (fun z => e2 z.symm), Bool.not_false, Bool.and_true]
  · rw [pk_uLn e, dt_set_n (fun z => e z.1)]
    exact hH s' r' hs' hr'
theorem dt_HX_same (hH : dt_HX hX h) {s r : Nat} {b : Bool} (he : h s r = b) : dt_HX hX (dt_set h s r b) := by
  intro s' r' hs' hr'
  by_cases e : s' = s ∧ r' = r
  · obtain ⟨rfl, rfl⟩ := e
    rw [dt_set_s, ← he]
    exact hH s' r' hs' hr'
  · rw [dt_set_n e]
    exact hH s' r' hs' hr'
theorem dt_HY_set (hH : dt_HY hY h) {s r : Nat} (hr : r < 40) (b : Bool) : dt_HY (upd hY (s * 40 + r) (dt_b b)) (dt_set h s r b) := by
  intro s' r' hs' hr'
  by_cases e : s' = s ∧ r' = r
  · obtain ⟨rfl, rfl⟩ := e
    rw [dt_set_s, pk_us]
  · rw [dt_set_n e, pk_un (by omega)]
    exact hH s' r' hs' hr'
theorem dt_fil_mem {o : Option Nat} {l : List Nat} {x : Nat} : x ∈ dt_fil o l ↔ x ∈ l ∧ o ≠ some x := by
  cases o with
  | none => exact ⟨fun hx => ⟨hx, fun e => nomatch e⟩, fun hx => hx.1⟩
  | some p =>
    show x ∈ l.filter (fun x => x != p) ↔ _
    rw [List.mem_filter]
    refine and_congr_right (fun _ => ?_)
    rw [bne_iff_ne]
    exact ⟨fun hn e => hn (Option.some.inj e).symm, fun hn e => hn (by rw [e])⟩
theorem dt_fil_srt {o : Option Nat} {l : List Nat} (hS : dt_srt T B L l) : dt_srt T B L (dt_fil o l) := by
  cases o with
  | none => exact hS
  | some p => exact dt_srt_filter _ hS
/-- a revision comes to a site that has its parent -/
theorem dt_come_Si (hSh : dt_Sh R D P T L dd pp tt) (hS : dt_Si R pp h k) {s r : Nat} (b : Bool) (hr : r < R) (hpar : ∀ p, pp r = some p → h s p = true) : dt_Si R pp (dt_set h s r true) (dt_set k s r b) := by
  have mono : ∀ s' r', h s' r' = true → dt_set h s r true s' r' = true := by
    intro s' r' h1
    by_cases e : s' = s ∧ r' = r
    · obtain ⟨rfl, rfl⟩ := e
      exact dt_set_s
    · rw [dt_set_n e]
      exact h1
  refine ⟨?_, ?_, ?_⟩
  · intro s' r' hs' h1
    by_cases e : s' = s ∧ r' = r
    · rw [e.2]
      exact hr
    · rw [dt_set_n e] at h1
      exact hS.1 s' r' hs' h1
  · intro s' r' hs' h1
    by_cases e : s' = s ∧ r' = r
    · obtain ⟨rfl, rfl⟩ := e
      exact dt_set_s
    · rw [dt_set_n e] at h1
      exact mono _ _ (hS.2.1 s' r' hs' h1)
  · intro s' r' p hs' h1 hp
    by_cases e : s' = s ∧ r' = r
    · obtain ⟨rfl, rfl⟩ := e
      exact mono _ _ (hpar p hp)
    · rw [dt_set_n e] at h1
      exact mono _ _ (hS.2.2 s' r' p hs' h1 hp)
theorem dt_come_leaf (hSh : dt_Sh R D P T L dd pp tt) (hS : dt_Si R pp h k) {s r : Nat} (hs : s < 2) (hr : r < R) (hn : h s r = false) : dt_leaf R pp (dt_set h s r true) s r = true := by
  rw [dt_leaf_iff]
  refine ⟨dt_set_s, fun c hc h1 e => ?_⟩
  by_cases ec : c = r
  · subst ec
    have := (hSh.2.2.2.1 c c hr e).1
    omega
  · rw [dt_set_n (fun z => ec z.2)] at h1
    have h2 := hS.2.2 s c r hs h1 e
    rw [hn] at h2
    exact Bool.false_ne_true h2
theorem dt_come_leaf_ne {s r x : Nat} (hr : r < R) (hx : x ≠ r) : dt_leaf R pp (dt_set h s r true) s x = true ↔ (dt_leaf R pp h s x = true ∧ pp r ≠ some x) := by
  rw [dt_leaf_iff, dt_leaf_iff, dt_set_n (fun z => hx z.2)]
  constructor
  · rintro ⟨h1, h2⟩
    refine ⟨⟨h1, fun c hc h3 => ?_⟩, h2 r hr dt_set_s⟩
    by_cases ec : c = r
    · rw [ec]
      exact h2 r hr dt_set_s
    · exact h2 c hc (by rw [dt_set_n (fun z => ec z.2)]; exact h3)
  · rintro ⟨⟨h1, h2⟩, h3⟩
    refine ⟨h1, fun c hc h4 => ?_⟩
    by_cases ec : c = r
    · rw [ec]
      exact h3
    · rw [dt_set_n (fun z => ec z.2)] at h4
      exact h2 c hc h4
theorem dt_come_leaf_site {s r s' x : Nat} {b : Bool} (hs : s' ≠ s) : dt_leaf R pp (dt_set h s r b) s' x = dt_leaf R pp h s' x := by
  have e : ∀ y, dt_set h s r b s' y = h s' y := fun y => dt_set_n (fun z => hs z.1)
  unfold dt_leaf
  simp only [e]
theorem dt_come_Li (hSh : dt_Sh R D P T L dd pp tt) (hS : dt_Si R pp h k) (hL : dt_Li R T B L dd pp h ll) {s r : Nat} (hs : s < 2) (hr : r < R) (hn : h s r = false) {a1 a2 : List Nat} (ha : a1 ++ a2 = dt_fil (pp r) (ll (s * 4 + dd r))) (h2 : ∀ x, x ∈ a2 → dt_w T B L r x = true) (h1 : a1 = [] ∨ ∃ l0 x, a1 = l0 ++ [x] ∧ dt_w T B L r x = false) : dt_Li R T B L dd pp (dt_set h s r true) (fun q => if q = s * 4 + dd r then a1 ++ r :: a2 else ll q) := by
  have hd : dd r < 4 := (hSh.2.1 r hr).2
  intro s' d' hs' hd'
  dsimp only
  by_cases e : s' = s ∧ d' = dd r
  · obtain ⟨rfl, rfl⟩ := e
    rw [if_pos rfl]
    have hrn : r ∉ a1 ++ a2 := by
      rw [ha, dt_fil_mem, (hL s' (dd r) hs' hd').1 r, dt_leaf_iff, hn]
      rintro ⟨⟨_, hf, _⟩, _⟩
      exact Bool.false_ne_true hf
    refine ⟨fun x => ?_, dt_srt_ins (by rw [ha]; exact dt_fil_srt (hL s' (dd r) hs' hd').2) hrn h2 h1⟩
    have em : x ∈ a1 ++ r :: a2 ↔ x = r ∨ x ∈ a1 ++ a2 := by
      rw [List.mem_append, List.mem_append, List.mem_cons]
      constructor
      · rintro (z | z | z)
        · exact Or.inr (Or.inl z)
        · exact Or.inl z
        · exact Or.inr (Or.inr z)
      · rintro (z | z | z)
        · exact Or.inr (Or.inl z)
        · exact Or.inl z
        · exact Or.inr (Or.inr z)
    rw [em, ha, dt_fil_mem, (hL s' (dd r) hs' hd').1 x]
    by_cases ex : x = r
    · subst ex
      exact ⟨fun _ => ⟨rfl, dt_come_leaf hSh hS hs hr hn⟩, fun _ => Or.inl rfl⟩
    · rw [dt_come_leaf_ne hr ex]
      exact ⟨fun z => by rcases z with z | z; exact absurd z ex; exact ⟨z.1.1, z.1.2, z.2⟩, fun z => Or.inr ⟨⟨z.1, z.2.1⟩, z.2.2⟩⟩
  · rw [if_neg (by omega)]
    refine ⟨fun x => ?_, (hL s' d' hs' hd').2⟩
    rw [(hL s' d' hs' hd').1 x]
    by_cases es : s' = s
    · subst es
      refine and_congr_right (fun hx => ?_)
      have ex : x ≠ r := fun z => e ⟨rfl, by rw [← hx, z]⟩
      rw [dt_come_leaf_ne hr ex]
      refine ⟨fun z => ⟨z, fun y => ?_⟩, fun z => z.1⟩
      exact e ⟨rfl, by rw [← hx, (hSh.2.2.2.1 r x hr y).2.1]⟩
    · rw [dt_come_leaf_site es]
theorem dt_come_LX (hS : dt_Si R pp h k) (hR : R ≤ 40) (hL : dt_Li R T B L dd pp h ll) (hA : dt_LX lc lf ll) {q : Nat} {lc' lf' : Nat → Int32} {l : List Nat} (h1 : dt_Rp lc' lf' q l) (h2 : dt_Fr lc lf lc' lf' q) : dt_LX lc' lf' (fun q' => if q' = q then l else ll q') := by
  intro q' hq'
  dsimp only
  by_cases e : q' = q
  · rw [if_pos e, e]
    exact h1
  · rw [if_neg e]
    refine h2 q' (ll q') e ?_ (hA q' hq')
    obtain ⟨s, d, hs, hd, rfl⟩ := dt_q8 hq'
    have := dt_Li_len hS hL hs hd
    omega
/-- come on the component's side, and what the reference writes, keep all -/
theorem dt_come_all (G : dt_G R D P T B L hX kX lc lf hY kY dd pp tt h k ll) {s r : Nat} (b : Bool) (hs : s < 2) (hr : r < R) (hn : h s r = false) (hpar : ∀ p, pp r = some p → h s p = true) : ∃ (hX' kX' : Nat → Int64) (lc' lf' : Nat → Int32) (ll' : Nat → List Nat), dt_G R D P T B L hX' kX' lc' lf' (upd hY (s * 40 + r) 1) (upd kY (s * 40 + r) (dt_b b)) dd pp tt (dt_set h s r true) (dt_set k s r b) ll' ∧ ∀ post : SX → Prop, post (nI R, D, P, T, B, L, hX', kX', upd cm s (cm s + 1), lc', lf') → wpX_come post (nI R, D, P, T, B, L, hX, kX, cm, lc, lf) (nI s) (nI r) (dt_b b) := by
  obtain ⟨hSh, hHX, hKX, hHY, hKY, hS, hL, hA⟩ := G
  have hR : R ≤ 40 := hSh.1
  have hd : dd r < 4 := (hSh.2.1 r hr).2
  have hlen := dt_Li_len hS hL hs hd
  have hmem : ∀ x, x ∈ ll (s * 4 + dd r) → x < R := fun x hx => dt_Li_mem hS hL hs hd hx
  have hrl : r ∉ dt_fil (pp r) (ll (s * 4 + dd r)) := by
    rw [dt_fil_mem, (hL s (dd r) hs hd).1 r, dt_leaf_iff, hn]
    rintro ⟨⟨_, hf, _⟩, _⟩
    exact Bool.false_ne_true hf
  have hl2 : (dt_fil (pp r) (ll (s * 4 + dd r))).length < R := dt_len_ne (dt_srt_nodup (dt_fil_srt (hL s (dd r) hs hd).2)) (fun x hx => hmem x (dt_fil_mem.mp hx).1) hr hrl
  obtain ⟨kX', lc', lf', a1, a2, ek, g1, g2, g3, g4, g5, g6⟩ := dt_xcome (R := R) (D := D) (P := P) (T := T) (B := B) (L := L) (cm := cm) (hX := hX) (kX := kX) b hs (by omega) hd (hSh.2.1 r hr).1 (hSh.2.2.1 r hr)
    (fun p hp => by have := (hSh.2.2.2.1 r p hr hp).1; omega) (hSh.2.2.2.2.2 r hr) (hA (s * 4 + dd r) (by omega)) (by omega) (by omega) (fun x hx => ⟨by have := hmem x hx; omega, hSh.2.2.2.2.2 x (hmem x hx)⟩)
  refine ⟨_, kX', lc', lf', _, ⟨hSh, dt_HX_set hHX (by omega), ?_, dt_HY_set hHY (by omega) true, dt_HY_set hKY (by omega) b, dt_come_Si hSh hS b hr hpar, dt_come_Li hSh hS hL hs hr hn g1 g2 g3, dt_come_LX hS hR hL hA g4 g5⟩, g6⟩
  rw [ek]
  cases b with
  | true => exact dt_HX_set hKX (by omega)
  | false =>
    refine dt_HX_same hKX ?_
    cases hk : k s r with
    | false => rfl
    | true =>
      have h3 := hS.2.1 s r hs hk
      rw [hn] at h3
      exact h3.symm
end
end
section
/-! 06: a new revision that no site has yet; write and add -/
def dt_put {α : Type} (f : Nat → α) (n : Nat) (x : α) : Nat → α := fun j => if j = n then x else f j
theorem dt_put_s {α : Type} {f : Nat → α} {n : Nat} {x : α} : dt_put f n x n = x := if_pos rfl
theorem dt_put_n {α : Type} {f : Nat → α} {n j : Nat} {x : α} (h : j ≠ n) : dt_put f n x j = f j := if_neg h
section
variable {R : Nat} {D P T B L cm lc lf hY kY : Nat → Int32} {hX kX : Nat → Int64} {dd : Nat → Nat} {pp : Nat → Option Nat} {tt : Nat → Nat} {h k : Nat → Nat → Bool} {ll : Nat → List Nat}
theorem dt_ext_leaf (hS : dt_Si R pp h k) {s x : Nat} (o : Option Nat) (hs : s < 2) : dt_leaf (R + 1) (dt_put pp R o) h s x = true ↔ dt_leaf R pp h s x = true := by
  rw [dt_leaf_iff, dt_leaf_iff]
  refine and_congr_right (fun _ => ⟨fun z c hc hh => ?_, fun z c hc hh => ?_⟩)
  · have := z c (by omega) hh
    rw [dt_put_n (by omega)] at this
    exact this
  · have hc2 := hS.1 s c hs hh
    rw [dt_put_n (by omega)]
    exact z c hc2 hh
theorem dt_ext_G (G : dt_G R D P T B L hX kX lc lf hY kY dd pp tt h k ll) (hR : R < 40) {d t : Nat} {o : Option Nat} {x : Int32} {lb : Int32} (hd : d < 4) (ho : ∀ p, o = some p → p < R ∧ dd p = d ∧ t = tt p + 1) (ht : t ≤ R + 1) (hlb : lb = 0 ∨ lb = 1) : dt_G (R + 1) (upd D R (nI d)) (upd P R (dt_par o)) (upd T R (nI t)) (upd B R x) (upd L R lb) hX kX lc lf hY kY (dt_put dd R d) (dt_put pp R o) (dt_put tt R t) h k ll := by
  obtain ⟨⟨s1, s2, s3, s4, s5, s6⟩, hHX, hKX, hHY, hKY, hS, hL, hA⟩ := G
  refine ⟨⟨by omega, ?_, ?_, ?_, ?_, ?_⟩, hHX, hKX, hHY, hKY, ⟨?_, hS.2.1, ?_⟩, ?_, hA⟩
  · intro r hr
    by_cases e : r = R
    · rw [e, pk_us, dt_put_s]
      exact ⟨rfl, hd⟩
    · rw [pk_un e, dt_put_n e]
      exact s2 r (by omega)
  · intro r hr
    by_cases e : r = R
    · rw [e, pk_us, dt_put_s]
    · rw [pk_un e, dt_put_n e]
      exact s3 r (by omega)
  · intro r p hr hp
    by_cases e : r = R
    · rw [e, dt_put_s] at hp
      obtain ⟨h1, h2, h3⟩ := ho p hp
      rw [e, dt_put_s, dt_put_s, dt_put_n (by omega), dt_put_n (by omega)]
      exact ⟨h1, h2, h3⟩
    · rw [dt_put_n e] at hp
      obtain ⟨h1, h2, h3⟩ := s4 r p (by omega) hp
      rw [dt_put_n e, dt_put_n e, dt_put_n (by omega), dt_put_n (by omega)]
      exact ⟨h1, h2, h3⟩
  · intro r hr
    by_cases e : r = R
    · rw [e, pk_us, dt_put_s]
      exact ⟨rfl, ht⟩
    · rw [pk_un e, dt_put_n e]
      exact s5 r (by omega)
  · intro r hr
    by_cases e : r = R
    · rw [e, pk_us]
      exact hlb
    · rw [pk_un e]
      exact s6 r (by omega)
  · intro s r hs hr
    have := hS.1 s r hs hr
    omega
  · intro s r p hs hr hp
    have := hS.1 s r hs hr
    rw [dt_put_n (by omega)] at hp
    exact hS.2.2 s r p hs hr hp
  · intro s d' hs hd'
    refine ⟨fun y => ?_, dt_srt_congr ?_ ?_ ?_ (hL s d' hs hd').2⟩
    · rw [(hL s d' hs hd').1 y, dt_ext_leaf hS o hs]
      refine ⟨fun z => ⟨?_, z.2⟩, fun z => ⟨?_, z.2⟩⟩
      · have := hS.1 s y hs (dt_leaf_iff.mp z.2).1
        rw [dt_put_n (by omega)]
        exact z.1
      · have := hS.1 s y hs (dt_leaf_iff.mp z.2).1
        rw [dt_put_n (by omega)] at z
        exact z.1
    · intro y hy
      have := dt_Li_mem hS hL hs hd' hy
      exact pk_un (by omega)
    · intro y hy
      have := dt_Li_mem hS hL hs hd' hy
      exact pk_un (by omega)
    · intro y hy
      have := dt_Li_mem hS hL hs hd' hy
      exact pk_un (by omega)
end
/-- the relation of the two states -/
def dt_Rel (u : SX) (v : SY) : Prop := ∃ (R : Nat) (D P T B L : Nat → Int32) (hX kX : Nat → Int64) (cm lc lf hY kY : Nat → Int32) (dd : Nat → Nat) (pp : Nat → Option Nat) (tt : Nat → Nat) (h k : Nat → Nat → Bool) (ll : Nat → List Nat), u = (nI R, D, P, T, B, L, hX, kX, cm, lc, lf) ∧ v = (nI R, D, P, T, B, L, hY, kY, cm) ∧ dt_G R D P T B L hX kX lc lf hY kY dd pp tt h k ll
section
variable {R : Nat} {D P T B L cm lc lf hY kY : Nat → Int32} {hX kX : Nat → Int64} {dd : Nat → Nat} {pp : Nat → Option Nat} {tt : Nat → Nat} {h k : Nat → Nat → Bool} {ll : Nat → List Nat}
theorem dt_Rel_i (G : dt_G R D P T B L hX kX lc lf hY kY dd pp tt h k ll) : dt_Rel (nI R, D, P, T, B, L, hX, kX, cm, lc, lf) (nI R, D, P, T, B, L, hY, kY, cm) :=
  ⟨R, D, P, T, B, L, hX, kX, cm, lc, lf, hY, kY, dd, pp, tt, h, k, ll, rfl, rfl, G⟩
theorem dt_Rel_e {Q : SX → SY → Prop} (H : ∀ (R : Nat) (D P T B L : Nat → Int32) (hX kX : Nat → Int64) (cm lc lf hY kY : Nat → Int32) (dd : Nat → Nat) (pp : Nat → Option Nat) (tt : Nat → Nat) (h k : Nat → Nat → Bool) (ll : Nat → List Nat), dt_G R D P T B L hX kX lc lf hY kY dd pp tt h k ll → Q (nI R, D, P, T, B, L, hX, kX, cm, lc, lf) (nI R, D, P, T, B, L, hY, kY, cm)) {u : SX} {v : SY} (I : dt_Rel u v) : Q u v := by
  unfold dt_Rel at I
  obtain ⟨R, D, P, T, B, L, hX, kX, cm, lc, lf, hY, kY, dd, pp, tt, h, k, ll, e1, e2, G⟩ := I
  rw [e1, e2]
  exact H R D P T B L hX kX cm lc lf hY kY dd pp tt h k ll G
theorem dt_xwrite {s d t : Nat} {o : Option Nat} {x : Int32} {lb : Bool} (hR : R < 40) (ho : ∀ p, o = some p → p < R ∧ T p + 1 = nI t) (ho2 : o = none → t = 1) {hX' kX' : Nat → Int64} {cm' lc' lf' : Nat → Int32} (hw : ∀ q : SX → Prop, q (nI (R + 1), upd D R (nI d), upd P R (dt_par o), upd T R (nI t), upd B R x, upd L R (dt_b lb), hX', kX', cm', lc', lf') → wpX_come q (nI (R + 1), upd D R (nI d), upd P R (dt_par o), upd T R (nI t), upd B R x, upd L R (dt_b lb), hX, kX, cm, lc, lf) (nI s) (nI R) (dt_b true)) (post : Int32 → SX → Prop) (hpost : post (nI R) (nI (R + 1), upd D R (nI d), upd P R (dt_par o), upd T R (nI t), upd B R x, upd L R (dt_b lb), hX', kX', cm', lc', lf')) : wpX_write post (nI R, D, P, T, B, L, hX, kX, cm, lc, lf) (nI s) (nI d) (dt_par o) x (dt_b lb) := by
  have i : vp_in (nI R) 40 := vp_in_nI hR (by decide)
  have c : (nI R).toNatClampNeg = R := nI_clamp (by omega)
  have fin : wX_write_44 post (nI s) x (dt_b lb) (nI R) (nI t) (nI R) (nI R) (upd D R (nI d)) (upd P R (dt_par o)) T B L hX kX cm lc lf := by
    unfold wX_write_44
    rw [c, dt_vnb, nI_1]
    exact ⟨i, nm_e ⟨i, nm_e ⟨i, nm_e (nm_e (hw _ hpost))⟩⟩⟩
  unfold wpX_write
  dsimp only
  rw [c]
  refine ⟨i, nm_e ⟨i, nm_e ?_⟩⟩
  cases o with
  | none =>
    refine br_f (by decide +kernel) ?_
    rw [ho2 rfl] at fin
    exact fin
  | some p =>
    obtain ⟨h1, h2⟩ := ho p rfl
    refine br_t (nI_pos' (by omega)) ⟨vp_in_nI (by omega) (by decide), ?_⟩
    rw [← h2] at fin
    show wX_write_44 _ _ _ _ _ (T (nI p).toNatClampNeg + 1) _ _ _ _ _ _ _ _ _ _ _ _
    rw [nI_clamp (by omega)]
    exact fin
theorem dt_yadd {s d t : Nat} {o : Option Nat} {x : Int32} {lb : Bool} (hR : R < 40) (hs : s < 2) (ho : ∀ p, o = some p → p < R ∧ T p + 1 = nI t) (ho2 : o = none → t = 1) (post : Int32 → SY → Prop) (hpost : post (nI R) (nI (R + 1), upd D R (nI d), upd P R (dt_par o), upd T R (nI t), upd B R x, upd L R (dt_b lb), upd hY (s * 40 + R) 1, upd kY (s * 40 + R) (dt_b true), upd cm s (cm s + 1))) : wpY_add post (nI R, D, P, T, B, L, hY, kY, cm) (nI s) (nI d) (dt_par o) x (dt_b lb) := by
  have i : vp_in (nI R) 40 := vp_in_nI hR (by decide)
  have is : vp_in (nI s) 2 := vp_in_nI hs (by decide)
  have i2 : vp_in (nI (s * 40 + R)) 80 := vp_in_nI (by omega) (by decide)
  have c : (nI R).toNatClampNeg = R := nI_clamp (by omega)
  have c2 : (nI s).toNatClampNeg = s := nI_clamp (by omega)
  have c3 : (nI (s * 40 + R)).toNatClampNeg = s * 40 + R := nI_clamp (by omega)
  have fin : wY_add_54 post (nI s) x (dt_b lb) (nI R) (nI t) (nI R) (nI (R + 1)) (upd D R (nI d)) (upd P R (dt_par o)) T B L hY kY cm := by
    unfold wY_add_54
    rw [c, dt_vnb, dt_ix, c2, c3]
    exact ⟨i, nm_e ⟨i, nm_e ⟨i, nm_e ⟨i2, nm_e ⟨i2, nm_e ⟨is, is, nm_e hpost⟩⟩⟩⟩⟩⟩
  unfold wpY_add
  dsimp only
  rw [c]
  refine nm_r (nI_1 R) ⟨i, nm_e ⟨i, nm_e ?_⟩⟩
  cases o with
  | none =>
    refine br_f (by decide +kernel) ?_
    rw [ho2 rfl] at fin
    exact fin
  | some p =>
    obtain ⟨h1, h2⟩ := ho p rfl
    refine br_t (nI_pos' (by omega)) ⟨vp_in_nI (by omega) (by decide), ?_⟩
    rw [← h2] at fin
    show wY_add_54 _ _ _ _ _ (T (nI p).toNatClampNeg + 1) _ _ _ _ _ _ _ _ _ _
    rw [nI_clamp (by omega)]
    exact fin
/-- both sides write: one outcome -/
theorem dt_write_all (G : dt_G R D P T B L hX kX lc lf hY kY dd pp tt h k ll) {s d : Nat} {o : Option Nat} (x : Int32) (lb : Bool) (hR : R < 40) (hs : s < 2) (hd : d < 4) (ho : ∀ p, o = some p → p < R ∧ dd p = d ∧ h s p = true) : ∃ (u' : SX) (v' : SY), dt_Rel u' v' ∧ (∀ post : Int32 → SX → Prop, post (nI R) u' → wpX_write post (nI R, D, P, T, B, L, hX, kX, cm, lc, lf) (nI s) (nI d) (dt_par o) x (dt_b lb)) ∧ (∀ post : Int32 → SY → Prop, post (nI R) v' → wpY_add post (nI R, D, P, T, B, L, hY, kY, cm) (nI s) (nI d) (dt_par o) x (dt_b lb)) := by
  have G0 := G
  obtain ⟨⟨s1, s2, s3, s4, s5, s6⟩, _, _, _, _, hS, _, _⟩ := G0
  obtain ⟨t, ht1, ht2, ht3⟩ : ∃ t, t ≤ R + 1 ∧ (∀ p, o = some p → t = tt p + 1) ∧ (o = none → t = 1) := by
    cases o with
    | none => exact ⟨1, by omega, (fun p hp => nomatch hp), fun _ => rfl⟩
    | some p =>
      obtain ⟨h1, _, _⟩ := ho p rfl
      have := (s5 p h1).2
      exact ⟨tt p + 1, by omega, fun p' hp => by rw [← Option.some.inj hp], (fun z => nomatch z)⟩
  have G1 := dt_ext_G G hR (x := x) (lb := dt_b lb) (o := o) (t := t) hd (fun p hp => ⟨(ho p hp).1, (ho p hp).2.1, ht2 p hp⟩) ht1 (by cases lb with | false => exact Or.inl rfl | true => exact Or.inr rfl)
  have hn : h s R = false := by
    cases e : h s R with
    | false => rfl
    | true => exact absurd (hS.1 s R hs e) (Nat.lt_irrefl R)
  have hoT : ∀ p, o = some p → p < R ∧ T p + 1 = nI t := by
    intro p hp
    have h1 := (ho p hp).1
    refine ⟨h1, ?_⟩
    rw [(s5 p h1).1, nI_1, ht2 p hp]
  obtain ⟨hX', kX', lc', lf', ll', G2, hw⟩ := dt_come_all (cm := cm) G1 (s := s) (r := R) true hs (by omega) hn (by
    intro p hp
    rw [dt_put_s] at hp
    exact (ho p hp).2.2)
  refine ⟨_, _, dt_Rel_i (cm := upd cm s (cm s + 1)) G2, fun post hpost => ?_, fun post hpost => ?_⟩
  · exact dt_xwrite hR hoT ht3 hw post hpost
  · exact dt_yadd hR hs hoT ht3 post hpost
end
end
section
/-! 07: the reference's at, leaf, better, ahead, best -/
section
variable {R : Nat} {D P T B L cm hY kY : Nat → Int32} {dd : Nat → Nat} {pp : Nat → Option Nat} {tt : Nat → Nat} {h k : Nat → Nat → Bool}
theorem dt_yat {s r : Nat} (hR : R ≤ 40) (hH : dt_HY hY h) (hs : s < 2) (hr : r < R) (post : Int32 → Prop) (hp : post (dt_b (h s r))) : wpY_at post (nI R, D, P, T, B, L, hY, kY, cm) (nI s) (nI r) := by
  unfold wpY_at
  dsimp only
  refine br_f (nI_pos (by omega)) (br_f (nI_ge hr (by omega)) ?_)
  rw [dt_ix, nI_clamp (by omega), hH s r hs (by omega)]
  refine ⟨vp_in_nI (by omega) (by decide), dt_br (fun e => ?_) (fun e => ?_)⟩
  · rw [e] at hp
    exact hp
  · rw [e] at hp
    exact hp
theorem dt_yat0 {s : Nat} {x : Int32} (hx : x < 0 ∨ nI R ≤ x) (post : Int32 → Prop) (hp : post 0) : wpY_at post (nI R, D, P, T, B, L, hY, kY, cm) (nI s) x := by
  unfold wpY_at
  dsimp only
  by_cases h0 : x < 0
  · exact br_t h0 hp
  · rcases hx with hx | hx
    · exact absurd hx h0
    · exact br_f h0 (br_t hx hp)
theorem dt_yleaf2 {s r : Nat} (hSh : dt_Sh R D P T L dd pp tt) (hH : dt_HY hY h) (hs : s < 2) (hr : r < R) (post : Int32 → Prop) (hp : post (dt_b (dt_leaf R pp h s r))) : ∀ (m i n : Nat), i + m = R → m < n → (∀ c, c < i → (h s c = true → pp c ≠ some r)) → wY_leaf_2 post (nI s) (nI r) (nI R) D P T B L hY kY cm n (nI i) := by
  have hR := hSh.1
  intro m
  induction m with
  | zero =>
    intro i n hi hn hc
    obtain ⟨n, rfl⟩ : ∃ m, n = m + 1 := ⟨n - 1, by omega⟩
    rw [wY_leaf_2]
    refine br_t (nI_le (by omega) (by omega)) (dt_yat hR hH hs hr _ ⟨dt_b_nar _, ?_⟩)
    have e : dt_leaf R pp h s r = h s r := by
      cases e : h s r with
      | false => exact dt_leaf_f (fun z => by rw [e] at z; exact Bool.false_ne_true z.1)
      | true => exact dt_leaf_iff.mpr ⟨e, fun c hc2 => hc c (by omega)⟩
    rw [e] at hp
    exact hp
  | succ m ih =>
    intro i n hi hn hc
    obtain ⟨n, rfl⟩ : ∃ m, n = m + 1 := ⟨n - 1, by omega⟩
    simp only [wY_leaf_2, dt_ix, nI_clamp (show s * 40 + i < 2 ^ 31 by omega), nI_clamp (show i < 2 ^ 31 by omega), hH s i hs (by omega), hSh.2.2.1 i (by omega)]
    refine br_f (nI_ge (by omega) (by omega)) ⟨vp_in_nI (by omega) (by decide), dt_br (fun e => ?_) (fun e => ⟨vp_in_nI (by omega) (by decide), ?_⟩)⟩
    · refine nm_r (nI_1 i) (ih (i + 1) n (by omega) (by omega) (fun c hc2 => ?_))
      by_cases ec : c = i
      · intro z
        rw [ec, e] at z
        exact absurd z Bool.false_ne_true
      · exact hc c (by omega)
    · rw [dt_par_eq (fun p hp2 => by have := (hSh.2.2.2.1 i p (by omega) hp2).1; omega) (by omega)]
      refine br_c (fun e2 => ?_) (fun e2 => nm_r (nI_1 i) (ih (i + 1) n (by omega) (by omega) (fun c hc2 => ?_)))
      · have e3 : dt_leaf R pp h s r = false := dt_leaf_f (fun z => z.2 i (by omega) e e2)
        rw [e3] at hp
        exact hp
      · by_cases ec : c = i
        · rw [ec]
          exact fun _ => e2
        · exact hc c (by omega)
theorem dt_yleaf {s r : Nat} (hSh : dt_Sh R D P T L dd pp tt) (hH : dt_HY hY h) (hs : s < 2) (hr : r < R) (post : Int32 → Prop) (hp : post (dt_b (dt_leaf R pp h s r))) : wpY_leaf post (nI R, D, P, T, B, L, hY, kY, cm) (nI s) (nI r) :=
  ⟨R + 1, dt_yleaf2 hSh hH hs hr post hp R 0 (R + 1) (by omega) (by omega) (fun c hc => absurd hc (by omega))⟩
theorem dt_ybetter {a b : Nat} (ha : a < 40) (hb : b < 40) (hLa : L a = 0 ∨ L a = 1) (hLb : L b = 0 ∨ L b = 1) (post : Int32 → Prop) (hp : post (dt_b (dt_w T B L a b))) : wpY_better post (nI R, D, P, T, B, L, hY, kY, cm) (nI a) (nI b) := by
  have ia : vp_in (nI a) 40 := vp_in_nI ha (by decide)
  have ib : vp_in (nI b) 40 := vp_in_nI hb (by decide)
  unfold wpY_better
  dsimp only
  rw [nI_clamp (show a < 2 ^ 31 by omega), nI_clamp (show b < 2 ^ 31 by omega)]
  have pt : dt_w T B L a b = true → post 1 := fun e => by rw [e] at hp; exact hp
  have pf : dt_w T B L a b = false → post 0 := fun e => by rw [e] at hp; exact hp
  have t0 : (0 : Int32).toInt = 0 := by decide
  have t1 : (1 : Int32).toInt = 1 := by decide
  refine ⟨ia, ib, br_c (fun h1 => ⟨ia, ib, br_c (fun h2 => ⟨ia, ib, br_c (fun h3 => br_c (fun h4 => pf ?_) (fun h4 => pt ?_)) (fun h3 => ⟨ia, ib, br_c (fun h4 => pf ?_) (fun h4 => pt ?_)⟩)⟩) (fun h2 => ⟨ia, ib, br_c (fun h4 => pf ?_) (fun h4 => pt ?_)⟩)⟩) (fun h1 => ⟨ib, ?_, ?_⟩)⟩
  · rw [nI_leI (by omega) (by omega)] at h4
    rw [← Int32.toInt_inj] at h1 h2 h3
    exact dt_w_f (by omega)
  · rw [nI_leI (by omega) (by omega)] at h4
    rw [← Int32.toInt_inj] at h1 h2 h3
    exact dt_w_t (by omega)
  · rw [Int32.le_iff_toInt_le] at h4
    rw [← Int32.toInt_inj] at h1 h2 h3
    exact dt_w_f (by omega)
  · rw [Int32.le_iff_toInt_le] at h4
    rw [← Int32.toInt_inj] at h1 h2 h3
    exact dt_w_t (by omega)
  · rw [Int32.le_iff_toInt_le] at h4
    rw [← Int32.toInt_inj] at h1 h2
    exact dt_w_f (by omega)
  · rw [Int32.le_iff_toInt_le] at h4
    rw [← Int32.toInt_inj] at h1 h2
    exact dt_w_t (by omega)
  · rcases hLb with e | e
    · rw [e]; rfl
    · rw [e]; rfl
  · rcases hLb with e | e
    · rw [e]
      rcases hLa with e' | e'
      · exact absurd (e'.trans e.symm) h1
      · exact pf (dt_w_f (by rw [e, e', t0, t1]; omega))
    · rw [e]
      rcases hLa with e' | e'
      · exact pt (dt_w_t (by rw [e, e', t0, t1]; omega))
      · exact absurd (e'.trans e.symm) h1
/-- the leaves of a document, as the reference asks for them -/
def dt_ql (R : Nat) (dd : Nat → Nat) (pp : Nat → Option Nat) (h : Nat → Nat → Bool) (s d r : Nat) : Bool := decide (dd r = d) && dt_leaf R pp h s r
/-- the leaves that go ahead of x -/
def dt_qa (R : Nat) (T B L : Nat → Int32) (dd : Nat → Nat) (pp : Nat → Option Nat) (h : Nat → Nat → Bool) (s d x : Nat) (all : Bool) (r : Nat) : Bool := dt_ql R dd pp h s d r && ((all || decide (L r = 0)) && dt_w T B L r x)
theorem dt_yahead51 {s d x c i : Nat} (all : Bool) (hSh : dt_Sh R D P T L dd pp tt) (hx : x < R) (hi : i < R) (hq : dt_ql R dd pp h s d i = true) (ho : (all || decide (L i = 0)) = true) (post : Int32 → Prop) (J : Int32 → Int32 → Prop) (hJ : J (nI (c + (if dt_qa R T B L dd pp h s d x all i = true then 1 else 0))) (nI (i + 1))) : wY_ahead_51 post J (nI s) (nI d) (nI x) (dt_b all) (nI c) (nI i) (nI R) D P T B L hY kY cm := by
  have hR := hSh.1
  unfold wY_ahead_51
  refine dt_ybetter (by omega) (by omega) (hSh.2.2.2.2.2 i hi) (hSh.2.2.2.2.2 x hx) _ (dt_br (fun e => ?_) (fun e => ?_))
  · have e2 : dt_qa R T B L dd pp h s d x all i = false := by unfold dt_qa; rw [hq, ho, e]; rfl
    rw [e2, if_neg Bool.false_ne_true] at hJ
    exact nm_r (nI_1 i) hJ
  · have e2 : dt_qa R T B L dd pp h s d x all i = true := by unfold dt_qa; rw [hq, ho, e]; rfl
    rw [e2, if_pos rfl] at hJ
    exact nm_r (nI_1 c) (nm_r (nI_1 i) hJ)
theorem dt_yahead6 {s d x : Nat} (all : Bool) (hSh : dt_Sh R D P T L dd pp tt) (hH : dt_HY hY h) (hs : s < 2) (hd : d < 4) (hx : x < R) (post : Int32 → Prop) (hp : post (nI (dt_cnt (dt_qa R T B L dd pp h s d x all) R))) : ∀ (m i n : Nat), i + m = R → m < n → wY_ahead_6 post (nI s) (nI d) (nI x) (dt_b all) (nI R) D P T B L hY kY cm n (nI (dt_cnt (dt_qa R T B L dd pp h s d x all) i)) (nI i) := by
  have hR := hSh.1
  intro m
  induction m with
  | zero =>
    intro i n hi hn
    obtain ⟨n, rfl⟩ : ∃ m, n = m + 1 := ⟨n - 1, by omega⟩
    have e : i = R := by omega
    rw [e, wY_ahead_6]
    exact br_t (nI_le (by omega) (by omega)) hp
  | succ m ih =>
    intro i n hi hn
    obtain ⟨n, rfl⟩ : ∃ m, n = m + 1 := ⟨n - 1, by omega⟩
    have hi2 : i < R := by omega
    have hD := hSh.2.1 i hi2
    have go := ih (i + 1) n (by omega) (by omega)
    have skip : dt_qa R T B L dd pp h s d x all i = false → wY_ahead_6 post (nI s) (nI d) (nI x) (dt_b all) (nI R) D P T B L hY kY cm n (nI (dt_cnt (dt_qa R T B L dd pp h s d x all) i)) (nI (i + 1)) := by
      intro e
      rw [dt_cnt_f e] at go
      exact go
    simp only [wY_ahead_6, nI_clamp (show i < 2 ^ 31 by omega), hD.1, nI_eq (show dd i < 2 ^ 31 by omega) (show d < 2 ^ 31 by omega)]
    refine br_f (nI_ge (by omega) (by omega)) ⟨vp_in_nI (by omega) (by decide), br_c (fun e => ?_) (fun e => nm_r (nI_1 i) (skip ?_))⟩
    · refine dt_yleaf hSh hH hs hi2 _ (dt_br (fun e2 => nm_r (nI_1 i) (skip ?_)) (fun e2 => ?_))
      · unfold dt_qa dt_ql
        rw [e2, Bool.and_false, Bool.false_and]
      · have hq : dt_ql R dd pp h s d i = true := by unfold dt_ql; rw [e2, decide_eq_true e]; rfl
        refine dt_br (fun e3 => ⟨vp_in_nI (by omega) (by decide), br_c (fun e4 => ?_) (fun e4 => nm_r (nI_1 i) (skip ?_))⟩) (fun e3 => ?_)
        · exact dt_yahead51 all hSh hx hi2 hq (by rw [decide_eq_true e4, Bool.or_true]) post _ go
        · unfold dt_qa
          rw [e3, decide_eq_false e4, Bool.or_false, Bool.false_and, Bool.and_false]
        · exact dt_yahead51 all hSh hx hi2 hq (by rw [e3, Bool.true_or]) post _ go
    · unfold dt_qa dt_ql
      rw [decide_eq_false e, Bool.false_and, Bool.false_and]
theorem dt_yahead {s d x : Nat} (all : Bool) (hSh : dt_Sh R D P T L dd pp tt) (hH : dt_HY hY h) (hs : s < 2) (hd : d < 4) (hx : x < R) (post : Int32 → Prop) (hp : post (nI (dt_cnt (dt_qa R T B L dd pp h s d x all) R))) : wpY_ahead post (nI R, D, P, T, B, L, hY, kY, cm) (nI s) (nI d) (nI x) (dt_b all) :=
  ⟨R + 1, dt_yahead6 all hSh hH hs hd hx post hp R 0 (R + 1) (by omega) (by omega)⟩
end
end
section
/-! 08: best, conflicts, conflict, leaves of the reference; counts by the list -/
section
variable {R : Nat} {D P T B L cm hY kY : Nat → Int32} {dd : Nat → Nat} {pp : Nat → Option Nat} {tt : Nat → Nat} {h k : Nat → Nat → Bool} {ll : Nat → List Nat}
theorem dt_ql_iff {s d r : Nat} : dt_ql R dd pp h s d r = true ↔ (dd r = d ∧ dt_leaf R pp h s r = true) := by
  unfold dt_ql
  rw [Bool.and_eq_true, decide_eq_true_iff]
theorem dt_ql_mem (hS : dt_Si R pp h k) (hL : dt_Li R T B L dd pp h ll) {s d : Nat} (hs : s < 2) (hd : d < 4) (r : Nat) : r ∈ ll (s * 4 + d) ↔ r < R ∧ dt_ql R dd pp h s d r = true := by
  rw [dt_ql_iff, (hL s d hs hd).1 r]
  exact ⟨fun z => ⟨hS.1 s r hs (dt_leaf_iff.mp z.2).1, z⟩, fun z => z.2⟩
theorem dt_cnt_ql (hS : dt_Si R pp h k) (hL : dt_Li R T B L dd pp h ll) {s d : Nat} (hs : s < 2) (hd : d < 4) (g : Nat → Bool) : dt_cnt (fun r => dt_ql R dd pp h s d r && g r) R = (ll (s * 4 + d)).countP g :=
  dt_cnt_list (dt_srt_nodup (hL s d hs hd).2) (dt_ql_mem hS hL hs hd)
theorem dt_ahead_cnt (hSh : dt_Sh R D P T L dd pp tt) (hS : dt_Si R pp h k) (hL : dt_Li R T B L dd pp h ll) {s d x : Nat} (hs : s < 2) (hd : d < 4) {all : Bool} {l1 l2 : List Nat} (hl : ll (s * 4 + d) = l1 ++ x :: l2) (ha : all = true ∨ L x = 0) : dt_cnt (dt_qa R T B L dd pp h s d x all) R = l1.length := by
  have e := dt_cnt_ql hS hL hs hd (fun r => (all || decide (L r = 0)) && dt_w T B L r x)
  have e2 : dt_cnt (dt_qa R T B L dd pp h s d x all) R = (ll (s * 4 + d)).countP (fun r => (all || decide (L r = 0)) && dt_w T B L r x) := e
  have e3 : (ll (s * 4 + d)).countP (fun r => (all || decide (L r = 0)) && dt_w T B L r x) = (ll (s * 4 + d)).countP (fun r => dt_w T B L r x) := by
    refine List.countP_congr (fun r hr => ?_)
    rw [Bool.and_eq_true]
    refine ⟨fun z => z.2, fun z => ⟨?_, z⟩⟩
    rcases ha with ha | ha
    · rw [ha, Bool.true_or]
    · rw [decide_eq_true (dt_w_open z (hSh.2.2.2.2.2 r (dt_Li_mem hS hL hs hd hr)) ha), Bool.or_true]
  have hsrt := (hL s d hs hd).2
  rw [e2, e3]
  rw [hl] at hsrt ⊢
  exact dt_srt_cnt hsrt
theorem dt_split_mem {x : Nat} {l : List Nat} (hx : x ∈ l) : ∃ l1 l2, l = l1 ++ x :: l2 := List.append_of_mem hx
/-- best, by what it finds -/
theorem dt_ybest2 {s d : Nat} {a : Int32} (hSh : dt_Sh R D P T L dd pp tt) (hH : dt_HY hY h) (hs : s < 2) (hd : d < 4) (H1 : ∀ c, c < R → dt_ql R dd pp h s d c = true → dt_cnt (dt_qa R T B L dd pp h s d c true) R = 0 → a = nI c) (H2 : (∀ c, c < R → dt_ql R dd pp h s d c = true → dt_cnt (dt_qa R T B L dd pp h s d c true) R ≠ 0) → a = -1) (post : Int32 → Prop) (hp : post a) : ∀ (m i n : Nat), i + m = R → m < n → (∀ c, c < i → dt_ql R dd pp h s d c = true → dt_cnt (dt_qa R T B L dd pp h s d c true) R ≠ 0) → wY_best_2 post (nI s) (nI d) (nI R) D P T B L hY kY cm n (nI i) := by
  have hR := hSh.1
  intro m
  induction m with
  | zero =>
    intro i n hi hn hc
    obtain ⟨n, rfl⟩ : ∃ m, n = m + 1 := ⟨n - 1, by omega⟩
    have e : i = R := by omega
    rw [e] at hc
    rw [H2 hc] at hp
    rw [e, wY_best_2]
    exact br_t (nI_le (by omega) (by omega)) hp
  | succ m ih =>
    intro i n hi hn hc
    obtain ⟨n, rfl⟩ : ∃ m, n = m + 1 := ⟨n - 1, by omega⟩
    have hi2 : i < R := by omega
    have hD := hSh.2.1 i hi2
    have skip : ∀ (z : dt_ql R dd pp h s d i = true → dt_cnt (dt_qa R T B L dd pp h s d i true) R ≠ 0), wY_best_2 post (nI s) (nI d) (nI R) D P T B L hY kY cm n (nI (i + 1)) := by
      intro z
      refine ih (i + 1) n (by omega) (by omega) (fun c hc2 => ?_)
      by_cases ec : c = i
      · rw [ec]
        exact z
      · exact hc c (by omega)
    simp only [wY_best_2, nI_clamp (show i < 2 ^ 31 by omega), hD.1, nI_eq (show dd i < 2 ^ 31 by omega) (show d < 2 ^ 31 by omega)]
    refine br_f (nI_ge (by omega) (by omega)) ⟨vp_in_nI (by omega) (by decide), br_c (fun e => ?_) (fun e => nm_r (nI_1 i) (skip (fun z => absurd (dt_ql_iff.mp z).1 e)))⟩
    refine dt_yleaf hSh hH hs hi2 _ (dt_br (fun e2 => nm_r (nI_1 i) (skip (fun z => ?_))) (fun e2 => ?_))
    · have z2 := (dt_ql_iff.mp z).2
      rw [e2] at z2
      exact absurd z2 Bool.false_ne_true
    · refine dt_yahead true hSh hH hs hd hi2 _ ?_
      have hle := dt_cnt_le (dt_qa R T B L dd pp h s d i true) R
      have e0 : nI (dt_cnt (dt_qa R T B L dd pp h s d i true) R) = 0 ↔ dt_cnt (dt_qa R T B L dd pp h s d i true) R = 0 := nI_eq (b := 0) (by omega) (by decide)
      refine br_c (fun e3 => ?_) (fun e3 => nm_r (nI_1 i) (skip (fun _ z => e3 (e0.mpr z))))
      rw [H1 i hi2 (dt_ql_iff.mpr ⟨e, e2⟩) (e0.mp e3)] at hp
      exact hp
def dt_h1 : List Nat → Int32
  | [] => -1
  | x :: _ => nI x
theorem dt_ybest {s d : Nat} (hSh : dt_Sh R D P T L dd pp tt) (hH : dt_HY hY h) (hS : dt_Si R pp h k) (hL : dt_Li R T B L dd pp h ll) (hs : s < 2) (hd : d < 4) (post : Int32 → Prop) (hp : post (dt_h1 (ll (s * 4 + d)))) : wpY_best post (nI R, D, P, T, B, L, hY, kY, cm) (nI s) (nI d) := by
  refine ⟨R + 1, dt_ybest2 (a := dt_h1 (ll (s * 4 + d))) hSh hH hs hd ?_ ?_ post hp R 0 (R + 1) (by omega) (by omega) (fun c hc => absurd hc (by omega))⟩
  · intro c hc hq h0
    obtain ⟨l1, l2, e⟩ := dt_split_mem ((dt_ql_mem hS hL hs hd c).mpr ⟨hc, hq⟩)
    rw [dt_ahead_cnt hSh hS hL hs hd e (Or.inl rfl)] at h0
    rw [List.eq_nil_of_length_eq_zero h0] at e
    rw [e]
    rfl
  · intro hc
    cases e : ll (s * 4 + d) with
    | nil => rfl
    | cons x l =>
      have hx := (dt_ql_mem hS hL hs hd x).mp (by rw [e]; simp)
      exact absurd (dt_ahead_cnt hSh hS hL hs hd (l1 := []) e (Or.inl rfl)) (hc x hx.1 hx.2)
/-- conflicts -/
theorem dt_yconfs21 {s d : Nat} (hSh : dt_Sh R D P T L dd pp tt) (hH : dt_HY hY h) (hs : s < 2) (hd : d < 4) (post : Int32 → Prop) (hp : post (nI (dt_cnt (fun r => dt_ql R dd pp h s d r && decide (L r = 0)) R - 1))) : ∀ (m i n : Nat), i + m = R → m < n → wY_conflicts_21 post (nI s) (nI d) (nI R) D P T B L hY kY cm n (nI (dt_cnt (fun r => dt_ql R dd pp h s d r && decide (L r = 0)) i)) (nI i) := by
  have hR := hSh.1
  intro m
  induction m with
  | zero =>
    intro i n hi hn
    obtain ⟨n, rfl⟩ : ∃ m, n = m + 1 := ⟨n - 1, by omega⟩
    have e : i = R := by omega
    have hle := dt_cnt_le (fun r => dt_ql R dd pp h s d r && decide (L r = 0)) R
    rw [e, wY_conflicts_21]
    generalize dt_cnt (fun r => dt_ql R dd pp h s d r && decide (L r = 0)) R = N at hp hle ⊢
    refine br_t (nI_le (by omega) (by omega)) (pk_le N 0 (fun z => ?_) (fun z => ?_))
    · have e0 : N = 0 := by omega
      rw [e0] at hp
      exact hp
    · obtain ⟨M, rfl⟩ : ∃ M, N = M + 1 := ⟨N - 1, by omega⟩
      rw [nI_pred]
      exact hp
  | succ m ih =>
    intro i n hi hn
    obtain ⟨n, rfl⟩ : ∃ m, n = m + 1 := ⟨n - 1, by omega⟩
    have hi2 : i < R := by omega
    have hD := hSh.2.1 i hi2
    have go := ih (i + 1) n (by omega) (by omega)
    have skip : (fun r => dt_ql R dd pp h s d r && decide (L r = 0)) i = false → wY_conflicts_21 post (nI s) (nI d) (nI R) D P T B L hY kY cm n (nI (dt_cnt (fun r => dt_ql R dd pp h s d r && decide (L r = 0)) i)) (nI (i + 1)) := by
      intro e
      rw [dt_cnt_f e] at go
      exact go
    simp only [wY_conflicts_21, nI_clamp (show i < 2 ^ 31 by omega), hD.1, nI_eq (show dd i < 2 ^ 31 by omega) (show d < 2 ^ 31 by omega)]
    refine br_f (nI_ge (by omega) (by omega)) ⟨vp_in_nI (by omega) (by decide), br_c (fun e => ?_) (fun e => nm_r (nI_1 i) (skip ?_))⟩
    · refine dt_yleaf hSh hH hs hi2 _ (dt_br (fun e2 => nm_r (nI_1 i) (skip ?_)) (fun e2 => ⟨vp_in_nI (by omega) (by decide), br_c (fun e3 => ?_) (fun e3 => nm_r (nI_1 i) (skip ?_))⟩))
      · dsimp only
        unfold dt_ql
        rw [e2, Bool.and_false, Bool.false_and]
      · have e4 : (fun r => dt_ql R dd pp h s d r && decide (L r = 0)) i = true := by
          dsimp only
          rw [dt_ql_iff.mpr ⟨e, e2⟩, decide_eq_true e3]
          rfl
        rw [dt_cnt_t e4] at go
        exact nm_r (nI_1 _) (nm_r (nI_1 i) go)
      · dsimp only
        rw [decide_eq_false e3, Bool.and_false]
    · dsimp only
      unfold dt_ql
      rw [decide_eq_false e, Bool.false_and, Bool.false_and]
/-- leaves -/
theorem dt_yleaves21 {s d : Nat} (hSh : dt_Sh R D P T L dd pp tt) (hH : dt_HY hY h) (hs : s < 2) (hd : d < 4) (post : Int32 → Prop) (hp : post (nI (dt_cnt (dt_ql R dd pp h s d) R))) : ∀ (m i n : Nat), i + m = R → m < n → wY_leaves_21 post (nI s) (nI d) (nI R) D P T B L hY kY cm n (nI (dt_cnt (dt_ql R dd pp h s d) i)) (nI i) := by
  have hR := hSh.1
  intro m
  induction m with
  | zero =>
    intro i n hi hn
    obtain ⟨n, rfl⟩ : ∃ m, n = m + 1 := ⟨n - 1, by omega⟩
    have e : i = R := by omega
    rw [e, wY_leaves_21]
    exact br_t (nI_le (by omega) (by omega)) hp
  | succ m ih =>
    intro i n hi hn
    obtain ⟨n, rfl⟩ : ∃ m, n = m + 1 := ⟨n - 1, by omega⟩
    have hi2 : i < R := by omega
    have hD := hSh.2.1 i hi2
    have go := ih (i + 1) n (by omega) (by omega)
    have skip : dt_ql R dd pp h s d i = false → wY_leaves_21 post (nI s) (nI d) (nI R) D P T B L hY kY cm n (nI (dt_cnt (dt_ql R dd pp h s d) i)) (nI (i + 1)) := by
      intro e
      rw [dt_cnt_f e] at go
      exact go
    simp only [wY_leaves_21, nI_clamp (show i < 2 ^ 31 by omega), hD.1, nI_eq (show dd i < 2 ^ 31 by omega) (show d < 2 ^ 31 by omega)]
    refine br_f (nI_ge (by omega) (by omega)) ⟨vp_in_nI (by omega) (by decide), br_c (fun e => ?_) (fun e => nm_r (nI_1 i) (skip ?_))⟩
    · refine dt_yleaf hSh hH hs hi2 _ (dt_br (fun e2 => nm_r (nI_1 i) (skip ?_)) (fun e2 => ?_))
      · unfold dt_ql
        rw [e2, Bool.and_false]
      · rw [dt_cnt_t (dt_ql_iff.mpr ⟨e, e2⟩)] at go
        exact nm_r (nI_1 _) (nm_r (nI_1 i) go)
    · unfold dt_ql
      rw [decide_eq_false e, Bool.false_and]
/-- conflict, by what it finds -/
theorem dt_yconf19 {s d : Nat} {a w : Int32} (hSh : dt_Sh R D P T L dd pp tt) (hH : dt_HY hY h) (hs : s < 2) (hd : d < 4) (H1 : ∀ c j, c < R → dt_ql R dd pp h s d c = true → L c = 0 → w = nI j → j < 2 ^ 31 → dt_cnt (dt_qa R T B L dd pp h s d c false) R = j + 1 → a = nI c) (H2 : (∀ c j, c < R → dt_ql R dd pp h s d c = true → L c = 0 → w = nI j → j < 2 ^ 31 → dt_cnt (dt_qa R T B L dd pp h s d c false) R ≠ j + 1) → a = -5) (post : Int32 → Prop) (hp : post a) : ∀ (m i n : Nat), i + m = R → m < n → (∀ c j, c < i → dt_ql R dd pp h s d c = true → L c = 0 → w = nI j → j < 2 ^ 31 → dt_cnt (dt_qa R T B L dd pp h s d c false) R ≠ j + 1) → wY_conflict_19 post (nI s) (nI d) w (nI R) D P T B L hY kY cm n (nI i) := by
  have hR := hSh.1
  intro m
  induction m with
  | zero =>
    intro i n hi hn hc
    obtain ⟨n, rfl⟩ : ∃ m, n = m + 1 := ⟨n - 1, by omega⟩
    have e : i = R := by omega
    rw [e] at hc
    rw [H2 hc] at hp
    rw [e, wY_conflict_19]
    exact br_t (nI_le (by omega) (by omega)) hp
  | succ m ih =>
    intro i n hi hn hc
    obtain ⟨n, rfl⟩ : ∃ m, n = m + 1 := ⟨n - 1, by omega⟩
    have hi2 : i < R := by omega
    have hD := hSh.2.1 i hi2
    have skip : ∀ (z : ∀ j, dt_ql R dd pp h s d i = true → L i = 0 → w = nI j → j < 2 ^ 31 → dt_cnt (dt_qa R T B L dd pp h s d i false) R ≠ j + 1), wY_conflict_19 post (nI s) (nI d) w (nI R) D P T B L hY kY cm n (nI (i + 1)) := by
      intro z
      refine ih (i + 1) n (by omega) (by omega) (fun c j hc2 => ?_)
      by_cases ec : c = i
      · rw [ec]
        exact z j
      · exact hc c j (by omega)
    simp only [wY_conflict_19, nI_clamp (show i < 2 ^ 31 by omega), hD.1, nI_eq (show dd i < 2 ^ 31 by omega) (show d < 2 ^ 31 by omega)]
    refine br_f (nI_ge (by omega) (by omega)) ⟨vp_in_nI (by omega) (by decide), br_c (fun e => ?_) (fun e => nm_r (nI_1 i) (skip (fun j z => absurd (dt_ql_iff.mp z).1 e)))⟩
    refine dt_yleaf hSh hH hs hi2 _ (dt_br (fun e2 => nm_r (nI_1 i) (skip (fun j z => ?_))) (fun e2 => ⟨vp_in_nI (by omega) (by decide), br_c (fun e3 => ?_) (fun e3 => nm_r (nI_1 i) (skip (fun j _ z => absurd z e3)))⟩))
    · have z2 := (dt_ql_iff.mp z).2
      rw [e2] at z2
      exact absurd z2 Bool.false_ne_true
    · refine dt_yahead false hSh hH hs hd hi2 _ ?_
      have hle := dt_cnt_le (dt_qa R T B L dd pp h s d i false) R
      have H3 := H1 i
      generalize dt_cnt (dt_qa R T B L dd pp h s d i false) R = N at hle H3 skip ⊢
      refine br_c (fun e4 => nm_r (nI_1 i) (skip (fun j _ _ z hj => ?_))) (fun e4 => ?_)
      · rw [z] at e4
        exact absurd e4 (nI_pos hj)
      · obtain ⟨j, hj, rfl⟩ := nI_of e4
        refine pk_le N 0 (fun z => nm_r (nI_1 i) (skip (fun j' _ _ z2 hj' => by omega))) (fun z => ?_)
        obtain ⟨M, rfl⟩ : ∃ M, N = M + 1 := ⟨N - 1, by omega⟩
        rw [nI_pred, nI_eq (by omega) hj]
        refine br_c (fun e5 => ?_) (fun e5 => nm_r (nI_1 i) (skip (fun j' _ _ z2 hj' => ?_)))
        · rw [H3 j hi2 (dt_ql_iff.mpr ⟨e, e2⟩) e3 rfl hj (by rw [e5])] at hp
          exact hp
        · rw [nI_eq hj hj'] at z2
          omega
end
end
section
/-! 09: the component's openLeaves: those ahead of the first deletion in a sorted list -/
def dt_open (L : Nat → Int32) : List Nat → Nat
  | [] => 0
  | x :: l => if L x = 0 then dt_open L l + 1 else 0
theorem dt_open_t {L : Nat → Int32} {x : Nat} {l : List Nat} (h : L x = 0) : dt_open L (x :: l) = dt_open L l + 1 := if_pos h
theorem dt_open_f {L : Nat → Int32} {x : Nat} {l : List Nat} (h : ¬ L x = 0) : dt_open L (x :: l) = 0 := if_neg h
theorem dt_open_le (L : Nat → Int32) (l : List Nat) : dt_open L l ≤ l.length := by
  induction l with
  | nil => exact Nat.le_refl 0
  | cons x l ih =>
    by_cases h : L x = 0
    · rw [dt_open_t h, List.length_cons]
      omega
    · rw [dt_open_f h]
      omega
theorem dt_open_cnt {T B L : Nat → Int32} : ∀ {l : List Nat}, dt_srt T B L l → (∀ x, x ∈ l → L x = 0 ∨ L x = 1) → l.countP (fun r => decide (L r = 0)) = dt_open L l := by
  intro l
  induction l with
  | nil => exact fun _ _ => rfl
  | cons x l ih =>
    intro hs hx
    unfold dt_srt at hs
    rw [List.pairwise_cons] at hs
    by_cases h : L x = 0
    · rw [dt_open_t h, List.countP_cons_of_pos (by exact decide_eq_true h), ih hs.2 (fun y hy => hx y (by simp [hy]))]
    · rw [dt_open_f h]
      refine List.countP_eq_zero.mpr (fun y hy => ?_)
      rw [decide_eq_true_iff]
      intro hy0
      rw [List.mem_cons] at hy
      rcases hy with rfl | hy
      · exact h hy0
      · exact h (dt_w_open (hs.1 y hy) (hx x (by simp)) hy0)
/-- a place ahead of the first deletion -/
theorem dt_open_at {T B L : Nat → Int32} : ∀ {l : List Nat} (j : Nat), dt_srt T B L l → j < dt_open L l → ∃ l1 x l2, l = l1 ++ x :: l2 ∧ l1.length = j ∧ L x = 0 := by
  intro l
  induction l with
  | nil =>
    intro j _ hj
    exact absurd hj (Nat.not_lt_zero j)
  | cons x l ih =>
    intro j hs hj
    unfold dt_srt at hs
    rw [List.pairwise_cons] at hs
    by_cases h : L x = 0
    · cases j with
      | zero => exact ⟨[], x, l, rfl, rfl, h⟩
      | succ j =>
        rw [dt_open_t h] at hj
        obtain ⟨l1, y, l2, e1, e2, e3⟩ := ih j hs.2 (by omega)
        exact ⟨x :: l1, y, l2, by rw [e1]; rfl, by rw [List.length_cons, e2], e3⟩
    · rw [dt_open_f h] at hj
      exact absurd hj (Nat.not_lt_zero j)
theorem dt_open_lt {T B L : Nat → Int32} : ∀ {l1 : List Nat} {x : Nat} {l2 : List Nat}, dt_srt T B L (l1 ++ x :: l2) → (∀ y, y ∈ l1 ++ x :: l2 → L y = 0 ∨ L y = 1) → L x = 0 → l1.length < dt_open L (l1 ++ x :: l2) := by
  intro l1
  induction l1 with
  | nil =>
    intro x l2 _ _ hx
    rw [List.nil_append, dt_open_t hx, List.length_nil]
    omega
  | cons y l1 ih =>
    intro x l2 hs hy hx
    rw [List.cons_append] at hs hy ⊢
    unfold dt_srt at hs
    rw [List.pairwise_cons] at hs
    have h0 : L y = 0 := dt_w_open (hs.1 x (by simp)) (hy y (by simp)) hx
    rw [dt_open_t h0, List.length_cons]
    have := ih hs.2 (fun z hz => hy z (List.mem_cons_of_mem _ hz)) hx
    omega
section
variable {R : Nat} {D P T B L cm lc lf : Nat → Int32} {hX kX : Nat → Int64}
theorem dt_xopen2 {q N : Nat} (hq : q < 8) (hN : N ≤ 40) (hc : lc q = nI N) (post : Int32 → Prop) : ∀ (l : List Nat) (i n : Nat), i + l.length = N → dt_At lf l (q * 40 + i) → (∀ x, x ∈ l → x < 40) → l.length < n → post (nI (i + dt_open L l)) → wX_openLeaves_2 post (nI q) (nI R) D P T B L hX kX cm lc lf n (nI i) := by
  intro l
  induction l with
  | nil =>
    intro i n hi hA hx hn hp
    obtain ⟨n, rfl⟩ : ∃ m, n = m + 1 := ⟨n - 1, by omega⟩
    rw [List.length_nil] at hi
    simp only [wX_openLeaves_2, nI_clamp (show q < 2 ^ 31 by omega), hc]
    exact ⟨vp_in_nI hq (by decide), br_t (nI_le (by omega) (by omega)) hp⟩
  | cons x l ih =>
    intro i n hi hA hx hn hp
    obtain ⟨n, rfl⟩ : ∃ m, n = m + 1 := ⟨n - 1, by omega⟩
    rw [List.length_cons] at hi hn
    have hx0 := hx x (by simp)
    simp only [wX_openLeaves_2, nI_clamp (show q < 2 ^ 31 by omega), hc, dt_ix, nI_clamp (show q * 40 + i < 2 ^ 31 by omega), hA.1, nI_clamp (show x < 2 ^ 31 by omega)]
    refine ⟨vp_in_nI hq (by decide), br_f (nI_ge (by omega) (by omega)) ⟨vp_in_nI (by omega) (by decide), vp_in_nI hx0 (by decide), br_c (fun e => nm_r (nI_1 i) (ih (i + 1) n (by omega) hA.2 (fun y hy => hx y (by simp [hy])) (by omega) ?_)) (fun e => ?_)⟩⟩
    · rw [dt_open_t e] at hp
      rw [show i + 1 + dt_open L l = i + (dt_open L l + 1) by omega]
      exact hp
    · rw [dt_open_f e] at hp
      exact hp
theorem dt_xopen {q : Nat} {l : List Nat} (hq : q < 8) (hRp : dt_Rp lc lf q l) (hl : l.length ≤ 40) (hx : ∀ x, x ∈ l → x < 40) (post : Int32 → Prop) (hp : post (nI (dt_open L l))) : wpX_openLeaves post (nI R, D, P, T, B, L, hX, kX, cm, lc, lf) (nI q) :=
  ⟨l.length + 1, dt_xopen2 hq hl hRp.1 post l 0 (l.length + 1) (by omega) hRp.2 hx (by omega) (by rw [Nat.zero_add]; exact hp)⟩
end
end
section
/-! 10: lacking, and the set that pull gathers -/
/-- what the site lacks of a document that the other has -/
def dt_Q (R : Nat) (dd : Nat → Nat) (h : Nat → Nat → Bool) (s o d j : Nat) : Prop := j < R ∧ dd j = d ∧ h o j = true ∧ h s j = false
def dt_snd (R : Nat) (dd : Nat → Nat) (h : Nat → Nat → Bool) (s o d : Nat) (w : Int64) : Prop := ∀ j, j < 40 → dt_bit w j = true → dt_Q R dd h s o d j
def dt_cls (pp : Nat → Option Nat) (h : Nat → Nat → Bool) (s : Nat) (w : Int64) (cur : Option Nat) : Prop := ∀ c p, c < 40 → dt_bit w c = true → pp c = some p → h s p = false → dt_bit w p = true ∨ cur = some p
section
variable {R : Nat} {D P T B L cm lc lf : Nat → Int32} {hX kX : Nat → Int64} {dd : Nat → Nat} {pp : Nat → Option Nat} {tt : Nat → Nat} {h k : Nat → Nat → Bool} {ll : Nat → List Nat}
theorem dt_xlack8 {s o d : Nat} (hSh : dt_Sh R D P T L dd pp tt) (hH : dt_HX hX h) (hS : dt_Si R pp h k) (hs : s < 2) (ho : o < 2) : ∀ (m i : Nat) (w : Int64) (cur : Option Nat), i + m = 40 → (∀ r, cur = some r → r + i < 40 ∧ r < R ∧ dd r = d ∧ h o r = true) → dt_snd R dd h s o d w → dt_cls pp h s w cur → ∃ w' : Int64, dt_snd R dd h s o d w' ∧ dt_cls pp h s w' none ∧ (∀ j, dt_bit w j = true → dt_bit w' j = true) ∧ (∀ r, cur = some r → h s r = false → dt_bit w' r = true) ∧ ∀ (post : Int64 → Prop) (n : Nat), m < n → post w' → wX_lacking_8 post (nI s) (nI R) D P T B L hX kX cm lc lf n w (dt_par cur) (nI i) := by
  have hR := hSh.1
  intro m
  induction m with
  | zero =>
    intro i w cur hi hc h1 h2
    have e : cur = none := by
      cases cur with
      | none => rfl
      | some r =>
        have := (hc r rfl).1
        omega
    rw [e] at h2 ⊢
    refine ⟨w, h1, h2, fun _ z => z, (fun r z => nomatch z), fun post n hn hp => ?_⟩
    obtain ⟨n, rfl⟩ : ∃ m, n = m + 1 := ⟨n - 1, by omega⟩
    rw [wX_lacking_8]
    exact br_t (nI_le (a := 40) (by omega) (by omega)) hp
  | succ m ih =>
    intro i w cur hi hc h1 h2
    have hni : ¬ (40 : Int32) ≤ nI i := nI_ge (b := 40) (by omega) (by decide)
    cases cur with
    | none =>
      refine ⟨w, h1, h2, fun _ z => z, (fun r z => nomatch z), fun post n hn hp => ?_⟩
      obtain ⟨n, rfl⟩ : ∃ m, n = m + 1 := ⟨n - 1, by omega⟩
      rw [wX_lacking_8]
      exact br_f hni (br_t dt_neg1 hp)
    | some r =>
      obtain ⟨c1, c2, c3, c4⟩ := hc r rfl
      have hpos : ¬ dt_par (some r) < 0 := nI_pos (by omega)
      have is : vp_in (nI s) 2 := vp_in_nI hs (by decide)
      have cs : (nI s).toNatClampNeg = s := nI_clamp (by omega)
      have cr : (nI r).toNatClampNeg = r := nI_clamp (by omega)
      have eb : dt_bit (hX s) r = h s r := hH s r hs (by omega)
      cases hsr : h s r with
      | true =>
        refine ⟨w, h1, ?_, fun _ z => z, ?_, fun post n hn hp => ?_⟩
        · intro c p hc2 hb hp hf
          rcases h2 c p hc2 hb hp hf with z | z
          · exact Or.inl z
          · rw [← Option.some.inj z, hsr] at hf
            exact absurd hf.symm Bool.false_ne_true
        · intro r' z hf
          rw [← Option.some.inj z, hsr] at hf
          exact absurd hf.symm Bool.false_ne_true
        · obtain ⟨n, rfl⟩ : ∃ m, n = m + 1 := ⟨n - 1, by omega⟩
          rw [wX_lacking_8]
          refine br_f hni (br_f hpos ⟨is, ?_⟩)
          rw [cs]
          refine dt_xisin hR c2 _ ?_
          rw [eb, hsr]
          exact br_f dt_b_ne hp
      | false =>
        obtain ⟨w', g1, g2, g3, g4, g5⟩ := ih (i + 1) (w ||| ((1 : Int64) <<< ((nI r).toInt64 &&& 63))) (pp r) (by omega)
          (by
            intro p hp
            obtain ⟨z1, z2, _⟩ := hSh.2.2.2.1 r p c2 hp
            exact ⟨by omega, by omega, by omega, hS.2.2 o r p ho c4 hp⟩)
          (by
            intro j hj hb
            rw [dt_bit_or, dt_bit_one (by omega), Bool.or_eq_true, decide_eq_true_iff] at hb
            rcases hb with hb | rfl
            · exact h1 j hj hb
            · exact ⟨c2, c3, c4, hsr⟩)
          (by
            intro c p hc2 hb hp hf
            rw [dt_bit_or, dt_bit_one (by omega), Bool.or_eq_true, decide_eq_true_iff] at hb
            rcases hb with hb | rfl
            · rw [dt_bit_or, dt_bit_one (by omega), Bool.or_eq_true, decide_eq_true_iff]
              rcases h2 c p hc2 hb hp hf with z | z
              · exact Or.inl (Or.inl z)
              · exact Or.inl (Or.inr (Option.some.inj z))
            · exact Or.inr hp)
        refine ⟨w', g1, g2, fun j hj => g3 j ?_, ?_, fun post n hn hp => ?_⟩
        · rw [dt_bit_or, hj, Bool.true_or]
        · intro r' z _
          rw [← Option.some.inj z]
          refine g3 r ?_
          rw [dt_bit_or, dt_bit_one (by omega), decide_eq_true rfl, Bool.or_true]
        · obtain ⟨n, rfl⟩ : ∃ m, n = m + 1 := ⟨n - 1, by omega⟩
          rw [wX_lacking_8]
          refine br_f hni (br_f hpos ⟨is, ?_⟩)
          rw [cs]
          refine dt_xisin hR c2 _ ?_
          rw [eb, hsr]
          refine br_t rfl (nm_e ⟨vp_in_nI (by omega) (by decide), nm_r (e' := dt_par (pp r)) ?_ (nm_r (nI_1 i) (g5 post n (by omega) hp))⟩)
          show P (nI r).toNatClampNeg = _
          rw [cr]
          exact hSh.2.2.1 r c2
theorem dt_snd0 {s o d : Nat} : dt_snd R dd h s o d 0 := by
  intro j _ hb
  rw [dt_bit_0] at hb
  exact absurd hb Bool.false_ne_true
theorem dt_cls0 {s : Nat} {cur : Option Nat} : dt_cls pp h s 0 cur := by
  intro c p _ hb
  rw [dt_bit_0] at hb
  exact absurd hb Bool.false_ne_true
theorem dt_xlack {s o d r : Nat} (hSh : dt_Sh R D P T L dd pp tt) (hH : dt_HX hX h) (hS : dt_Si R pp h k) (hs : s < 2) (ho : o < 2) (hr : r < R) (hd : dd r = d) (hor : h o r = true) : ∃ w' : Int64, dt_snd R dd h s o d w' ∧ dt_cls pp h s w' none ∧ (h s r = false → dt_bit w' r = true) ∧ ∀ (post : Int64 → Prop), post w' → wpX_lacking post (nI R, D, P, T, B, L, hX, kX, cm, lc, lf) (nI s) (nI r) := by
  have hR := hSh.1
  obtain ⟨w', g1, g2, _, g4, g5⟩ := dt_xlack8 (R := R) (D := D) (P := P) (T := T) (B := B) (L := L) (cm := cm) (hX := hX) (kX := kX) (lc := lc) (lf := lf) (o := o) (d := d) hSh hH hS hs ho 40 0 0 (some r) (by omega) (by
    intro r' z
    rw [← Option.some.inj z]
    exact ⟨by omega, hr, hd, hor⟩) dt_snd0 dt_cls0
  exact ⟨w', g1, g2, g4 r rfl, fun post hp => ⟨41, g5 post 41 (by omega) hp⟩⟩
theorem dt_xpull36 {s o d q N : Nat} (hSh : dt_Sh R D P T L dd pp tt) (hH : dt_HX hX h) (hS : dt_Si R pp h k) (hs : s < 2) (ho : o < 2) (hq : q < 8) (hN : N ≤ 40) (hc : lc q = nI N) : ∀ (l : List Nat) (i : Nat) (w : Int64), i + l.length = N → dt_At lf l (q * 40 + i) → (∀ x, x ∈ l → x < R ∧ dd x = d ∧ h o x = true) → dt_snd R dd h s o d w → dt_cls pp h s w none → ∃ w' : Int64, dt_snd R dd h s o d w' ∧ dt_cls pp h s w' none ∧ (∀ j, dt_bit w j = true → dt_bit w' j = true) ∧ (∀ x, x ∈ l → h s x = false → dt_bit w' x = true) ∧ ∀ (post : Int32 → SX → Prop) (n : Nat), l.length < n → (∃ n83 : Nat, wX_pull_83 post (nI s) (nI o) w' n83 0 0 (nI R) D P T B L hX kX cm lc lf) → wX_pull_36 post (nI s) (nI o) (nI q) (nI R) D P T B L hX kX cm lc lf n w (nI i) := by
  intro l
  induction l with
  | nil =>
    intro i w hi hA hx h1 h2
    refine ⟨w, h1, h2, fun _ z => z, fun x hm => absurd hm List.not_mem_nil, fun post n hn hp => ?_⟩
    obtain ⟨n, rfl⟩ : ∃ m, n = m + 1 := ⟨n - 1, by omega⟩
    rw [List.length_nil] at hi
    rw [wX_pull_36, nI_clamp (show q < 2 ^ 31 by omega), hc]
    exact ⟨vp_in_nI hq (by decide), br_t (nI_le (by omega) (by omega)) hp⟩
  | cons x l ih =>
    intro i w hi hA hx h1 h2
    rw [List.length_cons] at hi
    obtain ⟨x1, x2, x3⟩ := hx x (by simp)
    obtain ⟨w1, f1, f2, f3, f4⟩ := dt_xlack (R := R) (D := D) (P := P) (T := T) (B := B) (L := L) (cm := cm) (hX := hX) (kX := kX) (lc := lc) (lf := lf) (o := o) (d := d) hSh hH hS hs ho x1 x2 x3
    obtain ⟨w', g1, g2, g3, g4, g5⟩ := ih (i + 1) (w ||| w1) (by omega) hA.2 (fun y hy => hx y (by simp [hy]))
      (by
        intro j hj hb
        rw [dt_bit_or, Bool.or_eq_true] at hb
        rcases hb with hb | hb
        · exact h1 j hj hb
        · exact f1 j hj hb)
      (by
        intro c p hc2 hb hp hf
        rw [dt_bit_or, Bool.or_eq_true] at hb
        rw [dt_bit_or, Bool.or_eq_true]
        rcases hb with hb | hb
        · rcases h2 c p hc2 hb hp hf with z | z
          · exact Or.inl (Or.inl z)
          · exact Or.inr z
        · rcases f2 c p hc2 hb hp hf with z | z
          · exact Or.inl (Or.inr z)
          · exact Or.inr z)
    refine ⟨w', g1, g2, fun j hj => g3 j ?_, ?_, fun post n hn hp => ?_⟩
    · rw [dt_bit_or, hj, Bool.true_or]
    · intro y hy hf
      rw [List.mem_cons] at hy
      rcases hy with rfl | hy
      · refine g3 y ?_
        rw [dt_bit_or, f3 hf, Bool.or_true]
      · exact g4 y hy hf
    · obtain ⟨n, rfl⟩ : ∃ m, n = m + 1 := ⟨n - 1, by omega⟩
      rw [List.length_cons] at hn
      simp only [wX_pull_36, nI_clamp (show q < 2 ^ 31 by omega), hc, dt_ix, nI_clamp (show q * 40 + i < 2 ^ 31 by omega), hA.1]
      exact ⟨vp_in_nI hq (by decide), br_f (nI_ge (by omega) (by omega)) ⟨vp_in_nI (by omega) (by decide), f4 _ (nm_e (nm_r (nI_1 i) (g5 post n (by omega) hp)))⟩⟩
/-- nothing is forgotten: from a leaf of the other site every lacking one is reached -/
theorem dt_complete {s o d : Nat} {w : Int64} (hSh : dt_Sh R D P T L dd pp tt) (hS : dt_Si R pp h k) (hL : dt_Li R T B L dd pp h ll) (hs : s < 2) (ho : o < 2) (hd : d < 4) (h2 : dt_cls pp h s w none) (h3 : ∀ x, x ∈ ll (o * 4 + d) → h s x = false → dt_bit w x = true) : ∀ (m j : Nat), R - j ≤ m → dt_Q R dd h s o d j → dt_bit w j = true := by
  have hR := hSh.1
  intro m
  induction m with
  | zero =>
    intro j hj hq
    have := hq.1
    omega
  | succ m ih =>
    intro j hj hq
    obtain ⟨q1, q2, q3, q4⟩ := hq
    by_cases hc : ∃ c, c < R ∧ h o c = true ∧ pp c = some j
    · obtain ⟨c, c1, c2, c3⟩ := hc
      obtain ⟨p1, p2, _⟩ := hSh.2.2.2.1 c j c1 c3
      have hsc : h s c = false := by
        cases e : h s c with
        | false => rfl
        | true =>
          have := hS.2.2 s c j hs e c3
          rw [q4] at this
          exact this.symm
      have hb := ih c (by omega) ⟨c1, by omega, c2, hsc⟩
      rcases h2 c j (by omega) hb c3 q4 with z | z
      · exact z
      · exact nomatch z
    · refine h3 j (((hL o d ho hd).1 j).mpr ⟨q2, dt_leaf_iff.mpr ⟨q3, fun c c1 c2 c3 => hc ⟨c, c1, c2, c3⟩⟩⟩) q4
end
end
section
/-! 11: pull: the two loops in lockstep, one outcome -/
theorem dt_cm0 (cm : Nat → Int32) (s : Nat) : upd cm s (cm s + nI 0) = cm := by
  funext j
  by_cases e : j = s
  · rw [e, pk_us, nI_0, Int32.add_zero]
  · rw [pk_un e]
theorem dt_cm1 (cm : Nat → Int32) (s c : Nat) : upd (upd cm s (cm s + nI c)) s (upd cm s (cm s + nI c) s + 1) = upd cm s (cm s + nI (c + 1)) := by
  funext j
  by_cases e : j = s
  · rw [e, pk_us, pk_us, pk_us, Int32.add_assoc, nI_1]
  · rw [pk_un e, pk_un e, pk_un e]
section
variable {R : Nat} {D P T B L : Nat → Int32} {dd : Nat → Nat} {pp : Nat → Option Nat} {tt : Nat → Nat}
theorem dt_pull_loop {s d : Nat} {W : Int64} {cm : Nat → Int32} (hs : s < 2) (hd : d < 4) : ∀ (m i c : Nat) (hX kX : Nat → Int64) (lc lf hY kY : Nat → Int32) (h k : Nat → Nat → Bool) (ll : Nat → List Nat), dt_G R D P T B L hX kX lc lf hY kY dd pp tt h k ll → i + m = R → (∀ j, i ≤ j → j < R → (dt_bit W j = true ↔ dt_Q R dd h s (1 - s) d j)) → (∀ j, j < i → ¬ dt_Q R dd h s (1 - s) d j) → ∃ (N : Nat) (hX' kX' : Nat → Int64) (lc' lf' hY' kY' : Nat → Int32) (h' k' : Nat → Nat → Bool) (ll' : Nat → List Nat), dt_G R D P T B L hX' kX' lc' lf' hY' kY' dd pp tt h' k' ll' ∧ (∀ (post : Int32 → SX → Prop) (n : Nat), m < n → post (nI N) (nI R, D, P, T, B, L, hX', kX', upd cm s (cm s + nI N), lc', lf') → wX_pull_83 post (nI s) (nI (1 - s)) W n (nI c) (nI i) (nI R) D P T B L hX kX (upd cm s (cm s + nI c)) lc lf) ∧ (∀ (post : Int32 → SY → Prop) (n : Nat), m < n → post (nI N) (nI R, D, P, T, B, L, hY', kY', upd cm s (cm s + nI N)) → wY_pull_21 post (nI s) (nI d) (nI R) n (nI c) (nI i) D P T B L hY kY cm) := by
  have is : vp_in (nI s) 2 := vp_in_nI hs (by decide)
  have io : vp_in (nI (1 - s)) 2 := vp_in_nI (by omega) (by decide)
  have cs : (nI s).toNatClampNeg = s := nI_clamp (by omega)
  have co : (nI (1 - s)).toNatClampNeg = 1 - s := nI_clamp (by omega)
  have ho : 1 - s < 2 := by omega
  intro m
  induction m with
  | zero =>
    intro i c hX kX lc lf hY kY h k ll G hi H1 H2
    have hR := G.1.1
    refine ⟨c, hX, kX, lc, lf, hY, kY, h, k, ll, G, fun post n hn hp => ?_, fun post n hn hp => ?_⟩
    · obtain ⟨n, rfl⟩ : ∃ m, n = m + 1 := ⟨n - 1, by omega⟩
      rw [wX_pull_83]
      exact br_t (nI_le (by omega) (by omega)) hp
    · obtain ⟨n, rfl⟩ : ∃ m, n = m + 1 := ⟨n - 1, by omega⟩
      rw [wY_pull_21, cs]
      exact br_t (nI_le (by omega) (by omega)) ⟨is, is, nm_e hp⟩
  | succ m ih =>
    intro i c hX kX lc lf hY kY h k ll G hi H1 H2
    have G0 := G
    obtain ⟨hSh, hHX, hKX, hHY, hKY, hS, hL, hA⟩ := G0
    have hR := hSh.1
    have hi2 : i < R := by omega
    have hD := hSh.2.1 i hi2
    have ci : (nI i).toNatClampNeg = i := nI_clamp (by omega)
    have ii : vp_in (nI i) 40 := vp_in_nI (by omega) (by decide)
    have ih5 : vp_in (nI (s * 40 + i)) 80 := vp_in_nI (by omega) (by decide)
    have ih6 : vp_in (nI ((1 - s) * 40 + i)) 80 := vp_in_nI (by omega) (by decide)
    have c5 : (nI (s * 40 + i)).toNatClampNeg = s * 40 + i := nI_clamp (by omega)
    have c6 : (nI ((1 - s) * 40 + i)).toNatClampNeg = (1 - s) * 40 + i := nI_clamp (by omega)
    have hni : ¬ nI R ≤ nI i := nI_ge (by omega) (by omega)
    have eo : (1 - nI s) * 40 + nI i = nI ((1 - s) * 40 + i) := by rw [dt_other hs, dt_ix]
    cases hb : dt_bit W i with
    | true =>
      obtain ⟨_, q2, q3, q4⟩ := (H1 i (by omega) hi2).mp hb
      have hpar : ∀ p, pp i = some p → h s p = true := by
        intro p hp
        obtain ⟨p1, p2, _⟩ := hSh.2.2.2.1 i p hi2 hp
        cases e : h s p with
        | true => rfl
        | false => exact absurd ⟨by omega, by omega, hS.2.2 (1 - s) i p ho q3 hp, e⟩ (H2 p p1)
      obtain ⟨hX1, kX1, lc1, lf1, ll1, G1, hw⟩ := dt_come_all (cm := upd cm s (cm s + nI c)) G (s := s) (r := i) (k (1 - s) i) hs hi2 q4 hpar
      rw [dt_cm1] at hw
      have eQ : ∀ j, j ≠ i → (dt_Q R dd (dt_set h s i true) s (1 - s) d j ↔ dt_Q R dd h s (1 - s) d j) := by
        intro j hj
        unfold dt_Q
        rw [dt_set_n (fun z => hj z.2), dt_set_n (fun z => hj z.2)]
      obtain ⟨N, hX', kX', lc', lf', hY', kY', h', k', ll', G', wx, wy⟩ := ih (i + 1) (c + 1) hX1 kX1 lc1 lf1 _ _ _ _ ll1 G1 (by omega)
        (fun j j1 j2 => by rw [eQ j (by omega)]; exact H1 j (by omega) j2)
        (by
          intro j hj
          by_cases e : j = i
          · rw [e]
            intro z
            have := z.2.2.2
            rw [dt_set_s] at this
            exact Bool.false_ne_true this.symm
          · rw [eQ j e]
            exact H2 j (by omega))
      refine ⟨N, hX', kX', lc', lf', hY', kY', h', k', ll', G', fun post n hn hp => ?_, fun post n hn hp => ?_⟩
      · obtain ⟨n, rfl⟩ : ∃ m, n = m + 1 := ⟨n - 1, by omega⟩
        rw [wX_pull_83, co]
        refine br_f hni (br_t ((dt_bit_sh (by omega)).mpr hb) ⟨io, dt_xisin hR hi2 _ ?_⟩)
        rw [hKX (1 - s) i ho (by omega)]
        exact hw _ (nm_r (nI_1 c) (nm_r (nI_1 i) (wx post n (by omega) hp)))
      · obtain ⟨n, rfl⟩ : ∃ m, n = m + 1 := ⟨n - 1, by omega⟩
        have hgo := wy post n (by omega) hp
        rw [wY_pull_21]
        refine br_f hni (nm_r (dt_ix s i) (nm_r eo ⟨ii, ?_⟩))
        rw [ci, hD.1, nI_eq (by omega) (by omega), c5, c6, hHY (1 - s) i ho (by omega), hHY s i hs (by omega), hKY (1 - s) i ho (by omega), q3, q4, dt_vn1, dt_vnb]
        exact br_t q2 ⟨ih6, br_f dt_b_ne ⟨ih5, br_t rfl ⟨ih5, nm_e ⟨ih6, ih5, nm_e (nm_r (nI_1 c) (nm_r (nI_1 i) hgo))⟩⟩⟩⟩
    | false =>
      have hnQ : ¬ dt_Q R dd h s (1 - s) d i := by
        intro z
        have := (H1 i (by omega) hi2).mpr z
        rw [hb] at this
        exact Bool.false_ne_true this
      obtain ⟨N, hX', kX', lc', lf', hY', kY', h', k', ll', G', wx, wy⟩ := ih (i + 1) c hX kX lc lf hY kY h k ll G (by omega)
        (fun j j1 j2 => H1 j (by omega) j2)
        (by
          intro j hj
          by_cases e : j = i
          · rw [e]
            exact hnQ
          · exact H2 j (by omega))
      refine ⟨N, hX', kX', lc', lf', hY', kY', h', k', ll', G', fun post n hn hp => ?_, fun post n hn hp => ?_⟩
      · obtain ⟨n, rfl⟩ : ∃ m, n = m + 1 := ⟨n - 1, by omega⟩
        rw [wX_pull_83]
        refine br_f hni (br_f (fun z => ?_) (nm_r (nI_1 i) (wx post n (by omega) hp)))
        rw [dt_bit_sh (by omega), hb] at z
        exact Bool.false_ne_true z
      · obtain ⟨n, rfl⟩ : ∃ m, n = m + 1 := ⟨n - 1, by omega⟩
        have hgo := wy post n (by omega) hp
        rw [wY_pull_21]
        refine br_f hni (nm_r (dt_ix s i) (nm_r eo ⟨ii, ?_⟩))
        rw [ci, hD.1, nI_eq (by omega) (by omega), c5, c6, hHY (1 - s) i ho (by omega), hHY s i hs (by omega)]
        refine br_c (fun e1 => ⟨ih6, dt_br (fun e2 => nm_r (nI_1 i) hgo) (fun e2 => ⟨ih5, dt_br (fun e3 => ?_) (fun e3 => nm_r (nI_1 i) hgo)⟩)⟩) (fun e1 => nm_r (nI_1 i) hgo)
        exact absurd ⟨hi2, e1, e2, e3⟩ hnQ
theorem dt_pull_all {cm lc lf hY kY : Nat → Int32} {hX kX : Nat → Int64} {h k : Nat → Nat → Bool} {ll : Nat → List Nat} (G : dt_G R D P T B L hX kX lc lf hY kY dd pp tt h k ll) {s d : Nat} (hs : s < 2) (hd : d < 4) : ∃ (N : Nat) (u' : SX) (v' : SY), dt_Rel u' v' ∧ (∀ post : Int32 → SX → Prop, post (nI N) u' → wpX_pull post (nI R, D, P, T, B, L, hX, kX, cm, lc, lf) (nI s) (nI d)) ∧ (∀ post : Int32 → SY → Prop, post (nI N) v' → wpY_pull post (nI R, D, P, T, B, L, hY, kY, cm) (nI s) (nI d)) := by
  have G0 := G
  obtain ⟨hSh, hHX, hKX, hHY, hKY, hS, hL, hA⟩ := G0
  have hR := hSh.1
  have ho : 1 - s < 2 := by omega
  have hq : (1 - s) * 4 + d < 8 := by omega
  have hlen := dt_Li_len hS hL ho hd
  obtain ⟨W, w1, w2, _, w4, w5⟩ := dt_xpull36 (R := R) (D := D) (P := P) (T := T) (B := B) (L := L) (cm := cm) (hX := hX) (kX := kX) (lc := lc) (lf := lf) (s := s) (o := 1 - s) (d := d) hSh hHX hS hs ho hq (by omega) (hA ((1 - s) * 4 + d) hq).1 (ll ((1 - s) * 4 + d)) 0 0 (by omega) (hA ((1 - s) * 4 + d) hq).2
    (by
      intro x hx
      have z := ((hL (1 - s) d ho hd).1 x).mp hx
      exact ⟨dt_Li_mem hS hL ho hd hx, z.1, (dt_leaf_iff.mp z.2).1⟩) dt_snd0 dt_cls0
  have wc := dt_complete hSh hS hL hs ho hd w2 w4
  obtain ⟨N, hX', kX', lc', lf', hY', kY', h', k', ll', G', wx, wy⟩ := dt_pull_loop (cm := cm) (W := W) hs hd R 0 0 hX kX lc lf hY kY h k ll G (by omega)
    (fun j _ j2 => ⟨fun z => w1 j (by omega) z, fun z => wc R j (by omega) z⟩)
    (fun j hj => absurd hj (Nat.not_lt_zero j))
  rw [dt_cm0] at wx
  refine ⟨N, _, _, dt_Rel_i (cm := upd cm s (cm s + nI N)) G', fun post hp => ?_, fun post hp => ?_⟩
  · unfold wpX_pull
    dsimp only
    refine dt_xbs0 hs _ (br_t rfl (dt_xbd0 hd _ (br_t rfl (nm_r (dt_other hs) (nm_r (dt_i4 (1 - s) d) ⟨(ll ((1 - s) * 4 + d)).length + 1, ?_⟩)))))
    exact w5 post _ (by omega) ⟨R + 1, wx post (R + 1) (by omega) hp⟩
  · unfold wpY_pull
    dsimp only
    exact dt_yref0 hs hd _ (br_t (by decide +kernel) ⟨R + 1, wy post (R + 1) (by omega) hp⟩)
end
end
section
/-! 12: compact: the two loops in lockstep -/
section
variable {R : Nat} {D P T B L cm lc lf hY : Nat → Int32} {hX : Nat → Int64} {dd : Nat → Nat} {pp : Nat → Option Nat} {tt : Nat → Nat} {h : Nat → Nat → Bool} {ll : Nat → List Nat}
theorem dt_compact_loop {s : Nat} (hs : s < 2) : ∀ (m i c : Nat) (kX : Nat → Int64) (kY : Nat → Int32) (k : Nat → Nat → Bool), dt_G R D P T B L hX kX lc lf hY kY dd pp tt h k ll → i + m = R → ∃ (N : Nat) (kX' : Nat → Int64) (kY' : Nat → Int32) (k' : Nat → Nat → Bool), dt_G R D P T B L hX kX' lc lf hY kY' dd pp tt h k' ll ∧ (∀ (post : Int32 → SX → Prop) (n : Nat), m < n → post (nI N) (nI R, D, P, T, B, L, hX, kX', cm, lc, lf) → wX_compact_13 post (nI s) (nI R) n (nI c) (nI i) D P T B L hX kX cm lc lf) ∧ (∀ (post : Int32 → SY → Prop) (n : Nat), m < n → post (nI N) (nI R, D, P, T, B, L, hY, kY', cm) → wY_compact_14 post (nI s) (nI R) n (nI c) (nI i) D P T B L hY kY cm) := by
  have is : vp_in (nI s) 2 := vp_in_nI hs (by decide)
  have cs : (nI s).toNatClampNeg = s := nI_clamp (by omega)
  intro m
  induction m with
  | zero =>
    intro i c kX kY k G hi
    have hR := G.1.1
    refine ⟨c, kX, kY, k, G, fun post n hn hp => ?_, fun post n hn hp => ?_⟩
    · obtain ⟨n, rfl⟩ : ∃ m, n = m + 1 := ⟨n - 1, by omega⟩
      rw [wX_compact_13]
      exact br_t (nI_le (by omega) (by omega)) hp
    · obtain ⟨n, rfl⟩ : ∃ m, n = m + 1 := ⟨n - 1, by omega⟩
      rw [wY_compact_14]
      exact br_t (nI_le (by omega) (by omega)) hp
  | succ m ih =>
    intro i c kX kY k G hi
    have G0 := G
    obtain ⟨hSh, hHX, hKX, hHY, hKY, hS, hL, hA⟩ := G0
    have hR := hSh.1
    have hi2 : i < R := by omega
    have hD := hSh.2.1 i hi2
    have ci : (nI i).toNatClampNeg = i := nI_clamp (by omega)
    have i5 : vp_in (nI (s * 40 + i)) 80 := vp_in_nI (by omega) (by decide)
    have c5 : (nI (s * 40 + i)).toNatClampNeg = s * 40 + i := nI_clamp (by omega)
    have hni : ¬ nI R ≤ nI i := nI_ge (by omega) (by omega)
    have eX := hKX s i hs (by omega)
    have eY := hKY s i hs (by omega)
    have hlen := dt_Li_len hS hL hs hD.2
    have hmem : ∀ x, x ∈ ll (s * 4 + dd i) → x < 40 := fun x hx => by have := dt_Li_mem hS hL hs hD.2 hx; omega
    have eL : decide (i ∈ ll (s * 4 + dd i)) = dt_leaf R pp h s i := by
      cases e : dt_leaf R pp h s i with
      | true => exact decide_eq_true (((hL s (dd i) hs hD.2).1 i).mpr ⟨rfl, e⟩)
      | false =>
        refine decide_eq_false (fun z => ?_)
        have z2 := (((hL s (dd i) hs hD.2).1 i).mp z).2
        rw [e] at z2
        exact Bool.false_ne_true z2
    cases hk : k s i with
    | false =>
      obtain ⟨N, kX', kY', k', G', wx, wy⟩ := ih (i + 1) c kX kY k G (by omega)
      refine ⟨N, kX', kY', k', G', fun post n hn hp => ?_, fun post n hn hp => ?_⟩
      · obtain ⟨n, rfl⟩ : ∃ m, n = m + 1 := ⟨n - 1, by omega⟩
        rw [wX_compact_13, cs]
        refine br_f hni ⟨is, dt_xisin hR hi2 _ ?_⟩
        rw [eX, hk]
        exact br_t rfl (nm_r (nI_1 i) (wx post n (by omega) hp))
      · obtain ⟨n, rfl⟩ : ∃ m, n = m + 1 := ⟨n - 1, by omega⟩
        rw [wY_compact_14]
        dsimp only
        rw [dt_ix, c5, eY, hk]
        exact br_f hni ⟨i5, br_t rfl (nm_r (nI_1 i) (wy post n (by omega) hp))⟩
    | true =>
      cases hl : dt_leaf R pp h s i with
      | true =>
        obtain ⟨N, kX', kY', k', G', wx, wy⟩ := ih (i + 1) c kX kY k G (by omega)
        refine ⟨N, kX', kY', k', G', fun post n hn hp => ?_, fun post n hn hp => ?_⟩
        · obtain ⟨n, rfl⟩ : ∃ m, n = m + 1 := ⟨n - 1, by omega⟩
          rw [wX_compact_13, cs]
          refine br_f hni ⟨is, dt_xisin hR hi2 _ ?_⟩
          rw [eX, hk]
          refine br_f dt_b_ne (dt_xisleaf hs (by omega) hD.2 hD.1 (hA _ (by omega)) (by omega) hmem _ ?_)
          rw [eL, hl]
          exact br_f dt_b_ne (nm_r (nI_1 i) (wx post n (by omega) hp))
        · obtain ⟨n, rfl⟩ : ∃ m, n = m + 1 := ⟨n - 1, by omega⟩
          rw [wY_compact_14]
          dsimp only
          rw [dt_ix, c5, eY, hk]
          refine br_f hni ⟨i5, br_f dt_b_ne (dt_yleaf hSh hHY hs hi2 _ ?_)⟩
          rw [hl]
          exact br_f dt_b_ne (nm_r (nI_1 i) (wy post n (by omega) hp))
      | false =>
        have G1 : dt_G R D P T B L hX (vp_updL kX s (kX s &&& (((1 : Int64) <<< ((nI i).toInt64 &&& 63)) ^^^ (-1)))) lc lf hY (upd kY (s * 40 + i) (dt_b false)) dd pp tt h (dt_set k s i false) ll := by
          refine ⟨hSh, hHX, dt_HX_clr hKX (by omega), hHY, dt_HY_set hKY (by omega) false, ⟨hS.1, ?_, hS.2.2⟩, hL, hA⟩
          intro s' r' hs' hr'
          by_cases e : s' = s ∧ r' = i
          · rw [e.1, e.2, dt_set_s] at hr'
            exact absurd hr' Bool.false_ne_true
          · rw [dt_set_n e] at hr'
            exact hS.2.1 s' r' hs' hr'
        obtain ⟨N, kX', kY', k', G', wx, wy⟩ := ih (i + 1) (c + 1) _ _ _ G1 (by omega)
        refine ⟨N, kX', kY', k', G', fun post n hn hp => ?_, fun post n hn hp => ?_⟩
        · obtain ⟨n, rfl⟩ : ∃ m, n = m + 1 := ⟨n - 1, by omega⟩
          rw [wX_compact_13, cs]
          refine br_f hni ⟨is, dt_xisin hR hi2 _ ?_⟩
          rw [eX, hk]
          refine br_f dt_b_ne (dt_xisleaf hs (by omega) hD.2 hD.1 (hA _ (by omega)) (by omega) hmem _ ?_)
          rw [eL, hl]
          exact br_t rfl ⟨is, is, nm_e (nm_r (nI_1 c) (nm_r (nI_1 i) (wx post n (by omega) hp)))⟩
        · obtain ⟨n, rfl⟩ : ∃ m, n = m + 1 := ⟨n - 1, by omega⟩
          rw [wY_compact_14]
          dsimp only
          rw [dt_ix, c5, eY, hk, dt_vn0]
          refine br_f hni ⟨i5, br_f dt_b_ne (dt_yleaf hSh hHY hs hi2 _ ?_)⟩
          rw [hl]
          exact br_t rfl ⟨i5, nm_e (nm_r (nI_1 c) (nm_r (nI_1 i) (wy post n (by omega) hp)))⟩
end
end
section
/-! 13: common: the way up, as a function with a count -/
theorem dt_par_some {r : Nat} : dt_par (some r) = nI r := rfl
def dt_anc (pp : Nat → Option Nat) (x : Nat) : Nat → Option Nat → Bool
  | 0, _ => false
  | _ + 1, none => false
  | n + 1, some r => decide (r = x) || dt_anc pp x n (pp r)
def dt_on (pp : Nat → Option Nat) (x : Nat) (o : Option Nat) : Prop := ∃ n, dt_anc pp x n o = true
theorem dt_anc_n {pp : Nat → Option Nat} {x n : Nat} : dt_anc pp x n none = false := by cases n <;> rfl
theorem dt_on_none {pp : Nat → Option Nat} {x : Nat} : ¬ dt_on pp x none := by
  rintro ⟨n, hn⟩
  rw [dt_anc_n] at hn
  exact Bool.false_ne_true hn
theorem dt_on_some {pp : Nat → Option Nat} {x r : Nat} : dt_on pp x (some r) ↔ r = x ∨ dt_on pp x (pp r) := by
  constructor
  · rintro ⟨n, hn⟩
    cases n with
    | zero => exact absurd hn Bool.false_ne_true
    | succ n =>
      have hn2 : (decide (r = x) || dt_anc pp x n (pp r)) = true := hn
      rw [Bool.or_eq_true, decide_eq_true_iff] at hn2
      rcases hn2 with z | z
      · exact Or.inl z
      · exact Or.inr ⟨n, z⟩
  · rintro (z | ⟨n, z⟩)
    · refine ⟨1, ?_⟩
      show (decide (r = x) || _) = true
      rw [decide_eq_true z, Bool.true_or]
    · refine ⟨n + 1, ?_⟩
      show (decide (r = x) || dt_anc pp x n (pp r)) = true
      rw [z, Bool.or_true]
section
variable {R : Nat} {D P T B L cm lc lf hY kY : Nat → Int32} {hX kX : Nat → Int64} {dd : Nat → Nat} {pp : Nat → Option Nat} {tt : Nat → Nat}
theorem dt_anc_fuel (hSh : dt_Sh R D P T L dd pp tt) {x : Nat} : ∀ (m n r : Nat), r < R → r < n → dt_anc pp x m (some r) = true → dt_anc pp x n (some r) = true := by
  intro m
  induction m with
  | zero => exact fun n r _ _ z => absurd z Bool.false_ne_true
  | succ m ih =>
    intro n r hr hn z
    obtain ⟨n, rfl⟩ : ∃ m, n = m + 1 := ⟨n - 1, by omega⟩
    have z2 : (decide (r = x) || dt_anc pp x m (pp r)) = true := z
    show (decide (r = x) || dt_anc pp x n (pp r)) = true
    rw [Bool.or_eq_true] at z2 ⊢
    rcases z2 with z2 | z2
    · exact Or.inl z2
    · refine Or.inr ?_
      cases e : pp r with
      | none =>
        rw [e, dt_anc_n] at z2
        exact absurd z2 Bool.false_ne_true
      | some p =>
        rw [e] at z2
        have := (hSh.2.2.2.1 r p hr e).1
        exact ih n p (by omega) (by omega) z2
theorem dt_on_anc (hSh : dt_Sh R D P T L dd pp tt) {x r : Nat} (hr : r < R) : dt_anc pp x 40 (some r) = true ↔ dt_on pp x (some r) := by
  have hR := hSh.1
  exact ⟨fun z => ⟨40, z⟩, fun ⟨m, z⟩ => dt_anc_fuel hSh m 40 r hr (by omega) z⟩
theorem dt_on_tt (hSh : dt_Sh R D P T L dd pp tt) {x : Nat} : ∀ (r : Nat), r < R → dt_on pp x (some r) → r = x ∨ (x < r ∧ tt x < tt r) := by
  intro r
  induction r using Nat.strongRecOn with
  | ind r ih =>
    intro hr z
    rw [dt_on_some] at z
    rcases z with z | z
    · exact Or.inl z
    · cases e : pp r with
      | none =>
        rw [e] at z
        exact absurd z dt_on_none
      | some p =>
        rw [e] at z
        obtain ⟨p1, _, p3⟩ := hSh.2.2.2.1 r p hr e
        rcases ih p p1 (by omega) z with y | y
        · rw [← y]
          exact Or.inr ⟨p1, by omega⟩
        · exact Or.inr ⟨by omega, by omega⟩
/-- the last number below n that is meant -/
def dt_cb (f : Nat → Bool) : Nat → Int32
  | 0 => -5
  | n + 1 => if f n = true then nI n else dt_cb f n
theorem dt_cb_none {f : Nat → Bool} : ∀ n, (∀ c, c < n → f c = false) → dt_cb f n = -5 := by
  intro n
  induction n with
  | zero => exact fun _ => rfl
  | succ n ih =>
    intro hf
    show (if f n = true then nI n else dt_cb f n) = -5
    rw [if_neg (by rw [hf n (by omega)]; exact Bool.false_ne_true)]
    exact ih (fun c hc => hf c (by omega))
theorem dt_cb_some {f : Nat → Bool} {z : Nat} (hz : f z = true) : ∀ n, z < n → (∀ c, c < n → f c = true → c ≤ z) → dt_cb f n = nI z := by
  intro n
  induction n with
  | zero => exact fun h => absurd h (Nat.not_lt_zero z)
  | succ n ih =>
    intro hn hf
    show (if f n = true then nI n else dt_cb f n) = nI z
    by_cases e : f n = true
    · rw [if_pos e]
      have := hf n (by omega) e
      rw [show n = z by omega]
    · rw [if_neg e]
      have hne : z ≠ n := fun y => e (by rw [← y]; exact hz)
      exact ih (by omega) (fun c hc => hf c (by omega))
theorem dt_yway5 {x : Nat} (hSh : dt_Sh R D P T L dd pp tt) (hx : x < 2 ^ 31) (post : Int32 → Prop) : ∀ (m i n : Nat) (cur : Option Nat), i + m = 40 → m < n → (∀ r, cur = some r → r < R) → post (dt_b (dt_anc pp x m cur)) → wY_onWay_5 post (nI x) (nI R) D P T B L hY kY cm n (dt_par cur) (nI i) := by
  have hR := hSh.1
  intro m
  induction m with
  | zero =>
    intro i n cur hi hn hc hp
    obtain ⟨n, rfl⟩ : ∃ m, n = m + 1 := ⟨n - 1, by omega⟩
    rw [wY_onWay_5]
    exact br_t (nI_le (a := 40) (by omega) (by omega)) hp
  | succ m ih =>
    intro i n cur hi hn hc hp
    obtain ⟨n, rfl⟩ : ∃ m, n = m + 1 := ⟨n - 1, by omega⟩
    have hni : ¬ (40 : Int32) ≤ nI i := nI_ge (b := 40) (by omega) (by decide)
    rw [wY_onWay_5]
    refine br_f hni ?_
    cases cur with
    | none => exact br_t dt_neg1 hp
    | some r =>
      have hr := hc r rfl
      have hp2 : post (dt_b (decide (r = x) || dt_anc pp x m (pp r))) := hp
      refine br_f (nI_pos (by omega)) ?_
      rw [dt_par_some, nI_eq (by omega) hx]
      refine br_c (fun e => ?_) (fun e => ⟨vp_in_nI (by omega) (by decide), nm_r (e' := dt_par (pp r)) ?_ (nm_r (nI_1 i) (ih (i + 1) n (pp r) (by omega) (by omega) (fun p hpp => ?_) ?_))⟩)
      · rw [decide_eq_true e, Bool.true_or] at hp2
        exact hp2
      · show P (nI r).toNatClampNeg = _
        rw [nI_clamp (by omega)]
        exact hSh.2.2.1 r hr
      · have := (hSh.2.2.2.1 r p hr hpp).1
        omega
      · rw [decide_eq_false e, Bool.false_or] at hp2
        exact hp2
theorem dt_yway {x r : Nat} (hSh : dt_Sh R D P T L dd pp tt) (hx : x < 2 ^ 31) (hr : r < R) (post : Int32 → Prop) (hp : post (dt_b (dt_anc pp x 40 (some r)))) : wpY_onWay post (nI R, D, P, T, B, L, hY, kY, cm) (nI x) (nI r) :=
  ⟨41, dt_yway5 hSh hx post 40 0 41 (some r) (by omega) (by omega) (fun r' z => by rw [← Option.some.inj z]; exact hr) hp⟩
theorem dt_ycommon25 {a b : Nat} (hSh : dt_Sh R D P T L dd pp tt) (ha : a < R) (hb : b < R) (post : Int32 → Prop) (hp : post (dt_cb (fun c => dt_anc pp c 40 (some a) && dt_anc pp c 40 (some b)) R)) : ∀ (m i n : Nat), i + m = R → m < n → wY_common_25 post (nI a) (nI b) (nI R) D P T B L hY kY cm n (dt_cb (fun c => dt_anc pp c 40 (some a) && dt_anc pp c 40 (some b)) i) (nI i) := by
  have hR := hSh.1
  intro m
  induction m with
  | zero =>
    intro i n hi hn
    obtain ⟨n, rfl⟩ : ∃ m, n = m + 1 := ⟨n - 1, by omega⟩
    have e : i = R := by omega
    rw [e, wY_common_25]
    exact br_t (nI_le (by omega) (by omega)) hp
  | succ m ih =>
    intro i n hi hn
    obtain ⟨n, rfl⟩ : ∃ m, n = m + 1 := ⟨n - 1, by omega⟩
    have go := ih (i + 1) n (by omega) (by omega)
    have skip : (fun c => dt_anc pp c 40 (some a) && dt_anc pp c 40 (some b)) i = false → wY_common_25 post (nI a) (nI b) (nI R) D P T B L hY kY cm n (dt_cb (fun c => dt_anc pp c 40 (some a) && dt_anc pp c 40 (some b)) i) (nI (i + 1)) := by
      intro e
      have e2 : dt_cb (fun c => dt_anc pp c 40 (some a) && dt_anc pp c 40 (some b)) (i + 1) = dt_cb (fun c => dt_anc pp c 40 (some a) && dt_anc pp c 40 (some b)) i := if_neg (by rw [e]; exact Bool.false_ne_true)
      rw [e2] at go
      exact go
    rw [wY_common_25]
    refine br_f (nI_ge (by omega) (by omega)) (dt_yway hSh (by omega) ha _ (dt_br (fun e => nm_r (nI_1 i) (skip ?_)) (fun e => dt_yway hSh (by omega) hb _ (dt_br (fun e2 => nm_r (nI_1 i) (skip ?_)) (fun e2 => nm_r (nI_1 i) ?_)))))
    · dsimp only
      rw [e, Bool.false_and]
    · dsimp only
      rw [e2, Bool.and_false]
    · have e3 : dt_cb (fun c => dt_anc pp c 40 (some a) && dt_anc pp c 40 (some b)) (i + 1) = nI i := if_pos (by dsimp only; rw [e, e2]; rfl)
      rw [e3] at go
      exact go
def dt_sz : Option Nat → Nat
  | none => 0
  | some r => r + 1
theorem dt_xcommon35 {w : Int32} (hSh : dt_Sh R D P T L dd pp tt) (post : Int32 → Prop) (hp : post w) : ∀ (m i n : Nat) (x y : Option Nat), i + m = 80 → dt_sz x + dt_sz y ≤ m → m < n → (∀ r, x = some r → r < R) → (∀ r, y = some r → r < R) → (∀ z, z < R → (∀ c, dt_on pp c x ∧ dt_on pp c y → c ≤ z) → dt_on pp z x → dt_on pp z y → w = nI z) → ((∀ c, ¬ (dt_on pp c x ∧ dt_on pp c y)) → w = -5) → wX_common_35 post (nI R) D P T B L hX kX cm lc lf n (dt_par x) (dt_par y) (nI i) := by
  have hR := hSh.1
  have fin : ∀ (x y : Option Nat), (∀ r, x = some r → r < R) → (∀ r, y = some r → r < R) → (x = none ∨ y = none ∨ x = y) → (∀ z, z < R → (∀ c, dt_on pp c x ∧ dt_on pp c y → c ≤ z) → dt_on pp z x → dt_on pp z y → w = nI z) → ((∀ c, ¬ (dt_on pp c x ∧ dt_on pp c y)) → w = -5) → wX_common_98 post (dt_par x) (dt_par y) (nI R) D P T B L hX kX cm lc lf := by
    intro x y hx hy hxy H1 H2
    unfold wX_common_98
    cases x with
    | none =>
      rw [H2 (fun c z => dt_on_none z.1)] at hp
      exact br_c (fun _ => br_t dt_neg1 hp) (fun _ => hp)
    | some r =>
      have hr := hx r rfl
      cases y with
      | none =>
        rw [H2 (fun c z => dt_on_none z.2)] at hp
        exact br_f (fun z => dt_neg1_ne (r := r) (by omega) z.symm) hp
      | some t =>
        have e : r = t := by
          rcases hxy with z | z | z
          · exact nomatch z
          · exact nomatch z
          · exact Option.some.inj z
        subst e
        have hon : dt_on pp r (some r) := dt_on_some.mpr (Or.inl rfl)
        rw [H1 r hr (fun c z => by rcases dt_on_tt hSh r hr z.1 with y | y <;> omega) hon hon] at hp
        exact br_t rfl (br_f (nI_pos (by omega)) hp)
  intro m
  induction m with
  | zero =>
    intro i n x y hi hm hn hx hy H1 H2
    obtain ⟨n, rfl⟩ : ∃ m, n = m + 1 := ⟨n - 1, by omega⟩
    rw [wX_common_35]
    refine br_t (nI_le (a := 80) (by omega) (by omega)) (fin x y hx hy ?_ H1 H2)
    cases x with
    | none => exact Or.inl rfl
    | some r =>
      have : dt_sz (some r) = r + 1 := rfl
      omega
  | succ m ih =>
    intro i n x y hi hm hn hx hy H1 H2
    obtain ⟨n, rfl⟩ : ∃ m, n = m + 1 := ⟨n - 1, by omega⟩
    rw [wX_common_35]
    refine br_f (nI_ge (b := 80) (by omega) (by decide)) ?_
    cases x with
    | none =>
      exact br_c (fun _ => fin none y hx hy (Or.inl rfl) H1 H2) (fun _ => br_t dt_neg1 (fin none y hx hy (Or.inl rfl) H1 H2))
    | some r =>
      have hr := hx r rfl
      have hsr : dt_sz (some r) = r + 1 := rfl
      cases y with
      | none =>
        exact br_f (fun z => dt_neg1_ne (r := r) (by omega) z.symm) (br_f (nI_pos (by omega)) (br_t dt_neg1 (fin (some r) none hx hy (Or.inr (Or.inl rfl)) H1 H2)))
      | some t =>
        have ht := hy t rfl
        have hst : dt_sz (some t) = t + 1 := rfl
        rw [dt_par_some, dt_par_some, nI_eq (by omega) (by omega), nI_clamp (show r < 2 ^ 31 by omega), nI_clamp (show t < 2 ^ 31 by omega), (hSh.2.2.2.2.1 r hr).1, (hSh.2.2.2.2.1 t ht).1]
        have b1 := (hSh.2.2.2.2.1 r hr).2
        have b2 := (hSh.2.2.2.2.1 t ht).2
        rw [nI_ltI (by omega) (by omega)]
        refine br_c (fun e => ?_) (fun e => br_f (nI_pos (by omega)) (br_f (nI_pos (by omega)) ⟨vp_in_nI (by omega) (by decide), vp_in_nI (by omega) (by decide), br_c (fun e2 => ⟨vp_in_nI (by omega) (by decide), nm_r (e' := dt_par (pp t)) ?_ (nm_r (nI_1 i) (ih (i + 1) n (some r) (pp t) (by omega) ?_ (by omega) hx ?_ ?_ ?_))⟩) (fun e2 => ⟨vp_in_nI (by omega) (by decide), nm_r (e' := dt_par (pp r)) ?_ (nm_r (nI_1 i) (ih (i + 1) n (pp r) (some t) (by omega) ?_ (by omega) ?_ hy ?_ ?_))⟩)⟩))
        · exact fin (some r) (some t) hx hy (Or.inr (Or.inr (by rw [e]))) H1 H2
        · exact hSh.2.2.1 t ht
        · cases e3 : pp t with
          | none => show dt_sz (some r) + 0 ≤ m; omega
          | some p =>
            have := (hSh.2.2.2.1 t p ht e3).1
            show dt_sz (some r) + (p + 1) ≤ m
            omega
        · intro p hpp
          have := (hSh.2.2.2.1 t p ht hpp).1
          omega
        · have hmov : ∀ c, (dt_on pp c (some r) ∧ dt_on pp c (pp t)) ↔ (dt_on pp c (some r) ∧ dt_on pp c (some t)) := by
            intro c
            refine ⟨fun z => ⟨z.1, dt_on_some.mpr (Or.inr z.2)⟩, fun z => ⟨z.1, ?_⟩⟩
            rcases dt_on_some.mp z.2 with y | y
            · rw [← y] at z
              rcases dt_on_tt hSh r hr z.1 with v | v
              · exact absurd v e
              · omega
            · exact y
          intro z hz hle h1 h2
          have h3 := (hmov z).mp ⟨h1, h2⟩
          exact H1 z hz (fun c hc => hle c ((hmov c).mpr hc)) h3.1 h3.2
        · have hmov : ∀ c, (dt_on pp c (some r) ∧ dt_on pp c (some t)) → (dt_on pp c (some r) ∧ dt_on pp c (pp t)) := by
            intro c z
            refine ⟨z.1, ?_⟩
            rcases dt_on_some.mp z.2 with y | y
            · rw [← y] at z
              rcases dt_on_tt hSh r hr z.1 with v | v
              · exact absurd v e
              · omega
            · exact y
          intro hno
          exact H2 (fun c hc => hno c (hmov c hc))
        · exact hSh.2.2.1 r hr
        · cases e3 : pp r with
          | none => show 0 + dt_sz (some t) ≤ m; omega
          | some p =>
            have := (hSh.2.2.2.1 r p hr e3).1
            show (p + 1) + dt_sz (some t) ≤ m
            omega
        · intro p hpp
          have := (hSh.2.2.2.1 r p hr hpp).1
          omega
        · have hmov : ∀ c, (dt_on pp c (pp r) ∧ dt_on pp c (some t)) ↔ (dt_on pp c (some r) ∧ dt_on pp c (some t)) := by
            intro c
            refine ⟨fun z => ⟨dt_on_some.mpr (Or.inr z.1), z.2⟩, fun z => ⟨?_, z.2⟩⟩
            rcases dt_on_some.mp z.1 with y | y
            · rw [← y] at z
              rcases dt_on_tt hSh t ht z.2 with v | v
              · exact absurd v.symm e
              · omega
            · exact y
          intro z hz hle h1 h2
          have h3 := (hmov z).mp ⟨h1, h2⟩
          exact H1 z hz (fun c hc => hle c ((hmov c).mpr hc)) h3.1 h3.2
        · have hmov : ∀ c, (dt_on pp c (some r) ∧ dt_on pp c (some t)) → (dt_on pp c (pp r) ∧ dt_on pp c (some t)) := by
            intro c z
            refine ⟨?_, z.2⟩
            rcases dt_on_some.mp z.1 with y | y
            · rw [← y] at z
              rcases dt_on_tt hSh t ht z.2 with v | v
              · exact absurd v.symm e
              · omega
            · exact y
          intro hno
          exact H2 (fun c hc => hno c (hmov c hc))
end
end
section
/-! 14: the methods that store, each as one outcome of both sides -/
theorem dt_n1 : ¬ (-1 : Int32) = 0 := by decide +kernel
theorem dt_n2 : ¬ (-2 : Int32) = 0 := by decide +kernel
theorem dt_n3 : ¬ (-3 : Int32) = 0 := by decide +kernel
theorem dt_l1 : ¬ (0 : Int32) ≤ -1 := by decide +kernel
theorem dt_l2 : ¬ (0 : Int32) ≤ -2 := by decide +kernel
theorem dt_l0 : (0 : Int32) ≤ 0 := by decide +kernel
section
variable {R : Nat} {D P T B L cm lc lf hY kY : Nat → Int32} {hX kX : Nat → Int64} {dd : Nat → Nat} {pp : Nat → Option Nat} {tt : Nat → Nat} {h k : Nat → Nat → Bool} {ll : Nat → List Nat}
theorem dt_xhasof {s d p : Nat} (hSh : dt_Sh R D P T L dd pp tt) (hH : dt_HX hX h) (hs : s < 2) (hd : d < 4) (hp : p < R) (post : Int32 → Prop) (hpost : post (dt_b (h s p && decide (dd p = d)))) : wpX_hasOf post (nI R, D, P, T, B, L, hX, kX, cm, lc, lf) (nI s) (nI d) (nI p) := by
  have hR := hSh.1
  have hD := hSh.2.1 p hp
  unfold wpX_hasOf
  dsimp only
  refine ⟨vp_in_nI hs (by decide), ?_⟩
  rw [nI_clamp (show s < 2 ^ 31 by omega)]
  refine dt_xisin hR hp _ ?_
  rw [hH s p hs (by omega), nI_clamp (show p < 2 ^ 31 by omega), hD.1, nI_eq (by omega) (by omega)]
  refine dt_br (fun e => ?_) (fun e => ⟨vp_in_nI (by omega) (by decide), br_c (fun e2 => ?_) (fun e2 => ?_)⟩)
  · rw [e, Bool.false_and] at hpost
    exact hpost
  · rw [e, decide_eq_true e2] at hpost
    exact hpost
  · rw [e, decide_eq_false e2] at hpost
    exact hpost
theorem dt_xhasof0 {s : Nat} {x w : Int32} (hs : s < 2) (hx : x < 0 ∨ nI R ≤ x) (post : Int32 → Prop) (hpost : post 0) : wpX_hasOf post (nI R, D, P, T, B, L, hX, kX, cm, lc, lf) (nI s) w x := by
  unfold wpX_hasOf
  dsimp only
  exact ⟨vp_in_nI hs (by decide), dt_xisin0 hx _ (br_t rfl hpost)⟩
theorem dt_isleaf_eq (hSh : dt_Sh R D P T L dd pp tt) (hL : dt_Li R T B L dd pp h ll) {s p : Nat} (hs : s < 2) (hp : p < R) : decide (p ∈ ll (s * 4 + dd p)) = dt_leaf R pp h s p := by
  have hd := (hSh.2.1 p hp).2
  cases e : dt_leaf R pp h s p with
  | true => exact decide_eq_true (((hL s (dd p) hs hd).1 p).mpr ⟨rfl, e⟩)
  | false =>
    refine decide_eq_false (fun z => ?_)
    have z2 := (((hL s (dd p) hs hd).1 p).mp z).2
    rw [e] at z2
    exact Bool.false_ne_true z2
theorem dt_xleafof {s d p : Nat} (hSh : dt_Sh R D P T L dd pp tt) (hH : dt_HX hX h) (hS : dt_Si R pp h k) (hL : dt_Li R T B L dd pp h ll) (hA : dt_LX lc lf ll) (hs : s < 2) (hd : d < 4) (hp : p < R) (post : Int32 → Prop) (hpost : post (dt_b (dt_leaf R pp h s p && decide (dd p = d)))) : wpX_leafOf post (nI R, D, P, T, B, L, hX, kX, cm, lc, lf) (nI s) (nI d) (nI p) := by
  have hR := hSh.1
  have hD := hSh.2.1 p hp
  have hlen := dt_Li_len hS hL hs hD.2
  unfold wpX_leafOf
  dsimp only
  refine dt_xhasof hSh hH hs hd hp _ (dt_br (fun e => ?_) (fun e => ?_))
  · have e2 : (dt_leaf R pp h s p && decide (dd p = d)) = false := by
      cases e3 : dt_leaf R pp h s p with
      | false => rfl
      | true =>
        rw [(dt_leaf_iff.mp e3).1] at e
        exact e
    rw [e2] at hpost
    exact hpost
  · rw [Bool.and_eq_true] at e
    rw [e.2, Bool.and_true] at hpost
    refine dt_xisleaf hs (by omega) hD.2 hD.1 (hA _ (by omega)) (by omega) (fun x hx => by have := dt_Li_mem hS hL hs hD.2 hx; omega) _ ?_
    rw [dt_isleaf_eq hSh hL hs hp]
    refine dt_br (fun e3 => ?_) (fun e3 => ?_)
    · rw [e3] at hpost
      exact hpost
    · rw [e3] at hpost
      exact hpost
theorem dt_xleafof0 {s : Nat} {x w : Int32} (hs : s < 2) (hx : x < 0 ∨ nI R ≤ x) (post : Int32 → Prop) (hpost : post 0) : wpX_leafOf post (nI R, D, P, T, B, L, hX, kX, cm, lc, lf) (nI s) w x := by
  unfold wpX_leafOf
  dsimp only
  exact dt_xhasof0 hs hx _ (br_t rfl hpost)
theorem dt_m_put (G : dt_G R D P T B L hX kX lc lf hY kY dd pp tt h k ll) (v1 v2 v3 v4 : Int32) : ∃ (r : Int32) (u' : SX) (v' : SY), dt_Rel u' v' ∧ (∀ post : Int32 → SX → Prop, post r u' → wpX_put post (nI R, D, P, T, B, L, hX, kX, cm, lc, lf) v1 v2 v3 v4) ∧ (∀ post : Int32 → SY → Prop, post r v' → wpY_put post (nI R, D, P, T, B, L, hY, kY, cm) v1 v2 v3 v4) := by
  have stay : dt_Rel (nI R, D, P, T, B, L, hX, kX, cm, lc, lf) (nI R, D, P, T, B, L, hY, kY, cm) := dt_Rel_i G
  rcases dt_site v1 with ⟨s, hs, rfl⟩ | h1
  · rcases dt_doc v2 with ⟨d, hd, rfl⟩ | h2
    · have G0 := G
      obtain ⟨hSh, hHX, hKX, hHY, hKY, hS, hL, hA⟩ := G0
      have hR40 := hSh.1
      by_cases hR : R = 40
      · refine ⟨-3, _, _, stay, fun post hp => ?_, fun post hp => ?_⟩
        · unfold wpX_put
          dsimp only
          exact dt_xref3 hs hd hR _ (br_f dt_n3 hp)
        · unfold wpY_put
          dsimp only
          exact dt_yref0 hs hd _ (br_t dt_l0 (br_t (by rw [hR]; rfl) hp))
      · have hR1 : R < 40 := by omega
        have hRn : ¬ nI R = 40 := fun z => hR ((nI_eq (b := 40) (by omega) (by decide)).mp z)
        by_cases h3 : v3 = -1
        · have hlen := dt_Li_len hS hL hs hd
          have hmem : ∀ x, x ∈ ll (s * 4 + d) → x < R := fun x hx => dt_Li_mem hS hL hs hd hx
          have hq := hA (s * 4 + d) (by omega)
          have xw := fun post => dt_xwinof (R := R) (D := D) (P := P) (T := T) (B := B) (L := L) (cm := cm) (hX := hX) (kX := kX) hs hd hq (by omega) post
          have yw := fun post => dt_ybest (B := B) (cm := cm) (kY := kY) hSh hHY hS hL hs hd post
          have hdoc := fun x => ((hL s d hs hd).1 x).mp
          generalize ll (s * 4 + d) = l at xw yw hmem hdoc
          cases l with
          | nil =>
            obtain ⟨⟨f1, f2, f3, f4, f5, f6, f7, f8, f9, f10, f11⟩, ⟨g1, g2, g3, g4, g5, g6, g7, g8, g9⟩, hRel, hx, hy⟩ := dt_write_all (cm := cm) G (o := none) v4 false hR1 hs hd (fun p z => nomatch z)
            refine ⟨nI R, _, _, hRel, fun post hp => ?_, fun post hp => ?_⟩
            · unfold wpX_put
              dsimp only
              refine dt_xref0 hs hd hR1 _ (br_t rfl (br_t h3 (xw _ (br_t dt_neg5 ?_))))
              unfold wX_put_47
              refine br_t dt_neg5 ?_
              unfold wX_put_61
              exact hx _ hp
            · unfold wpY_put
              dsimp only
              refine dt_yref0 hs hd _ (br_t dt_l0 (br_f hRn (br_t h3 (yw _ (br_t dt_neg1 ?_)))))
              unfold wY_put_59
              exact hy _ hp
          | cons x l =>
            have hxR : x < R := hmem x (by simp)
            have hxn : ¬ nI x < 0 := nI_pos (by omega)
            have hxi : vp_in (nI x) 40 := vp_in_nI (by omega) (by decide)
            have hxc : (nI x).toNatClampNeg = x := nI_clamp (by omega)
            obtain ⟨x1, x2⟩ := hdoc x (by simp)
            by_cases hx0 : L x = 0
            · refine ⟨-4, _, _, stay, fun post hp => ?_, fun post hp => ?_⟩
              · unfold wpX_put
                dsimp only
                refine dt_xref0 hs hd hR1 _ (br_t rfl (br_t h3 (xw _ (br_f hxn ⟨hxi, br_t ?_ hp⟩))))
                show L (nI x).toNatClampNeg = 0
                rw [hxc]
                exact hx0
              · unfold wpY_put
                dsimp only
                refine dt_yref0 hs hd _ (br_t dt_l0 (br_f hRn (br_t h3 (yw _ (br_f hxn ⟨hxi, br_t ?_ hp⟩)))))
                show L (nI x).toNatClampNeg = 0
                rw [hxc]
                exact hx0
            · obtain ⟨⟨f1, f2, f3, f4, f5, f6, f7, f8, f9, f10, f11⟩, ⟨g1, g2, g3, g4, g5, g6, g7, g8, g9⟩, hRel, hx, hy⟩ := dt_write_all (cm := cm) G (o := some x) v4 false hR1 hs hd (fun p z => by
                rw [← Option.some.inj z]
                exact ⟨hxR, x1, (dt_leaf_iff.mp x2).1⟩)
              refine ⟨nI R, _, _, hRel, fun post hp => ?_, fun post hp => ?_⟩
              · unfold wpX_put
                dsimp only
                refine dt_xref0 hs hd hR1 _ (br_t rfl (br_t h3 (xw _ (br_f hxn ⟨hxi, br_f ?_ ?_⟩))))
                · show ¬ L (nI x).toNatClampNeg = 0
                  rw [hxc]
                  exact hx0
                · unfold wX_put_47
                  refine br_f hxn ?_
                  unfold wX_put_61
                  exact hx _ hp
              · unfold wpY_put
                dsimp only
                refine dt_yref0 hs hd _ (br_t dt_l0 (br_f hRn (br_t h3 (yw _ (br_f hxn ⟨hxi, br_f ?_ ?_⟩)))))
                · show ¬ L (nI x).toNatClampNeg = 0
                  rw [hxc]
                  exact hx0
                · unfold wY_put_59
                  exact hy _ hp
        · rcases pk_ix v3 (n := R) (by omega) with h4 | h4 | ⟨p, hpR, rfl⟩
          · refine ⟨-4, _, _, stay, fun post hp => ?_, fun post hp => ?_⟩
            · unfold wpX_put
              dsimp only
              exact dt_xref0 hs hd hR1 _ (br_t rfl (br_f h3 (dt_xleafof0 hs (Or.inl h4) _ (br_t rfl hp))))
            · unfold wpY_put
              dsimp only
              exact dt_yref0 hs hd _ (br_t dt_l0 (br_f hRn (br_f h3 (br_t h4 hp))))
          · have h5 : ¬ v3 < 0 := by
              rw [Int32.lt_iff_toInt_lt, show (0 : Int32).toInt = 0 from by decide]
              rw [Int32.le_iff_toInt_le, nI_toInt (by omega)] at h4
              omega
            refine ⟨-4, _, _, stay, fun post hp => ?_, fun post hp => ?_⟩
            · unfold wpX_put
              dsimp only
              exact dt_xref0 hs hd hR1 _ (br_t rfl (br_f h3 (dt_xleafof0 hs (Or.inr h4) _ (br_t rfl hp))))
            · unfold wpY_put
              dsimp only
              exact dt_yref0 hs hd _ (br_t dt_l0 (br_f hRn (br_f h3 (br_f h5 (br_t h4 hp)))))
          · have hD := hSh.2.1 p hpR
            have n1 : ¬ nI p < 0 := nI_pos (by omega)
            have n2 : ¬ nI R ≤ nI p := nI_ge hpR (by omega)
            have ip : vp_in (nI p) 40 := vp_in_nI (by omega) (by decide)
            have cp : (nI p).toNatClampNeg = p := nI_clamp (by omega)
            cases hl : dt_leaf R pp h s p with
            | false =>
              refine ⟨-4, _, _, stay, fun post hp => ?_, fun post hp => ?_⟩
              · unfold wpX_put
                dsimp only
                exact dt_xref0 hs hd hR1 _ (br_t rfl (br_f h3 (dt_xleafof hSh hHX hS hL hA hs hd hpR _ (by rw [hl]; exact br_t rfl hp))))
              · unfold wpY_put
                dsimp only
                exact dt_yref0 hs hd _ (br_t dt_l0 (br_f hRn (br_f h3 (br_f n1 (br_f n2 (dt_yleaf hSh hHY hs hpR _ (by rw [hl]; exact br_t rfl hp)))))))
            | true =>
              by_cases hdp : dd p = d
              · obtain ⟨⟨f1, f2, f3, f4, f5, f6, f7, f8, f9, f10, f11⟩, ⟨g1, g2, g3, g4, g5, g6, g7, g8, g9⟩, hRel, hx, hy⟩ := dt_write_all (cm := cm) G (o := some p) v4 false hR1 hs hd (fun p' z => by
                  rw [← Option.some.inj z]
                  exact ⟨hpR, hdp, (dt_leaf_iff.mp hl).1⟩)
                refine ⟨nI R, _, _, hRel, fun post hp => ?_, fun post hp => ?_⟩
                · unfold wpX_put
                  dsimp only
                  exact dt_xref0 hs hd hR1 _ (br_t rfl (br_f h3 (dt_xleafof hSh hHX hS hL hA hs hd hpR _ (by rw [hl, decide_eq_true hdp]; exact br_f dt_b_ne (hx _ hp)))))
                · unfold wpY_put
                  dsimp only
                  refine dt_yref0 hs hd _ (br_t dt_l0 (br_f hRn (br_f h3 (br_f n1 (br_f n2 (dt_yleaf hSh hHY hs hpR _ (by rw [hl]; exact br_f dt_b_ne ⟨ip, br_t (by rw [cp, hD.1, hdp]) (hy _ hp)⟩)))))))
              · have hne : ¬ D (nI p).toNatClampNeg = nI d := by
                  rw [cp, hD.1, nI_eq (by omega) (by omega)]
                  exact hdp
                refine ⟨-4, _, _, stay, fun post hp => ?_, fun post hp => ?_⟩
                · unfold wpX_put
                  dsimp only
                  exact dt_xref0 hs hd hR1 _ (br_t rfl (br_f h3 (dt_xleafof hSh hHX hS hL hA hs hd hpR _ (by rw [hl, decide_eq_false hdp]; exact br_t rfl hp))))
                · unfold wpY_put
                  dsimp only
                  exact dt_yref0 hs hd _ (br_t dt_l0 (br_f hRn (br_f h3 (br_f n1 (br_f n2 (dt_yleaf hSh hHY hs hpR _ (by rw [hl]; exact br_f dt_b_ne ⟨ip, br_f hne hp⟩)))))))
    · refine ⟨-2, _, _, stay, fun post hp => ?_, fun post hp => ?_⟩
      · unfold wpX_put
        dsimp only
        exact dt_xref2 hs h2 _ (br_f dt_n2 hp)
      · unfold wpY_put
        dsimp only
        exact dt_yref2 hs h2 _ (br_f dt_l2 (dt_yref2 hs h2 _ hp))
  · refine ⟨-1, _, _, stay, fun post hp => ?_, fun post hp => ?_⟩
    · unfold wpX_put
      dsimp only
      exact dt_xref1 h1 _ (br_f dt_n1 hp)
    · unfold wpY_put
      dsimp only
      exact dt_yref1 h1 _ (br_f dt_l1 (dt_yref1 h1 _ hp))
end
end
section
/-! 15: delete, branch, pull, compact, each as one outcome of both sides -/
theorem dt_ge_pos {R : Nat} {x : Int32} (hR : R ≤ 40) (h : nI R ≤ x) : ¬ x < 0 := by
  rw [Int32.lt_iff_toInt_lt, show (0 : Int32).toInt = 0 from by decide]
  rw [Int32.le_iff_toInt_le, nI_toInt (by omega)] at h
  omega
section
variable {R : Nat} {D P T B L cm lc lf hY kY : Nat → Int32} {hX kX : Nat → Int64} {dd : Nat → Nat} {pp : Nat → Option Nat} {tt : Nat → Nat} {h k : Nat → Nat → Bool} {ll : Nat → List Nat}
theorem dt_m_delete (G : dt_G R D P T B L hX kX lc lf hY kY dd pp tt h k ll) (v1 v2 v3 : Int32) : ∃ (r : Int32) (u' : SX) (v' : SY), dt_Rel u' v' ∧ (∀ post : Int32 → SX → Prop, post r u' → wpX_delete post (nI R, D, P, T, B, L, hX, kX, cm, lc, lf) v1 v2 v3) ∧ (∀ post : Int32 → SY → Prop, post r v' → wpY_delete post (nI R, D, P, T, B, L, hY, kY, cm) v1 v2 v3) := by
  have stay : dt_Rel (nI R, D, P, T, B, L, hX, kX, cm, lc, lf) (nI R, D, P, T, B, L, hY, kY, cm) := dt_Rel_i G
  rcases dt_site v1 with ⟨s, hs, rfl⟩ | h1
  · rcases dt_doc v2 with ⟨d, hd, rfl⟩ | h2
    · have G0 := G
      obtain ⟨hSh, hHX, hKX, hHY, hKY, hS, hL, hA⟩ := G0
      have hR40 := hSh.1
      by_cases hR : R = 40
      · refine ⟨-3, _, _, stay, fun post hp => ?_, fun post hp => ?_⟩
        · unfold wpX_delete
          dsimp only
          exact dt_xref3 hs hd hR _ (br_f dt_n3 hp)
        · unfold wpY_delete
          dsimp only
          exact dt_yref0 hs hd _ (br_t dt_l0 (br_t (by rw [hR]; rfl) hp))
      · have hR1 : R < 40 := by omega
        have hRn : ¬ nI R = 40 := fun z => hR ((nI_eq (b := 40) (by omega) (by decide)).mp z)
        rcases pk_ix v3 (n := R) (by omega) with h4 | h4 | ⟨p, hpR, rfl⟩
        · refine ⟨-4, _, _, stay, fun post hp => ?_, fun post hp => ?_⟩
          · unfold wpX_delete
            dsimp only
            exact dt_xref0 hs hd hR1 _ (br_t rfl (dt_xleafof0 hs (Or.inl h4) _ (br_t rfl hp)))
          · unfold wpY_delete
            dsimp only
            exact dt_yref0 hs hd _ (br_t dt_l0 (br_f hRn (br_t h4 hp)))
        · have h5 : ¬ v3 < 0 := dt_ge_pos hR40 h4
          refine ⟨-4, _, _, stay, fun post hp => ?_, fun post hp => ?_⟩
          · unfold wpX_delete
            dsimp only
            exact dt_xref0 hs hd hR1 _ (br_t rfl (dt_xleafof0 hs (Or.inr h4) _ (br_t rfl hp)))
          · unfold wpY_delete
            dsimp only
            exact dt_yref0 hs hd _ (br_t dt_l0 (br_f hRn (br_f h5 (br_t h4 hp))))
        · have hD := hSh.2.1 p hpR
          have n1 : ¬ nI p < 0 := nI_pos (by omega)
          have n2 : ¬ nI R ≤ nI p := nI_ge hpR (by omega)
          have ip : vp_in (nI p) 40 := vp_in_nI (by omega) (by decide)
          have cp : (nI p).toNatClampNeg = p := nI_clamp (by omega)
          cases hl : dt_leaf R pp h s p with
          | false =>
            refine ⟨-4, _, _, stay, fun post hp => ?_, fun post hp => ?_⟩
            · unfold wpX_delete
              dsimp only
              exact dt_xref0 hs hd hR1 _ (br_t rfl (dt_xleafof hSh hHX hS hL hA hs hd hpR _ (by rw [hl]; exact br_t rfl hp)))
            · unfold wpY_delete
              dsimp only
              exact dt_yref0 hs hd _ (br_t dt_l0 (br_f hRn (br_f n1 (br_f n2 (dt_yleaf hSh hHY hs hpR _ (by rw [hl]; exact br_t rfl hp))))))
          | true =>
            by_cases hdp : dd p = d
            · have hde : D (nI p).toNatClampNeg = nI d := by rw [cp, hD.1, hdp]
              by_cases hp0 : L p = 0
              · have hp1 : L (nI p).toNatClampNeg = 0 := by rw [cp]; exact hp0
                obtain ⟨⟨f1, f2, f3, f4, f5, f6, f7, f8, f9, f10, f11⟩, ⟨g1, g2, g3, g4, g5, g6, g7, g8, g9⟩, hRel, hx, hy⟩ := dt_write_all (cm := cm) G (o := some p) 0 true hR1 hs hd (fun p' z => by
                  rw [← Option.some.inj z]
                  exact ⟨hpR, hdp, (dt_leaf_iff.mp hl).1⟩)
                refine ⟨nI R, _, _, hRel, fun post hp => ?_, fun post hp => ?_⟩
                · unfold wpX_delete
                  dsimp only
                  exact dt_xref0 hs hd hR1 _ (br_t rfl (dt_xleafof hSh hHX hS hL hA hs hd hpR _ (by rw [hl, decide_eq_true hdp]; exact br_f dt_b_ne ⟨ip, br_t hp1 (hx _ hp)⟩)))
                · unfold wpY_delete
                  dsimp only
                  exact dt_yref0 hs hd _ (br_t dt_l0 (br_f hRn (br_f n1 (br_f n2 (dt_yleaf hSh hHY hs hpR _ (by rw [hl]; exact br_f dt_b_ne ⟨ip, br_t hde ⟨ip, br_t hp1 (hy _ hp)⟩⟩))))))
              · have hp1 : ¬ L (nI p).toNatClampNeg = 0 := by rw [cp]; exact hp0
                refine ⟨-4, _, _, stay, fun post hp => ?_, fun post hp => ?_⟩
                · unfold wpX_delete
                  dsimp only
                  exact dt_xref0 hs hd hR1 _ (br_t rfl (dt_xleafof hSh hHX hS hL hA hs hd hpR _ (by rw [hl, decide_eq_true hdp]; exact br_f dt_b_ne ⟨ip, br_f hp1 hp⟩)))
                · unfold wpY_delete
                  dsimp only
                  exact dt_yref0 hs hd _ (br_t dt_l0 (br_f hRn (br_f n1 (br_f n2 (dt_yleaf hSh hHY hs hpR _ (by rw [hl]; exact br_f dt_b_ne ⟨ip, br_t hde ⟨ip, br_f hp1 hp⟩⟩))))))
            · have hne : ¬ D (nI p).toNatClampNeg = nI d := by
                rw [cp, hD.1, nI_eq (by omega) (by omega)]
                exact hdp
              refine ⟨-4, _, _, stay, fun post hp => ?_, fun post hp => ?_⟩
              · unfold wpX_delete
                dsimp only
                exact dt_xref0 hs hd hR1 _ (br_t rfl (dt_xleafof hSh hHX hS hL hA hs hd hpR _ (by rw [hl, decide_eq_false hdp]; exact br_t rfl hp)))
              · unfold wpY_delete
                dsimp only
                exact dt_yref0 hs hd _ (br_t dt_l0 (br_f hRn (br_f n1 (br_f n2 (dt_yleaf hSh hHY hs hpR _ (by rw [hl]; exact br_f dt_b_ne ⟨ip, br_f hne hp⟩))))))
    · refine ⟨-2, _, _, stay, fun post hp => ?_, fun post hp => ?_⟩
      · unfold wpX_delete
        dsimp only
        exact dt_xref2 hs h2 _ (br_f dt_n2 hp)
      · unfold wpY_delete
        dsimp only
        exact dt_yref2 hs h2 _ (br_f dt_l2 (dt_yref2 hs h2 _ hp))
  · refine ⟨-1, _, _, stay, fun post hp => ?_, fun post hp => ?_⟩
    · unfold wpX_delete
      dsimp only
      exact dt_xref1 h1 _ (br_f dt_n1 hp)
    · unfold wpY_delete
      dsimp only
      exact dt_yref1 h1 _ (br_f dt_l1 (dt_yref1 h1 _ hp))
theorem dt_m_branch (G : dt_G R D P T B L hX kX lc lf hY kY dd pp tt h k ll) (v1 v2 v3 v4 : Int32) : ∃ (r : Int32) (u' : SX) (v' : SY), dt_Rel u' v' ∧ (∀ post : Int32 → SX → Prop, post r u' → wpX_branch post (nI R, D, P, T, B, L, hX, kX, cm, lc, lf) v1 v2 v3 v4) ∧ (∀ post : Int32 → SY → Prop, post r v' → wpY_branch post (nI R, D, P, T, B, L, hY, kY, cm) v1 v2 v3 v4) := by
  have stay : dt_Rel (nI R, D, P, T, B, L, hX, kX, cm, lc, lf) (nI R, D, P, T, B, L, hY, kY, cm) := dt_Rel_i G
  rcases dt_site v1 with ⟨s, hs, rfl⟩ | h1
  · rcases dt_doc v2 with ⟨d, hd, rfl⟩ | h2
    · have G0 := G
      obtain ⟨hSh, hHX, hKX, hHY, hKY, hS, hL, hA⟩ := G0
      have hR40 := hSh.1
      by_cases hR : R = 40
      · refine ⟨-3, _, _, stay, fun post hp => ?_, fun post hp => ?_⟩
        · unfold wpX_branch
          dsimp only
          exact dt_xref3 hs hd hR _ (br_f dt_n3 hp)
        · unfold wpY_branch
          dsimp only
          exact dt_yref0 hs hd _ (br_t dt_l0 (br_t (by rw [hR]; rfl) hp))
      · have hR1 : R < 40 := by omega
        have hRn : ¬ nI R = 40 := fun z => hR ((nI_eq (b := 40) (by omega) (by decide)).mp z)
        rcases pk_ix v3 (n := R) (by omega) with h4 | h4 | ⟨p, hpR, rfl⟩
        · refine ⟨-5, _, _, stay, fun post hp => ?_, fun post hp => ?_⟩
          · unfold wpX_branch
            dsimp only
            exact dt_xref0 hs hd hR1 _ (br_t rfl (dt_xhasof0 hs (Or.inl h4) _ (br_t rfl hp)))
          · unfold wpY_branch
            dsimp only
            exact dt_yref0 hs hd _ (br_t dt_l0 (br_f hRn (br_t h4 hp)))
        · have h5 : ¬ v3 < 0 := dt_ge_pos hR40 h4
          refine ⟨-5, _, _, stay, fun post hp => ?_, fun post hp => ?_⟩
          · unfold wpX_branch
            dsimp only
            exact dt_xref0 hs hd hR1 _ (br_t rfl (dt_xhasof0 hs (Or.inr h4) _ (br_t rfl hp)))
          · unfold wpY_branch
            dsimp only
            exact dt_yref0 hs hd _ (br_t dt_l0 (br_f hRn (br_f h5 (br_t h4 hp))))
        · have hD := hSh.2.1 p hpR
          have n1 : ¬ nI p < 0 := nI_pos (by omega)
          have n2 : ¬ nI R ≤ nI p := nI_ge hpR (by omega)
          have ip : vp_in (nI p) 40 := vp_in_nI (by omega) (by decide)
          have cp : (nI p).toNatClampNeg = p := nI_clamp (by omega)
          cases hl : h s p with
          | false =>
            refine ⟨-5, _, _, stay, fun post hp => ?_, fun post hp => ?_⟩
            · unfold wpX_branch
              dsimp only
              exact dt_xref0 hs hd hR1 _ (br_t rfl (dt_xhasof hSh hHX hs hd hpR _ (by rw [hl]; exact br_t rfl hp)))
            · unfold wpY_branch
              dsimp only
              exact dt_yref0 hs hd _ (br_t dt_l0 (br_f hRn (br_f n1 (br_f n2 (dt_yat hR40 hHY hs hpR _ (by rw [hl]; exact br_t rfl hp))))))
          | true =>
            by_cases hdp : dd p = d
            · have hde : D (nI p).toNatClampNeg = nI d := by rw [cp, hD.1, hdp]
              obtain ⟨⟨f1, f2, f3, f4, f5, f6, f7, f8, f9, f10, f11⟩, ⟨g1, g2, g3, g4, g5, g6, g7, g8, g9⟩, hRel, hx, hy⟩ := dt_write_all (cm := cm) G (o := some p) v4 false hR1 hs hd (fun p' z => by
                rw [← Option.some.inj z]
                exact ⟨hpR, hdp, hl⟩)
              refine ⟨nI R, _, _, hRel, fun post hp => ?_, fun post hp => ?_⟩
              · unfold wpX_branch
                dsimp only
                exact dt_xref0 hs hd hR1 _ (br_t rfl (dt_xhasof hSh hHX hs hd hpR _ (by rw [hl, decide_eq_true hdp]; exact br_f dt_b_ne (hx _ hp))))
              · unfold wpY_branch
                dsimp only
                exact dt_yref0 hs hd _ (br_t dt_l0 (br_f hRn (br_f n1 (br_f n2 (dt_yat hR40 hHY hs hpR _ (by rw [hl]; exact br_f dt_b_ne ⟨ip, br_t hde (hy _ hp)⟩))))))
            · have hne : ¬ D (nI p).toNatClampNeg = nI d := by
                rw [cp, hD.1, nI_eq (by omega) (by omega)]
                exact hdp
              refine ⟨-5, _, _, stay, fun post hp => ?_, fun post hp => ?_⟩
              · unfold wpX_branch
                dsimp only
                exact dt_xref0 hs hd hR1 _ (br_t rfl (dt_xhasof hSh hHX hs hd hpR _ (by rw [hl, decide_eq_false hdp]; exact br_t rfl hp)))
              · unfold wpY_branch
                dsimp only
                exact dt_yref0 hs hd _ (br_t dt_l0 (br_f hRn (br_f n1 (br_f n2 (dt_yat hR40 hHY hs hpR _ (by rw [hl]; exact br_f dt_b_ne ⟨ip, br_f hne hp⟩))))))
    · refine ⟨-2, _, _, stay, fun post hp => ?_, fun post hp => ?_⟩
      · unfold wpX_branch
        dsimp only
        exact dt_xref2 hs h2 _ (br_f dt_n2 hp)
      · unfold wpY_branch
        dsimp only
        exact dt_yref2 hs h2 _ (br_f dt_l2 (dt_yref2 hs h2 _ hp))
  · refine ⟨-1, _, _, stay, fun post hp => ?_, fun post hp => ?_⟩
    · unfold wpX_branch
      dsimp only
      exact dt_xref1 h1 _ (br_f dt_n1 hp)
    · unfold wpY_branch
      dsimp only
      exact dt_yref1 h1 _ (br_f dt_l1 (dt_yref1 h1 _ hp))
theorem dt_m_pull (G : dt_G R D P T B L hX kX lc lf hY kY dd pp tt h k ll) (v1 v2 : Int32) : ∃ (r : Int32) (u' : SX) (v' : SY), dt_Rel u' v' ∧ (∀ post : Int32 → SX → Prop, post r u' → wpX_pull post (nI R, D, P, T, B, L, hX, kX, cm, lc, lf) v1 v2) ∧ (∀ post : Int32 → SY → Prop, post r v' → wpY_pull post (nI R, D, P, T, B, L, hY, kY, cm) v1 v2) := by
  have stay : dt_Rel (nI R, D, P, T, B, L, hX, kX, cm, lc, lf) (nI R, D, P, T, B, L, hY, kY, cm) := dt_Rel_i G
  rcases dt_site v1 with ⟨s, hs, rfl⟩ | h1
  · rcases dt_doc v2 with ⟨d, hd, rfl⟩ | h2
    · obtain ⟨N, u', v', hRel, hx, hy⟩ := dt_pull_all (cm := cm) G hs hd
      exact ⟨nI N, u', v', hRel, hx, hy⟩
    · refine ⟨-2, _, _, stay, fun post hp => ?_, fun post hp => ?_⟩
      · unfold wpX_pull
        dsimp only
        exact dt_xbs0 hs _ (br_t rfl (dt_xbd1 h2 _ (br_f dt_b_ne hp)))
      · unfold wpY_pull
        dsimp only
        exact dt_yref2 hs h2 _ (br_f dt_l2 (dt_yref2 hs h2 _ hp))
  · refine ⟨-1, _, _, stay, fun post hp => ?_, fun post hp => ?_⟩
    · unfold wpX_pull
      dsimp only
      exact dt_xbs1 h1 _ (br_f dt_b_ne hp)
    · unfold wpY_pull
      dsimp only
      exact dt_yref1 h1 _ (br_f dt_l1 (dt_yref1 h1 _ hp))
theorem dt_m_compact (G : dt_G R D P T B L hX kX lc lf hY kY dd pp tt h k ll) (v1 : Int32) : ∃ (r : Int32) (u' : SX) (v' : SY), dt_Rel u' v' ∧ (∀ post : Int32 → SX → Prop, post r u' → wpX_compact post (nI R, D, P, T, B, L, hX, kX, cm, lc, lf) v1) ∧ (∀ post : Int32 → SY → Prop, post r v' → wpY_compact post (nI R, D, P, T, B, L, hY, kY, cm) v1) := by
  have stay : dt_Rel (nI R, D, P, T, B, L, hX, kX, cm, lc, lf) (nI R, D, P, T, B, L, hY, kY, cm) := dt_Rel_i G
  rcases dt_site v1 with ⟨s, hs, rfl⟩ | h1
  · obtain ⟨N, kX', kY', k', G', wx, wy⟩ := dt_compact_loop (cm := cm) hs R 0 0 kX kY k G (by omega)
    refine ⟨nI N, _, _, dt_Rel_i (cm := cm) G', fun post hp => ?_, fun post hp => ?_⟩
    · unfold wpX_compact
      dsimp only
      exact dt_xbs0 hs _ (br_t rfl ⟨R + 1, wx post (R + 1) (by omega) hp⟩)
    · unfold wpY_compact
      dsimp only
      exact dt_ybs0 hs _ (br_t rfl ⟨R + 1, wy post (R + 1) (by omega) hp⟩)
  · refine ⟨-1, _, _, stay, fun post hp => ?_, fun post hp => ?_⟩
    · unfold wpX_compact
      dsimp only
      exact dt_xbs1 h1 _ (br_f dt_b_ne hp)
    · unfold wpY_compact
      dsimp only
      exact dt_ybs1 h1 _ (br_f dt_b_ne hp)
end
end
section
/-! 16: the methods that only read, each as one answer of both sides -/
section
variable {R : Nat} {D P T B L cm lc lf hY kY : Nat → Int32} {hX kX : Nat → Int64} {dd : Nat → Nat} {pp : Nat → Option Nat} {tt : Nat → Nat} {h k : Nat → Nat → Bool} {ll : Nat → List Nat}
theorem dt_m_winner (G : dt_G R D P T B L hX kX lc lf hY kY dd pp tt h k ll) (v1 v2 : Int32) : ∃ r : Int32, (∀ post : Int32 → Prop, post r → wpX_winner post (nI R, D, P, T, B, L, hX, kX, cm, lc, lf) v1 v2) ∧ (∀ post : Int32 → Prop, post r → wpY_winner post (nI R, D, P, T, B, L, hY, kY, cm) v1 v2) := by
  rcases dt_site v1 with ⟨s, hs, rfl⟩ | h1
  · rcases dt_doc v2 with ⟨d, hd, rfl⟩ | h2
    · obtain ⟨hSh, hHX, hKX, hHY, hKY, hS, hL, hA⟩ := G
      have hR40 := hSh.1
      have hlen := dt_Li_len hS hL hs hd
      refine ⟨dt_hd (ll (s * 4 + d)), fun post hp => ?_, fun post hp => ?_⟩
      · unfold wpX_winner
        dsimp only
        exact dt_xbs0 hs _ (br_t rfl (dt_xbd0 hd _ (br_t rfl (dt_xwinof hs hd (hA _ (by omega)) (by omega) _ hp))))
      · unfold wpY_winner
        dsimp only
        refine dt_yref0 hs hd _ (br_t dt_l0 (dt_ybest hSh hHY hS hL hs hd _ ?_))
        cases e : ll (s * 4 + d) with
        | nil =>
          rw [e] at hp
          exact br_f dt_l1 hp
        | cons x l =>
          have hx : x < R := dt_Li_mem hS hL hs hd (by rw [e]; simp)
          rw [e] at hp
          exact br_t (nI_pos' (by omega)) hp
    · refine ⟨-2, fun post hp => ?_, fun post hp => ?_⟩
      · unfold wpX_winner
        dsimp only
        exact dt_xbs0 hs _ (br_t rfl (dt_xbd1 h2 _ (br_f dt_b_ne hp)))
      · unfold wpY_winner
        dsimp only
        exact dt_yref2 hs h2 _ (br_f dt_l2 (dt_yref2 hs h2 _ hp))
  · refine ⟨-1, fun post hp => ?_, fun post hp => ?_⟩
    · unfold wpX_winner
      dsimp only
      exact dt_xbs1 h1 _ (br_f dt_b_ne hp)
    · unfold wpY_winner
      dsimp only
      exact dt_yref1 h1 _ (br_f dt_l1 (dt_yref1 h1 _ hp))
theorem dt_open_N (hSh : dt_Sh R D P T L dd pp tt) (hS : dt_Si R pp h k) (hL : dt_Li R T B L dd pp h ll) {s d : Nat} (hs : s < 2) (hd : d < 4) : dt_cnt (fun r => dt_ql R dd pp h s d r && decide (L r = 0)) R = dt_open L (ll (s * 4 + d)) := by
  rw [dt_cnt_ql hS hL hs hd (fun r => decide (L r = 0))]
  exact dt_open_cnt (hL s d hs hd).2 (fun x hx => hSh.2.2.2.2.2 x (dt_Li_mem hS hL hs hd hx))
theorem dt_m_conflicts (G : dt_G R D P T B L hX kX lc lf hY kY dd pp tt h k ll) (v1 v2 : Int32) : ∃ r : Int32, (∀ post : Int32 → Prop, post r → wpX_conflicts post (nI R, D, P, T, B, L, hX, kX, cm, lc, lf) v1 v2) ∧ (∀ post : Int32 → Prop, post r → wpY_conflicts post (nI R, D, P, T, B, L, hY, kY, cm) v1 v2) := by
  rcases dt_site v1 with ⟨s, hs, rfl⟩ | h1
  · rcases dt_doc v2 with ⟨d, hd, rfl⟩ | h2
    · obtain ⟨hSh, hHX, hKX, hHY, hKY, hS, hL, hA⟩ := G
      have hR40 := hSh.1
      have hlen := dt_Li_len hS hL hs hd
      have hop := dt_open_le L (ll (s * 4 + d))
      refine ⟨nI (dt_open L (ll (s * 4 + d)) - 1), fun post hp => ?_, fun post hp => ?_⟩
      · unfold wpX_conflicts
        dsimp only
        refine dt_xbs0 hs _ (br_t rfl (dt_xbd0 hd _ (br_t rfl ?_)))
        rw [dt_i4]
        refine dt_xopen (by omega) (hA _ (by omega)) (by omega) (fun x hx => by have := dt_Li_mem hS hL hs hd hx; omega) _ ?_
        generalize dt_open L (ll (s * 4 + d)) = N at hp hop ⊢
        refine pk_le N 1 (fun z => ?_) (fun z => ?_)
        · rw [show N - 1 = 0 by omega] at hp
          exact hp
        · obtain ⟨M, rfl⟩ : ∃ M, N = M + 1 := ⟨N - 1, by omega⟩
          rw [nI_pred]
          exact hp
      · unfold wpY_conflicts
        dsimp only
        rw [← dt_open_N hSh hS hL hs hd] at hp
        exact dt_yref0 hs hd _ (br_t dt_l0 ⟨R + 1, dt_yconfs21 hSh hHY hs hd post hp R 0 (R + 1) (by omega) (by omega)⟩)
    · refine ⟨-2, fun post hp => ?_, fun post hp => ?_⟩
      · unfold wpX_conflicts
        dsimp only
        exact dt_xbs0 hs _ (br_t rfl (dt_xbd1 h2 _ (br_f dt_b_ne hp)))
      · unfold wpY_conflicts
        dsimp only
        exact dt_yref2 hs h2 _ (br_f dt_l2 (dt_yref2 hs h2 _ hp))
  · refine ⟨-1, fun post hp => ?_, fun post hp => ?_⟩
    · unfold wpX_conflicts
      dsimp only
      exact dt_xbs1 h1 _ (br_f dt_b_ne hp)
    · unfold wpY_conflicts
      dsimp only
      exact dt_yref1 h1 _ (br_f dt_l1 (dt_yref1 h1 _ hp))
theorem dt_m_conflict (G : dt_G R D P T B L hX kX lc lf hY kY dd pp tt h k ll) (v1 v2 v3 : Int32) : ∃ r : Int32, (∀ post : Int32 → Prop, post r → wpX_conflict post (nI R, D, P, T, B, L, hX, kX, cm, lc, lf) v1 v2 v3) ∧ (∀ post : Int32 → Prop, post r → wpY_conflict post (nI R, D, P, T, B, L, hY, kY, cm) v1 v2 v3) := by
  rcases dt_site v1 with ⟨s, hs, rfl⟩ | h1
  · rcases dt_doc v2 with ⟨d, hd, rfl⟩ | h2
    · obtain ⟨hSh, hHX, hKX, hHY, hKY, hS, hL, hA⟩ := G
      have hR40 := hSh.1
      have hlen := dt_Li_len hS hL hs hd
      have hop := dt_open_le L (ll (s * 4 + d))
      have hsrt := (hL s d hs hd).2
      have hL01 : ∀ y, y ∈ ll (s * 4 + d) → L y = 0 ∨ L y = 1 := fun y hy => hSh.2.2.2.2.2 y (dt_Li_mem hS hL hs hd hy)
      have xo := fun (post : Int32 → Prop) => dt_xopen (R := R) (D := D) (P := P) (T := T) (B := B) (L := L) (cm := cm) (hX := hX) (kX := kX) (show s * 4 + d < 8 by omega) (hA (s * 4 + d) (by omega)) (by omega) (fun x hx => by have := dt_Li_mem hS hL hs hd hx; omega) post
      by_cases h3 : v3 < 0
      · refine ⟨-5, fun post hp => ?_, fun post hp => ?_⟩
        · unfold wpX_conflict
          dsimp only
          exact dt_xbs0 hs _ (br_t rfl (dt_xbd0 hd _ (br_t rfl (nm_r (dt_i4 s d) (xo _ (br_t h3 hp))))))
        · unfold wpY_conflict
          dsimp only
          refine dt_yref0 hs hd _ (br_t dt_l0 ⟨R + 1, dt_yconf19 hSh hHY hs hd ?_ ?_ post hp R 0 (R + 1) (by omega) (by omega) (fun c j hc => absurd hc (by omega))⟩)
          · intro c j _ _ _ e hj
            rw [e] at h3
            exact absurd h3 (nI_pos hj)
          · exact fun _ => rfl
      · obtain ⟨j, hj, rfl⟩ := nI_of h3
        by_cases hN : j + 1 < dt_open L (ll (s * 4 + d))
        · obtain ⟨l1, x, l2, e1, e2, e3⟩ := dt_open_at (j + 1) hsrt hN
          refine ⟨nI x, fun post hp => ?_, fun post hp => ?_⟩
          · unfold wpX_conflict
            dsimp only
            refine dt_xbs0 hs _ (br_t rfl (dt_xbd0 hd _ (br_t rfl (nm_r (dt_i4 s d) (xo _ (br_f h3 ?_))))))
            have em : nI (dt_open L (ll (s * 4 + d))) - 1 = nI (dt_open L (ll (s * 4 + d)) - 1) := by
              obtain ⟨M, hM⟩ : ∃ M, dt_open L (ll (s * 4 + d)) = M + 1 := ⟨dt_open L (ll (s * 4 + d)) - 1, by omega⟩
              rw [hM, nI_pred]
              rfl
            have ei : nI (s * 4 + d) * 40 + nI j + 1 = nI ((s * 4 + d) * 40 + (j + 1)) := by rw [dt_ix, nI_1]; rfl
            rw [em, ei, nI_clamp (by omega)]
            refine br_t (nI_lt (by omega) (by omega)) ⟨vp_in_nI (by omega) (by decide), ?_⟩
            have hAt := (hA (s * 4 + d) (by omega)).2
            rw [e1] at hAt
            have ev := dt_At_get l1 x l2 _ hAt
            rw [e2] at ev
            rw [ev]
            exact hp
          · unfold wpY_conflict
            dsimp only
            refine dt_yref0 hs hd _ (br_t dt_l0 ⟨R + 1, dt_yconf19 hSh hHY hs hd ?_ ?_ post hp R 0 (R + 1) (by omega) (by omega) (fun c j hc => absurd hc (by omega))⟩)
            · intro c j' hc hq hc0 ej hj' hcnt
              rw [nI_eq hj hj'] at ej
              obtain ⟨m1, m2, em⟩ := dt_split_mem ((dt_ql_mem hS hL hs hd c).mpr ⟨hc, hq⟩)
              rw [dt_ahead_cnt hSh hS hL hs hd em (Or.inr hc0)] at hcnt
              rw [em] at e1
              have hi := List.append_inj e1 (by omega)
              have := (List.cons.inj hi.2).1
              rw [this]
            · intro hno
              have hxm : x ∈ ll (s * 4 + d) := by rw [e1]; simp
              have hx := (dt_ql_mem hS hL hs hd x).mp hxm
              exact absurd ((dt_ahead_cnt hSh hS hL hs hd e1 (Or.inr e3)).trans e2) (hno x j hx.1 hx.2 e3 rfl hj)
        · refine ⟨-5, fun post hp => ?_, fun post hp => ?_⟩
          · unfold wpX_conflict
            dsimp only
            refine dt_xbs0 hs _ (br_t rfl (dt_xbd0 hd _ (br_t rfl (nm_r (dt_i4 s d) (xo _ (br_f h3 (br_f ?_ hp)))))))
            rw [Int32.lt_iff_toInt_lt, nI_toInt hj, Jvm.Kit.i32_sub, nI_toInt (by omega), show (1 : Int32).toInt = 1 from by decide]
            · omega
            · rw [nI_toInt (by omega), show (1 : Int32).toInt = 1 from by decide]
              omega
            · rw [nI_toInt (by omega), show (1 : Int32).toInt = 1 from by decide]
              omega
          · unfold wpY_conflict
            dsimp only
            refine dt_yref0 hs hd _ (br_t dt_l0 ⟨R + 1, dt_yconf19 hSh hHY hs hd ?_ ?_ post hp R 0 (R + 1) (by omega) (by omega) (fun c j hc => absurd hc (by omega))⟩)
            · intro c j' hc hq hc0 ej hj' hcnt
              rw [nI_eq hj hj'] at ej
              obtain ⟨m1, m2, em⟩ := dt_split_mem ((dt_ql_mem hS hL hs hd c).mpr ⟨hc, hq⟩)
              rw [dt_ahead_cnt hSh hS hL hs hd em (Or.inr hc0)] at hcnt
              rw [em] at hsrt hL01 hN
              have := dt_open_lt hsrt hL01 hc0
              omega
            · exact fun _ => rfl
    · refine ⟨-2, fun post hp => ?_, fun post hp => ?_⟩
      · unfold wpX_conflict
        dsimp only
        exact dt_xbs0 hs _ (br_t rfl (dt_xbd1 h2 _ (br_f dt_b_ne hp)))
      · unfold wpY_conflict
        dsimp only
        exact dt_yref2 hs h2 _ (br_f dt_l2 (dt_yref2 hs h2 _ hp))
  · refine ⟨-1, fun post hp => ?_, fun post hp => ?_⟩
    · unfold wpX_conflict
      dsimp only
      exact dt_xbs1 h1 _ (br_f dt_b_ne hp)
    · unfold wpY_conflict
      dsimp only
      exact dt_yref1 h1 _ (br_f dt_l1 (dt_yref1 h1 _ hp))
theorem dt_m_leaves (G : dt_G R D P T B L hX kX lc lf hY kY dd pp tt h k ll) (v1 v2 : Int32) : ∃ r : Int32, (∀ post : Int32 → Prop, post r → wpX_leaves post (nI R, D, P, T, B, L, hX, kX, cm, lc, lf) v1 v2) ∧ (∀ post : Int32 → Prop, post r → wpY_leaves post (nI R, D, P, T, B, L, hY, kY, cm) v1 v2) := by
  rcases dt_site v1 with ⟨s, hs, rfl⟩ | h1
  · rcases dt_doc v2 with ⟨d, hd, rfl⟩ | h2
    · obtain ⟨hSh, hHX, hKX, hHY, hKY, hS, hL, hA⟩ := G
      have hR40 := hSh.1
      refine ⟨nI (ll (s * 4 + d)).length, fun post hp => ?_, fun post hp => ?_⟩
      · unfold wpX_leaves
        dsimp only
        refine dt_xbs0 hs _ (br_t rfl (dt_xbd0 hd _ (br_t rfl ?_)))
        rw [dt_i4, nI_clamp (by omega), (hA (s * 4 + d) (by omega)).1]
        exact ⟨vp_in_nI (by omega) (by decide), hp⟩
      · unfold wpY_leaves
        dsimp only
        have e := dt_cnt_ql hS hL hs hd (fun _ => true)
        simp only [Bool.and_true, List.countP_true] at e
        rw [← e] at hp
        exact dt_yref0 hs hd _ (br_t dt_l0 ⟨R + 1, dt_yleaves21 hSh hHY hs hd post hp R 0 (R + 1) (by omega) (by omega)⟩)
    · refine ⟨-2, fun post hp => ?_, fun post hp => ?_⟩
      · unfold wpX_leaves
        dsimp only
        exact dt_xbs0 hs _ (br_t rfl (dt_xbd1 h2 _ (br_f dt_b_ne hp)))
      · unfold wpY_leaves
        dsimp only
        exact dt_yref2 hs h2 _ (br_f dt_l2 (dt_yref2 hs h2 _ hp))
  · refine ⟨-1, fun post hp => ?_, fun post hp => ?_⟩
    · unfold wpX_leaves
      dsimp only
      exact dt_xbs1 h1 _ (br_f dt_b_ne hp)
    · unfold wpY_leaves
      dsimp only
      exact dt_yref1 h1 _ (br_f dt_l1 (dt_yref1 h1 _ hp))
theorem dt_yreadable {s r : Nat} (hSh : dt_Sh R D P T L dd pp tt) (hHY : dt_HY hY h) (hKY : dt_HY kY k) (hS : dt_Si R pp h k) (hs : s < 2) (hr : r < R) (post : Int32 → Prop) (hp : post (dt_b (k s r))) : wpY_readable post (nI R, D, P, T, B, L, hY, kY, cm) (nI s) (nI r) := by
  have hR := hSh.1
  unfold wpY_readable
  dsimp only
  refine dt_ybs0 hs _ (br_t rfl (dt_yat hR hHY hs hr _ ?_))
  rw [dt_ix, nI_clamp (by omega), hKY s r hs (by omega)]
  refine dt_br (fun e => ?_) (fun e => ⟨vp_in_nI (by omega) (by decide), dt_br (fun e2 => ?_) (fun e2 => ?_)⟩)
  · have e2 : k s r = false := by
      cases e2 : k s r with
      | false => rfl
      | true =>
        have := hS.2.1 s r hs e2
        rw [e] at this
        exact this.symm
    rw [e2] at hp
    exact hp
  · rw [e2] at hp
    exact hp
  · rw [e2] at hp
    exact hp
theorem dt_yreadable0 {s : Nat} {x : Int32} (hs : s < 2) (hx : x < 0 ∨ nI R ≤ x) (post : Int32 → Prop) (hp : post 0) : wpY_readable post (nI R, D, P, T, B, L, hY, kY, cm) (nI s) x := by
  unfold wpY_readable
  dsimp only
  exact dt_ybs0 hs _ (br_t rfl (dt_yat0 hx _ (br_t rfl hp)))
theorem dt_yreadable1 {v x : Int32} (hv : v < 0 ∨ (¬ v < 0 ∧ ¬ v ≤ 1)) (post : Int32 → Prop) (hp : post 0) : wpY_readable post (nI R, D, P, T, B, L, hY, kY, cm) v x := by
  unfold wpY_readable
  dsimp only
  exact dt_ybs1 hv _ (br_f dt_b_ne hp)
theorem dt_m_readable (G : dt_G R D P T B L hX kX lc lf hY kY dd pp tt h k ll) (v1 v2 : Int32) : ∃ r : Int32, (∀ post : Int32 → Prop, post r → wpX_readable post (nI R, D, P, T, B, L, hX, kX, cm, lc, lf) v1 v2) ∧ (∀ post : Int32 → Prop, post r → wpY_readable post (nI R, D, P, T, B, L, hY, kY, cm) v1 v2) := by
  obtain ⟨hSh, hHX, hKX, hHY, hKY, hS, hL, hA⟩ := G
  have hR := hSh.1
  rcases dt_site v1 with ⟨s, hs, rfl⟩ | h1
  · have is : vp_in (nI s) 2 := vp_in_nI hs (by decide)
    rcases pk_ix v2 (n := R) (by omega) with h4 | h4 | ⟨r, hr, rfl⟩
    · refine ⟨0, fun post hp => ?_, fun post hp => dt_yreadable0 hs (Or.inl h4) post hp⟩
      unfold wpX_readable
      dsimp only
      exact dt_xbs0 hs _ (br_t rfl ⟨is, dt_xisin0 (Or.inl h4) _ ⟨rfl, hp⟩⟩)
    · refine ⟨0, fun post hp => ?_, fun post hp => dt_yreadable0 hs (Or.inr h4) post hp⟩
      unfold wpX_readable
      dsimp only
      exact dt_xbs0 hs _ (br_t rfl ⟨is, dt_xisin0 (Or.inr h4) _ ⟨rfl, hp⟩⟩)
    · refine ⟨dt_b (k s r), fun post hp => ?_, fun post hp => dt_yreadable hSh hHY hKY hS hs hr post hp⟩
      unfold wpX_readable
      dsimp only
      refine dt_xbs0 hs _ (br_t rfl ⟨is, dt_xisin hR hr _ ?_⟩)
      rw [nI_clamp (by omega), hKX s r hs (by omega)]
      exact ⟨dt_b_nar _, hp⟩
  · refine ⟨0, fun post hp => ?_, fun post hp => dt_yreadable1 h1 post hp⟩
    unfold wpX_readable
    dsimp only
    exact dt_xbs1 h1 _ (br_f dt_b_ne hp)
theorem dt_m_body (G : dt_G R D P T B L hX kX lc lf hY kY dd pp tt h k ll) (v1 v2 : Int32) : ∃ r : Int32, (∀ post : Int32 → Prop, post r → wpX_body post (nI R, D, P, T, B, L, hX, kX, cm, lc, lf) v1 v2) ∧ (∀ post : Int32 → Prop, post r → wpY_body post (nI R, D, P, T, B, L, hY, kY, cm) v1 v2) := by
  obtain ⟨hSh, hHX, hKX, hHY, hKY, hS, hL, hA⟩ := G
  have hR := hSh.1
  rcases dt_site v1 with ⟨s, hs, rfl⟩ | h1
  · have is : vp_in (nI s) 2 := vp_in_nI hs (by decide)
    rcases pk_ix v2 (n := R) (by omega) with h4 | h4 | ⟨r, hr, rfl⟩
    · refine ⟨0, fun post hp => ?_, fun post hp => ?_⟩
      · unfold wpX_body
        dsimp only
        exact dt_xbs0 hs _ (br_t rfl ⟨is, dt_xisin0 (Or.inl h4) _ (br_t rfl hp)⟩)
      · unfold wpY_body
        dsimp only
        exact dt_yreadable0 hs (Or.inl h4) _ (br_t rfl hp)
    · refine ⟨0, fun post hp => ?_, fun post hp => ?_⟩
      · unfold wpX_body
        dsimp only
        exact dt_xbs0 hs _ (br_t rfl ⟨is, dt_xisin0 (Or.inr h4) _ (br_t rfl hp)⟩)
      · unfold wpY_body
        dsimp only
        exact dt_yreadable0 hs (Or.inr h4) _ (br_t rfl hp)
    · have ir : vp_in (nI r) 40 := vp_in_nI (by omega) (by decide)
      have cr : (nI r).toNatClampNeg = r := nI_clamp (by omega)
      refine ⟨if k s r = true then B r else 0, fun post hp => ?_, fun post hp => ?_⟩
      · unfold wpX_body
        dsimp only
        refine dt_xbs0 hs _ (br_t rfl ⟨is, dt_xisin hR hr _ ?_⟩)
        rw [nI_clamp (show s < 2 ^ 31 by omega), hKX s r hs (by omega), cr]
        refine dt_br (fun e => ?_) (fun e => ⟨ir, ?_⟩)
        · rw [e, if_neg Bool.false_ne_true] at hp
          exact hp
        · rw [e, if_pos rfl] at hp
          exact hp
      · unfold wpY_body
        dsimp only
        refine dt_yreadable hSh hHY hKY hS hs hr _ ?_
        rw [cr]
        refine dt_br (fun e => ?_) (fun e => ⟨ir, ?_⟩)
        · rw [e, if_neg Bool.false_ne_true] at hp
          exact hp
        · rw [e, if_pos rfl] at hp
          exact hp
  · refine ⟨0, fun post hp => ?_, fun post hp => ?_⟩
    · unfold wpX_body
      dsimp only
      exact dt_xbs1 h1 _ (br_f dt_b_ne hp)
    · unfold wpY_body
      dsimp only
      exact dt_yreadable1 h1 _ (br_t rfl hp)
theorem dt_ynone0 {r : Nat} (hR : R ≤ 40) (hr : r < R) (post : Int32 → Prop) (hp : post 0) : wpY_none post (nI R, D, P, T, B, L, hY, kY, cm) (nI r) := by
  unfold wpY_none
  dsimp only
  exact br_f (nI_pos (by omega)) (br_t (nI_lt hr (by omega)) hp)
theorem dt_ynone1 {x : Int32} (hx : x < 0 ∨ nI R ≤ x) (post : Int32 → Prop) (hp : post 1) : wpY_none post (nI R, D, P, T, B, L, hY, kY, cm) x := by
  unfold wpY_none
  dsimp only
  by_cases h0 : x < 0
  · exact br_t h0 hp
  · rcases hx with hx | hx
    · exact absurd hx h0
    · exact br_f h0 (br_f (Int32.not_lt.mpr hx) hp)
theorem dt_m_depth (G : dt_G R D P T B L hX kX lc lf hY kY dd pp tt h k ll) (v1 : Int32) : ∃ r : Int32, (∀ post : Int32 → Prop, post r → wpX_depth post (nI R, D, P, T, B, L, hX, kX, cm, lc, lf) v1) ∧ (∀ post : Int32 → Prop, post r → wpY_depth post (nI R, D, P, T, B, L, hY, kY, cm) v1) := by
  have hR := G.1.1
  rcases pk_ix v1 (n := R) (by omega) with h4 | h4 | ⟨r, hr, rfl⟩
  · refine ⟨-5, fun post hp => ?_, fun post hp => ?_⟩
    · unfold wpX_depth
      dsimp only
      exact br_t h4 hp
    · unfold wpY_depth
      dsimp only
      exact dt_ynone1 (Or.inl h4) _ (br_f dt_b_ne hp)
  · refine ⟨-5, fun post hp => ?_, fun post hp => ?_⟩
    · unfold wpX_depth
      dsimp only
      exact br_f (dt_ge_pos hR h4) (br_f (Int32.not_lt.mpr h4) hp)
    · unfold wpY_depth
      dsimp only
      exact dt_ynone1 (Or.inr h4) _ (br_f dt_b_ne hp)
  · have ir : vp_in (nI r) 40 := vp_in_nI (by omega) (by decide)
    refine ⟨T (nI r).toNatClampNeg, fun post hp => ?_, fun post hp => ?_⟩
    · unfold wpX_depth
      dsimp only
      exact br_f (nI_pos (by omega)) (br_t (nI_lt hr (by omega)) ⟨ir, hp⟩)
    · unfold wpY_depth
      dsimp only
      exact dt_ynone0 hR hr _ (br_t rfl ⟨ir, hp⟩)
theorem dt_m_changes (G : dt_G R D P T B L hX kX lc lf hY kY dd pp tt h k ll) (v1 : Int32) : ∃ r : Int32, (∀ post : Int32 → Prop, post r → wpX_changes post (nI R, D, P, T, B, L, hX, kX, cm, lc, lf) v1) ∧ (∀ post : Int32 → Prop, post r → wpY_changes post (nI R, D, P, T, B, L, hY, kY, cm) v1) := by
  rcases dt_site v1 with ⟨s, hs, rfl⟩ | h1
  · refine ⟨cm (nI s).toNatClampNeg, fun post hp => ?_, fun post hp => ?_⟩
    · unfold wpX_changes
      dsimp only
      exact dt_xbs0 hs _ (br_t rfl ⟨vp_in_nI hs (by decide), hp⟩)
    · unfold wpY_changes
      dsimp only
      exact dt_ybs0 hs _ (br_t rfl ⟨vp_in_nI hs (by decide), hp⟩)
  · refine ⟨-1, fun post hp => ?_, fun post hp => ?_⟩
    · unfold wpX_changes
      dsimp only
      exact dt_xbs1 h1 _ (br_f dt_b_ne hp)
    · unfold wpY_changes
      dsimp only
      exact dt_ybs1 h1 _ (br_f dt_b_ne hp)
theorem dt_m_common (G : dt_G R D P T B L hX kX lc lf hY kY dd pp tt h k ll) (v1 v2 : Int32) : ∃ r : Int32, (∀ post : Int32 → Prop, post r → wpX_common post (nI R, D, P, T, B, L, hX, kX, cm, lc, lf) v1 v2) ∧ (∀ post : Int32 → Prop, post r → wpY_common post (nI R, D, P, T, B, L, hY, kY, cm) v1 v2) := by
  have hSh := G.1
  have hR := hSh.1
  rcases pk_ix v1 (n := R) (by omega) with h4 | h4 | ⟨a, ha, rfl⟩
  · refine ⟨-5, fun post hp => ?_, fun post hp => ?_⟩
    · unfold wpX_common
      dsimp only
      exact br_t h4 hp
    · unfold wpY_common
      dsimp only
      exact dt_ynone1 (Or.inl h4) _ (br_f dt_b_ne hp)
  · refine ⟨-5, fun post hp => ?_, fun post hp => ?_⟩
    · unfold wpX_common
      dsimp only
      exact br_f (dt_ge_pos hR h4) (br_t h4 hp)
    · unfold wpY_common
      dsimp only
      exact dt_ynone1 (Or.inr h4) _ (br_f dt_b_ne hp)
  · have n1 : ¬ nI a < 0 := nI_pos (by omega)
    have n2 : ¬ nI R ≤ nI a := nI_ge ha (by omega)
    rcases pk_ix v2 (n := R) (by omega) with h5 | h5 | ⟨b, hb, rfl⟩
    · refine ⟨-5, fun post hp => ?_, fun post hp => ?_⟩
      · unfold wpX_common
        dsimp only
        exact br_f n1 (br_f n2 (br_t h5 hp))
      · unfold wpY_common
        dsimp only
        exact dt_ynone0 hR ha _ (br_t rfl (dt_ynone1 (Or.inl h5) _ (br_f dt_b_ne hp)))
    · refine ⟨-5, fun post hp => ?_, fun post hp => ?_⟩
      · unfold wpX_common
        dsimp only
        exact br_f n1 (br_f n2 (br_f (dt_ge_pos hR h5) (br_f (Int32.not_lt.mpr h5) hp)))
      · unfold wpY_common
        dsimp only
        exact dt_ynone0 hR ha _ (br_t rfl (dt_ynone1 (Or.inr h5) _ (br_f dt_b_ne hp)))
    · refine ⟨dt_cb (fun c => dt_anc pp c 40 (some a) && dt_anc pp c 40 (some b)) R, fun post hp => ?_, fun post hp => ?_⟩
      · unfold wpX_common
        dsimp only
        refine br_f n1 (br_f n2 (br_f (nI_pos (by omega)) (br_t (nI_lt hb (by omega)) ⟨81, ?_⟩)))
        have ef : ∀ c, (dt_anc pp c 40 (some a) && dt_anc pp c 40 (some b)) = true ↔ (dt_on pp c (some a) ∧ dt_on pp c (some b)) := by
          intro c
          rw [Bool.and_eq_true, dt_on_anc hSh ha, dt_on_anc hSh hb]
        have ea : dt_sz (some a) = a + 1 := rfl
        have eb : dt_sz (some b) = b + 1 := rfl
        refine dt_xcommon35 hSh post hp 80 0 81 (some a) (some b) (by omega) (by omega) (by omega) (fun r z => by rw [← Option.some.inj z]; exact ha) (fun r z => by rw [← Option.some.inj z]; exact hb) ?_ ?_
        · intro z hz hle h1 h2
          exact dt_cb_some (z := z) ((ef z).mpr ⟨h1, h2⟩) R hz (fun c _ hc => hle c ((ef c).mp hc))
        · intro hno
          refine dt_cb_none R (fun c _ => ?_)
          cases e : (dt_anc pp c 40 (some a) && dt_anc pp c 40 (some b)) with
          | false => rfl
          | true => exact absurd ((ef c).mp e) (hno c)
      · unfold wpY_common
        dsimp only
        exact dt_ynone0 hR ha _ (br_t rfl (dt_ynone0 hR hb _ (br_t rfl ⟨R + 1, dt_ycommon25 hSh ha hb post hp R 0 (R + 1) (by omega) (by omega)⟩)))
end
end
section
/-! 17: what is owed; the statements are those of defs.txt -/
def i_Rel (_ : Nat) (u : SX) (v : SY) : Prop := dt_Rel u v
theorem i_up {k : Nat} {u : SX} {v : SY} (h : i_Rel k u v) : i_Rel (k + 5) u v := h
theorem dt_G0 : dt_G 0 (fun _ => 0) (fun _ => 0) (fun _ => 0) (fun _ => 0) (fun _ => 0) (fun _ => 0) (fun _ => 0) (fun _ => 0) (fun _ => 0) (fun _ => 0) (fun _ => 0) (fun _ => 0) (fun _ => none) (fun _ => 0) (fun _ _ => false) (fun _ _ => false) (fun _ => []) := by
  refine ⟨⟨by omega, ?_, ?_, ?_, ?_, ?_⟩, fun _ r _ _ => dt_bit_0 r, fun _ r _ _ => dt_bit_0 r, fun _ _ _ _ => rfl, fun _ _ _ _ => rfl, ⟨?_, ?_, ?_⟩, fun s d _ _ => ⟨fun r => ⟨fun z => absurd z List.not_mem_nil, fun z => ?_⟩, List.Pairwise.nil⟩, fun q _ => ⟨rfl, trivial⟩⟩
  · exact fun r hr => absurd hr (Nat.not_lt_zero r)
  · exact fun r hr => absurd hr (Nat.not_lt_zero r)
  · exact fun r p hr => absurd hr (Nat.not_lt_zero r)
  · exact fun r hr => absurd hr (Nat.not_lt_zero r)
  · exact fun r hr => absurd hr (Nat.not_lt_zero r)
  · exact fun s r _ z => absurd z Bool.false_ne_true
  · exact fun s r _ z => z
  · exact fun s r p _ z => absurd z Bool.false_ne_true
  · exact absurd (dt_leaf_iff.mp z.2).1 Bool.false_ne_true
theorem dt_vc0 : wpX_init (fun u => wpY_init (fun v => i_Rel 0 u v)) := dt_Rel_i (cm := fun _ => 0) dt_G0
theorem i_vc0 : wpX_init (fun u => wpY_init (fun v => i_Rel 0 u v)) := dt_vc0
theorem i_vc_put {k : Nat} {u : SX} {v : SY} (I : i_Rel k u v) (hk : k + 5 ≤ 2560) (v1 : Int32) (v2 : Int32) (v3 : Int32) (v4 : Int32) : wpX_put (fun r u' => wpY_put (fun r' v' => r' = r ∧ i_Rel (k + 5) u' v') v v1 v2 v3 v4) u v1 v2 v3 v4 := by
  refine dt_Rel_e (Q := fun u v => wpX_put (fun r u' => wpY_put (fun r' v' => r' = r ∧ i_Rel (k + 5) u' v') v v1 v2 v3 v4) u v1 v2 v3 v4) ?_ I
  intro R D P T B L hX kX cm lc lf hY kY dd pp tt h0 k0 ll G
  obtain ⟨r, u', v', hR, hx, hy⟩ := dt_m_put (cm := cm) G v1 v2 v3 v4
  exact hx _ (hy _ ⟨rfl, hR⟩)
theorem i_vc_delete {k : Nat} {u : SX} {v : SY} (I : i_Rel k u v) (hk : k + 5 ≤ 2560) (v1 : Int32) (v2 : Int32) (v3 : Int32) : wpX_delete (fun r u' => wpY_delete (fun r' v' => r' = r ∧ i_Rel (k + 5) u' v') v v1 v2 v3) u v1 v2 v3 := by
  refine dt_Rel_e (Q := fun u v => wpX_delete (fun r u' => wpY_delete (fun r' v' => r' = r ∧ i_Rel (k + 5) u' v') v v1 v2 v3) u v1 v2 v3) ?_ I
  intro R D P T B L hX kX cm lc lf hY kY dd pp tt h0 k0 ll G
  obtain ⟨r, u', v', hR, hx, hy⟩ := dt_m_delete (cm := cm) G v1 v2 v3
  exact hx _ (hy _ ⟨rfl, hR⟩)
theorem i_vc_branch {k : Nat} {u : SX} {v : SY} (I : i_Rel k u v) (hk : k + 5 ≤ 2560) (v1 : Int32) (v2 : Int32) (v3 : Int32) (v4 : Int32) : wpX_branch (fun r u' => wpY_branch (fun r' v' => r' = r ∧ i_Rel (k + 5) u' v') v v1 v2 v3 v4) u v1 v2 v3 v4 := by
  refine dt_Rel_e (Q := fun u v => wpX_branch (fun r u' => wpY_branch (fun r' v' => r' = r ∧ i_Rel (k + 5) u' v') v v1 v2 v3 v4) u v1 v2 v3 v4) ?_ I
  intro R D P T B L hX kX cm lc lf hY kY dd pp tt h0 k0 ll G
  obtain ⟨r, u', v', hR, hx, hy⟩ := dt_m_branch (cm := cm) G v1 v2 v3 v4
  exact hx _ (hy _ ⟨rfl, hR⟩)
theorem i_vc_pull {k : Nat} {u : SX} {v : SY} (I : i_Rel k u v) (hk : k + 5 ≤ 2560) (v1 : Int32) (v2 : Int32) : wpX_pull (fun r u' => wpY_pull (fun r' v' => r' = r ∧ i_Rel (k + 5) u' v') v v1 v2) u v1 v2 := by
  refine dt_Rel_e (Q := fun u v => wpX_pull (fun r u' => wpY_pull (fun r' v' => r' = r ∧ i_Rel (k + 5) u' v') v v1 v2) u v1 v2) ?_ I
  intro R D P T B L hX kX cm lc lf hY kY dd pp tt h0 k0 ll G
  obtain ⟨r, u', v', hR, hx, hy⟩ := dt_m_pull (cm := cm) G v1 v2
  exact hx _ (hy _ ⟨rfl, hR⟩)
theorem i_vc_compact {k : Nat} {u : SX} {v : SY} (I : i_Rel k u v) (hk : k + 5 ≤ 2560) (v1 : Int32) : wpX_compact (fun r u' => wpY_compact (fun r' v' => r' = r ∧ i_Rel (k + 5) u' v') v v1) u v1 := by
  refine dt_Rel_e (Q := fun u v => wpX_compact (fun r u' => wpY_compact (fun r' v' => r' = r ∧ i_Rel (k + 5) u' v') v v1) u v1) ?_ I
  intro R D P T B L hX kX cm lc lf hY kY dd pp tt h0 k0 ll G
  obtain ⟨r, u', v', hR, hx, hy⟩ := dt_m_compact (cm := cm) G v1
  exact hx _ (hy _ ⟨rfl, hR⟩)
theorem i_vc_winner {k : Nat} {u : SX} {v : SY} (I : i_Rel k u v) (hk : k + 5 ≤ 2560) (v1 : Int32) (v2 : Int32) : wpX_winner (fun r => wpY_winner (fun r' => r' = r ∧ i_Rel (k + 5) u v) v v1 v2) u v1 v2 := by
  refine dt_Rel_e (Q := fun u v => wpX_winner (fun r => wpY_winner (fun r' => r' = r ∧ i_Rel (k + 5) u v) v v1 v2) u v1 v2) ?_ I
  intro R D P T B L hX kX cm lc lf hY kY dd pp tt h0 k0 ll G
  obtain ⟨r, hx, hy⟩ := dt_m_winner (cm := cm) G v1 v2
  exact hx _ (hy _ ⟨rfl, dt_Rel_i G⟩)
theorem i_vc_conflicts {k : Nat} {u : SX} {v : SY} (I : i_Rel k u v) (hk : k + 5 ≤ 2560) (v1 : Int32) (v2 : Int32) : wpX_conflicts (fun r => wpY_conflicts (fun r' => r' = r ∧ i_Rel (k + 5) u v) v v1 v2) u v1 v2 := by
  refine dt_Rel_e (Q := fun u v => wpX_conflicts (fun r => wpY_conflicts (fun r' => r' = r ∧ i_Rel (k + 5) u v) v v1 v2) u v1 v2) ?_ I
  intro R D P T B L hX kX cm lc lf hY kY dd pp tt h0 k0 ll G
  obtain ⟨r, hx, hy⟩ := dt_m_conflicts (cm := cm) G v1 v2
  exact hx _ (hy _ ⟨rfl, dt_Rel_i G⟩)
theorem i_vc_conflict {k : Nat} {u : SX} {v : SY} (I : i_Rel k u v) (hk : k + 5 ≤ 2560) (v1 : Int32) (v2 : Int32) (v3 : Int32) : wpX_conflict (fun r => wpY_conflict (fun r' => r' = r ∧ i_Rel (k + 5) u v) v v1 v2 v3) u v1 v2 v3 := by
  refine dt_Rel_e (Q := fun u v => wpX_conflict (fun r => wpY_conflict (fun r' => r' = r ∧ i_Rel (k + 5) u v) v v1 v2 v3) u v1 v2 v3) ?_ I
  intro R D P T B L hX kX cm lc lf hY kY dd pp tt h0 k0 ll G
  obtain ⟨r, hx, hy⟩ := dt_m_conflict (cm := cm) G v1 v2 v3
  exact hx _ (hy _ ⟨rfl, dt_Rel_i G⟩)
theorem i_vc_leaves {k : Nat} {u : SX} {v : SY} (I : i_Rel k u v) (hk : k + 5 ≤ 2560) (v1 : Int32) (v2 : Int32) : wpX_leaves (fun r => wpY_leaves (fun r' => r' = r ∧ i_Rel (k + 5) u v) v v1 v2) u v1 v2 := by
  refine dt_Rel_e (Q := fun u v => wpX_leaves (fun r => wpY_leaves (fun r' => r' = r ∧ i_Rel (k + 5) u v) v v1 v2) u v1 v2) ?_ I
  intro R D P T B L hX kX cm lc lf hY kY dd pp tt h0 k0 ll G
  obtain ⟨r, hx, hy⟩ := dt_m_leaves (cm := cm) G v1 v2
  exact hx _ (hy _ ⟨rfl, dt_Rel_i G⟩)
theorem i_vc_readable {k : Nat} {u : SX} {v : SY} (I : i_Rel k u v) (hk : k + 5 ≤ 2560) (v1 : Int32) (v2 : Int32) : wpX_readable (fun r => wpY_readable (fun r' => r' = r ∧ i_Rel (k + 5) u v) v v1 v2) u v1 v2 := by
  refine dt_Rel_e (Q := fun u v => wpX_readable (fun r => wpY_readable (fun r' => r' = r ∧ i_Rel (k + 5) u v) v v1 v2) u v1 v2) ?_ I
  intro R D P T B L hX kX cm lc lf hY kY dd pp tt h0 k0 ll G
  obtain ⟨r, hx, hy⟩ := dt_m_readable (cm := cm) G v1 v2
  exact hx _ (hy _ ⟨rfl, dt_Rel_i G⟩)
theorem i_vc_body {k : Nat} {u : SX} {v : SY} (I : i_Rel k u v) (hk : k + 5 ≤ 2560) (v1 : Int32) (v2 : Int32) : wpX_body (fun r => wpY_body (fun r' => r' = r ∧ i_Rel (k + 5) u v) v v1 v2) u v1 v2 := by
  refine dt_Rel_e (Q := fun u v => wpX_body (fun r => wpY_body (fun r' => r' = r ∧ i_Rel (k + 5) u v) v v1 v2) u v1 v2) ?_ I
  intro R D P T B L hX kX cm lc lf hY kY dd pp tt h0 k0 ll G
  obtain ⟨r, hx, hy⟩ := dt_m_body (cm := cm) G v1 v2
  exact hx _ (hy _ ⟨rfl, dt_Rel_i G⟩)
theorem i_vc_depth {k : Nat} {u : SX} {v : SY} (I : i_Rel k u v) (hk : k + 5 ≤ 2560) (v1 : Int32) : wpX_depth (fun r => wpY_depth (fun r' => r' = r ∧ i_Rel (k + 5) u v) v v1) u v1 := by
  refine dt_Rel_e (Q := fun u v => wpX_depth (fun r => wpY_depth (fun r' => r' = r ∧ i_Rel (k + 5) u v) v v1) u v1) ?_ I
  intro R D P T B L hX kX cm lc lf hY kY dd pp tt h0 k0 ll G
  obtain ⟨r, hx, hy⟩ := dt_m_depth (cm := cm) G v1
  exact hx _ (hy _ ⟨rfl, dt_Rel_i G⟩)
theorem i_vc_common {k : Nat} {u : SX} {v : SY} (I : i_Rel k u v) (hk : k + 5 ≤ 2560) (v1 : Int32) (v2 : Int32) : wpX_common (fun r => wpY_common (fun r' => r' = r ∧ i_Rel (k + 5) u v) v v1 v2) u v1 v2 := by
  refine dt_Rel_e (Q := fun u v => wpX_common (fun r => wpY_common (fun r' => r' = r ∧ i_Rel (k + 5) u v) v v1 v2) u v1 v2) ?_ I
  intro R D P T B L hX kX cm lc lf hY kY dd pp tt h0 k0 ll G
  obtain ⟨r, hx, hy⟩ := dt_m_common (cm := cm) G v1 v2
  exact hx _ (hy _ ⟨rfl, dt_Rel_i G⟩)
theorem i_vc_changes {k : Nat} {u : SX} {v : SY} (I : i_Rel k u v) (hk : k + 5 ≤ 2560) (v1 : Int32) : wpX_changes (fun r => wpY_changes (fun r' => r' = r ∧ i_Rel (k + 5) u v) v v1) u v1 := by
  refine dt_Rel_e (Q := fun u v => wpX_changes (fun r => wpY_changes (fun r' => r' = r ∧ i_Rel (k + 5) u v) v v1) u v1) ?_ I
  intro R D P T B L hX kX cm lc lf hY kY dd pp tt h0 k0 ll G
  obtain ⟨r, hx, hy⟩ := dt_m_changes (cm := cm) G v1
  exact hx _ (hy _ ⟨rfl, dt_Rel_i G⟩)
end
