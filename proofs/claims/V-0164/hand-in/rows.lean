section
/-! rows of the kit to paste: pk_ (stores, nI, branches) and bt (bits of an Int32) -/
theorem pk_us {f : Nat → Int32} {k : Nat} {x : Int32} : upd f k x k = x := if_pos rfl
theorem pk_un {f : Nat → Int32} {k j : Nat} {x : Int32} (h : j ≠ k) : upd f k x j = f j := if_neg h
theorem pk_sub {a b : Nat} (h : b ≤ a) : nI a - nI b = nI (a - b) := by
  obtain ⟨c, rfl⟩ : ∃ c, a = c + b := ⟨a - b, by omega⟩
  rw [← nI_add, Int32.add_sub_cancel, Nat.add_sub_cancel]
theorem pk_m1 (n : Nat) : nI (n + 1) + (-1) = nI n := by
  rw [← nI_1, Int32.add_assoc, show (1 : Int32) + (-1) = 0 from rfl, Int32.add_zero]
theorem pk_mul (a b : Nat) : nI a * nI b = nI (a * b) := (Int32.ofNat_mul a b).symm
theorem pk_sub_toInt {a b : Nat} (ha : a < 2 ^ 30) (hb : b < 2 ^ 30) : (nI a - nI b).toInt = (a : Int) - b := by
  rw [Int32.toInt_sub, nI_toInt (by omega), nI_toInt (by omega)]
  exact Int.bmod_eq_of_le (by omega) (by omega)
theorem pk_sneg {a b : Nat} (hb : b < 2 ^ 30) (h : a < b) : nI a - nI b < 0 := by
  rw [Int32.lt_iff_toInt_lt, pk_sub_toInt (by omega) hb, show (0 : Int32).toInt = 0 from by decide]
  omega
theorem pk_ix (x : Int32) {n : Nat} (hn : n < 2 ^ 31) : x < 0 ∨ nI n ≤ x ∨ ∃ j : Nat, j < n ∧ x = nI j := by
  by_cases h : x < 0
  · exact Or.inl h
  · obtain ⟨j, hj, rfl⟩ := nI_of h
    by_cases h2 : j < n
    · exact Or.inr (Or.inr ⟨j, h2, rfl⟩)
    · exact Or.inr (Or.inl (nI_le (by omega) hj))
theorem pk_le {x y : Int32} {A B : Prop} (a b : Nat) (f : a ≤ b → A) (g : b < a → B) (hx : x = nI a := by rfl) (hy : y = nI b := by rfl) (ha : a < 2 ^ 31 := by omega) (hb : b < 2 ^ 31 := by omega) : (x ≤ y → A) ∧ (¬ x ≤ y → B) := by
  subst hx hy
  rw [nI_leI ha hb]
  exact ⟨f, fun z => g (by omega)⟩
theorem pk_lt {x y : Int32} {A B : Prop} (a b : Nat) (f : a < b → A) (g : b ≤ a → B) (hx : x = nI a := by rfl) (hy : y = nI b := by rfl) (ha : a < 2 ^ 31 := by omega) (hb : b < 2 ^ 31 := by omega) : (x < y → A) ∧ (¬ x < y → B) := by
  subst hx hy
  rw [nI_ltI ha hb]
  exact ⟨f, fun z => g (by omega)⟩
theorem pk_eq {x y : Int32} {A B : Prop} (a b : Nat) (f : a = b → A) (g : a ≠ b → B) (hx : x = nI a := by rfl) (hy : y = nI b := by rfl) (ha : a < 2 ^ 31 := by omega) (hb : b < 2 ^ 31 := by omega) : (x = y → A) ∧ (¬ x = y → B) := by
  subst hx hy
  rw [nI_eq ha hb]
  exact ⟨f, g⟩
theorem pk_in {x : Int32} (n N : Nat) (h : n < N) (hx : x = nI n := by rfl) (hN : N < 2 ^ 31 := by omega) : vp_in x N := by
  subst hx
  exact vp_in_nI h hN
theorem pk_cl {x : Int32} (n : Nat) (hx : x = nI n := by rfl) (h : n < 2 ^ 31 := by omega) : x.toNatClampNeg = n := by
  subst hx
  exact nI_clamp h
def bt (x : Int32) (i : Nat) : Bool := x.toBitVec.getLsbD i
theorem b_ext {x y : Int32} (h : ∀ i, i < 32 → bt x i = bt y i) : x = y := Int32.toBitVec_inj.mp (BitVec.eq_of_getLsbD_eq (fun i hi => h i hi))
theorem b_or (x y : Int32) (i : Nat) : bt (x ||| y) i = (bt x i || bt y i) := by unfold bt; rw [Int32.toBitVec_or, BitVec.getLsbD_or]
theorem b_and (x y : Int32) (i : Nat) : bt (x &&& y) i = (bt x i && bt y i) := by unfold bt; rw [Int32.toBitVec_and, BitVec.getLsbD_and]
theorem b_xor (x y : Int32) (i : Nat) : bt (x ^^^ y) i = (bt x i ^^ bt y i) := by unfold bt; rw [Int32.toBitVec_xor, BitVec.getLsbD_xor]
theorem b_big {x : Int32} {i : Nat} (h : 32 ≤ i) : bt x i = false := BitVec.getLsbD_of_ge _ _ h
theorem b_m1 : ∀ i, i < 32 → bt (-1) i = true := by decide +kernel
theorem b_0 (i : Nat) : bt 0 i = false := BitVec.getLsbD_zero
theorem s_l : ∀ n, n < 32 → ((nI n &&& 31).toBitVec.smod 32).toNat = n := by decide +kernel
theorem b_shl (n : Nat) (hn : n < 32) (x : Int32) {i : Nat} (hi : i < 32) : bt (x <<< (nI n &&& 31)) i = (decide (n ≤ i) && bt x (i - n)) := by
  unfold bt
  rw [Int32.toBitVec_shiftLeft]
  show (x.toBitVec <<< ((nI n &&& 31).toBitVec.smod 32).toNat).getLsbD i = _
  rw [s_l n hn, BitVec.getLsbD_shiftLeft]
  rcases Nat.lt_or_ge i n with h | h
  · simp [h, Nat.not_le.mpr h]
  · simp [hi, h, Nat.not_lt.mpr h]
theorem b_sshr (n : Nat) (hn : n < 32) (x : Int32) {i : Nat} (hi : i < 32) : bt (x >>> (nI n &&& 31)) i = if n + i < 32 then bt x (n + i) else bt x 31 := by
  unfold bt
  rw [Int32.toBitVec_shiftRight]
  show (x.toBitVec.sshiftRight ((nI n &&& 31).toBitVec.smod 32).toNat).getLsbD i = _
  rw [s_l n hn, BitVec.getLsbD_sshiftRight, BitVec.msb_eq_getLsbD_last]
  simp [hi]
end
section
/-! own base rows: one bit, segments of arrays, copies, masks, loop laws -/
def zb_1 (b : Bool) : Int32 := if b = true then 1 else 0
theorem zb_1t : zb_1 true = 1 := rfl
theorem zb_1f : zb_1 false = 0 := rfl
theorem zb_br {b : Bool} {A B : Prop} (f : b = false → A) (t : b = true → B) : (zb_1 b = 0 → A) ∧ (¬ zb_1 b = 0 → B) := by
  cases b
  · exact ⟨fun _ => f rfl, fun h => absurd rfl h⟩
  · exact ⟨fun h => absurd h (by decide), fun _ => t rfl⟩
theorem zb_1n (b : Bool) : narrow .boolean (.int (zb_1 b)) = .int (zb_1 b) := by
  cases b <;> rfl
theorem zb_ix (a b c : Nat) : nI a * nI b + nI c = nI (a * b + c) := by rw [pk_mul, nI_add]
theorem zb_x8 (a b : Nat) : nI a * 8 + nI b = nI (a * 8 + b) := zb_ix a 8 b
theorem zb_y8 (a : Nat) : nI a * 8 = nI (a * 8) := pk_mul a 8
theorem zb_z8 (a : Nat) : nI a * 8 + 1 = nI (a * 8 + 1) := zb_ix a 8 1
theorem zb_c8 (a b : Nat) (h : a * 8 + b < 2 ^ 31) : (nI a * 8 + nI b).toNatClampNeg = a * 8 + b := by rw [zb_x8, nI_clamp h]
theorem zb_d8 (a : Nat) (h : a * 8 + 1 < 2 ^ 31) : (nI a * 8 + 1).toNatClampNeg = a * 8 + 1 := by rw [zb_z8, nI_clamp h]
theorem zb_e8 (a : Nat) (h : a * 8 < 2 ^ 31) : (nI a * 8).toNatClampNeg = a * 8 := by rw [zb_y8, nI_clamp h]
theorem zb_x10 (a b : Nat) : nI a * 10 + nI b = nI (a * 10 + b) := zb_ix a 10 b
theorem zb_y10 (a : Nat) : nI a * 10 = nI (a * 10) := pk_mul a 10
theorem zb_z10 (a : Nat) : nI a * 10 + 1 = nI (a * 10 + 1) := zb_ix a 10 1
theorem zb_c10 (a b : Nat) (h : a * 10 + b < 2 ^ 31) : (nI a * 10 + nI b).toNatClampNeg = a * 10 + b := by rw [zb_x10, nI_clamp h]
theorem zb_d10 (a : Nat) (h : a * 10 + 1 < 2 ^ 31) : (nI a * 10 + 1).toNatClampNeg = a * 10 + 1 := by rw [zb_z10, nI_clamp h]
theorem zb_e10 (a : Nat) (h : a * 10 < 2 ^ 31) : (nI a * 10).toNatClampNeg = a * 10 := by rw [zb_y10, nI_clamp h]
theorem zb_x16 (a b : Nat) : nI a * 16 + nI b = nI (a * 16 + b) := zb_ix a 16 b
theorem zb_y16 (a : Nat) : nI a * 16 = nI (a * 16) := pk_mul a 16
theorem zb_z16 (a : Nat) : nI a * 16 + 1 = nI (a * 16 + 1) := zb_ix a 16 1
theorem zb_c16 (a b : Nat) (h : a * 16 + b < 2 ^ 31) : (nI a * 16 + nI b).toNatClampNeg = a * 16 + b := by rw [zb_x16, nI_clamp h]
theorem zb_d16 (a : Nat) (h : a * 16 + 1 < 2 ^ 31) : (nI a * 16 + 1).toNatClampNeg = a * 16 + 1 := by rw [zb_z16, nI_clamp h]
theorem zb_e16 (a : Nat) (h : a * 16 < 2 ^ 31) : (nI a * 16).toNatClampNeg = a * 16 := by rw [zb_y16, nI_clamp h]
theorem zb_x24 (a b : Nat) : nI a * 24 + nI b = nI (a * 24 + b) := zb_ix a 24 b
theorem zb_y24 (a : Nat) : nI a * 24 = nI (a * 24) := pk_mul a 24
theorem zb_z24 (a : Nat) : nI a * 24 + 1 = nI (a * 24 + 1) := zb_ix a 24 1
theorem zb_c24 (a b : Nat) (h : a * 24 + b < 2 ^ 31) : (nI a * 24 + nI b).toNatClampNeg = a * 24 + b := by rw [zb_x24, nI_clamp h]
theorem zb_d24 (a : Nat) (h : a * 24 + 1 < 2 ^ 31) : (nI a * 24 + 1).toNatClampNeg = a * 24 + 1 := by rw [zb_z24, nI_clamp h]
theorem zb_e24 (a : Nat) (h : a * 24 < 2 ^ 31) : (nI a * 24).toNatClampNeg = a * 24 := by rw [zb_y24, nI_clamp h]
theorem zb_x96 (a b : Nat) : nI a * 96 + nI b = nI (a * 96 + b) := zb_ix a 96 b
theorem zb_y96 (a : Nat) : nI a * 96 = nI (a * 96) := pk_mul a 96
theorem zb_z96 (a : Nat) : nI a * 96 + 1 = nI (a * 96 + 1) := zb_ix a 96 1
theorem zb_c96 (a b : Nat) (h : a * 96 + b < 2 ^ 31) : (nI a * 96 + nI b).toNatClampNeg = a * 96 + b := by rw [zb_x96, nI_clamp h]
theorem zb_d96 (a : Nat) (h : a * 96 + 1 < 2 ^ 31) : (nI a * 96 + 1).toNatClampNeg = a * 96 + 1 := by rw [zb_z96, nI_clamp h]
theorem zb_e96 (a : Nat) (h : a * 96 < 2 ^ 31) : (nI a * 96).toNatClampNeg = a * 96 := by rw [zb_y96, nI_clamp h]
theorem zb_x64 (a b : Nat) : nI a * 64 + nI b = nI (a * 64 + b) := zb_ix a 64 b
theorem zb_y64 (a : Nat) : nI a * 64 = nI (a * 64) := pk_mul a 64
theorem zb_z64 (a : Nat) : nI a * 64 + 1 = nI (a * 64 + 1) := zb_ix a 64 1
theorem zb_c64 (a b : Nat) (h : a * 64 + b < 2 ^ 31) : (nI a * 64 + nI b).toNatClampNeg = a * 64 + b := by rw [zb_x64, nI_clamp h]
theorem zb_d64 (a : Nat) (h : a * 64 + 1 < 2 ^ 31) : (nI a * 64 + 1).toNatClampNeg = a * 64 + 1 := by rw [zb_z64, nI_clamp h]
theorem zb_e64 (a : Nat) (h : a * 64 < 2 ^ 31) : (nI a * 64).toNatClampNeg = a * 64 := by rw [zb_y64, nI_clamp h]
theorem zb_x256 (a b d : Nat) : nI a * 256 + nI b * 16 + nI d = nI (a * 256 + b * 16 + d) := by
  show nI a * nI 256 + nI b * nI 16 + nI d = _
  rw [pk_mul, pk_mul, nI_add, nI_add]
theorem zb_c256 (a b d : Nat) (h : a * 256 + b * 16 + d < 2 ^ 31) : (nI a * 256 + nI b * 16 + nI d).toNatClampNeg = a * 256 + b * 16 + d := by rw [zb_x256, nI_clamp h]
theorem zb_rd {a : Nat → Int32} {x : Int32} (k : Nat) (h : x = nI k) (hk : k < 2 ^ 31 := by omega) : a x.toNatClampNeg = a k := by rw [h, nI_clamp hk]
theorem zb_up {a : Nat → Int32} {x v w : Int32} (k : Nat) (h : x = nI k) (hv : v = w) (hk : k < 2 ^ 31 := by omega) : upd a x.toNatClampNeg v = upd a k w := by rw [h, nI_clamp hk, hv]
/-- the array a holds the list l from place o on -/
def zb_Sg (a : Nat → Int32) (o : Nat) (l : List Nat) : Prop := ∀ i, i < l.length → a (o + i) = nI (l.getD i 0)
theorem zb_nil (a : Nat → Int32) (o : Nat) : zb_Sg a o [] := fun i h => absurd h (Nat.not_lt_zero i)
theorem zb_gal {l m : List Nat} {i : Nat} (h : i < l.length) : (l ++ m).getD i 0 = l.getD i 0 := by
  rw [List.getD_eq_getElem?_getD, List.getD_eq_getElem?_getD, List.getElem?_append_left h]
theorem zb_gar {l m : List Nat} {i : Nat} : (l ++ m).getD (l.length + i) 0 = m.getD i 0 := by
  rw [List.getD_eq_getElem?_getD, List.getD_eq_getElem?_getD, List.getElem?_append_right (by omega), Nat.add_sub_cancel_left]
theorem zb_app {a : Nat → Int32} {o : Nat} {l m : List Nat} : zb_Sg a o (l ++ m) ↔ zb_Sg a o l ∧ zb_Sg a (o + l.length) m := by
  constructor
  · intro h
    refine ⟨fun i hi => ?_, fun i hi => ?_⟩
    · rw [h i (by rw [List.length_append]; omega), zb_gal hi]
    · rw [Nat.add_assoc, h (l.length + i) (by rw [List.length_append]; omega), zb_gar]
  · intro ⟨h1, h2⟩ i hi
    rw [List.length_append] at hi
    by_cases h : i < l.length
    · rw [zb_gal h]; exact h1 i h
    · obtain ⟨j, rfl⟩ : ∃ j, i = l.length + j := ⟨i - l.length, by omega⟩
      rw [zb_gar, ← Nat.add_assoc]
      exact h2 j (by omega)
theorem zb_one {a : Nat → Int32} {o x : Nat} : zb_Sg a o [x] ↔ a o = nI x := by
  constructor
  · intro h; exact h 0 (by simp)
  · intro h i hi
    have : i = 0 := by simp at hi; omega
    subst this
    exact h
theorem zb_cons {a : Nat → Int32} {o x : Nat} {l : List Nat} : zb_Sg a o (x :: l) ↔ a o = nI x ∧ zb_Sg a (o + 1) l := by
  have := zb_app (a := a) (o := o) (l := [x]) (m := l)
  rw [zb_one] at this
  exact this
theorem zb_cg {a b : Nat → Int32} {o : Nat} {l : List Nat} (h : zb_Sg a o l) (e : ∀ i, i < l.length → b (o + i) = a (o + i)) : zb_Sg b o l := fun i hi => (e i hi).trans (h i hi)
theorem zb_cu {a : Nat → Int32} {o k : Nat} {v : Int32} {l : List Nat} (h : zb_Sg a o l) (e : k < o ∨ o + l.length ≤ k) : zb_Sg (upd a k v) o l := zb_cg h (fun i hi => pk_un (by omega))
/-- the array a with f 0 .. f (i - 1) written from place o on -/
def zb_cp (a : Nat → Int32) (o : Nat) (f : Nat → Int32) (i : Nat) : Nat → Int32 := fun k => if o ≤ k ∧ k < o + i then f (k - o) else a k
theorem zb_cp0 (a : Nat → Int32) (o : Nat) (f : Nat → Int32) : zb_cp a o f 0 = a := funext fun k => if_neg (by omega)
theorem zb_cpS (a : Nat → Int32) (o : Nat) (f : Nat → Int32) (i : Nat) : upd (zb_cp a o f i) (o + i) (f i) = zb_cp a o f (i + 1) := by
  funext k
  unfold upd zb_cp
  by_cases h : k = o + i
  · subst h
    rw [if_pos rfl, if_pos (by omega), Nat.add_sub_cancel_left]
  · rw [if_neg h]
    by_cases h2 : o ≤ k ∧ k < o + i
    · rw [if_pos h2, if_pos (by omega)]
    · rw [if_neg h2, if_neg (by omega)]
theorem zb_cpI {a : Nat → Int32} {o : Nat} {f : Nat → Int32} {i j : Nat} (h : j < i) : zb_cp a o f i (o + j) = f j := by
  unfold zb_cp; rw [if_pos (by omega), Nat.add_sub_cancel_left]
theorem zb_cpN {a : Nat → Int32} {o : Nat} {f : Nat → Int32} {i k : Nat} (h : k < o ∨ o + i ≤ k) : zb_cp a o f i k = a k := if_neg (by omega)
theorem zb_cpG {a : Nat → Int32} {o : Nat} {f : Nat → Int32} {l : List Nat} (h : ∀ i, i < l.length → f i = nI (l.getD i 0)) : zb_Sg (zb_cp a o f l.length) o l := fun i hi => (zb_cpI hi).trans (h i hi)
theorem zb_cpK {a : Nat → Int32} {o p : Nat} {f : Nat → Int32} {i : Nat} {l : List Nat} (h : zb_Sg a p l) (d : p + l.length ≤ o ∨ o + i ≤ p) : zb_Sg (zb_cp a o f i) p l := zb_cg h (fun j hj => zb_cpN (by omega))
/-! masks -/
def zb_MK (x : Int32) (p : Nat → Bool) : Prop := ∀ i, i < 32 → bt x i = p i
theorem zb_MKg {x : Int32} {p : Nat → Bool} {i : Nat} (h : zb_MK x p) (hi : i < 32) : bt x i = p i := h i hi
theorem zb_MKe {x : Int32} {p q : Nat → Bool} (h : zb_MK x p) (e : ∀ i, i < 32 → p i = q i) : zb_MK x q := fun i hi => (h i hi).trans (e i hi)
theorem zb_MK0 : zb_MK 0 (fun _ => false) := fun i _ => b_0 i
theorem zb_MKor {x y : Int32} {p q : Nat → Bool} (h : zb_MK x p) (g : zb_MK y q) : zb_MK (x ||| y) (fun i => p i || q i) := fun i hi => by rw [b_or, h i hi, g i hi]
theorem zb_MKand {x y : Int32} {p q : Nat → Bool} (h : zb_MK x p) (g : zb_MK y q) : zb_MK (x &&& y) (fun i => p i && q i) := fun i hi => by rw [b_and, h i hi, g i hi]
theorem zb_b1 : ∀ i, i < 32 → bt 1 i = decide (i = 0) := by decide +kernel
theorem zb_MKs {k : Nat} (hk : k < 32) : zb_MK ((1 : Int32) <<< (nI k &&& 31)) (fun i => decide (i = k)) := by
  intro i hi
  show bt ((1 : Int32) <<< (nI k &&& 31)) i = decide (i = k)
  rw [b_shl k hk 1 hi]
  by_cases h : k ≤ i
  · rw [zb_b1 (i - k) (by omega), decide_eq_true h, Bool.true_and]
    by_cases h2 : i = k
    · rw [decide_eq_true h2, decide_eq_true (by omega)]
    · rw [decide_eq_false h2, decide_eq_false (by omega)]
  · rw [decide_eq_false h, decide_eq_false (by omega), Bool.false_and]
theorem zb_MKn {x : Int32} {p : Nat → Bool} (h : zb_MK x p) : zb_MK (x ^^^ (-1)) (fun i => !(p i)) := fun i hi => by
  show bt (x ^^^ (-1)) i = !(p i)
  rw [b_xor, h i hi, b_m1 i hi]; cases p i <;> rfl
theorem zb_MK0i {x : Int32} {p : Nat → Bool} (h : zb_MK x p) : x = 0 ↔ ∀ i, i < 32 → p i = false := by
  constructor
  · intro e i hi; rw [← h i hi, e, b_0]
  · intro e; exact b_ext (fun i hi => by rw [h i hi, e i hi, b_0])
theorem zb_and1 (x : Int32) : x &&& 1 = 0 ↔ bt x 0 = false := by
  have h : zb_MK (x &&& 1) (fun i => bt x i && decide (i = 0)) := zb_MKand (fun i _ => rfl) zb_b1
  rw [zb_MK0i h]
  constructor
  · intro e; have := e 0 (by omega); simpa using this
  · intro e i hi
    by_cases h2 : i = 0
    · subst h2; rw [e]; rfl
    · rw [decide_eq_false h2, Bool.and_false]
theorem zb_bit {x : Int32} {k : Nat} (hk : k < 32) : (x >>> (nI k &&& 31)) &&& 1 = 0 ↔ bt x k = false := by
  rw [zb_and1, b_sshr k hk x (by omega), if_pos (by omega), Nat.add_zero]
theorem zb_bit1 {x : Int32} {k : Nat} (hk : k < 32) : (x >>> (nI k &&& 31)) &&& 1 = 1 ↔ bt x k = true := by
  have h : zb_MK ((x >>> (nI k &&& 31)) &&& 1) (fun i => decide (i = 0) && bt x k) := by
    intro i hi
    show bt ((x >>> (nI k &&& 31)) &&& 1) i = (decide (i = 0) && bt x k)
    rw [b_and, zb_b1 i hi]
    by_cases h2 : i = 0
    · subst h2
      rw [b_sshr k hk x (by omega), if_pos (by omega), Nat.add_zero, Bool.and_comm]
    · rw [decide_eq_false h2, Bool.and_false, Bool.false_and]
  constructor
  · intro e
    have h0 := zb_MKg h (i := 0) (by omega)
    rw [e, zb_b1 0 (by omega)] at h0
    simpa using h0.symm
  · intro e
    refine b_ext fun i hi => ?_
    rw [zb_MKg h hi, zb_b1 i hi, e, Bool.and_true]
/-! loop laws -/
theorem zb_search (W : Nat → Nat → Prop) (p : Nat → Prop) (e : Nat) (hs : ∀ m i, i < e → p i → W m (i + 1) → W (m + 1) i) (hf : ∀ m i, i < e → ¬ p i → (∀ j, j < i → p j) → W (m + 1) i) (hx : (∀ i, i < e → p i) → ∀ m, W (m + 1) e) : ∀ d i, i + d = e → (∀ j, j < i → p j) → ∃ n, W n i := by
  intro d
  induction d with
  | zero =>
    intro i hi hp
    have e1 : i = e := by omega
    rw [e1]
    exact ⟨1, hx (fun j hj => hp j (by omega)) 0⟩
  | succ d ih =>
    intro i hi hp
    by_cases h : p i
    · obtain ⟨n, hn⟩ := ih (i + 1) (by omega) (fun j hj => by
        by_cases hji : j < i
        · exact hp j hji
        · have e1 : j = i := by omega
          rw [e1]; exact h)
      exact ⟨n + 1, hs n i (by omega) h hn⟩
    · exact ⟨1, hf 0 i (by omega) h hp⟩
theorem zb_searchF (W : Nat → Nat → Prop) (p : Nat → Prop) (i e : Nat) (hi : i ≤ e) (hs : ∀ m j, i ≤ j → j < e → p j → W m (j + 1) → W (m + 1) j) (hf : ∀ m j, i ≤ j → j < e → ¬ p j → (∀ k, i ≤ k → k < j → p k) → W (m + 1) j) (hx : (∀ k, i ≤ k → k < e → p k) → ∀ m, W (m + 1) e) : ∃ n, W n i := by
  have := zb_search (fun m j => W m (i + j)) (fun j => p (i + j)) (e - i)
    (fun m j hj hp w => hs m (i + j) (by omega) (by omega) hp w)
    (fun m j hj hn hq => hf m (i + j) (by omega) (by omega) hn (fun k h1 h2 => by
      have := hq (k - i) (by omega)
      rwa [show i + (k - i) = k by omega] at this))
    (fun ha m => by
      rw [show i + (e - i) = e by omega]
      exact hx (fun k h1 h2 => by
        have := ha (k - i) (by omega)
        rwa [show i + (k - i) = k by omega] at this) m)
    (e - i) 0 (by omega) (fun j hj => absurd hj (Nat.not_lt_zero j))
  exact this
theorem zb_find (W : Nat → Nat → Prop) (p : Nat → Prop) (e : Nat) (hs : ∀ m i, i < e → p i → W m (i + 1) → W (m + 1) i) (hf : ∀ m i, i < e → ¬ p i → (∀ j, j < i → p j) → W (m + 1) i) (hx : (∀ i, i < e → p i) → ∀ m, W (m + 1) e) : ∃ n, W n 0 :=
  zb_search W p e hs hf hx e 0 (by omega) (fun j hj => absurd hj (Nat.not_lt_zero j))
theorem zb_count (W : Nat → Nat → Prop) (e : Nat) (hs : ∀ m i, i < e → W m (i + 1) → W (m + 1) i) (hx : ∀ m, W (m + 1) e) : ∃ n, W n 0 :=
  zb_find W (fun _ => True) e (fun m i hi _ w => hs m i hi w) (fun m i hi h => absurd trivial h) (fun _ m => hx m)
theorem zb_countF (W : Nat → Nat → Prop) (i e : Nat) (hi : i ≤ e) (hs : ∀ m j, i ≤ j → j < e → W m (j + 1) → W (m + 1) j) (hx : ∀ m, W (m + 1) e) : ∃ n, W n i :=
  zb_searchF W (fun _ => True) i e hi (fun m j h1 h2 _ w => hs m j h1 h2 w) (fun m j _ _ h => absurd trivial h) (fun _ m => hx m)
end
section
/-! the abstract world: what both sides keep, in numbers and lists -/
def ab_W : Type := (Nat × Nat × Nat × Nat × Nat × Nat) × (List Nat × List Nat × List Nat) × ((Nat → Nat) × (Nat → Nat) × (Nat → Nat) × (Nat → List Nat)) × (Nat → Nat → Nat) × (Nat → Nat → Nat → Bool) × (Nat → List Nat) × (Nat → Nat → Bool)
def ab_mk (C V H P N S : Nat) (sl ll tl : List Nat) (kd lv ca : Nat → Nat) (sg : Nat → List Nat) (pl : Nat → Nat → Nat) (sn : Nat → Nat → Nat → Bool) (pf : Nat → List Nat) (rs : Nat → Nat → Bool) : ab_W := ((C, V, H, P, N, S), (sl, ll, tl), (kd, lv, ca, sg), pl, sn, pf, rs)
def ab_W.C (c : ab_W) : Nat := c.1.1
def ab_W.V (c : ab_W) : Nat := c.1.2.1
def ab_W.H (c : ab_W) : Nat := c.1.2.2.1
def ab_W.P (c : ab_W) : Nat := c.1.2.2.2.1
def ab_W.N (c : ab_W) : Nat := c.1.2.2.2.2.1
def ab_W.S (c : ab_W) : Nat := c.1.2.2.2.2.2
def ab_W.sl (c : ab_W) : List Nat := c.2.1.1
def ab_W.ll (c : ab_W) : List Nat := c.2.1.2.1
def ab_W.tl (c : ab_W) : List Nat := c.2.1.2.2
def ab_W.kd (c : ab_W) : Nat → Nat := c.2.2.1.1
def ab_W.lv (c : ab_W) : Nat → Nat := c.2.2.1.2.1
def ab_W.ca (c : ab_W) : Nat → Nat := c.2.2.1.2.2.1
def ab_W.sg (c : ab_W) : Nat → List Nat := c.2.2.1.2.2.2
def ab_W.pl (c : ab_W) : Nat → Nat → Nat := c.2.2.2.1
def ab_W.sn (c : ab_W) : Nat → Nat → Nat → Bool := c.2.2.2.2.1
def ab_W.pf (c : ab_W) : Nat → List Nat := c.2.2.2.2.2.1
def ab_W.rs (c : ab_W) : Nat → Nat → Bool := c.2.2.2.2.2.2
/-! frames by their definition -/
def ab_act (kd ca : Nat → Nat) (x j : Nat) : Bool := decide (j < x) && (decide (kd j ≤ 2) && (decide (ca j = 0) || decide (x < ca j)))
def ab_man (kd ca : Nat → Nat) (sg : Nat → List Nat) (x s : Nat) : Bool := decide (s ∈ sg x) || (List.range x).any (fun j => decide (kd j = 2) && (ab_act kd ca x j && decide (s ∈ sg j)))
def ab_inF (kd ca : Nat → Nat) (sg : Nat → List Nat) (x j : Nat) : Bool := ab_act kd ca x j && (decide (kd j = 2) || ab_man kd ca sg x ((sg j).getD 1 0))
def ab_hs (kd ca : Nat → Nat) (sg : Nat → List Nat) (x : Nat) : List Nat := (List.range x).filter (ab_inF kd ca sg x)
def ab_lp (kd : Nat → Nat) (pf : Nat → List Nat) : Nat → List Nat
  | 0 => []
  | n + 1 => if kd n = 4 then pf n else ab_lp kd pf n
def ab_W.act (c : ab_W) (x j : Nat) : Bool := ab_act c.kd c.ca x j
def ab_W.man (c : ab_W) (x s : Nat) : Bool := ab_man c.kd c.ca c.sg x s
def ab_W.inF (c : ab_W) (x j : Nat) : Bool := ab_inF c.kd c.ca c.sg x j
def ab_W.hs (c : ab_W) (x : Nat) : List Nat := ab_hs c.kd c.ca c.sg x
def ab_W.fp (c : ab_W) (x s t : Nat) : Bool := c.sn x s t && (c.man x s && c.man x t)
def ab_W.var (c : ab_W) (j : Nat) : Nat := (c.sg j).getD 1 0
def ab_W.q (c : ab_W) (x : Nat) : Nat := if c.kd x ≤ 2 then 0 else (c.hs x).length
def ab_W.lp (c : ab_W) : List Nat := ab_lp c.kd c.pf c.N
def ab_W.ht (c : ab_W) (s : Nat) : Bool := (List.range c.N).any (fun j => decide (c.kd j = 1) && (decide (c.ca j = 0) && decide (c.var j = s)))
def ab_W.lev (c : ab_W) (j : Nat) : Int32 := if 3 ≤ c.kd j then 0 else if c.ca j = 0 then nI (c.lv j) else -21
theorem ab_act_cg {kd ca kd' ca' : Nat → Nat} {x j : Nat} (hk : j < x → kd' j = kd j) (hc : j < x → kd j ≤ 2 → (ca' j = 0 ∨ x < ca' j ↔ ca j = 0 ∨ x < ca j)) : ab_act kd' ca' x j = ab_act kd ca x j := by
  unfold ab_act
  by_cases h : j < x
  · rw [hk h]
    by_cases h2 : kd j ≤ 2
    · have := hc h h2
      rw [← Bool.decide_or, ← Bool.decide_or, decide_eq_decide.mpr this]
    · rw [decide_eq_false h2, Bool.false_and, Bool.false_and]
  · rw [decide_eq_false h, Bool.false_and, Bool.false_and]
theorem ab_man_cg {kd ca kd' ca' : Nat → Nat} {sg sg' : Nat → List Nat} {x s : Nat} (hk : ∀ j, j < x → kd' j = kd j) (hs : ∀ j, j ≤ x → sg' j = sg j) (hc : ∀ j, j < x → kd j ≤ 2 → (ca' j = 0 ∨ x < ca' j ↔ ca j = 0 ∨ x < ca j)) : ab_man kd' ca' sg' x s = ab_man kd ca sg x s := by
  unfold ab_man
  rw [hs x (Nat.le_refl x)]
  congr 1
  rw [Bool.eq_iff_iff, List.any_eq_true, List.any_eq_true]
  have e : ∀ j, j ∈ List.range x → (decide (kd' j = 2) && (ab_act kd' ca' x j && decide (s ∈ sg' j))) = (decide (kd j = 2) && (ab_act kd ca x j && decide (s ∈ sg j))) := by
    intro j hj
    have hj := List.mem_range.mp hj
    rw [hk j hj, hs j (Nat.le_of_lt hj), ab_act_cg (hk j) (hc j)]
  constructor
  · intro ⟨j, h1, h2⟩; exact ⟨j, h1, by rw [← e j h1]; exact h2⟩
  · intro ⟨j, h1, h2⟩; exact ⟨j, h1, by rw [e j h1]; exact h2⟩
theorem ab_inF_cg {kd ca kd' ca' : Nat → Nat} {sg sg' : Nat → List Nat} {x j : Nat} (hk : ∀ j, j < x → kd' j = kd j) (hs : ∀ j, j ≤ x → sg' j = sg j) (hc : ∀ j, j < x → kd j ≤ 2 → (ca' j = 0 ∨ x < ca' j ↔ ca j = 0 ∨ x < ca j)) : ab_inF kd' ca' sg' x j = ab_inF kd ca sg x j := by
  unfold ab_inF
  rw [ab_act_cg (hk j) (hc j)]
  by_cases h : j < x
  · rw [hk j h, hs j (Nat.le_of_lt h), ab_man_cg hk hs hc]
  · have : ab_act kd ca x j = false := by unfold ab_act; rw [decide_eq_false h, Bool.false_and]
    rw [this, Bool.false_and, Bool.false_and]
theorem ab_hs_cg {kd ca kd' ca' : Nat → Nat} {sg sg' : Nat → List Nat} {x : Nat} (hk : ∀ j, j < x → kd' j = kd j) (hs : ∀ j, j ≤ x → sg' j = sg j) (hc : ∀ j, j < x → kd j ≤ 2 → (ca' j = 0 ∨ x < ca' j ↔ ca j = 0 ∨ x < ca j)) : ab_hs kd' ca' sg' x = ab_hs kd ca sg x := by
  unfold ab_hs
  exact List.filter_congr (fun j _ => ab_inF_cg hk hs hc)
theorem ab_act_i {kd ca : Nat → Nat} {x j : Nat} : ab_act kd ca x j = true ↔ j < x ∧ kd j ≤ 2 ∧ (ca j = 0 ∨ x < ca j) := by
  unfold ab_act
  rw [Bool.and_eq_true, Bool.and_eq_true, Bool.or_eq_true, decide_eq_true_iff, decide_eq_true_iff, decide_eq_true_iff, decide_eq_true_iff]
theorem ab_man_i {kd ca : Nat → Nat} {sg : Nat → List Nat} {x s : Nat} : ab_man kd ca sg x s = true ↔ s ∈ sg x ∨ ∃ j, j < x ∧ kd j = 2 ∧ (ca j = 0 ∨ x < ca j) ∧ s ∈ sg j := by
  unfold ab_man
  rw [Bool.or_eq_true, decide_eq_true_iff, List.any_eq_true]
  refine or_congr Iff.rfl ?_
  constructor
  · intro ⟨j, h1, h2⟩
    rw [Bool.and_eq_true, Bool.and_eq_true, decide_eq_true_iff, decide_eq_true_iff, ab_act_i] at h2
    exact ⟨j, h2.2.1.1, h2.1, h2.2.1.2.2, h2.2.2⟩
  · intro ⟨j, h1, h2, h3, h4⟩
    refine ⟨j, List.mem_range.mpr h1, ?_⟩
    rw [Bool.and_eq_true, Bool.and_eq_true, decide_eq_true_iff, decide_eq_true_iff, ab_act_i]
    exact ⟨h2, ⟨h1, by omega, h3⟩, h4⟩
theorem ab_inF_i {kd ca : Nat → Nat} {sg : Nat → List Nat} {x j : Nat} : ab_inF kd ca sg x j = true ↔ (j < x ∧ kd j ≤ 2 ∧ (ca j = 0 ∨ x < ca j)) ∧ (kd j = 2 ∨ ab_man kd ca sg x ((sg j).getD 1 0) = true) := by
  unfold ab_inF
  rw [Bool.and_eq_true, Bool.or_eq_true, decide_eq_true_iff, ab_act_i]
theorem ab_hs_i {kd ca : Nat → Nat} {sg : Nat → List Nat} {x j : Nat} : j ∈ ab_hs kd ca sg x ↔ ab_inF kd ca sg x j = true := by
  unfold ab_hs
  rw [List.mem_filter, List.mem_range]
  constructor
  · intro h; exact h.2
  · intro h; exact ⟨(ab_inF_i.mp h).1.1, h⟩
theorem ab_hs_len {kd ca : Nat → Nat} {sg : Nat → List Nat} {x : Nat} : (ab_hs kd ca sg x).length ≤ x := by
  unfold ab_hs
  exact Nat.le_trans (List.length_filter_le _ _) (by rw [List.length_range]; exact Nat.le_refl x)
theorem ab_hs_sorted {kd ca : Nat → Nat} {sg : Nat → List Nat} {x : Nat} : (ab_hs kd ca sg x).Pairwise (· < ·) := List.Pairwise.filter _ List.pairwise_lt_range
theorem ab_ht_i {c : ab_W} {s : Nat} : c.ht s = true ↔ ∃ j, j < c.N ∧ c.kd j = 1 ∧ c.ca j = 0 ∧ c.var j = s := by
  unfold ab_W.ht
  rw [List.any_eq_true]
  constructor
  · intro ⟨j, h1, h2⟩
    rw [Bool.and_eq_true, Bool.and_eq_true, decide_eq_true_iff, decide_eq_true_iff, decide_eq_true_iff] at h2
    exact ⟨j, List.mem_range.mp h1, h2⟩
  · intro ⟨j, h1, h2⟩
    refine ⟨j, List.mem_range.mpr h1, ?_⟩
    rw [Bool.and_eq_true, Bool.and_eq_true, decide_eq_true_iff, decide_eq_true_iff, decide_eq_true_iff]
    exact h2
/-! the invariant of the world -/
def ab_Sz (c : ab_W) : Prop := 1 ≤ c.C ∧ c.C ≤ 8 ∧ 1 ≤ c.V ∧ c.V ≤ 8 ∧ 2 ≤ c.H ∧ c.H ≤ 16 ∧ 4 ≤ c.P ∧ c.P ≤ 96 ∧ c.N ≤ 24 ∧ c.S ≤ 4
def ab_Ls (c : ab_W) : Prop := c.sl.length ≤ 10 ∧ c.ll.length ≤ 32 ∧ c.tl.length ≤ 64 ∧ (∀ y, y ∈ c.sl → y < c.C + c.V) ∧ (∀ y, y ∈ c.ll → y < c.N) ∧ (∀ y, y ∈ c.tl → 65 ≤ y ∧ y ≤ 90)
def ab_ok (c : ab_W) (j : Nat) : Prop := 1 ≤ c.kd j ∧ c.kd j ≤ 4 ∧ 1 ≤ (c.sg j).length ∧ (c.sg j).length ≤ 10 ∧ (c.sg j).getD 0 0 < c.C ∧ (∀ y, y ∈ c.sg j → y < c.C + c.V) ∧ (c.kd j = 1 → (c.sg j).length = 2 ∧ c.C ≤ c.var j) ∧ c.lv j ≤ 4
def ab_St (c : ab_W) : Prop := ∀ j, j < c.N → ab_ok c j
def ab_Ca (c : ab_W) : Prop := (∀ j, c.ca j ≤ c.N) ∧ (∀ j, c.N ≤ j → c.ca j = 0) ∧ (∀ j, j < c.N → c.ca j ≠ 0 → j < c.ca j) ∧ (∀ j, j < c.N → c.kd j ≤ 2 → c.ca j = 0 → c.lv j ≤ c.S)
def ab_Un (c : ab_W) : Prop := ∀ i j, i < c.N → j < c.N → c.kd i = 1 → c.kd j = 1 → c.ca i = 0 → c.ca j = 0 → c.var i = c.var j → i = j
def ab_Dp (c : ab_W) : Prop := ∀ j, j < c.N → c.kd j = 2 → c.ca j = 0 → ∀ s, s ∈ c.sg j → c.C ≤ s → ∃ i, i < j ∧ c.kd i = 1 ∧ c.ca i = 0 ∧ c.var i = s ∧ c.lv i ≤ c.lv j
def ab_cov (c : ab_W) (x : Nat) : Prop := (∀ s, c.C ≤ s → c.man x s = true → ∃ i, i ∈ c.hs x ∧ c.kd i = 1 ∧ c.var i = s) ∧ (∀ j, j ∈ c.hs x → c.kd j = 2 → ∀ s, s ∈ c.sg j → c.C ≤ s → ∃ i, i < j ∧ i ∈ c.hs x ∧ c.kd i = 1 ∧ c.var i = s)
def ab_Cv (c : ab_W) : Prop := ∀ x, x < c.N → 3 ≤ c.kd x → ab_cov c x
def ab_Pl (c : ab_W) : Prop := (∀ s, c.pl s s = 0) ∧ (∀ s t, c.pl s t ≤ c.S + 1) ∧ (∀ s t, c.pl s t ≠ 0 → c.C ≤ s ∧ s < c.C + c.V ∧ c.C ≤ t ∧ t < c.C + c.V)
def ab_Pf (c : ab_W) : Prop := ∀ x, x < c.N → c.kd x = 4 → (c.pf x).length ≤ 96 ∧ ∀ y, y ∈ c.pf x → y < x
def ab_Rs (c : ab_W) : Prop := ∀ x, x < c.N → ∀ a, (c.kd x ≤ 2 → c.rs x a = false) ∧ (c.kd x = 3 → c.rs x a = decide (a = x)) ∧ (c.kd x = 4 → c.rs x a = (c.pf x).any (fun y => c.rs y a))
def ab_I (c : ab_W) : Prop := ab_Sz c ∧ ab_Ls c ∧ ab_St c ∧ ab_Ca c ∧ ab_Un c ∧ ab_Dp c ∧ ab_Cv c ∧ ab_Pl c ∧ ab_Pf c ∧ ab_Rs c
end
section
/-! the world's changes and its invariant -/
def ab_up {α : Type} (f : Nat → α) (k : Nat) (v : α) : Nat → α := fun j => if j = k then v else f j
theorem ab_us {α : Type} {f : Nat → α} {k : Nat} {v : α} : ab_up f k v k = v := if_pos rfl
theorem ab_un {α : Type} {f : Nat → α} {k j : Nat} {v : α} (h : j ≠ k) : ab_up f k v j = f j := if_neg h
def ab_ten (c : ab_W) (k : Nat) (s : List Nat) : ab_W := ab_mk c.C c.V c.H c.P c.N c.S c.sl c.ll c.tl (ab_up c.kd c.N k) (ab_up c.lv c.N c.S) c.ca (ab_up c.sg c.N s) c.pl (ab_up c.sn c.N (fun a b => decide (c.pl a b ≠ 0))) c.pf c.rs
def ab_com (c : ab_W) (l : List Nat) (r : Nat → Bool) (p : List Nat) : ab_W := ab_mk c.C c.V c.H c.P (c.N + 1) c.S l c.ll c.tl c.kd c.lv c.ca c.sg c.pl c.sn (ab_up c.pf c.N p) (ab_up c.rs c.N r)
def ab_sL (c : ab_W) (sl ll tl : List Nat) : ab_W := ab_mk c.C c.V c.H c.P c.N c.S sl ll tl c.kd c.lv c.ca c.sg c.pl c.sn c.pf c.rs
def ab_sS (c : ab_W) (S : Nat) : ab_W := ab_mk c.C c.V c.H c.P c.N S c.sl c.ll c.tl c.kd c.lv c.ca c.sg c.pl c.sn c.pf c.rs
def ab_dis (c : ab_W) (s t : Nat) : ab_W := ab_mk c.C c.V c.H c.P c.N c.S c.sl c.ll c.tl c.kd c.lv c.ca c.sg (fun a b => if (a = s ∧ b = t) ∨ (a = t ∧ b = s) then c.S + 1 else c.pl a b) c.sn c.pf c.rs
def ab_clC (c : ab_W) (j : Nat) : Nat := if j < c.N ∧ c.kd j ≤ 2 ∧ c.ca j = 0 ∧ c.lv j = c.S then c.N else c.ca j
def ab_clP (c : ab_W) (s t : Nat) : Nat := if c.pl s t = c.S + 1 then 0 else c.pl s t
def ab_clo (c : ab_W) : ab_W := ab_mk c.C c.V c.H c.P c.N (c.S - 1) c.sl c.ll c.tl c.kd c.lv (ab_clC c) c.sg (ab_clP c) c.sn c.pf c.rs
theorem ab_ten_kd {c : ab_W} {k : Nat} {s : List Nat} {j : Nat} (h : j < c.N) : (ab_ten c k s).kd j = c.kd j := if_neg (by omega)
theorem ab_ten_lv {c : ab_W} {k : Nat} {s : List Nat} {j : Nat} (h : j < c.N) : (ab_ten c k s).lv j = c.lv j := if_neg (by omega)
theorem ab_ten_sg {c : ab_W} {k : Nat} {s : List Nat} {j : Nat} (h : j < c.N) : (ab_ten c k s).sg j = c.sg j := if_neg (by omega)
theorem ab_ten_sn {c : ab_W} {k : Nat} {s : List Nat} {j : Nat} (h : j < c.N) : (ab_ten c k s).sn j = c.sn j := if_neg (by omega)
theorem ab_ten_var {c : ab_W} {k : Nat} {s : List Nat} {j : Nat} (h : j < c.N) : (ab_ten c k s).var j = c.var j := by
  unfold ab_W.var; rw [ab_ten_sg h]
theorem ab_ten_hs {c : ab_W} {k : Nat} {s : List Nat} {x : Nat} (h : x < c.N) : (ab_ten c k s).hs x = c.hs x := ab_hs_cg (fun j hj => ab_ten_kd (by omega)) (fun j hj => ab_ten_sg (by omega)) (fun j _ _ => Iff.rfl)
theorem ab_ten_man {c : ab_W} {k : Nat} {s : List Nat} {x y : Nat} (h : x < c.N) : (ab_ten c k s).man x y = c.man x y := ab_man_cg (fun j hj => ab_ten_kd (by omega)) (fun j hj => ab_ten_sg (by omega)) (fun j _ _ => Iff.rfl)
theorem ab_ten_fp {c : ab_W} {k : Nat} {s : List Nat} {x y z : Nat} (h : x < c.N) : (ab_ten c k s).fp x y z = c.fp x y z := by
  unfold ab_W.fp
  rw [ab_ten_sn h, ab_ten_man h, ab_ten_man h]
theorem ab_lp_cg {kd kd' : Nat → Nat} {pf pf' : Nat → List Nat} : ∀ n, (∀ j, j < n → kd' j = kd j ∧ pf' j = pf j) → ab_lp kd' pf' n = ab_lp kd pf n := by
  intro n
  induction n with
  | zero => intro _; rfl
  | succ n ih =>
    intro h
    show (if kd' n = 4 then pf' n else ab_lp kd' pf' n) = (if kd n = 4 then pf n else ab_lp kd pf n)
    rw [(h n (by omega)).1, (h n (by omega)).2, ih (fun j hj => h j (by omega))]
theorem ab_ten_lp {c : ab_W} {k : Nat} {s : List Nat} : (ab_ten c k s).lp = c.lp := ab_lp_cg c.N (fun j hj => ⟨ab_ten_kd hj, rfl⟩)
theorem ab_ten_lev {c : ab_W} {k : Nat} {s : List Nat} {j : Nat} (h : j < c.N) : (ab_ten c k s).lev j = c.lev j := by
  unfold ab_W.lev
  rw [ab_ten_kd h, ab_ten_lv h]
  rfl
theorem ab_ten_ht {c : ab_W} {k : Nat} {s : List Nat} {y : Nat} : (ab_ten c k s).ht y = c.ht y := by
  rw [Bool.eq_iff_iff, ab_ht_i, ab_ht_i]
  constructor
  · intro ⟨j, h1, h2, h3, h4⟩
    have h1 : j < c.N := h1
    rw [ab_ten_kd h1] at h2
    rw [ab_ten_var h1] at h4
    exact ⟨j, h1, h2, h3, h4⟩
  · intro ⟨j, h1, h2, h3, h4⟩
    refine ⟨j, h1, ?_, h3, ?_⟩
    · rw [ab_ten_kd h1]; exact h2
    · rw [ab_ten_var h1]; exact h4
theorem ab_cov_cg {c c' : ab_W} {x : Nat} (hC : c'.C = c.C) (hh : c'.hs x = c.hs x) (hm : ∀ s, c'.man x s = c.man x s) (hk : ∀ j, j < x → c'.kd j = c.kd j) (hg : ∀ j, j < x → c'.sg j = c.sg j) (h : ab_cov c x) : ab_cov c' x := by
  have hx : ∀ j, j ∈ c.hs x → j < x := fun j hj => (ab_inF_i.mp (ab_hs_i.mp hj)).1.1
  have hv : ∀ j, j < x → c'.var j = c.var j := fun j hj => by unfold ab_W.var; rw [hg j hj]
  refine ⟨fun s h1 h2 => ?_, fun j h1 h2 s h3 h4 => ?_⟩
  · rw [hC] at h1
    rw [hm] at h2
    obtain ⟨i, a, b, d⟩ := h.1 s h1 h2
    refine ⟨i, ?_, ?_, ?_⟩
    · rw [hh]; exact a
    · rw [hk i (hx i a)]; exact b
    · rw [hv i (hx i a)]; exact d
  · rw [hh] at h1
    rw [hk j (hx j h1)] at h2
    rw [hg j (hx j h1)] at h3
    rw [hC] at h4
    obtain ⟨i, l, a, b, d⟩ := h.2 j h1 h2 s h3 h4
    refine ⟨i, l, ?_, ?_, ?_⟩
    · rw [hh]; exact a
    · rw [hk i (hx i a)]; exact b
    · rw [hv i (hx i a)]; exact d
theorem ab_ten_I {c : ab_W} {k : Nat} {s : List Nat} (h : ab_I c) : ab_I (ab_ten c k s) := by
  obtain ⟨hSz, hLs, hSt, hCa, hUn, hDp, hCv, hPl, hPf, hRs⟩ := h
  refine ⟨hSz, hLs, ?_, ?_, ?_, ?_, ?_, hPl, ?_, ?_⟩
  · intro j hj
    have hj : j < c.N := hj
    have := hSt j hj
    unfold ab_ok at this ⊢
    rw [ab_ten_kd hj, ab_ten_sg hj, ab_ten_lv hj, ab_ten_var hj]
    exact this
  · refine ⟨hCa.1, hCa.2.1, hCa.2.2.1, fun j hj hk hc => ?_⟩
    have hj : j < c.N := hj
    rw [ab_ten_kd hj] at hk
    rw [ab_ten_lv hj]
    exact hCa.2.2.2 j hj hk hc
  · intro i j hi hj ki kj ci cj e
    have hi : i < c.N := hi
    have hj : j < c.N := hj
    rw [ab_ten_kd hi] at ki
    rw [ab_ten_kd hj] at kj
    rw [ab_ten_var hi, ab_ten_var hj] at e
    exact hUn i j hi hj ki kj ci cj e
  · intro j hj kj cj y hy hC
    have hj : j < c.N := hj
    rw [ab_ten_kd hj] at kj
    rw [ab_ten_sg hj] at hy
    obtain ⟨i, h1, h2, h3, h4, h5⟩ := hDp j hj kj cj y hy hC
    refine ⟨i, h1, ?_, h3, ?_, ?_⟩
    · rw [ab_ten_kd (by omega)]; exact h2
    · rw [ab_ten_var (by omega)]; exact h4
    · rw [ab_ten_lv hj, ab_ten_lv (by omega)]; exact h5
  · intro x hx kx
    have hx : x < c.N := hx
    rw [ab_ten_kd hx] at kx
    exact ab_cov_cg (c := c) rfl (ab_ten_hs hx) (fun y => ab_ten_man hx) (fun j hj => ab_ten_kd (by omega)) (fun j hj => ab_ten_sg (by omega)) (hCv x hx kx)
  · intro x hx kx
    have hx : x < c.N := hx
    rw [ab_ten_kd hx] at kx
    exact hPf x hx kx
  · intro x hx a
    have hx : x < c.N := hx
    rw [ab_ten_kd hx]
    exact hRs x hx a
theorem ab_com_lp {c : ab_W} {l : List Nat} {r : Nat → Bool} {p : List Nat} : (ab_com c l r p).lp = if c.kd c.N = 4 then p else c.lp := by
  show (if c.kd c.N = 4 then ab_up c.pf c.N p c.N else ab_lp c.kd (ab_up c.pf c.N p) c.N) = _
  rw [ab_us, ab_lp_cg c.N (kd := c.kd) (pf := c.pf) (fun j hj => ⟨rfl, ab_un (by omega)⟩)]
  rfl
theorem ab_com_ht {c : ab_W} {l : List Nat} {r : Nat → Bool} {p : List Nat} {y : Nat} : (ab_com c l r p).ht y = true ↔ c.ht y = true ∨ (c.kd c.N = 1 ∧ c.ca c.N = 0 ∧ c.var c.N = y) := by
  rw [ab_ht_i, ab_ht_i]
  constructor
  · intro ⟨j, h1, h2, h3, h4⟩
    have h1 : j < c.N + 1 := h1
    by_cases h : j = c.N
    · subst h; exact Or.inr ⟨h2, h3, h4⟩
    · exact Or.inl ⟨j, by omega, h2, h3, h4⟩
  · intro h
    rcases h with ⟨j, h1, h2, h3, h4⟩ | ⟨h2, h3, h4⟩
    · exact ⟨j, Nat.lt_succ_of_lt h1, h2, h3, h4⟩
    · exact ⟨c.N, Nat.lt_succ_self c.N, h2, h3, h4⟩
theorem ab_com_I {c : ab_W} {l : List Nat} {r : Nat → Bool} {p : List Nat} (h : ab_I c) (hN : c.N < 24) (ho : ab_ok c c.N) (hl : l.length ≤ 10 ∧ ∀ y, y ∈ l → y < c.C + c.V) (hS : c.lv c.N ≤ c.S)
    (hu : c.kd c.N = 1 → ∀ i, i < c.N → c.kd i = 1 → c.ca i = 0 → c.var i ≠ c.var c.N)
    (hd : c.kd c.N = 2 → ∀ s, s ∈ c.sg c.N → c.C ≤ s → ∃ i, i < c.N ∧ c.kd i = 1 ∧ c.ca i = 0 ∧ c.var i = s ∧ c.lv i ≤ c.lv c.N)
    (hc : 3 ≤ c.kd c.N → ab_cov c c.N)
    (hp : c.kd c.N = 4 → p.length ≤ 96 ∧ ∀ y, y ∈ p → y < c.N)
    (hr : ∀ a, (c.kd c.N ≤ 2 → r a = false) ∧ (c.kd c.N = 3 → r a = decide (a = c.N)) ∧ (c.kd c.N = 4 → r a = p.any (fun y => c.rs y a))) : ab_I (ab_com c l r p) := by
  obtain ⟨hSz, hLs, hSt, hCa, hUn, hDp, hCv, hPl, hPf, hRs⟩ := h
  have hs : ∀ j, j < c.N + 1 → j < c.N ∨ j = c.N := fun j hj => by omega
  have cN : c.ca c.N = 0 := hCa.2.1 c.N (Nat.le_refl _)
  refine ⟨?_, ?_, ?_, ?_, ?_, ?_, ?_, hPl, ?_, ?_⟩
  · obtain ⟨a1, a2, a3, a4, a5, a6, a7, a8, a9, a10⟩ := hSz
    exact ⟨a1, a2, a3, a4, a5, a6, a7, a8, hN, a10⟩
  · obtain ⟨a1, a2, a3, a4, a5, a6⟩ := hLs
    exact ⟨hl.1, a2, a3, hl.2, fun y hy => Nat.lt_succ_of_lt (a5 y hy), a6⟩
  · intro j hj
    rcases hs j hj with h1 | h1
    · exact hSt j h1
    · rw [h1]; exact ho
  · refine ⟨fun j => Nat.le_succ_of_le (hCa.1 j), fun j hj => hCa.2.1 j (Nat.le_of_succ_le hj), fun j hj hne => ?_, fun j hj hk hc0 => ?_⟩
    · rcases hs j hj with h1 | h1
      · exact hCa.2.2.1 j h1 hne
      · rw [h1] at hne; exact absurd cN hne
    · rcases hs j hj with h1 | h1
      · exact hCa.2.2.2 j h1 hk hc0
      · rw [h1]; exact hS
  · intro i j hi hj ki kj ci cj e
    rcases hs i hi with h1 | h1 <;> rcases hs j hj with h2 | h2
    · exact hUn i j h1 h2 ki kj ci cj e
    · subst h2; exact absurd e (hu kj i h1 ki ci)
    · subst h1; exact absurd e.symm (hu ki j h2 kj cj)
    · rw [h1, h2]
  · intro j hj kj cj y hy hC
    rcases hs j hj with h1 | h1
    · exact hDp j h1 kj cj y hy hC
    · subst h1; exact hd kj y hy hC
  · intro x hx kx
    rcases hs x hx with h1 | h1
    · exact hCv x h1 kx
    · subst h1; exact hc kx
  · intro x hx kx
    rcases hs x hx with h1 | h1
    · have := hPf x h1 kx
      show (ab_up c.pf c.N p x).length ≤ 96 ∧ ∀ y, y ∈ ab_up c.pf c.N p x → y < x
      rw [ab_un (by omega)]
      exact this
    · subst h1
      show (ab_up c.pf c.N p c.N).length ≤ 96 ∧ ∀ y, y ∈ ab_up c.pf c.N p c.N → y < c.N
      rw [ab_us]
      exact hp kx
  · intro x hx a
    have ag : ∀ (m : List Nat), (∀ y, y ∈ m → y < c.N) → m.any (fun y => ab_up c.rs c.N r y a) = m.any (fun y => c.rs y a) := by
      intro m hm
      rw [Bool.eq_iff_iff, List.any_eq_true, List.any_eq_true]
      constructor
      · intro ⟨y, h1, h2⟩
        refine ⟨y, h1, ?_⟩
        rw [ab_un (by have := hm y h1; omega)] at h2
        exact h2
      · intro ⟨y, h1, h2⟩
        refine ⟨y, h1, ?_⟩
        rw [ab_un (by have := hm y h1; omega)]
        exact h2
    rcases hs x hx with h1 | h1
    · have := hRs x h1 a
      show (c.kd x ≤ 2 → ab_up c.rs c.N r x a = false) ∧ (c.kd x = 3 → ab_up c.rs c.N r x a = decide (a = x)) ∧ (c.kd x = 4 → ab_up c.rs c.N r x a = (ab_up c.pf c.N p x).any (fun y => ab_up c.rs c.N r y a))
      rw [ab_un (f := c.rs) (by omega), ab_un (f := c.pf) (by omega)]
      refine ⟨this.1, this.2.1, fun k4 => ?_⟩
      rw [this.2.2 k4, ag]
      intro y hy
      have := (hPf x h1 k4).2 y hy
      omega
    · subst h1
      show (c.kd c.N ≤ 2 → ab_up c.rs c.N r c.N a = false) ∧ (c.kd c.N = 3 → ab_up c.rs c.N r c.N a = decide (a = c.N)) ∧ (c.kd c.N = 4 → ab_up c.rs c.N r c.N a = (ab_up c.pf c.N p c.N).any (fun y => ab_up c.rs c.N r y a))
      rw [ab_us (f := c.rs), ab_us (f := c.pf)]
      refine ⟨(hr a).1, (hr a).2.1, fun k4 => ?_⟩
      rw [(hr a).2.2 k4, ag]
      exact (hp k4).2
theorem ab_sL_I {c : ab_W} {sl ll tl : List Nat} (h : ab_I c) (hl : ab_Ls (ab_sL c sl ll tl)) : ab_I (ab_sL c sl ll tl) := by
  obtain ⟨hSz, hLs, hSt, hCa, hUn, hDp, hCv, hPl, hPf, hRs⟩ := h
  exact ⟨hSz, hl, hSt, hCa, hUn, hDp, hCv, hPl, hPf, hRs⟩
theorem ab_sS_I {c : ab_W} (h : ab_I c) (hS : c.S < 4) : ab_I (ab_sS c (c.S + 1)) := by
  obtain ⟨hSz, hLs, hSt, hCa, hUn, hDp, hCv, hPl, hPf, hRs⟩ := h
  refine ⟨?_, hLs, hSt, ?_, hUn, hDp, hCv, ?_, hPf, hRs⟩
  · obtain ⟨a1, a2, a3, a4, a5, a6, a7, a8, a9, a10⟩ := hSz
    exact ⟨a1, a2, a3, a4, a5, a6, a7, a8, a9, hS⟩
  · exact ⟨hCa.1, hCa.2.1, hCa.2.2.1, fun j hj hk hc => Nat.le_succ_of_le (hCa.2.2.2 j hj hk hc)⟩
  · exact ⟨hPl.1, fun s t => Nat.le_succ_of_le (hPl.2.1 s t), hPl.2.2⟩
theorem ab_dis_I {c : ab_W} {s t : Nat} (h : ab_I c) (hs : c.C ≤ s ∧ s < c.C + c.V) (ht : c.C ≤ t ∧ t < c.C + c.V) (hn : s ≠ t) : ab_I (ab_dis c s t) := by
  obtain ⟨hSz, hLs, hSt, hCa, hUn, hDp, hCv, hPl, hPf, hRs⟩ := h
  refine ⟨hSz, hLs, hSt, hCa, hUn, hDp, hCv, ?_, hPf, hRs⟩
  refine ⟨fun a => ?_, fun a b => ?_, fun a b hab => ?_⟩
  · show (if (a = s ∧ a = t) ∨ (a = t ∧ a = s) then c.S + 1 else c.pl a a) = 0
    rw [if_neg (by omega)]
    exact hPl.1 a
  · show (if (a = s ∧ b = t) ∨ (a = t ∧ b = s) then c.S + 1 else c.pl a b) ≤ c.S + 1
    by_cases q : (a = s ∧ b = t) ∨ (a = t ∧ b = s)
    · rw [if_pos q]; exact Nat.le_refl _
    · rw [if_neg q]; exact hPl.2.1 a b
  · show c.C ≤ a ∧ a < c.C + c.V ∧ c.C ≤ b ∧ b < c.C + c.V
    by_cases q : (a = s ∧ b = t) ∨ (a = t ∧ b = s)
    · omega
    · have hab : (if (a = s ∧ b = t) ∨ (a = t ∧ b = s) then c.S + 1 else c.pl a b) ≠ 0 := hab
      rw [if_neg q] at hab
      exact hPl.2.2 a b hab
theorem ab_clo_iff {c : ab_W} {x j : Nat} (hx : x < c.N) : ab_clC c j = 0 ∨ x < ab_clC c j ↔ c.ca j = 0 ∨ x < c.ca j := by
  unfold ab_clC
  by_cases h : j < c.N ∧ c.kd j ≤ 2 ∧ c.ca j = 0 ∧ c.lv j = c.S
  · rw [if_pos h]; omega
  · rw [if_neg h]
theorem ab_clo_hs {c : ab_W} {x : Nat} (h : x < c.N) : (ab_clo c).hs x = c.hs x := ab_hs_cg (fun j hj => rfl) (fun j hj => rfl) (fun j _ _ => ab_clo_iff h)
theorem ab_clo_man {c : ab_W} {x y : Nat} (h : x < c.N) : (ab_clo c).man x y = c.man x y := ab_man_cg (fun j hj => rfl) (fun j hj => rfl) (fun j _ _ => ab_clo_iff h)
theorem ab_clo_fp {c : ab_W} {x y z : Nat} (h : x < c.N) : (ab_clo c).fp x y z = c.fp x y z := by
  unfold ab_W.fp
  rw [ab_clo_man h, ab_clo_man h]
  rfl
theorem ab_clo_ca {c : ab_W} {j : Nat} (hj : j < c.N) : (ab_clo c).ca j = 0 ↔ c.ca j = 0 ∧ ¬ (c.kd j ≤ 2 ∧ c.lv j = c.S) := by
  show ab_clC c j = 0 ↔ _
  unfold ab_clC
  by_cases h : j < c.N ∧ c.kd j ≤ 2 ∧ c.ca j = 0 ∧ c.lv j = c.S
  · rw [if_pos h]; omega
  · rw [if_neg h]; omega
theorem ab_clo_I {c : ab_W} (h : ab_I c) (hS : 1 ≤ c.S) : ab_I (ab_clo c) := by
  obtain ⟨hSz, hLs, hSt, hCa, hUn, hDp, hCv, hPl, hPf, hRs⟩ := h
  refine ⟨?_, hLs, hSt, ?_, ?_, ?_, ?_, ?_, hPf, hRs⟩
  · obtain ⟨a1, a2, a3, a4, a5, a6, a7, a8, a9, a10⟩ := hSz
    exact ⟨a1, a2, a3, a4, a5, a6, a7, a8, a9, Nat.le_trans (Nat.sub_le _ _) a10⟩
  · refine ⟨fun j => ?_, fun j hj => ?_, fun j hj hne => ?_, fun j hj hk hc => ?_⟩
    · show ab_clC c j ≤ c.N
      unfold ab_clC
      by_cases h : j < c.N ∧ c.kd j ≤ 2 ∧ c.ca j = 0 ∧ c.lv j = c.S
      · rw [if_pos h]; exact Nat.le_refl _
      · rw [if_neg h]; exact hCa.1 j
    · show ab_clC c j = 0
      have hj : c.N ≤ j := hj
      unfold ab_clC
      rw [if_neg (by omega)]
      exact hCa.2.1 j hj
    · have hj : j < c.N := hj
      have hne : ab_clC c j ≠ 0 := hne
      show j < ab_clC c j
      unfold ab_clC at hne ⊢
      by_cases h : j < c.N ∧ c.kd j ≤ 2 ∧ c.ca j = 0 ∧ c.lv j = c.S
      · rw [if_pos h]; exact hj
      · rw [if_neg h] at hne ⊢; exact hCa.2.2.1 j hj hne
    · have hj : j < c.N := hj
      have hk : c.kd j ≤ 2 := hk
      have h1 := (ab_clo_ca hj).mp hc
      have h2 := hCa.2.2.2 j hj hk h1.1
      show c.lv j ≤ c.S - 1
      have : c.lv j ≠ c.S := fun e => h1.2 ⟨hk, e⟩
      omega
  · intro i j hi hj ki kj ci cj e
    have hi : i < c.N := hi
    have hj : j < c.N := hj
    exact hUn i j hi hj ki kj ((ab_clo_ca hi).mp ci).1 ((ab_clo_ca hj).mp cj).1 e
  · intro j hj kj cj y hy hC
    have hj : j < c.N := hj
    have h1 := (ab_clo_ca hj).mp cj
    have kj : c.kd j = 2 := kj
    obtain ⟨i, l1, l2, l3, l4, l5⟩ := hDp j hj kj h1.1 y hy hC
    have hj : j < c.N := hj
    have h2 := hCa.2.2.2 j hj (by omega) h1.1
    have h3 : c.lv j ≠ c.S := fun e => h1.2 ⟨by omega, e⟩
    refine ⟨i, l1, l2, ?_, l4, l5⟩
    exact (ab_clo_ca (by omega)).mpr ⟨l3, fun q => by omega⟩
  · intro x hx kx
    have hx : x < c.N := hx
    exact ab_cov_cg (c := c) rfl (ab_clo_hs hx) (fun y => ab_clo_man hx) (fun j hj => rfl) (fun j hj => rfl) (hCv x hx kx)
  · refine ⟨fun s => ?_, fun s t => ?_, fun s t hst => ?_⟩
    · show ab_clP c s s = 0
      unfold ab_clP
      rw [hPl.1 s]
      rw [if_neg (by omega)]
    · show ab_clP c s t ≤ c.S - 1 + 1
      have := hPl.2.1 s t
      unfold ab_clP
      by_cases h : c.pl s t = c.S + 1
      · rw [if_pos h]; omega
      · rw [if_neg h]; omega
    · have hst : ab_clP c s t ≠ 0 := hst
      unfold ab_clP at hst
      by_cases h : c.pl s t = c.S + 1
      · rw [if_pos h] at hst; exact absurd rfl hst
      · rw [if_neg h] at hst; exact hPl.2.2 s t hst
/-- a string whose variables are typed gives a covered frame -/
theorem ab_ten_cov {c : ab_W} {k : Nat} {s : List Nat} (h : ab_I c) (ht : ∀ y, y ∈ s → c.C ≤ y → c.ht y = true) : ab_cov (ab_ten c k s) c.N := by
  obtain ⟨hSz, hLs, hSt, hCa, hUn, hDp, hCv, hPl, hPf, hRs⟩ := h
  have hcz : ∀ j, c.ca j = 0 ∨ c.N < c.ca j → c.ca j = 0 := fun j hj => by have := hCa.1 j; omega
  have hg : (ab_ten c k s).sg c.N = s := ab_us
  have key : ∀ y, c.C ≤ y → (ab_ten c k s).man c.N y = true → ∃ i, i < c.N ∧ c.kd i = 1 ∧ c.ca i = 0 ∧ c.var i = y := by
    intro y hy hm
    rcases ab_man_i.mp hm with h1 | ⟨j, h1, h2, h3, h4⟩
    · rw [hg] at h1
      exact ab_ht_i.mp (ht y h1 hy)
    · rw [ab_ten_kd h1] at h2
      rw [ab_ten_sg h1] at h4
      obtain ⟨i, l1, l2, l3, l4, l5⟩ := hDp j h1 h2 (hcz j h3) y h4 hy
      exact ⟨i, by omega, l2, l3, l4⟩
  have hin : ∀ i y, i < c.N → c.kd i = 1 → c.ca i = 0 → c.var i = y → (ab_ten c k s).man c.N y = true → i ∈ (ab_ten c k s).hs c.N := by
    intro i y h1 h2 h3 h4 h5
    refine ab_hs_i.mpr (ab_inF_i.mpr ⟨⟨h1, ?_, Or.inl h3⟩, Or.inr ?_⟩)
    · rw [ab_ten_kd h1]; omega
    · have : ((ab_ten c k s).sg i).getD 1 0 = y := by rw [ab_ten_sg h1]; exact h4
      rw [this]; exact h5
  refine ⟨fun y hy hm => ?_, fun j hj kj y hy hC => ?_⟩
  · obtain ⟨i, h1, h2, h3, h4⟩ := key y hy hm
    refine ⟨i, hin i y h1 h2 h3 h4 hm, ?_, ?_⟩
    · rw [ab_ten_kd h1]; exact h2
    · rw [ab_ten_var h1]; exact h4
  · have h1 := (ab_inF_i.mp (ab_hs_i.mp hj)).1
    have hm : (ab_ten c k s).man c.N y = true := ab_man_i.mpr (Or.inr ⟨j, h1.1, kj, h1.2.2, hy⟩)
    rw [ab_ten_kd h1.1] at kj
    rw [ab_ten_sg h1.1] at hy
    obtain ⟨i, l1, l2, l3, l4, l5⟩ := hDp j h1.1 kj (hcz j h1.2.2) y hy hC
    have hi : i < c.N := by omega
    refine ⟨i, l1, hin i y hi l2 l3 l4 hm, ?_, ?_⟩
    · rw [ab_ten_kd hi]; exact l2
    · rw [ab_ten_var hi]; exact l4
end
section
/-! the run of a proof, in lists -/
abbrev rn_E : Type := List Nat × List Nat × Nat
abbrev rn_T : Type := rn_E × Nat
def rn_xs (E : List rn_E) : List Nat := E.flatMap (fun e => e.2.1)
def rn_ws (E : List rn_E) : List (List Nat) := E.map (fun e => e.1)
def rn_mx : List rn_E → Nat
  | [] => 0
  | e :: r => max e.2.2 (1 + rn_mx r)
def rn_pk (E : List rn_E) : Nat := max 1 (rn_mx E)
def rn_acc : Nat → List rn_E → Nat → Nat
  | _, [], a => a
  | i, e :: r, a => rn_acc (i + 1) r (if i + e.2.2 ≤ a then a else i + e.2.2)
theorem rn_acc_eq : ∀ (r : List rn_E) (i a : Nat), (∀ e, e ∈ r → 1 ≤ e.2.2) → rn_acc i r a = max a (if r.length = 0 then 0 else i + rn_mx r) := by
  intro r
  induction r with
  | nil => intro i a _; show a = max a 0; omega
  | cons e r ih =>
    intro i a h
    have h1 := h e (List.mem_cons_self)
    show rn_acc (i + 1) r (if i + e.2.2 ≤ a then a else i + e.2.2) = max a (if (e :: r).length = 0 then 0 else i + max e.2.2 (1 + rn_mx r))
    have hne : ¬ (e :: r).length = 0 := by rw [List.length_cons]; omega
    rw [ih (i + 1) _ (fun e' he' => h e' (List.mem_cons_of_mem _ he')), if_neg hne]
    cases r with
    | nil =>
      have h0 : ([] : List rn_E).length = 0 := rfl
      rw [if_pos h0]
      show max (if i + e.2.2 ≤ a then a else i + e.2.2) 0 = max a (i + max e.2.2 (1 + 0))
      split <;> omega
    | cons e2 r2 =>
      have hne2 : ¬ (e2 :: r2).length = 0 := by rw [List.length_cons]; omega
      rw [if_neg hne2]
      generalize rn_mx (e2 :: r2) = z
      split <;> omega
theorem rn_acc_pk {E : List rn_E} (h : ∀ e, e ∈ E → 1 ≤ e.2.2) : rn_acc 0 E 1 = rn_pk E := by
  rw [rn_acc_eq E 0 1 h]
  unfold rn_pk
  cases E with
  | nil => rfl
  | cons e r =>
    have hne : ¬ (e :: r).length = 0 := by rw [List.length_cons]; omega
    rw [if_neg hne, Nat.zero_add]
def rn_sbs (C : Nat) (σ : Nat → List Nat) (l : List Nat) : List Nat := l.flatMap (fun y => if y < C then [y] else σ y)
def rn_mt (C : Nat) (kd : Nat → Nat) (sg : Nat → List Nat) : List Nat → List (List Nat) → (Nat → List Nat) → Option (Nat → List Nat)
  | [], _, σ => some σ
  | _ :: _, [], _ => none
  | j :: js, w :: ws, σ =>
    if kd j = 1 then
      (if w.getD 0 0 = (sg j).getD 0 0 then rn_mt C kd sg js ws (fun s => if s = (sg j).getD 1 0 then w.tail else σ s) else none)
    else if rn_sbs C σ (sg j) = w then rn_mt C kd sg js ws σ else none
def rn_apart (C : Nat) (pl : Nat → Nat → Nat) (l m : List Nat) : Bool := l.all (fun y => m.all (fun z => decide (y < C) || (decide (z < C) || decide (pl y z ≠ 0))))
def rn_dj (c : ab_W) (x : Nat) (σ : Nat → List Nat) : Bool := (List.range (c.C + c.V)).all (fun s => (List.range (c.C + c.V)).all (fun t => !(decide (c.C ≤ s) && (decide (s < t) && c.fp x s t)) || rn_apart c.C c.pl (σ s) (σ t)))
theorem rn_apart_i {C : Nat} {pl : Nat → Nat → Nat} {l m : List Nat} : rn_apart C pl l m = true ↔ ∀ y, y ∈ l → ∀ z, z ∈ m → C ≤ y → C ≤ z → pl y z ≠ 0 := by
  unfold rn_apart
  rw [List.all_eq_true]
  constructor
  · intro h y hy z hz h1 h2
    have := h y hy
    rw [List.all_eq_true] at this
    have := this z hz
    rw [Bool.or_eq_true, Bool.or_eq_true, decide_eq_true_iff, decide_eq_true_iff, decide_eq_true_iff] at this
    omega
  · intro h y hy
    rw [List.all_eq_true]
    intro z hz
    rw [Bool.or_eq_true, Bool.or_eq_true, decide_eq_true_iff, decide_eq_true_iff, decide_eq_true_iff]
    have := h y hy z hz
    omega
theorem rn_dj_i {c : ab_W} {x : Nat} {σ : Nat → List Nat} : rn_dj c x σ = true ↔ ∀ s t, s < c.C + c.V → t < c.C + c.V → c.C ≤ s → s < t → c.fp x s t = true → rn_apart c.C c.pl (σ s) (σ t) = true := by
  unfold rn_dj
  rw [List.all_eq_true]
  constructor
  · intro h s t h1 h2 h3 h4 h5
    have := h s (List.mem_range.mpr h1)
    rw [List.all_eq_true] at this
    have := this t (List.mem_range.mpr h2)
    rw [decide_eq_true h3, decide_eq_true h4, h5] at this
    simpa using this
  · intro h s hs
    rw [List.all_eq_true]
    intro t ht
    rw [Bool.or_eq_true]
    by_cases q : (decide (c.C ≤ s) && (decide (s < t) && c.fp x s t)) = true
    · right
      rw [Bool.and_eq_true, Bool.and_eq_true, decide_eq_true_iff, decide_eq_true_iff] at q
      exact h s t (List.mem_range.mp hs) (List.mem_range.mp ht) q.1 q.2.1 q.2.2
    · left
      rw [Bool.not_eq_true] at q
      rw [q]; rfl
def rn_asr (c : ab_W) (x : Nat) (ws : List (List Nat)) : Except Int32 (List Nat) :=
  match rn_mt c.C c.kd c.sg (c.hs x) ws (fun _ => []) with
  | none => .error (-16)
  | some σ => if rn_dj c x σ = true then (if (rn_sbs c.C σ (c.sg x)).length ≤ 16 then .ok (rn_sbs c.C σ (c.sg x)) else .error (-18)) else .error (-17)
theorem rn_asr_n {c : ab_W} {x : Nat} {ws : List (List Nat)} (h : rn_mt c.C c.kd c.sg (c.hs x) ws (fun _ => []) = none) : rn_asr c x ws = .error (-16) := by
  unfold rn_asr; rw [h]
theorem rn_asr_d {c : ab_W} {x : Nat} {ws : List (List Nat)} {σ : Nat → List Nat} (h : rn_mt c.C c.kd c.sg (c.hs x) ws (fun _ => []) = some σ) (h2 : rn_dj c x σ = false) : rn_asr c x ws = .error (-17) := by
  unfold rn_asr; rw [h]; dsimp only; rw [h2]; rfl
theorem rn_asr_l {c : ab_W} {x : Nat} {ws : List (List Nat)} {σ : Nat → List Nat} (h : rn_mt c.C c.kd c.sg (c.hs x) ws (fun _ => []) = some σ) (h2 : rn_dj c x σ = true) (h3 : 16 < (rn_sbs c.C σ (c.sg x)).length) : rn_asr c x ws = .error (-18) := by
  unfold rn_asr; rw [h]; dsimp only; rw [if_pos h2, if_neg (by omega)]
theorem rn_asr_o {c : ab_W} {x : Nat} {ws : List (List Nat)} {σ : Nat → List Nat} (h : rn_mt c.C c.kd c.sg (c.hs x) ws (fun _ => []) = some σ) (h2 : rn_dj c x σ = true) (h3 : (rn_sbs c.C σ (c.sg x)).length ≤ 16) : rn_asr c x ws = .ok (rn_sbs c.C σ (c.sg x)) := by
  unfold rn_asr; rw [h]; dsimp only; rw [if_pos h2, if_pos h3]
theorem rn_asr_ne {c : ab_W} {x : Nat} {ws : List (List Nat)} {e : Int32} (h : rn_asr c x ws = .error e) : e ≠ 0 := by
  cases hm : rn_mt c.C c.kd c.sg (c.hs x) ws (fun _ => []) with
  | none => rw [rn_asr_n hm] at h; cases h; decide
  | some σ =>
    by_cases h2 : rn_dj c x σ = true
    · by_cases h3 : (rn_sbs c.C σ (c.sg x)).length ≤ 16
      · rw [rn_asr_o hm h2 h3] at h; cases h
      · rw [rn_asr_l hm h2 (by omega)] at h; cases h; decide
    · rw [rn_asr_d hm (Bool.not_eq_true _ ▸ h2)] at h; cases h; decide
theorem rn_asr_ok {c : ab_W} {x : Nat} {ws : List (List Nat)} {w : List Nat} (h : rn_asr c x ws = .ok w) : ∃ σ, rn_mt c.C c.kd c.sg (c.hs x) ws (fun _ => []) = some σ ∧ rn_dj c x σ = true ∧ w = rn_sbs c.C σ (c.sg x) ∧ w.length ≤ 16 := by
  cases hm : rn_mt c.C c.kd c.sg (c.hs x) ws (fun _ => []) with
  | none => rw [rn_asr_n hm] at h; cases h
  | some σ =>
    by_cases h2 : rn_dj c x σ = true
    · by_cases h3 : (rn_sbs c.C σ (c.sg x)).length ≤ 16
      · rw [rn_asr_o hm h2 h3] at h; cases h; exact ⟨σ, rfl, h2, rfl, h3⟩
      · rw [rn_asr_l hm h2 (by omega)] at h; cases h
    · rw [rn_asr_d hm (Bool.not_eq_true _ ▸ h2)] at h; cases h
/-- one label over a stack of strings -/
def rn_stp (c : ab_W) (x : Nat) (s : List (List Nat)) : Except Int32 (List (List Nat)) :=
  if c.kd x ≤ 2 then (if c.ca x = 0 then (if s.length < c.H then .ok (s ++ [c.sg x]) else .error (-14)) else .error (-13))
  else if (c.hs x).length ≤ s.length then
    match rn_asr c x (s.drop (s.length - (c.hs x).length)) with
    | .error e => .error e
    | .ok w => if s.length - (c.hs x).length < c.H then .ok (s.take (s.length - (c.hs x).length) ++ [w]) else .error (-14)
  else .error (-15)
def rn_row (c : ab_W) : List Nat → List (List Nat) → Except Int32 (List (List Nat))
  | [], s => .ok s
  | x :: r, s => match rn_stp c x s with
    | .error e => .error e
    | .ok t => rn_row c r t
theorem rn_row_e {c : ab_W} {x : Nat} {r : List Nat} {s : List (List Nat)} {e : Int32} (h : rn_stp c x s = .error e) : rn_row c (x :: r) s = .error e := by
  unfold rn_row; rw [h]
theorem rn_row_o {c : ab_W} {x : Nat} {r : List Nat} {s t : List (List Nat)} (h : rn_stp c x s = .ok t) : rn_row c (x :: r) s = rn_row c r t := by
  conv => lhs; unfold rn_row
  rw [h]
theorem rn_row_ae {c : ab_W} : ∀ (r1 r2 : List Nat) (s : List (List Nat)) (e : Int32), rn_row c r1 s = .error e → rn_row c (r1 ++ r2) s = .error e := by
  intro r1
  induction r1 with
  | nil => intro r2 s e h; cases h
  | cons x r1 ih =>
    intro r2 s e h
    cases hs : rn_stp c x s with
    | error e' =>
      rw [rn_row_e hs] at h
      cases h
      exact rn_row_e hs
    | ok t =>
      rw [rn_row_o hs] at h
      rw [List.cons_append, rn_row_o hs]
      exact ih r2 t e h
theorem rn_row_ao {c : ab_W} : ∀ (r1 r2 : List Nat) (s t : List (List Nat)), rn_row c r1 s = .ok t → rn_row c (r1 ++ r2) s = rn_row c r2 t := by
  intro r1
  induction r1 with
  | nil => intro r2 s t h; cases h; rfl
  | cons x r1 ih =>
    intro r2 s t h
    cases hs : rn_stp c x s with
    | error e' => rw [rn_row_e hs] at h; cases h
    | ok t' =>
      rw [rn_row_o hs] at h
      rw [List.cons_append, rn_row_o hs]
      exact ih r2 t' t h
theorem rn_row_1 {c : ab_W} {x : Nat} {s : List (List Nat)} : rn_row c [x] s = rn_stp c x s := by
  cases hs : rn_stp c x s with
  | error e => rw [rn_row_e hs]
  | ok t => rw [rn_row_o hs]; rfl
/-- the row, run again on any stack, pushes w, and needs p places -/
def rn_Rep (c : ab_W) (row w : List Nat) (p : Nat) : Prop := ∀ s : List (List Nat), s.length ≤ c.H → (s.length + p ≤ c.H → rn_row c row s = .ok (s ++ [w])) ∧ (c.H < s.length + p → rn_row c row s = .error (-14))
theorem rn_rep_hyp {c : ab_W} {x : Nat} (h : c.kd x ≤ 2) (h2 : c.ca x = 0) : rn_Rep c [x] (c.sg x) 1 := by
  intro s hs
  rw [rn_row_1]
  unfold rn_stp
  rw [if_pos h, if_pos h2]
  constructor
  · intro h3; rw [if_pos (by omega)]
  · intro h3; rw [if_neg (by omega)]
theorem rn_rows {c : ab_W} : ∀ (D : List rn_E) (s : List (List Nat)), (∀ e, e ∈ D → rn_Rep c e.2.1 e.1 e.2.2 ∧ 1 ≤ e.2.2) → s.length ≤ c.H → (s.length + rn_mx D ≤ c.H → rn_row c (rn_xs D) s = .ok (s ++ rn_ws D)) ∧ (c.H < s.length + rn_mx D → rn_row c (rn_xs D) s = .error (-14)) := by
  intro D
  induction D with
  | nil =>
    intro s _ hs
    refine ⟨fun _ => ?_, fun h => ?_⟩
    · show Except.ok s = Except.ok (s ++ [])
      rw [List.append_nil]
    · exfalso
      have h : c.H < s.length + 0 := h
      omega
  | cons e D ih =>
    intro s hD hs
    obtain ⟨hr, hp⟩ := hD e List.mem_cons_self
    have hr := hr s hs
    have hD' : ∀ e', e' ∈ D → rn_Rep c e'.2.1 e'.1 e'.2.2 ∧ 1 ≤ e'.2.2 := fun e' he' => hD e' (List.mem_cons_of_mem _ he')
    have ex : rn_xs (e :: D) = e.2.1 ++ rn_xs D := rfl
    have ew : s ++ rn_ws (e :: D) = (s ++ [e.1]) ++ rn_ws D := by
      show s ++ (e.1 :: rn_ws D) = _
      rw [List.append_assoc]; rfl
    have em : rn_mx (e :: D) = max e.2.2 (1 + rn_mx D) := rfl
    have hl : (s ++ [e.1]).length = s.length + 1 := by rw [List.length_append]; rfl
    rw [ex, ew, em]
    by_cases q : s.length + e.2.2 ≤ c.H
    · have h1 := hr.1 q
      rw [rn_row_ao _ _ _ _ h1]
      have h2 := ih (s ++ [e.1]) hD' (by omega)
      rw [hl] at h2
      exact ⟨fun h => h2.1 (by omega), fun h => h2.2 (by omega)⟩
    · refine ⟨fun h => ?_, fun h => ?_⟩
      · exfalso; omega
      · exact rn_row_ae _ _ _ _ (hr.2 (by omega))
theorem rn_ws_len {E : List rn_E} : (rn_ws E).length = E.length := by unfold rn_ws; rw [List.length_map]
theorem rn_rep_asr {c : ab_W} {x : Nat} {w : List Nat} {D : List rn_E} (hx : ¬ c.kd x ≤ 2) (hq : (c.hs x).length = D.length) (hD : ∀ e, e ∈ D → rn_Rep c e.2.1 e.1 e.2.2 ∧ 1 ≤ e.2.2) (ha : rn_asr c x (rn_ws D) = .ok w) : rn_Rep c (rn_xs D ++ [x]) w (rn_pk D) := by
  intro s hs
  have hr := rn_rows D s hD hs
  unfold rn_pk
  by_cases q : s.length + rn_mx D ≤ c.H
  · rw [rn_row_ao _ _ _ _ (hr.1 q), rn_row_1]
    unfold rn_stp
    have hl : (s ++ rn_ws D).length - (c.hs x).length = s.length := by rw [List.length_append, rn_ws_len, hq]; omega
    rw [if_neg hx, if_pos (by rw [List.length_append, rn_ws_len]; omega), hl, List.drop_left, ha]
    dsimp only
    rw [List.take_left]
    constructor
    · intro h; rw [if_pos (by omega)]
    · intro h; rw [if_neg (by omega)]
  · constructor
    · intro h; exfalso; omega
    · intro h; exact rn_row_ae _ _ _ _ (hr.2 (by omega))
/-- how many labels, read backwards, account for n entries -/
def rn_scan (c : ab_W) : List Nat → Nat → Nat
  | [], _ => 0
  | a :: l, n => if n = 0 then 0 else 1 + rn_scan c l (n - 1 + c.q a)
def rn_Bal (c : ab_W) (row : List Nat) : Prop := ∀ (k : Nat) (Z : List Nat), rn_scan c (row.reverse ++ Z) (k + 1) = row.length + rn_scan c Z k
theorem rn_scan_0 {c : ab_W} (l : List Nat) : rn_scan c l 0 = 0 := by
  cases l with
  | nil => rfl
  | cons a l => exact if_pos rfl
theorem rn_scan_s {c : ab_W} (a : Nat) (l : List Nat) (n : Nat) : rn_scan c (a :: l) (n + 1) = 1 + rn_scan c l (n + c.q a) := by
  show (if n + 1 = 0 then 0 else 1 + rn_scan c l (n + 1 - 1 + c.q a)) = _
  rw [if_neg (by omega), Nat.add_sub_cancel]
theorem rn_bal_hyp {c : ab_W} {x : Nat} (h : c.kd x ≤ 2) : rn_Bal c [x] := by
  intro k Z
  show rn_scan c (x :: Z) (k + 1) = 1 + rn_scan c Z k
  rw [rn_scan_s]
  unfold ab_W.q
  rw [if_pos h, Nat.add_zero]
theorem rn_bals {c : ab_W} : ∀ (D : List rn_E) (k : Nat) (Z : List Nat), (∀ e, e ∈ D → rn_Bal c e.2.1) → rn_scan c ((rn_xs D).reverse ++ Z) (k + D.length) = (rn_xs D).length + rn_scan c Z k := by
  intro D
  induction D with
  | nil => intro k Z _; show rn_scan c Z (k + 0) = 0 + rn_scan c Z k; rw [Nat.zero_add, Nat.add_zero]
  | cons e D ih =>
    intro k Z h
    have ex : rn_xs (e :: D) = e.2.1 ++ rn_xs D := rfl
    rw [ex, List.reverse_append, List.append_assoc, List.length_cons, show k + (D.length + 1) = (k + 1) + D.length by omega, ih (k + 1) _ (fun e' he' => h e' (List.mem_cons_of_mem _ he')), h e List.mem_cons_self k Z, List.length_append]
    omega
theorem rn_bal_asr {c : ab_W} {x : Nat} {D : List rn_E} (hx : ¬ c.kd x ≤ 2) (hq : (c.hs x).length = D.length) (h : ∀ e, e ∈ D → rn_Bal c e.2.1) : rn_Bal c (rn_xs D ++ [x]) := by
  intro k Z
  rw [List.reverse_append]
  show rn_scan c (x :: ((rn_xs D).reverse ++ Z)) (k + 1) = _
  rw [rn_scan_s, show c.q x = D.length by unfold ab_W.q; rw [if_neg hx, hq], rn_bals D k Z h, List.length_append, List.length_singleton]
  omega
end
section
/-! the checking machine over entries (string, row, peak), its invariant -/
theorem rn_xs_app {A B : List rn_E} : rn_xs (A ++ B) = rn_xs A ++ rn_xs B := List.flatMap_append
theorem rn_xs_one {e : rn_E} : rn_xs [e] = e.2.1 := by
  show e.2.1 ++ [] = e.2.1
  rw [List.append_nil]
theorem rn_xs_td {E : List rn_E} (b : Nat) : rn_xs (E.take b) ++ rn_xs (E.drop b) = rn_xs E := by rw [← rn_xs_app, List.take_append_drop]
theorem rn_ws_app {A B : List rn_E} : rn_ws (A ++ B) = rn_ws A ++ rn_ws B := List.map_append
def rn_psh (c : ab_W) (x : Nat) (E : List rn_E) : Except Int32 (List rn_E) :=
  if c.kd x ≤ 2 then (if c.ca x = 0 then (if E.length < c.H then .ok (E ++ [(c.sg x, [x], 1)]) else .error (-14)) else .error (-13))
  else if (c.hs x).length ≤ E.length then
    match rn_asr c x (rn_ws (E.drop (E.length - (c.hs x).length))) with
    | .error e => .error e
    | .ok w => if E.length - (c.hs x).length < c.H then .ok (E.take (E.length - (c.hs x).length) ++ [(w, rn_xs (E.drop (E.length - (c.hs x).length)) ++ [x], rn_pk (E.drop (E.length - (c.hs x).length)))]) else .error (-14)
  else .error (-15)
theorem rn_psh_stp {c : ab_W} {x : Nat} {E : List rn_E} : rn_stp c x (rn_ws E) = Except.map rn_ws (rn_psh c x E) := by
  unfold rn_stp rn_psh
  rw [rn_ws_len]
  by_cases h : c.kd x ≤ 2
  · rw [if_pos h, if_pos h]
    by_cases h2 : c.ca x = 0
    · rw [if_pos h2, if_pos h2]
      by_cases h3 : E.length < c.H
      · rw [if_pos h3, if_pos h3]
        show Except.ok (rn_ws E ++ [c.sg x]) = Except.ok (rn_ws (E ++ [(c.sg x, [x], 1)]))
        rw [rn_ws_app]; rfl
      · rw [if_neg h3, if_neg h3]; rfl
    · rw [if_neg h2, if_neg h2]; rfl
  · rw [if_neg h, if_neg h]
    by_cases h2 : (c.hs x).length ≤ E.length
    · rw [if_pos h2, if_pos h2]
      have e : (rn_ws E).drop (E.length - (c.hs x).length) = rn_ws (E.drop (E.length - (c.hs x).length)) := by unfold rn_ws; rw [List.map_drop]
      have e2 : (rn_ws E).take (E.length - (c.hs x).length) = rn_ws (E.take (E.length - (c.hs x).length)) := by unfold rn_ws; rw [List.map_take]
      rw [e, e2]
      cases rn_asr c x (rn_ws (E.drop (E.length - (c.hs x).length))) with
      | error e => rfl
      | ok w =>
        dsimp only
        by_cases h3 : E.length - (c.hs x).length < c.H
        · rw [if_pos h3, if_pos h3]
          show Except.ok _ = Except.ok (rn_ws (_ ++ _))
          rw [rn_ws_app]; rfl
        · rw [if_neg h3, if_neg h3]; rfl
    · rw [if_neg h2, if_neg h2]; rfl
theorem rn_psh_er {c : ab_W} {x : Nat} {E : List rn_E} {e : Int32} (h : rn_psh c x E = .error e) : e ≠ 0 ∧ rn_stp c x (rn_ws E) = .error e := by
  refine ⟨?_, by rw [rn_psh_stp, h]; rfl⟩
  unfold rn_psh at h
  by_cases h1 : c.kd x ≤ 2
  · rw [if_pos h1] at h
    by_cases h2 : c.ca x = 0
    · rw [if_pos h2] at h
      by_cases h3 : E.length < c.H
      · rw [if_pos h3] at h; cases h
      · rw [if_neg h3] at h; cases h; decide
    · rw [if_neg h2] at h; cases h; decide
  · rw [if_neg h1] at h
    by_cases h2 : (c.hs x).length ≤ E.length
    · rw [if_pos h2] at h
      cases ha : rn_asr c x (rn_ws (E.drop (E.length - (c.hs x).length))) with
      | error e' => rw [ha] at h; cases h; exact rn_asr_ne ha
      | ok w =>
        rw [ha] at h
        dsimp only at h
        by_cases h3 : E.length - (c.hs x).length < c.H
        · rw [if_pos h3] at h; cases h
        · rw [if_neg h3] at h; cases h; decide
    · rw [if_neg h2] at h; cases h; decide
def rn_gd (c : ab_W) (e : rn_E) : Prop := rn_Rep c e.2.1 e.1 e.2.2 ∧ rn_Bal c e.2.1 ∧ 1 ≤ e.2.2 ∧ 1 ≤ e.1.length ∧ e.1.length ≤ 16 ∧ (∀ y, y ∈ e.1 → y < c.C + c.V) ∧ (∀ y, y ∈ e.2.1 → y < c.N)
def rn_ix (H : Nat) : Nat → List rn_E → Prop
  | _, [] => True
  | i, e :: r => i + e.2.2 ≤ H ∧ rn_ix H (i + 1) r
theorem rn_ix_app {H : Nat} : ∀ (A B : List rn_E) (i : Nat), rn_ix H i (A ++ B) ↔ rn_ix H i A ∧ rn_ix H (i + A.length) B := by
  intro A
  induction A with
  | nil => intro B i; exact ⟨fun h => ⟨trivial, h⟩, fun h => h.2⟩
  | cons e A ih =>
    intro B i
    show i + e.2.2 ≤ H ∧ rn_ix H (i + 1) (A ++ B) ↔ (i + e.2.2 ≤ H ∧ rn_ix H (i + 1) A) ∧ rn_ix H (i + (A.length + 1)) B
    rw [ih B (i + 1), and_assoc, show i + 1 + A.length = i + (A.length + 1) by omega]
theorem rn_mx_le {H : Nat} : ∀ (D : List rn_E) (b : Nat), rn_ix H b D → b ≤ H → (∀ e, e ∈ D → 1 ≤ e.2.2) → b + rn_mx D ≤ H := by
  intro D
  induction D with
  | nil => intro b _ h _; exact h
  | cons e D ih =>
    intro b h1 h2 h3
    have hp := h3 e List.mem_cons_self
    have := ih (b + 1) h1.2 (by have := h1.1; omega) (fun e' he' => h3 e' (List.mem_cons_of_mem _ he'))
    have h4 := h1.1
    show b + max e.2.2 (1 + rn_mx D) ≤ H
    omega
def rn_GE (c : ab_W) (E : List rn_E) : Prop := (∀ e, e ∈ E → rn_gd c e) ∧ rn_ix c.H 0 E ∧ E.length ≤ c.H ∧ (rn_xs E).length ≤ c.P
theorem rn_mt_lt {C : Nat} {kd : Nat → Nat} {sg : Nat → List Nat} {B : Nat} : ∀ (js : List Nat) (ws : List (List Nat)) (σ σ' : Nat → List Nat), (∀ w, w ∈ ws → ∀ y, y ∈ w → y < B) → (∀ s y, y ∈ σ s → y < B) → rn_mt C kd sg js ws σ = some σ' → ∀ s y, y ∈ σ' s → y < B := by
  intro js
  induction js with
  | nil =>
    intro ws σ σ' _ h2 h
    have : σ = σ' := by simpa [rn_mt] using h
    rw [← this]; exact h2
  | cons j js ih =>
    intro ws σ σ' h1 h2 h
    cases ws with
    | nil => simp [rn_mt] at h
    | cons w ws =>
      have h1' : ∀ w', w' ∈ ws → ∀ y, y ∈ w' → y < B := fun w' hw' => h1 w' (List.mem_cons_of_mem _ hw')
      simp only [rn_mt] at h
      by_cases q : kd j = 1
      · rw [if_pos q] at h
        by_cases q2 : w.getD 0 0 = (sg j).getD 0 0
        · rw [if_pos q2] at h
          refine ih ws _ σ' h1' ?_ h
          intro s y hy
          by_cases q3 : s = (sg j).getD 1 0
          · rw [if_pos q3] at hy
            exact h1 w List.mem_cons_self y (List.mem_of_mem_tail hy)
          · rw [if_neg q3] at hy
            exact h2 s y hy
        · rw [if_neg q2] at h; cases h
      · rw [if_neg q] at h
        by_cases q2 : rn_sbs C σ (sg j) = w
        · rw [if_pos q2] at h
          exact ih ws σ σ' h1' h2 h
        · rw [if_neg q2] at h; cases h
theorem rn_asr_str {c : ab_W} {x : Nat} {ws : List (List Nat)} {w : List Nat} (hI : ab_I c) (hx : x < c.N) (hw : ∀ w, w ∈ ws → ∀ y, y ∈ w → y < c.C + c.V) (h : rn_asr c x ws = .ok w) : 1 ≤ w.length ∧ w.length ≤ 16 ∧ ∀ y, y ∈ w → y < c.C + c.V := by
  obtain ⟨σ, h1, _, h3, h4⟩ := rn_asr_ok h
  obtain ⟨_, _, k3, _, k5, k6, _, _⟩ := hI.2.2.1 x hx
  have hs := rn_mt_lt _ _ _ _ hw (fun s y hy => absurd hy (List.not_mem_nil)) h1
  refine ⟨?_, h4, ?_⟩
  · rw [h3]
    cases hg : c.sg x with
    | nil => rw [hg] at k3; exact absurd k3 (by decide)
    | cons a l =>
      rw [hg] at k5
      have k5 : a < c.C := k5
      show 1 ≤ ((if a < c.C then [a] else σ a) ++ rn_sbs c.C σ l).length
      rw [if_pos k5, List.length_append, List.length_singleton]
      omega
  · intro y hy
    rw [h3] at hy
    unfold rn_sbs at hy
    rw [List.mem_flatMap] at hy
    obtain ⟨a, ha, hy⟩ := hy
    by_cases q : a < c.C
    · rw [if_pos q, List.mem_singleton] at hy
      rw [hy]; exact k6 a ha
    · rw [if_neg q] at hy
      exact hs a y hy
theorem rn_psh_ok {c : ab_W} {x : Nat} {E E' : List rn_E} (hI : ab_I c) (hx : x < c.N) (hG : rn_GE c E) (hP : (rn_xs E).length + 1 ≤ c.P) (h : rn_psh c x E = .ok E') : rn_GE c E' ∧ rn_xs E' = rn_xs E ++ [x] ∧ 1 ≤ E'.length ∧ rn_stp c x (rn_ws E) = .ok (rn_ws E') := by
  obtain ⟨g1, g2, g3, g4⟩ := hG
  have ho := hI.2.2.1 x hx
  have key : rn_GE c E' ∧ rn_xs E' = rn_xs E ++ [x] ∧ 1 ≤ E'.length := by
    unfold rn_psh at h
    by_cases h1 : c.kd x ≤ 2
    · rw [if_pos h1] at h
      by_cases h2 : c.ca x = 0
      · rw [if_pos h2] at h
        by_cases h3 : E.length < c.H
        · rw [if_pos h3] at h
          cases h
          have ex : rn_xs (E ++ [(c.sg x, [x], 1)]) = rn_xs E ++ [x] := by rw [rn_xs_app, rn_xs_one]
          refine ⟨⟨?_, ?_, ?_, ?_⟩, ex, ?_⟩
          · intro e he
            rcases List.mem_append.mp he with he | he
            · exact g1 e he
            · rw [List.mem_singleton] at he
              subst he
              refine ⟨rn_rep_hyp h1 h2, rn_bal_hyp h1, Nat.le_refl 1, ho.2.2.1, Nat.le_trans ho.2.2.2.1 (by decide), ho.2.2.2.2.2.1, ?_⟩
              intro y hy
              have hy : y ∈ [x] := hy
              rw [List.mem_singleton] at hy
              rw [hy]; exact hx
          · rw [rn_ix_app]
            refine ⟨g2, ?_, trivial⟩
            show 0 + E.length + 1 ≤ c.H
            omega
          · rw [List.length_append, List.length_singleton]; exact h3
          · rw [ex, List.length_append, List.length_singleton]; exact hP
          · rw [List.length_append, List.length_singleton]; omega
        · rw [if_neg h3] at h; cases h
      · rw [if_neg h2] at h; cases h
    · rw [if_neg h1] at h
      by_cases h2 : (c.hs x).length ≤ E.length
      · rw [if_pos h2] at h
        cases ha : rn_asr c x (rn_ws (E.drop (E.length - (c.hs x).length))) with
        | error e' => rw [ha] at h; cases h
        | ok w =>
          rw [ha] at h
          dsimp only at h
          by_cases h3 : E.length - (c.hs x).length < c.H
          · rw [if_pos h3] at h
            have hq : (c.hs x).length = (E.drop (E.length - (c.hs x).length)).length := by rw [List.length_drop]; omega
            have hb : (E.take (E.length - (c.hs x).length)).length = E.length - (c.hs x).length := by rw [List.length_take]; omega
            have htd := rn_xs_td (E := E) (E.length - (c.hs x).length)
            have hix := g2
            rw [← List.take_append_drop (E.length - (c.hs x).length) E, rn_ix_app, hb, Nat.zero_add] at hix
            generalize hD : E.drop (E.length - (c.hs x).length) = D at *
            generalize hA : E.take (E.length - (c.hs x).length) = A at *
            generalize hbb : E.length - (c.hs x).length = b at *
            have mD : ∀ e, e ∈ D → e ∈ E := fun e he => by rw [← hD] at he; exact List.mem_of_mem_drop he
            have mA : ∀ e, e ∈ A → e ∈ E := fun e he => by rw [← hA] at he; exact List.mem_of_mem_take he
            cases h
            have ex : rn_xs (A ++ [(w, rn_xs D ++ [x], rn_pk D)]) = rn_xs E ++ [x] := by
              rw [rn_xs_app, rn_xs_one, ← htd, List.append_assoc]
            have hstr := rn_asr_str hI hx (fun w' hw' y hy => by
              unfold rn_ws at hw'
              obtain ⟨e, he, rfl⟩ := List.mem_map.mp hw'
              exact (g1 e (mD e he)).2.2.2.2.2.1 y hy) ha
            have hpk : b + rn_pk D ≤ c.H := by
              have := rn_mx_le D b hix.2 (by omega) (fun e he => (g1 e (mD e he)).2.2.1)
              unfold rn_pk; omega
            refine ⟨⟨?_, ?_, ?_, ?_⟩, ex, ?_⟩
            · intro e he
              rcases List.mem_append.mp he with he | he
              · exact g1 e (mA e he)
              · rw [List.mem_singleton] at he
                subst he
                refine ⟨rn_rep_asr h1 hq (fun e he => ⟨(g1 e (mD e he)).1, (g1 e (mD e he)).2.2.1⟩) ha, rn_bal_asr h1 hq (fun e he => (g1 e (mD e he)).2.1), ?_, hstr.1, hstr.2.1, hstr.2.2, ?_⟩
                · show 1 ≤ rn_pk D
                  unfold rn_pk; omega
                · intro y hy
                  rcases List.mem_append.mp hy with hy | hy
                  · unfold rn_xs at hy
                    obtain ⟨e, he, hy⟩ := List.mem_flatMap.mp hy
                    exact (g1 e (mD e he)).2.2.2.2.2.2 y hy
                  · rw [List.mem_singleton] at hy
                    rw [hy]; exact hx
            · rw [rn_ix_app]
              refine ⟨hix.1, ?_, trivial⟩
              show 0 + A.length + rn_pk D ≤ c.H
              omega
            · rw [List.length_append, List.length_singleton, hb]; exact h3
            · rw [ex, List.length_append, List.length_singleton]; exact hP
            · rw [List.length_append, List.length_singleton]; omega
          · rw [if_neg h3] at h; cases h
      · rw [if_neg h2] at h; cases h
  exact ⟨key.1, key.2.1, key.2.2, by rw [rn_psh_stp, h]; rfl⟩
def rn_tkl (c : ab_W) (x : Nat) (E : List rn_E) : Except Int32 (List rn_E) := if (rn_xs E).length + 1 ≤ c.P then rn_psh c x E else .error (-12)
def rn_tkt (c : ab_W) (t : rn_T) (E : List rn_E) : Except Int32 (List rn_E) := if (rn_xs E).length + t.1.2.1.length ≤ c.P then (if E.length + t.1.2.2 ≤ c.H then .ok (E ++ [t.1]) else .error (-14)) else .error (-12)
def rn_num (c : ab_W) (k : Nat) (E : List rn_E) (T : List rn_T) : Except Int32 (List rn_E) :=
  if k ≤ (c.hs c.N).length then rn_tkl c ((c.hs c.N).getD (k - 1) 0) E
  else if k ≤ (c.hs c.N).length + c.ll.length then rn_tkl c (c.ll.getD (k - (c.hs c.N).length - 1) 0) E
  else match T[k - (c.hs c.N).length - c.ll.length - 1]? with
    | none => .error (-11)
    | some t => rn_tkt c t E
def rn_tag (E : List rn_E) : rn_T := (E.getLastD ([], [], 0), (rn_xs E).length - (E.getLastD ([], [], 0)).2.1.length)
def rn_cmp (c : ab_W) : List Nat → Nat → Bool → List rn_E → List rn_T → Except Int32 (List rn_E)
  | [], n, _, E, _ => if n = 0 then .ok E else .error (-11)
  | a :: l, n, b, E, T =>
    if a = 90 then (if b = true then rn_cmp c l n false E (T ++ [rn_tag E]) else .error (-11))
    else if a < 85 then (match rn_num c (20 * n + (a - 64)) E T with
      | .error e => .error e
      | .ok E' => rn_cmp c l 0 true E' T)
    else if 5 * n + (a - 84) ≤ 99 then rn_cmp c l (5 * n + (a - 84)) false E T else .error (-11)
def rn_nrm (c : ab_W) : List Nat → List rn_E → Except Int32 (List rn_E)
  | [], E => .ok E
  | x :: l, E => match rn_tkl c x E with
    | .error e => .error e
    | .ok E' => rn_nrm c l E'
def rn_end (c : ab_W) (E : List rn_E) : Except Int32 (List rn_E) := if E.length = 1 then (if (rn_ws E).getD 0 [] = c.sl then .ok E else .error (-20)) else .error (-19)
def rn_prf (c : ab_W) : Except Int32 (List rn_E) :=
  match (if c.tl.length = 0 then rn_nrm c c.ll [] else rn_cmp c c.tl 0 false [] []) with
  | .error e => .error e
  | .ok E => rn_end c E
def rn_GT (c : ab_W) (E : List rn_E) (T : List rn_T) : Prop := ∀ t, t ∈ T → rn_gd c t.1 ∧ t.1.2.2 ≤ c.H ∧ ∃ a b, rn_xs E = a ++ (t.1.2.1 ++ b) ∧ a.length = t.2
theorem rn_GT_up {c : ab_W} {E E' : List rn_E} {T : List rn_T} {z : List Nat} (h : rn_GT c E T) (e : rn_xs E' = rn_xs E ++ z) : rn_GT c E' T := by
  intro t ht
  obtain ⟨h1, h2, a, b, h3, h4⟩ := h t ht
  refine ⟨h1, h2, a, b ++ z, ?_, h4⟩
  rw [e, h3, List.append_assoc, List.append_assoc]
theorem rn_tag_c {A : List rn_E} {e : rn_E} : rn_tag (A ++ [e]) = (e, (rn_xs A).length) := by
  unfold rn_tag
  rw [List.getLastD_concat, rn_xs_app, rn_xs_one, List.length_append, Nat.add_sub_cancel]
theorem rn_last {E : List rn_E} (h : 1 ≤ E.length) : ∃ A e, E = A ++ [e] := by
  rcases List.eq_nil_or_concat E with h1 | ⟨A, e, h1⟩
  · rw [h1] at h; exact absurd h (by decide)
  · exact ⟨A, e, by rw [h1, List.concat_eq_append]⟩
theorem rn_GT_tag {c : ab_W} {E : List rn_E} {T : List rn_T} (hG : rn_GE c E) (h : rn_GT c E T) (h1 : 1 ≤ E.length) : rn_GT c E (T ++ [rn_tag E]) := by
  intro t ht
  rcases List.mem_append.mp ht with ht | ht
  · exact h t ht
  · obtain ⟨A, e, rfl⟩ := rn_last h1
    rw [List.mem_singleton, rn_tag_c] at ht
    subst ht
    have hix := hG.2.1
    rw [rn_ix_app] at hix
    have hp : 0 + A.length + e.2.2 ≤ c.H := hix.2.1
    refine ⟨hG.1 e (List.mem_append.mpr (Or.inr (List.mem_singleton.mpr rfl))), ?_, rn_xs A, [], ?_, rfl⟩
    · show e.2.2 ≤ c.H
      omega
    · rw [rn_xs_app, rn_xs_one, List.append_nil]
theorem rn_tkl_ok {c : ab_W} {x : Nat} {E E' : List rn_E} (hI : ab_I c) (hx : x < c.N) (hG : rn_GE c E) (h : rn_tkl c x E = .ok E') : rn_GE c E' ∧ rn_xs E' = rn_xs E ++ [x] ∧ 1 ≤ E'.length ∧ rn_row c [x] (rn_ws E) = .ok (rn_ws E') ∧ (rn_xs E).length + 1 ≤ c.P := by
  unfold rn_tkl at h
  by_cases q : (rn_xs E).length + 1 ≤ c.P
  · rw [if_pos q] at h
    obtain ⟨a, b, d, e⟩ := rn_psh_ok hI hx hG q h
    exact ⟨a, b, d, by rw [rn_row_1]; exact e, q⟩
  · rw [if_neg q] at h; cases h
theorem rn_tkl_er {c : ab_W} {x : Nat} {E : List rn_E} {e : Int32} (h : rn_tkl c x E = .error e) : e ≠ 0 ∧ ((c.P < (rn_xs E).length + 1 ∧ e = -12) ∨ ((rn_xs E).length + 1 ≤ c.P ∧ rn_row c [x] (rn_ws E) = .error e)) := by
  unfold rn_tkl at h
  by_cases q : (rn_xs E).length + 1 ≤ c.P
  · rw [if_pos q] at h
    exact ⟨(rn_psh_er h).1, Or.inr ⟨q, by rw [rn_row_1]; exact (rn_psh_er h).2⟩⟩
  · rw [if_neg q] at h
    cases h
    exact ⟨by decide, Or.inl ⟨by omega, rfl⟩⟩
theorem rn_tkt_ok {c : ab_W} {t : rn_T} {E E' : List rn_E} (hG : rn_GE c E) (ht : rn_gd c t.1) (h : rn_tkt c t E = .ok E') : rn_GE c E' ∧ rn_xs E' = rn_xs E ++ t.1.2.1 ∧ 1 ≤ E'.length ∧ rn_row c t.1.2.1 (rn_ws E) = .ok (rn_ws E') ∧ (rn_xs E).length + t.1.2.1.length ≤ c.P := by
  obtain ⟨g1, g2, g3, g4⟩ := hG
  unfold rn_tkt at h
  by_cases q : (rn_xs E).length + t.1.2.1.length ≤ c.P
  · rw [if_pos q] at h
    by_cases q2 : E.length + t.1.2.2 ≤ c.H
    · rw [if_pos q2] at h
      cases h
      have ex : rn_xs (E ++ [t.1]) = rn_xs E ++ t.1.2.1 := by rw [rn_xs_app, rn_xs_one]
      have hp := ht.2.2.1
      refine ⟨⟨?_, ?_, ?_, ?_⟩, ex, ?_, ?_, q⟩
      · intro e he
        rcases List.mem_append.mp he with he | he
        · exact g1 e he
        · rw [List.mem_singleton] at he
          subst he
          exact ht
      · rw [rn_ix_app]
        refine ⟨g2, ?_, trivial⟩
        rw [Nat.zero_add]; exact q2
      · rw [List.length_append, List.length_singleton]; omega
      · rw [ex, List.length_append]; exact q
      · rw [List.length_append, List.length_singleton]; omega
      · have := (ht.1 (rn_ws E) (by rw [rn_ws_len]; exact g3)).1 (by rw [rn_ws_len]; exact q2)
        rw [this, rn_ws_app]; rfl
    · rw [if_neg q2] at h; cases h
  · rw [if_neg q] at h; cases h
theorem rn_tkt_er {c : ab_W} {t : rn_T} {E : List rn_E} {e : Int32} (hG : rn_GE c E) (ht : rn_gd c t.1) (h : rn_tkt c t E = .error e) : e ≠ 0 ∧ ((c.P < (rn_xs E).length + t.1.2.1.length ∧ e = -12) ∨ ((rn_xs E).length + t.1.2.1.length ≤ c.P ∧ rn_row c t.1.2.1 (rn_ws E) = .error e)) := by
  unfold rn_tkt at h
  by_cases q : (rn_xs E).length + t.1.2.1.length ≤ c.P
  · rw [if_pos q] at h
    by_cases q2 : E.length + t.1.2.2 ≤ c.H
    · rw [if_pos q2] at h; cases h
    · rw [if_neg q2] at h
      cases h
      refine ⟨by decide, Or.inr ⟨q, ?_⟩⟩
      exact (ht.1 (rn_ws E) (by rw [rn_ws_len]; exact hG.2.2.1)).2 (by rw [rn_ws_len]; omega)
  · rw [if_neg q] at h
    cases h
    exact ⟨by decide, Or.inl ⟨by omega, rfl⟩⟩
end
section
/-! the two states against the world -/
theorem rx_el {P : SX → Prop} (h : ∀ (fC fV fH fP fsl fll ftl fpl fN fS fh fe ft fr : Int32) (aSy aLb aLt aPf aGv aKd aLv aLn aVr aSt aHc aHs aPr aRm aTl aAr aPl aSk aEl aEs aEp aEx aTs aTn aTb aTz aTp aAs aAl aAv aRe : Nat → Int32), P (fC, fV, fH, fP, fsl, fll, ftl, fpl, fN, fS, fh, fe, ft, fr, aSy, aLb, aLt, aPf, aGv, aKd, aLv, aLn, aVr, aSt, aHc, aHs, aPr, aRm, aTl, aAr, aPl, aSk, aEl, aEs, aEp, aEx, aTs, aTn, aTb, aTz, aTp, aAs, aAl, aAv, aRe)) (u : SX) : P u := h u.1 u.2.1 u.2.2.1 u.2.2.2.1 u.2.2.2.2.1 u.2.2.2.2.2.1 u.2.2.2.2.2.2.1 u.2.2.2.2.2.2.2.1 u.2.2.2.2.2.2.2.2.1 u.2.2.2.2.2.2.2.2.2.1 u.2.2.2.2.2.2.2.2.2.2.1 u.2.2.2.2.2.2.2.2.2.2.2.1 u.2.2.2.2.2.2.2.2.2.2.2.2.1 u.2.2.2.2.2.2.2.2.2.2.2.2.2.1 u.2.2.2.2.2.2.2.2.2.2.2.2.2.2.1 u.2.2.2.2.2.2.2.2.2.2.2.2.2.2.2.1 u.2.2.2.2.2.2.2.2.2.2.2.2.2.2.2.2.1 u.2.2.2.2.2.2.2.2.2.2.2.2.2.2.2.2.2.1 u.2.2.2.2.2.2.2.2.2.2.2.2.2.2.2.2.2.2.1 u.2.2.2.2.2.2.2.2.2.2.2.2.2.2.2.2.2.2.2.1 u.2.2.2.2.2.2.2.2.2.2.2.2.2.2.2.2.2.2.2.2.1 u.2.2.2.2.2.2.2.2.2.2.2.2.2.2.2.2.2.2.2.2.2.1 u.2.2.2.2.2.2.2.2.2.2.2.2.2.2.2.2.2.2.2.2.2.2.1 u.2.2.2.2.2.2.2.2.2.2.2.2.2.2.2.2.2.2.2.2.2.2.2.1 u.2.2.2.2.2.2.2.2.2.2.2.2.2.2.2.2.2.2.2.2.2.2.2.2.1 u.2.2.2.2.2.2.2.2.2.2.2.2.2.2.2.2.2.2.2.2.2.2.2.2.2.1 u.2.2.2.2.2.2.2.2.2.2.2.2.2.2.2.2.2.2.2.2.2.2.2.2.2.2.1 u.2.2.2.2.2.2.2.2.2.2.2.2.2.2.2.2.2.2.2.2.2.2.2.2.2.2.2.1 u.2.2.2.2.2.2.2.2.2.2.2.2.2.2.2.2.2.2.2.2.2.2.2.2.2.2.2.2.1 u.2.2.2.2.2.2.2.2.2.2.2.2.2.2.2.2.2.2.2.2.2.2.2.2.2.2.2.2.2.1 u.2.2.2.2.2.2.2.2.2.2.2.2.2.2.2.2.2.2.2.2.2.2.2.2.2.2.2.2.2.2.1 u.2.2.2.2.2.2.2.2.2.2.2.2.2.2.2.2.2.2.2.2.2.2.2.2.2.2.2.2.2.2.2.1 u.2.2.2.2.2.2.2.2.2.2.2.2.2.2.2.2.2.2.2.2.2.2.2.2.2.2.2.2.2.2.2.2.1 u.2.2.2.2.2.2.2.2.2.2.2.2.2.2.2.2.2.2.2.2.2.2.2.2.2.2.2.2.2.2.2.2.2.1 u.2.2.2.2.2.2.2.2.2.2.2.2.2.2.2.2.2.2.2.2.2.2.2.2.2.2.2.2.2.2.2.2.2.2.1 u.2.2.2.2.2.2.2.2.2.2.2.2.2.2.2.2.2.2.2.2.2.2.2.2.2.2.2.2.2.2.2.2.2.2.2.1 u.2.2.2.2.2.2.2.2.2.2.2.2.2.2.2.2.2.2.2.2.2.2.2.2.2.2.2.2.2.2.2.2.2.2.2.2.1 u.2.2.2.2.2.2.2.2.2.2.2.2.2.2.2.2.2.2.2.2.2.2.2.2.2.2.2.2.2.2.2.2.2.2.2.2.2.1 u.2.2.2.2.2.2.2.2.2.2.2.2.2.2.2.2.2.2.2.2.2.2.2.2.2.2.2.2.2.2.2.2.2.2.2.2.2.2.1 u.2.2.2.2.2.2.2.2.2.2.2.2.2.2.2.2.2.2.2.2.2.2.2.2.2.2.2.2.2.2.2.2.2.2.2.2.2.2.2.1 u.2.2.2.2.2.2.2.2.2.2.2.2.2.2.2.2.2.2.2.2.2.2.2.2.2.2.2.2.2.2.2.2.2.2.2.2.2.2.2.2.1 u.2.2.2.2.2.2.2.2.2.2.2.2.2.2.2.2.2.2.2.2.2.2.2.2.2.2.2.2.2.2.2.2.2.2.2.2.2.2.2.2.2.1 u.2.2.2.2.2.2.2.2.2.2.2.2.2.2.2.2.2.2.2.2.2.2.2.2.2.2.2.2.2.2.2.2.2.2.2.2.2.2.2.2.2.2.1 u.2.2.2.2.2.2.2.2.2.2.2.2.2.2.2.2.2.2.2.2.2.2.2.2.2.2.2.2.2.2.2.2.2.2.2.2.2.2.2.2.2.2.2.1 u.2.2.2.2.2.2.2.2.2.2.2.2.2.2.2.2.2.2.2.2.2.2.2.2.2.2.2.2.2.2.2.2.2.2.2.2.2.2.2.2.2.2.2.2
theorem ry_el {P : SY → Prop} (h : ∀ (gC gA gH gP gN gS gx gd go : Int32) (bKd bLn bLv bSt bCa bPl bSn bPf bPn bLs bLe bGv bXs bSk bSl bOu bAs bTb bTn : Nat → Int32), P (gC, gA, gH, gP, gN, gS, gx, gd, go, bKd, bLn, bLv, bSt, bCa, bPl, bSn, bPf, bPn, bLs, bLe, bGv, bXs, bSk, bSl, bOu, bAs, bTb, bTn)) (u : SY) : P u := h u.1 u.2.1 u.2.2.1 u.2.2.2.1 u.2.2.2.2.1 u.2.2.2.2.2.1 u.2.2.2.2.2.2.1 u.2.2.2.2.2.2.2.1 u.2.2.2.2.2.2.2.2.1 u.2.2.2.2.2.2.2.2.2.1 u.2.2.2.2.2.2.2.2.2.2.1 u.2.2.2.2.2.2.2.2.2.2.2.1 u.2.2.2.2.2.2.2.2.2.2.2.2.1 u.2.2.2.2.2.2.2.2.2.2.2.2.2.1 u.2.2.2.2.2.2.2.2.2.2.2.2.2.2.1 u.2.2.2.2.2.2.2.2.2.2.2.2.2.2.2.1 u.2.2.2.2.2.2.2.2.2.2.2.2.2.2.2.2.1 u.2.2.2.2.2.2.2.2.2.2.2.2.2.2.2.2.2.1 u.2.2.2.2.2.2.2.2.2.2.2.2.2.2.2.2.2.2.1 u.2.2.2.2.2.2.2.2.2.2.2.2.2.2.2.2.2.2.2.1 u.2.2.2.2.2.2.2.2.2.2.2.2.2.2.2.2.2.2.2.2.1 u.2.2.2.2.2.2.2.2.2.2.2.2.2.2.2.2.2.2.2.2.2.1 u.2.2.2.2.2.2.2.2.2.2.2.2.2.2.2.2.2.2.2.2.2.2.1 u.2.2.2.2.2.2.2.2.2.2.2.2.2.2.2.2.2.2.2.2.2.2.2.1 u.2.2.2.2.2.2.2.2.2.2.2.2.2.2.2.2.2.2.2.2.2.2.2.2.1 u.2.2.2.2.2.2.2.2.2.2.2.2.2.2.2.2.2.2.2.2.2.2.2.2.2.1 u.2.2.2.2.2.2.2.2.2.2.2.2.2.2.2.2.2.2.2.2.2.2.2.2.2.2.1 u.2.2.2.2.2.2.2.2.2.2.2.2.2.2.2.2.2.2.2.2.2.2.2.2.2.2.2
def rx_f (c : ab_W) (fC fV fH fP fN fS : Int32) : Prop := fC = nI c.C ∧ fV = nI c.V ∧ fH = nI c.H ∧ fP = nI c.P ∧ fN = nI c.N ∧ fS = nI c.S
def rx_l (n : Int32) (a : Nat → Int32) (o : Nat) (l : List Nat) : Prop := n = nI l.length ∧ zb_Sg a o l
def rx_kd (c : ab_W) (a : Nat → Int32) : Prop := ∀ j, j < c.N → a j = nI (c.kd j)
def rx_lv (c : ab_W) (a : Nat → Int32) : Prop := ∀ j, j < c.N → a j = c.lev j
def rx_st (c : ab_W) (M : Nat) (a b : Nat → Int32) : Prop := ∀ j, j < M → a j = nI (c.sg j).length ∧ zb_Sg b (j * 10) (c.sg j)
def rx_vr (c : ab_W) (a : Nat → Int32) : Prop := ∀ j, j < c.N → c.kd j ≤ 2 → zb_MK (a j) (fun v => decide (c.C + v ∈ c.sg j))
def rx_hs (c : ab_W) (M : Nat) (a b : Nat → Int32) : Prop := ∀ x, x < M → 3 ≤ c.kd x → a x = nI (c.hs x).length ∧ zb_Sg b (x * 24) (c.hs x)
def rx_pr (c : ab_W) (M : Nat) (a : Nat → Int32) : Prop := ∀ x, x < M → 3 ≤ c.kd x → ∀ v, v < 8 → zb_MK (a (x * 8 + v)) (fun w => c.fp x (c.C + v) (c.C + w))
def rx_rm (c : ab_W) (a : Nat → Int32) : Prop := ∀ x, x < c.N → zb_MK (a x) (c.rs x)
def rx_tl (c : ab_W) (a : Nat → Int32) : Prop := ∀ v, v < 8 → (a v = -1 ↔ c.ht (c.C + v) = false)
def rx_ar (c : ab_W) (a : Nat → Int32) : Prop := ∀ v, v < 8 → zb_MK (a v) (fun w => decide (c.pl (c.C + v) (c.C + w) ≠ 0))
def rx_pl (c : ab_W) (a : Nat → Int32) : Prop := ∀ v w, v < 8 → w < 8 → a (v * 8 + w) = if c.pl (c.C + v) (c.C + w) = 0 then -21 else nI (c.pl (c.C + v) (c.C + w) - 1)
/-- the component's state u is the world c; frames stand below M -/
def rx_R (c : ab_W) (M : Nat) (u : SX) : Prop := match u with
  | (fC, fV, fH, fP, fsl, fll, ftl, fpl, fN, fS, fh, fe, ft, fr, aSy, aLb, aLt, aPf, aGv, aKd, aLv, aLn, aVr, aSt, aHc, aHs, aPr, aRm, aTl, aAr, aPl, aSk, aEl, aEs, aEp, aEx, aTs, aTn, aTb, aTz, aTp, aAs, aAl, aAv, aRe) => rx_f c fC fV fH fP fN fS ∧ rx_l fsl aSy 0 c.sl ∧ rx_l fll aLb 0 c.ll ∧ rx_l ftl aLt 0 c.tl ∧ rx_l fpl aPf 0 c.lp ∧ rx_kd c aKd ∧ rx_lv c aLv ∧ rx_st c c.N aLn aSt ∧ rx_vr c aVr ∧ rx_hs c M aHc aHs ∧ rx_pr c M aPr ∧ rx_rm c aRm ∧ rx_tl c aTl ∧ rx_ar c aAr ∧ rx_pl c aPl
def ry_f (c : ab_W) (gC gA gH gP gN gS : Int32) : Prop := gC = nI c.C ∧ gA = nI (c.C + c.V) ∧ gH = nI c.H ∧ gP = nI c.P ∧ gN = nI c.N ∧ gS = nI c.S
def ry_kd (c : ab_W) (M : Nat) (a : Nat → Int32) : Prop := ∀ j, j < M → a j = nI (c.kd j)
def ry_lv (c : ab_W) (M : Nat) (a : Nat → Int32) : Prop := ∀ j, j < M → a j = nI (c.lv j)
def ry_ca (c : ab_W) (a : Nat → Int32) : Prop := ∀ j, j < 24 → a j = nI (c.ca j)
def ry_pl (c : ab_W) (a : Nat → Int32) : Prop := ∀ s t, s < 16 → t < 16 → a (s * 16 + t) = nI (c.pl s t)
def ry_sn (c : ab_W) (M : Nat) (a : Nat → Int32) : Prop := ∀ x, x < M → 3 ≤ c.kd x → ∀ s t, s < 16 → t < 16 → a (x * 256 + s * 16 + t) = zb_1 (c.sn x s t)
def ry_pf (c : ab_W) (a b : Nat → Int32) : Prop := ∀ x, x < c.N → c.kd x = 4 → a x = nI (c.pf x).length ∧ zb_Sg b (x * 96) (c.pf x)
/-- the reference's state v is the world c; statements stand below M -/
def ry_R (c : ab_W) (M : Nat) (v : SY) : Prop := match v with
  | (gC, gA, gH, gP, gN, gS, gx, gd, go, bKd, bLn, bLv, bSt, bCa, bPl, bSn, bPf, bPn, bLs, bLe, bGv, bXs, bSk, bSl, bOu, bAs, bTb, bTn) => ry_f c gC gA gH gP gN gS ∧ rx_l (bLe 0) bLs 0 c.sl ∧ rx_l (bLe 1) bLs 64 c.ll ∧ rx_l (bLe 2) bLs 128 c.tl ∧ ry_kd c M bKd ∧ ry_lv c M bLv ∧ rx_st c M bLn bSt ∧ ry_ca c bCa ∧ ry_pl c bPl ∧ ry_sn c M bSn ∧ ry_pf c bPn bPf
theorem rx_ig {c : ab_W} {M : Nat} {fC fV fH fP fsl fll ftl fpl fN fS fh fe ft fr : Int32} {aSy aLb aLt aPf aGv aKd aLv aLn aVr aSt aHc aHs aPr aRm aTl aAr aPl aSk aEl aEs aEp aEx aTs aTn aTb aTz aTp aAs aAl aAv aRe : Nat → Int32} {ifh ife ift ifr : Int32} {iaGv iaSk iaEl iaEs iaEp iaEx iaTs iaTn iaTb iaTz iaTp iaAs iaAl iaAv iaRe : Nat → Int32} (h : rx_R c M (fC, fV, fH, fP, fsl, fll, ftl, fpl, fN, fS, fh, fe, ft, fr, aSy, aLb, aLt, aPf, aGv, aKd, aLv, aLn, aVr, aSt, aHc, aHs, aPr, aRm, aTl, aAr, aPl, aSk, aEl, aEs, aEp, aEx, aTs, aTn, aTb, aTz, aTp, aAs, aAl, aAv, aRe)) : rx_R c M (fC, fV, fH, fP, fsl, fll, ftl, fpl, fN, fS, ifh, ife, ift, ifr, aSy, aLb, aLt, aPf, iaGv, aKd, aLv, aLn, aVr, aSt, aHc, aHs, aPr, aRm, aTl, aAr, aPl, iaSk, iaEl, iaEs, iaEp, iaEx, iaTs, iaTn, iaTb, iaTz, iaTp, iaAs, iaAl, iaAv, iaRe) := by
  obtain ⟨hf, hsy, hlb, hlt, hpf, hkd, hlv, hst, hvr, hhs, hpr, hrm, htl, har, hpl⟩ := h
  exact ⟨hf, hsy, hlb, hlt, hpf, hkd, hlv, hst, hvr, hhs, hpr, hrm, htl, har, hpl⟩
theorem ry_ig {c : ab_W} {M : Nat} {gC gA gH gP gN gS gx gd go : Int32} {bKd bLn bLv bSt bCa bPl bSn bPf bPn bLs bLe bGv bXs bSk bSl bOu bAs bTb bTn : Nat → Int32} {igx igd igo : Int32} {ibGv ibXs ibSk ibSl ibOu ibAs ibTb ibTn : Nat → Int32} (h : ry_R c M (gC, gA, gH, gP, gN, gS, gx, gd, go, bKd, bLn, bLv, bSt, bCa, bPl, bSn, bPf, bPn, bLs, bLe, bGv, bXs, bSk, bSl, bOu, bAs, bTb, bTn)) : ry_R c M (gC, gA, gH, gP, gN, gS, igx, igd, igo, bKd, bLn, bLv, bSt, bCa, bPl, bSn, bPf, bPn, bLs, bLe, ibGv, ibXs, ibSk, ibSl, ibOu, ibAs, ibTb, ibTn) := by
  obtain ⟨hf, hsy, hlb, hlt, hkd, hlv, hst, hca, hpl, hsn, hpf⟩ := h
  exact ⟨hf, hsy, hlb, hlt, hkd, hlv, hst, hca, hpl, hsn, hpf⟩
theorem ry_dn {c : ab_W} {M M' : Nat} (h : M' ≤ M) : ∀ v : SY, ry_R c M v → ry_R c M' v := by
  refine ry_el ?_
  intro gC gA gH gP gN gS gx gd go bKd bLn bLv bSt bCa bPl bSn bPf bPn bLs bLe bGv bXs bSk bSl bOu bAs bTb bTn hR
  obtain ⟨hf, hsy, hlb, hlt, hkd, hlv, hst, hca, hpl, hsn, hpf⟩ := hR
  exact ⟨hf, hsy, hlb, hlt, fun j hj => hkd j (Nat.lt_of_lt_of_le hj h), fun j hj => hlv j (Nat.lt_of_lt_of_le hj h), fun j hj => hst j (Nat.lt_of_lt_of_le hj h), hca, hpl, fun j hj => hsn j (Nat.lt_of_lt_of_le hj h), hpf⟩
theorem rx_dn {c : ab_W} {M M' : Nat} (h : M' ≤ M) : ∀ u : SX, rx_R c M u → rx_R c M' u := by
  refine rx_el ?_
  intro fC fV fH fP fsl fll ftl fpl fN fS fh fe ft fr aSy aLb aLt aPf aGv aKd aLv aLn aVr aSt aHc aHs aPr aRm aTl aAr aPl aSk aEl aEs aEp aEx aTs aTn aTb aTz aTp aAs aAl aAv aRe hR
  obtain ⟨hf, hsy, hlb, hlt, hpf, hkd, hlv, hst, hvr, hhs, hpr, hrm, htl, har, hpl⟩ := hR
  exact ⟨hf, hsy, hlb, hlt, hpf, hkd, hlv, hst, hvr, fun j hj => hhs j (Nat.lt_of_lt_of_le hj h), fun j hj => hpr j (Nat.lt_of_lt_of_le hj h), hrm, htl, har, hpl⟩
theorem rx_ten {c : ab_W} {k : Nat} {s : List Nat} : ∀ u : SX, rx_R c c.N u → rx_R (ab_ten c k s) c.N u := by
  refine rx_el ?_
  intro fC fV fH fP fsl fll ftl fpl fN fS fh fe ft fr aSy aLb aLt aPf aGv aKd aLv aLn aVr aSt aHc aHs aPr aRm aTl aAr aPl aSk aEl aEs aEp aEx aTs aTn aTb aTz aTp aAs aAl aAv aRe hR
  obtain ⟨hf, hsy, hlb, hlt, hpf, hkd, hlv, hst, hvr, hhs, hpr, hrm, htl, har, hpl⟩ := hR
  refine And.intro hf (And.intro hsy (And.intro hlb (And.intro hlt (And.intro ?_ (And.intro ?_ (And.intro ?_ (And.intro ?_ (And.intro ?_ (And.intro ?_ (And.intro ?_ (And.intro hrm (And.intro ?_ (And.intro har hpl)))))))))))))
  · rw [ab_ten_lp]; exact hpf
  · intro j hj
    have hj : j < c.N := hj
    rw [ab_ten_kd hj]; exact hkd j hj
  · intro j hj
    have hj : j < c.N := hj
    rw [ab_ten_lev hj]; exact hlv j hj
  · intro j hj
    have hj : j < c.N := hj
    rw [ab_ten_sg hj]; exact hst j hj
  · intro j hj
    have hj : j < c.N := hj
    rw [ab_ten_sg hj, ab_ten_kd hj]; exact hvr j hj
  · intro j hj; rw [ab_ten_hs hj, ab_ten_kd hj]; exact hhs j hj
  · intro j hj hk v hv
    rw [ab_ten_kd hj] at hk
    refine zb_MKe (hpr j hj hk v hv) (fun w _ => ?_)
    exact (ab_ten_fp hj).symm
  · intro v hv
    rw [ab_ten_ht]; exact htl v hv
theorem ry_ten {c : ab_W} {k : Nat} {s : List Nat} : ∀ v : SY, ry_R c c.N v → ry_R (ab_ten c k s) c.N v := by
  refine ry_el ?_
  intro gC gA gH gP gN gS gx gd go bKd bLn bLv bSt bCa bPl bSn bPf bPn bLs bLe bGv bXs bSk bSl bOu bAs bTb bTn hR
  obtain ⟨hf, hsy, hlb, hlt, hkd, hlv, hst, hca, hpl, hsn, hpf⟩ := hR
  refine And.intro hf (And.intro hsy (And.intro hlb (And.intro hlt (And.intro ?_ (And.intro ?_ (And.intro ?_ (And.intro hca (And.intro hpl (And.intro ?_ ?_)))))))))
  · intro j hj; rw [ab_ten_kd hj]; exact hkd j hj
  · intro j hj
    have hj : j < c.N := hj
    rw [ab_ten_lv hj]; exact hlv j hj
  · intro j hj; rw [ab_ten_sg hj]; exact hst j hj
  · intro j hj hk
    rw [ab_ten_kd hj] at hk
    rw [ab_ten_sn hj]; exact hsn j hj hk
  · intro j hj hk
    have hj : j < c.N := hj
    rw [ab_ten_kd hj] at hk
    exact hpf j hj hk
def i_Rel (k : Nat) (u : SX) (v : SY) : Prop := ∃ c : ab_W, ab_I c ∧ rx_R c c.N u ∧ ry_R c c.N v
end
section
/-! the component's methods that only read -/
section
variable {c : ab_W} {M : Nat} {post : Int32 → Prop} {fC fV fH fP fsl fll ftl fpl fN fS fh fe ft fr : Int32} {aSy aLb aLt aPf aGv aKd aLv aLn aVr aSt aHc aHs aPr aRm aTl aAr aPl aSk aEl aEs aEp aEx aTs aTn aTb aTz aTp aAs aAl aAv aRe : Nat → Int32}
theorem xw_isSt_n {N : Nat} {p0 : Int32} (hN : fN = nI N) (h : p0 < 0 ∨ nI N ≤ p0) (k : post 0) : wpX_isStatement post (fC, fV, fH, fP, fsl, fll, ftl, fpl, fN, fS, fh, fe, ft, fr, aSy, aLb, aLt, aPf, aGv, aKd, aLv, aLn, aVr, aSt, aHc, aHs, aPr, aRm, aTl, aAr, aPl, aSk, aEl, aEs, aEp, aEx, aTs, aTn, aTb, aTz, aTp, aAs, aAl, aAv, aRe) p0 := by
  refine br_c (fun _ => k) (fun h0 => br_c (fun _ => k) (fun h1 => ?_))
  rcases h with h | h
  · exact absurd h h0
  · rw [hN] at h1; exact absurd h h1
theorem xw_isSt_y {N j : Nat} (hN : fN = nI N) (hj : j < N) (h24 : N ≤ 24) (k : post 1) : wpX_isStatement post (fC, fV, fH, fP, fsl, fll, ftl, fpl, fN, fS, fh, fe, ft, fr, aSy, aLb, aLt, aPf, aGv, aKd, aLv, aLn, aVr, aSt, aHc, aHs, aPr, aRm, aTl, aAr, aPl, aSk, aEl, aEs, aEp, aEx, aTs, aTn, aTb, aTz, aTp, aAs, aAl, aAv, aRe) (nI j) :=
  br_f (nI_pos (by omega)) (pk_le N j (fun h => absurd h (by omega)) (fun _ => k) hN)
theorem xw_isHyp {j : Nat} (hI : ab_I c) (hR : rx_R c M (fC, fV, fH, fP, fsl, fll, ftl, fpl, fN, fS, fh, fe, ft, fr, aSy, aLb, aLt, aPf, aGv, aKd, aLv, aLn, aVr, aSt, aHc, aHs, aPr, aRm, aTl, aAr, aPl, aSk, aEl, aEs, aEp, aEx, aTs, aTn, aTb, aTz, aTp, aAs, aAl, aAv, aRe)) (hj : j < c.N) (k : post (zb_1 (decide (c.kd j ≤ 2)))) : wpX_isHypothesis post (fC, fV, fH, fP, fsl, fll, ftl, fpl, fN, fS, fh, fe, ft, fr, aSy, aLb, aLt, aPf, aGv, aKd, aLv, aLn, aVr, aSt, aHc, aHs, aPr, aRm, aTl, aAr, aPl, aSk, aEl, aEs, aEp, aEx, aTs, aTn, aTb, aTz, aTp, aAs, aAl, aAv, aRe) (nI j) := by
  obtain ⟨hf, _, _, _, _, hkd, _⟩ := hR
  have h24 : c.N ≤ 24 := hI.1.2.2.2.2.2.2.2.2.1
  have hk4 := (hI.2.2.1 j hj).2.1
  unfold wpX_isHypothesis
  refine xw_isSt_y hf.2.2.2.2.1 hj h24 (br_f (by decide) ⟨vp_in_nI (by omega) (by omega), ?_⟩)
  rw [nI_clamp (by omega), hkd j hj]
  refine pk_lt 2 (c.kd j) (fun h => ?_) (fun h => ?_)
  · rw [decide_eq_false (by omega)] at k; exact k
  · rw [decide_eq_true h] at k; exact k
theorem xw_isAss_n {p0 : Int32} (hR : rx_R c M (fC, fV, fH, fP, fsl, fll, ftl, fpl, fN, fS, fh, fe, ft, fr, aSy, aLb, aLt, aPf, aGv, aKd, aLv, aLn, aVr, aSt, aHc, aHs, aPr, aRm, aTl, aAr, aPl, aSk, aEl, aEs, aEp, aEx, aTs, aTn, aTb, aTz, aTp, aAs, aAl, aAv, aRe)) (h : p0 < 0 ∨ nI c.N ≤ p0) (k : post 0) : wpX_isAssertion post (fC, fV, fH, fP, fsl, fll, ftl, fpl, fN, fS, fh, fe, ft, fr, aSy, aLb, aLt, aPf, aGv, aKd, aLv, aLn, aVr, aSt, aHc, aHs, aPr, aRm, aTl, aAr, aPl, aSk, aEl, aEs, aEp, aEx, aTs, aTn, aTb, aTz, aTp, aAs, aAl, aAv, aRe) p0 := by
  unfold wpX_isAssertion
  exact xw_isSt_n hR.1.2.2.2.2.1 h (br_t rfl k)
theorem xw_isAss {j : Nat} (hI : ab_I c) (hR : rx_R c M (fC, fV, fH, fP, fsl, fll, ftl, fpl, fN, fS, fh, fe, ft, fr, aSy, aLb, aLt, aPf, aGv, aKd, aLv, aLn, aVr, aSt, aHc, aHs, aPr, aRm, aTl, aAr, aPl, aSk, aEl, aEs, aEp, aEx, aTs, aTn, aTb, aTz, aTp, aAs, aAl, aAv, aRe)) (hj : j < c.N) (k : post (zb_1 (decide (3 ≤ c.kd j)))) : wpX_isAssertion post (fC, fV, fH, fP, fsl, fll, ftl, fpl, fN, fS, fh, fe, ft, fr, aSy, aLb, aLt, aPf, aGv, aKd, aLv, aLn, aVr, aSt, aHc, aHs, aPr, aRm, aTl, aAr, aPl, aSk, aEl, aEs, aEp, aEx, aTs, aTn, aTb, aTz, aTp, aAs, aAl, aAv, aRe) (nI j) := by
  obtain ⟨hf, _, _, _, _, hkd, _⟩ := hR
  have h24 : c.N ≤ 24 := hI.1.2.2.2.2.2.2.2.2.1
  have hk4 := (hI.2.2.1 j hj).2.1
  unfold wpX_isAssertion
  refine xw_isSt_y hf.2.2.2.2.1 hj h24 (br_f (by decide) ⟨vp_in_nI (by omega) (by omega), ?_⟩)
  rw [nI_clamp (by omega), hkd j hj]
  refine pk_lt (c.kd j) 3 (fun h => ?_) (fun h => ?_)
  · rw [decide_eq_false (by omega)] at k; exact k
  · rw [decide_eq_true h] at k; exact k
theorem xw_hasBit {x : Int32} {p : Nat → Bool} {b : Nat} (h : zb_MK x p) (hb : b < 32) (k : post (zb_1 (p b))) : wpX_hasBit post (fC, fV, fH, fP, fsl, fll, ftl, fpl, fN, fS, fh, fe, ft, fr, aSy, aLb, aLt, aPf, aGv, aKd, aLv, aLn, aVr, aSt, aHc, aHs, aPr, aRm, aTl, aAr, aPl, aSk, aEl, aEs, aEp, aEx, aTs, aTn, aTb, aTz, aTp, aAs, aAl, aAv, aRe) x (nI b) := by
  refine br_c (fun h1 => ?_) (fun h1 => ?_)
  · rw [zb_bit hb, h b hb] at h1
    rw [h1] at k; exact k
  · rw [zb_bit hb, h b hb, Bool.not_eq_false] at h1
    rw [h1] at k; exact k
theorem xw_isCon {p0 : Int32} (hC : fC = nI c.C) (hb : c.C ≤ 8) (k : post (zb_1 (decide (¬ p0 < 0 ∧ p0 < nI c.C)))) : wpX_isConstant post (fC, fV, fH, fP, fsl, fll, ftl, fpl, fN, fS, fh, fe, ft, fr, aSy, aLb, aLt, aPf, aGv, aKd, aLv, aLn, aVr, aSt, aHc, aHs, aPr, aRm, aTl, aAr, aPl, aSk, aEl, aEs, aEp, aEx, aTs, aTn, aTb, aTz, aTp, aAs, aAl, aAv, aRe) p0 := by
  refine br_c (fun h1 => ?_) (fun h1 => br_c (fun h2 => ?_) (fun h2 => ?_))
  · rw [decide_eq_false (fun q => q.1 h1)] at k; exact k
  · rw [hC] at h2
    rw [decide_eq_false (fun q => Int32.not_le.mpr q.2 h2)] at k; exact k
  · rw [hC] at h2
    rw [decide_eq_true ⟨h1, Int32.not_le.mp h2⟩] at k; exact k
theorem xw_isVar_n {p0 : Int32} (hR : rx_R c M (fC, fV, fH, fP, fsl, fll, ftl, fpl, fN, fS, fh, fe, ft, fr, aSy, aLb, aLt, aPf, aGv, aKd, aLv, aLn, aVr, aSt, aHc, aHs, aPr, aRm, aTl, aAr, aPl, aSk, aEl, aEs, aEp, aEx, aTs, aTn, aTb, aTz, aTp, aAs, aAl, aAv, aRe)) (h : p0 < nI c.C ∨ nI (c.C + c.V) ≤ p0) (k : post 0) : wpX_isVariable post (fC, fV, fH, fP, fsl, fll, ftl, fpl, fN, fS, fh, fe, ft, fr, aSy, aLb, aLt, aPf, aGv, aKd, aLv, aLn, aVr, aSt, aHc, aHs, aPr, aRm, aTl, aAr, aPl, aSk, aEl, aEs, aEp, aEx, aTs, aTn, aTb, aTz, aTp, aAs, aAl, aAv, aRe) p0 := by
  refine br_c (fun _ => k) (fun h1 => br_c (fun _ => k) (fun h2 => ?_))
  rw [hR.1.1] at h1
  rw [hR.1.1, hR.1.2.1, nI_add] at h2
  rcases h with h | h
  · exact absurd h h1
  · exact absurd h h2
theorem xw_isVar_y {s : Nat} (hR : rx_R c M (fC, fV, fH, fP, fsl, fll, ftl, fpl, fN, fS, fh, fe, ft, fr, aSy, aLb, aLt, aPf, aGv, aKd, aLv, aLn, aVr, aSt, aHc, aHs, aPr, aRm, aTl, aAr, aPl, aSk, aEl, aEs, aEp, aEx, aTs, aTn, aTb, aTz, aTp, aAs, aAl, aAv, aRe)) (h1 : c.C ≤ s) (h2 : s < c.C + c.V) (hb : c.C + c.V ≤ 16) (k : post 1) : wpX_isVariable post (fC, fV, fH, fP, fsl, fll, ftl, fpl, fN, fS, fh, fe, ft, fr, aSy, aLb, aLt, aPf, aGv, aKd, aLv, aLn, aVr, aSt, aHc, aHs, aPr, aRm, aTl, aAr, aPl, aSk, aEl, aEs, aEp, aEx, aTs, aTn, aTb, aTz, aTp, aAs, aAl, aAv, aRe) (nI s) := by
  refine pk_lt s c.C (fun h => absurd h (by omega)) (fun _ => ?_) rfl hR.1.1
  refine pk_le (c.C + c.V) s (fun h => absurd h (by omega)) (fun _ => k) ?_ rfl
  rw [hR.1.1, hR.1.2.1, nI_add]
theorem xw_varBit {s : Nat} (hI : ab_I c) (hR : rx_R c M (fC, fV, fH, fP, fsl, fll, ftl, fpl, fN, fS, fh, fe, ft, fr, aSy, aLb, aLt, aPf, aGv, aKd, aLv, aLn, aVr, aSt, aHc, aHs, aPr, aRm, aTl, aAr, aPl, aSk, aEl, aEs, aEp, aEx, aTs, aTn, aTb, aTz, aTp, aAs, aAl, aAv, aRe)) (hs : s < c.C + c.V) (k : ∀ m, zb_MK m (fun v => decide (c.C + v = s)) → post m) : wpX_variableBit post (fC, fV, fH, fP, fsl, fll, ftl, fpl, fN, fS, fh, fe, ft, fr, aSy, aLb, aLt, aPf, aGv, aKd, aLv, aLn, aVr, aSt, aHc, aHs, aPr, aRm, aTl, aAr, aPl, aSk, aEl, aEs, aEp, aEx, aTs, aTn, aTb, aTz, aTp, aAs, aAl, aAv, aRe) (nI s) := by
  obtain ⟨z1, z2, z3, z4, _⟩ := hI.1
  refine pk_le c.C s (fun h => ?_) (fun h => ?_) hR.1.1 rfl
  · refine k _ ?_
    rw [hR.1.1, pk_sub h]
    refine zb_MKe (zb_MKs (by omega)) (fun i _ => ?_)
    rw [decide_eq_decide]; omega
  · refine k _ (zb_MKe zb_MK0 (fun i _ => ?_))
    rw [decide_eq_false (by omega)]
/-- the mask of the variables of a string -/
theorem zb_take1 {l : List Nat} {i : Nat} (h : i < l.length) (s : Nat) : s ∈ l.take (i + 1) ↔ s ∈ l.take i ∨ s = l.getD i 0 := by
  rw [List.take_succ_eq_append_getElem h, List.mem_append, List.mem_singleton, List.getD_eq_getElem?_getD, List.getElem?_eq_getElem h]
  rfl
theorem zb_gm {l : List Nat} {i : Nat} (h : i < l.length) : l.getD i 0 ∈ l := by
  rw [List.getD_eq_getElem?_getD, List.getElem?_eq_getElem h]
  exact List.getElem_mem h
theorem xw_symVars (hI : ab_I c) (hR : rx_R c M (fC, fV, fH, fP, fsl, fll, ftl, fpl, fN, fS, fh, fe, ft, fr, aSy, aLb, aLt, aPf, aGv, aKd, aLv, aLn, aVr, aSt, aHc, aHs, aPr, aRm, aTl, aAr, aPl, aSk, aEl, aEs, aEp, aEx, aTs, aTn, aTb, aTz, aTp, aAs, aAl, aAv, aRe)) (k : ∀ m, zb_MK m (fun v => decide (c.C + v ∈ c.sl)) → post m) : wpX_symbolVars post (fC, fV, fH, fP, fsl, fll, ftl, fpl, fN, fS, fh, fe, ft, fr, aSy, aLb, aLt, aPf, aGv, aKd, aLv, aLn, aVr, aSt, aHc, aHs, aPr, aRm, aTl, aAr, aPl, aSk, aEl, aEs, aEp, aEx, aTs, aTn, aTb, aTz, aTp, aAs, aAl, aAv, aRe) := by
  have hl := hI.2.1
  have hl1 : c.sl.length ≤ 10 := hl.1
  have hsy := hR.2.1
  have key : ∀ d i m, i + d = c.sl.length → zb_MK m (fun v => decide (c.C + v ∈ c.sl.take i)) → wX_symbolVars_4 post fC fV fH fP fsl fll ftl fpl fN fS fh fe ft fr aSy aLb aLt aPf aGv aKd aLv aLn aVr aSt aHc aHs aPr aRm aTl aAr aPl aSk aEl aEs aEp aEx aTs aTn aTb aTz aTp aAs aAl aAv aRe (d + 1) m (nI i) := by
    intro d
    induction d with
    | zero =>
      intro i m hi hm
      have e : c.sl.take i = c.sl := List.take_of_length_le (by omega)
      rw [e] at hm
      exact pk_le c.sl.length i (fun _ => k m hm) (fun h => absurd h (by omega)) hsy.1 rfl (by omega) (by omega)
    | succ d ih =>
      intro i m hi hm
      have hlt : i < c.sl.length := by omega
      refine pk_le c.sl.length i (fun h => absurd h (by omega)) (fun _ => ?_) hsy.1 rfl (by omega) (by omega)
      refine ⟨vp_in_nI (by omega) (by omega), ?_⟩
      rw [nI_clamp (by omega), show aSy i = nI (c.sl.getD i 0) from by have := hsy.2 i hlt; rwa [Nat.zero_add] at this]
      refine xw_varBit hI hR (hl.2.2.2.1 _ (zb_gm hlt)) (fun m2 h2 => ?_)
      refine nm_e (nm_r (nI_1 i) (ih (i + 1) _ (by omega) ?_))
      refine zb_MKe (zb_MKor hm h2) (fun v _ => ?_)
      rw [← Bool.decide_or, decide_eq_decide, zb_take1 hlt]
  unfold wpX_symbolVars
  refine ⟨c.sl.length + 1, ?_⟩
  exact key c.sl.length 0 0 (by omega) (zb_MKe zb_MK0 (fun v _ => by rw [decide_eq_false (by simp)]))
end
end
section
/-! the component's answers that only read, continued -/
def an_ref (c : ab_W) : Int32 := if c.sl.length = 0 then -2 else if c.C ≤ c.sl.getD 0 0 then -3 else if c.sl.all (fun y => decide (y < c.C) || c.ht y) = true then (if c.N < 24 then 0 else -6) else -9
section
variable {c : ab_W} {M : Nat} {post : Int32 → Prop} {fC fV fH fP fsl fll ftl fpl fN fS fh fe ft fr : Int32} {aSy aLb aLt aPf aGv aKd aLv aLn aVr aSt aHc aHs aPr aRm aTl aAr aPl aSk aEl aEs aEp aEx aTs aTn aTb aTz aTp aAs aAl aAv aRe : Nat → Int32}
theorem xw_strRef (hI : ab_I c) (hR : rx_R c M (fC, fV, fH, fP, fsl, fll, ftl, fpl, fN, fS, fh, fe, ft, fr, aSy, aLb, aLt, aPf, aGv, aKd, aLv, aLn, aVr, aSt, aHc, aHs, aPr, aRm, aTl, aAr, aPl, aSk, aEl, aEs, aEp, aEx, aTs, aTn, aTb, aTz, aTp, aAs, aAl, aAv, aRe)) (k : post (an_ref c)) : wpX_stringRefusal post (fC, fV, fH, fP, fsl, fll, ftl, fpl, fN, fS, fh, fe, ft, fr, aSy, aLb, aLt, aPf, aGv, aKd, aLv, aLn, aVr, aSt, aHc, aHs, aPr, aRm, aTl, aAr, aPl, aSk, aEl, aEs, aEp, aEx, aTs, aTn, aTb, aTz, aTp, aAs, aAl, aAv, aRe) := by
  have hl := hI.2.1
  have hz := hI.1
  have hl1 : c.sl.length ≤ 10 := hl.1
  obtain ⟨z1, z2, z3, z4, z5, z6, z7, z8, z9, z10⟩ := hI.1
  have hsy := hR.2.1
  have htl := hR.2.2.2.2.2.2.2.2.2.2.2.2.1
  unfold wpX_stringRefusal
  unfold an_ref at k
  refine pk_eq c.sl.length 0 (fun h => ?_) (fun h => ?_) hsy.1 rfl (by omega) (by omega)
  · rw [if_pos h] at k; exact k
  · rw [if_neg h] at k
    have h0 : aSy 0 = nI (c.sl.getD 0 0) := by have := hsy.2 0 (by omega); rwa [Nat.zero_add] at this
    have hb : c.sl.getD 0 0 < c.C + c.V := hl.2.2.2.1 _ (zb_gm (by omega))
    refine xw_isCon hR.1.1 hz.2.1 ?_
    rw [h0]
    by_cases q : c.C ≤ c.sl.getD 0 0
    · rw [if_pos q] at k
      rw [decide_eq_false (fun z => by
        have := z.2
        rw [nI_ltI (by omega) (by omega)] at this
        omega)]
      exact br_t rfl k
    · rw [if_neg q] at k
      rw [decide_eq_true ⟨nI_pos (by omega), nI_lt (by omega) (by omega)⟩]
      refine br_f (by decide) (xw_symVars hI hR (fun m hm => ?_))
      refine zb_find (fun n i => wX_stringRefusal_33 post m fC fV fH fP fsl fll ftl fpl fN fS fh fe ft fr aSy aLb aLt aPf aGv aKd aLv aLn aVr aSt aHc aHs aPr aRm aTl aAr aPl aSk aEl aEs aEp aEx aTs aTn aTb aTz aTp aAs aAl aAv aRe n (nI i)) (fun v => ¬ (c.C + v ∈ c.sl ∧ c.ht (c.C + v) = false)) 8 ?_ ?_ ?_
      · intro n v hv hp w
        refine pk_le 8 v (fun h => absurd h (by omega)) (fun _ => ?_)
        refine xw_hasBit hm (by omega) (zb_br (fun _ => nm_r (nI_1 v) w) (fun h1 => ?_))
        rw [decide_eq_true_iff] at h1
        refine ⟨vp_in_nI hv (by omega), br_f ?_ (nm_r (nI_1 v) w)⟩
        rw [nI_clamp (by omega), htl v hv]
        exact fun z => hp ⟨h1, z⟩
      · intro n v hv hp _
        have hp := Classical.not_not.mp hp
        refine pk_le 8 v (fun h => absurd h (by omega)) (fun _ => ?_)
        refine xw_hasBit hm (by omega) (zb_br (fun h1 => ?_) (fun _ => ⟨vp_in_nI hv (by omega), br_t ?_ ?_⟩))
        · rw [decide_eq_false_iff_not] at h1; exact absurd hp.1 h1
        · rw [nI_clamp (by omega), htl v hv]; exact hp.2
        · rw [if_neg] at k
          · exact k
          · intro z
            rw [List.all_eq_true] at z
            have := z _ hp.1
            rw [hp.2, decide_eq_false (by omega)] at this
            exact absurd this (by decide)
      · intro hp n
        refine pk_le 8 8 (fun _ => ?_) (fun h => absurd h (by omega))
        rw [if_pos] at k
        · refine pk_lt c.N 24 (fun h => ?_) (fun h => ?_) hR.1.2.2.2.2.1 rfl (by omega) (by omega)
          · rw [if_pos h] at k; exact k
          · rw [if_neg (by omega)] at k; exact k
        · rw [List.all_eq_true]
          intro y hy
          have hyb := hl.2.2.2.1 y hy
          by_cases hy2 : y < c.C
          · rw [decide_eq_true hy2]; rfl
          · have := hp (y - c.C) (by omega)
            rw [show c.C + (y - c.C) = y by omega] at this
            cases ht : c.ht y with
            | false => exact absurd ⟨hy, ht⟩ this
            | true => rw [Bool.or_true]
theorem xa_kind_n {p0 : Int32} (hR : rx_R c M (fC, fV, fH, fP, fsl, fll, ftl, fpl, fN, fS, fh, fe, ft, fr, aSy, aLb, aLt, aPf, aGv, aKd, aLv, aLn, aVr, aSt, aHc, aHs, aPr, aRm, aTl, aAr, aPl, aSk, aEl, aEs, aEp, aEx, aTs, aTn, aTb, aTz, aTp, aAs, aAl, aAv, aRe)) (h : p0 < 0 ∨ nI c.N ≤ p0) (k : post (-1)) : wpX_kind post (fC, fV, fH, fP, fsl, fll, ftl, fpl, fN, fS, fh, fe, ft, fr, aSy, aLb, aLt, aPf, aGv, aKd, aLv, aLn, aVr, aSt, aHc, aHs, aPr, aRm, aTl, aAr, aPl, aSk, aEl, aEs, aEp, aEx, aTs, aTn, aTb, aTz, aTp, aAs, aAl, aAv, aRe) p0 := by
  unfold wpX_kind
  exact xw_isSt_n hR.1.2.2.2.2.1 h (br_t rfl k)
theorem xa_kind_y {j : Nat} (hI : ab_I c) (hR : rx_R c M (fC, fV, fH, fP, fsl, fll, ftl, fpl, fN, fS, fh, fe, ft, fr, aSy, aLb, aLt, aPf, aGv, aKd, aLv, aLn, aVr, aSt, aHc, aHs, aPr, aRm, aTl, aAr, aPl, aSk, aEl, aEs, aEp, aEx, aTs, aTn, aTb, aTz, aTp, aAs, aAl, aAv, aRe)) (hj : j < c.N) (k : post (nI (c.kd j))) : wpX_kind post (fC, fV, fH, fP, fsl, fll, ftl, fpl, fN, fS, fh, fe, ft, fr, aSy, aLb, aLt, aPf, aGv, aKd, aLv, aLn, aVr, aSt, aHc, aHs, aPr, aRm, aTl, aAr, aPl, aSk, aEl, aEs, aEp, aEx, aTs, aTn, aTb, aTz, aTp, aAs, aAl, aAv, aRe) (nI j) := by
  have h24 : c.N ≤ 24 := hI.1.2.2.2.2.2.2.2.2.1
  unfold wpX_kind
  refine xw_isSt_y hR.1.2.2.2.2.1 hj h24 (br_f (by decide) ⟨vp_in_nI (by omega) (by omega), ?_⟩)
  rw [nI_clamp (by omega), hR.2.2.2.2.2.1 j hj]; exact k
theorem xa_level_n {p0 : Int32} (hR : rx_R c M (fC, fV, fH, fP, fsl, fll, ftl, fpl, fN, fS, fh, fe, ft, fr, aSy, aLb, aLt, aPf, aGv, aKd, aLv, aLn, aVr, aSt, aHc, aHs, aPr, aRm, aTl, aAr, aPl, aSk, aEl, aEs, aEp, aEx, aTs, aTn, aTb, aTz, aTp, aAs, aAl, aAv, aRe)) (h : p0 < 0 ∨ nI c.N ≤ p0) (k : post (-1)) : wpX_level post (fC, fV, fH, fP, fsl, fll, ftl, fpl, fN, fS, fh, fe, ft, fr, aSy, aLb, aLt, aPf, aGv, aKd, aLv, aLn, aVr, aSt, aHc, aHs, aPr, aRm, aTl, aAr, aPl, aSk, aEl, aEs, aEp, aEx, aTs, aTn, aTb, aTz, aTp, aAs, aAl, aAv, aRe) p0 := by
  unfold wpX_level
  exact xw_isSt_n hR.1.2.2.2.2.1 h (br_t rfl k)
theorem xa_level_y {j : Nat} (hI : ab_I c) (hR : rx_R c M (fC, fV, fH, fP, fsl, fll, ftl, fpl, fN, fS, fh, fe, ft, fr, aSy, aLb, aLt, aPf, aGv, aKd, aLv, aLn, aVr, aSt, aHc, aHs, aPr, aRm, aTl, aAr, aPl, aSk, aEl, aEs, aEp, aEx, aTs, aTn, aTb, aTz, aTp, aAs, aAl, aAv, aRe)) (hj : j < c.N) (k : post (c.lev j)) : wpX_level post (fC, fV, fH, fP, fsl, fll, ftl, fpl, fN, fS, fh, fe, ft, fr, aSy, aLb, aLt, aPf, aGv, aKd, aLv, aLn, aVr, aSt, aHc, aHs, aPr, aRm, aTl, aAr, aPl, aSk, aEl, aEs, aEp, aEx, aTs, aTn, aTb, aTz, aTp, aAs, aAl, aAv, aRe) (nI j) := by
  have h24 : c.N ≤ 24 := hI.1.2.2.2.2.2.2.2.2.1
  unfold wpX_level
  refine xw_isSt_y hR.1.2.2.2.2.1 hj h24 (br_f (by decide) ⟨vp_in_nI (by omega) (by omega), ?_⟩)
  rw [nI_clamp (by omega), hR.2.2.2.2.2.2.1 j hj]; exact k
theorem xa_length_n {p0 : Int32} (hR : rx_R c M (fC, fV, fH, fP, fsl, fll, ftl, fpl, fN, fS, fh, fe, ft, fr, aSy, aLb, aLt, aPf, aGv, aKd, aLv, aLn, aVr, aSt, aHc, aHs, aPr, aRm, aTl, aAr, aPl, aSk, aEl, aEs, aEp, aEx, aTs, aTn, aTb, aTz, aTp, aAs, aAl, aAv, aRe)) (h : p0 < 0 ∨ nI c.N ≤ p0) (k : post (-1)) : wpX_length post (fC, fV, fH, fP, fsl, fll, ftl, fpl, fN, fS, fh, fe, ft, fr, aSy, aLb, aLt, aPf, aGv, aKd, aLv, aLn, aVr, aSt, aHc, aHs, aPr, aRm, aTl, aAr, aPl, aSk, aEl, aEs, aEp, aEx, aTs, aTn, aTb, aTz, aTp, aAs, aAl, aAv, aRe) p0 := by
  unfold wpX_length
  exact xw_isSt_n hR.1.2.2.2.2.1 h (br_t rfl k)
theorem xa_length_y {j : Nat} (hI : ab_I c) (hR : rx_R c M (fC, fV, fH, fP, fsl, fll, ftl, fpl, fN, fS, fh, fe, ft, fr, aSy, aLb, aLt, aPf, aGv, aKd, aLv, aLn, aVr, aSt, aHc, aHs, aPr, aRm, aTl, aAr, aPl, aSk, aEl, aEs, aEp, aEx, aTs, aTn, aTb, aTz, aTp, aAs, aAl, aAv, aRe)) (hj : j < c.N) (k : post (nI (c.sg j).length)) : wpX_length post (fC, fV, fH, fP, fsl, fll, ftl, fpl, fN, fS, fh, fe, ft, fr, aSy, aLb, aLt, aPf, aGv, aKd, aLv, aLn, aVr, aSt, aHc, aHs, aPr, aRm, aTl, aAr, aPl, aSk, aEl, aEs, aEp, aEx, aTs, aTn, aTb, aTz, aTp, aAs, aAl, aAv, aRe) (nI j) := by
  have h24 : c.N ≤ 24 := hI.1.2.2.2.2.2.2.2.2.1
  unfold wpX_length
  refine xw_isSt_y hR.1.2.2.2.2.1 hj h24 (br_f (by decide) ⟨vp_in_nI (by omega) (by omega), ?_⟩)
  rw [nI_clamp (by omega), (hR.2.2.2.2.2.2.2.1 j hj).1]; exact k
theorem xa_symbolAt_n {p0 p1 : Int32} (hR : rx_R c M (fC, fV, fH, fP, fsl, fll, ftl, fpl, fN, fS, fh, fe, ft, fr, aSy, aLb, aLt, aPf, aGv, aKd, aLv, aLn, aVr, aSt, aHc, aHs, aPr, aRm, aTl, aAr, aPl, aSk, aEl, aEs, aEp, aEx, aTs, aTn, aTb, aTz, aTp, aAs, aAl, aAv, aRe)) (h : p0 < 0 ∨ nI c.N ≤ p0) (k : post (-1)) : wpX_symbolAt post (fC, fV, fH, fP, fsl, fll, ftl, fpl, fN, fS, fh, fe, ft, fr, aSy, aLb, aLt, aPf, aGv, aKd, aLv, aLn, aVr, aSt, aHc, aHs, aPr, aRm, aTl, aAr, aPl, aSk, aEl, aEs, aEp, aEx, aTs, aTn, aTb, aTz, aTp, aAs, aAl, aAv, aRe) p0 p1 := by
  unfold wpX_symbolAt
  exact xw_isSt_n hR.1.2.2.2.2.1 h (br_t rfl k)
theorem xa_symbolAt_m {j : Nat} {p1 : Int32} (hI : ab_I c) (hR : rx_R c M (fC, fV, fH, fP, fsl, fll, ftl, fpl, fN, fS, fh, fe, ft, fr, aSy, aLb, aLt, aPf, aGv, aKd, aLv, aLn, aVr, aSt, aHc, aHs, aPr, aRm, aTl, aAr, aPl, aSk, aEl, aEs, aEp, aEx, aTs, aTn, aTb, aTz, aTp, aAs, aAl, aAv, aRe)) (hj : j < c.N) (h : p1 < 0 ∨ nI (c.sg j).length ≤ p1) (k : post (-1)) : wpX_symbolAt post (fC, fV, fH, fP, fsl, fll, ftl, fpl, fN, fS, fh, fe, ft, fr, aSy, aLb, aLt, aPf, aGv, aKd, aLv, aLn, aVr, aSt, aHc, aHs, aPr, aRm, aTl, aAr, aPl, aSk, aEl, aEs, aEp, aEx, aTs, aTn, aTb, aTz, aTp, aAs, aAl, aAv, aRe) (nI j) p1 := by
  have h24 : c.N ≤ 24 := hI.1.2.2.2.2.2.2.2.2.1
  unfold wpX_symbolAt
  refine xw_isSt_y hR.1.2.2.2.2.1 hj h24 (br_f (by decide) (br_c (fun _ => k) (fun h1 => ⟨vp_in_nI (by omega) (by omega), br_f ?_ k⟩)))
  rw [nI_clamp (by omega), (hR.2.2.2.2.2.2.2.1 j hj).1]
  rcases h with h | h
  · exact absurd h h1
  · exact fun z => Int32.not_le.mpr z h
theorem xa_symbolAt_y {j i : Nat} (hI : ab_I c) (hR : rx_R c M (fC, fV, fH, fP, fsl, fll, ftl, fpl, fN, fS, fh, fe, ft, fr, aSy, aLb, aLt, aPf, aGv, aKd, aLv, aLn, aVr, aSt, aHc, aHs, aPr, aRm, aTl, aAr, aPl, aSk, aEl, aEs, aEp, aEx, aTs, aTn, aTb, aTz, aTp, aAs, aAl, aAv, aRe)) (hj : j < c.N) (hi : i < (c.sg j).length) (k : post (nI ((c.sg j).getD i 0))) : wpX_symbolAt post (fC, fV, fH, fP, fsl, fll, ftl, fpl, fN, fS, fh, fe, ft, fr, aSy, aLb, aLt, aPf, aGv, aKd, aLv, aLn, aVr, aSt, aHc, aHs, aPr, aRm, aTl, aAr, aPl, aSk, aEl, aEs, aEp, aEx, aTs, aTn, aTb, aTz, aTp, aAs, aAl, aAv, aRe) (nI j) (nI i) := by
  have h24 : c.N ≤ 24 := hI.1.2.2.2.2.2.2.2.2.1
  have h10 := (hI.2.2.1 j hj).2.2.2.1
  have hst := hR.2.2.2.2.2.2.2.1 j hj
  unfold wpX_symbolAt
  refine xw_isSt_y hR.1.2.2.2.2.1 hj h24 (br_f (by decide) (br_f (nI_pos (by omega)) ⟨vp_in_nI (by omega) (by omega), br_t ?_ ⟨pk_in (j * 10 + i) 240 (by omega) (zb_ix j 10 i), ?_⟩⟩))
  · rw [nI_clamp (by omega), hst.1]; exact nI_lt hi (by omega)
  · rw [zb_c10 j i (by omega), hst.2 i hi]; exact k
theorem xa_hypCount_n {p0 : Int32} (hR : rx_R c M (fC, fV, fH, fP, fsl, fll, ftl, fpl, fN, fS, fh, fe, ft, fr, aSy, aLb, aLt, aPf, aGv, aKd, aLv, aLn, aVr, aSt, aHc, aHs, aPr, aRm, aTl, aAr, aPl, aSk, aEl, aEs, aEp, aEx, aTs, aTn, aTb, aTz, aTp, aAs, aAl, aAv, aRe)) (h : p0 < 0 ∨ nI c.N ≤ p0) (k : post (-1)) : wpX_hypCount post (fC, fV, fH, fP, fsl, fll, ftl, fpl, fN, fS, fh, fe, ft, fr, aSy, aLb, aLt, aPf, aGv, aKd, aLv, aLn, aVr, aSt, aHc, aHs, aPr, aRm, aTl, aAr, aPl, aSk, aEl, aEs, aEp, aEx, aTs, aTn, aTb, aTz, aTp, aAs, aAl, aAv, aRe) p0 := by
  unfold wpX_hypCount
  exact xw_isSt_n hR.1.2.2.2.2.1 h (br_t rfl k)
theorem xa_hypCount_y {j : Nat} (hI : ab_I c) (hR : rx_R c c.N (fC, fV, fH, fP, fsl, fll, ftl, fpl, fN, fS, fh, fe, ft, fr, aSy, aLb, aLt, aPf, aGv, aKd, aLv, aLn, aVr, aSt, aHc, aHs, aPr, aRm, aTl, aAr, aPl, aSk, aEl, aEs, aEp, aEx, aTs, aTn, aTb, aTz, aTp, aAs, aAl, aAv, aRe)) (hj : j < c.N) (k : post (nI (c.q j))) : wpX_hypCount post (fC, fV, fH, fP, fsl, fll, ftl, fpl, fN, fS, fh, fe, ft, fr, aSy, aLb, aLt, aPf, aGv, aKd, aLv, aLn, aVr, aSt, aHc, aHs, aPr, aRm, aTl, aAr, aPl, aSk, aEl, aEs, aEp, aEx, aTs, aTn, aTb, aTz, aTp, aAs, aAl, aAv, aRe) (nI j) := by
  have h24 : c.N ≤ 24 := hI.1.2.2.2.2.2.2.2.2.1
  unfold wpX_hypCount
  unfold ab_W.q at k
  refine xw_isSt_y hR.1.2.2.2.2.1 hj h24 (br_f (by decide) (xw_isHyp hI hR hj (zb_br (fun h => ⟨vp_in_nI (by omega) (by omega), ?_⟩) (fun h => ?_))))
  · rw [decide_eq_false_iff_not] at h
    rw [if_neg h] at k
    rw [nI_clamp (by omega), (hR.2.2.2.2.2.2.2.2.2.1 j hj (by omega)).1]; exact k
  · rw [decide_eq_true_iff] at h
    rw [if_pos h] at k; exact k
theorem xa_hypAt_n {p0 p1 : Int32} (hR : rx_R c M (fC, fV, fH, fP, fsl, fll, ftl, fpl, fN, fS, fh, fe, ft, fr, aSy, aLb, aLt, aPf, aGv, aKd, aLv, aLn, aVr, aSt, aHc, aHs, aPr, aRm, aTl, aAr, aPl, aSk, aEl, aEs, aEp, aEx, aTs, aTn, aTb, aTz, aTp, aAs, aAl, aAv, aRe)) (h : p0 < 0 ∨ nI c.N ≤ p0) (k : post (-1)) : wpX_hypAt post (fC, fV, fH, fP, fsl, fll, ftl, fpl, fN, fS, fh, fe, ft, fr, aSy, aLb, aLt, aPf, aGv, aKd, aLv, aLn, aVr, aSt, aHc, aHs, aPr, aRm, aTl, aAr, aPl, aSk, aEl, aEs, aEp, aEx, aTs, aTn, aTb, aTz, aTp, aAs, aAl, aAv, aRe) p0 p1 := by
  unfold wpX_hypAt
  exact xw_isAss_n hR h (br_t rfl k)
theorem xa_hypAt_h {j : Nat} {p1 : Int32} (hI : ab_I c) (hR : rx_R c M (fC, fV, fH, fP, fsl, fll, ftl, fpl, fN, fS, fh, fe, ft, fr, aSy, aLb, aLt, aPf, aGv, aKd, aLv, aLn, aVr, aSt, aHc, aHs, aPr, aRm, aTl, aAr, aPl, aSk, aEl, aEs, aEp, aEx, aTs, aTn, aTb, aTz, aTp, aAs, aAl, aAv, aRe)) (hj : j < c.N) (h : c.kd j < 3) (k : post (-1)) : wpX_hypAt post (fC, fV, fH, fP, fsl, fll, ftl, fpl, fN, fS, fh, fe, ft, fr, aSy, aLb, aLt, aPf, aGv, aKd, aLv, aLn, aVr, aSt, aHc, aHs, aPr, aRm, aTl, aAr, aPl, aSk, aEl, aEs, aEp, aEx, aTs, aTn, aTb, aTz, aTp, aAs, aAl, aAv, aRe) (nI j) p1 := by
  unfold wpX_hypAt
  refine xw_isAss hI hR hj ?_
  rw [decide_eq_false (by omega)]
  exact br_t rfl k
theorem xa_hypAt_m {j : Nat} {p1 : Int32} (hI : ab_I c) (hR : rx_R c c.N (fC, fV, fH, fP, fsl, fll, ftl, fpl, fN, fS, fh, fe, ft, fr, aSy, aLb, aLt, aPf, aGv, aKd, aLv, aLn, aVr, aSt, aHc, aHs, aPr, aRm, aTl, aAr, aPl, aSk, aEl, aEs, aEp, aEx, aTs, aTn, aTb, aTz, aTp, aAs, aAl, aAv, aRe)) (hj : j < c.N) (h3 : 3 ≤ c.kd j) (h : p1 < 0 ∨ nI (c.hs j).length ≤ p1) (k : post (-1)) : wpX_hypAt post (fC, fV, fH, fP, fsl, fll, ftl, fpl, fN, fS, fh, fe, ft, fr, aSy, aLb, aLt, aPf, aGv, aKd, aLv, aLn, aVr, aSt, aHc, aHs, aPr, aRm, aTl, aAr, aPl, aSk, aEl, aEs, aEp, aEx, aTs, aTn, aTb, aTz, aTp, aAs, aAl, aAv, aRe) (nI j) p1 := by
  have h24 : c.N ≤ 24 := hI.1.2.2.2.2.2.2.2.2.1
  unfold wpX_hypAt
  refine xw_isAss hI hR hj ?_
  rw [decide_eq_true h3]
  refine br_f (by decide) (br_c (fun _ => k) (fun h1 => ⟨vp_in_nI (by omega) (by omega), br_f ?_ k⟩))
  rw [nI_clamp (by omega), (hR.2.2.2.2.2.2.2.2.2.1 j hj h3).1]
  rcases h with h | h
  · exact absurd h h1
  · exact fun z => Int32.not_le.mpr z h
theorem xa_hypAt_y {j i : Nat} (hI : ab_I c) (hR : rx_R c c.N (fC, fV, fH, fP, fsl, fll, ftl, fpl, fN, fS, fh, fe, ft, fr, aSy, aLb, aLt, aPf, aGv, aKd, aLv, aLn, aVr, aSt, aHc, aHs, aPr, aRm, aTl, aAr, aPl, aSk, aEl, aEs, aEp, aEx, aTs, aTn, aTb, aTz, aTp, aAs, aAl, aAv, aRe)) (hj : j < c.N) (h3 : 3 ≤ c.kd j) (hi : i < (c.hs j).length) (k : post (nI ((c.hs j).getD i 0))) : wpX_hypAt post (fC, fV, fH, fP, fsl, fll, ftl, fpl, fN, fS, fh, fe, ft, fr, aSy, aLb, aLt, aPf, aGv, aKd, aLv, aLn, aVr, aSt, aHc, aHs, aPr, aRm, aTl, aAr, aPl, aSk, aEl, aEs, aEp, aEx, aTs, aTn, aTb, aTz, aTp, aAs, aAl, aAv, aRe) (nI j) (nI i) := by
  have h24 : c.N ≤ 24 := hI.1.2.2.2.2.2.2.2.2.1
  have hst := hR.2.2.2.2.2.2.2.2.2.1 j hj h3
  have hlen : (c.hs j).length ≤ j := ab_hs_len
  unfold wpX_hypAt
  refine xw_isAss hI hR hj ?_
  rw [decide_eq_true h3]
  refine br_f (by decide) (br_f (nI_pos (by omega)) ⟨vp_in_nI (by omega) (by omega), br_t ?_ ⟨pk_in (j * 24 + i) 576 (by omega) (zb_ix j 24 i), ?_⟩⟩)
  · rw [nI_clamp (by omega), hst.1]; exact nI_lt hi (by omega)
  · rw [zb_c24 j i (by omega), hst.2 i hi]; exact k
theorem xa_pairLevel_a {p0 p1 : Int32} (hR : rx_R c M (fC, fV, fH, fP, fsl, fll, ftl, fpl, fN, fS, fh, fe, ft, fr, aSy, aLb, aLt, aPf, aGv, aKd, aLv, aLn, aVr, aSt, aHc, aHs, aPr, aRm, aTl, aAr, aPl, aSk, aEl, aEs, aEp, aEx, aTs, aTn, aTb, aTz, aTp, aAs, aAl, aAv, aRe)) (h : p0 < nI c.C ∨ nI (c.C + c.V) ≤ p0) (k : post (-1)) : wpX_pairLevel post (fC, fV, fH, fP, fsl, fll, ftl, fpl, fN, fS, fh, fe, ft, fr, aSy, aLb, aLt, aPf, aGv, aKd, aLv, aLn, aVr, aSt, aHc, aHs, aPr, aRm, aTl, aAr, aPl, aSk, aEl, aEs, aEp, aEx, aTs, aTn, aTb, aTz, aTp, aAs, aAl, aAv, aRe) p0 p1 := by
  unfold wpX_pairLevel
  exact xw_isVar_n hR h (br_t rfl k)
theorem xa_pairLevel_b {s : Nat} {p1 : Int32} (hI : ab_I c) (hR : rx_R c M (fC, fV, fH, fP, fsl, fll, ftl, fpl, fN, fS, fh, fe, ft, fr, aSy, aLb, aLt, aPf, aGv, aKd, aLv, aLn, aVr, aSt, aHc, aHs, aPr, aRm, aTl, aAr, aPl, aSk, aEl, aEs, aEp, aEx, aTs, aTn, aTb, aTz, aTp, aAs, aAl, aAv, aRe)) (h1 : c.C ≤ s) (h2 : s < c.C + c.V) (h : p1 < nI c.C ∨ nI (c.C + c.V) ≤ p1) (k : post (-1)) : wpX_pairLevel post (fC, fV, fH, fP, fsl, fll, ftl, fpl, fN, fS, fh, fe, ft, fr, aSy, aLb, aLt, aPf, aGv, aKd, aLv, aLn, aVr, aSt, aHc, aHs, aPr, aRm, aTl, aAr, aPl, aSk, aEl, aEs, aEp, aEx, aTs, aTn, aTb, aTz, aTp, aAs, aAl, aAv, aRe) (nI s) p1 := by
  obtain ⟨z1, z2, z3, z4, _⟩ := hI.1
  unfold wpX_pairLevel
  exact xw_isVar_y hR h1 h2 (by omega) (br_f (by decide) (xw_isVar_n hR h (br_t rfl k)))
theorem xa_pairLevel_c {s : Nat} (hI : ab_I c) (hR : rx_R c M (fC, fV, fH, fP, fsl, fll, ftl, fpl, fN, fS, fh, fe, ft, fr, aSy, aLb, aLt, aPf, aGv, aKd, aLv, aLn, aVr, aSt, aHc, aHs, aPr, aRm, aTl, aAr, aPl, aSk, aEl, aEs, aEp, aEx, aTs, aTn, aTb, aTz, aTp, aAs, aAl, aAv, aRe)) (h1 : c.C ≤ s) (h2 : s < c.C + c.V) (k : post (-1)) : wpX_pairLevel post (fC, fV, fH, fP, fsl, fll, ftl, fpl, fN, fS, fh, fe, ft, fr, aSy, aLb, aLt, aPf, aGv, aKd, aLv, aLn, aVr, aSt, aHc, aHs, aPr, aRm, aTl, aAr, aPl, aSk, aEl, aEs, aEp, aEx, aTs, aTn, aTb, aTz, aTp, aAs, aAl, aAv, aRe) (nI s) (nI s) := by
  obtain ⟨z1, z2, z3, z4, _⟩ := hI.1
  unfold wpX_pairLevel
  exact xw_isVar_y hR h1 h2 (by omega) (br_f (by decide) (xw_isVar_y hR h1 h2 (by omega) (br_f (by decide) (br_t rfl k))))
theorem xa_pairLevel_y {s t : Nat} (hI : ab_I c) (hR : rx_R c M (fC, fV, fH, fP, fsl, fll, ftl, fpl, fN, fS, fh, fe, ft, fr, aSy, aLb, aLt, aPf, aGv, aKd, aLv, aLn, aVr, aSt, aHc, aHs, aPr, aRm, aTl, aAr, aPl, aSk, aEl, aEs, aEp, aEx, aTs, aTn, aTb, aTz, aTp, aAs, aAl, aAv, aRe)) (h1 : c.C ≤ s) (h2 : s < c.C + c.V) (h3 : c.C ≤ t) (h4 : t < c.C + c.V) (hn : s ≠ t) (k : post (if c.pl s t = 0 then -21 else nI (c.pl s t - 1))) : wpX_pairLevel post (fC, fV, fH, fP, fsl, fll, ftl, fpl, fN, fS, fh, fe, ft, fr, aSy, aLb, aLt, aPf, aGv, aKd, aLv, aLn, aVr, aSt, aHc, aHs, aPr, aRm, aTl, aAr, aPl, aSk, aEl, aEs, aEp, aEx, aTs, aTn, aTb, aTz, aTp, aAs, aAl, aAv, aRe) (nI s) (nI t) := by
  obtain ⟨z1, z2, z3, z4, _⟩ := hI.1
  have hpl := hR.2.2.2.2.2.2.2.2.2.2.2.2.2.2
  unfold wpX_pairLevel
  refine xw_isVar_y hR h1 h2 (by omega) (br_f (by decide) (xw_isVar_y hR h3 h4 (by omega) (br_f (by decide) (pk_eq s t (fun h => absurd h hn) (fun _ => ?_)))))
  refine nm_r (e' := nI (s - c.C)) (by rw [hR.1.1, pk_sub h1]) (nm_r (e' := nI (t - c.C)) (by rw [hR.1.1, pk_sub h3]) ?_)
  refine ⟨pk_in ((s - c.C) * 8 + (t - c.C)) 64 (by omega) (zb_ix _ 8 _), ?_⟩
  rw [zb_c8 (s - c.C) (t - c.C) (by omega), hpl _ _ (by omega) (by omega), show c.C + (s - c.C) = s by omega, show c.C + (t - c.C) = t by omega]
  exact k
theorem xa_fd_n {p0 p1 p2 : Int32} (hR : rx_R c M (fC, fV, fH, fP, fsl, fll, ftl, fpl, fN, fS, fh, fe, ft, fr, aSy, aLb, aLt, aPf, aGv, aKd, aLv, aLn, aVr, aSt, aHc, aHs, aPr, aRm, aTl, aAr, aPl, aSk, aEl, aEs, aEp, aEx, aTs, aTn, aTb, aTz, aTp, aAs, aAl, aAv, aRe)) (h : p0 < 0 ∨ nI c.N ≤ p0) (k : post 0) : wpX_frameDisjoint post (fC, fV, fH, fP, fsl, fll, ftl, fpl, fN, fS, fh, fe, ft, fr, aSy, aLb, aLt, aPf, aGv, aKd, aLv, aLn, aVr, aSt, aHc, aHs, aPr, aRm, aTl, aAr, aPl, aSk, aEl, aEs, aEp, aEx, aTs, aTn, aTb, aTz, aTp, aAs, aAl, aAv, aRe) p0 p1 p2 := by
  unfold wpX_frameDisjoint
  exact xw_isAss_n hR h (br_t rfl k)
theorem xa_fd_h {j : Nat} {p1 p2 : Int32} (hI : ab_I c) (hR : rx_R c M (fC, fV, fH, fP, fsl, fll, ftl, fpl, fN, fS, fh, fe, ft, fr, aSy, aLb, aLt, aPf, aGv, aKd, aLv, aLn, aVr, aSt, aHc, aHs, aPr, aRm, aTl, aAr, aPl, aSk, aEl, aEs, aEp, aEx, aTs, aTn, aTb, aTz, aTp, aAs, aAl, aAv, aRe)) (hj : j < c.N) (h : c.kd j < 3) (k : post 0) : wpX_frameDisjoint post (fC, fV, fH, fP, fsl, fll, ftl, fpl, fN, fS, fh, fe, ft, fr, aSy, aLb, aLt, aPf, aGv, aKd, aLv, aLn, aVr, aSt, aHc, aHs, aPr, aRm, aTl, aAr, aPl, aSk, aEl, aEs, aEp, aEx, aTs, aTn, aTb, aTz, aTp, aAs, aAl, aAv, aRe) (nI j) p1 p2 := by
  unfold wpX_frameDisjoint
  refine xw_isAss hI hR hj ?_
  rw [decide_eq_false (by omega)]
  exact br_t rfl k
theorem xa_fd_a {j : Nat} {p1 p2 : Int32} (hI : ab_I c) (hR : rx_R c M (fC, fV, fH, fP, fsl, fll, ftl, fpl, fN, fS, fh, fe, ft, fr, aSy, aLb, aLt, aPf, aGv, aKd, aLv, aLn, aVr, aSt, aHc, aHs, aPr, aRm, aTl, aAr, aPl, aSk, aEl, aEs, aEp, aEx, aTs, aTn, aTb, aTz, aTp, aAs, aAl, aAv, aRe)) (hj : j < c.N) (h3 : 3 ≤ c.kd j) (h : p1 < nI c.C ∨ nI (c.C + c.V) ≤ p1) (k : post 0) : wpX_frameDisjoint post (fC, fV, fH, fP, fsl, fll, ftl, fpl, fN, fS, fh, fe, ft, fr, aSy, aLb, aLt, aPf, aGv, aKd, aLv, aLn, aVr, aSt, aHc, aHs, aPr, aRm, aTl, aAr, aPl, aSk, aEl, aEs, aEp, aEx, aTs, aTn, aTb, aTz, aTp, aAs, aAl, aAv, aRe) (nI j) p1 p2 := by
  unfold wpX_frameDisjoint
  refine xw_isAss hI hR hj ?_
  rw [decide_eq_true h3]
  exact br_f (by decide) (xw_isVar_n hR h (br_t rfl k))
theorem xa_fd_b {j s : Nat} {p2 : Int32} (hI : ab_I c) (hR : rx_R c M (fC, fV, fH, fP, fsl, fll, ftl, fpl, fN, fS, fh, fe, ft, fr, aSy, aLb, aLt, aPf, aGv, aKd, aLv, aLn, aVr, aSt, aHc, aHs, aPr, aRm, aTl, aAr, aPl, aSk, aEl, aEs, aEp, aEx, aTs, aTn, aTb, aTz, aTp, aAs, aAl, aAv, aRe)) (hj : j < c.N) (h3 : 3 ≤ c.kd j) (h1 : c.C ≤ s) (h2 : s < c.C + c.V) (h : p2 < nI c.C ∨ nI (c.C + c.V) ≤ p2) (k : post 0) : wpX_frameDisjoint post (fC, fV, fH, fP, fsl, fll, ftl, fpl, fN, fS, fh, fe, ft, fr, aSy, aLb, aLt, aPf, aGv, aKd, aLv, aLn, aVr, aSt, aHc, aHs, aPr, aRm, aTl, aAr, aPl, aSk, aEl, aEs, aEp, aEx, aTs, aTn, aTb, aTz, aTp, aAs, aAl, aAv, aRe) (nI j) (nI s) p2 := by
  obtain ⟨z1, z2, z3, z4, _⟩ := hI.1
  unfold wpX_frameDisjoint
  refine xw_isAss hI hR hj ?_
  rw [decide_eq_true h3]
  exact br_f (by decide) (xw_isVar_y hR h1 h2 (by omega) (br_f (by decide) (xw_isVar_n hR h (br_t rfl k))))
theorem xa_fd_y {j s t : Nat} (hI : ab_I c) (hR : rx_R c c.N (fC, fV, fH, fP, fsl, fll, ftl, fpl, fN, fS, fh, fe, ft, fr, aSy, aLb, aLt, aPf, aGv, aKd, aLv, aLn, aVr, aSt, aHc, aHs, aPr, aRm, aTl, aAr, aPl, aSk, aEl, aEs, aEp, aEx, aTs, aTn, aTb, aTz, aTp, aAs, aAl, aAv, aRe)) (hj : j < c.N) (h3 : 3 ≤ c.kd j) (h1 : c.C ≤ s) (h2 : s < c.C + c.V) (h4 : c.C ≤ t) (h5 : t < c.C + c.V) (k : post (zb_1 (c.fp j s t))) : wpX_frameDisjoint post (fC, fV, fH, fP, fsl, fll, ftl, fpl, fN, fS, fh, fe, ft, fr, aSy, aLb, aLt, aPf, aGv, aKd, aLv, aLn, aVr, aSt, aHc, aHs, aPr, aRm, aTl, aAr, aPl, aSk, aEl, aEs, aEp, aEx, aTs, aTn, aTb, aTz, aTp, aAs, aAl, aAv, aRe) (nI j) (nI s) (nI t) := by
  obtain ⟨z1, z2, z3, z4, _⟩ := hI.1
  have h24 : c.N ≤ 24 := hI.1.2.2.2.2.2.2.2.2.1
  have hpr := hR.2.2.2.2.2.2.2.2.2.2.1 j hj h3 (s - c.C) (by omega)
  unfold wpX_frameDisjoint
  refine xw_isAss hI hR hj ?_
  rw [decide_eq_true h3]
  refine br_f (by decide) (xw_isVar_y hR h1 h2 (by omega) (br_f (by decide) (xw_isVar_y hR h4 h5 (by omega) (br_f (by decide) ?_))))
  refine nm_r (e' := nI (s - c.C)) (by rw [hR.1.1, pk_sub h1]) (nm_r (e' := nI (t - c.C)) (by rw [hR.1.1, pk_sub h4]) ?_)
  refine ⟨pk_in (j * 8 + (s - c.C)) 192 (by omega) (zb_ix _ 8 _), ?_⟩
  rw [zb_c8 j (s - c.C) (by omega)]
  refine xw_hasBit hpr (by omega) ⟨zb_1n _, ?_⟩
  rw [show c.C + (s - c.C) = s by omega, show c.C + (t - c.C) = t by omega]
  exact k
theorem xa_ro_n {p0 p1 : Int32} (hR : rx_R c M (fC, fV, fH, fP, fsl, fll, ftl, fpl, fN, fS, fh, fe, ft, fr, aSy, aLb, aLt, aPf, aGv, aKd, aLv, aLn, aVr, aSt, aHc, aHs, aPr, aRm, aTl, aAr, aPl, aSk, aEl, aEs, aEp, aEx, aTs, aTn, aTb, aTz, aTp, aAs, aAl, aAv, aRe)) (h : p0 < 0 ∨ nI c.N ≤ p0) (k : post 0) : wpX_restsOn post (fC, fV, fH, fP, fsl, fll, ftl, fpl, fN, fS, fh, fe, ft, fr, aSy, aLb, aLt, aPf, aGv, aKd, aLv, aLn, aVr, aSt, aHc, aHs, aPr, aRm, aTl, aAr, aPl, aSk, aEl, aEs, aEp, aEx, aTs, aTn, aTb, aTz, aTp, aAs, aAl, aAv, aRe) p0 p1 := by
  unfold wpX_restsOn
  exact xw_isAss_n hR h (br_t rfl k)
theorem xa_ro_h {j : Nat} {p1 : Int32} (hI : ab_I c) (hR : rx_R c M (fC, fV, fH, fP, fsl, fll, ftl, fpl, fN, fS, fh, fe, ft, fr, aSy, aLb, aLt, aPf, aGv, aKd, aLv, aLn, aVr, aSt, aHc, aHs, aPr, aRm, aTl, aAr, aPl, aSk, aEl, aEs, aEp, aEx, aTs, aTn, aTb, aTz, aTp, aAs, aAl, aAv, aRe)) (hj : j < c.N) (h : c.kd j < 3) (k : post 0) : wpX_restsOn post (fC, fV, fH, fP, fsl, fll, ftl, fpl, fN, fS, fh, fe, ft, fr, aSy, aLb, aLt, aPf, aGv, aKd, aLv, aLn, aVr, aSt, aHc, aHs, aPr, aRm, aTl, aAr, aPl, aSk, aEl, aEs, aEp, aEx, aTs, aTn, aTb, aTz, aTp, aAs, aAl, aAv, aRe) (nI j) p1 := by
  unfold wpX_restsOn
  refine xw_isAss hI hR hj ?_
  rw [decide_eq_false (by omega)]
  exact br_t rfl k
theorem xa_ro_a {j : Nat} {p1 : Int32} (hI : ab_I c) (hR : rx_R c M (fC, fV, fH, fP, fsl, fll, ftl, fpl, fN, fS, fh, fe, ft, fr, aSy, aLb, aLt, aPf, aGv, aKd, aLv, aLn, aVr, aSt, aHc, aHs, aPr, aRm, aTl, aAr, aPl, aSk, aEl, aEs, aEp, aEx, aTs, aTn, aTb, aTz, aTp, aAs, aAl, aAv, aRe)) (hj : j < c.N) (h3 : 3 ≤ c.kd j) (h : p1 < 0 ∨ nI c.N ≤ p1) (k : post 0) : wpX_restsOn post (fC, fV, fH, fP, fsl, fll, ftl, fpl, fN, fS, fh, fe, ft, fr, aSy, aLb, aLt, aPf, aGv, aKd, aLv, aLn, aVr, aSt, aHc, aHs, aPr, aRm, aTl, aAr, aPl, aSk, aEl, aEs, aEp, aEx, aTs, aTn, aTb, aTz, aTp, aAs, aAl, aAv, aRe) (nI j) p1 := by
  unfold wpX_restsOn
  refine xw_isAss hI hR hj ?_
  rw [decide_eq_true h3]
  exact br_f (by decide) (xw_isSt_n hR.1.2.2.2.2.1 h (br_t rfl k))
theorem xa_ro_b {j a : Nat} (hI : ab_I c) (hR : rx_R c M (fC, fV, fH, fP, fsl, fll, ftl, fpl, fN, fS, fh, fe, ft, fr, aSy, aLb, aLt, aPf, aGv, aKd, aLv, aLn, aVr, aSt, aHc, aHs, aPr, aRm, aTl, aAr, aPl, aSk, aEl, aEs, aEp, aEx, aTs, aTn, aTb, aTz, aTp, aAs, aAl, aAv, aRe)) (hj : j < c.N) (h3 : 3 ≤ c.kd j) (ha : a < c.N) (h : c.kd a ≠ 3) (k : post 0) : wpX_restsOn post (fC, fV, fH, fP, fsl, fll, ftl, fpl, fN, fS, fh, fe, ft, fr, aSy, aLb, aLt, aPf, aGv, aKd, aLv, aLn, aVr, aSt, aHc, aHs, aPr, aRm, aTl, aAr, aPl, aSk, aEl, aEs, aEp, aEx, aTs, aTn, aTb, aTz, aTp, aAs, aAl, aAv, aRe) (nI j) (nI a) := by
  have h24 : c.N ≤ 24 := hI.1.2.2.2.2.2.2.2.2.1
  have hk4 := (hI.2.2.1 a ha).2.1
  unfold wpX_restsOn
  refine xw_isAss hI hR hj ?_
  rw [decide_eq_true h3]
  refine br_f (by decide) (xw_isSt_y hR.1.2.2.2.2.1 ha h24 (br_f (by decide) ⟨vp_in_nI (by omega) (by omega), br_f ?_ k⟩))
  rw [nI_clamp (by omega), hR.2.2.2.2.2.1 a ha]
  intro z
  exact h ((nI_eq (b := 3) (by omega) (by omega)).mp z)
theorem xa_ro_y {j a : Nat} (hI : ab_I c) (hR : rx_R c M (fC, fV, fH, fP, fsl, fll, ftl, fpl, fN, fS, fh, fe, ft, fr, aSy, aLb, aLt, aPf, aGv, aKd, aLv, aLn, aVr, aSt, aHc, aHs, aPr, aRm, aTl, aAr, aPl, aSk, aEl, aEs, aEp, aEx, aTs, aTn, aTb, aTz, aTp, aAs, aAl, aAv, aRe)) (hj : j < c.N) (h3 : 3 ≤ c.kd j) (ha : a < c.N) (h : c.kd a = 3) (k : post (zb_1 (c.rs j a))) : wpX_restsOn post (fC, fV, fH, fP, fsl, fll, ftl, fpl, fN, fS, fh, fe, ft, fr, aSy, aLb, aLt, aPf, aGv, aKd, aLv, aLn, aVr, aSt, aHc, aHs, aPr, aRm, aTl, aAr, aPl, aSk, aEl, aEs, aEp, aEx, aTs, aTn, aTb, aTz, aTp, aAs, aAl, aAv, aRe) (nI j) (nI a) := by
  have h24 : c.N ≤ 24 := hI.1.2.2.2.2.2.2.2.2.1
  have hrm := hR.2.2.2.2.2.2.2.2.2.2.2.1 j hj
  unfold wpX_restsOn
  refine xw_isAss hI hR hj ?_
  rw [decide_eq_true h3]
  refine br_f (by decide) (xw_isSt_y hR.1.2.2.2.2.1 ha h24 (br_f (by decide) ⟨vp_in_nI (by omega) (by omega), br_t ?_ ⟨vp_in_nI (by omega) (by omega), ?_⟩⟩))
  · rw [nI_clamp (by omega), hR.2.2.2.2.2.1 a ha, h]; rfl
  · rw [nI_clamp (by omega)]
    exact xw_hasBit hrm (by omega) ⟨zb_1n _, k⟩
end
end
section
/-! the reference's methods that only read -/
def ab_M (c : ab_W) (M : Nat) : Prop := M ≤ 24 ∧ ∀ j, j < M → ab_ok c j
theorem ab_MI {c : ab_W} (h : ab_I c) : ab_M c c.N := ⟨h.1.2.2.2.2.2.2.2.2.1, h.2.2.1⟩
theorem zb_mem {l : List Nat} {s : Nat} : s ∈ l ↔ ∃ i, i < l.length ∧ l.getD i 0 = s := by
  rw [List.mem_iff_getElem]
  constructor
  · intro ⟨i, h, e⟩
    exact ⟨i, h, by rw [List.getD_eq_getElem?_getD, List.getElem?_eq_getElem h]; exact e⟩
  · intro ⟨i, h, e⟩
    rw [List.getD_eq_getElem?_getD, List.getElem?_eq_getElem h] at e
    exact ⟨i, h, e⟩
theorem zb_1d {b d : Bool} {post : Int32 → Prop} (k : post (zb_1 b)) (e : b = d) : post (zb_1 d) := e ▸ k
theorem zb_k1 {b : Bool} {post : Int32 → Prop} (k : post (zb_1 b)) (e : b = true) : post 1 := by rw [e] at k; exact k
theorem zb_k0 {b : Bool} {post : Int32 → Prop} (k : post (zb_1 b)) (e : b = false) : post 0 := by rw [e] at k; exact k
section
variable {c : ab_W} {M : Nat} {post : Int32 → Prop} {gC gA gH gP gN gS gx gd go : Int32} {bKd bLn bLv bSt bCa bPl bSn bPf bPn bLs bLe bGv bXs bSk bSl bOu bAs bTb bTn : Nat → Int32}
theorem yw_isVar_n {p0 : Int32} (hR : ry_R c M (gC, gA, gH, gP, gN, gS, gx, gd, go, bKd, bLn, bLv, bSt, bCa, bPl, bSn, bPf, bPn, bLs, bLe, bGv, bXs, bSk, bSl, bOu, bAs, bTb, bTn)) (h : p0 < nI c.C ∨ nI (c.C + c.V) ≤ p0) (k : post 0) : wpY_isVar post (gC, gA, gH, gP, gN, gS, gx, gd, go, bKd, bLn, bLv, bSt, bCa, bPl, bSn, bPf, bPn, bLs, bLe, bGv, bXs, bSk, bSl, bOu, bAs, bTb, bTn) p0 := by
  refine br_c (fun _ => k) (fun h1 => br_c (fun _ => k) (fun h2 => ?_))
  rw [hR.1.1] at h1
  rw [hR.1.2.1] at h2
  rcases h with h | h
  · exact absurd h h1
  · exact absurd h h2
theorem yw_isVar_y {s : Nat} (hR : ry_R c M (gC, gA, gH, gP, gN, gS, gx, gd, go, bKd, bLn, bLv, bSt, bCa, bPl, bSn, bPf, bPn, bLs, bLe, bGv, bXs, bSk, bSl, bOu, bAs, bTb, bTn)) (h1 : c.C ≤ s) (h2 : s < c.C + c.V) (hb : c.C + c.V ≤ 16) (k : post 1) : wpY_isVar post (gC, gA, gH, gP, gN, gS, gx, gd, go, bKd, bLn, bLv, bSt, bCa, bPl, bSn, bPf, bPn, bLs, bLe, bGv, bXs, bSk, bSl, bOu, bAs, bTb, bTn) (nI s) := by
  refine pk_lt s c.C (fun h => absurd h (by omega)) (fun _ => ?_) rfl hR.1.1
  exact pk_le (c.C + c.V) s (fun h => absurd h (by omega)) (fun _ => k) hR.1.2.1 rfl
theorem yw_isSt_n {p0 : Int32} (hR : ry_R c M (gC, gA, gH, gP, gN, gS, gx, gd, go, bKd, bLn, bLv, bSt, bCa, bPl, bSn, bPf, bPn, bLs, bLe, bGv, bXs, bSk, bSl, bOu, bAs, bTb, bTn)) (h : p0 < 0 ∨ nI c.N ≤ p0) (k : post 0) : wpY_isStatement post (gC, gA, gH, gP, gN, gS, gx, gd, go, bKd, bLn, bLv, bSt, bCa, bPl, bSn, bPf, bPn, bLs, bLe, bGv, bXs, bSk, bSl, bOu, bAs, bTb, bTn) p0 := by
  refine br_c (fun _ => k) (fun h0 => br_c (fun _ => k) (fun h1 => ?_))
  rcases h with h | h
  · exact absurd h h0
  · rw [hR.1.2.2.2.2.1] at h1; exact absurd h h1
theorem yw_isSt_y {j : Nat} (hR : ry_R c M (gC, gA, gH, gP, gN, gS, gx, gd, go, bKd, bLn, bLv, bSt, bCa, bPl, bSn, bPf, bPn, bLs, bLe, bGv, bXs, bSk, bSl, bOu, bAs, bTb, bTn)) (hj : j < c.N) (h24 : c.N ≤ 24) (k : post 1) : wpY_isStatement post (gC, gA, gH, gP, gN, gS, gx, gd, go, bKd, bLn, bLv, bSt, bCa, bPl, bSn, bPf, bPn, bLs, bLe, bGv, bXs, bSk, bSl, bOu, bAs, bTb, bTn) (nI j) :=
  br_f (nI_pos (by omega)) (pk_le c.N j (fun h => absurd h (by omega)) (fun _ => k) hR.1.2.2.2.2.1)
theorem yw_isAss_n {p0 : Int32} (hR : ry_R c M (gC, gA, gH, gP, gN, gS, gx, gd, go, bKd, bLn, bLv, bSt, bCa, bPl, bSn, bPf, bPn, bLs, bLe, bGv, bXs, bSk, bSl, bOu, bAs, bTb, bTn)) (h : p0 < 0 ∨ nI c.N ≤ p0) (k : post 0) : wpY_isAssertion post (gC, gA, gH, gP, gN, gS, gx, gd, go, bKd, bLn, bLv, bSt, bCa, bPl, bSn, bPf, bPn, bLs, bLe, bGv, bXs, bSk, bSl, bOu, bAs, bTb, bTn) p0 := by
  unfold wpY_isAssertion
  exact yw_isSt_n hR h (br_t rfl k)
theorem yw_isAss {j : Nat} (hI : ab_I c) (hR : ry_R c c.N (gC, gA, gH, gP, gN, gS, gx, gd, go, bKd, bLn, bLv, bSt, bCa, bPl, bSn, bPf, bPn, bLs, bLe, bGv, bXs, bSk, bSl, bOu, bAs, bTb, bTn)) (hj : j < c.N) (k : post (zb_1 (decide (3 ≤ c.kd j)))) : wpY_isAssertion post (gC, gA, gH, gP, gN, gS, gx, gd, go, bKd, bLn, bLv, bSt, bCa, bPl, bSn, bPf, bPn, bLs, bLe, bGv, bXs, bSk, bSl, bOu, bAs, bTb, bTn) (nI j) := by
  have h24 : c.N ≤ 24 := hI.1.2.2.2.2.2.2.2.2.1
  have hk4 := (hI.2.2.1 j hj).2.1
  unfold wpY_isAssertion
  refine yw_isSt_y hR hj h24 (br_f (by decide) ⟨vp_in_nI (by omega) (by omega), ?_⟩)
  rw [nI_clamp (by omega), hR.2.2.2.2.1 j hj]
  refine pk_lt (c.kd j) 3 (fun h => ?_) (fun h => ?_)
  · exact zb_k0 k (decide_eq_false (by omega))
  · exact zb_k1 k (decide_eq_true h)
theorem yw_hasTyped {s : Nat} (hI : ab_I c) (hR : ry_R c c.N (gC, gA, gH, gP, gN, gS, gx, gd, go, bKd, bLn, bLv, bSt, bCa, bPl, bSn, bPf, bPn, bLs, bLe, bGv, bXs, bSk, bSl, bOu, bAs, bTb, bTn)) (hs : s < 2 ^ 31) (k : post (zb_1 (c.ht s))) : wpY_hasTyped post (gC, gA, gH, gP, gN, gS, gx, gd, go, bKd, bLn, bLv, bSt, bCa, bPl, bSn, bPf, bPn, bLs, bLe, bGv, bXs, bSk, bSl, bOu, bAs, bTb, bTn) (nI s) := by
  have h24 : c.N ≤ 24 := hI.1.2.2.2.2.2.2.2.2.1
  have hz := hI.1
  obtain ⟨z1, z2, z3, z4, z5, z6, z7, z8, z9, z10⟩ := hI.1
  unfold wpY_hasTyped
  refine zb_find (fun n i => wY_hasTyped_2 post (nI s) gC gA gH gP gN gS gx gd go bKd bLn bLv bSt bCa bPl bSn bPf bPn bLs bLe bGv bXs bSk bSl bOu bAs bTb bTn n (nI i)) (fun j => ¬ (c.kd j = 1 ∧ c.ca j = 0 ∧ c.var j = s)) c.N ?_ ?_ ?_
  · intro n j hj hp w
    have ho := hI.2.2.1 j hj
    have hca := hI.2.2.2.1.1 j
    refine pk_le c.N j (fun h => absurd h (by omega)) (fun _ => ⟨vp_in_nI (by omega) (by omega), ?_⟩) hR.1.2.2.2.2.1 rfl
    rw [nI_clamp (by omega), hR.2.2.2.2.1 j hj]
    refine pk_eq (c.kd j) 1 (fun q1 => ⟨vp_in_nI (by omega) (by omega), ?_⟩) (fun _ => nm_r (nI_1 j) w) rfl rfl (by have := ho.2.1; omega) (by omega)
    rw [hR.2.2.2.2.2.2.2.1 j (by omega)]
    refine pk_eq (c.ca j) 0 (fun q2 => ⟨pk_in (j * 10 + 1) 240 (by omega) (zb_ix j 10 1), ?_⟩) (fun _ => nm_r (nI_1 j) w) rfl rfl (by omega) (by omega)
    have h2 := (ho.2.2.2.2.2.2.1 q1).1
    rw [zb_d10 j (by omega), (hR.2.2.2.2.2.2.1 j hj).2 1 (by omega)]
    have hv : c.var j < c.C + c.V := ho.2.2.2.2.2.1 _ (zb_gm (by omega))
    refine pk_eq (c.var j) s (fun q3 => absurd ⟨q1, q2, q3⟩ hp) (fun _ => nm_r (nI_1 j) w) rfl rfl (by omega) hs
  · intro n j hj hp _
    obtain ⟨q1, q2, q3⟩ := Classical.not_not.mp hp
    have ho := hI.2.2.1 j hj
    have h2 := (ho.2.2.2.2.2.2.1 q1).1
    refine pk_le c.N j (fun h => absurd h (by omega)) (fun _ => ⟨vp_in_nI (by omega) (by omega), ?_⟩) hR.1.2.2.2.2.1 rfl
    rw [nI_clamp (by omega), hR.2.2.2.2.1 j hj, q1]
    refine br_t rfl ⟨vp_in_nI (by omega) (by omega), ?_⟩
    rw [hR.2.2.2.2.2.2.2.1 j (by omega), q2]
    refine br_t rfl ⟨pk_in (j * 10 + 1) 240 (by omega) (zb_ix j 10 1), ?_⟩
    rw [zb_d10 j (by omega), (hR.2.2.2.2.2.2.1 j hj).2 1 (by omega)]
    refine br_t (congrArg nI q3) (zb_k1 k ?_)
    exact ab_ht_i.mpr ⟨j, hj, q1, q2, q3⟩
  · intro hp n
    refine pk_le c.N c.N (fun _ => ?_) (fun h => absurd h (by omega)) hR.1.2.2.2.2.1 rfl
    refine zb_k0 k ?_
    rw [Bool.eq_false_iff]
    intro z
    obtain ⟨j, h1, h2⟩ := ab_ht_i.mp z
    exact hp j h1 h2
theorem yw_act {x j : Nat} (hI : ab_I c) (hM : ab_M c M) (hR : ry_R c M (gC, gA, gH, gP, gN, gS, gx, gd, go, bKd, bLn, bLv, bSt, bCa, bPl, bSn, bPf, bPn, bLs, bLe, bGv, bXs, bSk, bSl, bOu, bAs, bTb, bTn)) (hj : j < M) (hx : x < M) (k : post (zb_1 (c.act x j))) : wpY_wasActive post (gC, gA, gH, gP, gN, gS, gx, gd, go, bKd, bLn, bLv, bSt, bCa, bPl, bSn, bPf, bPn, bLs, bLe, bGv, bXs, bSk, bSl, bOu, bAs, bTb, bTn) (nI x) (nI j) := by
  have hca := hI.2.2.2.1.1 j
  have hz := hI.1
  obtain ⟨z1, z2, z3, z4, z5, z6, z7, z8, z9, z10⟩ := hI.1
  have hm := hM.1
  have hk4 := (hM.2 j hj).2.1
  unfold ab_W.act ab_act at k
  refine pk_le x j (fun h => ?_) (fun h => ⟨vp_in_nI (by omega) (by omega), ?_⟩)
  · exact zb_k0 k (by rw [decide_eq_false (by omega)]; rfl)
  · rw [decide_eq_true h, Bool.true_and] at k
    rw [nI_clamp (by omega), hR.2.2.2.2.1 j hj]
    refine pk_lt 2 (c.kd j) (fun h2 => ?_) (fun h2 => ⟨vp_in_nI (by omega) (by omega), ?_⟩)
    · exact zb_k0 k (by rw [decide_eq_false (by omega)]; rfl)
    · rw [decide_eq_true h2, Bool.true_and] at k
      rw [hR.2.2.2.2.2.2.2.1 j (by omega)]
      refine pk_eq (c.ca j) 0 (fun h3 => ?_) (fun h3 => ⟨vp_in_nI (by omega) (by omega), ?_⟩) rfl rfl (by omega) (by omega)
      · exact zb_k1 k (by rw [decide_eq_true h3]; rfl)
      · refine pk_le (c.ca j) x (fun h4 => ?_) (fun h4 => ?_) rfl rfl (by omega) (by omega)
        · exact zb_k0 k (by rw [decide_eq_false h3, decide_eq_false (by omega)]; rfl)
        · exact zb_k1 k (by rw [decide_eq_true h4, Bool.or_true])
theorem yw_occ {x s : Nat} (hM : ab_M c M) (hz : ab_Sz c) (hR : ry_R c M (gC, gA, gH, gP, gN, gS, gx, gd, go, bKd, bLn, bLv, bSt, bCa, bPl, bSn, bPf, bPn, bLs, bLe, bGv, bXs, bSk, bSl, bOu, bAs, bTb, bTn)) (hx : x < M) (hs : s < 2 ^ 31) (k : post (zb_1 (decide (s ∈ c.sg x)))) : wpY_occurs post (gC, gA, gH, gP, gN, gS, gx, gd, go, bKd, bLn, bLv, bSt, bCa, bPl, bSn, bPf, bPn, bLs, bLe, bGv, bXs, bSk, bSl, bOu, bAs, bTb, bTn) (nI x) (nI s) := by
  have hm := hM.1
  have ho := hM.2 x hx
  have hl := ho.2.2.2.1
  have hst := hR.2.2.2.2.2.2.1 x hx
  have hz1 := hz.2.1
  have hz2 := hz.2.2.2.1
  unfold wpY_occurs
  refine zb_find (fun n i => wY_occurs_2 post (nI x) (nI s) gC gA gH gP gN gS gx gd go bKd bLn bLv bSt bCa bPl bSn bPf bPn bLs bLe bGv bXs bSk bSl bOu bAs bTb bTn n (nI i)) (fun i => (c.sg x).getD i 0 ≠ s) (c.sg x).length ?_ ?_ ?_
  · intro n i hi hp w
    refine And.intro (vp_in_nI (by omega) (by omega)) ?_
    rw [nI_clamp (by omega), hst.1]
    refine pk_le _ i (fun h => absurd h (by omega)) (fun _ => ⟨pk_in (x * 10 + i) 240 (by omega) (zb_ix x 10 i), ?_⟩) rfl rfl (by omega) (by omega)
    rw [zb_c10 x i (by omega), hst.2 i hi]
    have hv := ho.2.2.2.2.2.1 _ (zb_gm hi)
    exact pk_eq _ s (fun h => absurd h hp) (fun _ => nm_r (nI_1 i) w) rfl rfl (by omega) hs
  · intro n i hi hp _
    refine And.intro (vp_in_nI (by omega) (by omega)) ?_
    rw [nI_clamp (by omega), hst.1]
    refine pk_le _ i (fun h => absurd h (by omega)) (fun _ => ⟨pk_in (x * 10 + i) 240 (by omega) (zb_ix x 10 i), ?_⟩) rfl rfl (by omega) (by omega)
    rw [zb_c10 x i (by omega), hst.2 i hi]
    have hp := Classical.not_not.mp hp
    refine br_t (congrArg nI hp) (zb_k1 k (decide_eq_true ?_))
    rw [← hp]; exact zb_gm hi
  · intro hp n
    refine And.intro (vp_in_nI (by omega) (by omega)) ?_
    rw [nI_clamp (by omega), hst.1]
    refine pk_le _ (c.sg x).length (fun _ => ?_) (fun h => absurd h (by omega)) rfl rfl (by omega) (by omega)
    refine zb_k0 k (decide_eq_false ?_)
    intro z
    obtain ⟨i, h1, h2⟩ := zb_mem.mp z
    exact hp i h1 h2
theorem yw_man {x s : Nat} (hI : ab_I c) (hM : ab_M c M) (hR : ry_R c M (gC, gA, gH, gP, gN, gS, gx, gd, go, bKd, bLn, bLv, bSt, bCa, bPl, bSn, bPf, bPn, bLs, bLe, bGv, bXs, bSk, bSl, bOu, bAs, bTb, bTn)) (hx : x < M) (hs : s < 2 ^ 31) (k : post (zb_1 (c.man x s))) : wpY_mandatory post (gC, gA, gH, gP, gN, gS, gx, gd, go, bKd, bLn, bLv, bSt, bCa, bPl, bSn, bPf, bPn, bLs, bLe, bGv, bXs, bSk, bSl, bOu, bAs, bTb, bTn) (nI x) (nI s) := by
  have hm := hM.1
  unfold wpY_mandatory
  refine yw_occ hM hI.1 hR hx hs (zb_br (fun h0 => ?_) (fun h0 => ?_))
  · rw [decide_eq_false_iff_not] at h0
    refine zb_find (fun n i => wY_mandatory_13 post (nI x) (nI s) gC gA gH gP gN gS gx gd go bKd bLn bLv bSt bCa bPl bSn bPf bPn bLs bLe bGv bXs bSk bSl bOu bAs bTb bTn n (nI i)) (fun j => ¬ (c.kd j = 2 ∧ c.act x j = true ∧ s ∈ c.sg j)) x ?_ ?_ ?_
    · intro n j hj hp w
      have hk4 := (hM.2 j (by omega)).2.1
      refine pk_le x j (fun h => absurd h (by omega)) (fun _ => ⟨vp_in_nI (by omega) (by omega), ?_⟩)
      rw [nI_clamp (by omega), hR.2.2.2.2.1 j (by omega)]
      refine pk_eq (c.kd j) 2 (fun q1 => ?_) (fun _ => nm_r (nI_1 j) w) rfl rfl (by omega) (by omega)
      refine yw_act hI hM hR (by omega) hx (zb_br (fun _ => nm_r (nI_1 j) w) (fun q2 => ?_))
      refine yw_occ hM hI.1 hR (by omega) hs (zb_br (fun _ => nm_r (nI_1 j) w) (fun q3 => ?_))
      exact absurd ⟨q1, q2, of_decide_eq_true q3⟩ hp
    · intro n j hj hp _
      obtain ⟨q1, q2, q3⟩ := Classical.not_not.mp hp
      refine pk_le x j (fun h => absurd h (by omega)) (fun _ => ⟨vp_in_nI (by omega) (by omega), ?_⟩)
      rw [nI_clamp (by omega), hR.2.2.2.2.1 j (by omega), q1]
      refine br_t rfl (yw_act hI hM hR (by omega) hx ?_)
      rw [q2]
      refine br_f (by decide) (yw_occ hM hI.1 hR (by omega) hs ?_)
      rw [decide_eq_true q3]
      refine br_f (by decide) (zb_k1 k ?_)
      exact ab_man_i.mpr (Or.inr ⟨j, hj, q1, (ab_act_i.mp q2).2.2, q3⟩)
    · intro hp n
      refine pk_le x x (fun _ => ?_) (fun h => absurd h (by omega))
      refine zb_k0 k ?_
      rw [Bool.eq_false_iff]
      intro z
      rcases ab_man_i.mp z with z | ⟨j, h1, h2, h3, h4⟩
      · exact h0 z
      · exact hp j h1 ⟨h2, ab_act_i.mpr ⟨h1, by omega, h3⟩, h4⟩
  · rw [decide_eq_true_iff] at h0
    exact zb_k1 k (ab_man_i.mpr (Or.inl h0))
theorem yw_inF {x j : Nat} (hI : ab_I c) (hM : ab_M c M) (hR : ry_R c M (gC, gA, gH, gP, gN, gS, gx, gd, go, bKd, bLn, bLv, bSt, bCa, bPl, bSn, bPf, bPn, bLs, bLe, bGv, bXs, bSk, bSl, bOu, bAs, bTb, bTn)) (hx : x < M) (hj : j < x) (k : post (zb_1 (c.inF x j))) : wpY_inFrame post (gC, gA, gH, gP, gN, gS, gx, gd, go, bKd, bLn, bLv, bSt, bCa, bPl, bSn, bPf, bPn, bLs, bLe, bGv, bXs, bSk, bSl, bOu, bAs, bTb, bTn) (nI x) (nI j) := by
  have hm := hM.1
  have hz := hI.1
  obtain ⟨z1, z2, z3, z4, z5, z6, z7, z8, z9, z10⟩ := hI.1
  have ho := hM.2 j (by omega)
  unfold wpY_inFrame
  refine yw_act hI hM hR (by omega) hx (zb_br (fun h0 => ?_) (fun h0 => ⟨vp_in_nI (by omega) (by omega), ?_⟩))
  · refine zb_k0 k ?_
    show (ab_act c.kd c.ca x j && _) = false
    rw [show ab_act c.kd c.ca x j = false from h0]; rfl
  · rw [nI_clamp (by omega), hR.2.2.2.2.1 j (by omega)]
    have ha := ab_act_i.mp h0
    refine pk_eq (c.kd j) 2 (fun q1 => ?_) (fun q1 => ⟨pk_in (j * 10 + 1) 240 (by omega) (zb_ix j 10 1), ?_⟩) rfl rfl (by omega) (by omega)
    · exact zb_k1 k (ab_inF_i.mpr ⟨ha, Or.inl q1⟩)
    · have hk1 : c.kd j = 1 := by have := ho.1; omega
      have h2 := (ho.2.2.2.2.2.2.1 hk1).1
      rw [zb_d10 j (by omega), (hR.2.2.2.2.2.2.1 j (by omega)).2 1 (by omega)]
      have hv : (c.sg j).getD 1 0 < c.C + c.V := ho.2.2.2.2.2.1 _ (zb_gm (by omega))
      have hz1 := hz.2.1
      have hz2 := hz.2.2.2.1
      refine yw_man hI hM hR hx (by omega) (zb_br (fun q2 => ?_) (fun q2 => ?_))
      · refine zb_k0 k ?_
        rw [Bool.eq_false_iff]
        intro z
        rcases (ab_inF_i.mp z).2 with z | z
        · exact q1 z
        · rw [show ab_man c.kd c.ca c.sg x ((c.sg j).getD 1 0) = false from q2] at z; exact absurd z (by decide)
      · exact zb_k1 k (ab_inF_i.mpr ⟨ha, Or.inr q2⟩)
theorem zb_fr (p : Nat → Bool) (j : Nat) : (List.range (j + 1)).filter p = (List.range j).filter p ++ (if p j = true then [j] else []) := by
  rw [List.range_succ, List.filter_append]
  congr 1
  by_cases h : p j = true
  · rw [if_pos h, List.filter_cons_of_pos h]; rfl
  · rw [if_neg h, List.filter_cons_of_neg h]; rfl
theorem yw_count {x : Nat} (hI : ab_I c) (hM : ab_M c M) (hR : ry_R c M (gC, gA, gH, gP, gN, gS, gx, gd, go, bKd, bLn, bLv, bSt, bCa, bPl, bSn, bPf, bPn, bLs, bLe, bGv, bXs, bSk, bSl, bOu, bAs, bTb, bTn)) (hx : x < M) (k : post (nI (c.q x))) : wpY_count post (gC, gA, gH, gP, gN, gS, gx, gd, go, bKd, bLn, bLv, bSt, bCa, bPl, bSn, bPf, bPn, bLs, bLe, bGv, bXs, bSk, bSl, bOu, bAs, bTb, bTn) (nI x) := by
  have hm := hM.1
  have ho := hM.2 x hx
  have hk4 := ho.2.1
  unfold wpY_count
  unfold ab_W.q at k
  refine And.intro (vp_in_nI (by omega) (by omega)) ?_
  rw [nI_clamp (by omega), hR.2.2.2.2.1 x hx]
  refine pk_lt (c.kd x) 3 (fun h => ?_) (fun h => ?_)
  · rw [if_pos (by omega)] at k; exact k
  · rw [if_neg (by omega)] at k
    have e0 : (0 : Int32) = nI ((List.range 0).filter (c.inF x)).length := rfl
    have key : ∃ n, wY_count_14 post (nI x) gC gA gH gP gN gS gx gd go bKd bLn bLv bSt bCa bPl bSn bPf bPn bLs bLe bGv bXs bSk bSl bOu bAs bTb bTn n (nI ((List.range 0).filter (c.inF x)).length) (nI 0) := by
      refine zb_count (fun n i => wY_count_14 post (nI x) gC gA gH gP gN gS gx gd go bKd bLn bLv bSt bCa bPl bSn bPf bPn bLs bLe bGv bXs bSk bSl bOu bAs bTb bTn n (nI ((List.range i).filter (c.inF x)).length) (nI i)) x ?_ ?_
      · intro n j hj w
        rw [zb_fr] at w
        refine pk_le x j (fun h => absurd h (by omega)) (fun _ => ?_)
        refine yw_inF hI hM hR hx hj (zb_br (fun q => ?_) (fun q => ?_))
        · rw [if_neg (by rw [q]; decide), List.append_nil] at w
          exact nm_r (nI_1 j) w
        · rw [if_pos q, List.length_append, List.length_singleton] at w
          exact nm_r (nI_1 _) (nm_r (nI_1 j) w)
      · intro n
        refine pk_le x x (fun _ => k) (fun h => absurd h (by omega))
    exact key
theorem zb_cnt {p : Nat → Bool} {i : Nat} : ∀ n, i < ((List.range n).filter p).length → ∃ j, j < n ∧ p j = true ∧ ((List.range j).filter p).length = i := by
  intro n
  induction n with
  | zero => intro h; exact absurd h (Nat.not_lt_zero i)
  | succ n ih =>
    intro h
    by_cases q : i < ((List.range n).filter p).length
    · obtain ⟨j, h1, h2⟩ := ih q
      exact ⟨j, by omega, h2⟩
    · rw [zb_fr] at h
      by_cases q2 : p n = true
      · rw [if_pos q2, List.length_append, List.length_singleton] at h
        exact ⟨n, by omega, q2, by omega⟩
      · rw [if_neg q2, List.append_nil] at h
        exact absurd h q
theorem zb_nth {p : Nat → Bool} {j : Nat} (hp : p j = true) : ∀ d, ((List.range (j + 1 + d)).filter p).getD ((List.range j).filter p).length 0 = j ∧ ((List.range j).filter p).length < ((List.range (j + 1 + d)).filter p).length := by
  intro d
  induction d with
  | zero =>
    rw [Nat.add_zero, zb_fr, if_pos hp, List.length_append, List.length_singleton]
    exact ⟨zb_gar (i := 0), by omega⟩
  | succ d ih =>
    rw [show j + 1 + (d + 1) = (j + 1 + d) + 1 by omega, zb_fr, List.length_append]
    exact ⟨by rw [zb_gal ih.2]; exact ih.1, by omega⟩
theorem yw_nth_n {x : Nat} {p1 : Int32} (hI : ab_I c) (hM : ab_M c M) (hR : ry_R c M (gC, gA, gH, gP, gN, gS, gx, gd, go, bKd, bLn, bLv, bSt, bCa, bPl, bSn, bPf, bPn, bLs, bLe, bGv, bXs, bSk, bSl, bOu, bAs, bTb, bTn)) (hx : x < M) (h : p1 < 0 ∨ nI (c.hs x).length ≤ p1) (k : post (-1)) : wpY_nth post (gC, gA, gH, gP, gN, gS, gx, gd, go, bKd, bLn, bLv, bSt, bCa, bPl, bSn, bPf, bPn, bLs, bLe, bGv, bXs, bSk, bSl, bOu, bAs, bTb, bTn) (nI x) p1 := by
  have hm := hM.1
  have hlen : (c.hs x).length ≤ x := ab_hs_len
  unfold wpY_nth
  have key : ∃ n, wY_nth_5 post (nI x) p1 gC gA gH gP gN gS gx gd go bKd bLn bLv bSt bCa bPl bSn bPf bPn bLs bLe bGv bXs bSk bSl bOu bAs bTb bTn n (nI ((List.range 0).filter (c.inF x)).length) (nI 0) := by
    refine zb_count (fun n i => wY_nth_5 post (nI x) p1 gC gA gH gP gN gS gx gd go bKd bLn bLv bSt bCa bPl bSn bPf bPn bLs bLe bGv bXs bSk bSl bOu bAs bTb bTn n (nI ((List.range i).filter (c.inF x)).length) (nI i)) x ?_ ?_
    · intro n j hj w
      rw [zb_fr] at w
      refine pk_le x j (fun h => absurd h (by omega)) (fun _ => ?_)
      refine yw_inF hI hM hR hx hj (zb_br (fun q => ?_) (fun q => ?_))
      · rw [if_neg (by rw [q]; decide), List.append_nil] at w
        exact nm_r (nI_1 j) w
      · rw [if_pos q, List.length_append, List.length_singleton] at w
        refine br_f ?_ (nm_r (nI_1 _) (nm_r (nI_1 j) w))
        intro e
        have hlt : ((List.range j).filter (c.inF x)).length < (c.hs x).length := by
          have := (zb_nth q (x - j - 1)).2
          rw [show j + 1 + (x - j - 1) = x by omega] at this
          exact this
        rcases h with h | h
        · rw [← e] at h; exact absurd h (nI_pos (by omega))
        · rw [← e, nI_leI (by omega) (by omega)] at h; omega
    · intro n
      refine pk_le x x (fun _ => k) (fun h => absurd h (by omega))
  exact key
theorem yw_nth_y {x i : Nat} (hI : ab_I c) (hM : ab_M c M) (hR : ry_R c M (gC, gA, gH, gP, gN, gS, gx, gd, go, bKd, bLn, bLv, bSt, bCa, bPl, bSn, bPf, bPn, bLs, bLe, bGv, bXs, bSk, bSl, bOu, bAs, bTb, bTn)) (hx : x < M) (hi : i < (c.hs x).length) (k : post (nI ((c.hs x).getD i 0))) : wpY_nth post (gC, gA, gH, gP, gN, gS, gx, gd, go, bKd, bLn, bLv, bSt, bCa, bPl, bSn, bPf, bPn, bLs, bLe, bGv, bXs, bSk, bSl, bOu, bAs, bTb, bTn) (nI x) (nI i) := by
  have hm := hM.1
  have hlen : (c.hs x).length ≤ x := ab_hs_len
  unfold wpY_nth
  have key : ∃ n, wY_nth_5 post (nI x) (nI i) gC gA gH gP gN gS gx gd go bKd bLn bLv bSt bCa bPl bSn bPf bPn bLs bLe bGv bXs bSk bSl bOu bAs bTb bTn n (nI ((List.range 0).filter (c.inF x)).length) (nI 0) := by
    refine zb_find (fun n j => wY_nth_5 post (nI x) (nI i) gC gA gH gP gN gS gx gd go bKd bLn bLv bSt bCa bPl bSn bPf bPn bLs bLe bGv bXs bSk bSl bOu bAs bTb bTn n (nI ((List.range j).filter (c.inF x)).length) (nI j)) (fun j => ¬ (c.inF x j = true ∧ ((List.range j).filter (c.inF x)).length = i)) x ?_ ?_ ?_
    · intro n j hj hp w
      rw [zb_fr] at w
      have hc : ((List.range j).filter (c.inF x)).length ≤ j := Nat.le_trans (List.length_filter_le _ _) (by rw [List.length_range]; omega)
      refine pk_le x j (fun h => absurd h (by omega)) (fun _ => ?_)
      refine yw_inF hI hM hR hx hj (zb_br (fun q => ?_) (fun q => ?_))
      · rw [if_neg (by rw [q]; decide), List.append_nil] at w
        exact nm_r (nI_1 j) w
      · rw [if_pos q, List.length_append, List.length_singleton] at w
        refine pk_eq _ i (fun e => absurd ⟨q, e⟩ hp) (fun _ => nm_r (nI_1 _) (nm_r (nI_1 j) w)) rfl rfl (by omega) (by omega)
    · intro n j hj hp _
      obtain ⟨q, e⟩ := Classical.not_not.mp hp
      refine pk_le x j (fun h => absurd h (by omega)) (fun _ => ?_)
      refine yw_inF hI hM hR hx hj ?_
      rw [q]
      refine br_f (by decide) (br_t (congrArg nI e) ?_)
      have := (zb_nth q (x - j - 1)).1
      rw [show j + 1 + (x - j - 1) = x by omega, e] at this
      have e2 : (c.hs x).getD i 0 = j := this
      rw [e2] at k; exact k
    · intro hp n
      obtain ⟨j, h1, h2, h3⟩ := zb_cnt x hi
      exact absurd ⟨h2, h3⟩ (hp j h1)
  exact key
theorem yw_fp {x s t : Nat} (hI : ab_I c) (hM : ab_M c M) (hR : ry_R c M (gC, gA, gH, gP, gN, gS, gx, gd, go, bKd, bLn, bLv, bSt, bCa, bPl, bSn, bPf, bPn, bLs, bLe, bGv, bXs, bSk, bSl, bOu, bAs, bTb, bTn)) (hx : x < M) (h3 : 3 ≤ c.kd x) (hs : s < 16) (ht : t < 16) (k : post (zb_1 (c.fp x s t))) : wpY_framePair post (gC, gA, gH, gP, gN, gS, gx, gd, go, bKd, bLn, bLv, bSt, bCa, bPl, bSn, bPf, bPn, bLs, bLe, bGv, bXs, bSk, bSl, bOu, bAs, bTb, bTn) (nI x) (nI s) (nI t) := by
  have hm := hM.1
  unfold wpY_framePair
  unfold ab_W.fp at k
  refine And.intro (pk_in (x * 256 + s * 16 + t) 6144 (by omega) (zb_x256 x s t)) ?_
  rw [zb_c256 x s t (by omega), hR.2.2.2.2.2.2.2.2.2.1 x hx h3 s t hs ht]
  refine zb_br (fun q => ?_) (fun q => ?_)
  · rw [q] at k; exact k
  · rw [q, Bool.true_and] at k
    refine yw_man hI hM hR hx (by omega) (zb_br (fun q1 => ?_) (fun q1 => ?_))
    · rw [q1] at k; exact k
    · rw [q1, Bool.true_and] at k
      refine yw_man hI hM hR hx (by omega) (zb_br (fun q2 => ?_) (fun q2 => ?_))
      · rw [q2] at k; exact k
      · rw [q2] at k; exact k
end
end
section
/-! the reference's answers that only read -/
section
variable {c : ab_W} {M : Nat} {post : Int32 → Prop} {gC gA gH gP gN gS gx gd go : Int32} {bKd bLn bLv bSt bCa bPl bSn bPf bPn bLs bLe bGv bXs bSk bSl bOu bAs bTb bTn : Nat → Int32}
theorem ya_kind_n {p0 : Int32} (hR : ry_R c M (gC, gA, gH, gP, gN, gS, gx, gd, go, bKd, bLn, bLv, bSt, bCa, bPl, bSn, bPf, bPn, bLs, bLe, bGv, bXs, bSk, bSl, bOu, bAs, bTb, bTn)) (h : p0 < 0 ∨ nI c.N ≤ p0) (k : post (-1)) : wpY_kind post (gC, gA, gH, gP, gN, gS, gx, gd, go, bKd, bLn, bLv, bSt, bCa, bPl, bSn, bPf, bPn, bLs, bLe, bGv, bXs, bSk, bSl, bOu, bAs, bTb, bTn) p0 := by
  unfold wpY_kind
  exact yw_isSt_n hR h (br_t rfl k)
theorem ya_kind_y {j : Nat} (hI : ab_I c) (hR : ry_R c c.N (gC, gA, gH, gP, gN, gS, gx, gd, go, bKd, bLn, bLv, bSt, bCa, bPl, bSn, bPf, bPn, bLs, bLe, bGv, bXs, bSk, bSl, bOu, bAs, bTb, bTn)) (hj : j < c.N) (k : post (nI (c.kd j))) : wpY_kind post (gC, gA, gH, gP, gN, gS, gx, gd, go, bKd, bLn, bLv, bSt, bCa, bPl, bSn, bPf, bPn, bLs, bLe, bGv, bXs, bSk, bSl, bOu, bAs, bTb, bTn) (nI j) := by
  have h24 : c.N ≤ 24 := hI.1.2.2.2.2.2.2.2.2.1
  unfold wpY_kind
  refine yw_isSt_y hR hj h24 (br_f (by decide) ⟨vp_in_nI (by omega) (by omega), ?_⟩)
  rw [nI_clamp (by omega), hR.2.2.2.2.1 j hj]; exact k
theorem ya_level_n {p0 : Int32} (hR : ry_R c M (gC, gA, gH, gP, gN, gS, gx, gd, go, bKd, bLn, bLv, bSt, bCa, bPl, bSn, bPf, bPn, bLs, bLe, bGv, bXs, bSk, bSl, bOu, bAs, bTb, bTn)) (h : p0 < 0 ∨ nI c.N ≤ p0) (k : post (-1)) : wpY_level post (gC, gA, gH, gP, gN, gS, gx, gd, go, bKd, bLn, bLv, bSt, bCa, bPl, bSn, bPf, bPn, bLs, bLe, bGv, bXs, bSk, bSl, bOu, bAs, bTb, bTn) p0 := by
  unfold wpY_level
  exact yw_isSt_n hR h (br_t rfl k)
theorem ya_level_y {j : Nat} (hI : ab_I c) (hR : ry_R c c.N (gC, gA, gH, gP, gN, gS, gx, gd, go, bKd, bLn, bLv, bSt, bCa, bPl, bSn, bPf, bPn, bLs, bLe, bGv, bXs, bSk, bSl, bOu, bAs, bTb, bTn)) (hj : j < c.N) (k : post (c.lev j)) : wpY_level post (gC, gA, gH, gP, gN, gS, gx, gd, go, bKd, bLn, bLv, bSt, bCa, bPl, bSn, bPf, bPn, bLs, bLe, bGv, bXs, bSk, bSl, bOu, bAs, bTb, bTn) (nI j) := by
  have h24 : c.N ≤ 24 := hI.1.2.2.2.2.2.2.2.2.1
  have hk4 := (hI.2.2.1 j hj).2.1
  have hca := hI.2.2.2.1.1 j
  unfold wpY_level
  unfold ab_W.lev at k
  refine yw_isSt_y hR hj h24 (br_f (by decide) ⟨vp_in_nI (by omega) (by omega), ?_⟩)
  rw [nI_clamp (by omega), hR.2.2.2.2.1 j hj]
  refine pk_lt (c.kd j) 3 (fun h => ⟨vp_in_nI (by omega) (by omega), ?_⟩) (fun h => ?_)
  · rw [if_neg (by omega)] at k
    rw [hR.2.2.2.2.2.2.2.1 j (by omega)]
    refine pk_eq (c.ca j) 0 (fun h2 => ⟨vp_in_nI (by omega) (by omega), ?_⟩) (fun h2 => ?_) rfl rfl (by omega) (by omega)
    · rw [if_pos h2] at k
      rw [hR.2.2.2.2.2.1 j hj]; exact k
    · rw [if_neg h2] at k; exact k
  · rw [if_pos h] at k; exact k
theorem ya_length_n {p0 : Int32} (hR : ry_R c M (gC, gA, gH, gP, gN, gS, gx, gd, go, bKd, bLn, bLv, bSt, bCa, bPl, bSn, bPf, bPn, bLs, bLe, bGv, bXs, bSk, bSl, bOu, bAs, bTb, bTn)) (h : p0 < 0 ∨ nI c.N ≤ p0) (k : post (-1)) : wpY_length post (gC, gA, gH, gP, gN, gS, gx, gd, go, bKd, bLn, bLv, bSt, bCa, bPl, bSn, bPf, bPn, bLs, bLe, bGv, bXs, bSk, bSl, bOu, bAs, bTb, bTn) p0 := by
  unfold wpY_length
  exact yw_isSt_n hR h (br_t rfl k)
theorem ya_length_y {j : Nat} (hI : ab_I c) (hR : ry_R c c.N (gC, gA, gH, gP, gN, gS, gx, gd, go, bKd, bLn, bLv, bSt, bCa, bPl, bSn, bPf, bPn, bLs, bLe, bGv, bXs, bSk, bSl, bOu, bAs, bTb, bTn)) (hj : j < c.N) (k : post (nI (c.sg j).length)) : wpY_length post (gC, gA, gH, gP, gN, gS, gx, gd, go, bKd, bLn, bLv, bSt, bCa, bPl, bSn, bPf, bPn, bLs, bLe, bGv, bXs, bSk, bSl, bOu, bAs, bTb, bTn) (nI j) := by
  have h24 : c.N ≤ 24 := hI.1.2.2.2.2.2.2.2.2.1
  unfold wpY_length
  refine yw_isSt_y hR hj h24 (br_f (by decide) ⟨vp_in_nI (by omega) (by omega), ?_⟩)
  rw [nI_clamp (by omega), (hR.2.2.2.2.2.2.1 j hj).1]; exact k
theorem ya_symbolAt_n {p0 p1 : Int32} (hR : ry_R c M (gC, gA, gH, gP, gN, gS, gx, gd, go, bKd, bLn, bLv, bSt, bCa, bPl, bSn, bPf, bPn, bLs, bLe, bGv, bXs, bSk, bSl, bOu, bAs, bTb, bTn)) (h : p0 < 0 ∨ nI c.N ≤ p0) (k : post (-1)) : wpY_symbolAt post (gC, gA, gH, gP, gN, gS, gx, gd, go, bKd, bLn, bLv, bSt, bCa, bPl, bSn, bPf, bPn, bLs, bLe, bGv, bXs, bSk, bSl, bOu, bAs, bTb, bTn) p0 p1 := by
  unfold wpY_symbolAt
  exact yw_isSt_n hR h (br_t rfl k)
theorem ya_symbolAt_m {j : Nat} {p1 : Int32} (hI : ab_I c) (hR : ry_R c c.N (gC, gA, gH, gP, gN, gS, gx, gd, go, bKd, bLn, bLv, bSt, bCa, bPl, bSn, bPf, bPn, bLs, bLe, bGv, bXs, bSk, bSl, bOu, bAs, bTb, bTn)) (hj : j < c.N) (h : p1 < 0 ∨ nI (c.sg j).length ≤ p1) (k : post (-1)) : wpY_symbolAt post (gC, gA, gH, gP, gN, gS, gx, gd, go, bKd, bLn, bLv, bSt, bCa, bPl, bSn, bPf, bPn, bLs, bLe, bGv, bXs, bSk, bSl, bOu, bAs, bTb, bTn) (nI j) p1 := by
  have h24 : c.N ≤ 24 := hI.1.2.2.2.2.2.2.2.2.1
  unfold wpY_symbolAt
  refine yw_isSt_y hR hj h24 (br_f (by decide) (br_c (fun _ => k) (fun h1 => ⟨vp_in_nI (by omega) (by omega), br_f ?_ k⟩)))
  rw [nI_clamp (by omega), (hR.2.2.2.2.2.2.1 j hj).1]
  rcases h with h | h
  · exact absurd h h1
  · exact fun z => Int32.not_le.mpr z h
theorem ya_symbolAt_y {j i : Nat} (hI : ab_I c) (hR : ry_R c c.N (gC, gA, gH, gP, gN, gS, gx, gd, go, bKd, bLn, bLv, bSt, bCa, bPl, bSn, bPf, bPn, bLs, bLe, bGv, bXs, bSk, bSl, bOu, bAs, bTb, bTn)) (hj : j < c.N) (hi : i < (c.sg j).length) (k : post (nI ((c.sg j).getD i 0))) : wpY_symbolAt post (gC, gA, gH, gP, gN, gS, gx, gd, go, bKd, bLn, bLv, bSt, bCa, bPl, bSn, bPf, bPn, bLs, bLe, bGv, bXs, bSk, bSl, bOu, bAs, bTb, bTn) (nI j) (nI i) := by
  have h24 : c.N ≤ 24 := hI.1.2.2.2.2.2.2.2.2.1
  have h10 := (hI.2.2.1 j hj).2.2.2.1
  have hst := hR.2.2.2.2.2.2.1 j hj
  unfold wpY_symbolAt
  refine yw_isSt_y hR hj h24 (br_f (by decide) (br_f (nI_pos (by omega)) ⟨vp_in_nI (by omega) (by omega), br_t ?_ ⟨pk_in (j * 10 + i) 240 (by omega) (zb_ix j 10 i), ?_⟩⟩))
  · rw [nI_clamp (by omega), hst.1]; exact nI_lt hi (by omega)
  · rw [zb_c10 j i (by omega), hst.2 i hi]; exact k
theorem ya_hypCount_n {p0 : Int32} (hR : ry_R c M (gC, gA, gH, gP, gN, gS, gx, gd, go, bKd, bLn, bLv, bSt, bCa, bPl, bSn, bPf, bPn, bLs, bLe, bGv, bXs, bSk, bSl, bOu, bAs, bTb, bTn)) (h : p0 < 0 ∨ nI c.N ≤ p0) (k : post (-1)) : wpY_hypCount post (gC, gA, gH, gP, gN, gS, gx, gd, go, bKd, bLn, bLv, bSt, bCa, bPl, bSn, bPf, bPn, bLs, bLe, bGv, bXs, bSk, bSl, bOu, bAs, bTb, bTn) p0 := by
  unfold wpY_hypCount
  exact yw_isSt_n hR h (br_t rfl k)
theorem ya_hypCount_y {j : Nat} (hI : ab_I c) (hR : ry_R c c.N (gC, gA, gH, gP, gN, gS, gx, gd, go, bKd, bLn, bLv, bSt, bCa, bPl, bSn, bPf, bPn, bLs, bLe, bGv, bXs, bSk, bSl, bOu, bAs, bTb, bTn)) (hj : j < c.N) (k : post (nI (c.q j))) : wpY_hypCount post (gC, gA, gH, gP, gN, gS, gx, gd, go, bKd, bLn, bLv, bSt, bCa, bPl, bSn, bPf, bPn, bLs, bLe, bGv, bXs, bSk, bSl, bOu, bAs, bTb, bTn) (nI j) := by
  have h24 : c.N ≤ 24 := hI.1.2.2.2.2.2.2.2.2.1
  unfold wpY_hypCount
  exact yw_isSt_y hR hj h24 (br_f (by decide) (yw_count hI (ab_MI hI) hR hj k))
theorem ya_hypAt_n {p0 p1 : Int32} (hR : ry_R c M (gC, gA, gH, gP, gN, gS, gx, gd, go, bKd, bLn, bLv, bSt, bCa, bPl, bSn, bPf, bPn, bLs, bLe, bGv, bXs, bSk, bSl, bOu, bAs, bTb, bTn)) (h : p0 < 0 ∨ nI c.N ≤ p0) (k : post (-1)) : wpY_hypAt post (gC, gA, gH, gP, gN, gS, gx, gd, go, bKd, bLn, bLv, bSt, bCa, bPl, bSn, bPf, bPn, bLs, bLe, bGv, bXs, bSk, bSl, bOu, bAs, bTb, bTn) p0 p1 := by
  unfold wpY_hypAt
  exact yw_isAss_n hR h (br_t rfl k)
theorem ya_hypAt_h {j : Nat} {p1 : Int32} (hI : ab_I c) (hR : ry_R c c.N (gC, gA, gH, gP, gN, gS, gx, gd, go, bKd, bLn, bLv, bSt, bCa, bPl, bSn, bPf, bPn, bLs, bLe, bGv, bXs, bSk, bSl, bOu, bAs, bTb, bTn)) (hj : j < c.N) (h : c.kd j < 3) (k : post (-1)) : wpY_hypAt post (gC, gA, gH, gP, gN, gS, gx, gd, go, bKd, bLn, bLv, bSt, bCa, bPl, bSn, bPf, bPn, bLs, bLe, bGv, bXs, bSk, bSl, bOu, bAs, bTb, bTn) (nI j) p1 := by
  unfold wpY_hypAt
  refine yw_isAss hI hR hj ?_
  rw [decide_eq_false (by omega)]
  exact br_t rfl k
theorem ya_hypAt_m {j : Nat} {p1 : Int32} (hI : ab_I c) (hR : ry_R c c.N (gC, gA, gH, gP, gN, gS, gx, gd, go, bKd, bLn, bLv, bSt, bCa, bPl, bSn, bPf, bPn, bLs, bLe, bGv, bXs, bSk, bSl, bOu, bAs, bTb, bTn)) (hj : j < c.N) (h3 : 3 ≤ c.kd j) (h : p1 < 0 ∨ nI (c.hs j).length ≤ p1) (k : post (-1)) : wpY_hypAt post (gC, gA, gH, gP, gN, gS, gx, gd, go, bKd, bLn, bLv, bSt, bCa, bPl, bSn, bPf, bPn, bLs, bLe, bGv, bXs, bSk, bSl, bOu, bAs, bTb, bTn) (nI j) p1 := by
  unfold wpY_hypAt
  refine yw_isAss hI hR hj ?_
  rw [decide_eq_true h3]
  exact br_f (by decide) (yw_nth_n hI (ab_MI hI) hR hj h k)
theorem ya_hypAt_y {j i : Nat} (hI : ab_I c) (hR : ry_R c c.N (gC, gA, gH, gP, gN, gS, gx, gd, go, bKd, bLn, bLv, bSt, bCa, bPl, bSn, bPf, bPn, bLs, bLe, bGv, bXs, bSk, bSl, bOu, bAs, bTb, bTn)) (hj : j < c.N) (h3 : 3 ≤ c.kd j) (hi : i < (c.hs j).length) (k : post (nI ((c.hs j).getD i 0))) : wpY_hypAt post (gC, gA, gH, gP, gN, gS, gx, gd, go, bKd, bLn, bLv, bSt, bCa, bPl, bSn, bPf, bPn, bLs, bLe, bGv, bXs, bSk, bSl, bOu, bAs, bTb, bTn) (nI j) (nI i) := by
  unfold wpY_hypAt
  refine yw_isAss hI hR hj ?_
  rw [decide_eq_true h3]
  exact br_f (by decide) (yw_nth_y hI (ab_MI hI) hR hj hi k)
theorem ya_pairLevel_a {p0 p1 : Int32} (hR : ry_R c M (gC, gA, gH, gP, gN, gS, gx, gd, go, bKd, bLn, bLv, bSt, bCa, bPl, bSn, bPf, bPn, bLs, bLe, bGv, bXs, bSk, bSl, bOu, bAs, bTb, bTn)) (h : p0 < nI c.C ∨ nI (c.C + c.V) ≤ p0) (k : post (-1)) : wpY_pairLevel post (gC, gA, gH, gP, gN, gS, gx, gd, go, bKd, bLn, bLv, bSt, bCa, bPl, bSn, bPf, bPn, bLs, bLe, bGv, bXs, bSk, bSl, bOu, bAs, bTb, bTn) p0 p1 := by
  unfold wpY_pairLevel
  exact yw_isVar_n hR h (br_t rfl k)
theorem ya_pairLevel_b {s : Nat} {p1 : Int32} (hI : ab_I c) (hR : ry_R c M (gC, gA, gH, gP, gN, gS, gx, gd, go, bKd, bLn, bLv, bSt, bCa, bPl, bSn, bPf, bPn, bLs, bLe, bGv, bXs, bSk, bSl, bOu, bAs, bTb, bTn)) (h1 : c.C ≤ s) (h2 : s < c.C + c.V) (h : p1 < nI c.C ∨ nI (c.C + c.V) ≤ p1) (k : post (-1)) : wpY_pairLevel post (gC, gA, gH, gP, gN, gS, gx, gd, go, bKd, bLn, bLv, bSt, bCa, bPl, bSn, bPf, bPn, bLs, bLe, bGv, bXs, bSk, bSl, bOu, bAs, bTb, bTn) (nI s) p1 := by
  obtain ⟨z1, z2, z3, z4, _⟩ := hI.1
  unfold wpY_pairLevel
  exact yw_isVar_y hR h1 h2 (by omega) (br_f (by decide) (yw_isVar_n hR h (br_t rfl k)))
theorem ya_pairLevel_c {s : Nat} (hI : ab_I c) (hR : ry_R c M (gC, gA, gH, gP, gN, gS, gx, gd, go, bKd, bLn, bLv, bSt, bCa, bPl, bSn, bPf, bPn, bLs, bLe, bGv, bXs, bSk, bSl, bOu, bAs, bTb, bTn)) (h1 : c.C ≤ s) (h2 : s < c.C + c.V) (k : post (-1)) : wpY_pairLevel post (gC, gA, gH, gP, gN, gS, gx, gd, go, bKd, bLn, bLv, bSt, bCa, bPl, bSn, bPf, bPn, bLs, bLe, bGv, bXs, bSk, bSl, bOu, bAs, bTb, bTn) (nI s) (nI s) := by
  obtain ⟨z1, z2, z3, z4, _⟩ := hI.1
  unfold wpY_pairLevel
  exact yw_isVar_y hR h1 h2 (by omega) (br_f (by decide) (yw_isVar_y hR h1 h2 (by omega) (br_f (by decide) (br_t rfl k))))
theorem ya_pairLevel_y {s t : Nat} (hI : ab_I c) (hR : ry_R c M (gC, gA, gH, gP, gN, gS, gx, gd, go, bKd, bLn, bLv, bSt, bCa, bPl, bSn, bPf, bPn, bLs, bLe, bGv, bXs, bSk, bSl, bOu, bAs, bTb, bTn)) (h1 : c.C ≤ s) (h2 : s < c.C + c.V) (h3 : c.C ≤ t) (h4 : t < c.C + c.V) (hn : s ≠ t) (k : post (if c.pl s t = 0 then -21 else nI (c.pl s t - 1))) : wpY_pairLevel post (gC, gA, gH, gP, gN, gS, gx, gd, go, bKd, bLn, bLv, bSt, bCa, bPl, bSn, bPf, bPn, bLs, bLe, bGv, bXs, bSk, bSl, bOu, bAs, bTb, bTn) (nI s) (nI t) := by
  obtain ⟨z1, z2, z3, z4, z5, z6, z7, z8, z9, z10⟩ := hI.1
  have hpl := hR.2.2.2.2.2.2.2.2.1 s t (by omega) (by omega)
  have hb := hI.2.2.2.2.2.2.2.1.2.1 s t
  have hi : vp_in (nI s * 16 + nI t) 256 := pk_in (s * 16 + t) 256 (by omega) (zb_ix s 16 t)
  unfold wpY_pairLevel
  refine yw_isVar_y hR h1 h2 (by omega) (br_f (by decide) (yw_isVar_y hR h3 h4 (by omega) (br_f (by decide) (pk_eq s t (fun h => absurd h hn) (fun _ => ⟨hi, ?_⟩)))))
  rw [zb_c16 s t (by omega), hpl]
  refine pk_eq (c.pl s t) 0 (fun h => ?_) (fun h => ⟨hi, ?_⟩) rfl rfl (by omega) (by omega)
  · rw [if_pos h] at k; exact k
  · rw [if_neg h] at k
    rw [show nI (c.pl s t) - 1 = nI (c.pl s t - 1) from pk_sub (b := 1) (by omega)]
    exact k
theorem ya_fd_n {p0 p1 p2 : Int32} (hR : ry_R c M (gC, gA, gH, gP, gN, gS, gx, gd, go, bKd, bLn, bLv, bSt, bCa, bPl, bSn, bPf, bPn, bLs, bLe, bGv, bXs, bSk, bSl, bOu, bAs, bTb, bTn)) (h : p0 < 0 ∨ nI c.N ≤ p0) (k : post 0) : wpY_frameDisjoint post (gC, gA, gH, gP, gN, gS, gx, gd, go, bKd, bLn, bLv, bSt, bCa, bPl, bSn, bPf, bPn, bLs, bLe, bGv, bXs, bSk, bSl, bOu, bAs, bTb, bTn) p0 p1 p2 := by
  unfold wpY_frameDisjoint
  exact yw_isAss_n hR h (br_t rfl k)
theorem ya_fd_h {j : Nat} {p1 p2 : Int32} (hI : ab_I c) (hR : ry_R c c.N (gC, gA, gH, gP, gN, gS, gx, gd, go, bKd, bLn, bLv, bSt, bCa, bPl, bSn, bPf, bPn, bLs, bLe, bGv, bXs, bSk, bSl, bOu, bAs, bTb, bTn)) (hj : j < c.N) (h : c.kd j < 3) (k : post 0) : wpY_frameDisjoint post (gC, gA, gH, gP, gN, gS, gx, gd, go, bKd, bLn, bLv, bSt, bCa, bPl, bSn, bPf, bPn, bLs, bLe, bGv, bXs, bSk, bSl, bOu, bAs, bTb, bTn) (nI j) p1 p2 := by
  unfold wpY_frameDisjoint
  refine yw_isAss hI hR hj ?_
  rw [decide_eq_false (by omega)]
  exact br_t rfl k
theorem ya_fd_a {j : Nat} {p1 p2 : Int32} (hI : ab_I c) (hR : ry_R c c.N (gC, gA, gH, gP, gN, gS, gx, gd, go, bKd, bLn, bLv, bSt, bCa, bPl, bSn, bPf, bPn, bLs, bLe, bGv, bXs, bSk, bSl, bOu, bAs, bTb, bTn)) (hj : j < c.N) (h3 : 3 ≤ c.kd j) (h : p1 < nI c.C ∨ nI (c.C + c.V) ≤ p1) (k : post 0) : wpY_frameDisjoint post (gC, gA, gH, gP, gN, gS, gx, gd, go, bKd, bLn, bLv, bSt, bCa, bPl, bSn, bPf, bPn, bLs, bLe, bGv, bXs, bSk, bSl, bOu, bAs, bTb, bTn) (nI j) p1 p2 := by
  unfold wpY_frameDisjoint
  refine yw_isAss hI hR hj ?_
  rw [decide_eq_true h3]
  exact br_f (by decide) (yw_isVar_n hR h (br_t rfl k))
theorem ya_fd_b {j s : Nat} {p2 : Int32} (hI : ab_I c) (hR : ry_R c c.N (gC, gA, gH, gP, gN, gS, gx, gd, go, bKd, bLn, bLv, bSt, bCa, bPl, bSn, bPf, bPn, bLs, bLe, bGv, bXs, bSk, bSl, bOu, bAs, bTb, bTn)) (hj : j < c.N) (h3 : 3 ≤ c.kd j) (h1 : c.C ≤ s) (h2 : s < c.C + c.V) (h : p2 < nI c.C ∨ nI (c.C + c.V) ≤ p2) (k : post 0) : wpY_frameDisjoint post (gC, gA, gH, gP, gN, gS, gx, gd, go, bKd, bLn, bLv, bSt, bCa, bPl, bSn, bPf, bPn, bLs, bLe, bGv, bXs, bSk, bSl, bOu, bAs, bTb, bTn) (nI j) (nI s) p2 := by
  obtain ⟨z1, z2, z3, z4, _⟩ := hI.1
  unfold wpY_frameDisjoint
  refine yw_isAss hI hR hj ?_
  rw [decide_eq_true h3]
  exact br_f (by decide) (yw_isVar_y hR h1 h2 (by omega) (br_f (by decide) (yw_isVar_n hR h (br_t rfl k))))
theorem ya_fd_y {j s t : Nat} (hI : ab_I c) (hR : ry_R c c.N (gC, gA, gH, gP, gN, gS, gx, gd, go, bKd, bLn, bLv, bSt, bCa, bPl, bSn, bPf, bPn, bLs, bLe, bGv, bXs, bSk, bSl, bOu, bAs, bTb, bTn)) (hj : j < c.N) (h3 : 3 ≤ c.kd j) (h1 : c.C ≤ s) (h2 : s < c.C + c.V) (h4 : c.C ≤ t) (h5 : t < c.C + c.V) (k : post (zb_1 (c.fp j s t))) : wpY_frameDisjoint post (gC, gA, gH, gP, gN, gS, gx, gd, go, bKd, bLn, bLv, bSt, bCa, bPl, bSn, bPf, bPn, bLs, bLe, bGv, bXs, bSk, bSl, bOu, bAs, bTb, bTn) (nI j) (nI s) (nI t) := by
  obtain ⟨z1, z2, z3, z4, _⟩ := hI.1
  unfold wpY_frameDisjoint
  refine yw_isAss hI hR hj ?_
  rw [decide_eq_true h3]
  refine br_f (by decide) (yw_isVar_y hR h1 h2 (by omega) (br_f (by decide) (yw_isVar_y hR h4 h5 (by omega) (br_f (by decide) ?_))))
  refine yw_fp hI (ab_MI hI) hR hj h3 (by omega) (by omega) (zb_br (fun q => ?_) (fun q => ?_))
  · exact zb_k0 k q
  · exact zb_k1 k q
theorem ya_ro_n {p0 p1 : Int32} (hR : ry_R c M (gC, gA, gH, gP, gN, gS, gx, gd, go, bKd, bLn, bLv, bSt, bCa, bPl, bSn, bPf, bPn, bLs, bLe, bGv, bXs, bSk, bSl, bOu, bAs, bTb, bTn)) (h : p0 < 0 ∨ nI c.N ≤ p0) (k : post 0) : wpY_restsOn post (gC, gA, gH, gP, gN, gS, gx, gd, go, bKd, bLn, bLv, bSt, bCa, bPl, bSn, bPf, bPn, bLs, bLe, bGv, bXs, bSk, bSl, bOu, bAs, bTb, bTn) p0 p1 := by
  unfold wpY_restsOn
  exact yw_isAss_n hR h (br_t rfl k)
theorem ya_ro_h {j : Nat} {p1 : Int32} (hI : ab_I c) (hR : ry_R c c.N (gC, gA, gH, gP, gN, gS, gx, gd, go, bKd, bLn, bLv, bSt, bCa, bPl, bSn, bPf, bPn, bLs, bLe, bGv, bXs, bSk, bSl, bOu, bAs, bTb, bTn)) (hj : j < c.N) (h : c.kd j < 3) (k : post 0) : wpY_restsOn post (gC, gA, gH, gP, gN, gS, gx, gd, go, bKd, bLn, bLv, bSt, bCa, bPl, bSn, bPf, bPn, bLs, bLe, bGv, bXs, bSk, bSl, bOu, bAs, bTb, bTn) (nI j) p1 := by
  unfold wpY_restsOn
  refine yw_isAss hI hR hj ?_
  rw [decide_eq_false (by omega)]
  exact br_t rfl k
theorem ya_ro_a {j : Nat} {p1 : Int32} (hI : ab_I c) (hR : ry_R c c.N (gC, gA, gH, gP, gN, gS, gx, gd, go, bKd, bLn, bLv, bSt, bCa, bPl, bSn, bPf, bPn, bLs, bLe, bGv, bXs, bSk, bSl, bOu, bAs, bTb, bTn)) (hj : j < c.N) (h3 : 3 ≤ c.kd j) (h : p1 < 0 ∨ nI c.N ≤ p1) (k : post 0) : wpY_restsOn post (gC, gA, gH, gP, gN, gS, gx, gd, go, bKd, bLn, bLv, bSt, bCa, bPl, bSn, bPf, bPn, bLs, bLe, bGv, bXs, bSk, bSl, bOu, bAs, bTb, bTn) (nI j) p1 := by
  unfold wpY_restsOn
  refine yw_isAss hI hR hj ?_
  rw [decide_eq_true h3]
  exact br_f (by decide) (yw_isAss_n hR h (br_t rfl k))
theorem ya_ro_b {j a : Nat} (hI : ab_I c) (hR : ry_R c c.N (gC, gA, gH, gP, gN, gS, gx, gd, go, bKd, bLn, bLv, bSt, bCa, bPl, bSn, bPf, bPn, bLs, bLe, bGv, bXs, bSk, bSl, bOu, bAs, bTb, bTn)) (hj : j < c.N) (h3 : 3 ≤ c.kd j) (ha : a < c.N) (h : c.kd a ≠ 3) (k : post 0) : wpY_restsOn post (gC, gA, gH, gP, gN, gS, gx, gd, go, bKd, bLn, bLv, bSt, bCa, bPl, bSn, bPf, bPn, bLs, bLe, bGv, bXs, bSk, bSl, bOu, bAs, bTb, bTn) (nI j) (nI a) := by
  have h24 : c.N ≤ 24 := hI.1.2.2.2.2.2.2.2.2.1
  have hk4 := (hI.2.2.1 a ha).2.1
  unfold wpY_restsOn
  refine yw_isAss hI hR hj ?_
  rw [decide_eq_true h3]
  refine br_f (by decide) (yw_isAss hI hR ha (zb_br (fun _ => k) (fun q => ⟨vp_in_nI (by omega) (by omega), br_f ?_ k⟩)))
  rw [nI_clamp (by omega), hR.2.2.2.2.1 a ha]
  intro z
  exact h ((nI_eq (b := 3) (by omega) (by omega)).mp z)
theorem ya_ro_y {j a : Nat} (hI : ab_I c) (hR : ry_R c c.N (gC, gA, gH, gP, gN, gS, gx, gd, go, bKd, bLn, bLv, bSt, bCa, bPl, bSn, bPf, bPn, bLs, bLe, bGv, bXs, bSk, bSl, bOu, bAs, bTb, bTn)) (hj : j < c.N) (h3 : 3 ≤ c.kd j) (ha : a < c.N) (h : c.kd a = 3) (k : post (zb_1 (c.rs j a))) : wpY_restsOn post (gC, gA, gH, gP, gN, gS, gx, gd, go, bKd, bLn, bLv, bSt, bCa, bPl, bSn, bPf, bPn, bLs, bLe, bGv, bXs, bSk, bSl, bOu, bAs, bTb, bTn) (nI j) (nI a) := by
  have h24 : c.N ≤ 24 := hI.1.2.2.2.2.2.2.2.2.1
  have hrs := hI.2.2.2.2.2.2.2.2.2
  have hpf := hI.2.2.2.2.2.2.2.2.1
  unfold wpY_restsOn
  refine yw_isAss hI hR hj ?_
  rw [decide_eq_true h3]
  refine br_f (by decide) (yw_isAss hI hR ha ?_)
  rw [decide_eq_true (by omega)]
  refine br_f (by decide) ⟨vp_in_nI (by omega) (by omega), br_t ?_ (nm_e ?_)⟩
  · rw [nI_clamp (by omega), hR.2.2.2.2.1 a ha, h]; rfl
  have key : ∀ d x m, x + d = j + 1 → zb_MK m (fun b => if b < x then c.rs b a else decide (b = a)) → wY_restsOn_35 post (nI j) gC gA gH gP gN gS gx gd go bKd bLn bLv bSt bCa bPl bSn bPf bPn bLs bLe bGv bXs bSk bSl bOu bAs bTb bTn (d + 1) m (nI x) := by
    intro d
    induction d with
    | zero =>
      intro x m hx hm
      refine pk_lt j x (fun _ => br_c (fun q => ?_) (fun q => ?_)) (fun h => absurd h (by omega))
      · rw [zb_bit1 (by omega), zb_MKg hm (i := j) (by omega), if_pos (by omega)] at q
        exact zb_k1 k q
      · rw [zb_bit1 (by omega), zb_MKg hm (i := j) (by omega), if_pos (by omega), Bool.not_eq_true] at q
        exact zb_k0 k q
    | succ d ih =>
      intro x m hx hm
      have hxN : x < c.N := by omega
      have ho := hI.2.2.1 x hxN
      have hk4 := ho.2.1
      refine pk_lt j x (fun h => absurd h (by omega)) (fun _ => ⟨vp_in_nI (by omega) (by omega), ?_⟩)
      rw [nI_clamp (by omega), hR.2.2.2.2.1 x hxN]
      refine pk_eq (c.kd x) 4 (fun q => ?_) (fun q => nm_r (nI_1 x) (ih (x + 1) m (by omega) ?_)) rfl rfl (by omega) (by omega)
      · have hp := hR.2.2.2.2.2.2.2.2.2.2 x hxN q
        have hpb := hpf x hxN q
        have inner : ∀ e i r, i + e = (c.pf x).length → zb_MK r (fun b => if b < x then c.rs b a else if b = x then ((c.pf x).take i).any (fun y => c.rs y a) else decide (b = a)) → wY_restsOn_55 post (wY_restsOn_35 post (nI j) gC gA gH gP gN gS gx gd go bKd bLn bLv bSt bCa bPl bSn bPf bPn bLs bLe bGv bXs bSk bSl bOu bAs bTb bTn (d + 1)) (nI j) (nI x) gC gA gH gP gN gS gx gd go bKd bLn bLv bSt bCa bPl bSn bPf bPn bLs bLe bGv bXs bSk bSl bOu bAs bTb bTn (e + 1) r (nI i) := by
          intro e
          induction e with
          | zero =>
            intro i r hi hr
            refine And.intro (vp_in_nI (by omega) (by omega)) ?_
            rw [nI_clamp (by omega), hp.1]
            refine pk_le _ i (fun _ => nm_r (nI_1 x) (ih (x + 1) r (by omega) ?_)) (fun h => absurd h (by omega)) rfl rfl (by omega) (by omega)
            refine zb_MKe hr (fun b _ => ?_)
            rw [List.take_of_length_le (by omega)]
            by_cases q1 : b < x
            · rw [if_pos q1, if_pos (by omega)]
            · rw [if_neg q1]
              by_cases q2 : b = x
              · rw [if_pos q2, if_pos (by omega), q2, ((hrs x hxN a).2.2 q)]
              · rw [if_neg q2, if_neg (by omega)]
          | succ e ihe =>
            intro i r hi hr
            have hlt : i < (c.pf x).length := by omega
            have hy : (c.pf x).getD i 0 < x := hpb.2 _ (zb_gm hlt)
            have hb96 := hpb.1
            refine And.intro (vp_in_nI (by omega) (by omega)) ?_
            rw [nI_clamp (by omega), hp.1]
            refine pk_le _ i (fun h => absurd h (by omega)) (fun _ => ⟨pk_in (x * 96 + i) 2304 (by omega) (zb_ix x 96 i), ?_⟩) rfl rfl (by omega) (by omega)
            rw [zb_c96 x i (by omega), hp.2 i hlt]
            have hbit := zb_MKg hr (show (c.pf x).getD i 0 < 32 by omega)
            rw [if_pos hy] at hbit
            have htk : ((c.pf x).take (i + 1)).any (fun y => c.rs y a) = (((c.pf x).take i).any (fun y => c.rs y a) || c.rs ((c.pf x).getD i 0) a) := by
              rw [List.take_succ_eq_append_getElem hlt, List.any_append, List.getD_eq_getElem?_getD, List.getElem?_eq_getElem hlt]
              simp
            refine br_c (fun q3 => nm_e (nm_r (nI_1 i) (ihe (i + 1) _ (by omega) ?_))) (fun q3 => nm_r (nI_1 i) (ihe (i + 1) r (by omega) ?_))
            · rw [zb_bit1 (by omega), hbit] at q3
              refine zb_MKe (zb_MKor hr (zb_MKs (k := x) (by omega))) (fun b _ => ?_)
              rw [htk, q3, Bool.or_true]
              by_cases q1 : b < x
              · rw [if_pos q1, if_pos q1, decide_eq_false (by omega), Bool.or_false]
              · rw [if_neg q1, if_neg q1]
                by_cases q2 : b = x
                · rw [if_pos q2, if_pos q2, decide_eq_true q2, Bool.or_true]
                · rw [if_neg q2, if_neg q2, decide_eq_false q2, Bool.or_false]
            · rw [zb_bit1 (by omega), hbit, Bool.not_eq_true] at q3
              refine zb_MKe hr (fun b _ => ?_)
              rw [htk, q3, Bool.or_false]
        refine ⟨(c.pf x).length + 1, inner (c.pf x).length 0 m (by omega) ?_⟩
        refine zb_MKe hm (fun b _ => ?_)
        by_cases q1 : b < x
        · rw [if_pos q1, if_pos q1]
        · rw [if_neg q1, if_neg q1]
          by_cases q2 : b = x
          · rw [if_pos q2, decide_eq_false (by intro z; rw [q2] at z; rw [z] at q; omega)]; rfl
          · rw [if_neg q2]
      · refine zb_MKe hm (fun b _ => ?_)
        by_cases q1 : b < x
        · rw [if_pos q1, if_pos (by omega)]
        · rw [if_neg q1]
          by_cases q2 : b = x
          · rw [if_pos (by omega), q2]
            by_cases q3 : c.kd x = 3
            · rw [(hrs x hxN a).2.1 q3, decide_eq_decide]; omega
            · rw [(hrs x hxN a).1 (by omega), decide_eq_false (by intro z; rw [z] at q3; exact q3 h)]
          · rw [if_neg (by omega)]
  refine ⟨j + 1 + 1, key (j + 1) 0 _ (by omega) ?_⟩
  refine zb_MKe (zb_MKs (by omega)) (fun b _ => ?_)
  rw [if_neg (by omega)]
theorem yw_last {h24 : c.N ≤ 24} (hI : ab_I c) (hR : ry_R c c.N (gC, gA, gH, gP, gN, gS, gx, gd, go, bKd, bLn, bLv, bSt, bCa, bPl, bSn, bPf, bPn, bLs, bLe, bGv, bXs, bSk, bSl, bOu, bAs, bTb, bTn)) (k0 : c.lp = [] → post (-1)) (k1 : ∀ t, t < c.N → c.kd t = 4 → c.lp = c.pf t → post (nI t)) : wpY_lastTheorem post (gC, gA, gH, gP, gN, gS, gx, gd, go, bKd, bLn, bLv, bSt, bCa, bPl, bSn, bPf, bPn, bLs, bLe, bGv, bXs, bSk, bSl, bOu, bAs, bTb, bTn) := by
  unfold wpY_lastTheorem
  have key : ∀ n, n ≤ c.N → c.lp = ab_lp c.kd c.pf n → wY_lastTheorem_7 post gC gA gH gP gN gS gx gd go bKd bLn bLv bSt bCa bPl bSn bPf bPn bLs bLe bGv bXs bSk bSl bOu bAs bTb bTn (n + 1) (nI n - 1) := by
    intro n
    induction n with
    | zero =>
      intro _ e
      exact br_t (by decide) (k0 e)
    | succ n ih =>
      intro hn e
      have e : c.lp = if c.kd n = 4 then c.pf n else ab_lp c.kd c.pf n := e
      have hk4 := (hI.2.2.1 n hn).2.1
      rw [nI_pred]
      refine br_f (nI_pos (by omega)) ⟨vp_in_nI (by omega) (by omega), ?_⟩
      rw [nI_clamp (by omega), hR.2.2.2.2.1 n hn]
      refine pk_eq (c.kd n) 4 (fun q => ?_) (fun q => ?_) rfl rfl (by omega) (by omega)
      · rw [if_pos q] at e
        exact k1 n hn q e
      · rw [if_neg q] at e
        exact nm_r (Int32.sub_eq_add_neg _ _).symm (ih (by omega) e)
  refine nm_r (e' := nI c.N - 1) (by rw [hR.1.2.2.2.2.1]) ⟨c.N + 1, key c.N (Nat.le_refl _) rfl⟩
end
end
section
/-! filling and discarding the lists -/
theorem rx_sL {c : ab_W} {M : Nat} {fC fV fH fP fsl fll ftl fpl fN fS fh fe ft fr : Int32} {aSy aLb aLt aPf aGv aKd aLv aLn aVr aSt aHc aHs aPr aRm aTl aAr aPl aSk aEl aEs aEp aEx aTs aTn aTb aTz aTp aAs aAl aAv aRe : Nat → Int32} {gsl gll gtl : Int32} {hSy hLb hLt hGv : Nat → Int32} {sl ll tl : List Nat} (hR : rx_R c M (fC, fV, fH, fP, fsl, fll, ftl, fpl, fN, fS, fh, fe, ft, fr, aSy, aLb, aLt, aPf, aGv, aKd, aLv, aLn, aVr, aSt, aHc, aHs, aPr, aRm, aTl, aAr, aPl, aSk, aEl, aEs, aEp, aEx, aTs, aTn, aTb, aTz, aTp, aAs, aAl, aAv, aRe)) (h1 : rx_l gsl hSy 0 sl) (h2 : rx_l gll hLb 0 ll) (h3 : rx_l gtl hLt 0 tl) : rx_R (ab_sL c sl ll tl) M (fC, fV, fH, fP, gsl, gll, gtl, fpl, fN, fS, fh, fe, ft, fr, hSy, hLb, hLt, aPf, hGv, aKd, aLv, aLn, aVr, aSt, aHc, aHs, aPr, aRm, aTl, aAr, aPl, aSk, aEl, aEs, aEp, aEx, aTs, aTn, aTb, aTz, aTp, aAs, aAl, aAv, aRe) := by
  obtain ⟨hf, hsy, hlb, hlt, hpf, hkd, hlv, hst, hvr, hhs, hpr, hrm, htl, har, hpl⟩ := hR
  exact ⟨hf, h1, h2, h3, hpf, hkd, hlv, hst, hvr, hhs, hpr, hrm, htl, har, hpl⟩
theorem ry_sL {c : ab_W} {M : Nat} {gC gA gH gP gN gS gx gd go : Int32} {bKd bLn bLv bSt bCa bPl bSn bPf bPn bLs bLe bGv bXs bSk bSl bOu bAs bTb bTn : Nat → Int32} {hLs hLe hGv : Nat → Int32} {sl ll tl : List Nat} (hR : ry_R c M (gC, gA, gH, gP, gN, gS, gx, gd, go, bKd, bLn, bLv, bSt, bCa, bPl, bSn, bPf, bPn, bLs, bLe, bGv, bXs, bSk, bSl, bOu, bAs, bTb, bTn)) (h1 : rx_l (hLe 0) hLs 0 sl) (h2 : rx_l (hLe 1) hLs 64 ll) (h3 : rx_l (hLe 2) hLs 128 tl) : ry_R (ab_sL c sl ll tl) M (gC, gA, gH, gP, gN, gS, gx, gd, go, bKd, bLn, bLv, bSt, bCa, bPl, bSn, bPf, bPn, hLs, hLe, hGv, bXs, bSk, bSl, bOu, bAs, bTb, bTn) := by
  obtain ⟨hf, hsy, hlb, hlt, hkd, hlv, hst, hca, hpl, hsn, hpf⟩ := hR
  exact ⟨hf, h1, h2, h3, hkd, hlv, hst, hca, hpl, hsn, hpf⟩
theorem rx_l0 (a : Nat → Int32) (o : Nat) : rx_l 0 a o [] := ⟨rfl, zb_nil a o⟩
/-- the number of arguments ahead of the first negative one -/
def ap_R (g : Nat → Int32) (r : Nat) : Prop := r ≤ 4 ∧ (∀ i, i < r → ¬ g i < 0) ∧ (r < 4 → g r < 0)
theorem ap_ex (g : Nat → Int32) : ∃ r, ap_R g r := by
  by_cases h0 : g 0 < 0
  · exact ⟨0, by omega, fun i hi => absurd hi (Nat.not_lt_zero i), fun _ => h0⟩
  by_cases h1 : g 1 < 0
  · refine ⟨1, by omega, fun i hi => ?_, fun _ => h1⟩
    have : i = 0 := by omega
    rw [this]; exact h0
  by_cases h2 : g 2 < 0
  · refine ⟨2, by omega, fun i hi => ?_, fun _ => h2⟩
    have : i = 0 ∨ i = 1 := by omega
    rcases this with e | e <;> rw [e] <;> assumption
  by_cases h3 : g 3 < 0
  · refine ⟨3, by omega, fun i hi => ?_, fun _ => h3⟩
    have : i = 0 ∨ i = 1 ∨ i = 2 := by omega
    rcases this with e | e | e <;> rw [e] <;> assumption
  · refine ⟨4, by omega, fun i hi => ?_, fun h => absurd h (by omega)⟩
    have : i = 0 ∨ i = 1 ∨ i = 2 ∨ i = 3 := by omega
    rcases this with e | e | e | e <;> rw [e] <;> assumption
def ap_v (g : Nat → Int32) (r : Nat) : List Nat := (List.range r).map (fun i => (g i).toNatClampNeg)
theorem ap_vl {g : Nat → Int32} {r : Nat} : (ap_v g r).length = r := by unfold ap_v; rw [List.length_map, List.length_range]
theorem ap_vg {g : Nat → Int32} {r i : Nat} (hi : i < r) : (ap_v g r).getD i 0 = (g i).toNatClampNeg := by
  unfold ap_v
  rw [List.getD_eq_getElem?_getD, List.getElem?_map, List.getElem?_range hi]
  rfl
theorem ap_nI {x : Int32} (h : ¬ x < 0) : x = nI x.toNatClampNeg := by
  obtain ⟨j, hj, rfl⟩ := nI_of h
  rw [nI_clamp hj]
theorem ap_sg {g a : Nat → Int32} {o r : Nat} (h : ∀ i, i < r → ¬ g i < 0) : zb_Sg (zb_cp a o g r) o (ap_v g r) := by
  have := zb_cpG (a := a) (o := o) (f := g) (l := ap_v g r) (fun i hi => by
    rw [ap_vl] at hi
    rw [ap_vg hi]
    exact ap_nI (h i hi))
  rw [ap_vl] at this
  exact this
def ap_g (g : Nat → Int32) (a b d e : Int32) : Nat → Int32 := upd (upd (upd (upd g 0 a) 1 b) 2 d) 3 e
theorem ap_ge (g h : Nat → Int32) (a b d e : Int32) {i : Nat} (hi : i < 4) : ap_g g a b d e i = ap_g h a b d e i := by
  have : i = 0 ∨ i = 1 ∨ i = 2 ∨ i = 3 := by omega
  rcases this with q | q | q | q <;> subst q <;> rfl
theorem ap_Re {g h : Nat → Int32} {a b d e : Int32} {r : Nat} (hr : ap_R (ap_g g a b d e) r) : ap_R (ap_g h a b d e) r := by
  refine ⟨hr.1, fun i hi => ?_, fun h4 => ?_⟩
  · rw [ap_ge h g a b d e (by have := hr.1; omega)]; exact hr.2.1 i hi
  · rw [ap_ge h g a b d e h4]; exact hr.2.2 h4
theorem ap_ve {g h : Nat → Int32} {a b d e : Int32} {r : Nat} (hr : r ≤ 4) : ap_v (ap_g g a b d e) r = ap_v (ap_g h a b d e) r := by
  unfold ap_v
  refine List.map_congr_left (fun i hi => ?_)
  rw [ap_ge g h a b d e (by have := List.mem_range.mp hi; omega)]
section
variable {c : ab_W} {M : Nat} {fC fV fH fP fsl fll ftl fpl fN fS fh fe ft fr : Int32} {aSy aLb aLt aPf aGv aKd aLv aLn aVr aSt aHc aHs aPr aRm aTl aAr aPl aSk aEl aEs aEp aEx aTs aTn aTb aTz aTp aAs aAl aAv aRe : Nat → Int32}
theorem xw_read {post : Int32 → SX → Prop} {p0 p1 p2 p3 : Int32} {r : Nat} (hr : ap_R (ap_g aGv p0 p1 p2 p3) r) (k : post (nI r) (fC, fV, fH, fP, fsl, fll, ftl, fpl, fN, fS, fh, fe, ft, fr, aSy, aLb, aLt, aPf, ap_g aGv p0 p1 p2 p3, aKd, aLv, aLn, aVr, aSt, aHc, aHs, aPr, aRm, aTl, aAr, aPl, aSk, aEl, aEs, aEp, aEx, aTs, aTn, aTb, aTz, aTp, aAs, aAl, aAv, aRe)) : wpX_readArguments post (fC, fV, fH, fP, fsl, fll, ftl, fpl, fN, fS, fh, fe, ft, fr, aSy, aLb, aLt, aPf, aGv, aKd, aLv, aLn, aVr, aSt, aHc, aHs, aPr, aRm, aTl, aAr, aPl, aSk, aEl, aEs, aEp, aEx, aTs, aTn, aTb, aTz, aTp, aAs, aAl, aAv, aRe) p0 p1 p2 p3 := by
  refine nm_e (nm_e (nm_e (nm_e ?_)))
  refine zb_count (fun n i => wX_readArguments_32 post fC fV fH fP fsl fll ftl fpl fN fS fh fe ft fr aSy aLb aLt aPf (ap_g aGv p0 p1 p2 p3) aKd aLv aLn aVr aSt aHc aHs aPr aRm aTl aAr aPl aSk aEl aEs aEp aEx aTs aTn aTb aTz aTp aAs aAl aAv aRe n (nI i)) r ?_ ?_
  · intro m i hi w
    have h4 := hr.1
    refine pk_le 4 i (fun h => absurd h (by omega)) (fun _ => ⟨vp_in_nI (by omega) (by omega), br_t ?_ (nm_r (nI_1 i) w)⟩)
    rw [nI_clamp (by omega)]
    exact Int32.not_lt.mp (hr.2.1 i hi)
  · intro m
    refine pk_le 4 r (fun h => ?_) (fun h => ⟨vp_in_nI h (by omega), br_f ?_ k⟩) rfl rfl (by omega) (by have := hr.1; omega)
    · have e : r = 4 := by have := hr.1; omega
      rw [e] at k; exact k
    · rw [nI_clamp (by omega)]
      exact fun z => Int32.not_lt.mpr z (hr.2.2 h)
theorem xw_within {post : Int32 → Prop} {r : Nat} {lo hi : Int32} (h4 : r ≤ 4) (ky : (∀ i, i < r → ¬ aGv i < lo ∧ aGv i ≤ hi) → post 1) (kn : ¬ (∀ i, i < r → ¬ aGv i < lo ∧ aGv i ≤ hi) → post 0) : wpX_givenWithin post (fC, fV, fH, fP, fsl, fll, ftl, fpl, fN, fS, fh, fe, ft, fr, aSy, aLb, aLt, aPf, aGv, aKd, aLv, aLn, aVr, aSt, aHc, aHs, aPr, aRm, aTl, aAr, aPl, aSk, aEl, aEs, aEp, aEx, aTs, aTn, aTb, aTz, aTp, aAs, aAl, aAv, aRe) (nI r) lo hi := by
  unfold wpX_givenWithin
  refine zb_find (fun n i => wX_givenWithin_3 post (nI r) lo hi fC fV fH fP fsl fll ftl fpl fN fS fh fe ft fr aSy aLb aLt aPf aGv aKd aLv aLn aVr aSt aHc aHs aPr aRm aTl aAr aPl aSk aEl aEs aEp aEx aTs aTn aTb aTz aTp aAs aAl aAv aRe n (nI i)) (fun i => ¬ aGv i < lo ∧ aGv i ≤ hi) r ?_ ?_ ?_
  · intro m i hi2 hp w
    refine pk_le r i (fun h => absurd h (by omega)) (fun _ => ⟨vp_in_nI (by omega) (by omega), ?_⟩)
    rw [nI_clamp (by omega)]
    exact br_f hp.1 ⟨vp_in_nI (by omega) (by omega), br_t hp.2 (nm_r (nI_1 i) w)⟩
  · intro m i hi2 hp _
    have kn' := kn (fun z => hp (z i hi2))
    refine pk_le r i (fun h => absurd h (by omega)) (fun _ => ⟨vp_in_nI (by omega) (by omega), ?_⟩)
    rw [nI_clamp (by omega)]
    exact br_c (fun _ => kn') (fun h1 => ⟨vp_in_nI (by omega) (by omega), br_f (fun h2 => hp ⟨h1, h2⟩) kn'⟩)
  · intro hp m
    exact pk_le r r (fun _ => ky hp) (fun h => absurd h (by omega))
theorem xw_symbols {post : Int32 → SX → Prop} {p0 p1 p2 p3 : Int32} {r L : Nat} (hr : ap_R (ap_g aGv p0 p1 p2 p3) r) (hL : fsl = nI L) (hLb : L ≤ 10)
    (k1 : r = 0 → post (-2) (fC, fV, fH, fP, fsl, fll, ftl, fpl, fN, fS, fh, fe, ft, fr, aSy, aLb, aLt, aPf, ap_g aGv p0 p1 p2 p3, aKd, aLv, aLn, aVr, aSt, aHc, aHs, aPr, aRm, aTl, aAr, aPl, aSk, aEl, aEs, aEp, aEx, aTs, aTn, aTb, aTz, aTp, aAs, aAl, aAv, aRe))
    (k2 : 0 < r → ¬ (∀ i, i < r → ¬ ap_g aGv p0 p1 p2 p3 i < 0 ∧ ap_g aGv p0 p1 p2 p3 i ≤ fC + fV - 1) → post (-3) (fC, fV, fH, fP, fsl, fll, ftl, fpl, fN, fS, fh, fe, ft, fr, aSy, aLb, aLt, aPf, ap_g aGv p0 p1 p2 p3, aKd, aLv, aLn, aVr, aSt, aHc, aHs, aPr, aRm, aTl, aAr, aPl, aSk, aEl, aEs, aEp, aEx, aTs, aTn, aTb, aTz, aTp, aAs, aAl, aAv, aRe))
    (k3 : 0 < r → (∀ i, i < r → ¬ ap_g aGv p0 p1 p2 p3 i < 0 ∧ ap_g aGv p0 p1 p2 p3 i ≤ fC + fV - 1) → 10 < L + r → post (-6) (fC, fV, fH, fP, fsl, fll, ftl, fpl, fN, fS, fh, fe, ft, fr, aSy, aLb, aLt, aPf, ap_g aGv p0 p1 p2 p3, aKd, aLv, aLn, aVr, aSt, aHc, aHs, aPr, aRm, aTl, aAr, aPl, aSk, aEl, aEs, aEp, aEx, aTs, aTn, aTb, aTz, aTp, aAs, aAl, aAv, aRe))
    (k4 : 0 < r → (∀ i, i < r → ¬ ap_g aGv p0 p1 p2 p3 i < 0 ∧ ap_g aGv p0 p1 p2 p3 i ≤ fC + fV - 1) → L + r ≤ 10 → post (nI (L + r)) (fC, fV, fH, fP, nI (L + r), fll, ftl, fpl, fN, fS, fh, fe, ft, fr, zb_cp aSy L (ap_g aGv p0 p1 p2 p3) r, aLb, aLt, aPf, ap_g aGv p0 p1 p2 p3, aKd, aLv, aLn, aVr, aSt, aHc, aHs, aPr, aRm, aTl, aAr, aPl, aSk, aEl, aEs, aEp, aEx, aTs, aTn, aTb, aTz, aTp, aAs, aAl, aAv, aRe)) : wpX_symbols post (fC, fV, fH, fP, fsl, fll, ftl, fpl, fN, fS, fh, fe, ft, fr, aSy, aLb, aLt, aPf, aGv, aKd, aLv, aLn, aVr, aSt, aHc, aHs, aPr, aRm, aTl, aAr, aPl, aSk, aEl, aEs, aEp, aEx, aTs, aTn, aTb, aTz, aTp, aAs, aAl, aAv, aRe) p0 p1 p2 p3 := by
  have h4 := hr.1
  unfold wpX_symbols
  refine xw_read hr ?_
  refine pk_eq r 0 (fun h => k1 h) (fun h => ?_) rfl rfl (by omega) (by omega)
  refine xw_within h4 (fun hy => br_f (by decide) ?_) (fun hn => br_t rfl (k2 (by omega) hn))
  refine pk_le (L + r) 10 (fun h5 => ?_) (fun h5 => k3 (by omega) hy h5) (by rw [hL, nI_add]) rfl (by omega) (by omega)
  have key : ∃ n, wX_symbols_61 post (nI r) fC fV fH fP fsl fll ftl fpl fN fS fh fe ft fr n (nI 0) (zb_cp aSy L (ap_g aGv p0 p1 p2 p3) 0) aLb aLt aPf (ap_g aGv p0 p1 p2 p3) aKd aLv aLn aVr aSt aHc aHs aPr aRm aTl aAr aPl aSk aEl aEs aEp aEx aTs aTn aTb aTz aTp aAs aAl aAv aRe := by
    refine zb_count (fun n i => wX_symbols_61 post (nI r) fC fV fH fP fsl fll ftl fpl fN fS fh fe ft fr n (nI i) (zb_cp aSy L (ap_g aGv p0 p1 p2 p3) i) aLb aLt aPf (ap_g aGv p0 p1 p2 p3) aKd aLv aLn aVr aSt aHc aHs aPr aRm aTl aAr aPl aSk aEl aEs aEp aEx aTs aTn aTb aTz aTp aAs aAl aAv aRe) r ?_ ?_
    · intro m i hi w
      rw [← zb_cpS] at w
      refine pk_le r i (fun h => absurd h (by omega)) (fun _ => ⟨vp_in_nI (by omega) (by omega), pk_in (L + i) 10 (by omega) (by rw [hL, nI_add]), ?_⟩)
      refine nm_r (zb_up (L + i) (by rw [hL, nI_add]) (zb_rd i rfl)) (nm_r (nI_1 i) w)
    · intro m
      refine pk_le r r (fun _ => ?_) (fun h => absurd h (by omega))
      exact nm_r (e' := nI (L + r)) (by rw [hL, nI_add]) (k4 (by omega) hy h5)
  rw [zb_cp0] at key
  exact key
theorem xw_labels {post : Int32 → SX → Prop} {p0 p1 p2 p3 : Int32} {r L : Nat} (hr : ap_R (ap_g aGv p0 p1 p2 p3) r) (hL : fll = nI L) (hLb : L ≤ 32)
    (k1 : r = 0 → post (-2) (fC, fV, fH, fP, fsl, fll, ftl, fpl, fN, fS, fh, fe, ft, fr, aSy, aLb, aLt, aPf, ap_g aGv p0 p1 p2 p3, aKd, aLv, aLn, aVr, aSt, aHc, aHs, aPr, aRm, aTl, aAr, aPl, aSk, aEl, aEs, aEp, aEx, aTs, aTn, aTb, aTz, aTp, aAs, aAl, aAv, aRe))
    (k2 : 0 < r → ¬ (∀ i, i < r → ¬ ap_g aGv p0 p1 p2 p3 i < 0 ∧ ap_g aGv p0 p1 p2 p3 i ≤ fN - 1) → post (-4) (fC, fV, fH, fP, fsl, fll, ftl, fpl, fN, fS, fh, fe, ft, fr, aSy, aLb, aLt, aPf, ap_g aGv p0 p1 p2 p3, aKd, aLv, aLn, aVr, aSt, aHc, aHs, aPr, aRm, aTl, aAr, aPl, aSk, aEl, aEs, aEp, aEx, aTs, aTn, aTb, aTz, aTp, aAs, aAl, aAv, aRe))
    (k3 : 0 < r → (∀ i, i < r → ¬ ap_g aGv p0 p1 p2 p3 i < 0 ∧ ap_g aGv p0 p1 p2 p3 i ≤ fN - 1) → 32 < L + r → post (-6) (fC, fV, fH, fP, fsl, fll, ftl, fpl, fN, fS, fh, fe, ft, fr, aSy, aLb, aLt, aPf, ap_g aGv p0 p1 p2 p3, aKd, aLv, aLn, aVr, aSt, aHc, aHs, aPr, aRm, aTl, aAr, aPl, aSk, aEl, aEs, aEp, aEx, aTs, aTn, aTb, aTz, aTp, aAs, aAl, aAv, aRe))
    (k4 : 0 < r → (∀ i, i < r → ¬ ap_g aGv p0 p1 p2 p3 i < 0 ∧ ap_g aGv p0 p1 p2 p3 i ≤ fN - 1) → L + r ≤ 32 → post (nI (L + r)) (fC, fV, fH, fP, fsl, nI (L + r), ftl, fpl, fN, fS, fh, fe, ft, fr, aSy, zb_cp aLb L (ap_g aGv p0 p1 p2 p3) r, aLt, aPf, ap_g aGv p0 p1 p2 p3, aKd, aLv, aLn, aVr, aSt, aHc, aHs, aPr, aRm, aTl, aAr, aPl, aSk, aEl, aEs, aEp, aEx, aTs, aTn, aTb, aTz, aTp, aAs, aAl, aAv, aRe)) : wpX_labels post (fC, fV, fH, fP, fsl, fll, ftl, fpl, fN, fS, fh, fe, ft, fr, aSy, aLb, aLt, aPf, aGv, aKd, aLv, aLn, aVr, aSt, aHc, aHs, aPr, aRm, aTl, aAr, aPl, aSk, aEl, aEs, aEp, aEx, aTs, aTn, aTb, aTz, aTp, aAs, aAl, aAv, aRe) p0 p1 p2 p3 := by
  have h4 := hr.1
  unfold wpX_labels
  refine xw_read hr ?_
  refine pk_eq r 0 (fun h => k1 h) (fun h => ?_) rfl rfl (by omega) (by omega)
  refine xw_within h4 (fun hy => br_f (by decide) ?_) (fun hn => br_t rfl (k2 (by omega) hn))
  refine pk_le (L + r) 32 (fun h5 => ?_) (fun h5 => k3 (by omega) hy h5) (by rw [hL, nI_add]) rfl (by omega) (by omega)
  have key : ∃ n, wX_labels_56 post (nI r) fC fV fH fP fsl fll ftl fpl fN fS fh fe ft fr n (nI 0) aSy (zb_cp aLb L (ap_g aGv p0 p1 p2 p3) 0) aLt aPf (ap_g aGv p0 p1 p2 p3) aKd aLv aLn aVr aSt aHc aHs aPr aRm aTl aAr aPl aSk aEl aEs aEp aEx aTs aTn aTb aTz aTp aAs aAl aAv aRe := by
    refine zb_count (fun n i => wX_labels_56 post (nI r) fC fV fH fP fsl fll ftl fpl fN fS fh fe ft fr n (nI i) aSy (zb_cp aLb L (ap_g aGv p0 p1 p2 p3) i) aLt aPf (ap_g aGv p0 p1 p2 p3) aKd aLv aLn aVr aSt aHc aHs aPr aRm aTl aAr aPl aSk aEl aEs aEp aEx aTs aTn aTb aTz aTp aAs aAl aAv aRe) r ?_ ?_
    · intro m i hi w
      rw [← zb_cpS] at w
      refine pk_le r i (fun h => absurd h (by omega)) (fun _ => ⟨vp_in_nI (by omega) (by omega), pk_in (L + i) 32 (by omega) (by rw [hL, nI_add]), ?_⟩)
      refine nm_r (zb_up (L + i) (by rw [hL, nI_add]) (zb_rd i rfl)) (nm_r (nI_1 i) w)
    · intro m
      refine pk_le r r (fun _ => ?_) (fun h => absurd h (by omega))
      exact nm_r (e' := nI (L + r)) (by rw [hL, nI_add]) (k4 (by omega) hy h5)
  rw [zb_cp0] at key
  exact key
theorem xw_letters {post : Int32 → SX → Prop} {p0 p1 p2 p3 : Int32} {r L : Nat} (hr : ap_R (ap_g aGv p0 p1 p2 p3) r) (hL : ftl = nI L) (hLb : L ≤ 64)
    (k1 : r = 0 → post (-2) (fC, fV, fH, fP, fsl, fll, ftl, fpl, fN, fS, fh, fe, ft, fr, aSy, aLb, aLt, aPf, ap_g aGv p0 p1 p2 p3, aKd, aLv, aLn, aVr, aSt, aHc, aHs, aPr, aRm, aTl, aAr, aPl, aSk, aEl, aEs, aEp, aEx, aTs, aTn, aTb, aTz, aTp, aAs, aAl, aAv, aRe))
    (k2 : 0 < r → ¬ (∀ i, i < r → ¬ ap_g aGv p0 p1 p2 p3 i < 65 ∧ ap_g aGv p0 p1 p2 p3 i ≤ 90) → post (-5) (fC, fV, fH, fP, fsl, fll, ftl, fpl, fN, fS, fh, fe, ft, fr, aSy, aLb, aLt, aPf, ap_g aGv p0 p1 p2 p3, aKd, aLv, aLn, aVr, aSt, aHc, aHs, aPr, aRm, aTl, aAr, aPl, aSk, aEl, aEs, aEp, aEx, aTs, aTn, aTb, aTz, aTp, aAs, aAl, aAv, aRe))
    (k3 : 0 < r → (∀ i, i < r → ¬ ap_g aGv p0 p1 p2 p3 i < 65 ∧ ap_g aGv p0 p1 p2 p3 i ≤ 90) → 64 < L + r → post (-6) (fC, fV, fH, fP, fsl, fll, ftl, fpl, fN, fS, fh, fe, ft, fr, aSy, aLb, aLt, aPf, ap_g aGv p0 p1 p2 p3, aKd, aLv, aLn, aVr, aSt, aHc, aHs, aPr, aRm, aTl, aAr, aPl, aSk, aEl, aEs, aEp, aEx, aTs, aTn, aTb, aTz, aTp, aAs, aAl, aAv, aRe))
    (k4 : 0 < r → (∀ i, i < r → ¬ ap_g aGv p0 p1 p2 p3 i < 65 ∧ ap_g aGv p0 p1 p2 p3 i ≤ 90) → L + r ≤ 64 → post (nI (L + r)) (fC, fV, fH, fP, fsl, fll, nI (L + r), fpl, fN, fS, fh, fe, ft, fr, aSy, aLb, zb_cp aLt L (ap_g aGv p0 p1 p2 p3) r, aPf, ap_g aGv p0 p1 p2 p3, aKd, aLv, aLn, aVr, aSt, aHc, aHs, aPr, aRm, aTl, aAr, aPl, aSk, aEl, aEs, aEp, aEx, aTs, aTn, aTb, aTz, aTp, aAs, aAl, aAv, aRe)) : wpX_letters post (fC, fV, fH, fP, fsl, fll, ftl, fpl, fN, fS, fh, fe, ft, fr, aSy, aLb, aLt, aPf, aGv, aKd, aLv, aLn, aVr, aSt, aHc, aHs, aPr, aRm, aTl, aAr, aPl, aSk, aEl, aEs, aEp, aEx, aTs, aTn, aTb, aTz, aTp, aAs, aAl, aAv, aRe) p0 p1 p2 p3 := by
  have h4 := hr.1
  unfold wpX_letters
  refine xw_read hr ?_
  refine pk_eq r 0 (fun h => k1 h) (fun h => ?_) rfl rfl (by omega) (by omega)
  refine xw_within h4 (fun hy => br_f (by decide) ?_) (fun hn => br_t rfl (k2 (by omega) hn))
  refine pk_le (L + r) 64 (fun h5 => ?_) (fun h5 => k3 (by omega) hy h5) (by rw [hL, nI_add]) rfl (by omega) (by omega)
  have key : ∃ n, wX_letters_53 post (nI r) fC fV fH fP fsl fll ftl fpl fN fS fh fe ft fr n (nI 0) aSy aLb (zb_cp aLt L (ap_g aGv p0 p1 p2 p3) 0) aPf (ap_g aGv p0 p1 p2 p3) aKd aLv aLn aVr aSt aHc aHs aPr aRm aTl aAr aPl aSk aEl aEs aEp aEx aTs aTn aTb aTz aTp aAs aAl aAv aRe := by
    refine zb_count (fun n i => wX_letters_53 post (nI r) fC fV fH fP fsl fll ftl fpl fN fS fh fe ft fr n (nI i) aSy aLb (zb_cp aLt L (ap_g aGv p0 p1 p2 p3) i) aPf (ap_g aGv p0 p1 p2 p3) aKd aLv aLn aVr aSt aHc aHs aPr aRm aTl aAr aPl aSk aEl aEs aEp aEx aTs aTn aTb aTz aTp aAs aAl aAv aRe) r ?_ ?_
    · intro m i hi w
      rw [← zb_cpS] at w
      refine pk_le r i (fun h => absurd h (by omega)) (fun _ => ⟨vp_in_nI (by omega) (by omega), pk_in (L + i) 64 (by omega) (by rw [hL, nI_add]), ?_⟩)
      refine nm_r (zb_up (L + i) (by rw [hL, nI_add]) (zb_rd i rfl)) (nm_r (nI_1 i) w)
    · intro m
      refine pk_le r r (fun _ => ?_) (fun h => absurd h (by omega))
      exact nm_r (e' := nI (L + r)) (by rw [hL, nI_add]) (k4 (by omega) hy h5)
  rw [zb_cp0] at key
  exact key
end
section
variable {c : ab_W} {M : Nat} {gC gA gH gP gN gS gx gd go : Int32} {bKd bLn bLv bSt bCa bPl bSn bPf bPn bLs bLe bGv bXs bSk bSl bOu bAs bTb bTn : Nat → Int32}
theorem yw_ap156 {post : Int32 → SY → Prop} {r L cap len : Nat} {lo hi bad : Int32} (hL : L < 3) (h4 : r ≤ 4) (hlen : bLe L = nI len) (hcap : cap ≤ 64) (hl2 : len ≤ cap)
    (k2 : ¬ (∀ i, i < r → ¬ bGv i < lo ∧ bGv i ≤ hi) → post bad (gC, gA, gH, gP, gN, gS, gx, gd, go, bKd, bLn, bLv, bSt, bCa, bPl, bSn, bPf, bPn, bLs, bLe, bGv, bXs, bSk, bSl, bOu, bAs, bTb, bTn))
    (k3 : (∀ i, i < r → ¬ bGv i < lo ∧ bGv i ≤ hi) → cap < len + r → post (-6) (gC, gA, gH, gP, gN, gS, gx, gd, go, bKd, bLn, bLv, bSt, bCa, bPl, bSn, bPf, bPn, bLs, bLe, bGv, bXs, bSk, bSl, bOu, bAs, bTb, bTn))
    (k4 : (∀ i, i < r → ¬ bGv i < lo ∧ bGv i ≤ hi) → len + r ≤ cap → post (nI (len + r)) (gC, gA, gH, gP, gN, gS, gx, gd, go, bKd, bLn, bLv, bSt, bCa, bPl, bSn, bPf, bPn, zb_cp bLs (L * 64 + len) bGv r, upd bLe L (nI (len + r)), bGv, bXs, bSk, bSl, bOu, bAs, bTb, bTn)) : ∃ n, wY_append_156 post (nI L) (nI r) lo hi (nI cap) bad gC gA gH gP gN gS gx gd go bKd bLn bLv bSt bCa bPl bSn bPf bPn bLs bLe bGv bXs bSk bSl bOu bAs bTb bTn n (nI 0) := by
  refine zb_find (fun n i => wY_append_156 post (nI L) (nI r) lo hi (nI cap) bad gC gA gH gP gN gS gx gd go bKd bLn bLv bSt bCa bPl bSn bPf bPn bLs bLe bGv bXs bSk bSl bOu bAs bTb bTn n (nI i)) (fun i => ¬ bGv i < lo ∧ bGv i ≤ hi) r ?_ ?_ ?_
  · intro m i hi2 hp w
    refine pk_le r i (fun h => absurd h (by omega)) (fun _ => ⟨vp_in_nI (by omega) (by omega), ?_⟩)
    rw [nI_clamp (by omega)]
    exact br_f hp.1 ⟨vp_in_nI (by omega) (by omega), br_t hp.2 (nm_r (nI_1 i) w)⟩
  · intro m i hi2 hp _
    have kn' := k2 (fun z => hp (z i hi2))
    refine pk_le r i (fun h => absurd h (by omega)) (fun _ => ⟨vp_in_nI (by omega) (by omega), ?_⟩)
    rw [nI_clamp (by omega)]
    exact br_c (fun _ => kn') (fun h1 => ⟨vp_in_nI (by omega) (by omega), br_f (fun h2 => hp ⟨h1, h2⟩) kn'⟩)
  · intro hp m
    have hLi : vp_in (nI L) 3 := vp_in_nI hL (by omega)
    refine pk_le r r (fun _ => ⟨hLi, ?_⟩) (fun h => absurd h (by omega))
    rw [nI_clamp (by omega), hlen]
    refine pk_le (len + r) cap (fun h5 => ?_) (fun h5 => k3 hp h5) (by rw [nI_add]) rfl (by omega) (by omega)
    have key : ∃ n, wY_append_216 post (nI L) (nI r) gC gA gH gP gN gS gx gd go n (nI 0) bKd bLn bLv bSt bCa bPl bSn bPf bPn (zb_cp bLs (L * 64 + len) bGv 0) bLe bGv bXs bSk bSl bOu bAs bTb bTn := by
      refine zb_count (fun n i => wY_append_216 post (nI L) (nI r) gC gA gH gP gN gS gx gd go n (nI i) bKd bLn bLv bSt bCa bPl bSn bPf bPn (zb_cp bLs (L * 64 + len) bGv i) bLe bGv bXs bSk bSl bOu bAs bTb bTn) r ?_ ?_
      · intro m i hi w
        rw [← zb_cpS] at w
        have ei : nI L * 64 + bLe (nI L).toNatClampNeg + nI i = nI (L * 64 + len + i) := by
          rw [nI_clamp (by omega), hlen]
          show nI L * nI 64 + nI len + nI i = _
          rw [pk_mul, nI_add, nI_add]
        refine pk_le r i (fun h => absurd h (by omega)) (fun _ => ⟨hLi, vp_in_nI (by omega) (by omega), pk_in (L * 64 + len + i) 192 (by omega) ei, ?_⟩)
        exact nm_r (zb_up (L * 64 + len + i) ei (zb_rd i rfl)) (nm_r (nI_1 i) w)
      · intro m
        refine pk_le r r (fun _ => ⟨hLi, hLi, ?_⟩) (fun h => absurd h (by omega))
        refine nm_r (zb_up L rfl (by rw [nI_clamp (by omega), hlen, nI_add])) ⟨hLi, ?_⟩
        rw [nI_clamp (by omega), pk_us]
        exact k4 hp h5
    rw [zb_cp0] at key
    exact key
theorem yw_ap33 {post : Int32 → SY → Prop} {p0 p1 p2 p3 p4 : Int32} {r : Nat} (hr : ap_R (ap_g bGv p1 p2 p3 p4) r) (k : wY_append_55 post p0 (nI r) gC gA gH gP gN gS gx gd go bKd bLn bLv bSt bCa bPl bSn bPf bPn bLs bLe (ap_g bGv p1 p2 p3 p4) bXs bSk bSl bOu bAs bTb bTn) : wpY_append post (gC, gA, gH, gP, gN, gS, gx, gd, go, bKd, bLn, bLv, bSt, bCa, bPl, bSn, bPf, bPn, bLs, bLe, bGv, bXs, bSk, bSl, bOu, bAs, bTb, bTn) p0 p1 p2 p3 p4 := by
  refine nm_e (nm_e (nm_e (nm_e ?_)))
  refine zb_count (fun n i => wY_append_33 post p0 gC gA gH gP gN gS gx gd go bKd bLn bLv bSt bCa bPl bSn bPf bPn bLs bLe (ap_g bGv p1 p2 p3 p4) bXs bSk bSl bOu bAs bTb bTn n (nI i)) r ?_ ?_
  · intro m i hi w
    have h4 := hr.1
    refine pk_le 4 i (fun h => absurd h (by omega)) (fun _ => ⟨vp_in_nI (by omega) (by omega), br_f ?_ (nm_r (nI_1 i) w)⟩)
    rw [nI_clamp (by omega)]
    exact hr.2.1 i hi
  · intro m
    refine pk_le 4 r (fun h => ?_) (fun h => ⟨vp_in_nI h (by omega), br_t ?_ k⟩) rfl rfl (by omega) (by have := hr.1; omega)
    · exact k
    · rw [nI_clamp (by omega)]
      exact hr.2.2 h
theorem yw_symbols {post : Int32 → SY → Prop} {p0 p1 p2 p3 : Int32} {r len : Nat} (hr : ap_R (ap_g bGv p0 p1 p2 p3) r) (hL : bLe 0 = nI len) (hLb : len ≤ 10)
    (k1 : r = 0 → post (-2) (gC, gA, gH, gP, gN, gS, gx, gd, go, bKd, bLn, bLv, bSt, bCa, bPl, bSn, bPf, bPn, bLs, bLe, ap_g bGv p0 p1 p2 p3, bXs, bSk, bSl, bOu, bAs, bTb, bTn))
    (k2 : 0 < r → ¬ (∀ i, i < r → ¬ ap_g bGv p0 p1 p2 p3 i < 0 ∧ ap_g bGv p0 p1 p2 p3 i ≤ gA - 1) → post (-3) (gC, gA, gH, gP, gN, gS, gx, gd, go, bKd, bLn, bLv, bSt, bCa, bPl, bSn, bPf, bPn, bLs, bLe, ap_g bGv p0 p1 p2 p3, bXs, bSk, bSl, bOu, bAs, bTb, bTn))
    (k3 : 0 < r → (∀ i, i < r → ¬ ap_g bGv p0 p1 p2 p3 i < 0 ∧ ap_g bGv p0 p1 p2 p3 i ≤ gA - 1) → 10 < len + r → post (-6) (gC, gA, gH, gP, gN, gS, gx, gd, go, bKd, bLn, bLv, bSt, bCa, bPl, bSn, bPf, bPn, bLs, bLe, ap_g bGv p0 p1 p2 p3, bXs, bSk, bSl, bOu, bAs, bTb, bTn))
    (k4 : 0 < r → (∀ i, i < r → ¬ ap_g bGv p0 p1 p2 p3 i < 0 ∧ ap_g bGv p0 p1 p2 p3 i ≤ gA - 1) → len + r ≤ 10 → post (nI (len + r)) (gC, gA, gH, gP, gN, gS, gx, gd, go, bKd, bLn, bLv, bSt, bCa, bPl, bSn, bPf, bPn, zb_cp bLs (0 * 64 + len) (ap_g bGv p0 p1 p2 p3) r, upd bLe 0 (nI (len + r)), ap_g bGv p0 p1 p2 p3, bXs, bSk, bSl, bOu, bAs, bTb, bTn)) : wpY_symbols post (gC, gA, gH, gP, gN, gS, gx, gd, go, bKd, bLn, bLv, bSt, bCa, bPl, bSn, bPf, bPn, bLs, bLe, bGv, bXs, bSk, bSl, bOu, bAs, bTb, bTn) p0 p1 p2 p3 := by
  have h4 := hr.1
  unfold wpY_symbols
  refine yw_ap33 hr ?_
  refine pk_eq r 0 (fun h => k1 h) (fun h => ?_) rfl rfl (by omega) (by omega)
  have key := yw_ap156 (bGv := ap_g bGv p0 p1 p2 p3) (post := post) (L := 0) (cap := 10) (lo := 0) (hi := gA - 1) (bad := (-3)) (by omega) h4 hL (by omega) hLb (k2 (by omega)) (k3 (by omega)) (k4 (by omega))
  first
    | exact br_t (by decide) (br_t (by decide) (br_t (by decide) (br_t (by decide) key)))
    | exact br_f (by decide) (br_t (by decide) (br_t (by decide) (br_t (by decide) key)))
    | exact br_f (by decide) (br_f (by decide) (br_t (by decide) (br_f (by decide) (br_t (by decide) (br_f (by decide) (br_t (by decide) key))))))
    | exact br_t (by decide) (br_f (by decide) (br_f (by decide) (br_f (by decide) (br_f (by decide) (br_f (by decide) (br_f (by decide) key))))))
theorem yw_labels {post : Int32 → SY → Prop} {p0 p1 p2 p3 : Int32} {r len : Nat} (hr : ap_R (ap_g bGv p0 p1 p2 p3) r) (hL : bLe 1 = nI len) (hLb : len ≤ 32)
    (k1 : r = 0 → post (-2) (gC, gA, gH, gP, gN, gS, gx, gd, go, bKd, bLn, bLv, bSt, bCa, bPl, bSn, bPf, bPn, bLs, bLe, ap_g bGv p0 p1 p2 p3, bXs, bSk, bSl, bOu, bAs, bTb, bTn))
    (k2 : 0 < r → ¬ (∀ i, i < r → ¬ ap_g bGv p0 p1 p2 p3 i < 0 ∧ ap_g bGv p0 p1 p2 p3 i ≤ gN - 1) → post (-4) (gC, gA, gH, gP, gN, gS, gx, gd, go, bKd, bLn, bLv, bSt, bCa, bPl, bSn, bPf, bPn, bLs, bLe, ap_g bGv p0 p1 p2 p3, bXs, bSk, bSl, bOu, bAs, bTb, bTn))
    (k3 : 0 < r → (∀ i, i < r → ¬ ap_g bGv p0 p1 p2 p3 i < 0 ∧ ap_g bGv p0 p1 p2 p3 i ≤ gN - 1) → 32 < len + r → post (-6) (gC, gA, gH, gP, gN, gS, gx, gd, go, bKd, bLn, bLv, bSt, bCa, bPl, bSn, bPf, bPn, bLs, bLe, ap_g bGv p0 p1 p2 p3, bXs, bSk, bSl, bOu, bAs, bTb, bTn))
    (k4 : 0 < r → (∀ i, i < r → ¬ ap_g bGv p0 p1 p2 p3 i < 0 ∧ ap_g bGv p0 p1 p2 p3 i ≤ gN - 1) → len + r ≤ 32 → post (nI (len + r)) (gC, gA, gH, gP, gN, gS, gx, gd, go, bKd, bLn, bLv, bSt, bCa, bPl, bSn, bPf, bPn, zb_cp bLs (1 * 64 + len) (ap_g bGv p0 p1 p2 p3) r, upd bLe 1 (nI (len + r)), ap_g bGv p0 p1 p2 p3, bXs, bSk, bSl, bOu, bAs, bTb, bTn)) : wpY_labels post (gC, gA, gH, gP, gN, gS, gx, gd, go, bKd, bLn, bLv, bSt, bCa, bPl, bSn, bPf, bPn, bLs, bLe, bGv, bXs, bSk, bSl, bOu, bAs, bTb, bTn) p0 p1 p2 p3 := by
  have h4 := hr.1
  unfold wpY_labels
  refine yw_ap33 hr ?_
  refine pk_eq r 0 (fun h => k1 h) (fun h => ?_) rfl rfl (by omega) (by omega)
  have key := yw_ap156 (bGv := ap_g bGv p0 p1 p2 p3) (post := post) (L := 1) (cap := 32) (lo := 0) (hi := gN - 1) (bad := (-4)) (by omega) h4 hL (by omega) hLb (k2 (by omega)) (k3 (by omega)) (k4 (by omega))
  first
    | exact br_t (by decide) (br_t (by decide) (br_t (by decide) (br_t (by decide) key)))
    | exact br_f (by decide) (br_t (by decide) (br_t (by decide) (br_t (by decide) key)))
    | exact br_f (by decide) (br_f (by decide) (br_t (by decide) (br_f (by decide) (br_t (by decide) (br_f (by decide) (br_t (by decide) key))))))
    | exact br_t (by decide) (br_f (by decide) (br_f (by decide) (br_f (by decide) (br_f (by decide) (br_f (by decide) (br_f (by decide) key))))))
theorem yw_letters {post : Int32 → SY → Prop} {p0 p1 p2 p3 : Int32} {r len : Nat} (hr : ap_R (ap_g bGv p0 p1 p2 p3) r) (hL : bLe 2 = nI len) (hLb : len ≤ 64)
    (k1 : r = 0 → post (-2) (gC, gA, gH, gP, gN, gS, gx, gd, go, bKd, bLn, bLv, bSt, bCa, bPl, bSn, bPf, bPn, bLs, bLe, ap_g bGv p0 p1 p2 p3, bXs, bSk, bSl, bOu, bAs, bTb, bTn))
    (k2 : 0 < r → ¬ (∀ i, i < r → ¬ ap_g bGv p0 p1 p2 p3 i < 65 ∧ ap_g bGv p0 p1 p2 p3 i ≤ 90) → post (-5) (gC, gA, gH, gP, gN, gS, gx, gd, go, bKd, bLn, bLv, bSt, bCa, bPl, bSn, bPf, bPn, bLs, bLe, ap_g bGv p0 p1 p2 p3, bXs, bSk, bSl, bOu, bAs, bTb, bTn))
    (k3 : 0 < r → (∀ i, i < r → ¬ ap_g bGv p0 p1 p2 p3 i < 65 ∧ ap_g bGv p0 p1 p2 p3 i ≤ 90) → 64 < len + r → post (-6) (gC, gA, gH, gP, gN, gS, gx, gd, go, bKd, bLn, bLv, bSt, bCa, bPl, bSn, bPf, bPn, bLs, bLe, ap_g bGv p0 p1 p2 p3, bXs, bSk, bSl, bOu, bAs, bTb, bTn))
    (k4 : 0 < r → (∀ i, i < r → ¬ ap_g bGv p0 p1 p2 p3 i < 65 ∧ ap_g bGv p0 p1 p2 p3 i ≤ 90) → len + r ≤ 64 → post (nI (len + r)) (gC, gA, gH, gP, gN, gS, gx, gd, go, bKd, bLn, bLv, bSt, bCa, bPl, bSn, bPf, bPn, zb_cp bLs (2 * 64 + len) (ap_g bGv p0 p1 p2 p3) r, upd bLe 2 (nI (len + r)), ap_g bGv p0 p1 p2 p3, bXs, bSk, bSl, bOu, bAs, bTb, bTn)) : wpY_letters post (gC, gA, gH, gP, gN, gS, gx, gd, go, bKd, bLn, bLv, bSt, bCa, bPl, bSn, bPf, bPn, bLs, bLe, bGv, bXs, bSk, bSl, bOu, bAs, bTb, bTn) p0 p1 p2 p3 := by
  have h4 := hr.1
  unfold wpY_letters
  refine yw_ap33 hr ?_
  refine pk_eq r 0 (fun h => k1 h) (fun h => ?_) rfl rfl (by omega) (by omega)
  have key := yw_ap156 (bGv := ap_g bGv p0 p1 p2 p3) (post := post) (L := 2) (cap := 64) (lo := 65) (hi := 90) (bad := (-5)) (by omega) h4 hL (by omega) hLb (k2 (by omega)) (k3 (by omega)) (k4 (by omega))
  first
    | exact br_t (by decide) (br_t (by decide) (br_t (by decide) (br_t (by decide) key)))
    | exact br_f (by decide) (br_t (by decide) (br_t (by decide) (br_t (by decide) key)))
    | exact br_f (by decide) (br_f (by decide) (br_t (by decide) (br_f (by decide) (br_t (by decide) (br_f (by decide) (br_t (by decide) key))))))
    | exact br_t (by decide) (br_f (by decide) (br_f (by decide) (br_f (by decide) (br_f (by decide) (br_f (by decide) (br_f (by decide) key))))))
end
end
section
/-! owed rows: constructors, scopes opened, lists, answers -/
theorem zz_el {k : Nat} {P : SX → SY → Prop} (h : ∀ (fC fV fH fP fsl fll ftl fpl fN fS fh fe ft fr : Int32) (aSy aLb aLt aPf aGv aKd aLv aLn aVr aSt aHc aHs aPr aRm aTl aAr aPl aSk aEl aEs aEp aEx aTs aTn aTb aTz aTp aAs aAl aAv aRe : Nat → Int32) (gC gA gH gP gN gS gx gd go : Int32) (bKd bLn bLv bSt bCa bPl bSn bPf bPn bLs bLe bGv bXs bSk bSl bOu bAs bTb bTn : Nat → Int32) (c : ab_W), ab_I c → rx_R c c.N (fC, fV, fH, fP, fsl, fll, ftl, fpl, fN, fS, fh, fe, ft, fr, aSy, aLb, aLt, aPf, aGv, aKd, aLv, aLn, aVr, aSt, aHc, aHs, aPr, aRm, aTl, aAr, aPl, aSk, aEl, aEs, aEp, aEx, aTs, aTn, aTb, aTz, aTp, aAs, aAl, aAv, aRe) → ry_R c c.N (gC, gA, gH, gP, gN, gS, gx, gd, go, bKd, bLn, bLv, bSt, bCa, bPl, bSn, bPf, bPn, bLs, bLe, bGv, bXs, bSk, bSl, bOu, bAs, bTb, bTn) → P (fC, fV, fH, fP, fsl, fll, ftl, fpl, fN, fS, fh, fe, ft, fr, aSy, aLb, aLt, aPf, aGv, aKd, aLv, aLn, aVr, aSt, aHc, aHs, aPr, aRm, aTl, aAr, aPl, aSk, aEl, aEs, aEp, aEx, aTs, aTn, aTb, aTz, aTp, aAs, aAl, aAv, aRe) (gC, gA, gH, gP, gN, gS, gx, gd, go, bKd, bLn, bLv, bSt, bCa, bPl, bSn, bPf, bPn, bLs, bLe, bGv, bXs, bSk, bSl, bOu, bAs, bTb, bTn)) {u : SX} {v : SY} (I : i_Rel k u v) : P u v := by
  obtain ⟨c, hI, hX, hY⟩ := I
  exact h u.1 u.2.1 u.2.2.1 u.2.2.2.1 u.2.2.2.2.1 u.2.2.2.2.2.1 u.2.2.2.2.2.2.1 u.2.2.2.2.2.2.2.1 u.2.2.2.2.2.2.2.2.1 u.2.2.2.2.2.2.2.2.2.1 u.2.2.2.2.2.2.2.2.2.2.1 u.2.2.2.2.2.2.2.2.2.2.2.1 u.2.2.2.2.2.2.2.2.2.2.2.2.1 u.2.2.2.2.2.2.2.2.2.2.2.2.2.1 u.2.2.2.2.2.2.2.2.2.2.2.2.2.2.1 u.2.2.2.2.2.2.2.2.2.2.2.2.2.2.2.1 u.2.2.2.2.2.2.2.2.2.2.2.2.2.2.2.2.1 u.2.2.2.2.2.2.2.2.2.2.2.2.2.2.2.2.2.1 u.2.2.2.2.2.2.2.2.2.2.2.2.2.2.2.2.2.2.1 u.2.2.2.2.2.2.2.2.2.2.2.2.2.2.2.2.2.2.2.1 u.2.2.2.2.2.2.2.2.2.2.2.2.2.2.2.2.2.2.2.2.1 u.2.2.2.2.2.2.2.2.2.2.2.2.2.2.2.2.2.2.2.2.2.1 u.2.2.2.2.2.2.2.2.2.2.2.2.2.2.2.2.2.2.2.2.2.2.1 u.2.2.2.2.2.2.2.2.2.2.2.2.2.2.2.2.2.2.2.2.2.2.2.1 u.2.2.2.2.2.2.2.2.2.2.2.2.2.2.2.2.2.2.2.2.2.2.2.2.1 u.2.2.2.2.2.2.2.2.2.2.2.2.2.2.2.2.2.2.2.2.2.2.2.2.2.1 u.2.2.2.2.2.2.2.2.2.2.2.2.2.2.2.2.2.2.2.2.2.2.2.2.2.2.1 u.2.2.2.2.2.2.2.2.2.2.2.2.2.2.2.2.2.2.2.2.2.2.2.2.2.2.2.1 u.2.2.2.2.2.2.2.2.2.2.2.2.2.2.2.2.2.2.2.2.2.2.2.2.2.2.2.2.1 u.2.2.2.2.2.2.2.2.2.2.2.2.2.2.2.2.2.2.2.2.2.2.2.2.2.2.2.2.2.1 u.2.2.2.2.2.2.2.2.2.2.2.2.2.2.2.2.2.2.2.2.2.2.2.2.2.2.2.2.2.2.1 u.2.2.2.2.2.2.2.2.2.2.2.2.2.2.2.2.2.2.2.2.2.2.2.2.2.2.2.2.2.2.2.1 u.2.2.2.2.2.2.2.2.2.2.2.2.2.2.2.2.2.2.2.2.2.2.2.2.2.2.2.2.2.2.2.2.1 u.2.2.2.2.2.2.2.2.2.2.2.2.2.2.2.2.2.2.2.2.2.2.2.2.2.2.2.2.2.2.2.2.2.1 u.2.2.2.2.2.2.2.2.2.2.2.2.2.2.2.2.2.2.2.2.2.2.2.2.2.2.2.2.2.2.2.2.2.2.1 u.2.2.2.2.2.2.2.2.2.2.2.2.2.2.2.2.2.2.2.2.2.2.2.2.2.2.2.2.2.2.2.2.2.2.2.1 u.2.2.2.2.2.2.2.2.2.2.2.2.2.2.2.2.2.2.2.2.2.2.2.2.2.2.2.2.2.2.2.2.2.2.2.2.1 u.2.2.2.2.2.2.2.2.2.2.2.2.2.2.2.2.2.2.2.2.2.2.2.2.2.2.2.2.2.2.2.2.2.2.2.2.2.1 u.2.2.2.2.2.2.2.2.2.2.2.2.2.2.2.2.2.2.2.2.2.2.2.2.2.2.2.2.2.2.2.2.2.2.2.2.2.2.1 u.2.2.2.2.2.2.2.2.2.2.2.2.2.2.2.2.2.2.2.2.2.2.2.2.2.2.2.2.2.2.2.2.2.2.2.2.2.2.2.1 u.2.2.2.2.2.2.2.2.2.2.2.2.2.2.2.2.2.2.2.2.2.2.2.2.2.2.2.2.2.2.2.2.2.2.2.2.2.2.2.2.1 u.2.2.2.2.2.2.2.2.2.2.2.2.2.2.2.2.2.2.2.2.2.2.2.2.2.2.2.2.2.2.2.2.2.2.2.2.2.2.2.2.2.1 u.2.2.2.2.2.2.2.2.2.2.2.2.2.2.2.2.2.2.2.2.2.2.2.2.2.2.2.2.2.2.2.2.2.2.2.2.2.2.2.2.2.2.1 u.2.2.2.2.2.2.2.2.2.2.2.2.2.2.2.2.2.2.2.2.2.2.2.2.2.2.2.2.2.2.2.2.2.2.2.2.2.2.2.2.2.2.2.1 u.2.2.2.2.2.2.2.2.2.2.2.2.2.2.2.2.2.2.2.2.2.2.2.2.2.2.2.2.2.2.2.2.2.2.2.2.2.2.2.2.2.2.2.2 v.1 v.2.1 v.2.2.1 v.2.2.2.1 v.2.2.2.2.1 v.2.2.2.2.2.1 v.2.2.2.2.2.2.1 v.2.2.2.2.2.2.2.1 v.2.2.2.2.2.2.2.2.1 v.2.2.2.2.2.2.2.2.2.1 v.2.2.2.2.2.2.2.2.2.2.1 v.2.2.2.2.2.2.2.2.2.2.2.1 v.2.2.2.2.2.2.2.2.2.2.2.2.1 v.2.2.2.2.2.2.2.2.2.2.2.2.2.1 v.2.2.2.2.2.2.2.2.2.2.2.2.2.2.1 v.2.2.2.2.2.2.2.2.2.2.2.2.2.2.2.1 v.2.2.2.2.2.2.2.2.2.2.2.2.2.2.2.2.1 v.2.2.2.2.2.2.2.2.2.2.2.2.2.2.2.2.2.1 v.2.2.2.2.2.2.2.2.2.2.2.2.2.2.2.2.2.2.1 v.2.2.2.2.2.2.2.2.2.2.2.2.2.2.2.2.2.2.2.1 v.2.2.2.2.2.2.2.2.2.2.2.2.2.2.2.2.2.2.2.2.1 v.2.2.2.2.2.2.2.2.2.2.2.2.2.2.2.2.2.2.2.2.2.1 v.2.2.2.2.2.2.2.2.2.2.2.2.2.2.2.2.2.2.2.2.2.2.1 v.2.2.2.2.2.2.2.2.2.2.2.2.2.2.2.2.2.2.2.2.2.2.2.1 v.2.2.2.2.2.2.2.2.2.2.2.2.2.2.2.2.2.2.2.2.2.2.2.2.1 v.2.2.2.2.2.2.2.2.2.2.2.2.2.2.2.2.2.2.2.2.2.2.2.2.2.1 v.2.2.2.2.2.2.2.2.2.2.2.2.2.2.2.2.2.2.2.2.2.2.2.2.2.2.1 v.2.2.2.2.2.2.2.2.2.2.2.2.2.2.2.2.2.2.2.2.2.2.2.2.2.2.2 c hI hX hY
theorem i_up {k : Nat} {u : SX} {v : SY} (h : i_Rel k u v) : i_Rel (k + 5) u v := h
theorem zz_cl (p : Int32) (lo hi : Nat) (h1 : lo ≤ hi) (h2 : hi < 2 ^ 31) : ∃ m, lo ≤ m ∧ m ≤ hi ∧ (∀ (post : Int32 → Prop) (u : SX), post (nI m) → wpX_clamp post u p (nI lo) (nI hi)) ∧ (∀ (post : Int32 → Prop) (v : SY), post (nI m) → wpY_clamp post v p (nI lo) (nI hi)) := by
  by_cases q : nI lo ≤ p
  · have hp : ¬ p < 0 := fun z => by
      have : nI lo < 0 := Int32.lt_of_le_of_lt q z
      exact nI_pos (by omega) this
    obtain ⟨j, hj, rfl⟩ := nI_of hp
    have hlo : lo ≤ j := (nI_leI (by omega) hj).mp q
    by_cases q2 : j ≤ hi
    · exact ⟨j, hlo, q2, fun post u k => br_t q (br_t (nI_le q2 h2) k), fun post v k => br_t q (br_t (nI_le q2 h2) k)⟩
    · exact ⟨hi, h1, Nat.le_refl _, fun post u k => br_t q (br_f (nI_ge (by omega) hj) k), fun post v k => br_t q (br_f (nI_ge (by omega) hj) k)⟩
  · exact ⟨lo, Nat.le_refl _, h1, fun post u k => br_f q k, fun post v k => br_f q k⟩
theorem zb_cpS0 (a : Nat → Int32) (f : Nat → Int32) (i : Nat) : upd (zb_cp a 0 f i) i (f i) = zb_cp a 0 f (i + 1) := by
  have := zb_cpS a 0 f i
  rwa [Nat.zero_add] at this
theorem xw_init {post : SX → Prop} {fC fV fH fP fsl fll ftl fpl fN fS fh fe ft fr : Int32} {aSy aLb aLt aPf aGv aKd aLv aLn aVr aSt aHc aHs aPr aRm aTl aAr aPl aSk aEl aEs aEp aEx aTs aTn aTb aTz aTp aAs aAl aAv aRe : Nat → Int32} (k : post (fC, fV, fH, fP, fsl, fll, ftl, fpl, fN, fS, fh, fe, ft, fr, aSy, aLb, aLt, aPf, aGv, aKd, aLv, aLn, aVr, aSt, aHc, aHs, aPr, aRm, zb_cp aTl 0 (fun _ => -1) 8, aAr, zb_cp aPl 0 (fun _ => -21) 64, aSk, aEl, aEs, aEp, aEx, aTs, aTn, aTb, aTz, aTp, aAs, aAl, aAv, aRe)) : ∃ n, wX_init_308 post fC fV fH fP fsl fll ftl fpl fN fS fh fe ft fr n 0 aSy aLb aLt aPf aGv aKd aLv aLn aVr aSt aHc aHs aPr aRm aTl aAr aPl aSk aEl aEs aEp aEx aTs aTn aTb aTz aTp aAs aAl aAv aRe := by
  have key : ∃ n, wX_init_308 post fC fV fH fP fsl fll ftl fpl fN fS fh fe ft fr n (nI 0) aSy aLb aLt aPf aGv aKd aLv aLn aVr aSt aHc aHs aPr aRm (zb_cp aTl 0 (fun _ => -1) 0) aAr aPl aSk aEl aEs aEp aEx aTs aTn aTb aTz aTp aAs aAl aAv aRe := by
    refine zb_count (fun n i => wX_init_308 post fC fV fH fP fsl fll ftl fpl fN fS fh fe ft fr n (nI i) aSy aLb aLt aPf aGv aKd aLv aLn aVr aSt aHc aHs aPr aRm (zb_cp aTl 0 (fun _ => -1) i) aAr aPl aSk aEl aEs aEp aEx aTs aTn aTb aTz aTp aAs aAl aAv aRe) 8 ?_ ?_
    · intro m i hi w
      rw [← zb_cpS0] at w
      refine pk_le 8 i (fun h => absurd h (by omega)) (fun _ => ⟨vp_in_nI hi (by omega), ?_⟩)
      exact nm_r (zb_up i rfl rfl) (nm_r (nI_1 i) w)
    · intro m
      refine pk_le 8 8 (fun _ => ?_) (fun h => absurd h (by omega))
      have key2 : ∃ n, wX_init_332 post fC fV fH fP fsl fll ftl fpl fN fS fh fe ft fr n (nI 0) aSy aLb aLt aPf aGv aKd aLv aLn aVr aSt aHc aHs aPr aRm (zb_cp aTl 0 (fun _ => -1) 8) aAr (zb_cp aPl 0 (fun _ => -21) 0) aSk aEl aEs aEp aEx aTs aTn aTb aTz aTp aAs aAl aAv aRe := by
        refine zb_count (fun n i => wX_init_332 post fC fV fH fP fsl fll ftl fpl fN fS fh fe ft fr n (nI i) aSy aLb aLt aPf aGv aKd aLv aLn aVr aSt aHc aHs aPr aRm (zb_cp aTl 0 (fun _ => -1) 8) aAr (zb_cp aPl 0 (fun _ => -21) i) aSk aEl aEs aEp aEx aTs aTn aTb aTz aTp aAs aAl aAv aRe) 64 ?_ ?_
        · intro m i hi w
          rw [← zb_cpS0 aPl] at w
          refine pk_le 64 i (fun h => absurd h (by omega)) (fun _ => ⟨vp_in_nI hi (by omega), ?_⟩)
          exact nm_r (zb_up i rfl rfl) (nm_r (nI_1 i) w)
        · intro m
          exact pk_le 64 64 (fun _ => k) (fun h => absurd h (by omega))
      rw [zb_cp0] at key2
      exact key2
  rw [zb_cp0] at key
  exact key
def ab_0 (C V H P : Nat) : ab_W := ab_mk C V H P 0 0 [] [] [] (fun _ => 0) (fun _ => 0) (fun _ => 0) (fun _ => []) (fun _ _ => 0) (fun _ _ _ => false) (fun _ => []) (fun _ _ => false)
theorem ab_0I {C V H P : Nat} (h1 : 1 ≤ C ∧ C ≤ 8) (h2 : 1 ≤ V ∧ V ≤ 8) (h3 : 2 ≤ H ∧ H ≤ 16) (h4 : 4 ≤ P ∧ P ≤ 96) : ab_I (ab_0 C V H P) := by
  have n0 : ∀ j, ¬ j < (ab_0 C V H P).N := fun j hj => Nat.not_lt_zero j hj
  refine ⟨⟨h1.1, h1.2, h2.1, h2.2, h3.1, h3.2, h4.1, h4.2, Nat.zero_le _, Nat.zero_le _⟩, ⟨Nat.zero_le _, Nat.zero_le _, Nat.zero_le _, fun y hy => absurd hy List.not_mem_nil, fun y hy => absurd hy List.not_mem_nil, fun y hy => absurd hy List.not_mem_nil⟩, fun j hj => absurd hj (n0 j), ⟨fun j => Nat.zero_le _, fun j _ => rfl, fun j hj => absurd hj (n0 j), fun j hj => absurd hj (n0 j)⟩, fun i j hi => absurd hi (n0 i), fun j hj => absurd hj (n0 j), fun j hj => absurd hj (n0 j), ⟨fun _ => rfl, fun _ _ => Nat.zero_le _, fun s t h => absurd rfl h⟩, fun j hj => absurd hj (n0 j), fun j hj => absurd hj (n0 j)⟩
theorem i_vc0 (k0 : Int32) (k1 : Int32) (k2 : Int32) (k3 : Int32) : wpX_init (fun u => wpY_init (fun v => i_Rel 4 u v) k0 k1 k2 k3) k0 k1 k2 k3 := by
  obtain ⟨C, hC1, hC2, xC, yC⟩ := zz_cl k0 1 8 (by omega) (by omega)
  obtain ⟨V, hV1, hV2, xV, yV⟩ := zz_cl k1 1 8 (by omega) (by omega)
  obtain ⟨H, hH1, hH2, xH, yH⟩ := zz_cl k2 2 16 (by omega) (by omega)
  obtain ⟨P, hP1, hP2, xP, yP⟩ := zz_cl k3 4 96 (by omega) (by omega)
  have n0 : ∀ j, ¬ j < (ab_0 C V H P).N := fun j hj => Nat.not_lt_zero j hj
  unfold wpX_init
  refine xC _ _ (xV _ _ (xH _ _ (xP _ _ (xw_init ?_))))
  unfold wpY_init
  refine yC _ _ (yV _ _ (nm_r (nI_add C V) (yH _ _ (yP _ _ ?_))))
  refine ⟨ab_0 C V H P, ab_0I ⟨hC1, hC2⟩ ⟨hV1, hV2⟩ ⟨hH1, hH2⟩ ⟨hP1, hP2⟩, ?_, ?_⟩
  · refine And.intro ⟨rfl, rfl, rfl, rfl, rfl, rfl⟩ (And.intro (rx_l0 _ 0) (And.intro (rx_l0 _ 0) (And.intro (rx_l0 _ 0) (And.intro (rx_l0 _ 0) (And.intro (fun j hj => absurd hj (n0 j)) (And.intro (fun j hj => absurd hj (n0 j)) (And.intro (fun j hj => absurd hj (n0 j)) (And.intro (fun j hj => absurd hj (n0 j)) (And.intro (fun j hj => absurd hj (n0 j)) (And.intro (fun j hj => absurd hj (n0 j)) (And.intro (fun j hj => absurd hj (n0 j)) (And.intro ?_ (And.intro ?_ ?_)))))))))))))
    · intro v hv
      have e : zb_cp (fun _ => 0) 0 (fun _ => -1) 8 v = -1 := by
        have := zb_cpI (a := fun _ => 0) (o := 0) (f := fun _ => -1) hv
        rwa [Nat.zero_add] at this
      exact ⟨fun _ => rfl, fun _ => e⟩
    · intro v hv
      exact zb_MKe zb_MK0 (fun w _ => rfl)
    · intro v w hv hw
      have := zb_cpI (a := fun _ => 0) (o := 0) (f := fun _ => -21) (i := 64) (j := v * 8 + w) (by omega)
      rw [Nat.zero_add] at this
      exact this
  · exact And.intro ⟨rfl, rfl, rfl, rfl, rfl, rfl⟩ (And.intro (rx_l0 _ 0) (And.intro (rx_l0 _ 64) (And.intro (rx_l0 _ 128) (And.intro (fun j hj => absurd hj (n0 j)) (And.intro (fun j hj => absurd hj (n0 j)) (And.intro (fun j hj => absurd hj (n0 j)) (And.intro (fun j hj => rfl) (And.intro (fun s t hs ht => rfl) (And.intro (fun j hj => absurd hj (n0 j)) (fun j hj => absurd hj (n0 j)))))))))))
theorem i_vc_open {k : Nat} {u : SX} {v : SY} (I : i_Rel k u v) (hk : k + 5 ≤ 2564) : wpX_open (fun r u' => wpY_open (fun r' v' => r' = r ∧ i_Rel (k + 5) u' v') v) u := by
  refine zz_el (P := fun u v => wpX_open (fun r u' => wpY_open (fun r' v' => r' = r ∧ i_Rel (k + 5) u' v') v) u) ?_ I
  intro fC fV fH fP fsl fll ftl fpl fN fS fh fe ft fr aSy aLb aLt aPf aGv aKd aLv aLn aVr aSt aHc aHs aPr aRm aTl aAr aPl aSk aEl aEs aEp aEx aTs aTn aTb aTz aTp aAs aAl aAv aRe gC gA gH gP gN gS gx gd go bKd bLn bLv bSt bCa bPl bSn bPf bPn bLs bLe bGv bXs bSk bSl bOu bAs bTb bTn c hI hX hY
  have hS4 := hI.1.2.2.2.2.2.2.2.2.2
  refine pk_lt c.S 4 (fun h => ?_) (fun h => ?_) hX.1.2.2.2.2.2 rfl
  · refine nm_r (e' := nI (c.S + 1)) (by rw [hX.1.2.2.2.2.2, nI_1]) ?_
    refine pk_eq c.S 4 (fun h2 => absurd h2 (by omega)) (fun _ => ?_) hY.1.2.2.2.2.2 rfl
    refine nm_r (e' := nI (c.S + 1)) (by rw [hY.1.2.2.2.2.2, nI_1]) ⟨rfl, ab_sS c (c.S + 1), ab_sS_I hI h, ?_, ?_⟩
    · obtain ⟨hf, hsy, hlb, hlt, hpf, hkd, hlv, hst, hvr, hhs, hpr, hrm, htl, har, hpl⟩ := hX
      exact ⟨⟨hf.1, hf.2.1, hf.2.2.1, hf.2.2.2.1, hf.2.2.2.2.1, rfl⟩, hsy, hlb, hlt, hpf, hkd, hlv, hst, hvr, hhs, hpr, hrm, htl, har, hpl⟩
    · obtain ⟨hf, hsy, hlb, hlt, hkd, hlv, hst, hca, hpl, hsn, hpf⟩ := hY
      exact ⟨⟨hf.1, hf.2.1, hf.2.2.1, hf.2.2.2.1, hf.2.2.2.2.1, rfl⟩, hsy, hlb, hlt, hkd, hlv, hst, hca, hpl, hsn, hpf⟩
  · refine pk_eq c.S 4 (fun _ => ⟨rfl, c, hI, hX, hY⟩) (fun h2 => absurd (by omega) h2) hY.1.2.2.2.2.2 rfl
theorem i_vc_kind {k : Nat} {u : SX} {v : SY} (I : i_Rel k u v) (hk : k + 5 ≤ 2564) (v1 : Int32) : wpX_kind (fun r => wpY_kind (fun r' => r' = r ∧ i_Rel (k + 5) u v) v v1) u v1 := by
  refine zz_el (P := fun u v => wpX_kind (fun r => wpY_kind (fun r' => r' = r ∧ i_Rel (k + 5) u v) v v1) u v1) ?_ I
  intro fC fV fH fP fsl fll ftl fpl fN fS fh fe ft fr aSy aLb aLt aPf aGv aKd aLv aLn aVr aSt aHc aHs aPr aRm aTl aAr aPl aSk aEl aEs aEp aEx aTs aTn aTb aTz aTp aAs aAl aAv aRe gC gA gH gP gN gS gx gd go bKd bLn bLv bSt bCa bPl bSn bPf bPn bLs bLe bGv bXs bSk bSl bOu bAs bTb bTn c hI hX hY
  rcases pk_ix v1 (n := c.N) (by have := hI.1.2.2.2.2.2.2.2.2.1; omega) with h | h | ⟨j, hj, rfl⟩
  · exact xa_kind_n hX (Or.inl h) (ya_kind_n hY (Or.inl h) ⟨rfl, c, hI, hX, hY⟩)
  · exact xa_kind_n hX (Or.inr h) (ya_kind_n hY (Or.inr h) ⟨rfl, c, hI, hX, hY⟩)
  · exact xa_kind_y hI hX hj (ya_kind_y hI hY hj ⟨rfl, c, hI, hX, hY⟩)
theorem i_vc_level {k : Nat} {u : SX} {v : SY} (I : i_Rel k u v) (hk : k + 5 ≤ 2564) (v1 : Int32) : wpX_level (fun r => wpY_level (fun r' => r' = r ∧ i_Rel (k + 5) u v) v v1) u v1 := by
  refine zz_el (P := fun u v => wpX_level (fun r => wpY_level (fun r' => r' = r ∧ i_Rel (k + 5) u v) v v1) u v1) ?_ I
  intro fC fV fH fP fsl fll ftl fpl fN fS fh fe ft fr aSy aLb aLt aPf aGv aKd aLv aLn aVr aSt aHc aHs aPr aRm aTl aAr aPl aSk aEl aEs aEp aEx aTs aTn aTb aTz aTp aAs aAl aAv aRe gC gA gH gP gN gS gx gd go bKd bLn bLv bSt bCa bPl bSn bPf bPn bLs bLe bGv bXs bSk bSl bOu bAs bTb bTn c hI hX hY
  rcases pk_ix v1 (n := c.N) (by have := hI.1.2.2.2.2.2.2.2.2.1; omega) with h | h | ⟨j, hj, rfl⟩
  · exact xa_level_n hX (Or.inl h) (ya_level_n hY (Or.inl h) ⟨rfl, c, hI, hX, hY⟩)
  · exact xa_level_n hX (Or.inr h) (ya_level_n hY (Or.inr h) ⟨rfl, c, hI, hX, hY⟩)
  · exact xa_level_y hI hX hj (ya_level_y hI hY hj ⟨rfl, c, hI, hX, hY⟩)
theorem i_vc_length {k : Nat} {u : SX} {v : SY} (I : i_Rel k u v) (hk : k + 5 ≤ 2564) (v1 : Int32) : wpX_length (fun r => wpY_length (fun r' => r' = r ∧ i_Rel (k + 5) u v) v v1) u v1 := by
  refine zz_el (P := fun u v => wpX_length (fun r => wpY_length (fun r' => r' = r ∧ i_Rel (k + 5) u v) v v1) u v1) ?_ I
  intro fC fV fH fP fsl fll ftl fpl fN fS fh fe ft fr aSy aLb aLt aPf aGv aKd aLv aLn aVr aSt aHc aHs aPr aRm aTl aAr aPl aSk aEl aEs aEp aEx aTs aTn aTb aTz aTp aAs aAl aAv aRe gC gA gH gP gN gS gx gd go bKd bLn bLv bSt bCa bPl bSn bPf bPn bLs bLe bGv bXs bSk bSl bOu bAs bTb bTn c hI hX hY
  rcases pk_ix v1 (n := c.N) (by have := hI.1.2.2.2.2.2.2.2.2.1; omega) with h | h | ⟨j, hj, rfl⟩
  · exact xa_length_n hX (Or.inl h) (ya_length_n hY (Or.inl h) ⟨rfl, c, hI, hX, hY⟩)
  · exact xa_length_n hX (Or.inr h) (ya_length_n hY (Or.inr h) ⟨rfl, c, hI, hX, hY⟩)
  · exact xa_length_y hI hX hj (ya_length_y hI hY hj ⟨rfl, c, hI, hX, hY⟩)
theorem i_vc_hypCount {k : Nat} {u : SX} {v : SY} (I : i_Rel k u v) (hk : k + 5 ≤ 2564) (v1 : Int32) : wpX_hypCount (fun r => wpY_hypCount (fun r' => r' = r ∧ i_Rel (k + 5) u v) v v1) u v1 := by
  refine zz_el (P := fun u v => wpX_hypCount (fun r => wpY_hypCount (fun r' => r' = r ∧ i_Rel (k + 5) u v) v v1) u v1) ?_ I
  intro fC fV fH fP fsl fll ftl fpl fN fS fh fe ft fr aSy aLb aLt aPf aGv aKd aLv aLn aVr aSt aHc aHs aPr aRm aTl aAr aPl aSk aEl aEs aEp aEx aTs aTn aTb aTz aTp aAs aAl aAv aRe gC gA gH gP gN gS gx gd go bKd bLn bLv bSt bCa bPl bSn bPf bPn bLs bLe bGv bXs bSk bSl bOu bAs bTb bTn c hI hX hY
  rcases pk_ix v1 (n := c.N) (by have := hI.1.2.2.2.2.2.2.2.2.1; omega) with h | h | ⟨j, hj, rfl⟩
  · exact xa_hypCount_n hX (Or.inl h) (ya_hypCount_n hY (Or.inl h) ⟨rfl, c, hI, hX, hY⟩)
  · exact xa_hypCount_n hX (Or.inr h) (ya_hypCount_n hY (Or.inr h) ⟨rfl, c, hI, hX, hY⟩)
  · exact xa_hypCount_y hI hX hj (ya_hypCount_y hI hY hj ⟨rfl, c, hI, hX, hY⟩)
theorem i_vc_symbolAt {k : Nat} {u : SX} {v : SY} (I : i_Rel k u v) (hk : k + 5 ≤ 2564) (v1 : Int32) (v2 : Int32) : wpX_symbolAt (fun r => wpY_symbolAt (fun r' => r' = r ∧ i_Rel (k + 5) u v) v v1 v2) u v1 v2 := by
  refine zz_el (P := fun u v => wpX_symbolAt (fun r => wpY_symbolAt (fun r' => r' = r ∧ i_Rel (k + 5) u v) v v1 v2) u v1 v2) ?_ I
  intro fC fV fH fP fsl fll ftl fpl fN fS fh fe ft fr aSy aLb aLt aPf aGv aKd aLv aLn aVr aSt aHc aHs aPr aRm aTl aAr aPl aSk aEl aEs aEp aEx aTs aTn aTb aTz aTp aAs aAl aAv aRe gC gA gH gP gN gS gx gd go bKd bLn bLv bSt bCa bPl bSn bPf bPn bLs bLe bGv bXs bSk bSl bOu bAs bTb bTn c hI hX hY
  rcases pk_ix v1 (n := c.N) (by have := hI.1.2.2.2.2.2.2.2.2.1; omega) with h | h | ⟨j, hj, rfl⟩
  · exact xa_symbolAt_n hX (Or.inl h) (ya_symbolAt_n hY (Or.inl h) ⟨rfl, c, hI, hX, hY⟩)
  · exact xa_symbolAt_n hX (Or.inr h) (ya_symbolAt_n hY (Or.inr h) ⟨rfl, c, hI, hX, hY⟩)
  · rcases pk_ix v2 (n := (c.sg j).length) (by have := (hI.2.2.1 j hj).2.2.2.1; omega) with h | h | ⟨i, hi, rfl⟩
    · exact xa_symbolAt_m hI hX hj (Or.inl h) (ya_symbolAt_m hI hY hj (Or.inl h) ⟨rfl, c, hI, hX, hY⟩)
    · exact xa_symbolAt_m hI hX hj (Or.inr h) (ya_symbolAt_m hI hY hj (Or.inr h) ⟨rfl, c, hI, hX, hY⟩)
    · exact xa_symbolAt_y hI hX hj hi (ya_symbolAt_y hI hY hj hi ⟨rfl, c, hI, hX, hY⟩)
theorem i_vc_hypAt {k : Nat} {u : SX} {v : SY} (I : i_Rel k u v) (hk : k + 5 ≤ 2564) (v1 : Int32) (v2 : Int32) : wpX_hypAt (fun r => wpY_hypAt (fun r' => r' = r ∧ i_Rel (k + 5) u v) v v1 v2) u v1 v2 := by
  refine zz_el (P := fun u v => wpX_hypAt (fun r => wpY_hypAt (fun r' => r' = r ∧ i_Rel (k + 5) u v) v v1 v2) u v1 v2) ?_ I
  intro fC fV fH fP fsl fll ftl fpl fN fS fh fe ft fr aSy aLb aLt aPf aGv aKd aLv aLn aVr aSt aHc aHs aPr aRm aTl aAr aPl aSk aEl aEs aEp aEx aTs aTn aTb aTz aTp aAs aAl aAv aRe gC gA gH gP gN gS gx gd go bKd bLn bLv bSt bCa bPl bSn bPf bPn bLs bLe bGv bXs bSk bSl bOu bAs bTb bTn c hI hX hY
  have h24 : c.N ≤ 24 := hI.1.2.2.2.2.2.2.2.2.1
  rcases pk_ix v1 (n := c.N) (by omega) with h | h | ⟨j, hj, rfl⟩
  · exact xa_hypAt_n hX (Or.inl h) (ya_hypAt_n hY (Or.inl h) ⟨rfl, c, hI, hX, hY⟩)
  · exact xa_hypAt_n hX (Or.inr h) (ya_hypAt_n hY (Or.inr h) ⟨rfl, c, hI, hX, hY⟩)
  · by_cases h3 : c.kd j < 3
    · exact xa_hypAt_h hI hX hj h3 (ya_hypAt_h hI hY hj h3 ⟨rfl, c, hI, hX, hY⟩)
    · have h3 : 3 ≤ c.kd j := by omega
      have hlen : (c.hs j).length ≤ j := ab_hs_len
      rcases pk_ix v2 (n := (c.hs j).length) (by omega) with h | h | ⟨i, hi, rfl⟩
      · exact xa_hypAt_m hI hX hj h3 (Or.inl h) (ya_hypAt_m hI hY hj h3 (Or.inl h) ⟨rfl, c, hI, hX, hY⟩)
      · exact xa_hypAt_m hI hX hj h3 (Or.inr h) (ya_hypAt_m hI hY hj h3 (Or.inr h) ⟨rfl, c, hI, hX, hY⟩)
      · exact xa_hypAt_y hI hX hj h3 hi (ya_hypAt_y hI hY hj h3 hi ⟨rfl, c, hI, hX, hY⟩)
/-- an int is a variable of the world or not -/
theorem zz_var {c : ab_W} (hz : ab_Sz c) (x : Int32) : (x < nI c.C ∨ nI (c.C + c.V) ≤ x) ∨ ∃ s, c.C ≤ s ∧ s < c.C + c.V ∧ x = nI s := by
  obtain ⟨z1, z2, z3, z4, _⟩ := hz
  rcases pk_ix x (n := c.C + c.V) (by omega) with h | h | ⟨s, hs, rfl⟩
  · left; left
    exact Int32.lt_of_lt_of_le h (nI_pos' (by omega))
  · exact Or.inl (Or.inr h)
  · by_cases q : c.C ≤ s
    · exact Or.inr ⟨s, q, hs, rfl⟩
    · left; left
      exact nI_lt (by omega) (by omega)
theorem i_vc_pairLevel {k : Nat} {u : SX} {v : SY} (I : i_Rel k u v) (hk : k + 5 ≤ 2564) (v1 : Int32) (v2 : Int32) : wpX_pairLevel (fun r => wpY_pairLevel (fun r' => r' = r ∧ i_Rel (k + 5) u v) v v1 v2) u v1 v2 := by
  refine zz_el (P := fun u v => wpX_pairLevel (fun r => wpY_pairLevel (fun r' => r' = r ∧ i_Rel (k + 5) u v) v v1 v2) u v1 v2) ?_ I
  intro fC fV fH fP fsl fll ftl fpl fN fS fh fe ft fr aSy aLb aLt aPf aGv aKd aLv aLn aVr aSt aHc aHs aPr aRm aTl aAr aPl aSk aEl aEs aEp aEx aTs aTn aTb aTz aTp aAs aAl aAv aRe gC gA gH gP gN gS gx gd go bKd bLn bLv bSt bCa bPl bSn bPf bPn bLs bLe bGv bXs bSk bSl bOu bAs bTb bTn c hI hX hY
  rcases zz_var hI.1 v1 with h | ⟨s, h1, h2, rfl⟩
  · exact xa_pairLevel_a hX h (ya_pairLevel_a hY h ⟨rfl, c, hI, hX, hY⟩)
  · rcases zz_var hI.1 v2 with h | ⟨t, h3, h4, rfl⟩
    · exact xa_pairLevel_b hI hX h1 h2 h (ya_pairLevel_b hI hY h1 h2 h ⟨rfl, c, hI, hX, hY⟩)
    · by_cases q : s = t
      · subst q
        exact xa_pairLevel_c hI hX h1 h2 (ya_pairLevel_c hI hY h1 h2 ⟨rfl, c, hI, hX, hY⟩)
      · exact xa_pairLevel_y hI hX h1 h2 h3 h4 q (ya_pairLevel_y hI hY h1 h2 h3 h4 q ⟨rfl, c, hI, hX, hY⟩)
theorem i_vc_frameDisjoint {k : Nat} {u : SX} {v : SY} (I : i_Rel k u v) (hk : k + 5 ≤ 2564) (v1 : Int32) (v2 : Int32) (v3 : Int32) : wpX_frameDisjoint (fun r => wpY_frameDisjoint (fun r' => r' = r ∧ i_Rel (k + 5) u v) v v1 v2 v3) u v1 v2 v3 := by
  refine zz_el (P := fun u v => wpX_frameDisjoint (fun r => wpY_frameDisjoint (fun r' => r' = r ∧ i_Rel (k + 5) u v) v v1 v2 v3) u v1 v2 v3) ?_ I
  intro fC fV fH fP fsl fll ftl fpl fN fS fh fe ft fr aSy aLb aLt aPf aGv aKd aLv aLn aVr aSt aHc aHs aPr aRm aTl aAr aPl aSk aEl aEs aEp aEx aTs aTn aTb aTz aTp aAs aAl aAv aRe gC gA gH gP gN gS gx gd go bKd bLn bLv bSt bCa bPl bSn bPf bPn bLs bLe bGv bXs bSk bSl bOu bAs bTb bTn c hI hX hY
  rcases pk_ix v1 (n := c.N) (by have := hI.1.2.2.2.2.2.2.2.2.1; omega) with h | h | ⟨j, hj, rfl⟩
  · exact xa_fd_n hX (Or.inl h) (ya_fd_n hY (Or.inl h) ⟨rfl, c, hI, hX, hY⟩)
  · exact xa_fd_n hX (Or.inr h) (ya_fd_n hY (Or.inr h) ⟨rfl, c, hI, hX, hY⟩)
  · by_cases h3 : c.kd j < 3
    · exact xa_fd_h hI hX hj h3 (ya_fd_h hI hY hj h3 ⟨rfl, c, hI, hX, hY⟩)
    · have h3 : 3 ≤ c.kd j := by omega
      rcases zz_var hI.1 v2 with h | ⟨s, h1, h2, rfl⟩
      · exact xa_fd_a hI hX hj h3 h (ya_fd_a hI hY hj h3 h ⟨rfl, c, hI, hX, hY⟩)
      · rcases zz_var hI.1 v3 with h | ⟨t, h4, h5, rfl⟩
        · exact xa_fd_b hI hX hj h3 h1 h2 h (ya_fd_b hI hY hj h3 h1 h2 h ⟨rfl, c, hI, hX, hY⟩)
        · exact xa_fd_y hI hX hj h3 h1 h2 h4 h5 (ya_fd_y hI hY hj h3 h1 h2 h4 h5 ⟨rfl, c, hI, hX, hY⟩)
theorem i_vc_restsOn {k : Nat} {u : SX} {v : SY} (I : i_Rel k u v) (hk : k + 5 ≤ 2564) (v1 : Int32) (v2 : Int32) : wpX_restsOn (fun r => wpY_restsOn (fun r' => r' = r ∧ i_Rel (k + 5) u v) v v1 v2) u v1 v2 := by
  refine zz_el (P := fun u v => wpX_restsOn (fun r => wpY_restsOn (fun r' => r' = r ∧ i_Rel (k + 5) u v) v v1 v2) u v1 v2) ?_ I
  intro fC fV fH fP fsl fll ftl fpl fN fS fh fe ft fr aSy aLb aLt aPf aGv aKd aLv aLn aVr aSt aHc aHs aPr aRm aTl aAr aPl aSk aEl aEs aEp aEx aTs aTn aTb aTz aTp aAs aAl aAv aRe gC gA gH gP gN gS gx gd go bKd bLn bLv bSt bCa bPl bSn bPf bPn bLs bLe bGv bXs bSk bSl bOu bAs bTb bTn c hI hX hY
  have h24 : c.N ≤ 24 := hI.1.2.2.2.2.2.2.2.2.1
  rcases pk_ix v1 (n := c.N) (by omega) with h | h | ⟨j, hj, rfl⟩
  · exact xa_ro_n hX (Or.inl h) (ya_ro_n hY (Or.inl h) ⟨rfl, c, hI, hX, hY⟩)
  · exact xa_ro_n hX (Or.inr h) (ya_ro_n hY (Or.inr h) ⟨rfl, c, hI, hX, hY⟩)
  · by_cases h3 : c.kd j < 3
    · exact xa_ro_h hI hX hj h3 (ya_ro_h hI hY hj h3 ⟨rfl, c, hI, hX, hY⟩)
    · have h3 : 3 ≤ c.kd j := by omega
      rcases pk_ix v2 (n := c.N) (by omega) with h | h | ⟨a, ha, rfl⟩
      · exact xa_ro_a hI hX hj h3 (Or.inl h) (ya_ro_a hI hY hj h3 (Or.inl h) ⟨rfl, c, hI, hX, hY⟩)
      · exact xa_ro_a hI hX hj h3 (Or.inr h) (ya_ro_a hI hY hj h3 (Or.inr h) ⟨rfl, c, hI, hX, hY⟩)
      · by_cases h4 : c.kd a = 3
        · exact xa_ro_y hI hX hj h3 ha h4 (ya_ro_y hI hY hj h3 ha h4 ⟨rfl, c, hI, hX, hY⟩)
        · exact xa_ro_b hI hX hj h3 ha h4 (ya_ro_b hI hY hj h3 ha h4 ⟨rfl, c, hI, hX, hY⟩)
end
section
/-! owed rows: the lists -/
theorem ap_lo {g : Nat → Int32} {r : Nat} (h : ∀ i, i < r → ¬ g i < 0) {B : Nat} (hB : B < 2 ^ 31) (hb : ∀ i, i < r → g i ≤ nI B) : ∀ y, y ∈ ap_v g r → y ≤ B := by
  intro y hy
  unfold ap_v at hy
  obtain ⟨i, hi, rfl⟩ := List.mem_map.mp hy
  have hi := List.mem_range.mp hi
  have h1 := hb i hi
  obtain ⟨j, hj, e⟩ := nI_of (h i hi)
  rw [e] at h1
  show (g i).toNatClampNeg ≤ B
  rw [e, nI_clamp hj]
  exact (nI_leI hj hB).mp h1
theorem ap_hi {g : Nat → Int32} {r : Nat} (h : ∀ i, i < r → ¬ g i < 0) {B : Nat} (hB : B < 2 ^ 31) (hb : ∀ i, i < r → ¬ g i < nI B) : ∀ y, y ∈ ap_v g r → B ≤ y := by
  intro y hy
  unfold ap_v at hy
  obtain ⟨i, hi, rfl⟩ := List.mem_map.mp hy
  have hi := List.mem_range.mp hi
  have h1 := hb i hi
  obtain ⟨j, hj, e⟩ := nI_of (h i hi)
  rw [e] at h1
  show B ≤ (g i).toNatClampNeg
  rw [e, nI_clamp hj]
  rw [nI_ltI hj hB] at h1
  omega
theorem rx_lapp {n : Int32} {a : Nat → Int32} {o : Nat} {l : List Nat} {g : Nat → Int32} {r : Nat} (h : rx_l n a o l) (hg : ∀ i, i < r → ¬ g i < 0) : rx_l (nI (l.length + r)) (zb_cp a (o + l.length) g r) o (l ++ ap_v g r) := by
  refine ⟨by rw [List.length_append, ap_vl], ?_⟩
  rw [zb_app]
  exact ⟨zb_cpK h.2 (by omega), ap_sg hg⟩
theorem rx_lapp0 {n : Int32} {a : Nat → Int32} {l : List Nat} {g : Nat → Int32} {r : Nat} (h : rx_l n a 0 l) (hg : ∀ i, i < r → ¬ g i < 0) : rx_l (nI (l.length + r)) (zb_cp a l.length g r) 0 (l ++ ap_v g r) := by
  have := rx_lapp h hg
  rwa [Nat.zero_add] at this
theorem rx_lk {n : Int32} {a : Nat → Int32} {o p : Nat} {l : List Nat} {g : Nat → Int32} {r : Nat} (h : rx_l n a o l) (hd : o + l.length ≤ p ∨ p + r ≤ o) : rx_l n (zb_cp a p g r) o l := ⟨h.1, zb_cpK h.2 (by omega)⟩
theorem rx_ln {n m : Int32} {a : Nat → Int32} {o : Nat} {l : List Nat} (h : rx_l n a o l) (e : m = n) : rx_l m a o l := e ▸ h
theorem ap_wi {g h : Nat → Int32} {a b d e : Int32} {r : Nat} {lo hi lo' hi' : Int32} (hr : r ≤ 4) (e1 : lo = lo') (e2 : hi = hi') (w : ∀ i, i < r → ¬ ap_g g a b d e i < lo ∧ ap_g g a b d e i ≤ hi) : ∀ i, i < r → ¬ ap_g h a b d e i < lo' ∧ ap_g h a b d e i ≤ hi' := by
  intro i hi
  rw [← e1, ← e2, ap_ge h g a b d e (by omega)]
  exact w i hi
/-- what a list may hold -/
def ap_B (c : ab_W) (L y : Nat) : Prop := if L = 0 then y < c.C + c.V else if L = 1 then y < c.N else 65 ≤ y ∧ y ≤ 90
end
section
theorem zz_sl {k r : Nat} {v1 v2 v3 v4 : Int32} {fC fV fH fP fsl fll ftl fpl fN fS fh fe ft fr : Int32} {aSy aLb aLt aPf aGv aKd aLv aLn aVr aSt aHc aHs aPr aRm aTl aAr aPl aSk aEl aEs aEp aEx aTs aTn aTb aTz aTp aAs aAl aAv aRe : Nat → Int32} {gC gA gH gP gN gS gx gd go : Int32} {bKd bLn bLv bSt bCa bPl bSn bPf bPn bLs bLe bGv bXs bSk bSl bOu bAs bTb bTn : Nat → Int32} {c : ab_W} (hI : ab_I c) (hX : rx_R c c.N (fC, fV, fH, fP, fsl, fll, ftl, fpl, fN, fS, fh, fe, ft, fr, aSy, aLb, aLt, aPf, aGv, aKd, aLv, aLn, aVr, aSt, aHc, aHs, aPr, aRm, aTl, aAr, aPl, aSk, aEl, aEs, aEp, aEx, aTs, aTn, aTb, aTz, aTp, aAs, aAl, aAv, aRe)) (hY : ry_R c c.N (gC, gA, gH, gP, gN, gS, gx, gd, go, bKd, bLn, bLv, bSt, bCa, bPl, bSn, bPf, bPn, bLs, bLe, bGv, bXs, bSk, bSl, bOu, bAs, bTb, bTn)) (hr : ap_R (ap_g aGv v1 v2 v3 v4) r) (hB : ∀ y, y ∈ ap_v (ap_g aGv v1 v2 v3 v4) r → y < c.C + c.V) (h5 : c.sl.length + r ≤ 10) : i_Rel k (fC, fV, fH, fP, nI (c.sl.length + r), fll, ftl, fpl, fN, fS, fh, fe, ft, fr, zb_cp aSy c.sl.length (ap_g aGv v1 v2 v3 v4) r, aLb, aLt, aPf, ap_g aGv v1 v2 v3 v4, aKd, aLv, aLn, aVr, aSt, aHc, aHs, aPr, aRm, aTl, aAr, aPl, aSk, aEl, aEs, aEp, aEx, aTs, aTn, aTb, aTz, aTp, aAs, aAl, aAv, aRe) (gC, gA, gH, gP, gN, gS, gx, gd, go, bKd, bLn, bLv, bSt, bCa, bPl, bSn, bPf, bPn, zb_cp bLs (0 * 64 + c.sl.length) (ap_g bGv v1 v2 v3 v4) r, upd bLe 0 (nI (c.sl.length + r)), ap_g bGv v1 v2 v3 v4, bXs, bSk, bSl, bOu, bAs, bTb, bTn) := by
  have hr' : ap_R (ap_g bGv v1 v2 v3 v4) r := ap_Re hr
  have ev : ap_v (ap_g bGv v1 v2 v3 v4) r = ap_v (ap_g aGv v1 v2 v3 v4) r := ap_ve hr.1
  obtain ⟨l1, l2, l3, l4, l5, l6⟩ := hI.2.1
  refine ⟨ab_sL c (c.sl ++ ap_v (ap_g aGv v1 v2 v3 v4) r) c.ll c.tl, ab_sL_I hI ⟨?_, l2, l3, ?_, l5, l6⟩, rx_sL hX (rx_lapp0 hX.2.1 hr.2.1) hX.2.2.1 hX.2.2.2.1, ry_sL hY ?_ (rx_lk (rx_ln hY.2.2.1 (pk_un (by decide))) (by omega)) (rx_lk (rx_ln hY.2.2.2.1 (pk_un (by decide))) (by omega))⟩
  · show (c.sl ++ ap_v (ap_g aGv v1 v2 v3 v4) r).length ≤ 10
    rw [List.length_append, ap_vl]; exact h5
  · intro y hy
    rcases List.mem_append.mp hy with hy | hy
    · exact l4 y hy
    · exact hB y hy
  · rw [← ev]
    exact rx_ln (rx_lapp hY.2.1 hr'.2.1) pk_us
theorem zz_ll {k r : Nat} {v1 v2 v3 v4 : Int32} {fC fV fH fP fsl fll ftl fpl fN fS fh fe ft fr : Int32} {aSy aLb aLt aPf aGv aKd aLv aLn aVr aSt aHc aHs aPr aRm aTl aAr aPl aSk aEl aEs aEp aEx aTs aTn aTb aTz aTp aAs aAl aAv aRe : Nat → Int32} {gC gA gH gP gN gS gx gd go : Int32} {bKd bLn bLv bSt bCa bPl bSn bPf bPn bLs bLe bGv bXs bSk bSl bOu bAs bTb bTn : Nat → Int32} {c : ab_W} (hI : ab_I c) (hX : rx_R c c.N (fC, fV, fH, fP, fsl, fll, ftl, fpl, fN, fS, fh, fe, ft, fr, aSy, aLb, aLt, aPf, aGv, aKd, aLv, aLn, aVr, aSt, aHc, aHs, aPr, aRm, aTl, aAr, aPl, aSk, aEl, aEs, aEp, aEx, aTs, aTn, aTb, aTz, aTp, aAs, aAl, aAv, aRe)) (hY : ry_R c c.N (gC, gA, gH, gP, gN, gS, gx, gd, go, bKd, bLn, bLv, bSt, bCa, bPl, bSn, bPf, bPn, bLs, bLe, bGv, bXs, bSk, bSl, bOu, bAs, bTb, bTn)) (hr : ap_R (ap_g aGv v1 v2 v3 v4) r) (hB : ∀ y, y ∈ ap_v (ap_g aGv v1 v2 v3 v4) r → y < c.N) (h5 : c.ll.length + r ≤ 32) : i_Rel k (fC, fV, fH, fP, fsl, nI (c.ll.length + r), ftl, fpl, fN, fS, fh, fe, ft, fr, aSy, zb_cp aLb c.ll.length (ap_g aGv v1 v2 v3 v4) r, aLt, aPf, ap_g aGv v1 v2 v3 v4, aKd, aLv, aLn, aVr, aSt, aHc, aHs, aPr, aRm, aTl, aAr, aPl, aSk, aEl, aEs, aEp, aEx, aTs, aTn, aTb, aTz, aTp, aAs, aAl, aAv, aRe) (gC, gA, gH, gP, gN, gS, gx, gd, go, bKd, bLn, bLv, bSt, bCa, bPl, bSn, bPf, bPn, zb_cp bLs (1 * 64 + c.ll.length) (ap_g bGv v1 v2 v3 v4) r, upd bLe 1 (nI (c.ll.length + r)), ap_g bGv v1 v2 v3 v4, bXs, bSk, bSl, bOu, bAs, bTb, bTn) := by
  have hr' : ap_R (ap_g bGv v1 v2 v3 v4) r := ap_Re hr
  have ev : ap_v (ap_g bGv v1 v2 v3 v4) r = ap_v (ap_g aGv v1 v2 v3 v4) r := ap_ve hr.1
  obtain ⟨l1, l2, l3, l4, l5, l6⟩ := hI.2.1
  refine ⟨ab_sL c c.sl (c.ll ++ ap_v (ap_g aGv v1 v2 v3 v4) r) c.tl, ab_sL_I hI ⟨l1, ?_, l3, l4, ?_, l6⟩, rx_sL hX hX.2.1 (rx_lapp0 hX.2.2.1 hr.2.1) hX.2.2.2.1, ry_sL hY (rx_lk (rx_ln hY.2.1 (pk_un (by decide))) (by omega)) ?_ (rx_lk (rx_ln hY.2.2.2.1 (pk_un (by decide))) (by omega))⟩
  · show (c.ll ++ ap_v (ap_g aGv v1 v2 v3 v4) r).length ≤ 32
    rw [List.length_append, ap_vl]; exact h5
  · intro y hy
    rcases List.mem_append.mp hy with hy | hy
    · exact l5 y hy
    · exact hB y hy
  · rw [← ev]
    exact rx_ln (rx_lapp hY.2.2.1 hr'.2.1) pk_us
theorem zz_tl {k r : Nat} {v1 v2 v3 v4 : Int32} {fC fV fH fP fsl fll ftl fpl fN fS fh fe ft fr : Int32} {aSy aLb aLt aPf aGv aKd aLv aLn aVr aSt aHc aHs aPr aRm aTl aAr aPl aSk aEl aEs aEp aEx aTs aTn aTb aTz aTp aAs aAl aAv aRe : Nat → Int32} {gC gA gH gP gN gS gx gd go : Int32} {bKd bLn bLv bSt bCa bPl bSn bPf bPn bLs bLe bGv bXs bSk bSl bOu bAs bTb bTn : Nat → Int32} {c : ab_W} (hI : ab_I c) (hX : rx_R c c.N (fC, fV, fH, fP, fsl, fll, ftl, fpl, fN, fS, fh, fe, ft, fr, aSy, aLb, aLt, aPf, aGv, aKd, aLv, aLn, aVr, aSt, aHc, aHs, aPr, aRm, aTl, aAr, aPl, aSk, aEl, aEs, aEp, aEx, aTs, aTn, aTb, aTz, aTp, aAs, aAl, aAv, aRe)) (hY : ry_R c c.N (gC, gA, gH, gP, gN, gS, gx, gd, go, bKd, bLn, bLv, bSt, bCa, bPl, bSn, bPf, bPn, bLs, bLe, bGv, bXs, bSk, bSl, bOu, bAs, bTb, bTn)) (hr : ap_R (ap_g aGv v1 v2 v3 v4) r) (hB : ∀ y, y ∈ ap_v (ap_g aGv v1 v2 v3 v4) r → 65 ≤ y ∧ y ≤ 90) (h5 : c.tl.length + r ≤ 64) : i_Rel k (fC, fV, fH, fP, fsl, fll, nI (c.tl.length + r), fpl, fN, fS, fh, fe, ft, fr, aSy, aLb, zb_cp aLt c.tl.length (ap_g aGv v1 v2 v3 v4) r, aPf, ap_g aGv v1 v2 v3 v4, aKd, aLv, aLn, aVr, aSt, aHc, aHs, aPr, aRm, aTl, aAr, aPl, aSk, aEl, aEs, aEp, aEx, aTs, aTn, aTb, aTz, aTp, aAs, aAl, aAv, aRe) (gC, gA, gH, gP, gN, gS, gx, gd, go, bKd, bLn, bLv, bSt, bCa, bPl, bSn, bPf, bPn, zb_cp bLs (2 * 64 + c.tl.length) (ap_g bGv v1 v2 v3 v4) r, upd bLe 2 (nI (c.tl.length + r)), ap_g bGv v1 v2 v3 v4, bXs, bSk, bSl, bOu, bAs, bTb, bTn) := by
  have hr' : ap_R (ap_g bGv v1 v2 v3 v4) r := ap_Re hr
  have ev : ap_v (ap_g bGv v1 v2 v3 v4) r = ap_v (ap_g aGv v1 v2 v3 v4) r := ap_ve hr.1
  obtain ⟨l1, l2, l3, l4, l5, l6⟩ := hI.2.1
  refine ⟨ab_sL c c.sl c.ll (c.tl ++ ap_v (ap_g aGv v1 v2 v3 v4) r), ab_sL_I hI ⟨l1, l2, ?_, l4, l5, ?_⟩, rx_sL hX hX.2.1 hX.2.2.1 (rx_lapp0 hX.2.2.2.1 hr.2.1), ry_sL hY (rx_lk (rx_ln hY.2.1 (pk_un (by decide))) (by omega)) (rx_lk (rx_ln hY.2.2.1 (pk_un (by decide))) (by omega)) ?_⟩
  · show (c.tl ++ ap_v (ap_g aGv v1 v2 v3 v4) r).length ≤ 64
    rw [List.length_append, ap_vl]; exact h5
  · intro y hy
    rcases List.mem_append.mp hy with hy | hy
    · exact l6 y hy
    · exact hB y hy
  · rw [← ev]
    exact rx_ln (rx_lapp hY.2.2.2.1 hr'.2.1) pk_us
end
section
theorem i_vc_discard {k : Nat} {u : SX} {v : SY} (I : i_Rel k u v) (hk : k + 5 ≤ 2564) (v1 : Int32) : wpX_discard (fun r u' => wpY_discard (fun r' v' => r' = r ∧ i_Rel (k + 5) u' v') v v1) u v1 := by
  refine zz_el (P := fun u v => wpX_discard (fun r u' => wpY_discard (fun r' v' => r' = r ∧ i_Rel (k + 5) u' v') v v1) u v1) ?_ I
  intro fC fV fH fP fsl fll ftl fpl fN fS fh fe ft fr aSy aLb aLt aPf aGv aKd aLv aLn aVr aSt aHc aHs aPr aRm aTl aAr aPl aSk aEl aEs aEp aEx aTs aTn aTb aTz aTp aAs aAl aAv aRe gC gA gH gP gN gS gx gd go bKd bLn bLv bSt bCa bPl bSn bPf bPn bLs bLe bGv bXs bSk bSl bOu bAs bTb bTn c hI hX hY
  obtain ⟨l1, l2, l3, l4, l5, l6⟩ := hI.2.1
  have hnil : ∀ (P : Nat → Prop), ∀ y, y ∈ ([] : List Nat) → P y := fun P y hy => absurd hy List.not_mem_nil
  refine br_c (fun h => ?_) (fun n0 => br_c (fun h => ?_) (fun n1 => br_c (fun h => ?_) (fun n2 => ?_)))
  · subst h
    refine br_f (by decide) (br_t (by decide) ⟨vp_in_nI (n := 0) (by omega) (by omega), nm_e ⟨vp_in_nI (n := 0) (by omega) (by omega), nm_e ⟨?_, ab_sL c [] c.ll c.tl, ab_sL_I hI ⟨Nat.zero_le _, l2, l3, hnil _, l5, l6⟩, rx_sL hX (rx_l0 _ 0) hX.2.2.1 hX.2.2.2.1, ry_sL hY (rx_l0 _ 0) hY.2.2.1 hY.2.2.2.1⟩⟩⟩)
    exact hY.2.1.1.trans hX.2.1.1.symm
  · subst h
    refine br_f (by decide) (br_t (by decide) ⟨vp_in_nI (n := 1) (by omega) (by omega), nm_e ⟨vp_in_nI (n := 1) (by omega) (by omega), nm_e ⟨?_, ab_sL c c.sl [] c.tl, ab_sL_I hI ⟨l1, Nat.zero_le _, l3, l4, hnil _, l6⟩, rx_sL hX hX.2.1 (rx_l0 _ 0) hX.2.2.2.1, ry_sL hY hY.2.1 (rx_l0 _ 64) hY.2.2.2.1⟩⟩⟩)
    exact hY.2.2.1.1.trans hX.2.2.1.1.symm
  · subst h
    refine br_f (by decide) (br_t (by decide) ⟨vp_in_nI (n := 2) (by omega) (by omega), nm_e ⟨vp_in_nI (n := 2) (by omega) (by omega), nm_e ⟨?_, ab_sL c c.sl c.ll [], ab_sL_I hI ⟨l1, l2, Nat.zero_le _, l4, l5, hnil _⟩, rx_sL hX hX.2.1 hX.2.2.1 (rx_l0 _ 0), ry_sL hY hY.2.1 hY.2.2.1 (rx_l0 _ 128)⟩⟩⟩)
    exact hY.2.2.2.1.1.trans hX.2.2.2.1.1.symm
  · refine br_c (fun _ => ⟨rfl, c, hI, hX, hY⟩) (fun h1 => br_f ?_ ⟨rfl, c, hI, hX, hY⟩)
    intro h2
    obtain ⟨j, hj, rfl⟩ := nI_of h1
    have h3 : j ≤ 2 := (nI_leI (b := 2) hj (by omega)).mp h2
    have h4 : j = 0 ∨ j = 1 ∨ j = 2 := by omega
    rcases h4 with e | e | e
    · subst e; exact n0 rfl
    · subst e; exact n1 rfl
    · subst e; exact n2 rfl
end
section
theorem i_vc_symbols {k : Nat} {u : SX} {v : SY} (I : i_Rel k u v) (hk : k + 5 ≤ 2564) (v1 : Int32) (v2 : Int32) (v3 : Int32) (v4 : Int32) : wpX_symbols (fun r u' => wpY_symbols (fun r' v' => r' = r ∧ i_Rel (k + 5) u' v') v v1 v2 v3 v4) u v1 v2 v3 v4 := by
  refine zz_el (P := fun u v => wpX_symbols (fun r u' => wpY_symbols (fun r' v' => r' = r ∧ i_Rel (k + 5) u' v') v v1 v2 v3 v4) u v1 v2 v3 v4) ?_ I
  intro fC fV fH fP fsl fll ftl fpl fN fS fh fe ft fr aSy aLb aLt aPf aGv aKd aLv aLn aVr aSt aHc aHs aPr aRm aTl aAr aPl aSk aEl aEs aEp aEx aTs aTn aTb aTz aTp aAs aAl aAv aRe gC gA gH gP gN gS gx gd go bKd bLn bLv bSt bCa bPl bSn bPf bPn bLs bLe bGv bXs bSk bSl bOu bAs bTb bTn c hI hX hY
  obtain ⟨r, hr⟩ := ap_ex (ap_g aGv v1 v2 v3 v4)
  have hr' : ap_R (ap_g bGv v1 v2 v3 v4) r := ap_Re hr
  obtain ⟨l1, l2, l3, l4, l5, l6⟩ := hI.2.1
  obtain ⟨z1, z2, z3, z4, z5, z6, z7, z8, z9, z10⟩ := hI.1
  have rel : i_Rel (k + 5) (fC, fV, fH, fP, fsl, fll, ftl, fpl, fN, fS, fh, fe, ft, fr, aSy, aLb, aLt, aPf, ap_g aGv v1 v2 v3 v4, aKd, aLv, aLn, aVr, aSt, aHc, aHs, aPr, aRm, aTl, aAr, aPl, aSk, aEl, aEs, aEp, aEx, aTs, aTn, aTb, aTz, aTp, aAs, aAl, aAv, aRe) (gC, gA, gH, gP, gN, gS, gx, gd, go, bKd, bLn, bLv, bSt, bCa, bPl, bSn, bPf, bPn, bLs, bLe, ap_g bGv v1 v2 v3 v4, bXs, bSk, bSl, bOu, bAs, bTb, bTn) := ⟨c, hI, rx_ig hX, ry_ig hY⟩
  have hBs : 0 < r → (∀ i, i < r → ¬ ap_g aGv v1 v2 v3 v4 i < 0 ∧ ap_g aGv v1 v2 v3 v4 i ≤ fC + fV - 1) → ∀ y, y ∈ ap_v (ap_g aGv v1 v2 v3 v4) r → y < c.C + c.V := by
    intro h0 hw y hy
    have := ap_lo (B := c.C + c.V - 1) hr.2.1 (by omega) (fun i hi => by
      have := (hw i hi).2
      rw [hX.1.1, hX.1.2.1, nI_add, show nI (c.C + c.V) - 1 = nI (c.C + c.V - 1) from pk_sub (b := 1) (by omega)] at this
      exact this) y hy
    omega
  have hBl : 0 < r → (∀ i, i < r → ¬ ap_g aGv v1 v2 v3 v4 i < 0 ∧ ap_g aGv v1 v2 v3 v4 i ≤ fN - 1) → ∀ y, y ∈ ap_v (ap_g aGv v1 v2 v3 v4) r → y < c.N := by
    intro h0 hw y hy
    by_cases hN : c.N = 0
    · have h1 := hw 0 h0
      rw [hX.1.2.2.2.2.1, hN] at h1
      exact absurd (Int32.lt_of_le_of_lt h1.2 (by decide)) h1.1
    · have := ap_lo (B := c.N - 1) hr.2.1 (by omega) (fun i hi => by
        have := (hw i hi).2
        rw [hX.1.2.2.2.2.1, show nI c.N - 1 = nI (c.N - 1) from pk_sub (b := 1) (by omega)] at this
        exact this) y hy
      omega
  have hBt : 0 < r → (∀ i, i < r → ¬ ap_g aGv v1 v2 v3 v4 i < 65 ∧ ap_g aGv v1 v2 v3 v4 i ≤ 90) → ∀ y, y ∈ ap_v (ap_g aGv v1 v2 v3 v4) r → 65 ≤ y ∧ y ≤ 90 := by
    intro h0 hw y hy
    exact ⟨ap_hi (B := 65) hr.2.1 (by omega) (fun i hi => (hw i hi).1) y hy, ap_lo (B := 90) hr.2.1 (by omega) (fun i hi => (hw i hi).2) y hy⟩
  refine xw_symbols hr hX.2.1.1 l1 (fun h0 => ?_) (fun h0 hn => ?_) (fun h0 hy h5 => ?_) (fun h0 hy h5 => ?_)
  · exact yw_symbols hr' hY.2.1.1 l1 (fun _ => ⟨rfl, rel⟩) (fun h => absurd h (by omega)) (fun h => absurd h (by omega)) (fun h => absurd h (by omega))
  · exact yw_symbols hr' hY.2.1.1 l1 (fun h => absurd h (by omega)) (fun _ _ => ⟨rfl, rel⟩) (fun _ hy => absurd (ap_wi hr.1 rfl (Eq.symm (by rw [hX.1.1, hX.1.2.1, nI_add, hY.1.2.1])) hy) hn) (fun _ hy => absurd (ap_wi hr.1 rfl (Eq.symm (by rw [hX.1.1, hX.1.2.1, nI_add, hY.1.2.1])) hy) hn)
  · exact yw_symbols hr' hY.2.1.1 l1 (fun h => absurd h (by omega)) (fun _ hn => absurd (ap_wi hr.1 rfl (by rw [hX.1.1, hX.1.2.1, nI_add, hY.1.2.1]) hy) hn) (fun _ _ _ => ⟨rfl, rel⟩) (fun _ _ h => absurd h (by omega))
  · exact yw_symbols hr' hY.2.1.1 l1 (fun h => absurd h (by omega)) (fun _ hn => absurd (ap_wi hr.1 rfl (by rw [hX.1.1, hX.1.2.1, nI_add, hY.1.2.1]) hy) hn) (fun _ _ h => absurd h (by omega)) (fun _ _ _ => ⟨rfl, zz_sl hI hX hY hr (hBs h0 hy) h5⟩)
theorem i_vc_labels {k : Nat} {u : SX} {v : SY} (I : i_Rel k u v) (hk : k + 5 ≤ 2564) (v1 : Int32) (v2 : Int32) (v3 : Int32) (v4 : Int32) : wpX_labels (fun r u' => wpY_labels (fun r' v' => r' = r ∧ i_Rel (k + 5) u' v') v v1 v2 v3 v4) u v1 v2 v3 v4 := by
  refine zz_el (P := fun u v => wpX_labels (fun r u' => wpY_labels (fun r' v' => r' = r ∧ i_Rel (k + 5) u' v') v v1 v2 v3 v4) u v1 v2 v3 v4) ?_ I
  intro fC fV fH fP fsl fll ftl fpl fN fS fh fe ft fr aSy aLb aLt aPf aGv aKd aLv aLn aVr aSt aHc aHs aPr aRm aTl aAr aPl aSk aEl aEs aEp aEx aTs aTn aTb aTz aTp aAs aAl aAv aRe gC gA gH gP gN gS gx gd go bKd bLn bLv bSt bCa bPl bSn bPf bPn bLs bLe bGv bXs bSk bSl bOu bAs bTb bTn c hI hX hY
  obtain ⟨r, hr⟩ := ap_ex (ap_g aGv v1 v2 v3 v4)
  have hr' : ap_R (ap_g bGv v1 v2 v3 v4) r := ap_Re hr
  obtain ⟨l1, l2, l3, l4, l5, l6⟩ := hI.2.1
  obtain ⟨z1, z2, z3, z4, z5, z6, z7, z8, z9, z10⟩ := hI.1
  have rel : i_Rel (k + 5) (fC, fV, fH, fP, fsl, fll, ftl, fpl, fN, fS, fh, fe, ft, fr, aSy, aLb, aLt, aPf, ap_g aGv v1 v2 v3 v4, aKd, aLv, aLn, aVr, aSt, aHc, aHs, aPr, aRm, aTl, aAr, aPl, aSk, aEl, aEs, aEp, aEx, aTs, aTn, aTb, aTz, aTp, aAs, aAl, aAv, aRe) (gC, gA, gH, gP, gN, gS, gx, gd, go, bKd, bLn, bLv, bSt, bCa, bPl, bSn, bPf, bPn, bLs, bLe, ap_g bGv v1 v2 v3 v4, bXs, bSk, bSl, bOu, bAs, bTb, bTn) := ⟨c, hI, rx_ig hX, ry_ig hY⟩
  have hBs : 0 < r → (∀ i, i < r → ¬ ap_g aGv v1 v2 v3 v4 i < 0 ∧ ap_g aGv v1 v2 v3 v4 i ≤ fC + fV - 1) → ∀ y, y ∈ ap_v (ap_g aGv v1 v2 v3 v4) r → y < c.C + c.V := by
    intro h0 hw y hy
    have := ap_lo (B := c.C + c.V - 1) hr.2.1 (by omega) (fun i hi => by
      have := (hw i hi).2
      rw [hX.1.1, hX.1.2.1, nI_add, show nI (c.C + c.V) - 1 = nI (c.C + c.V - 1) from pk_sub (b := 1) (by omega)] at this
      exact this) y hy
    omega
  have hBl : 0 < r → (∀ i, i < r → ¬ ap_g aGv v1 v2 v3 v4 i < 0 ∧ ap_g aGv v1 v2 v3 v4 i ≤ fN - 1) → ∀ y, y ∈ ap_v (ap_g aGv v1 v2 v3 v4) r → y < c.N := by
    intro h0 hw y hy
    by_cases hN : c.N = 0
    · have h1 := hw 0 h0
      rw [hX.1.2.2.2.2.1, hN] at h1
      exact absurd (Int32.lt_of_le_of_lt h1.2 (by decide)) h1.1
    · have := ap_lo (B := c.N - 1) hr.2.1 (by omega) (fun i hi => by
        have := (hw i hi).2
        rw [hX.1.2.2.2.2.1, show nI c.N - 1 = nI (c.N - 1) from pk_sub (b := 1) (by omega)] at this
        exact this) y hy
      omega
  have hBt : 0 < r → (∀ i, i < r → ¬ ap_g aGv v1 v2 v3 v4 i < 65 ∧ ap_g aGv v1 v2 v3 v4 i ≤ 90) → ∀ y, y ∈ ap_v (ap_g aGv v1 v2 v3 v4) r → 65 ≤ y ∧ y ≤ 90 := by
    intro h0 hw y hy
    exact ⟨ap_hi (B := 65) hr.2.1 (by omega) (fun i hi => (hw i hi).1) y hy, ap_lo (B := 90) hr.2.1 (by omega) (fun i hi => (hw i hi).2) y hy⟩
  refine xw_labels hr hX.2.2.1.1 l2 (fun h0 => ?_) (fun h0 hn => ?_) (fun h0 hy h5 => ?_) (fun h0 hy h5 => ?_)
  · exact yw_labels hr' hY.2.2.1.1 l2 (fun _ => ⟨rfl, rel⟩) (fun h => absurd h (by omega)) (fun h => absurd h (by omega)) (fun h => absurd h (by omega))
  · exact yw_labels hr' hY.2.2.1.1 l2 (fun h => absurd h (by omega)) (fun _ _ => ⟨rfl, rel⟩) (fun _ hy => absurd (ap_wi hr.1 rfl (Eq.symm (by rw [hX.1.2.2.2.2.1, hY.1.2.2.2.2.1])) hy) hn) (fun _ hy => absurd (ap_wi hr.1 rfl (Eq.symm (by rw [hX.1.2.2.2.2.1, hY.1.2.2.2.2.1])) hy) hn)
  · exact yw_labels hr' hY.2.2.1.1 l2 (fun h => absurd h (by omega)) (fun _ hn => absurd (ap_wi hr.1 rfl (by rw [hX.1.2.2.2.2.1, hY.1.2.2.2.2.1]) hy) hn) (fun _ _ _ => ⟨rfl, rel⟩) (fun _ _ h => absurd h (by omega))
  · exact yw_labels hr' hY.2.2.1.1 l2 (fun h => absurd h (by omega)) (fun _ hn => absurd (ap_wi hr.1 rfl (by rw [hX.1.2.2.2.2.1, hY.1.2.2.2.2.1]) hy) hn) (fun _ _ h => absurd h (by omega)) (fun _ _ _ => ⟨rfl, zz_ll hI hX hY hr (hBl h0 hy) h5⟩)
theorem i_vc_letters {k : Nat} {u : SX} {v : SY} (I : i_Rel k u v) (hk : k + 5 ≤ 2564) (v1 : Int32) (v2 : Int32) (v3 : Int32) (v4 : Int32) : wpX_letters (fun r u' => wpY_letters (fun r' v' => r' = r ∧ i_Rel (k + 5) u' v') v v1 v2 v3 v4) u v1 v2 v3 v4 := by
  refine zz_el (P := fun u v => wpX_letters (fun r u' => wpY_letters (fun r' v' => r' = r ∧ i_Rel (k + 5) u' v') v v1 v2 v3 v4) u v1 v2 v3 v4) ?_ I
  intro fC fV fH fP fsl fll ftl fpl fN fS fh fe ft fr aSy aLb aLt aPf aGv aKd aLv aLn aVr aSt aHc aHs aPr aRm aTl aAr aPl aSk aEl aEs aEp aEx aTs aTn aTb aTz aTp aAs aAl aAv aRe gC gA gH gP gN gS gx gd go bKd bLn bLv bSt bCa bPl bSn bPf bPn bLs bLe bGv bXs bSk bSl bOu bAs bTb bTn c hI hX hY
  obtain ⟨r, hr⟩ := ap_ex (ap_g aGv v1 v2 v3 v4)
  have hr' : ap_R (ap_g bGv v1 v2 v3 v4) r := ap_Re hr
  obtain ⟨l1, l2, l3, l4, l5, l6⟩ := hI.2.1
  obtain ⟨z1, z2, z3, z4, z5, z6, z7, z8, z9, z10⟩ := hI.1
  have rel : i_Rel (k + 5) (fC, fV, fH, fP, fsl, fll, ftl, fpl, fN, fS, fh, fe, ft, fr, aSy, aLb, aLt, aPf, ap_g aGv v1 v2 v3 v4, aKd, aLv, aLn, aVr, aSt, aHc, aHs, aPr, aRm, aTl, aAr, aPl, aSk, aEl, aEs, aEp, aEx, aTs, aTn, aTb, aTz, aTp, aAs, aAl, aAv, aRe) (gC, gA, gH, gP, gN, gS, gx, gd, go, bKd, bLn, bLv, bSt, bCa, bPl, bSn, bPf, bPn, bLs, bLe, ap_g bGv v1 v2 v3 v4, bXs, bSk, bSl, bOu, bAs, bTb, bTn) := ⟨c, hI, rx_ig hX, ry_ig hY⟩
  have hBs : 0 < r → (∀ i, i < r → ¬ ap_g aGv v1 v2 v3 v4 i < 0 ∧ ap_g aGv v1 v2 v3 v4 i ≤ fC + fV - 1) → ∀ y, y ∈ ap_v (ap_g aGv v1 v2 v3 v4) r → y < c.C + c.V := by
    intro h0 hw y hy
    have := ap_lo (B := c.C + c.V - 1) hr.2.1 (by omega) (fun i hi => by
      have := (hw i hi).2
      rw [hX.1.1, hX.1.2.1, nI_add, show nI (c.C + c.V) - 1 = nI (c.C + c.V - 1) from pk_sub (b := 1) (by omega)] at this
      exact this) y hy
    omega
  have hBl : 0 < r → (∀ i, i < r → ¬ ap_g aGv v1 v2 v3 v4 i < 0 ∧ ap_g aGv v1 v2 v3 v4 i ≤ fN - 1) → ∀ y, y ∈ ap_v (ap_g aGv v1 v2 v3 v4) r → y < c.N := by
    intro h0 hw y hy
    by_cases hN : c.N = 0
    · have h1 := hw 0 h0
      rw [hX.1.2.2.2.2.1, hN] at h1
      exact absurd (Int32.lt_of_le_of_lt h1.2 (by decide)) h1.1
    · have := ap_lo (B := c.N - 1) hr.2.1 (by omega) (fun i hi => by
        have := (hw i hi).2
        rw [hX.1.2.2.2.2.1, show nI c.N - 1 = nI (c.N - 1) from pk_sub (b := 1) (by omega)] at this
        exact this) y hy
      omega
  have hBt : 0 < r → (∀ i, i < r → ¬ ap_g aGv v1 v2 v3 v4 i < 65 ∧ ap_g aGv v1 v2 v3 v4 i ≤ 90) → ∀ y, y ∈ ap_v (ap_g aGv v1 v2 v3 v4) r → 65 ≤ y ∧ y ≤ 90 := by
    intro h0 hw y hy
    exact ⟨ap_hi (B := 65) hr.2.1 (by omega) (fun i hi => (hw i hi).1) y hy, ap_lo (B := 90) hr.2.1 (by omega) (fun i hi => (hw i hi).2) y hy⟩
  refine xw_letters hr hX.2.2.2.1.1 l3 (fun h0 => ?_) (fun h0 hn => ?_) (fun h0 hy h5 => ?_) (fun h0 hy h5 => ?_)
  · exact yw_letters hr' hY.2.2.2.1.1 l3 (fun _ => ⟨rfl, rel⟩) (fun h => absurd h (by omega)) (fun h => absurd h (by omega)) (fun h => absurd h (by omega))
  · exact yw_letters hr' hY.2.2.2.1.1 l3 (fun h => absurd h (by omega)) (fun _ _ => ⟨rfl, rel⟩) (fun _ hy => absurd (ap_wi hr.1 rfl (Eq.symm rfl) hy) hn) (fun _ hy => absurd (ap_wi hr.1 rfl (Eq.symm rfl) hy) hn)
  · exact yw_letters hr' hY.2.2.2.1.1 l3 (fun h => absurd h (by omega)) (fun _ hn => absurd (ap_wi hr.1 rfl rfl hy) hn) (fun _ _ _ => ⟨rfl, rel⟩) (fun _ _ h => absurd h (by omega))
  · exact yw_letters hr' hY.2.2.2.1.1 l3 (fun h => absurd h (by omega)) (fun _ hn => absurd (ap_wi hr.1 rfl rfl hy) hn) (fun _ _ h => absurd h (by omega)) (fun _ _ _ => ⟨rfl, zz_tl hI hX hY hr (hBt h0 hy) h5⟩)
end
section
/-! owed rows: size and item -/
section
variable {c : ab_W} {post : Int32 → Prop} {gC gA gH gP gN gS gx gd go : Int32} {bKd bLn bLv bSt bCa bPl bSn bPf bPn bLs bLe bGv bXs bSk bSl bOu bAs bTb bTn : Nat → Int32}
theorem yw_size_l {L : Nat} (hL : L < 3) (k : post (bLe L)) : wpY_size post (gC, gA, gH, gP, gN, gS, gx, gd, go, bKd, bLn, bLv, bSt, bCa, bPl, bSn, bPf, bPn, bLs, bLe, bGv, bXs, bSk, bSl, bOu, bAs, bTb, bTn) (nI L) := by
  refine br_f (nI_pos (by omega)) (pk_lt 2 L (fun h => absurd h (by omega)) (fun _ => ⟨vp_in_nI hL (by omega), ?_⟩))
  rw [nI_clamp (by omega)]; exact k
theorem yw_size_o {p0 : Int32} (hI : ab_I c) (hR : ry_R c c.N (gC, gA, gH, gP, gN, gS, gx, gd, go, bKd, bLn, bLv, bSt, bCa, bPl, bSn, bPf, bPn, bLs, bLe, bGv, bXs, bSk, bSl, bOu, bAs, bTb, bTn)) (h : p0 < 0 ∨ 2 < p0) (k3 : p0 = 3 → post (nI c.lp.length)) (k4 : p0 = 4 → post (nI c.N)) (k5 : p0 = 5 → post (nI c.S)) (ko : p0 ≠ 3 → p0 ≠ 4 → p0 ≠ 5 → post (-1)) : wpY_size post (gC, gA, gH, gP, gN, gS, gx, gd, go, bKd, bLn, bLv, bSt, bCa, bPl, bSn, bPf, bPn, bLs, bLe, bGv, bXs, bSk, bSl, bOu, bAs, bTb, bTn) p0 := by
  have h24 : c.N ≤ 24 := hI.1.2.2.2.2.2.2.2.2.1
  have key : wY_size_16 post p0 gC gA gH gP gN gS gx gd go bKd bLn bLv bSt bCa bPl bSn bPf bPn bLs bLe bGv bXs bSk bSl bOu bAs bTb bTn := by
    unfold wY_size_16
    refine yw_last (h24 := h24) hI hR (fun e => ?_) (fun t ht hk e => ?_)
    · refine br_c (fun h3 => br_f (by decide) ?_) (fun h3 => br_c (fun h4 => ?_) (fun h4 => br_c (fun h5 => ?_) (fun h5 => ko h3 h4 h5)))
      · have := k3 h3
        rw [e] at this; exact this
      · rw [hR.1.2.2.2.2.1]; exact k4 h4
      · rw [hR.1.2.2.2.2.2]; exact k5 h5
    · refine br_c (fun h3 => br_t (nI_pos' (by omega)) ⟨vp_in_nI (by omega) (by omega), ?_⟩) (fun h3 => br_c (fun h4 => ?_) (fun h4 => br_c (fun h5 => ?_) (fun h5 => ko h3 h4 h5)))
      · rw [nI_clamp (by omega), (hR.2.2.2.2.2.2.2.2.2.2 t ht hk).1, ← e]; exact k3 h3
      · rw [hR.1.2.2.2.2.1]; exact k4 h4
      · rw [hR.1.2.2.2.2.2]; exact k5 h5
  refine br_c (fun _ => key) (fun h0 => br_c (fun _ => key) (fun h2 => ?_))
  rcases h with h | h
  · exact absurd h h0
  · exact absurd h h2
end
theorem i_vc_size {k : Nat} {u : SX} {v : SY} (I : i_Rel k u v) (hk : k + 5 ≤ 2564) (v1 : Int32) : wpX_size (fun r => wpY_size (fun r' => r' = r ∧ i_Rel (k + 5) u v) v v1) u v1 := by
  refine zz_el (P := fun u v => wpX_size (fun r => wpY_size (fun r' => r' = r ∧ i_Rel (k + 5) u v) v v1) u v1) ?_ I
  intro fC fV fH fP fsl fll ftl fpl fN fS fh fe ft fr aSy aLb aLt aPf aGv aKd aLv aLn aVr aSt aHc aHs aPr aRm aTl aAr aPl aSk aEl aEs aEp aEx aTs aTn aTb aTz aTp aAs aAl aAv aRe gC gA gH gP gN gS gx gd go bKd bLn bLv bSt bCa bPl bSn bPf bPn bLs bLe bGv bXs bSk bSl bOu bAs bTb bTn c hI hX hY
  have rel : i_Rel (k + 5) (fC, fV, fH, fP, fsl, fll, ftl, fpl, fN, fS, fh, fe, ft, fr, aSy, aLb, aLt, aPf, aGv, aKd, aLv, aLn, aVr, aSt, aHc, aHs, aPr, aRm, aTl, aAr, aPl, aSk, aEl, aEs, aEp, aEx, aTs, aTn, aTb, aTz, aTp, aAs, aAl, aAv, aRe) (gC, gA, gH, gP, gN, gS, gx, gd, go, bKd, bLn, bLv, bSt, bCa, bPl, bSn, bPf, bPn, bLs, bLe, bGv, bXs, bSk, bSl, bOu, bAs, bTb, bTn) := ⟨c, hI, hX, hY⟩
  refine br_c (fun h => ?_) (fun n0 => br_c (fun h => ?_) (fun n1 => br_c (fun h => ?_) (fun n2 => br_c (fun h => ?_) (fun n3 => br_c (fun h => ?_) (fun n4 => br_c (fun h => ?_) (fun n5 => ?_))))))
  · subst h; exact yw_size_l (L := 0) (by omega) ⟨hY.2.1.1.trans hX.2.1.1.symm, rel⟩
  · subst h; exact yw_size_l (L := 1) (by omega) ⟨hY.2.2.1.1.trans hX.2.2.1.1.symm, rel⟩
  · subst h; exact yw_size_l (L := 2) (by omega) ⟨hY.2.2.2.1.1.trans hX.2.2.2.1.1.symm, rel⟩
  · subst h
    exact yw_size_o hI hY (Or.inr (by decide)) (fun _ => ⟨hX.2.2.2.2.1.1.symm, rel⟩) (fun z => absurd z (by decide)) (fun z => absurd z (by decide)) (fun z => absurd rfl z)
  · subst h
    exact yw_size_o hI hY (Or.inr (by decide)) (fun z => absurd z (by decide)) (fun _ => ⟨hX.1.2.2.2.2.1.symm, rel⟩) (fun z => absurd z (by decide)) (fun _ z => absurd rfl z)
  · subst h
    exact yw_size_o hI hY (Or.inr (by decide)) (fun z => absurd z (by decide)) (fun z => absurd z (by decide)) (fun _ => ⟨hX.1.2.2.2.2.2.symm, rel⟩) (fun _ _ z => absurd rfl z)
  · have ho : v1 < 0 ∨ 2 < v1 := by
      by_cases h : v1 < 0
      · exact Or.inl h
      · obtain ⟨j, hj, rfl⟩ := nI_of h
        right
        refine nI_lt (a := 2) ?_ hj
        by_cases h0 : j = 0
        · subst h0; exact absurd rfl n0
        by_cases h1 : j = 1
        · subst h1; exact absurd rfl n1
        by_cases h2 : j = 2
        · subst h2; exact absurd rfl n2
        omega
    exact yw_size_o hI hY ho (fun z => absurd z n3) (fun z => absurd z n4) (fun z => absurd z n5) (fun _ _ _ => ⟨rfl, rel⟩)
section
variable {c : ab_W} {post : Int32 → Prop} {fC fV fH fP fsl fll ftl fpl fN fS fh fe ft fr : Int32} {aSy aLb aLt aPf aGv aKd aLv aLn aVr aSt aHc aHs aPr aRm aTl aAr aPl aSk aEl aEs aEp aEx aTs aTn aTb aTz aTp aAs aAl aAv aRe : Nat → Int32}
theorem xa_item_g {p0 p1 : Int32} (h : 0 ≤ p1) (k0 : p0 = 0 → ¬ fsl ≤ p1 → vp_in p1 10 ∧ post (aSy p1.toNatClampNeg)) (k1 : p0 = 1 → ¬ fll ≤ p1 → vp_in p1 32 ∧ post (aLb p1.toNatClampNeg)) (k2 : p0 = 2 → ¬ ftl ≤ p1 → vp_in p1 64 ∧ post (aLt p1.toNatClampNeg)) (k3 : p0 = 3 → ¬ fpl ≤ p1 → vp_in p1 96 ∧ post (aPf p1.toNatClampNeg))
    (ko : ¬ (p0 = 0 ∧ ¬ fsl ≤ p1) → ¬ (p0 = 1 ∧ ¬ fll ≤ p1) → ¬ (p0 = 2 ∧ ¬ ftl ≤ p1) → ¬ (p0 = 3 ∧ ¬ fpl ≤ p1) → post (-1)) : wpX_item post (fC, fV, fH, fP, fsl, fll, ftl, fpl, fN, fS, fh, fe, ft, fr, aSy, aLb, aLt, aPf, aGv, aKd, aLv, aLn, aVr, aSt, aHc, aHs, aPr, aRm, aTl, aAr, aPl, aSk, aEl, aEs, aEp, aEx, aTs, aTn, aTb, aTz, aTp, aAs, aAl, aAv, aRe) p0 p1 := by
  have s3 : ¬ (p0 = 0 ∧ ¬ fsl ≤ p1) → ¬ (p0 = 1 ∧ ¬ fll ≤ p1) → ¬ (p0 = 2 ∧ ¬ ftl ≤ p1) → wX_item_65 post p0 p1 fC fV fH fP fsl fll ftl fpl fN fS fh fe ft fr aSy aLb aLt aPf aGv aKd aLv aLn aVr aSt aHc aHs aPr aRm aTl aAr aPl aSk aEl aEs aEp aEx aTs aTn aTb aTz aTp aAs aAl aAv aRe := fun n0 n1 n2 =>
    br_c (fun e => br_c (fun q => ko n0 n1 n2 (fun z => z.2 q)) (fun q => k3 e q)) (fun e => ko n0 n1 n2 (fun z => e z.1))
  have s2 : ¬ (p0 = 0 ∧ ¬ fsl ≤ p1) → ¬ (p0 = 1 ∧ ¬ fll ≤ p1) → wX_item_45 post p0 p1 fC fV fH fP fsl fll ftl fpl fN fS fh fe ft fr aSy aLb aLt aPf aGv aKd aLv aLn aVr aSt aHc aHs aPr aRm aTl aAr aPl aSk aEl aEs aEp aEx aTs aTn aTb aTz aTp aAs aAl aAv aRe := fun n0 n1 =>
    br_c (fun e => br_c (fun q => s3 n0 n1 (fun z => z.2 q)) (fun q => k2 e q)) (fun e => s3 n0 n1 (fun z => e z.1))
  have s1 : ¬ (p0 = 0 ∧ ¬ fsl ≤ p1) → wX_item_25 post p0 p1 fC fV fH fP fsl fll ftl fpl fN fS fh fe ft fr aSy aLb aLt aPf aGv aKd aLv aLn aVr aSt aHc aHs aPr aRm aTl aAr aPl aSk aEl aEs aEp aEx aTs aTn aTb aTz aTp aAs aAl aAv aRe := fun n0 =>
    br_c (fun e => br_c (fun q => s2 n0 (fun z => z.2 q)) (fun q => k1 e q)) (fun e => s2 n0 (fun z => e z.1))
  exact br_t h (br_c (fun e => br_c (fun q => s1 (fun z => z.2 q)) (fun q => k0 e q)) (fun e => s1 (fun z => e z.1)))
end
section
variable {c : ab_W} {post : Int32 → Prop} {gC gA gH gP gN gS gx gd go : Int32} {bKd bLn bLv bSt bCa bPl bSn bPf bPn bLs bLe bGv bXs bSk bSl bOu bAs bTb bTn : Nat → Int32}
theorem ya_item_o {p0 p1 : Int32} (hI : ab_I c) (hR : ry_R c c.N (gC, gA, gH, gP, gN, gS, gx, gd, go, bKd, bLn, bLv, bSt, bCa, bPl, bSn, bPf, bPn, bLs, bLe, bGv, bXs, bSk, bSl, bOu, bAs, bTb, bTn)) (h : p0 < 0 ∨ 3 < p0) (k : post (-1)) : wpY_item post (gC, gA, gH, gP, gN, gS, gx, gd, go, bKd, bLn, bLv, bSt, bCa, bPl, bSn, bPf, bPn, bLs, bLe, bGv, bXs, bSk, bSl, bOu, bAs, bTb, bTn) p0 p1 := by
  have hc : ∀ r : Int32, ((p0 < 0 → (post (-1))) ∧ (¬ p0 < 0 → (((3 < p0 → (post (-1))) ∧ (¬ 3 < p0 → (((p1 < 0 → (post (-1))) ∧ (¬ p1 < 0 → (((p1 < r → (((p0 = 3 → (wpY_lastTheorem (fun r_35 => (((0 ≤ r_35 → (vp_in ((r_35 * 96) + p1) 2304 ∧ (post (bPf ((r_35 * 96) + p1).toNatClampNeg)))) ∧ (¬ 0 ≤ r_35 → (post (-1)))))) (gC, gA, gH, gP, gN, gS, gx, gd, go, bKd, bLn, bLv, bSt, bCa, bPl, bSn, bPf, bPn, bLs, bLe, bGv, bXs, bSk, bSl, bOu, bAs, bTb, bTn))) ∧ (¬ p0 = 3 → (vp_in ((p0 * 64) + p1) 192 ∧ (post (bLs ((p0 * 64) + p1).toNatClampNeg))))))) ∧ (¬ p1 < r → (post (-1))))))))))))) := fun r =>
    br_c (fun _ => k) (fun q => br_c (fun _ => k) (fun q2 => by rcases h with h | h; exact absurd h q; exact absurd h q2))
  unfold wpY_item
  refine yw_size_o hI hR ?_ (fun _ => hc _) (fun _ => hc _) (fun _ => hc _) (fun _ _ _ => hc _)
  rcases h with h | h
  · exact Or.inl h
  · exact Or.inr (Int32.lt_trans (by decide) h)
theorem ya_item_l {L : Nat} {p1 : Int32} {l : List Nat} (hL : L < 3) (hl : rx_l (bLe L) bLs (L * 64) l) (h64 : l.length ≤ 64) (kn : p1 < 0 ∨ nI l.length ≤ p1 → post (-1)) (ky : ∀ i, i < l.length → p1 = nI i → post (nI (l.getD i 0))) : wpY_item post (gC, gA, gH, gP, gN, gS, gx, gd, go, bKd, bLn, bLv, bSt, bCa, bPl, bSn, bPf, bPn, bLs, bLe, bGv, bXs, bSk, bSl, bOu, bAs, bTb, bTn) (nI L) p1 := by
  unfold wpY_item
  refine yw_size_l hL ?_
  refine br_f (nI_pos (by omega)) (pk_lt 3 L (fun h => absurd h (by omega)) (fun _ => ?_))
  rcases pk_ix p1 (n := l.length) (by omega) with h | h | ⟨i, hi, rfl⟩
  · exact br_t h (kn (Or.inl h))
  · refine br_c (fun _ => kn (Or.inr h)) (fun _ => br_f ?_ (kn (Or.inr h)))
    rw [hl.1]
    exact fun z => Int32.not_le.mpr z h
  · refine br_f (nI_pos (by omega)) (br_t ?_ (pk_eq L 3 (fun h => absurd h (by omega)) (fun _ => ⟨pk_in (L * 64 + i) 192 (by omega) (zb_x64 L i), ?_⟩)))
    · rw [hl.1]; exact nI_lt hi (by omega)
    · rw [zb_c64 L i (by omega), hl.2 i hi]; exact ky i hi rfl
theorem ya_item_3 {p1 : Int32} (hI : ab_I c) (hR : ry_R c c.N (gC, gA, gH, gP, gN, gS, gx, gd, go, bKd, bLn, bLv, bSt, bCa, bPl, bSn, bPf, bPn, bLs, bLe, bGv, bXs, bSk, bSl, bOu, bAs, bTb, bTn)) (kn : p1 < 0 ∨ nI c.lp.length ≤ p1 → post (-1)) (ky : ∀ i, i < c.lp.length → p1 = nI i → post (nI (c.lp.getD i 0))) : wpY_item post (gC, gA, gH, gP, gN, gS, gx, gd, go, bKd, bLn, bLv, bSt, bCa, bPl, bSn, bPf, bPn, bLs, bLe, bGv, bXs, bSk, bSl, bOu, bAs, bTb, bTn) (nI 3) p1 := by
  have h24 : c.N ≤ 24 := hI.1.2.2.2.2.2.2.2.2.1
  unfold wpY_item
  refine yw_size_o hI hR (Or.inr (by decide)) (fun _ => ?_) (fun z => absurd z (by decide)) (fun z => absurd z (by decide)) (fun z => absurd rfl z)
  refine br_f (by decide) (br_f (by decide) (br_c (fun h => kn (Or.inl h)) (fun h0 => br_c (fun h => br_t rfl ?_) (fun h => kn (Or.inr (Int32.not_lt.mp h))))))
  refine yw_last (h24 := h24) hI hR (fun e => br_f (by decide) ?_) (fun t ht hk e => br_t (nI_pos' (by omega)) ?_)
  · rw [e] at h
    exact absurd h h0
  · obtain ⟨i, hi, rfl⟩ := nI_of h0
    have hp := (hI.2.2.2.2.2.2.2.2.1 t ht hk).1
    have hl : i < c.lp.length := (nI_ltI hi (by rw [e]; omega)).mp h
    have hl2 : i < (c.pf t).length := by rw [← e]; exact hl
    refine ⟨pk_in (t * 96 + i) 2304 (by omega) (zb_x96 t i), ?_⟩
    rw [zb_c96 t i (by omega), (hR.2.2.2.2.2.2.2.2.2.2 t ht hk).2 i hl2, ← e]
    exact ky i hl rfl
end
theorem i_vc_item {k : Nat} {u : SX} {v : SY} (I : i_Rel k u v) (hk : k + 5 ≤ 2564) (v1 : Int32) (v2 : Int32) : wpX_item (fun r => wpY_item (fun r' => r' = r ∧ i_Rel (k + 5) u v) v v1 v2) u v1 v2 := by
  refine zz_el (P := fun u v => wpX_item (fun r => wpY_item (fun r' => r' = r ∧ i_Rel (k + 5) u v) v v1 v2) u v1 v2) ?_ I
  intro fC fV fH fP fsl fll ftl fpl fN fS fh fe ft fr aSy aLb aLt aPf aGv aKd aLv aLn aVr aSt aHc aHs aPr aRm aTl aAr aPl aSk aEl aEs aEp aEx aTs aTn aTb aTz aTp aAs aAl aAv aRe gC gA gH gP gN gS gx gd go bKd bLn bLv bSt bCa bPl bSn bPf bPn bLs bLe bGv bXs bSk bSl bOu bAs bTb bTn c hI hX hY
  have rel : i_Rel (k + 5) (fC, fV, fH, fP, fsl, fll, ftl, fpl, fN, fS, fh, fe, ft, fr, aSy, aLb, aLt, aPf, aGv, aKd, aLv, aLn, aVr, aSt, aHc, aHs, aPr, aRm, aTl, aAr, aPl, aSk, aEl, aEs, aEp, aEx, aTs, aTn, aTb, aTz, aTp, aAs, aAl, aAv, aRe) (gC, gA, gH, gP, gN, gS, gx, gd, go, bKd, bLn, bLv, bSt, bCa, bPl, bSn, bPf, bPn, bLs, bLe, bGv, bXs, bSk, bSl, bOu, bAs, bTb, bTn) := ⟨c, hI, hX, hY⟩
  obtain ⟨l1, l2, l3, l4, l5, l6⟩ := hI.2.1
  have hlp : c.lp.length ≤ 96 := by
    have : ∀ n, n ≤ c.N → (ab_lp c.kd c.pf n).length ≤ 96 := by
      intro n
      induction n with
      | zero => intro _; exact Nat.zero_le _
      | succ n ih =>
        intro hn
        show (if c.kd n = 4 then c.pf n else ab_lp c.kd c.pf n).length ≤ 96
        by_cases q : c.kd n = 4
        · rw [if_pos q]; exact (hI.2.2.2.2.2.2.2.2.1 n hn q).1
        · rw [if_neg q]; exact ih (by omega)
    exact this c.N (Nat.le_refl _)
  by_cases hneg : v2 < 0
  · refine br_f (fun z => Int32.not_lt.mpr z hneg) ?_
    rcases pk_ix v1 (n := 4) (by omega) with h | h | ⟨j, hj, rfl⟩
    · exact ya_item_o hI hY (Or.inl h) ⟨rfl, rel⟩
    · exact ya_item_o hI hY (Or.inr (Int32.lt_of_lt_of_le (by decide) h)) ⟨rfl, rel⟩
    · have hj : j = 0 ∨ j = 1 ∨ j = 2 ∨ j = 3 := by omega
      have bad : ∀ i, v2 = nI i → i < 2 ^ 31 → False := fun i e hi => by rw [e] at hneg; exact nI_pos hi hneg
      rcases hj with e | e | e | e <;> subst e
      · exact ya_item_l (L := 0) (by omega) hY.2.1 (by omega) (fun _ => ⟨rfl, rel⟩) (fun i hi e => absurd (bad i e (by omega)) id)
      · exact ya_item_l (L := 1) (by omega) hY.2.2.1 (by omega) (fun _ => ⟨rfl, rel⟩) (fun i hi e => absurd (bad i e (by omega)) id)
      · exact ya_item_l (L := 2) (by omega) hY.2.2.2.1 (by omega) (fun _ => ⟨rfl, rel⟩) (fun i hi e => absurd (bad i e (by omega)) id)
      · exact ya_item_3 hI hY (fun _ => ⟨rfl, rel⟩) (fun i hi e => absurd (bad i e (by omega)) id)
  · obtain ⟨m, hm, rfl⟩ := nI_of hneg
    refine xa_item_g (nI_pos' hm) (fun e hn => ?_) (fun e hn => ?_) (fun e hn => ?_) (fun e hn => ?_) (fun n0 n1 n2 n3 => ?_)
    · subst e
      rw [hX.2.1.1, nI_leI (by omega) hm] at hn
      refine ⟨vp_in_nI (by omega) (by omega), ?_⟩
      refine ya_item_l (L := 0) (by omega) hY.2.1 (by omega) (fun h => ?_) (fun i hi e => ?_)
      · rcases h with h | h
        · exact absurd h hneg
        · rw [nI_leI (by omega) hm] at h; exact absurd h hn
      · have e : m = i := (nI_eq hm (by omega)).mp e
        subst e
        rw [nI_clamp hm]
        have := hX.2.1.2 m hi
        rw [Nat.zero_add] at this
        exact ⟨this.symm, rel⟩
    · subst e
      rw [hX.2.2.1.1, nI_leI (by omega) hm] at hn
      refine ⟨vp_in_nI (by omega) (by omega), ?_⟩
      refine ya_item_l (L := 1) (by omega) hY.2.2.1 (by omega) (fun h => ?_) (fun i hi e => ?_)
      · rcases h with h | h
        · exact absurd h hneg
        · rw [nI_leI (by omega) hm] at h; exact absurd h hn
      · have e : m = i := (nI_eq hm (by omega)).mp e
        subst e
        rw [nI_clamp hm]
        have := hX.2.2.1.2 m hi
        rw [Nat.zero_add] at this
        exact ⟨this.symm, rel⟩
    · subst e
      rw [hX.2.2.2.1.1, nI_leI (by omega) hm] at hn
      refine ⟨vp_in_nI (by omega) (by omega), ?_⟩
      refine ya_item_l (L := 2) (by omega) hY.2.2.2.1 (by omega) (fun h => ?_) (fun i hi e => ?_)
      · rcases h with h | h
        · exact absurd h hneg
        · rw [nI_leI (by omega) hm] at h; exact absurd h hn
      · have e : m = i := (nI_eq hm (by omega)).mp e
        subst e
        rw [nI_clamp hm]
        have := hX.2.2.2.1.2 m hi
        rw [Nat.zero_add] at this
        exact ⟨this.symm, rel⟩
    · subst e
      rw [hX.2.2.2.2.1.1, nI_leI (by omega) hm] at hn
      refine ⟨vp_in_nI (by omega) (by omega), ?_⟩
      refine ya_item_3 hI hY (fun h => ?_) (fun i hi e => ?_)
      · rcases h with h | h
        · exact absurd h hneg
        · rw [nI_leI (by omega) hm] at h; exact absurd h hn
      · have e : m = i := (nI_eq hm (by omega)).mp e
        subst e
        rw [nI_clamp hm]
        have := hX.2.2.2.2.1.2 m hi
        rw [Nat.zero_add] at this
        exact ⟨this.symm, rel⟩
    · rcases pk_ix v1 (n := 4) (by omega) with h | h | ⟨j, hj, rfl⟩
      · exact ya_item_o hI hY (Or.inl h) ⟨rfl, rel⟩
      · exact ya_item_o hI hY (Or.inr (Int32.lt_of_lt_of_le (by decide) h)) ⟨rfl, rel⟩
      · have hj : j = 0 ∨ j = 1 ∨ j = 2 ∨ j = 3 := by omega
        rcases hj with e | e | e | e <;> subst e
        · refine ya_item_l (L := 0) (by omega) hY.2.1 (by omega) (fun _ => ⟨rfl, rel⟩) (fun i hi e => absurd ⟨rfl, ?_⟩ n0)
          rw [hX.2.1.1, e, nI_leI (by omega) (by omega)]; omega
        · refine ya_item_l (L := 1) (by omega) hY.2.2.1 (by omega) (fun _ => ⟨rfl, rel⟩) (fun i hi e => absurd ⟨rfl, ?_⟩ n1)
          rw [hX.2.2.1.1, e, nI_leI (by omega) (by omega)]; omega
        · refine ya_item_l (L := 2) (by omega) hY.2.2.2.1 (by omega) (fun _ => ⟨rfl, rel⟩) (fun i hi e => absurd ⟨rfl, ?_⟩ n2)
          rw [hX.2.2.2.1.1, e, nI_leI (by omega) (by omega)]; omega
        · refine ya_item_3 hI hY (fun _ => ⟨rfl, rel⟩) (fun i hi e => absurd ⟨rfl, ?_⟩ n3)
          rw [hX.2.2.2.2.1.1, e, nI_leI (by omega) (by omega)]; omega
end
section
/-! a statement is added: the relations; typed hypotheses -/
theorem zz_lts {N : Nat} {P : Nat → Prop} (h : ∀ j, j < N → P j) (hN : P N) : ∀ j, j < N + 1 → P j := by
  intro j hj
  by_cases q : j = N
  · rw [q]; exact hN
  · exact h j (by omega)
theorem rx_com {c : ab_W} {M : Nat} {l : List Nat} {r : Nat → Bool} {p : List Nat} {fC fV fH fP fsl fll ftl fpl fN fS fh fe ft fr : Int32} {aSy aLb aLt aPf aGv aKd aLv aLn aVr aSt aHc aHs aPr aRm aTl aAr aPl aSk aEl aEs aEp aEx aTs aTn aTb aTz aTp aAs aAl aAv aRe : Nat → Int32} {gsl gpl : Int32} {hSy hPf hKd hLv hLn hVr hSt hHc hHs hPr hRm hTl : Nat → Int32} (hR : rx_R c M (fC, fV, fH, fP, fsl, fll, ftl, fpl, fN, fS, fh, fe, ft, fr, aSy, aLb, aLt, aPf, aGv, aKd, aLv, aLn, aVr, aSt, aHc, aHs, aPr, aRm, aTl, aAr, aPl, aSk, aEl, aEs, aEp, aEx, aTs, aTn, aTb, aTz, aTp, aAs, aAl, aAv, aRe))
    (sy : rx_l gsl hSy 0 l) (pf : rx_l gpl hPf 0 (ab_com c l r p).lp)
    (k1 : hKd c.N = nI (c.kd c.N)) (k2 : ∀ j, j < c.N → hKd j = aKd j)
    (v1 : hLv c.N = c.lev c.N) (v2 : ∀ j, j < c.N → hLv j = aLv j)
    (n1 : hLn c.N = nI (c.sg c.N).length) (n2 : ∀ j, j < c.N → hLn j = aLn j)
    (s1 : zb_Sg hSt (c.N * 10) (c.sg c.N)) (s2 : ∀ i, i < c.N * 10 → hSt i = aSt i) (s3 : ∀ j, j < c.N → (c.sg j).length ≤ 10)
    (r1 : c.kd c.N ≤ 2 → zb_MK (hVr c.N) (fun v => decide (c.C + v ∈ c.sg c.N))) (r2 : ∀ j, j < c.N → hVr j = aVr j)
    (hs : rx_hs c (c.N + 1) hHc hHs) (pr : rx_pr c (c.N + 1) hPr)
    (m1 : zb_MK (hRm c.N) r) (m2 : ∀ j, j < c.N → hRm j = aRm j)
    (tl : rx_tl (ab_com c l r p) hTl) : rx_R (ab_com c l r p) (c.N + 1) (fC, fV, fH, fP, gsl, fll, ftl, gpl, nI (c.N + 1), fS, fh, fe, ft, fr, hSy, aLb, aLt, hPf, aGv, hKd, hLv, hLn, hVr, hSt, hHc, hHs, hPr, hRm, hTl, aAr, aPl, aSk, aEl, aEs, aEp, aEx, aTs, aTn, aTb, aTz, aTp, aAs, aAl, aAv, aRe) := by
  obtain ⟨hf, hsy, hlb, hlt, hpf, hkd, hlv, hst, hvr, hhs, hpr, hrm, htl, har, hpl⟩ := hR
  refine And.intro ⟨hf.1, hf.2.1, hf.2.2.1, hf.2.2.2.1, rfl, hf.2.2.2.2.2⟩ (And.intro sy (And.intro hlb (And.intro hlt (And.intro pf (And.intro ?_ (And.intro ?_ (And.intro ?_ (And.intro ?_ (And.intro hs (And.intro pr (And.intro ?_ (And.intro tl (And.intro har hpl)))))))))))))
  · exact zz_lts (fun j hj => (k2 j hj).trans (hkd j hj)) k1
  · exact zz_lts (fun j hj => (v2 j hj).trans (hlv j hj)) v1
  · refine zz_lts (N := c.N) (fun j hj => ⟨(n2 j hj).trans (hst j hj).1, zb_cg (hst j hj).2 (fun i hi => s2 _ ?_)⟩) ⟨n1, s1⟩
    have := s3 j hj
    have hi : i < (c.sg j).length := hi
    omega
  · refine zz_lts (N := c.N) (P := fun j => c.kd j ≤ 2 → zb_MK (hVr j) (fun v => decide (c.C + v ∈ c.sg j))) (fun j hj hk => ?_) r1
    rw [r2 j hj]; exact hvr j hj hk
  · refine zz_lts (N := c.N) (P := fun j => zb_MK (hRm j) (ab_up c.rs c.N r j)) (fun j hj => ?_) ?_
    · rw [m2 j hj, ab_un (by omega)]; exact hrm j hj
    · rw [ab_us]; exact m1
theorem ry_w {c : ab_W} {gC gA gH gP gN gS gx gd go : Int32} {bKd bLn bLv bSt bCa bPl bSn bPf bPn bLs bLe bGv bXs bSk bSl bOu bAs bTb bTn : Nat → Int32} {hKd hLn hLv hSt hSn : Nat → Int32} (hR : ry_R c c.N (gC, gA, gH, gP, gN, gS, gx, gd, go, bKd, bLn, bLv, bSt, bCa, bPl, bSn, bPf, bPn, bLs, bLe, bGv, bXs, bSk, bSl, bOu, bAs, bTb, bTn))
    (k1 : hKd c.N = nI (c.kd c.N)) (k2 : ∀ j, j < c.N → hKd j = bKd j)
    (n1 : hLn c.N = nI (c.sg c.N).length) (n2 : ∀ j, j < c.N → hLn j = bLn j)
    (v1 : hLv c.N = nI (c.lv c.N)) (v2 : ∀ j, j < c.N → hLv j = bLv j)
    (s1 : zb_Sg hSt (c.N * 10) (c.sg c.N)) (s2 : ∀ i, i < c.N * 10 → hSt i = bSt i) (s3 : ∀ j, j < c.N → (c.sg j).length ≤ 10)
    (w1 : 3 ≤ c.kd c.N → ∀ s t, s < 16 → t < 16 → hSn (c.N * 256 + s * 16 + t) = zb_1 (c.sn c.N s t)) (w2 : ∀ i, i < c.N * 256 → hSn i = bSn i) : ry_R c (c.N + 1) (gC, gA, gH, gP, gN, gS, gx, gd, go, hKd, hLn, hLv, hSt, bCa, bPl, hSn, bPf, bPn, bLs, bLe, bGv, bXs, bSk, bSl, bOu, bAs, bTb, bTn) := by
  obtain ⟨hf, hsy, hlb, hlt, hkd, hlv, hst, hca, hpl, hsn, hpf⟩ := hR
  refine And.intro hf (And.intro hsy (And.intro hlb (And.intro hlt (And.intro ?_ (And.intro ?_ (And.intro ?_ (And.intro hca (And.intro hpl (And.intro ?_ hpf)))))))))
  · exact zz_lts (fun j hj => (k2 j hj).trans (hkd j hj)) k1
  · exact zz_lts (fun j hj => (v2 j hj).trans (hlv j hj)) v1
  · refine zz_lts (N := c.N) (fun j hj => ⟨(n2 j hj).trans (hst j hj).1, zb_cg (hst j hj).2 (fun i hi => s2 _ ?_)⟩) ⟨n1, s1⟩
    have := s3 j hj
    omega
  · refine zz_lts (N := c.N) (P := fun j => 3 ≤ c.kd j → ∀ s t, s < 16 → t < 16 → hSn (j * 256 + s * 16 + t) = zb_1 (c.sn j s t)) (fun j hj hk s t h1 h2 => ?_) w1
    rw [w2 _ (by omega)]; exact hsn j hj hk s t h1 h2
theorem ry_com {c : ab_W} {l : List Nat} {r : Nat → Bool} {p : List Nat} {gC gA gH gP gN gS gx gd go : Int32} {bKd bLn bLv bSt bCa bPl bSn bPf bPn bLs bLe bGv bXs bSk bSl bOu bAs bTb bTn : Nat → Int32} {hPf hPn hLs hLe : Nat → Int32} (hR : ry_R c (c.N + 1) (gC, gA, gH, gP, gN, gS, gx, gd, go, bKd, bLn, bLv, bSt, bCa, bPl, bSn, bPf, bPn, bLs, bLe, bGv, bXs, bSk, bSl, bOu, bAs, bTb, bTn))
    (h1 : rx_l (hLe 0) hLs 0 l) (h2 : rx_l (hLe 1) hLs 64 c.ll) (h3 : rx_l (hLe 2) hLs 128 c.tl) (v1 : bLv c.N = nI (c.lv c.N))
    (p1 : c.kd c.N = 4 → hPn c.N = nI p.length ∧ zb_Sg hPf (c.N * 96) p) (p2 : ∀ j, j < c.N → hPn j = bPn j) (p3 : ∀ i, i < c.N * 96 → hPf i = bPf i) (p4 : ∀ x, x < c.N → c.kd x = 4 → (c.pf x).length ≤ 96) : ry_R (ab_com c l r p) (c.N + 1) (gC, gA, gH, gP, nI (c.N + 1), gS, gx, gd, go, bKd, bLn, bLv, bSt, bCa, bPl, bSn, hPf, hPn, hLs, hLe, bGv, bXs, bSk, bSl, bOu, bAs, bTb, bTn) := by
  obtain ⟨hf, hsy, hlb, hlt, hkd, hlv, hst, hca, hpl, hsn, hpf⟩ := hR
  refine And.intro ⟨hf.1, hf.2.1, hf.2.2.1, hf.2.2.2.1, rfl, hf.2.2.2.2.2⟩ (And.intro h1 (And.intro h2 (And.intro h3 (And.intro hkd (And.intro ?_ (And.intro hst (And.intro hca (And.intro hpl (And.intro hsn ?_)))))))))
  · exact hlv
  · refine zz_lts (N := c.N) (P := fun x => c.kd x = 4 → hPn x = nI (ab_up c.pf c.N p x).length ∧ zb_Sg hPf (x * 96) (ab_up c.pf c.N p x)) (fun x hx hk => ?_) ?_
    · rw [ab_un (by omega)]
      refine ⟨(p2 x hx).trans (hpf x hx hk).1, zb_cg (hpf x hx hk).2 (fun i hi => p3 _ ?_)⟩
      have := p4 x hx hk
      omega
    · rw [ab_us]; exact p1
section
variable {c : ab_W} {post : Int32 → SX → Prop} {fC fV fH fP fsl fll ftl fpl fN fS fh fe ft fr : Int32} {aSy aLb aLt aPf aGv aKd aLv aLn aVr aSt aHc aHs aPr aRm aTl aAr aPl aSk aEl aEs aEp aEx aTs aTn aTb aTz aTp aAs aAl aAv aRe : Nat → Int32}
theorem xw_typed_c {p0 p1 : Int32} (hI : ab_I c) (hR : rx_R c c.N (fC, fV, fH, fP, fsl, fll, ftl, fpl, fN, fS, fh, fe, ft, fr, aSy, aLb, aLt, aPf, aGv, aKd, aLv, aLn, aVr, aSt, aHc, aHs, aPr, aRm, aTl, aAr, aPl, aSk, aEl, aEs, aEp, aEx, aTs, aTn, aTb, aTz, aTp, aAs, aAl, aAv, aRe)) (h : ¬ (¬ p0 < 0 ∧ p0 < nI c.C)) (k : post (-3) (fC, fV, fH, fP, fsl, fll, ftl, fpl, fN, fS, fh, fe, ft, fr, aSy, aLb, aLt, aPf, aGv, aKd, aLv, aLn, aVr, aSt, aHc, aHs, aPr, aRm, aTl, aAr, aPl, aSk, aEl, aEs, aEp, aEx, aTs, aTn, aTb, aTz, aTp, aAs, aAl, aAv, aRe)) : wpX_typed post (fC, fV, fH, fP, fsl, fll, ftl, fpl, fN, fS, fh, fe, ft, fr, aSy, aLb, aLt, aPf, aGv, aKd, aLv, aLn, aVr, aSt, aHc, aHs, aPr, aRm, aTl, aAr, aPl, aSk, aEl, aEs, aEp, aEx, aTs, aTn, aTb, aTz, aTp, aAs, aAl, aAv, aRe) p0 p1 := by
  unfold wpX_typed
  refine xw_isCon hR.1.1 hI.1.2.1 ?_
  rw [decide_eq_false h]
  exact br_t rfl k
theorem xw_typed_v {p0 p1 : Int32} (hI : ab_I c) (hR : rx_R c c.N (fC, fV, fH, fP, fsl, fll, ftl, fpl, fN, fS, fh, fe, ft, fr, aSy, aLb, aLt, aPf, aGv, aKd, aLv, aLn, aVr, aSt, aHc, aHs, aPr, aRm, aTl, aAr, aPl, aSk, aEl, aEs, aEp, aEx, aTs, aTn, aTb, aTz, aTp, aAs, aAl, aAv, aRe)) (h : ¬ p0 < 0 ∧ p0 < nI c.C) (h2 : p1 < nI c.C ∨ nI (c.C + c.V) ≤ p1) (k : post (-3) (fC, fV, fH, fP, fsl, fll, ftl, fpl, fN, fS, fh, fe, ft, fr, aSy, aLb, aLt, aPf, aGv, aKd, aLv, aLn, aVr, aSt, aHc, aHs, aPr, aRm, aTl, aAr, aPl, aSk, aEl, aEs, aEp, aEx, aTs, aTn, aTb, aTz, aTp, aAs, aAl, aAv, aRe)) : wpX_typed post (fC, fV, fH, fP, fsl, fll, ftl, fpl, fN, fS, fh, fe, ft, fr, aSy, aLb, aLt, aPf, aGv, aKd, aLv, aLn, aVr, aSt, aHc, aHs, aPr, aRm, aTl, aAr, aPl, aSk, aEl, aEs, aEp, aEx, aTs, aTn, aTb, aTz, aTp, aAs, aAl, aAv, aRe) p0 p1 := by
  unfold wpX_typed
  refine xw_isCon hR.1.1 hI.1.2.1 ?_
  rw [decide_eq_true h]
  exact br_f (by decide) (xw_isVar_n hR h2 (br_t rfl k))
theorem xw_typed {p0 : Int32} {s : Nat} (hI : ab_I c) (hR : rx_R c c.N (fC, fV, fH, fP, fsl, fll, ftl, fpl, fN, fS, fh, fe, ft, fr, aSy, aLb, aLt, aPf, aGv, aKd, aLv, aLn, aVr, aSt, aHc, aHs, aPr, aRm, aTl, aAr, aPl, aSk, aEl, aEs, aEp, aEx, aTs, aTn, aTb, aTz, aTp, aAs, aAl, aAv, aRe)) (h : ¬ p0 < 0 ∧ p0 < nI c.C) (h1 : c.C ≤ s) (h2 : s < c.C + c.V) (k7 : c.ht s = true → post (-7) (fC, fV, fH, fP, fsl, fll, ftl, fpl, fN, fS, fh, fe, ft, fr, aSy, aLb, aLt, aPf, aGv, aKd, aLv, aLn, aVr, aSt, aHc, aHs, aPr, aRm, aTl, aAr, aPl, aSk, aEl, aEs, aEp, aEx, aTs, aTn, aTb, aTz, aTp, aAs, aAl, aAv, aRe)) (k6 : c.ht s = false → c.N = 24 → post (-6) (fC, fV, fH, fP, fsl, fll, ftl, fpl, fN, fS, fh, fe, ft, fr, aSy, aLb, aLt, aPf, aGv, aKd, aLv, aLn, aVr, aSt, aHc, aHs, aPr, aRm, aTl, aAr, aPl, aSk, aEl, aEs, aEp, aEx, aTs, aTn, aTb, aTz, aTp, aAs, aAl, aAv, aRe))
    (ky : c.ht s = false → c.N < 24 → post (nI c.N) (fC, fV, fH, fP, fsl, fll, ftl, fpl, nI (c.N + 1), fS, fh, fe, ft, fr, aSy, aLb, aLt, aPf, aGv, upd aKd c.N 1, upd aLv c.N (nI c.S), upd aLn c.N 2, upd aVr c.N ((1 : Int32) <<< (nI (s - c.C) &&& 31)), upd (upd aSt (c.N * 10) p0) (c.N * 10 + 1) (nI s), aHc, aHs, aPr, upd aRm c.N 0, upd aTl (s - c.C) (nI c.N), aAr, aPl, aSk, aEl, aEs, aEp, aEx, aTs, aTn, aTb, aTz, aTp, aAs, aAl, aAv, aRe)) : wpX_typed post (fC, fV, fH, fP, fsl, fll, ftl, fpl, fN, fS, fh, fe, ft, fr, aSy, aLb, aLt, aPf, aGv, aKd, aLv, aLn, aVr, aSt, aHc, aHs, aPr, aRm, aTl, aAr, aPl, aSk, aEl, aEs, aEp, aEx, aTs, aTn, aTb, aTz, aTp, aAs, aAl, aAv, aRe) p0 (nI s) := by
  obtain ⟨z1, z2, z3, z4, z5, z6, z7, z8, z9, z10⟩ := hI.1
  have htl := hR.2.2.2.2.2.2.2.2.2.2.2.2.1 (s - c.C) (by omega)
  rw [show c.C + (s - c.C) = s by omega] at htl
  have eN : fN = nI c.N := hR.1.2.2.2.2.1
  have eS : fS = nI c.S := hR.1.2.2.2.2.2
  unfold wpX_typed
  refine xw_isCon hR.1.1 hI.1.2.1 ?_
  rw [decide_eq_true h]
  refine br_f (by decide) (xw_isVar_y hR h1 h2 (by omega) (br_f (by decide) ?_))
  refine nm_r (e' := nI (s - c.C)) (by rw [hR.1.1, pk_sub h1]) ⟨vp_in_nI (by omega) (by omega), ?_⟩
  rw [nI_clamp (by omega), htl]
  refine br_c (fun q => ?_) (fun q => k7 (by rwa [Bool.not_eq_false] at q))
  refine pk_lt c.N 24 (fun h24 => ?_) (fun h24 => k6 q (by omega)) eN rfl
  have hin : vp_in fN 24 := pk_in c.N 24 h24 eN
  have hu : ∀ {a : Nat → Int32} {v w : Int32}, v = w → upd a fN.toNatClampNeg v = upd a c.N w := fun e => zb_up c.N eN e
  refine And.intro hin (nm_r (hu rfl) (And.intro hin (nm_r (hu eS) (And.intro hin (nm_r (hu rfl) ?_)))))
  have e1 : fN * 10 = nI (c.N * 10) := by rw [eN]; exact zb_y10 c.N
  have e2 : fN * 10 + 1 = nI (c.N * 10 + 1) := by rw [eN]; exact zb_z10 c.N
  refine And.intro (pk_in (c.N * 10) 240 (by omega) e1) (nm_r (zb_up (c.N * 10) e1 rfl) (And.intro (pk_in (c.N * 10 + 1) 240 (by omega) e2) (nm_r (zb_up (c.N * 10 + 1) e2 rfl) ?_)))
  refine And.intro hin (nm_r (hu rfl) (And.intro hin (nm_r (hu rfl) ?_)))
  refine And.intro (vp_in_nI (by omega) (by omega)) (nm_r (e' := upd aTl (s - c.C) (nI c.N)) (by rw [eN]) (nm_r (e' := nI (c.N + 1)) (by rw [eN, nI_1]) ?_))
  rw [eN]
  exact ky q h24
end
section
variable {c : ab_W} {post : Int32 → SY → Prop} {gC gA gH gP gN gS gx gd go : Int32} {bKd bLn bLv bSt bCa bPl bSn bPf bPn bLs bLe bGv bXs bSk bSl bOu bAs bTb bTn : Nat → Int32}
theorem yw_typed_c {p0 p1 : Int32} (hR : ry_R c c.N (gC, gA, gH, gP, gN, gS, gx, gd, go, bKd, bLn, bLv, bSt, bCa, bPl, bSn, bPf, bPn, bLs, bLe, bGv, bXs, bSk, bSl, bOu, bAs, bTb, bTn)) (h : ¬ (¬ p0 < 0 ∧ p0 < nI c.C)) (k : post (-3) (gC, gA, gH, gP, gN, gS, gx, gd, go, bKd, bLn, bLv, bSt, bCa, bPl, bSn, bPf, bPn, bLs, bLe, bGv, bXs, bSk, bSl, bOu, bAs, bTb, bTn)) : wpY_typed post (gC, gA, gH, gP, gN, gS, gx, gd, go, bKd, bLn, bLv, bSt, bCa, bPl, bSn, bPf, bPn, bLs, bLe, bGv, bXs, bSk, bSl, bOu, bAs, bTb, bTn) p0 p1 := by
  refine br_c (fun _ => k) (fun q => br_t ?_ k)
  rw [hR.1.1]
  exact Int32.not_lt.mp (fun z => h ⟨q, z⟩)
theorem yw_typed_v {p0 p1 : Int32} (hR : ry_R c c.N (gC, gA, gH, gP, gN, gS, gx, gd, go, bKd, bLn, bLv, bSt, bCa, bPl, bSn, bPf, bPn, bLs, bLe, bGv, bXs, bSk, bSl, bOu, bAs, bTb, bTn)) (h : ¬ p0 < 0 ∧ p0 < nI c.C) (h2 : p1 < nI c.C ∨ nI (c.C + c.V) ≤ p1) (k : post (-3) (gC, gA, gH, gP, gN, gS, gx, gd, go, bKd, bLn, bLv, bSt, bCa, bPl, bSn, bPf, bPn, bLs, bLe, bGv, bXs, bSk, bSl, bOu, bAs, bTb, bTn)) : wpY_typed post (gC, gA, gH, gP, gN, gS, gx, gd, go, bKd, bLn, bLv, bSt, bCa, bPl, bSn, bPf, bPn, bLs, bLe, bGv, bXs, bSk, bSl, bOu, bAs, bTb, bTn) p0 p1 := by
  refine br_f h.1 (br_f ?_ (yw_isVar_n hR h2 (br_t rfl k)))
  rw [hR.1.1]
  exact Int32.not_le.mpr h.2
theorem yw_typed {p0 : Int32} {s : Nat} (hI : ab_I c) (hR : ry_R c c.N (gC, gA, gH, gP, gN, gS, gx, gd, go, bKd, bLn, bLv, bSt, bCa, bPl, bSn, bPf, bPn, bLs, bLe, bGv, bXs, bSk, bSl, bOu, bAs, bTb, bTn)) (h : ¬ p0 < 0 ∧ p0 < nI c.C) (h1 : c.C ≤ s) (h2 : s < c.C + c.V) (k7 : c.ht s = true → post (-7) (gC, gA, gH, gP, gN, gS, gx, gd, go, bKd, bLn, bLv, bSt, bCa, bPl, bSn, bPf, bPn, bLs, bLe, bGv, bXs, bSk, bSl, bOu, bAs, bTb, bTn)) (k6 : c.ht s = false → c.N = 24 → post (-6) (gC, gA, gH, gP, gN, gS, gx, gd, go, bKd, bLn, bLv, bSt, bCa, bPl, bSn, bPf, bPn, bLs, bLe, bGv, bXs, bSk, bSl, bOu, bAs, bTb, bTn))
    (ky : c.ht s = false → c.N < 24 → post (nI c.N) (gC, gA, gH, gP, nI (c.N + 1), gS, gx, gd, go, upd bKd c.N 1, upd bLn c.N 2, upd bLv c.N (nI c.S), upd (upd bSt (c.N * 10) p0) (c.N * 10 + 1) (nI s), bCa, bPl, bSn, bPf, bPn, bLs, bLe, bGv, bXs, bSk, bSl, bOu, bAs, bTb, bTn)) : wpY_typed post (gC, gA, gH, gP, gN, gS, gx, gd, go, bKd, bLn, bLv, bSt, bCa, bPl, bSn, bPf, bPn, bLs, bLe, bGv, bXs, bSk, bSl, bOu, bAs, bTb, bTn) p0 (nI s) := by
  obtain ⟨z1, z2, z3, z4, z5, z6, z7, z8, z9, z10⟩ := hI.1
  have eN : gN = nI c.N := hR.1.2.2.2.2.1
  have eS : gS = nI c.S := hR.1.2.2.2.2.2
  refine br_f h.1 (br_f (by rw [hR.1.1]; exact Int32.not_le.mpr h.2) (yw_isVar_y hR h1 h2 (by omega) (br_f (by decide) ?_)))
  refine yw_hasTyped hI hR (by omega) (zb_br (fun q => ?_) (fun q => k7 q))
  refine pk_eq c.N 24 (fun h24 => k6 q h24) (fun h24 => ?_) eN rfl
  have h24 : c.N < 24 := by omega
  have hin : vp_in gN 24 := pk_in c.N 24 h24 eN
  have hu : ∀ {a : Nat → Int32} {v w : Int32}, v = w → upd a gN.toNatClampNeg v = upd a c.N w := fun e => zb_up c.N eN e
  have e1 : gN * 10 = nI (c.N * 10) := by rw [eN]; exact zb_y10 c.N
  have e2 : gN * 10 + 1 = nI (c.N * 10 + 1) := by rw [eN]; exact zb_z10 c.N
  refine And.intro (pk_in (c.N * 10) 240 (by omega) e1) (nm_r (zb_up (c.N * 10) e1 rfl) (And.intro (pk_in (c.N * 10 + 1) 240 (by omega) e2) (nm_r (zb_up (c.N * 10 + 1) e2 rfl) ?_)))
  refine And.intro hin (nm_r (hu rfl) (And.intro hin (nm_r (hu rfl) (And.intro hin (nm_r (hu eS) ?_)))))
  refine nm_r (e' := nI (c.N + 1)) (by rw [eN, nI_1]) ?_
  rw [nI_pred]
  exact ky q h24
end
theorem zz_typed {k : Nat} {fC fV fH fP fsl fll ftl fpl fN fS fh fe ft fr : Int32} {aSy aLb aLt aPf aGv aKd aLv aLn aVr aSt aHc aHs aPr aRm aTl aAr aPl aSk aEl aEs aEp aEx aTs aTn aTb aTz aTp aAs aAl aAv aRe : Nat → Int32} {gC gA gH gP gN gS gx gd go : Int32} {bKd bLn bLv bSt bCa bPl bSn bPf bPn bLs bLe bGv bXs bSk bSl bOu bAs bTb bTn : Nat → Int32} {c : ab_W} {p0 : Int32} {s : Nat} (hI : ab_I c) (hX : rx_R c c.N (fC, fV, fH, fP, fsl, fll, ftl, fpl, fN, fS, fh, fe, ft, fr, aSy, aLb, aLt, aPf, aGv, aKd, aLv, aLn, aVr, aSt, aHc, aHs, aPr, aRm, aTl, aAr, aPl, aSk, aEl, aEs, aEp, aEx, aTs, aTn, aTb, aTz, aTp, aAs, aAl, aAv, aRe)) (hY : ry_R c c.N (gC, gA, gH, gP, gN, gS, gx, gd, go, bKd, bLn, bLv, bSt, bCa, bPl, bSn, bPf, bPn, bLs, bLe, bGv, bXs, bSk, bSl, bOu, bAs, bTb, bTn)) (h : ¬ p0 < 0 ∧ p0 < nI c.C) (h1 : c.C ≤ s) (h2 : s < c.C + c.V) (hq : c.ht s = false) (h24 : c.N < 24) : i_Rel k (fC, fV, fH, fP, fsl, fll, ftl, fpl, nI (c.N + 1), fS, fh, fe, ft, fr, aSy, aLb, aLt, aPf, aGv, upd aKd c.N 1, upd aLv c.N (nI c.S), upd aLn c.N 2, upd aVr c.N ((1 : Int32) <<< (nI (s - c.C) &&& 31)), upd (upd aSt (c.N * 10) p0) (c.N * 10 + 1) (nI s), aHc, aHs, aPr, upd aRm c.N 0, upd aTl (s - c.C) (nI c.N), aAr, aPl, aSk, aEl, aEs, aEp, aEx, aTs, aTn, aTb, aTz, aTp, aAs, aAl, aAv, aRe) (gC, gA, gH, gP, nI (c.N + 1), gS, gx, gd, go, upd bKd c.N 1, upd bLn c.N 2, upd bLv c.N (nI c.S), upd (upd bSt (c.N * 10) p0) (c.N * 10 + 1) (nI s), bCa, bPl, bSn, bPf, bPn, bLs, bLe, bGv, bXs, bSk, bSl, bOu, bAs, bTb, bTn) := by
  obtain ⟨z1, z2, z3, z4, z5, z6, z7, z8, z9, z10⟩ := hI.1
  obtain ⟨l1, l2, l3, l4, l5, l6⟩ := hI.2.1
  obtain ⟨t, ht, rfl⟩ := nI_of h.1
  have htC : t < c.C := (nI_ltI ht (by omega)).mp h.2
  have hX1 := rx_ten (k := 1) (s := [t, s]) _ hX
  have hY1 := ry_ten (k := 1) (s := [t, s]) _ hY
  have hI1 : ab_I (ab_ten c 1 [t, s]) := ab_ten_I hI
  have eg : (ab_ten c 1 [t, s]).sg c.N = [t, s] := ab_us
  have kN : (ab_ten c 1 [t, s]).kd c.N = 1 := ab_us
  have lN' : (ab_ten c 1 [t, s]).lv c.N = c.S := ab_us
  have vN : (ab_ten c 1 [t, s]).var c.N = s := by unfold ab_W.var; rw [eg]; rfl
  have cN : c.ca c.N = 0 := hI.2.2.2.1.2.1 c.N (Nat.le_refl _)
  have s3 : ∀ j, j < c.N → ((ab_ten c 1 [t, s]).sg j).length ≤ 10 := fun j hj => by rw [ab_ten_sg hj]; exact (hI.2.2.1 j hj).2.2.2.1
  have hsg : ∀ a : Nat → Int32, zb_Sg (upd (upd a (c.N * 10) (nI t)) (c.N * 10 + 1) (nI s)) (c.N * 10) [t, s] := by
    intro a
    rw [zb_cons, zb_one]
    exact ⟨by rw [pk_un (by omega), pk_us], pk_us⟩
  have hsu : ∀ a : Nat → Int32, ∀ i, i < c.N * 10 → upd (upd a (c.N * 10) (nI t)) (c.N * 10 + 1) (nI s) i = a i := by
    intro a i hi
    rw [pk_un (by omega), pk_un (by omega)]
  refine ⟨ab_com (ab_ten c 1 [t, s]) c.sl (fun _ => false) [], ?_, ?_, ?_⟩
  · refine ab_com_I hI1 h24 ?_ ⟨l1, l4⟩ ?_ ?_ ?_ ?_ ?_ ?_
    · show ab_ok (ab_ten c 1 [t, s]) c.N
      unfold ab_ok
      rw [eg, kN, lN', vN]
      refine ⟨by decide, by decide, by simp, by simp, htC, ?_, fun _ => ⟨by simp, h1⟩, z10⟩
      intro y hy
      show y < c.C + c.V
      simp at hy
      omega
    · show (ab_ten c 1 [t, s]).lv c.N ≤ c.S
      rw [lN']; exact Nat.le_refl _
    · intro _ i hi ki ci e
      have hi : i < c.N := hi
      have e : (ab_ten c 1 [t, s]).var i = (ab_ten c 1 [t, s]).var c.N := e
      rw [vN, ab_ten_var hi] at e
      rw [ab_ten_kd hi] at ki
      have : c.ht s = true := ab_ht_i.mpr ⟨i, hi, ki, ci, e⟩
      rw [hq] at this
      exact absurd this (by decide)
    · intro k2
      have k2 : (ab_ten c 1 [t, s]).kd c.N = 2 := k2
      rw [kN] at k2; exact absurd k2 (by decide)
    · intro k3
      have k3 : 3 ≤ (ab_ten c 1 [t, s]).kd c.N := k3
      rw [kN] at k3; exact absurd k3 (by decide)
    · intro k3
      have k3 : (ab_ten c 1 [t, s]).kd c.N = 4 := k3
      rw [kN] at k3; exact absurd k3 (by decide)
    · intro a
      show ((ab_ten c 1 [t, s]).kd c.N ≤ 2 → _) ∧ ((ab_ten c 1 [t, s]).kd c.N = 3 → _) ∧ ((ab_ten c 1 [t, s]).kd c.N = 4 → _)
      rw [kN]
      exact ⟨fun _ => rfl, fun z => absurd z (by decide), fun z => absurd z (by decide)⟩
  · refine rx_com (c := ab_ten c 1 [t, s]) hX1 hX.2.1 ?_ ?_ (fun j hj => pk_un (Nat.ne_of_lt hj)) ?_ (fun j hj => pk_un (Nat.ne_of_lt hj)) ?_ (fun j hj => pk_un (Nat.ne_of_lt hj)) ?_ (hsu aSt) s3 ?_ (fun j hj => pk_un (Nat.ne_of_lt hj)) ?_ ?_ ?_ (fun j hj => pk_un (Nat.ne_of_lt hj)) ?_
    · rw [ab_com_lp, ab_ten_lp]
      show rx_l fpl aPf 0 (if (ab_ten c 1 [t, s]).kd c.N = 4 then [] else c.lp)
      rw [kN]; exact hX.2.2.2.2.1
    · show upd aKd c.N 1 c.N = nI ((ab_ten c 1 [t, s]).kd c.N)
      rw [kN, pk_us]; rfl
    · show upd aLv c.N (nI c.S) c.N = (ab_ten c 1 [t, s]).lev c.N
      unfold ab_W.lev
      rw [kN, lN', pk_us, if_neg (by decide)]
      show nI c.S = if c.ca c.N = 0 then nI c.S else -21
      rw [if_pos cN]
    · show upd aLn c.N 2 c.N = nI ((ab_ten c 1 [t, s]).sg c.N).length
      rw [eg, pk_us]; rfl
    · show zb_Sg (upd (upd aSt (c.N * 10) (nI t)) (c.N * 10 + 1) (nI s)) (c.N * 10) ((ab_ten c 1 [t, s]).sg c.N)
      rw [eg]; exact hsg aSt
    · intro _
      show zb_MK (upd aVr c.N ((1 : Int32) <<< (nI (s - c.C) &&& 31)) c.N) (fun v => decide (c.C + v ∈ (ab_ten c 1 [t, s]).sg c.N))
      rw [eg, pk_us]
      refine zb_MKe (zb_MKs (by omega)) (fun v _ => ?_)
      rw [decide_eq_decide]
      simp
      omega
    · refine zz_lts (N := c.N) (P := fun x => 3 ≤ (ab_ten c 1 [t, s]).kd x → aHc x = nI ((ab_ten c 1 [t, s]).hs x).length ∧ zb_Sg aHs (x * 24) ((ab_ten c 1 [t, s]).hs x)) hX1.2.2.2.2.2.2.2.2.2.1 (fun z => ?_)
      rw [kN] at z; exact absurd z (by decide)
    · refine zz_lts (N := c.N) (P := fun x => 3 ≤ (ab_ten c 1 [t, s]).kd x → ∀ v, v < 8 → zb_MK (aPr (x * 8 + v)) (fun w => (ab_ten c 1 [t, s]).fp x (c.C + v) (c.C + w))) hX1.2.2.2.2.2.2.2.2.2.2.1 (fun z => ?_)
      rw [kN] at z; exact absurd z (by decide)
    · show zb_MK (upd aRm c.N 0 c.N) (fun _ => false)
      rw [pk_us]; exact zb_MK0
    · intro v hv
      show upd aTl (s - c.C) (nI c.N) v = -1 ↔ (ab_com (ab_ten c 1 [t, s]) c.sl (fun _ => false) []).ht (c.C + v) = false
      rw [← Bool.not_eq_true, ab_com_ht, ab_ten_ht]
      have htl := hX.2.2.2.2.2.2.2.2.2.2.2.2.1 v hv
      by_cases q : v = s - c.C
      · rw [q, pk_us]
        constructor
        · intro z
          exfalso
          have : (nI c.N).toInt = -1 := by rw [z]; rfl
          rw [nI_toInt (by omega)] at this
          omega
        · intro z
          exact absurd (Or.inr ⟨kN, cN, by show (ab_ten c 1 [t, s]).var c.N = _; rw [vN]; omega⟩) z
      · rw [pk_un q, htl]
        constructor
        · intro z w
          rcases w with w | ⟨_, _, w⟩
          · rw [z] at w; exact absurd w (by decide)
          · have w : (ab_ten c 1 [t, s]).var c.N = c.C + v := w
            rw [vN] at w; omega
        · intro z
          rw [← Bool.not_eq_true]
          exact fun w => z (Or.inl w)
  · have hW : ry_R (ab_ten c 1 [t, s]) (c.N + 1) (gC, gA, gH, gP, gN, gS, gx, gd, go, upd bKd c.N 1, upd bLn c.N 2, upd bLv c.N (nI c.S), upd (upd bSt (c.N * 10) (nI t)) (c.N * 10 + 1) (nI s), bCa, bPl, bSn, bPf, bPn, bLs, bLe, bGv, bXs, bSk, bSl, bOu, bAs, bTb, bTn) := by
      refine ry_w (c := ab_ten c 1 [t, s]) hY1 ?_ (fun j hj => pk_un (Nat.ne_of_lt hj)) ?_ (fun j hj => pk_un (Nat.ne_of_lt hj)) (by rw [show (ab_ten c 1 [t, s]).lv (ab_ten c 1 [t, s]).N = c.S from lN']; exact pk_us) (fun j hj => pk_un (Nat.ne_of_lt hj)) ?_ (hsu bSt) s3 ?_ (fun i _ => rfl)
      · show upd bKd c.N 1 c.N = nI ((ab_ten c 1 [t, s]).kd c.N)
        rw [kN, pk_us]; rfl
      · show upd bLn c.N 2 c.N = nI ((ab_ten c 1 [t, s]).sg c.N).length
        rw [eg, pk_us]; rfl
      · show zb_Sg (upd (upd bSt (c.N * 10) (nI t)) (c.N * 10 + 1) (nI s)) (c.N * 10) ((ab_ten c 1 [t, s]).sg c.N)
        rw [eg]; exact hsg bSt
      · intro z
        have z : 3 ≤ (ab_ten c 1 [t, s]).kd c.N := z
        rw [kN] at z; exact absurd z (by decide)
    refine ry_com (c := ab_ten c 1 [t, s]) hW hY.2.1 hY.2.2.1 hY.2.2.2.1 ?_ ?_ (fun j hj => rfl) (fun i hi => rfl) ?_
    · show upd bLv c.N (nI c.S) c.N = nI ((ab_ten c 1 [t, s]).lv c.N)
      rw [lN', pk_us]
    · intro z
      have z : (ab_ten c 1 [t, s]).kd c.N = 4 := z
      rw [kN] at z; exact absurd z (by decide)
    · intro x hx hk
      have hx : x < c.N := hx
      rw [ab_ten_kd hx] at hk
      exact (hI.2.2.2.2.2.2.2.2.1 x hx hk).1
theorem i_vc_typed {k : Nat} {u : SX} {v : SY} (I : i_Rel k u v) (hk : k + 5 ≤ 2564) (v1 : Int32) (v2 : Int32) : wpX_typed (fun r u' => wpY_typed (fun r' v' => r' = r ∧ i_Rel (k + 5) u' v') v v1 v2) u v1 v2 := by
  refine zz_el (P := fun u v => wpX_typed (fun r u' => wpY_typed (fun r' v' => r' = r ∧ i_Rel (k + 5) u' v') v v1 v2) u v1 v2) ?_ I
  intro fC fV fH fP fsl fll ftl fpl fN fS fh fe ft fr aSy aLb aLt aPf aGv aKd aLv aLn aVr aSt aHc aHs aPr aRm aTl aAr aPl aSk aEl aEs aEp aEx aTs aTn aTb aTz aTp aAs aAl aAv aRe gC gA gH gP gN gS gx gd go bKd bLn bLv bSt bCa bPl bSn bPf bPn bLs bLe bGv bXs bSk bSl bOu bAs bTb bTn c hI hX hY
  have rel : i_Rel (k + 5) (fC, fV, fH, fP, fsl, fll, ftl, fpl, fN, fS, fh, fe, ft, fr, aSy, aLb, aLt, aPf, aGv, aKd, aLv, aLn, aVr, aSt, aHc, aHs, aPr, aRm, aTl, aAr, aPl, aSk, aEl, aEs, aEp, aEx, aTs, aTn, aTb, aTz, aTp, aAs, aAl, aAv, aRe) (gC, gA, gH, gP, gN, gS, gx, gd, go, bKd, bLn, bLv, bSt, bCa, bPl, bSn, bPf, bPn, bLs, bLe, bGv, bXs, bSk, bSl, bOu, bAs, bTb, bTn) := ⟨c, hI, hX, hY⟩
  by_cases h : ¬ v1 < 0 ∧ v1 < nI c.C
  · rcases zz_var hI.1 v2 with h2 | ⟨s, h1, h2, rfl⟩
    · exact xw_typed_v hI hX h h2 (yw_typed_v hY h h2 ⟨rfl, rel⟩)
    · refine xw_typed hI hX h h1 h2 (fun q => ?_) (fun q q2 => ?_) (fun q q2 => ?_)
      · exact yw_typed hI hY h h1 h2 (fun _ => ⟨rfl, rel⟩) (fun z => absurd (q.symm.trans z) (by decide)) (fun z => absurd (q.symm.trans z) (by decide))
      · exact yw_typed hI hY h h1 h2 (fun z => absurd (q.symm.trans z) (by decide)) (fun _ _ => ⟨rfl, rel⟩) (fun _ z => absurd z (by omega))
      · exact yw_typed hI hY h h1 h2 (fun z => absurd (q.symm.trans z) (by decide)) (fun _ z => absurd z (by omega)) (fun _ _ => ⟨rfl, zz_typed hI hX hY h h1 h2 q q2⟩)
  · exact xw_typed_c hI hX h (yw_typed_c hY h ⟨rfl, rel⟩)
end
section
/-! owed row: disjoint -/
theorem i_vc_disjoint {k : Nat} {u : SX} {v : SY} (I : i_Rel k u v) (hk : k + 5 ≤ 2564) (v1 : Int32) (v2 : Int32) : wpX_disjoint (fun r u' => wpY_disjoint (fun r' v' => r' = r ∧ i_Rel (k + 5) u' v') v v1 v2) u v1 v2 := by
  refine zz_el (P := fun u v => wpX_disjoint (fun r u' => wpY_disjoint (fun r' v' => r' = r ∧ i_Rel (k + 5) u' v') v v1 v2) u v1 v2) ?_ I
  intro fC fV fH fP fsl fll ftl fpl fN fS fh fe ft fr aSy aLb aLt aPf aGv aKd aLv aLn aVr aSt aHc aHs aPr aRm aTl aAr aPl aSk aEl aEs aEp aEx aTs aTn aTb aTz aTp aAs aAl aAv aRe gC gA gH gP gN gS gx gd go bKd bLn bLv bSt bCa bPl bSn bPf bPn bLs bLe bGv bXs bSk bSl bOu bAs bTb bTn c hI hX hY
  have rel : i_Rel (k + 5) (fC, fV, fH, fP, fsl, fll, ftl, fpl, fN, fS, fh, fe, ft, fr, aSy, aLb, aLt, aPf, aGv, aKd, aLv, aLn, aVr, aSt, aHc, aHs, aPr, aRm, aTl, aAr, aPl, aSk, aEl, aEs, aEp, aEx, aTs, aTn, aTb, aTz, aTp, aAs, aAl, aAv, aRe) (gC, gA, gH, gP, gN, gS, gx, gd, go, bKd, bLn, bLv, bSt, bCa, bPl, bSn, bPf, bPn, bLs, bLe, bGv, bXs, bSk, bSl, bOu, bAs, bTb, bTn) := ⟨c, hI, hX, hY⟩
  obtain ⟨z1, z2, z3, z4, z5, z6, z7, z8, z9, z10⟩ := hI.1
  unfold wpX_disjoint wpY_disjoint
  rcases zz_var hI.1 v1 with h | ⟨s, h1, h2, rfl⟩
  · exact xw_isVar_n hX h (br_t rfl (yw_isVar_n hY h (br_t rfl ⟨rfl, rel⟩)))
  rcases zz_var hI.1 v2 with h | ⟨t, h3, h4, rfl⟩
  · exact xw_isVar_y hX h1 h2 (by omega) (br_f (by decide) (xw_isVar_n hX h (br_t rfl (yw_isVar_y hY h1 h2 (by omega) (br_f (by decide) (yw_isVar_n hY h (br_t rfl ⟨rfl, rel⟩)))))))
  refine xw_isVar_y hX h1 h2 (by omega) (br_f (by decide) (xw_isVar_y hX h3 h4 (by omega) (br_f (by decide) ?_)))
  have hyv : ∀ {post : Int32 → Prop}, post 1 → wpY_isVar post (gC, gA, gH, gP, gN, gS, gx, gd, go, bKd, bLn, bLv, bSt, bCa, bPl, bSn, bPf, bPn, bLs, bLe, bGv, bXs, bSk, bSl, bOu, bAs, bTb, bTn) (nI s) := fun k => yw_isVar_y hY h1 h2 (by omega) k
  have hyw : ∀ {post : Int32 → Prop}, post 1 → wpY_isVar post (gC, gA, gH, gP, gN, gS, gx, gd, go, bKd, bLn, bLv, bSt, bCa, bPl, bSn, bPf, bPn, bLs, bLe, bGv, bXs, bSk, bSl, bOu, bAs, bTb, bTn) (nI t) := fun k => yw_isVar_y hY h3 h4 (by omega) k
  refine pk_eq s t (fun q => ?_) (fun q => ?_)
  · exact hyv (br_f (by decide) (hyw (br_f (by decide) (br_t (congrArg nI q) ⟨rfl, rel⟩))))
  have har := hX.2.2.2.2.2.2.2.2.2.2.2.2.2.1
  have hpl := hX.2.2.2.2.2.2.2.2.2.2.2.2.2.2
  have hypl := hY.2.2.2.2.2.2.2.2.1
  have eS : fS = nI c.S := hX.1.2.2.2.2.2
  have eS' : gS = nI c.S := hY.1.2.2.2.2.2
  have hb := hI.2.2.2.2.2.2.2.1.2.1 s t
  obtain ⟨x, rfl⟩ : ∃ x, s = c.C + x := ⟨s - c.C, by omega⟩
  obtain ⟨y, rfl⟩ : ∃ y, t = c.C + y := ⟨t - c.C, by omega⟩
  have hx8 : x < 8 := by omega
  have hy8 : y < 8 := by omega
  refine nm_r (e' := nI x) (by rw [hX.1.1, pk_sub (by omega)]; congr 1; omega) (nm_r (e' := nI y) (by rw [hX.1.1, pk_sub (by omega)]; congr 1; omega) ?_)
  have i1 : vp_in (nI x * 8 + nI y) 64 := pk_in (x * 8 + y) 64 (by omega) (zb_x8 x y)
  have i2 : vp_in (nI y * 8 + nI x) 64 := pk_in (y * 8 + x) 64 (by omega) (zb_x8 y x)
  have j1 : vp_in (nI (c.C + x) * 16 + nI (c.C + y)) 256 := pk_in ((c.C + x) * 16 + (c.C + y)) 256 (by omega) (zb_x16 _ _)
  have j2 : vp_in (nI (c.C + y) * 16 + nI (c.C + x)) 256 := pk_in ((c.C + y) * 16 + (c.C + x)) 256 (by omega) (zb_x16 _ _)
  refine And.intro i1 ?_
  rw [zb_c8 x y (by omega), hpl x y hx8 hy8]
  by_cases hz : c.pl (c.C + x) (c.C + y) = 0
  · rw [if_pos hz]
    refine br_t rfl (And.intro i1 (nm_e (And.intro i2 (nm_r (e' := upd (upd aPl (x * 8 + y) (nI c.S)) (y * 8 + x) (nI c.S)) (by rw [zb_c8 y x (by omega), eS]) ?_))))
    refine And.intro (vp_in_nI hx8 (by omega)) (And.intro (vp_in_nI hx8 (by omega)) (nm_r (e' := upd aAr x (aAr x ||| (1 : Int32) <<< (nI y &&& 31))) (by rw [nI_clamp (by omega)]) ?_))
    refine And.intro (vp_in_nI hy8 (by omega)) (And.intro (vp_in_nI hy8 (by omega)) (nm_r (e' := upd (upd aAr x (aAr x ||| (1 : Int32) <<< (nI y &&& 31))) y (aAr y ||| (1 : Int32) <<< (nI x &&& 31))) (by rw [nI_clamp (by omega), pk_un (by omega)]) ?_))
    refine hyv (br_f (by decide) (hyw (br_f (by decide) (br_f (fun z => q ((nI_eq (by omega) (by omega)).mp z)) ?_))))
    refine And.intro j1 ?_
    rw [zb_c16 _ _ (by omega), hypl _ _ (by omega) (by omega), hz]
    refine br_t rfl (And.intro j1 (nm_e (And.intro j2 (nm_r (e' := upd (upd bPl ((c.C + x) * 16 + (c.C + y)) (nI (c.S + 1))) ((c.C + y) * 16 + (c.C + x)) (nI (c.S + 1))) (by rw [zb_c16 _ _ (by omega), eS', nI_1]) ?_))))
    refine ⟨rfl, ab_dis c (c.C + x) (c.C + y), ab_dis_I hI ⟨by omega, h2⟩ ⟨by omega, h4⟩ q, ?_, ?_⟩
    · obtain ⟨hf, hsy, hlb, hlt, hpf, hkd, hlv, hst, hvr, hhs, hpr, hrm, htl, har, hpl⟩ := hX
      refine ⟨hf, hsy, hlb, hlt, hpf, hkd, hlv, hst, hvr, hhs, hpr, hrm, htl, ?_, ?_⟩
      · intro v hv
        show zb_MK (upd (upd aAr x (aAr x ||| (1 : Int32) <<< (nI y &&& 31))) y (aAr y ||| (1 : Int32) <<< (nI x &&& 31)) v) (fun w => decide ((if (c.C + v = c.C + x ∧ c.C + w = c.C + y) ∨ (c.C + v = c.C + y ∧ c.C + w = c.C + x) then c.S + 1 else c.pl (c.C + v) (c.C + w)) ≠ 0))
        by_cases q1 : v = y
        · rw [q1, pk_us]
          refine zb_MKe (zb_MKor (har y hy8) (zb_MKs (by omega))) (fun w _ => ?_)
          rw [← Bool.decide_or, decide_eq_decide]
          by_cases q2 : w = x
          · rw [if_pos (by omega)]; omega
          · rw [if_neg (by omega)]; omega
        · rw [pk_un q1]
          by_cases q3 : v = x
          · rw [q3, pk_us]
            refine zb_MKe (zb_MKor (har x hx8) (zb_MKs (by omega))) (fun w _ => ?_)
            rw [← Bool.decide_or, decide_eq_decide]
            by_cases q2 : w = y
            · rw [if_pos (by omega)]; omega
            · rw [if_neg (by omega)]; omega
          · rw [pk_un q3]
            refine zb_MKe (har v hv) (fun w _ => ?_)
            rw [if_neg (by omega)]
      · intro v w hv hw
        show upd (upd aPl (x * 8 + y) (nI c.S)) (y * 8 + x) (nI c.S) (v * 8 + w) = if (if (c.C + v = c.C + x ∧ c.C + w = c.C + y) ∨ (c.C + v = c.C + y ∧ c.C + w = c.C + x) then c.S + 1 else c.pl (c.C + v) (c.C + w)) = 0 then -21 else nI ((if (c.C + v = c.C + x ∧ c.C + w = c.C + y) ∨ (c.C + v = c.C + y ∧ c.C + w = c.C + x) then c.S + 1 else c.pl (c.C + v) (c.C + w)) - 1)
        by_cases q1 : (c.C + v = c.C + x ∧ c.C + w = c.C + y) ∨ (c.C + v = c.C + y ∧ c.C + w = c.C + x)
        · rw [if_pos q1, if_neg (by omega), Nat.add_sub_cancel]
          by_cases q2 : v * 8 + w = y * 8 + x
          · rw [q2, pk_us]
          · rw [pk_un q2, show v * 8 + w = x * 8 + y by omega, pk_us]
        · rw [if_neg q1, pk_un (by omega), pk_un (by omega)]
          exact hpl v w hv hw
    · obtain ⟨hf, hsy, hlb, hlt, hkd, hlv, hst, hca, hpl, hsn, hpf⟩ := hY
      refine ⟨hf, hsy, hlb, hlt, hkd, hlv, hst, hca, ?_, hsn, hpf⟩
      intro v w hv hw
      show upd (upd bPl ((c.C + x) * 16 + (c.C + y)) (nI (c.S + 1))) ((c.C + y) * 16 + (c.C + x)) (nI (c.S + 1)) (v * 16 + w) = nI (if (v = c.C + x ∧ w = c.C + y) ∨ (v = c.C + y ∧ w = c.C + x) then c.S + 1 else c.pl v w)
      by_cases q1 : (v = c.C + x ∧ w = c.C + y) ∨ (v = c.C + y ∧ w = c.C + x)
      · rw [if_pos q1]
        by_cases q2 : v * 16 + w = (c.C + y) * 16 + (c.C + x)
        · rw [q2, pk_us]
        · rw [pk_un q2, show v * 16 + w = (c.C + x) * 16 + (c.C + y) by omega, pk_us]
      · rw [if_neg q1, pk_un (by omega), pk_un (by omega)]
        exact hpl v w hv hw
  · rw [if_neg hz]
    refine br_f (fun z => ?_) ?_
    · have : (nI (c.pl (c.C + x) (c.C + y) - 1)).toInt = -21 := by rw [z]; rfl
      rw [nI_toInt (by omega)] at this
      omega
    · refine hyv (br_f (by decide) (hyw (br_f (by decide) (br_f (fun z => q ((nI_eq (by omega) (by omega)).mp z)) ?_))))
      refine And.intro j1 ?_
      rw [zb_c16 _ _ (by omega), hypl _ _ (by omega) (by omega)]
      exact br_f (fun z => hz ((nI_eq (b := 0) (by omega) (by omega)).mp z)) ⟨rfl, rel⟩
end
section
/-! owed row: close -/
def cl_c (c : ab_W) (i : Nat) : Bool := decide (c.kd i ≤ 2) && (decide (c.ca i = 0) && decide (c.lv i = c.S))
def cl_t (c : ab_W) (j v : Nat) : Bool := (List.range j).any (fun i => cl_c c i && (decide (c.kd i = 1) && decide (c.var i = c.C + v)))
def cl_L (c : ab_W) (a : Nat → Int32) (j : Nat) : Nat → Int32 := fun i => if i < j ∧ cl_c c i = true then -21 else a i
def cl_T (c : ab_W) (a : Nat → Int32) (j : Nat) : Nat → Int32 := fun v => if cl_t c j v = true then -1 else a v
def cl_P (c : ab_W) (a : Nat → Int32) (k : Nat) : Nat → Int32 := fun i => if i < k ∧ a i = nI c.S then -21 else a i
def cl_a (c : ab_W) (a p : Nat → Int32) (v : Nat) : Nat → Int32
  | 0 => a v
  | w + 1 => if p (v * 8 + w) = nI c.S then cl_a c a p v w &&& ((1 : Int32) <<< (nI w &&& 31) ^^^ (-1)) else cl_a c a p v w
def cl_A (c : ab_W) (a p : Nat → Int32) (v w : Nat) : Nat → Int32 := fun b => if b < v then cl_a c a p b 8 else if b = v then cl_a c a p v w else a b
theorem cl_ci {c : ab_W} {i : Nat} : cl_c c i = true ↔ c.kd i ≤ 2 ∧ c.ca i = 0 ∧ c.lv i = c.S := by
  unfold cl_c
  rw [Bool.and_eq_true, Bool.and_eq_true, decide_eq_true_iff, decide_eq_true_iff, decide_eq_true_iff]
theorem cl_ti {c : ab_W} {j v : Nat} : cl_t c j v = true ↔ ∃ i, i < j ∧ cl_c c i = true ∧ c.kd i = 1 ∧ c.var i = c.C + v := by
  unfold cl_t
  rw [List.any_eq_true]
  constructor
  · intro ⟨i, h1, h2⟩
    rw [Bool.and_eq_true, Bool.and_eq_true, decide_eq_true_iff, decide_eq_true_iff] at h2
    exact ⟨i, List.mem_range.mp h1, h2⟩
  · intro ⟨i, h1, h2⟩
    refine ⟨i, List.mem_range.mpr h1, ?_⟩
    rw [Bool.and_eq_true, Bool.and_eq_true, decide_eq_true_iff, decide_eq_true_iff]
    exact h2
theorem cl_L0 (c : ab_W) (a : Nat → Int32) : cl_L c a 0 = a := funext fun i => if_neg (fun h => Nat.not_lt_zero i h.1)
theorem cl_T0 (c : ab_W) (a : Nat → Int32) : cl_T c a 0 = a := funext fun i => if_neg (fun h => by
  obtain ⟨j, h1, _⟩ := cl_ti.mp h
  exact Nat.not_lt_zero j h1)
theorem cl_LS {c : ab_W} {a : Nat → Int32} {j : Nat} (h : cl_c c j = true) : upd (cl_L c a j) j (-21) = cl_L c a (j + 1) := by
  funext i
  unfold upd cl_L
  by_cases q : i = j
  · rw [if_pos q, q, if_pos ⟨Nat.lt_succ_self j, h⟩]
  · rw [if_neg q]
    by_cases q2 : i < j ∧ cl_c c i = true
    · rw [if_pos q2, if_pos ⟨by omega, q2.2⟩]
    · rw [if_neg q2, if_neg (fun z => q2 ⟨by omega, z.2⟩)]
theorem cl_LK {c : ab_W} {a : Nat → Int32} {j : Nat} (h : cl_c c j = false) : cl_L c a (j + 1) = cl_L c a j := by
  funext i
  unfold cl_L
  by_cases q2 : i < j ∧ cl_c c i = true
  · rw [if_pos q2, if_pos ⟨by omega, q2.2⟩]
  · rw [if_neg q2, if_neg (fun z => by
      by_cases q : i = j
      · rw [q, h] at z; exact absurd z.2 (by decide)
      · exact q2 ⟨by omega, z.2⟩)]
theorem cl_TS {c : ab_W} {a : Nat → Int32} {j : Nat} (h : cl_c c j = true) (hk : c.kd j = 1) (hC : c.C ≤ c.var j) : upd (cl_T c a j) (c.var j - c.C) (-1) = cl_T c a (j + 1) := by
  funext v
  unfold upd cl_T
  by_cases q : v = c.var j - c.C
  · rw [if_pos q, if_pos (cl_ti.mpr ⟨j, Nat.lt_succ_self j, h, hk, by omega⟩)]
  · rw [if_neg q]
    by_cases q2 : cl_t c j v = true
    · rw [if_pos q2]
      obtain ⟨i, h1, h2⟩ := cl_ti.mp q2
      rw [if_pos (cl_ti.mpr ⟨i, by omega, h2⟩)]
    · rw [if_neg q2, if_neg (fun z => ?_)]
      obtain ⟨i, h1, h2, h3, h4⟩ := cl_ti.mp z
      by_cases q3 : i = j
      · rw [q3] at h4; omega
      · exact q2 (cl_ti.mpr ⟨i, by omega, h2, h3, h4⟩)
theorem cl_TK {c : ab_W} {a : Nat → Int32} {j : Nat} (h : ¬ (cl_c c j = true ∧ c.kd j = 1)) : cl_T c a (j + 1) = cl_T c a j := by
  funext v
  unfold cl_T
  by_cases q2 : cl_t c j v = true
  · rw [if_pos q2]
    obtain ⟨i, h1, h2⟩ := cl_ti.mp q2
    rw [if_pos (cl_ti.mpr ⟨i, by omega, h2⟩)]
  · rw [if_neg q2, if_neg (fun z => ?_)]
    obtain ⟨i, h1, h2, h3, h4⟩ := cl_ti.mp z
    by_cases q3 : i = j
    · rw [q3] at h2 h3; exact h ⟨h2, h3⟩
    · exact q2 (cl_ti.mpr ⟨i, by omega, h2, h3, h4⟩)
theorem cl_P0 (c : ab_W) (a : Nat → Int32) : cl_P c a 0 = a := funext fun i => if_neg (fun h => Nat.not_lt_zero i h.1)
theorem cl_PS {c : ab_W} {a : Nat → Int32} {k : Nat} (h : a k = nI c.S) : upd (cl_P c a k) k (-21) = cl_P c a (k + 1) := by
  funext i
  unfold upd cl_P
  by_cases q : i = k
  · rw [if_pos q, q, if_pos ⟨Nat.lt_succ_self k, h⟩]
  · rw [if_neg q]
    by_cases q2 : i < k ∧ a i = nI c.S
    · rw [if_pos q2, if_pos ⟨by omega, q2.2⟩]
    · rw [if_neg q2, if_neg (fun z => q2 ⟨by omega, z.2⟩)]
theorem cl_PK {c : ab_W} {a : Nat → Int32} {k : Nat} (h : ¬ a k = nI c.S) : cl_P c a (k + 1) = cl_P c a k := by
  funext i
  unfold cl_P
  by_cases q2 : i < k ∧ a i = nI c.S
  · rw [if_pos q2, if_pos ⟨by omega, q2.2⟩]
  · rw [if_neg q2, if_neg (fun z => by
      by_cases q : i = k
      · rw [q] at z; exact h z.2
      · exact q2 ⟨by omega, z.2⟩)]
theorem cl_A0 (c : ab_W) (a p : Nat → Int32) : cl_A c a p 0 0 = a := by
  funext b
  unfold cl_A
  rw [if_neg (Nat.not_lt_zero b)]
  by_cases q : b = 0
  · rw [if_pos q, q]; rfl
  · rw [if_neg q]
theorem cl_AN (c : ab_W) (a p : Nat → Int32) (v : Nat) : cl_A c a p v 8 = cl_A c a p (v + 1) 0 := by
  funext b
  unfold cl_A
  by_cases q : b < v
  · rw [if_pos q, if_pos (by omega)]
  · rw [if_neg q]
    by_cases q2 : b = v
    · rw [if_pos q2, if_pos (by omega), q2]
    · rw [if_neg q2, if_neg (by omega)]
      by_cases q3 : b = v + 1
      · rw [if_pos q3, q3]; rfl
      · rw [if_neg q3]
theorem cl_AS {c : ab_W} {a p : Nat → Int32} {v w : Nat} (h : p (v * 8 + w) = nI c.S) : upd (cl_A c a p v w) v (cl_A c a p v w v &&& ((1 : Int32) <<< (nI w &&& 31) ^^^ (-1))) = cl_A c a p v (w + 1) := by
  funext b
  unfold upd cl_A
  by_cases q : b = v
  · rw [if_pos q, if_neg (Nat.lt_irrefl v), if_pos rfl, if_neg (by omega), if_pos q]
    show _ = if p (v * 8 + w) = nI c.S then _ else _
    rw [if_pos h]
  · rw [if_neg q, if_neg q, if_neg q]
theorem cl_AK {c : ab_W} {a p : Nat → Int32} {v w : Nat} (h : ¬ p (v * 8 + w) = nI c.S) : cl_A c a p v (w + 1) = cl_A c a p v w := by
  funext b
  unfold cl_A
  by_cases q : b = v
  · rw [if_pos q, if_pos q]
    have e : cl_a c a p v (w + 1) = cl_a c a p v w := by
      show (if p (v * 8 + w) = nI c.S then _ else _) = _
      rw [if_neg h]
    rw [e]
  · rw [if_neg q, if_neg q]
theorem cl_lev {c : ab_W} {i : Nat} (hS : c.S ≤ 4) (hl : c.lv i ≤ 4) (hk : c.kd i ≤ 2) : c.lev i = nI c.S ↔ cl_c c i = true := by
  rw [cl_ci]
  unfold ab_W.lev
  rw [if_neg (by omega)]
  by_cases q : c.ca i = 0
  · rw [if_pos q, nI_eq (by omega) (by omega)]
    exact ⟨fun h => ⟨hk, q, h⟩, fun h => h.2.2⟩
  · rw [if_neg q]
    constructor
    · intro z
      exfalso
      have : (nI c.S).toInt = -21 := by rw [← z]; rfl
      rw [nI_toInt (by omega)] at this
      omega
    · intro z; exact absurd z.2.1 q
section
variable {c : ab_W} {fC fV fH fP fsl fll ftl fpl fN fS fh fe ft fr : Int32} {aSy aLb aLt aPf aGv aKd aLv aLn aVr aSt aHc aHs aPr aRm aTl aAr aPl aSk aEl aEs aEp aEx aTs aTn aTb aTz aTp aAs aAl aAv aRe : Nat → Int32}
theorem xw_isHyp2 {post : Int32 → Prop} {j : Nat} (hN : fN = nI c.N) (hkd : rx_kd c aKd) (h24 : c.N ≤ 24) (hk4 : c.kd j ≤ 4) (hj : j < c.N) (k : post (zb_1 (decide (c.kd j ≤ 2)))) : wpX_isHypothesis post (fC, fV, fH, fP, fsl, fll, ftl, fpl, fN, fS, fh, fe, ft, fr, aSy, aLb, aLt, aPf, aGv, aKd, aLv, aLn, aVr, aSt, aHc, aHs, aPr, aRm, aTl, aAr, aPl, aSk, aEl, aEs, aEp, aEx, aTs, aTn, aTb, aTz, aTp, aAs, aAl, aAv, aRe) (nI j) := by
  unfold wpX_isHypothesis
  refine xw_isSt_y hN hj h24 (br_f (by decide) ⟨vp_in_nI (by omega) (by omega), ?_⟩)
  rw [nI_clamp (by omega), hkd j hj]
  refine pk_lt 2 (c.kd j) (fun h => ?_) (fun h => ?_)
  · rw [decide_eq_false (by omega)] at k; exact k
  · rw [decide_eq_true h] at k; exact k
theorem xw_clHyp {post : SX → Prop} (hI : ab_I c) (hR : rx_R c c.N (fC, fV, fH, fP, fsl, fll, ftl, fpl, fN, fS, fh, fe, ft, fr, aSy, aLb, aLt, aPf, aGv, aKd, aLv, aLn, aVr, aSt, aHc, aHs, aPr, aRm, aTl, aAr, aPl, aSk, aEl, aEs, aEp, aEx, aTs, aTn, aTb, aTz, aTp, aAs, aAl, aAv, aRe)) (k : post (fC, fV, fH, fP, fsl, fll, ftl, fpl, fN, fS, fh, fe, ft, fr, aSy, aLb, aLt, aPf, aGv, aKd, cl_L c aLv c.N, aLn, aVr, aSt, aHc, aHs, aPr, aRm, cl_T c aTl c.N, aAr, aPl, aSk, aEl, aEs, aEp, aEx, aTs, aTn, aTb, aTz, aTp, aAs, aAl, aAv, aRe)) : wpX_closeHypotheses post (fC, fV, fH, fP, fsl, fll, ftl, fpl, fN, fS, fh, fe, ft, fr, aSy, aLb, aLt, aPf, aGv, aKd, aLv, aLn, aVr, aSt, aHc, aHs, aPr, aRm, aTl, aAr, aPl, aSk, aEl, aEs, aEp, aEx, aTs, aTn, aTb, aTz, aTp, aAs, aAl, aAv, aRe) (nI c.S) := by
  obtain ⟨z1, z2, z3, z4, z5, z6, z7, z8, z9, z10⟩ := hI.1
  obtain ⟨hf, hsy, hlb, hlt, hpf, hkd, hlv, hst, hvr, hhs, hpr, hrm, htl, har, hpl⟩ := hR
  unfold wpX_closeHypotheses
  have key : ∃ n, wX_closeHypotheses_2 post (nI c.S) fC fV fH fP fsl fll ftl fpl fN fS fh fe ft fr n (nI 0) aSy aLb aLt aPf aGv aKd (cl_L c aLv 0) aLn aVr aSt aHc aHs aPr aRm (cl_T c aTl 0) aAr aPl aSk aEl aEs aEp aEx aTs aTn aTb aTz aTp aAs aAl aAv aRe := by
    refine zb_count (fun n j => wX_closeHypotheses_2 post (nI c.S) fC fV fH fP fsl fll ftl fpl fN fS fh fe ft fr n (nI j) aSy aLb aLt aPf aGv aKd (cl_L c aLv j) aLn aVr aSt aHc aHs aPr aRm (cl_T c aTl j) aAr aPl aSk aEl aEs aEp aEx aTs aTn aTb aTz aTp aAs aAl aAv aRe) c.N ?_ ?_
    · intro m j hj w
      have ho := hI.2.2.1 j hj
      have hk4 := ho.2.1
      have hl4 := ho.2.2.2.2.2.2.2
      have hLj : cl_L c aLv j j = c.lev j := by
        unfold cl_L
        rw [if_neg (fun z => Nat.lt_irrefl j z.1)]
        exact hlv j hj
      refine pk_le c.N j (fun h => absurd h (by omega)) (fun _ => ?_) hf.2.2.2.2.1 rfl
      refine xw_isHyp2 hf.2.2.2.2.1 hkd z9 hk4 hj (zb_br (fun q => ?_) (fun q => ?_))
      · rw [decide_eq_false_iff_not] at q
        have hc : cl_c c j = false := by
          rw [Bool.eq_false_iff]
          exact fun z => q (cl_ci.mp z).1
        rw [cl_LK hc, cl_TK (fun z => by rw [hc] at z; exact absurd z.1 (by decide))] at w
        exact nm_r (nI_1 j) w
      · rw [decide_eq_true_iff] at q
        refine And.intro (vp_in_nI (by omega) (by omega)) ?_
        rw [nI_clamp (by omega), hLj, cl_lev z10 hl4 q]
        refine br_c (fun hc => And.intro (vp_in_nI (by omega) (by omega)) ?_) (fun hc => ?_)
        · refine nm_r (cl_LS hc) (And.intro (vp_in_nI (by omega) (by omega)) ?_)
          rw [hkd j hj]
          refine pk_eq (c.kd j) 1 (fun q1 => ?_) (fun q1 => ?_) rfl rfl (by omega) (by omega)
          · obtain ⟨h2, hC⟩ := ho.2.2.2.2.2.2.1 q1
            have hv : c.var j < c.C + c.V := ho.2.2.2.2.2.1 _ (zb_gm (by omega))
            refine And.intro (pk_in (j * 10 + 1) 240 (by omega) (zb_z10 j)) ?_
            refine nm_r (e' := nI (c.var j - c.C)) (by rw [zb_d10 j (by omega), (hst j hj).2 1 (by omega), hf.1]; exact pk_sub hC) ?_
            refine And.intro (vp_in_nI (by omega) (by omega)) (nm_r (e' := cl_T c aTl (j + 1)) (by rw [nI_clamp (by omega), cl_TS hc q1 hC]) (nm_r (nI_1 j) w))
          · rw [cl_TK (fun z => q1 z.2)] at w
            exact nm_r (nI_1 j) w
        · rw [Bool.not_eq_true] at hc
          rw [cl_LK hc, cl_TK (fun z => by rw [hc] at z; exact absurd z.1 (by decide))] at w
          exact nm_r (nI_1 j) w
    · intro m
      exact pk_le c.N c.N (fun _ => k) (fun h => absurd h (by omega)) hf.2.2.2.2.1 rfl
  rw [cl_L0, cl_T0] at key
  exact key
theorem xw_clPairs {post : SX → Prop} (k : post (fC, fV, fH, fP, fsl, fll, ftl, fpl, fN, fS, fh, fe, ft, fr, aSy, aLb, aLt, aPf, aGv, aKd, aLv, aLn, aVr, aSt, aHc, aHs, aPr, aRm, aTl, cl_A c aAr aPl 8 0, cl_P c aPl 64, aSk, aEl, aEs, aEp, aEx, aTs, aTn, aTb, aTz, aTp, aAs, aAl, aAv, aRe)) : wpX_closePairs post (fC, fV, fH, fP, fsl, fll, ftl, fpl, fN, fS, fh, fe, ft, fr, aSy, aLb, aLt, aPf, aGv, aKd, aLv, aLn, aVr, aSt, aHc, aHs, aPr, aRm, aTl, aAr, aPl, aSk, aEl, aEs, aEp, aEx, aTs, aTn, aTb, aTz, aTp, aAs, aAl, aAv, aRe) (nI c.S) := by
  unfold wpX_closePairs
  have key : ∃ n, wX_closePairs_2 post (nI c.S) fC fV fH fP fsl fll ftl fpl fN fS fh fe ft fr n (nI 0) aSy aLb aLt aPf aGv aKd aLv aLn aVr aSt aHc aHs aPr aRm aTl (cl_A c aAr aPl 0 0) (cl_P c aPl (0 * 8)) aSk aEl aEs aEp aEx aTs aTn aTb aTz aTp aAs aAl aAv aRe := by
    refine zb_count (fun n v => wX_closePairs_2 post (nI c.S) fC fV fH fP fsl fll ftl fpl fN fS fh fe ft fr n (nI v) aSy aLb aLt aPf aGv aKd aLv aLn aVr aSt aHc aHs aPr aRm aTl (cl_A c aAr aPl v 0) (cl_P c aPl (v * 8)) aSk aEl aEs aEp aEx aTs aTn aTb aTz aTp aAs aAl aAv aRe) 8 ?_ ?_
    · intro m v hv w
      refine pk_le 8 v (fun h => absurd h (by omega)) (fun _ => ?_)
      refine zb_count (fun n x => wX_closePairs_10 post (wX_closePairs_2 post (nI c.S) fC fV fH fP fsl fll ftl fpl fN fS fh fe ft fr m) (nI c.S) (nI v) fC fV fH fP fsl fll ftl fpl fN fS fh fe ft fr n (nI x) aSy aLb aLt aPf aGv aKd aLv aLn aVr aSt aHc aHs aPr aRm aTl (cl_A c aAr aPl v x) (cl_P c aPl (v * 8 + x)) aSk aEl aEs aEp aEx aTs aTn aTb aTz aTp aAs aAl aAv aRe) 8 ?_ ?_
      · intro m2 x hx w2
        have i1 : vp_in (nI v * 8 + nI x) 64 := pk_in (v * 8 + x) 64 (by omega) (zb_x8 v x)
        have e1 : cl_P c aPl (v * 8 + x) (v * 8 + x) = aPl (v * 8 + x) := if_neg (fun z => Nat.lt_irrefl _ z.1)
        refine pk_le 8 x (fun h => absurd h (by omega)) (fun _ => And.intro i1 ?_)
        rw [zb_c8 v x (by omega), e1]
        refine br_c (fun q => And.intro i1 ?_) (fun q => ?_)
        · refine nm_r (cl_PS q) ?_
          refine And.intro (vp_in_nI hv (by omega)) (And.intro (vp_in_nI hv (by omega)) (nm_r (e' := cl_A c aAr aPl v (x + 1)) (by rw [nI_clamp (by omega), cl_AS q]) (nm_r (nI_1 x) w2)))
        · rw [show v * 8 + (x + 1) = v * 8 + x + 1 by omega, cl_PK q, cl_AK q] at w2
          exact nm_r (nI_1 x) w2
      · intro m2
        refine pk_le 8 8 (fun _ => nm_r (nI_1 v) ?_) (fun h => absurd h (by omega))
        rw [cl_AN, show v * 8 + 8 = (v + 1) * 8 by omega]
        exact w
    · intro m
      exact pk_le 8 8 (fun _ => k) (fun h => absurd h (by omega))
  rw [Nat.zero_mul, cl_P0, cl_A0] at key
  exact key
end
def cl_D (c : ab_W) (a : Nat → Int32) (j : Nat) : Nat → Int32 := fun i => if i < j ∧ cl_c c i = true then nI c.N else a i
def cl_Q (c : ab_W) (a : Nat → Int32) (k : Nat) : Nat → Int32 := fun i => if i < k ∧ a i = nI (c.S + 1) then 0 else a i
theorem cl_D0 (c : ab_W) (a : Nat → Int32) : cl_D c a 0 = a := funext fun i => if_neg (fun h => Nat.not_lt_zero i h.1)
theorem cl_Q0 (c : ab_W) (a : Nat → Int32) : cl_Q c a 0 = a := funext fun i => if_neg (fun h => Nat.not_lt_zero i h.1)
theorem cl_DS {c : ab_W} {a : Nat → Int32} {j : Nat} (h : cl_c c j = true) : upd (cl_D c a j) j (nI c.N) = cl_D c a (j + 1) := by
  funext i
  unfold upd cl_D
  by_cases q : i = j
  · rw [if_pos q, q, if_pos ⟨Nat.lt_succ_self j, h⟩]
  · rw [if_neg q]
    by_cases q2 : i < j ∧ cl_c c i = true
    · rw [if_pos q2, if_pos ⟨by omega, q2.2⟩]
    · rw [if_neg q2, if_neg (fun z => q2 ⟨by omega, z.2⟩)]
theorem cl_DK {c : ab_W} {a : Nat → Int32} {j : Nat} (h : ¬ cl_c c j = true) : cl_D c a (j + 1) = cl_D c a j := by
  funext i
  unfold cl_D
  by_cases q2 : i < j ∧ cl_c c i = true
  · rw [if_pos q2, if_pos ⟨by omega, q2.2⟩]
  · rw [if_neg q2, if_neg (fun z => by
      by_cases q : i = j
      · rw [q] at z; exact h z.2
      · exact q2 ⟨by omega, z.2⟩)]
theorem cl_QS {c : ab_W} {a : Nat → Int32} {k : Nat} (h : a k = nI (c.S + 1)) : upd (cl_Q c a k) k 0 = cl_Q c a (k + 1) := by
  funext i
  unfold upd cl_Q
  by_cases q : i = k
  · rw [if_pos q, q, if_pos ⟨Nat.lt_succ_self k, h⟩]
  · rw [if_neg q]
    by_cases q2 : i < k ∧ a i = nI (c.S + 1)
    · rw [if_pos q2, if_pos ⟨by omega, q2.2⟩]
    · rw [if_neg q2, if_neg (fun z => q2 ⟨by omega, z.2⟩)]
theorem cl_QK {c : ab_W} {a : Nat → Int32} {k : Nat} (h : ¬ a k = nI (c.S + 1)) : cl_Q c a (k + 1) = cl_Q c a k := by
  funext i
  unfold cl_Q
  by_cases q2 : i < k ∧ a i = nI (c.S + 1)
  · rw [if_pos q2, if_pos ⟨by omega, q2.2⟩]
  · rw [if_neg q2, if_neg (fun z => by
      by_cases q : i = k
      · rw [q] at z; exact h z.2
      · exact q2 ⟨by omega, z.2⟩)]
theorem yw_close {c : ab_W} {post : Int32 → SY → Prop} {gC gA gH gP gN gS gx gd go : Int32} {bKd bLn bLv bSt bCa bPl bSn bPf bPn bLs bLe bGv bXs bSk bSl bOu bAs bTb bTn : Nat → Int32} (hI : ab_I c) (hR : ry_R c c.N (gC, gA, gH, gP, gN, gS, gx, gd, go, bKd, bLn, bLv, bSt, bCa, bPl, bSn, bPf, bPn, bLs, bLe, bGv, bXs, bSk, bSl, bOu, bAs, bTb, bTn)) (hS : 1 ≤ c.S) (k : post (nI (c.S - 1)) (gC, gA, gH, gP, gN, nI (c.S - 1), gx, gd, go, bKd, bLn, bLv, bSt, cl_D c bCa c.N, cl_Q c bPl 256, bSn, bPf, bPn, bLs, bLe, bGv, bXs, bSk, bSl, bOu, bAs, bTb, bTn)) : wpY_close post (gC, gA, gH, gP, gN, gS, gx, gd, go, bKd, bLn, bLv, bSt, bCa, bPl, bSn, bPf, bPn, bLs, bLe, bGv, bXs, bSk, bSl, bOu, bAs, bTb, bTn) := by
  obtain ⟨z1, z2, z3, z4, z5, z6, z7, z8, z9, z10⟩ := hI.1
  obtain ⟨hf, hsy, hlb, hlt, hkd, hlv, hst, hca, hpl, hsn, hpf⟩ := hR
  have eS : gS = nI c.S := hf.2.2.2.2.2
  refine pk_eq c.S 0 (fun h => absurd h (by omega)) (fun _ => ?_) eS rfl
  have key : ∃ n, wY_close_12 post gC gA gH gP gN gS gx gd go n (nI 0) bKd bLn bLv bSt (cl_D c bCa 0) bPl bSn bPf bPn bLs bLe bGv bXs bSk bSl bOu bAs bTb bTn := by
    refine zb_count (fun n j => wY_close_12 post gC gA gH gP gN gS gx gd go n (nI j) bKd bLn bLv bSt (cl_D c bCa j) bPl bSn bPf bPn bLs bLe bGv bXs bSk bSl bOu bAs bTb bTn) c.N ?_ ?_
    · intro m j hj w
      have ho := hI.2.2.1 j hj
      have hk4 := ho.2.1
      have hl4 := ho.2.2.2.2.2.2.2
      have hcb := hI.2.2.2.1.1 j
      have i1 : vp_in (nI j) 24 := vp_in_nI (by omega) (by omega)
      have e1 : cl_D c bCa j j = nI (c.ca j) := by
        unfold cl_D
        rw [if_neg (fun z => Nat.lt_irrefl j z.1)]
        exact hca j (by omega)
      refine pk_le c.N j (fun h => absurd h (by omega)) (fun _ => And.intro i1 ?_) hf.2.2.2.2.1 rfl
      rw [nI_clamp (by omega), hkd j hj]
      refine pk_lt 2 (c.kd j) (fun q => ?_) (fun q => And.intro i1 ?_)
      · rw [cl_DK (fun z => by have := (cl_ci.mp z).1; omega)] at w
        exact nm_r (nI_1 j) w
      · rw [e1]
        refine pk_eq (c.ca j) 0 (fun q2 => And.intro i1 ?_) (fun q2 => ?_) rfl rfl (by omega) (by omega)
        · rw [hlv j hj]
          refine pk_eq (c.lv j) c.S (fun q3 => And.intro i1 ?_) (fun q3 => ?_) rfl eS (by omega) (by omega)
          · exact nm_r (e' := cl_D c bCa (j + 1)) (by rw [hf.2.2.2.2.1, cl_DS (cl_ci.mpr ⟨q, q2, q3⟩)]) (nm_r (nI_1 j) w)
          · rw [cl_DK (fun z => q3 (cl_ci.mp z).2.2)] at w
            exact nm_r (nI_1 j) w
        · rw [cl_DK (fun z => q2 (cl_ci.mp z).2.1)] at w
          exact nm_r (nI_1 j) w
    · intro m
      refine pk_le c.N c.N (fun _ => ?_) (fun h => absurd h (by omega)) hf.2.2.2.2.1 rfl
      have key2 : ∃ n, wY_close_70 post gC gA gH gP gN gS gx gd go n (nI 0) bKd bLn bLv bSt (cl_D c bCa c.N) (cl_Q c bPl 0) bSn bPf bPn bLs bLe bGv bXs bSk bSl bOu bAs bTb bTn := by
        refine zb_count (fun n j => wY_close_70 post gC gA gH gP gN gS gx gd go n (nI j) bKd bLn bLv bSt (cl_D c bCa c.N) (cl_Q c bPl j) bSn bPf bPn bLs bLe bGv bXs bSk bSl bOu bAs bTb bTn) 256 ?_ ?_
        · intro m j hj w
          have i1 : vp_in (nI j) 256 := vp_in_nI (by omega) (by omega)
          have e1 : cl_Q c bPl j j = bPl j := if_neg (fun z => Nat.lt_irrefl j z.1)
          refine pk_le 256 j (fun h => absurd h (by omega)) (fun _ => And.intro i1 ?_)
          rw [nI_clamp (by omega), e1, eS, nI_1]
          refine br_c (fun q => And.intro i1 (nm_r (cl_QS q) (nm_r (nI_1 j) ?_))) (fun q => nm_r (nI_1 j) ?_)
          · rw [eS] at w; exact w
          · rw [cl_QK q, eS] at w; exact w
        · intro m
          refine pk_le 256 256 (fun _ => ?_) (fun h => absurd h (by omega))
          exact nm_r (e' := nI (c.S - 1)) (by rw [eS]; exact pk_sub (b := 1) hS) k
      rw [cl_Q0] at key2
      exact key2
  rw [cl_D0] at key
  exact key
theorem zz_clX {c : ab_W} {fC fV fH fP fsl fll ftl fpl fN fS fh fe ft fr : Int32} {aSy aLb aLt aPf aGv aKd aLv aLn aVr aSt aHc aHs aPr aRm aTl aAr aPl aSk aEl aEs aEp aEx aTs aTn aTb aTz aTp aAs aAl aAv aRe : Nat → Int32} (hI : ab_I c) (hS : 1 ≤ c.S) (hR : rx_R c c.N (fC, fV, fH, fP, fsl, fll, ftl, fpl, fN, fS, fh, fe, ft, fr, aSy, aLb, aLt, aPf, aGv, aKd, aLv, aLn, aVr, aSt, aHc, aHs, aPr, aRm, aTl, aAr, aPl, aSk, aEl, aEs, aEp, aEx, aTs, aTn, aTb, aTz, aTp, aAs, aAl, aAv, aRe)) : rx_R (ab_clo c) c.N (fC, fV, fH, fP, fsl, fll, ftl, fpl, fN, nI (c.S - 1), fh, fe, ft, fr, aSy, aLb, aLt, aPf, aGv, aKd, cl_L c aLv c.N, aLn, aVr, aSt, aHc, aHs, aPr, aRm, cl_T c aTl c.N, cl_A c aAr aPl 8 0, cl_P c aPl 64, aSk, aEl, aEs, aEp, aEx, aTs, aTn, aTb, aTz, aTp, aAs, aAl, aAv, aRe) := by
  obtain ⟨z1, z2, z3, z4, z5, z6, z7, z8, z9, z10⟩ := hI.1
  obtain ⟨hf, hsy, hlb, hlt, hpf, hkd, hlv, hst, hvr, hhs, hpr, hrm, htl, har, hpl⟩ := hR
  have hcc : ∀ j, j < c.N → ((ab_clo c).ca j = 0 ↔ c.ca j = 0 ∧ ¬ cl_c c j = true) := by
    intro j hj
    rw [ab_clo_ca hj, cl_ci]
    constructor
    · intro h; exact ⟨h.1, fun z => h.2 ⟨z.1, z.2.2⟩⟩
    · intro h; exact ⟨h.1, fun z => h.2 ⟨z.1, h.1, z.2⟩⟩
  have hPe : ∀ v w, v < 8 → w < 8 → (aPl (v * 8 + w) = nI c.S ↔ c.pl (c.C + v) (c.C + w) = c.S + 1) := by
    intro v w hv hw
    have hb := hI.2.2.2.2.2.2.2.1.2.1 (c.C + v) (c.C + w)
    rw [hpl v w hv hw]
    by_cases q : c.pl (c.C + v) (c.C + w) = 0
    · rw [if_pos q]
      constructor
      · intro z
        exfalso
        have : (nI c.S).toInt = -21 := by rw [← z]; rfl
        rw [nI_toInt (by omega)] at this
        omega
      · intro z; omega
    · rw [if_neg q, nI_eq (by omega) (by omega)]
      omega
  refine And.intro ⟨hf.1, hf.2.1, hf.2.2.1, hf.2.2.2.1, hf.2.2.2.2.1, rfl⟩ (And.intro hsy (And.intro hlb (And.intro hlt (And.intro hpf (And.intro hkd (And.intro ?_ (And.intro hst (And.intro hvr (And.intro ?_ (And.intro ?_ (And.intro hrm (And.intro ?_ (And.intro ?_ ?_)))))))))))))
  · intro j hj
    have hj : j < c.N := hj
    show cl_L c aLv c.N j = (ab_clo c).lev j
    unfold cl_L ab_W.lev
    show (if j < c.N ∧ cl_c c j = true then -21 else aLv j) = if 3 ≤ c.kd j then 0 else if (ab_clo c).ca j = 0 then nI (c.lv j) else -21
    have hc := hcc j hj
    by_cases q : cl_c c j = true
    · rw [if_pos ⟨hj, q⟩, if_neg (by have := (cl_ci.mp q).1; omega), if_neg (fun z => (hc.mp z).2 q)]
    · rw [if_neg (fun z => q z.2), hlv j hj]
      unfold ab_W.lev
      by_cases q1 : 3 ≤ c.kd j
      · rw [if_pos q1, if_pos q1]
      · rw [if_neg q1, if_neg q1]
        by_cases q2 : c.ca j = 0
        · rw [if_pos q2, if_pos (hc.mpr ⟨q2, q⟩)]
        · rw [if_neg q2, if_neg (fun z => q2 (hc.mp z).1)]
  · intro x hx hk
    rw [ab_clo_hs hx]
    exact hhs x hx hk
  · intro x hx hk v hv
    refine zb_MKe (hpr x hx hk v hv) (fun w _ => ?_)
    exact (ab_clo_fp hx).symm
  · intro v hv
    show cl_T c aTl c.N v = -1 ↔ (ab_clo c).ht (c.C + v) = false
    have h0 := htl v hv
    have e : (ab_clo c).ht (c.C + v) = true ↔ c.ht (c.C + v) = true ∧ ¬ cl_t c c.N v = true := by
      constructor
      · intro z
        obtain ⟨j, h1, h2, h3, h4⟩ := ab_ht_i.mp z
        have h1 : j < c.N := h1
        have h3 := (hcc j h1).mp h3
        refine ⟨ab_ht_i.mpr ⟨j, h1, h2, h3.1, h4⟩, fun w => ?_⟩
        obtain ⟨i, g1, g2, g3, g4⟩ := cl_ti.mp w
        have := hI.2.2.2.2.1 i j g1 h1 g3 h2 (cl_ci.mp g2).2.1 h3.1 (by rw [g4]; exact h4.symm)
        rw [this] at g2
        exact h3.2 g2
      · intro z
        obtain ⟨j, h1, h2, h3, h4⟩ := ab_ht_i.mp z.1
        refine ab_ht_i.mpr ⟨j, h1, h2, (hcc j h1).mpr ⟨h3, fun w => z.2 (cl_ti.mpr ⟨j, h1, w, h2, h4⟩)⟩, h4⟩
    unfold cl_T
    rw [← Bool.not_eq_true, e]
    by_cases q : cl_t c c.N v = true
    · rw [if_pos q]
      exact ⟨fun _ z => z.2 q, fun _ => rfl⟩
    · rw [if_neg q, h0, ← Bool.not_eq_true]
      exact ⟨fun h z => h z.1, fun h z => h ⟨z, q⟩⟩
  · intro v hv
    show zb_MK (cl_A c aAr aPl 8 0 v) (fun w => decide (ab_clP c (c.C + v) (c.C + w) ≠ 0))
    unfold cl_A
    rw [if_pos hv]
    have ind : ∀ x, x ≤ 8 → zb_MK (cl_a c aAr aPl v x) (fun w => decide ((if w < x then ab_clP c (c.C + v) (c.C + w) else c.pl (c.C + v) (c.C + w)) ≠ 0)) := by
      intro x
      induction x with
      | zero =>
        intro _
        refine zb_MKe (har v hv) (fun w _ => ?_)
        rw [if_neg (Nat.not_lt_zero w)]
      | succ x ih =>
        intro hx
        have ih := ih (by omega)
        show zb_MK (if aPl (v * 8 + x) = nI c.S then cl_a c aAr aPl v x &&& ((1 : Int32) <<< (nI x &&& 31) ^^^ (-1)) else cl_a c aAr aPl v x) _
        by_cases q : aPl (v * 8 + x) = nI c.S
        · rw [if_pos q]
          have q' := (hPe v x hv (by omega)).mp q
          refine zb_MKe (zb_MKand ih (zb_MKn (zb_MKs (by omega)))) (fun w _ => ?_)
          by_cases q1 : w = x
          · rw [q1, if_neg (Nat.lt_irrefl x), if_pos (Nat.lt_succ_self x), decide_eq_true rfl]
            unfold ab_clP
            rw [if_pos q']
            simp
          · rw [decide_eq_false q1]
            by_cases q2 : w < x
            · rw [if_pos q2, if_pos (by omega)]; simp
            · rw [if_neg q2, if_neg (by omega)]; simp
        · rw [if_neg q]
          have q' : ¬ c.pl (c.C + v) (c.C + x) = c.S + 1 := fun z => q ((hPe v x hv (by omega)).mpr z)
          refine zb_MKe ih (fun w _ => ?_)
          by_cases q1 : w = x
          · rw [q1, if_neg (Nat.lt_irrefl x), if_pos (by omega)]
            unfold ab_clP
            rw [if_neg q']
          · by_cases q2 : w < x
            · rw [if_pos q2, if_pos (by omega)]
            · rw [if_neg q2, if_neg (by omega)]
    refine zb_MKe (ind 8 (Nat.le_refl _)) (fun w _ => ?_)
    by_cases q : w < 8
    · rw [if_pos q]
    · rw [if_neg q]
      have h0 : c.pl (c.C + v) (c.C + w) = 0 := by
        by_cases z : c.pl (c.C + v) (c.C + w) = 0
        · exact z
        · have := hI.2.2.2.2.2.2.2.1.2.2 (c.C + v) (c.C + w) z
          omega
      unfold ab_clP
      rw [h0, if_neg (by omega)]
  · intro v w hv hw
    show cl_P c aPl 64 (v * 8 + w) = if ab_clP c (c.C + v) (c.C + w) = 0 then -21 else nI (ab_clP c (c.C + v) (c.C + w) - 1)
    unfold cl_P ab_clP
    have hp := hPe v w hv hw
    by_cases q : aPl (v * 8 + w) = nI c.S
    · rw [if_pos ⟨by omega, q⟩, if_pos (hp.mp q), if_pos rfl]
    · rw [if_neg (fun z => q z.2), if_neg (fun z => q (hp.mpr z))]
      exact hpl v w hv hw
theorem zz_clY {c : ab_W} {gC gA gH gP gN gS gx gd go : Int32} {bKd bLn bLv bSt bCa bPl bSn bPf bPn bLs bLe bGv bXs bSk bSl bOu bAs bTb bTn : Nat → Int32} (hI : ab_I c) (hS : 1 ≤ c.S) (hR : ry_R c c.N (gC, gA, gH, gP, gN, gS, gx, gd, go, bKd, bLn, bLv, bSt, bCa, bPl, bSn, bPf, bPn, bLs, bLe, bGv, bXs, bSk, bSl, bOu, bAs, bTb, bTn)) : ry_R (ab_clo c) c.N (gC, gA, gH, gP, gN, nI (c.S - 1), gx, gd, go, bKd, bLn, bLv, bSt, cl_D c bCa c.N, cl_Q c bPl 256, bSn, bPf, bPn, bLs, bLe, bGv, bXs, bSk, bSl, bOu, bAs, bTb, bTn) := by
  obtain ⟨z1, z2, z3, z4, z5, z6, z7, z8, z9, z10⟩ := hI.1
  obtain ⟨hf, hsy, hlb, hlt, hkd, hlv, hst, hca, hpl, hsn, hpf⟩ := hR
  refine And.intro ⟨hf.1, hf.2.1, hf.2.2.1, hf.2.2.2.1, hf.2.2.2.2.1, rfl⟩ (And.intro hsy (And.intro hlb (And.intro hlt (And.intro hkd (And.intro hlv (And.intro hst (And.intro ?_ (And.intro ?_ (And.intro hsn hpf)))))))))
  · intro j hj
    show cl_D c bCa c.N j = nI (ab_clC c j)
    unfold cl_D ab_clC
    by_cases q : j < c.N ∧ cl_c c j = true
    · rw [if_pos q, if_pos ⟨q.1, cl_ci.mp q.2⟩]
    · rw [if_neg q, if_neg (fun z => q ⟨z.1, cl_ci.mpr z.2⟩)]
      exact hca j hj
  · intro s t hs ht
    have hb := hI.2.2.2.2.2.2.2.1.2.1 s t
    show cl_Q c bPl 256 (s * 16 + t) = nI (ab_clP c s t)
    unfold cl_Q ab_clP
    rw [hpl s t hs ht]
    by_cases q : c.pl s t = c.S + 1
    · rw [if_pos ⟨by omega, congrArg nI q⟩, if_pos q]; rfl
    · rw [if_neg (fun z => q ((nI_eq (by omega) (by omega)).mp z.2)), if_neg q]
theorem i_vc_close {k : Nat} {u : SX} {v : SY} (I : i_Rel k u v) (hk : k + 5 ≤ 2564) : wpX_close (fun r u' => wpY_close (fun r' v' => r' = r ∧ i_Rel (k + 5) u' v') v) u := by
  refine zz_el (P := fun u v => wpX_close (fun r u' => wpY_close (fun r' v' => r' = r ∧ i_Rel (k + 5) u' v') v) u) ?_ I
  intro fC fV fH fP fsl fll ftl fpl fN fS fh fe ft fr aSy aLb aLt aPf aGv aKd aLv aLn aVr aSt aHc aHs aPr aRm aTl aAr aPl aSk aEl aEs aEp aEx aTs aTn aTb aTz aTp aAs aAl aAv aRe gC gA gH gP gN gS gx gd go bKd bLn bLv bSt bCa bPl bSn bPf bPn bLs bLe bGv bXs bSk bSl bOu bAs bTb bTn c hI hX hY
  have rel : i_Rel (k + 5) (fC, fV, fH, fP, fsl, fll, ftl, fpl, fN, fS, fh, fe, ft, fr, aSy, aLb, aLt, aPf, aGv, aKd, aLv, aLn, aVr, aSt, aHc, aHs, aPr, aRm, aTl, aAr, aPl, aSk, aEl, aEs, aEp, aEx, aTs, aTn, aTb, aTz, aTp, aAs, aAl, aAv, aRe) (gC, gA, gH, gP, gN, gS, gx, gd, go, bKd, bLn, bLv, bSt, bCa, bPl, bSn, bPf, bPn, bLs, bLe, bGv, bXs, bSk, bSl, bOu, bAs, bTb, bTn) := ⟨c, hI, hX, hY⟩
  obtain ⟨z1, z2, z3, z4, z5, z6, z7, z8, z9, z10⟩ := hI.1
  have eS : fS = nI c.S := hX.1.2.2.2.2.2
  refine pk_eq c.S 0 (fun h => ?_) (fun h => ?_) eS rfl
  · exact br_t (by rw [hY.1.2.2.2.2.2, h]; rfl) ⟨rfl, rel⟩
  · rw [eS]
    refine xw_clHyp hI (eS ▸ hX) ?_
    refine xw_clPairs ?_
    refine nm_r (e' := nI (c.S - 1)) (pk_sub (b := 1) (by omega)) ?_
    refine yw_close hI hY (by omega) ⟨rfl, ab_clo c, ab_clo_I hI (by omega), zz_clX hI (by omega) hX, zz_clY hI (by omega) hY⟩
end
section
/-! the component adds a statement made of SYMBOLS -/
section
variable {c : ab_W} {fC fV fH fP fsl fll ftl fpl fN fS fh fe ft fr : Int32} {aSy aLb aLt aPf aGv aKd aLv aLn aVr aSt aHc aHs aPr aRm aTl aAr aPl aSk aEl aEs aEp aEx aTs aTn aTb aTz aTp aAs aAl aAv aRe : Nat → Int32}
theorem xw_varBit2 {post : Int32 → Prop} {s : Nat} (hI : ab_I c) (hC : fC = nI c.C) (hs : s < c.C + c.V) (k : ∀ m, zb_MK m (fun v => decide (c.C + v = s)) → post m) : wpX_variableBit post (fC, fV, fH, fP, fsl, fll, ftl, fpl, fN, fS, fh, fe, ft, fr, aSy, aLb, aLt, aPf, aGv, aKd, aLv, aLn, aVr, aSt, aHc, aHs, aPr, aRm, aTl, aAr, aPl, aSk, aEl, aEs, aEp, aEx, aTs, aTn, aTb, aTz, aTp, aAs, aAl, aAv, aRe) (nI s) := by
  obtain ⟨z1, z2, z3, z4, _⟩ := hI.1
  refine pk_le c.C s (fun h => ?_) (fun h => ?_) hC rfl
  · refine k _ ?_
    rw [hC, pk_sub h]
    refine zb_MKe (zb_MKs (by omega)) (fun i _ => ?_)
    rw [decide_eq_decide]; omega
  · refine k _ (zb_MKe zb_MK0 (fun i _ => ?_))
    rw [decide_eq_false (by omega)]
theorem xw_symVars2 {post : Int32 → Prop} (hI : ab_I c) (hC : fC = nI c.C) (hsy : rx_l fsl aSy 0 c.sl) (k : ∀ m, zb_MK m (fun v => decide (c.C + v ∈ c.sl)) → post m) : wpX_symbolVars post (fC, fV, fH, fP, fsl, fll, ftl, fpl, fN, fS, fh, fe, ft, fr, aSy, aLb, aLt, aPf, aGv, aKd, aLv, aLn, aVr, aSt, aHc, aHs, aPr, aRm, aTl, aAr, aPl, aSk, aEl, aEs, aEp, aEx, aTs, aTn, aTb, aTz, aTp, aAs, aAl, aAv, aRe) := by
  have hl := hI.2.1
  have hl1 : c.sl.length ≤ 10 := hl.1
  have key : ∀ d i m, i + d = c.sl.length → zb_MK m (fun v => decide (c.C + v ∈ c.sl.take i)) → wX_symbolVars_4 post fC fV fH fP fsl fll ftl fpl fN fS fh fe ft fr aSy aLb aLt aPf aGv aKd aLv aLn aVr aSt aHc aHs aPr aRm aTl aAr aPl aSk aEl aEs aEp aEx aTs aTn aTb aTz aTp aAs aAl aAv aRe (d + 1) m (nI i) := by
    intro d
    induction d with
    | zero =>
      intro i m hi hm
      have e : c.sl.take i = c.sl := List.take_of_length_le (by omega)
      rw [e] at hm
      exact pk_le c.sl.length i (fun _ => k m hm) (fun h => absurd h (by omega)) hsy.1 rfl (by omega) (by omega)
    | succ d ih =>
      intro i m hi hm
      have hlt : i < c.sl.length := by omega
      refine pk_le c.sl.length i (fun h => absurd h (by omega)) (fun _ => ?_) hsy.1 rfl (by omega) (by omega)
      refine ⟨vp_in_nI (by omega) (by omega), ?_⟩
      rw [nI_clamp (by omega), show aSy i = nI (c.sl.getD i 0) from by have := hsy.2 i hlt; rwa [Nat.zero_add] at this]
      refine xw_varBit2 hI hC (hl.2.2.2.1 _ (zb_gm hlt)) (fun m2 h2 => ?_)
      refine nm_e (nm_r (nI_1 i) (ih (i + 1) _ (by omega) ?_))
      refine zb_MKe (zb_MKor hm h2) (fun v _ => ?_)
      rw [← Bool.decide_or, decide_eq_decide, zb_take1 hlt]
  unfold wpX_symbolVars
  refine ⟨c.sl.length + 1, ?_⟩
  exact key c.sl.length 0 0 (by omega) (zb_MKe zb_MK0 (fun v _ => by rw [decide_eq_false (by simp)]))
theorem xw_addFS {post : Int32 → SX → Prop} {p0 p1 : Int32} (hI : ab_I c) (h24 : c.N < 24) (hC : fC = nI c.C) (eN : fN = nI c.N) (hsy : rx_l fsl aSy 0 c.sl) (k : ∀ m, zb_MK m (fun v => decide (c.C + v ∈ c.sl)) → post (nI c.N) (fC, fV, fH, fP, 0, fll, ftl, fpl, nI (c.N + 1), fS, fh, fe, ft, fr, aSy, aLb, aLt, aPf, aGv, upd aKd c.N p0, upd aLv c.N p1, upd aLn c.N (nI c.sl.length), upd aVr c.N m, zb_cp aSt (c.N * 10) aSy c.sl.length, aHc, aHs, aPr, aRm, aTl, aAr, aPl, aSk, aEl, aEs, aEp, aEx, aTs, aTn, aTb, aTz, aTp, aAs, aAl, aAv, aRe)) : wpX_addFromSymbols post (fC, fV, fH, fP, fsl, fll, ftl, fpl, fN, fS, fh, fe, ft, fr, aSy, aLb, aLt, aPf, aGv, aKd, aLv, aLn, aVr, aSt, aHc, aHs, aPr, aRm, aTl, aAr, aPl, aSk, aEl, aEs, aEp, aEx, aTs, aTn, aTb, aTz, aTp, aAs, aAl, aAv, aRe) p0 p1 := by
  have hl1 : c.sl.length ≤ 10 := hI.2.1.1
  have hin : vp_in fN 24 := pk_in c.N 24 h24 eN
  have hu : ∀ {a : Nat → Int32} {v w : Int32}, v = w → upd a fN.toNatClampNeg v = upd a c.N w := fun e => zb_up c.N eN e
  refine And.intro hin (nm_r (hu rfl) (And.intro hin (nm_r (hu rfl) (And.intro hin (nm_r (hu hsy.1) ?_)))))
  refine xw_symVars2 hI hC hsy (fun m hm => And.intro hin (nm_r (hu rfl) ?_))
  have key : ∃ n, wX_addFromSymbols_42 post (nI c.N) fC fV fH fP fsl fll ftl fpl fN fS fh fe ft fr n (nI 0) aSy aLb aLt aPf aGv (upd aKd c.N p0) (upd aLv c.N p1) (upd aLn c.N (nI c.sl.length)) (upd aVr c.N m) (zb_cp aSt (c.N * 10) aSy 0) aHc aHs aPr aRm aTl aAr aPl aSk aEl aEs aEp aEx aTs aTn aTb aTz aTp aAs aAl aAv aRe := by
    refine zb_count (fun n i => wX_addFromSymbols_42 post (nI c.N) fC fV fH fP fsl fll ftl fpl fN fS fh fe ft fr n (nI i) aSy aLb aLt aPf aGv (upd aKd c.N p0) (upd aLv c.N p1) (upd aLn c.N (nI c.sl.length)) (upd aVr c.N m) (zb_cp aSt (c.N * 10) aSy i) aHc aHs aPr aRm aTl aAr aPl aSk aEl aEs aEp aEx aTs aTn aTb aTz aTp aAs aAl aAv aRe) c.sl.length ?_ ?_
    · intro m2 i hi w
      rw [← zb_cpS] at w
      refine pk_le c.sl.length i (fun h => absurd h (by omega)) (fun _ => ⟨vp_in_nI (by omega) (by omega), pk_in (c.N * 10 + i) 240 (by omega) (zb_x10 c.N i), ?_⟩) hsy.1 rfl (by omega) (by omega)
      exact nm_r (zb_up (c.N * 10 + i) (zb_x10 c.N i) (zb_rd i rfl)) (nm_r (nI_1 i) w)
    · intro m2
      refine pk_le c.sl.length c.sl.length (fun _ => ?_) (fun h => absurd h (by omega)) hsy.1 rfl (by omega) (by omega)
      exact nm_r (e' := nI (c.N + 1)) (by rw [eN, nI_1]) (k m hm)
  rw [zb_cp0] at key
  rw [eN] at key ⊢
  exact key
theorem xw_isMan {post : Int32 → Prop} {j : Nat} {m : Int32} (hI : ab_I c) (hR : rx_R c c.N (fC, fV, fH, fP, fsl, fll, ftl, fpl, fN, fS, fh, fe, ft, fr, aSy, aLb, aLt, aPf, aGv, aKd, aLv, aLn, aVr, aSt, aHc, aHs, aPr, aRm, aTl, aAr, aPl, aSk, aEl, aEs, aEp, aEx, aTs, aTn, aTb, aTz, aTp, aAs, aAl, aAv, aRe)) (hj : j < c.N) (hm : zb_MK m (fun v => c.man c.N (c.C + v))) (k : post (zb_1 (c.inF c.N j))) : wpX_isMandatory post (fC, fV, fH, fP, fsl, fll, ftl, fpl, fN, fS, fh, fe, ft, fr, aSy, aLb, aLt, aPf, aGv, aKd, aLv, aLn, aVr, aSt, aHc, aHs, aPr, aRm, aTl, aAr, aPl, aSk, aEl, aEs, aEp, aEx, aTs, aTn, aTb, aTz, aTp, aAs, aAl, aAv, aRe) (nI j) m := by
  obtain ⟨z1, z2, z3, z4, z5, z6, z7, z8, z9, z10⟩ := hI.1
  have ho := hI.2.2.1 j hj
  have hk4 := ho.2.1
  have hl4 := ho.2.2.2.2.2.2.2
  have hcb := hI.2.2.2.1.1 j
  have i1 : vp_in (nI j) 24 := vp_in_nI (by omega) (by omega)
  unfold wpX_isMandatory
  refine xw_isHyp hI hR hj (zb_br (fun q => ?_) (fun q => And.intro i1 ?_))
  · rw [decide_eq_false_iff_not] at q
    refine zb_k0 k ?_
    rw [Bool.eq_false_iff]
    exact fun z => q (ab_inF_i.mp z).1.2.1
  · rw [decide_eq_true_iff] at q
    rw [nI_clamp (by omega), hR.2.2.2.2.2.2.1 j hj]
    unfold ab_W.lev
    rw [if_neg (by omega)]
    by_cases q1 : c.ca j = 0
    · rw [if_pos q1]
      refine br_f (fun z => ?_) (And.intro i1 ?_)
      · have : (nI (c.lv j)).toInt = -21 := by rw [z]; rfl
        rw [nI_toInt (by omega)] at this
        omega
      · rw [hR.2.2.2.2.2.1 j hj]
        refine pk_eq (c.kd j) 2 (fun q2 => ?_) (fun q2 => And.intro i1 ?_) rfl rfl (by omega) (by omega)
        · exact zb_k1 k (ab_inF_i.mpr ⟨⟨hj, q, Or.inl q1⟩, Or.inl q2⟩)
        · have k1 : c.kd j = 1 := by have := ho.1; omega
          have h2 := ho.2.2.2.2.2.2.1 k1
          have hv := hR.2.2.2.2.2.2.2.2.1 j hj q
          have hg : c.sg j = [(c.sg j).getD 0 0, c.var j] := by
            unfold ab_W.var
            match hh : c.sg j, h2.1 with
            | [a, b], _ => rfl
          have hz : aVr j &&& m = 0 ↔ c.man c.N (c.var j) = false := by
            rw [zb_MK0i (zb_MKand hv hm)]
            have hvb : c.var j < c.C + c.V := ho.2.2.2.2.2.1 _ (zb_gm (by omega))
            constructor
            · intro z
              have := z (c.var j - c.C) (by omega)
              have hmem : c.var j ∈ c.sg j := zb_gm (l := c.sg j) (i := 1) (by omega)
              rw [show c.C + (c.var j - c.C) = c.var j by omega, decide_eq_true hmem, Bool.true_and] at this
              exact this
            · intro z v _
              by_cases q3 : c.C + v ∈ c.sg j
              · rw [hg] at q3
                have h0 := ho.2.2.2.2.1
                rw [List.mem_cons, List.mem_singleton] at q3
                have : c.C + v = c.var j := by omega
                rw [this, z, Bool.and_false]
              · rw [decide_eq_false q3, Bool.false_and]
          refine br_c (fun q3 => ?_) (fun q3 => ?_)
          · refine zb_k0 k ?_
            rw [Bool.eq_false_iff]
            intro z
            rcases (ab_inF_i.mp z).2 with z | z
            · exact q2 z
            · have q3 := hz.mp q3
              have z : c.man c.N (c.var j) = true := z
              rw [q3] at z; exact absurd z (by decide)
          · refine zb_k1 k (ab_inF_i.mpr ⟨⟨hj, q, Or.inl q1⟩, Or.inr ?_⟩)
            rw [hz, Bool.not_eq_false] at q3
            exact q3
    · rw [if_neg q1]
      refine br_t rfl (zb_k0 k ?_)
      rw [Bool.eq_false_iff]
      intro z
      have := (ab_inF_i.mp z).1.2.2
      omega
/-- the frame of the statement about to be added -/
theorem xw_build {post : SX → Prop} (hI : ab_I c) (h24 : c.N < 24) (hR : rx_R c c.N (fC, fV, fH, fP, fsl, fll, ftl, fpl, fN, fS, fh, fe, ft, fr, aSy, aLb, aLt, aPf, aGv, aKd, aLv, aLn, aVr, aSt, aHc, aHs, aPr, aRm, aTl, aAr, aPl, aSk, aEl, aEs, aEp, aEx, aTs, aTn, aTb, aTz, aTp, aAs, aAl, aAv, aRe)) (eg : c.sg c.N = c.sl) (es : c.sn c.N = fun a b => decide (c.pl a b ≠ 0)) (k : ∀ hHc hHs hPr : Nat → Int32, rx_hs c (c.N + 1) hHc hHs → rx_pr c (c.N + 1) hPr → post (fC, fV, fH, fP, fsl, fll, ftl, fpl, fN, fS, fh, fe, ft, fr, aSy, aLb, aLt, aPf, aGv, aKd, aLv, aLn, aVr, aSt, hHc, hHs, hPr, aRm, aTl, aAr, aPl, aSk, aEl, aEs, aEp, aEx, aTs, aTn, aTb, aTz, aTp, aAs, aAl, aAv, aRe)) : wpX_buildFrame post (fC, fV, fH, fP, fsl, fll, ftl, fpl, fN, fS, fh, fe, ft, fr, aSy, aLb, aLt, aPf, aGv, aKd, aLv, aLn, aVr, aSt, aHc, aHs, aPr, aRm, aTl, aAr, aPl, aSk, aEl, aEs, aEp, aEx, aTs, aTn, aTb, aTz, aTp, aAs, aAl, aAv, aRe) (nI c.N) := by
  obtain ⟨z1, z2, z3, z4, z5, z6, z7, z8, z9, z10⟩ := hI.1
  have eN : fN = nI c.N := hR.1.2.2.2.2.1
  have hlen : (c.hs c.N).length ≤ c.N := ab_hs_len
  unfold wpX_buildFrame
  refine xw_symVars2 hI hR.1.1 hR.2.1 (fun m0 hm0 => ?_)
  -- the variables
  have key : ∀ d j m, j + d = c.N → zb_MK m (fun v => decide (c.C + v ∈ c.sg c.N) || (List.range j).any (fun i => decide (c.kd i = 2) && (ab_act c.kd c.ca c.N i && decide (c.C + v ∈ c.sg i)))) → wX_buildFrame_7 post (nI c.N) fC fV fH fP fsl fll ftl fpl fN fS fh fe ft fr aSy aLb aLt aPf aGv aKd aLv aLn aVr aSt aHc aHs aPr aRm aTl aAr aPl aSk aEl aEs aEp aEx aTs aTn aTb aTz aTp aAs aAl aAv aRe (d + 1) m (nI j) := by
    intro d
    induction d with
    | zero =>
      intro j m hj hm
      have ej : j = c.N := by omega
      subst ej
      have hm : zb_MK m (fun v => c.man c.N (c.C + v)) := hm
      refine pk_le c.N c.N (fun _ => ?_) (fun h => absurd h (by omega)) eN rfl
      -- the hypotheses
      have key2 : ∃ n, wX_buildFrame_56 post (nI c.N) m fC fV fH fP fsl fll ftl fpl fN fS fh fe ft fr n (nI ((List.range 0).filter (c.inF c.N)).length) (nI 0) aSy aLb aLt aPf aGv aKd aLv aLn aVr aSt aHc (zb_cp aHs (c.N * 24) (fun i => nI ((c.hs c.N).getD i 0)) ((List.range 0).filter (c.inF c.N)).length) aPr aRm aTl aAr aPl aSk aEl aEs aEp aEx aTs aTn aTb aTz aTp aAs aAl aAv aRe := by
        refine zb_count (fun n j => wX_buildFrame_56 post (nI c.N) m fC fV fH fP fsl fll ftl fpl fN fS fh fe ft fr n (nI ((List.range j).filter (c.inF c.N)).length) (nI j) aSy aLb aLt aPf aGv aKd aLv aLn aVr aSt aHc (zb_cp aHs (c.N * 24) (fun i => nI ((c.hs c.N).getD i 0)) ((List.range j).filter (c.inF c.N)).length) aPr aRm aTl aAr aPl aSk aEl aEs aEp aEx aTs aTn aTb aTz aTp aAs aAl aAv aRe) c.N ?_ ?_
        · intro n j hj w
          have hc : ((List.range j).filter (c.inF c.N)).length ≤ j := Nat.le_trans (List.length_filter_le _ _) (by rw [List.length_range]; omega)
          refine pk_le c.N j (fun h => absurd h (by omega)) (fun _ => ?_) eN rfl
          have hR' : rx_R c c.N (fC, fV, fH, fP, fsl, fll, ftl, fpl, fN, fS, fh, fe, ft, fr, aSy, aLb, aLt, aPf, aGv, aKd, aLv, aLn, aVr, aSt, aHc, aHs, aPr, aRm, aTl, aAr, aPl, aSk, aEl, aEs, aEp, aEx, aTs, aTn, aTb, aTz, aTp, aAs, aAl, aAv, aRe) := hR
          rw [zb_fr] at w
          have hRs : rx_R c c.N (fC, fV, fH, fP, fsl, fll, ftl, fpl, fN, fS, fh, fe, ft, fr, aSy, aLb, aLt, aPf, aGv, aKd, aLv, aLn, aVr, aSt, aHc, zb_cp aHs (c.N * 24) (fun i => nI ((c.hs c.N).getD i 0)) ((List.range j).filter (c.inF c.N)).length, aPr, aRm, aTl, aAr, aPl, aSk, aEl, aEs, aEp, aEx, aTs, aTn, aTb, aTz, aTp, aAs, aAl, aAv, aRe) := by
            obtain ⟨hf, hsy, hlb, hlt, hpf, hkd, hlv, hst, hvr, hhs, hpr, hrm, htl, har, hpl⟩ := hR
            refine ⟨hf, hsy, hlb, hlt, hpf, hkd, hlv, hst, hvr, ?_, hpr, hrm, htl, har, hpl⟩
            intro x hx hk
            have hl : (c.hs x).length ≤ x := ab_hs_len
            exact ⟨(hhs x hx hk).1, zb_cpK (hhs x hx hk).2 (by omega)⟩
          refine xw_isMan hI hRs hj hm (zb_br (fun q => ?_) (fun q => ?_))
          · rw [if_neg (by rw [q]; decide), List.append_nil] at w
            exact nm_r (nI_1 j) w
          · rw [if_pos q, List.length_append, List.length_singleton, ← zb_cpS] at w
            have hn := (zb_nth (p := c.inF c.N) q (c.N - j - 1)).1
            rw [show j + 1 + (c.N - j - 1) = c.N by omega] at hn
            have hn : (c.hs c.N).getD ((List.range j).filter (c.inF c.N)).length 0 = j := hn
            rw [hn] at w
            refine And.intro (pk_in (c.N * 24 + ((List.range j).filter (c.inF c.N)).length) 576 (by omega) (zb_x24 _ _)) ?_
            exact nm_r (zb_up _ (zb_x24 _ _) rfl) (nm_r (nI_1 _) (nm_r (nI_1 j) w))
        · intro n
          refine pk_le c.N c.N (fun _ => And.intro (vp_in_nI h24 (by omega)) ?_) (fun h => absurd h (by omega)) eN rfl
          refine nm_r (zb_up c.N rfl rfl) ?_
          have hhs' : rx_hs c (c.N + 1) (upd aHc c.N (nI (c.hs c.N).length)) (zb_cp aHs (c.N * 24) (fun i => nI ((c.hs c.N).getD i 0)) (c.hs c.N).length) := by
            refine zz_lts (N := c.N) (P := fun x => 3 ≤ c.kd x → upd aHc c.N (nI (c.hs c.N).length) x = nI (c.hs x).length ∧ zb_Sg (zb_cp aHs (c.N * 24) (fun i => nI ((c.hs c.N).getD i 0)) (c.hs c.N).length) (x * 24) (c.hs x)) (fun x hx hk => ?_) (fun hk => ⟨pk_us, zb_cpG (fun i _ => rfl)⟩)
            have hl : (c.hs x).length ≤ x := ab_hs_len
            have := hR.2.2.2.2.2.2.2.2.2.1 x hx hk
            exact ⟨by rw [pk_un (by omega)]; exact this.1, zb_cpK this.2 (by omega)⟩
          -- the pairs
          have key3 : ∃ n, wX_buildFrame_107 post (nI c.N) m fC fV fH fP fsl fll ftl fpl fN fS fh fe ft fr n (nI 0) aSy aLb aLt aPf aGv aKd aLv aLn aVr aSt (upd aHc c.N (nI (c.hs c.N).length)) (zb_cp aHs (c.N * 24) (fun i => nI ((c.hs c.N).getD i 0)) (c.hs c.N).length) (zb_cp aPr (c.N * 8) (fun v => if c.man c.N (c.C + v) = true then aAr v &&& m else 0) 0) aRm aTl aAr aPl aSk aEl aEs aEp aEx aTs aTn aTb aTz aTp aAs aAl aAv aRe := by
            refine zb_count (fun n v => wX_buildFrame_107 post (nI c.N) m fC fV fH fP fsl fll ftl fpl fN fS fh fe ft fr n (nI v) aSy aLb aLt aPf aGv aKd aLv aLn aVr aSt (upd aHc c.N (nI (c.hs c.N).length)) (zb_cp aHs (c.N * 24) (fun i => nI ((c.hs c.N).getD i 0)) (c.hs c.N).length) (zb_cp aPr (c.N * 8) (fun v => if c.man c.N (c.C + v) = true then aAr v &&& m else 0) v) aRm aTl aAr aPl aSk aEl aEs aEp aEx aTs aTn aTb aTz aTp aAs aAl aAv aRe) 8 ?_ ?_
            · intro n2 v hv w
              rw [← zb_cpS] at w
              have i1 : vp_in (nI c.N * 8 + nI v) 192 := pk_in (c.N * 8 + v) 192 (by omega) (zb_x8 _ _)
              refine pk_le 8 v (fun h => absurd h (by omega)) (fun _ => ?_)
              refine xw_hasBit hm (by omega) (zb_br (fun q => ?_) (fun q => ?_))
              · rw [if_neg (by rw [q]; decide)] at w
                exact And.intro i1 (nm_r (zb_up _ (zb_x8 _ _) rfl) (nm_r (nI_1 v) w))
              · rw [if_pos q] at w
                exact And.intro (vp_in_nI hv (by omega)) (And.intro i1 (nm_r (zb_up _ (zb_x8 _ _) (by rw [nI_clamp (by omega)])) (nm_r (nI_1 v) w)))
            · intro n2
              refine pk_le 8 8 (fun _ => k _ _ _ hhs' ?_) (fun h => absurd h (by omega))
              refine zz_lts (N := c.N) (P := fun x => 3 ≤ c.kd x → ∀ v, v < 8 → zb_MK (zb_cp aPr (c.N * 8) (fun v => if c.man c.N (c.C + v) = true then aAr v &&& m else 0) 8 (x * 8 + v)) (fun w => c.fp x (c.C + v) (c.C + w))) (fun x hx hk v hv => ?_) (fun hk v hv => ?_)
              · rw [zb_cpN (by omega)]
                exact hR.2.2.2.2.2.2.2.2.2.2.1 x hx hk v hv
              · rw [zb_cpI hv]
                have har := hR.2.2.2.2.2.2.2.2.2.2.2.2.2.1 v hv
                by_cases q : c.man c.N (c.C + v) = true
                · rw [if_pos q]
                  refine zb_MKe (zb_MKand har hm) (fun w _ => ?_)
                  unfold ab_W.fp
                  rw [es, q, Bool.true_and]
                · rw [if_neg q]
                  refine zb_MKe zb_MK0 (fun w _ => ?_)
                  rw [Bool.not_eq_true] at q
                  unfold ab_W.fp
                  rw [q, Bool.false_and, Bool.and_false]
          rw [zb_cp0] at key3
          exact key3
      rw [show zb_cp aHs (c.N * 24) (fun i => nI ((c.hs c.N).getD i 0)) ((List.range 0).filter (c.inF c.N)).length = aHs from zb_cp0 _ _ _] at key2
      exact key2
    | succ d ih =>
      intro j m hj hm
      have hjN : j < c.N := by omega
      have ho := hI.2.2.1 j hjN
      have hk4 := ho.2.1
      have hl4 := ho.2.2.2.2.2.2.2
      have hcb := hI.2.2.2.1.1 j
      have i1 : vp_in (nI j) 24 := vp_in_nI (by omega) (by omega)
      have stay : ¬ (c.kd j = 2 ∧ c.ca j = 0) → wX_buildFrame_7 post (nI c.N) fC fV fH fP fsl fll ftl fpl fN fS fh fe ft fr aSy aLb aLt aPf aGv aKd aLv aLn aVr aSt aHc aHs aPr aRm aTl aAr aPl aSk aEl aEs aEp aEx aTs aTn aTb aTz aTp aAs aAl aAv aRe (d + 1) m (nI (j + 1)) := by
        intro q
        refine ih (j + 1) m (by omega) (zb_MKe hm (fun v _ => ?_))
        rw [List.range_succ, List.any_append]
        have e : (decide (c.kd j = 2) && (ab_act c.kd c.ca c.N j && decide (c.C + v ∈ c.sg j))) = false := by
          rw [Bool.eq_false_iff]
          intro z
          rw [Bool.and_eq_true, Bool.and_eq_true, decide_eq_true_iff, ab_act_i] at z
          exact q ⟨z.1, by have := z.2.1.2.2; omega⟩
        have e2 : [j].any (fun i => decide (c.kd i = 2) && (ab_act c.kd c.ca c.N i && decide (c.C + v ∈ c.sg i))) = false := by
          rw [List.any_cons, List.any_nil, Bool.or_false]; exact e
        rw [e2, Bool.or_false]
      refine pk_le c.N j (fun h => absurd h (by omega)) (fun _ => And.intro i1 ?_) eN rfl
      rw [nI_clamp (by omega), hR.2.2.2.2.2.1 j hjN]
      refine pk_eq (c.kd j) 2 (fun q => And.intro i1 ?_) (fun q => nm_r (nI_1 j) (stay (fun z => q z.1))) rfl rfl (by omega) (by omega)
      rw [hR.2.2.2.2.2.2.1 j hjN]
      unfold ab_W.lev
      rw [if_neg (by omega)]
      by_cases q1 : c.ca j = 0
      · rw [if_pos q1]
        refine br_f (fun z => ?_) (And.intro i1 (nm_e (nm_r (nI_1 j) (ih (j + 1) _ (by omega) ?_))))
        · have : (nI (c.lv j)).toInt = -21 := by rw [z]; rfl
          rw [nI_toInt (by omega)] at this
          omega
        · refine zb_MKe (zb_MKor hm (hR.2.2.2.2.2.2.2.2.1 j hjN (by omega))) (fun v _ => ?_)
          rw [List.range_succ, List.any_append]
          have e : (decide (c.kd j = 2) && (ab_act c.kd c.ca c.N j && decide (c.C + v ∈ c.sg j))) = decide (c.C + v ∈ c.sg j) := by
            rw [decide_eq_true q, ab_act_i.mpr ⟨hjN, by omega, Or.inl q1⟩, Bool.true_and, Bool.true_and]
          have e2 : [j].any (fun i => decide (c.kd i = 2) && (ab_act c.kd c.ca c.N i && decide (c.C + v ∈ c.sg i))) = decide (c.C + v ∈ c.sg j) := by
            rw [List.any_cons, List.any_nil, Bool.or_false]; exact e
          rw [e2, Bool.or_assoc]
      · rw [if_neg q1]
        exact br_t rfl (nm_r (nI_1 j) (stay (fun z => q1 z.2)))
  refine ⟨c.N + 1, key c.N 0 m0 (by omega) (zb_MKe hm0 (fun v _ => ?_))⟩
  rw [eg, List.range_zero, List.any_nil, Bool.or_false]
theorem zz_addX {r : Nat → Bool} {p : List Nat} {pk plv m : Int32} (hI : ab_I c) (hR : rx_R c c.N (fC, fV, fH, fP, fsl, fll, ftl, fpl, fN, fS, fh, fe, ft, fr, aSy, aLb, aLt, aPf, aGv, aKd, aLv, aLn, aVr, aSt, aHc, aHs, aPr, aRm, aTl, aAr, aPl, aSk, aEl, aEs, aEp, aEx, aTs, aTn, aTb, aTz, aTp, aAs, aAl, aAv, aRe)) (eg : c.sg c.N = c.sl) (ek : pk = nI (c.kd c.N)) (el : plv = c.lev c.N) (hhs : rx_hs c (c.N + 1) aHc aHs) (hpr : rx_pr c (c.N + 1) aPr) (hrm : zb_MK (aRm c.N) r) (hpf : rx_l fpl aPf 0 (if c.kd c.N = 4 then p else c.lp)) (hm : zb_MK m (fun v => decide (c.C + v ∈ c.sl))) (hk1 : c.kd c.N ≠ 1) : rx_R (ab_com c [] r p) (c.N + 1) (fC, fV, fH, fP, 0, fll, ftl, fpl, nI (c.N + 1), fS, fh, fe, ft, fr, aSy, aLb, aLt, aPf, aGv, upd aKd c.N pk, upd aLv c.N plv, upd aLn c.N (nI c.sl.length), upd aVr c.N m, zb_cp aSt (c.N * 10) aSy c.sl.length, aHc, aHs, aPr, aRm, aTl, aAr, aPl, aSk, aEl, aEs, aEp, aEx, aTs, aTn, aTb, aTz, aTp, aAs, aAl, aAv, aRe) := by
  refine rx_com hR (rx_l0 aSy 0) ?_ ?_ (fun j hj => pk_un (Nat.ne_of_lt hj)) ?_ (fun j hj => pk_un (Nat.ne_of_lt hj)) ?_ (fun j hj => pk_un (Nat.ne_of_lt hj)) ?_ (fun i hi => zb_cpN (by omega)) (fun j hj => (hI.2.2.1 j hj).2.2.2.1) ?_ (fun j hj => pk_un (Nat.ne_of_lt hj)) hhs hpr hrm (fun j hj => rfl) ?_
  · rw [ab_com_lp]; exact hpf
  · rw [pk_us, ek]
  · rw [pk_us, el]
  · rw [pk_us, eg]
  · rw [eg]
    refine zb_cpG (fun i hi => ?_)
    have := hR.2.1.2 i hi
    rwa [Nat.zero_add] at this
  · intro _
    rw [pk_us, eg]; exact hm
  · intro v hv
    show aTl v = -1 ↔ (ab_com c [] r p).ht (c.C + v) = false
    rw [hR.2.2.2.2.2.2.2.2.2.2.2.2.1 v hv, ← Bool.not_eq_true, ← Bool.not_eq_true, ab_com_ht]
    constructor
    · intro h z
      rcases z with z | z
      · exact h z
      · exact hk1 z.1
    · intro h z; exact h (Or.inl z)
end
end
section
/-! the reference adds a statement; owed rows: hypothesis and axiom -/
theorem an_ref0 {c : ab_W} (h : an_ref c = 0) : c.sl.length ≠ 0 ∧ c.sl.getD 0 0 < c.C ∧ (∀ y, y ∈ c.sl → c.C ≤ y → c.ht y = true) ∧ c.N < 24 := by
  unfold an_ref at h
  by_cases q1 : c.sl.length = 0
  · rw [if_pos q1] at h; exact absurd h (by decide)
  rw [if_neg q1] at h
  by_cases q2 : c.C ≤ c.sl.getD 0 0
  · rw [if_pos q2] at h; exact absurd h (by decide)
  rw [if_neg q2] at h
  by_cases q3 : c.sl.all (fun y => decide (y < c.C) || c.ht y) = true
  · rw [if_pos q3] at h
    by_cases q4 : c.N < 24
    · refine ⟨q1, by omega, fun y hy hC => ?_, q4⟩
      rw [List.all_eq_true] at q3
      have := q3 y hy
      rw [decide_eq_false (by omega), Bool.false_or] at this
      exact this
    · rw [if_neg q4] at h; exact absurd h (by decide)
  · rw [if_neg q3] at h; exact absurd h (by decide)
section
variable {c : ab_W} {gC gA gH gP gN gS gx gd go : Int32} {bKd bLn bLv bSt bCa bPl bSn bPf bPn bLs bLe bGv bXs bSk bSl bOu bAs bTb bTn : Nat → Int32}
theorem yw_add {post : Int32 → SY → Prop} {K : Nat} (hK : K = 2 ∨ K = 3 ∨ K = 4) (hI : ab_I c) (hR : ry_R c c.N (gC, gA, gH, gP, gN, gS, gx, gd, go, bKd, bLn, bLv, bSt, bCa, bPl, bSn, bPf, bPn, bLs, bLe, bGv, bXs, bSk, bSl, bOu, bAs, bTb, bTn))
    (kr : an_ref c ≠ 0 → post (an_ref c) (gC, gA, gH, gP, gN, gS, gx, gd, go, bKd, bLn, bLv, bSt, bCa, bPl, bSn, bPf, bPn, bLs, bLe, bGv, bXs, bSk, bSl, bOu, bAs, bTb, bTn))
    (kp : an_ref c = 0 → K = 4 → c.ll.length = 0 → c.tl.length = 0 → post (-10) (gC, gA, gH, gP, gN, gS, gx, gd, go, bKd, bLn, bLv, bSt, bCa, bPl, bSn, bPf, bPn, bLs, bLe, bGv, bXs, bSk, bSl, bOu, bAs, bTb, bTn))
    (kx : an_ref c = 0 → ¬ (K = 4 ∧ c.ll.length = 0 ∧ c.tl.length = 0) → ∀ hKd hLn hLv hSt hSn : Nat → Int32, ry_R (ab_ten c K c.sl) (c.N + 1) (gC, gA, gH, gP, gN, gS, gx, gd, go, hKd, hLn, hLv, hSt, bCa, bPl, hSn, bPf, bPn, bLs, bLe, bGv, bXs, bSk, bSl, bOu, bAs, bTb, bTn) → hLv c.N = nI c.S → ∀ m, wY_add_178 post (nI K) gC gA gH gP gN gS gx gd go (m + 1) (nI 256) hKd hLn hLv hSt bCa bPl hSn bPf bPn bLs bLe bGv bXs bSk bSl bOu bAs bTb bTn) : wpY_add post (gC, gA, gH, gP, gN, gS, gx, gd, go, bKd, bLn, bLv, bSt, bCa, bPl, bSn, bPf, bPn, bLs, bLe, bGv, bXs, bSk, bSl, bOu, bAs, bTb, bTn) (nI K) := by
  obtain ⟨z1, z2, z3, z4, z5, z6, z7, z8, z9, z10⟩ := hI.1
  obtain ⟨l1, l2, l3, l4, l5, l6⟩ := hI.2.1
  have hsy := hR.2.1
  have eN : gN = nI c.N := hR.1.2.2.2.2.1
  have er : an_ref c = if c.sl.length = 0 then -2 else if c.C ≤ c.sl.getD 0 0 then -3 else if c.sl.all (fun y => decide (y < c.C) || c.ht y) = true then (if c.N < 24 then 0 else -6) else -9 := rfl
  have hat : ∀ i, i < c.sl.length → bLs i = nI (c.sl.getD i 0) := fun i hi => by
    have := hsy.2 i hi
    rwa [Nat.zero_add] at this
  refine nm_r (e' := nI c.sl.length) hsy.1 (pk_eq c.sl.length 0 (fun h => ?_) (fun h => ?_) rfl rfl (by omega) (by omega))
  · rw [if_pos h] at er
    have := kr (by rw [er]; decide)
    rw [er] at this; exact this
  rw [if_neg h] at er
  have hb0 : c.sl.getD 0 0 < c.C + c.V := l4 _ (zb_gm (by omega))
  rw [hat 0 (by omega)]
  refine pk_lt (c.sl.getD 0 0) c.C (fun h1 => ?_) (fun h1 => ?_) rfl hR.1.1 (by omega) (by omega)
  rotate_left
  · rw [if_pos h1] at er
    have := kr (by rw [er]; decide)
    rw [er] at this; exact this
  rw [if_neg (by omega)] at er
  refine zb_find (fun n i => wY_add_32 post (nI K) (nI c.sl.length) gC gA gH gP gN gS gx gd go bKd bLn bLv bSt bCa bPl bSn bPf bPn bLs bLe bGv bXs bSk bSl bOu bAs bTb bTn n (nI i)) (fun i => ¬ (c.C ≤ c.sl.getD i 0 ∧ c.ht (c.sl.getD i 0) = false)) c.sl.length ?_ ?_ ?_
  · intro m i hi hp w
    have hb : c.sl.getD i 0 < c.C + c.V := l4 _ (zb_gm hi)
    refine pk_le c.sl.length i (fun h => absurd h (by omega)) (fun _ => And.intro (vp_in_nI (by omega) (by omega)) ?_) rfl rfl (by omega) (by omega)
    rw [nI_clamp (by omega), hat i hi]
    refine pk_lt (c.sl.getD i 0) c.C (fun h1 => nm_r (nI_1 i) w) (fun h1 => And.intro (vp_in_nI (by omega) (by omega)) ?_) rfl hR.1.1 (by omega) (by omega)
    exact yw_hasTyped hI hR (by omega) (zb_br (fun q => absurd ⟨h1, q⟩ hp) (fun q => nm_r (nI_1 i) w))
  · intro m i hi hp _
    obtain ⟨p1, p2⟩ := Classical.not_not.mp hp
    have hb : c.sl.getD i 0 < c.C + c.V := l4 _ (zb_gm hi)
    refine pk_le c.sl.length i (fun h => absurd h (by omega)) (fun _ => And.intro (vp_in_nI (by omega) (by omega)) ?_) rfl rfl (by omega) (by omega)
    rw [nI_clamp (by omega), hat i hi]
    refine pk_lt (c.sl.getD i 0) c.C (fun h1 => absurd h1 (by omega)) (fun h1 => And.intro (vp_in_nI (by omega) (by omega)) ?_) rfl hR.1.1 (by omega) (by omega)
    refine yw_hasTyped hI hR (by omega) ?_
    rw [p2]
    refine br_t rfl ?_
    rw [if_neg (by
      intro z
      rw [List.all_eq_true] at z
      have := z _ (zb_gm hi)
      rw [p2, decide_eq_false (by omega)] at this
      exact absurd this (by decide))] at er
    have := kr (by rw [er]; decide)
    rw [er] at this; exact this
  · intro hp m
    have hall : c.sl.all (fun y => decide (y < c.C) || c.ht y) = true := by
      rw [List.all_eq_true]
      intro y hy
      obtain ⟨i, hi, e⟩ := zb_mem.mp hy
      have := hp i hi
      rw [e] at this
      by_cases q : y < c.C
      · rw [decide_eq_true q]; rfl
      · cases ht : c.ht y with
        | false => exact absurd ⟨by omega, ht⟩ this
        | true => rw [Bool.or_true]
    rw [if_pos hall] at er
    refine pk_le c.sl.length c.sl.length (fun _ => ?_) (fun h => absurd h (by omega)) rfl rfl (by omega) (by omega)
    refine pk_eq c.N 24 (fun h24 => ?_) (fun h24 => ?_) eN rfl
    · rw [if_neg (by omega)] at er
      have := kr (by rw [er]; decide)
      rw [er] at this; exact this
    have h24 : c.N < 24 := by omega
    rw [if_pos h24] at er
    -- the copy and the snapshot
    have key : ¬ (K = 4 ∧ c.ll.length = 0 ∧ c.tl.length = 0) → ∃ n, wY_add_112 post (nI K) (nI c.sl.length) gC gA gH gP gN gS gx gd go n (nI 0) bKd bLn bLv (zb_cp bSt (c.N * 10) bLs 0) bCa bPl bSn bPf bPn bLs bLe bGv bXs bSk bSl bOu bAs bTb bTn := by
      intro hn
      refine zb_count (fun n i => wY_add_112 post (nI K) (nI c.sl.length) gC gA gH gP gN gS gx gd go n (nI i) bKd bLn bLv (zb_cp bSt (c.N * 10) bLs i) bCa bPl bSn bPf bPn bLs bLe bGv bXs bSk bSl bOu bAs bTb bTn) c.sl.length ?_ ?_
      · intro m i hi w
        rw [← zb_cpS] at w
        refine pk_le c.sl.length i (fun h => absurd h (by omega)) (fun _ => ⟨vp_in_nI (by omega) (by omega), pk_in (c.N * 10 + i) 240 (by omega) (by rw [eN]; exact zb_x10 c.N i), ?_⟩) rfl rfl (by omega) (by omega)
        exact nm_r (zb_up (c.N * 10 + i) (by rw [eN]; exact zb_x10 c.N i) (zb_rd i rfl)) (nm_r (nI_1 i) w)
      · intro m
        have hin : vp_in gN 24 := pk_in c.N 24 h24 eN
        have hu : ∀ {a : Nat → Int32} {v w : Int32}, v = w → upd a gN.toNatClampNeg v = upd a c.N w := fun e => zb_up c.N eN e
        refine pk_le c.sl.length c.sl.length (fun _ => ?_) (fun h => absurd h (by omega)) rfl rfl (by omega) (by omega)
        refine And.intro hin (nm_r (hu rfl) (And.intro hin (nm_r (hu rfl) (And.intro hin (nm_r (hu hR.1.2.2.2.2.2) ?_)))))
        have key2 : ∃ n, wY_add_178 post (nI K) gC gA gH gP gN gS gx gd go n (nI 0) (upd bKd c.N (nI K)) (upd bLn c.N (nI c.sl.length)) (upd bLv c.N (nI c.S)) (zb_cp bSt (c.N * 10) bLs c.sl.length) bCa bPl (zb_cp bSn (c.N * 256) (fun i => if bPl i = 0 then 0 else 1) 0) bPf bPn bLs bLe bGv bXs bSk bSl bOu bAs bTb bTn := by
          refine zb_count (fun n i => wY_add_178 post (nI K) gC gA gH gP gN gS gx gd go n (nI i) (upd bKd c.N (nI K)) (upd bLn c.N (nI c.sl.length)) (upd bLv c.N (nI c.S)) (zb_cp bSt (c.N * 10) bLs c.sl.length) bCa bPl (zb_cp bSn (c.N * 256) (fun i => if bPl i = 0 then 0 else 1) i) bPf bPn bLs bLe bGv bXs bSk bSl bOu bAs bTb bTn) 256 ?_ ?_
          · intro m2 i hi w
            rw [← zb_cpS] at w
            have ei : gN * 256 + nI i = nI (c.N * 256 + i) := by rw [eN]; exact zb_ix c.N 256 i
            refine pk_le 256 i (fun h => absurd h (by omega)) (fun _ => And.intro (vp_in_nI (by omega) (by omega)) ?_)
            rw [nI_clamp (by omega)]
            refine br_c (fun q => And.intro (pk_in (c.N * 256 + i) 6144 (by omega) ei) ?_) (fun q => And.intro (pk_in (c.N * 256 + i) 6144 (by omega) ei) ?_)
            · rw [if_pos q] at w
              exact nm_r (zb_up (c.N * 256 + i) ei (show vp_nar .boolean 0 = 0 from rfl)) (nm_r (nI_1 i) w)
            · rw [if_neg q] at w
              exact nm_r (zb_up (c.N * 256 + i) ei (show vp_nar .boolean 1 = 1 from rfl)) (nm_r (nI_1 i) w)
          · intro m2
            refine kx er hn _ _ _ _ _ ?_ pk_us m2
            have eg : (ab_ten c K c.sl).sg c.N = c.sl := ab_us
            have ek : (ab_ten c K c.sl).kd c.N = K := ab_us
            refine ry_w (c := ab_ten c K c.sl) (ry_ten _ hR) ?_ (fun j hj => pk_un (Nat.ne_of_lt hj)) ?_ (fun j hj => pk_un (Nat.ne_of_lt hj)) (by rw [show (ab_ten c K c.sl).lv (ab_ten c K c.sl).N = c.S from ab_us]; exact pk_us) (fun j hj => pk_un (Nat.ne_of_lt hj)) ?_ (fun i hi => zb_cpN (Or.inl hi)) ?_ ?_ (fun i hi => zb_cpN (Or.inl hi))
            · show upd bKd c.N (nI K) c.N = nI ((ab_ten c K c.sl).kd c.N)
              rw [ek, pk_us]
            · show upd bLn c.N (nI c.sl.length) c.N = nI ((ab_ten c K c.sl).sg c.N).length
              rw [eg, pk_us]
            · show zb_Sg (zb_cp bSt (c.N * 10) bLs c.sl.length) (c.N * 10) ((ab_ten c K c.sl).sg c.N)
              rw [eg]; exact zb_cpG hat
            · intro j hj
              have hj : j < c.N := hj
              rw [ab_ten_sg hj]; exact (hI.2.2.1 j hj).2.2.2.1
            · intro _ s t hs ht
              have e1 : (ab_ten c K c.sl).sn c.N = fun a b => decide (c.pl a b ≠ 0) := ab_us
              have hb := hI.2.2.2.2.2.2.2.1.2.1 s t
              show zb_cp bSn (c.N * 256) (fun i => if bPl i = 0 then 0 else 1) 256 (c.N * 256 + s * 16 + t) = zb_1 ((ab_ten c K c.sl).sn c.N s t)
              rw [e1, Nat.add_assoc, zb_cpI (by omega), hR.2.2.2.2.2.2.2.2.1 s t hs ht]
              show (if nI (c.pl s t) = nI 0 then (0 : Int32) else 1) = zb_1 (decide (c.pl s t ≠ 0))
              by_cases q : c.pl s t = 0
              · rw [q, if_pos rfl]; rfl
              · rw [if_neg (fun z => q ((nI_eq (b := 0) (by omega) (by omega)).mp z))]
                rw [decide_eq_true q]; rfl
        rw [zb_cp0] at key2
        exact key2
    have key' : ¬ (K = 4 ∧ c.ll.length = 0 ∧ c.tl.length = 0) → ∃ n, wY_add_112 post (nI K) (nI c.sl.length) gC gA gH gP gN gS gx gd go n (nI 0) bKd bLn bLv bSt bCa bPl bSn bPf bPn bLs bLe bGv bXs bSk bSl bOu bAs bTb bTn := fun hn => by
      have := key hn
      rwa [zb_cp0] at this
    refine pk_eq K 4 (fun k4 => ?_) (fun k4 => key' (fun z => k4 z.1)) rfl rfl (by omega) (by omega)
    refine pk_eq c.ll.length 0 (fun e1 => ?_) (fun e1 => key' (fun z => e1 z.2.1)) hR.2.2.1.1 rfl (by omega) (by omega)
    refine pk_eq c.tl.length 0 (fun e2 => kp er k4 e1 e2) (fun e2 => key' (fun z => e2 z.2.2)) hR.2.2.2.1.1 rfl (by omega) (by omega)
/-- the last rows of add -/
theorem yw_303 {post : Int32 → SY → Prop} (eN : gN = nI c.N) (k : post (nI c.N) (gC, gA, gH, gP, nI (c.N + 1), gS, gx, gd, go, bKd, bLn, bLv, bSt, bCa, bPl, bSn, bPf, bPn, bLs, upd bLe 0 0, bGv, bXs, bSk, bSl, bOu, bAs, bTb, bTn)) : wY_add_303 post gC gA gH gP gN gS gx gd go bKd bLn bLv bSt bCa bPl bSn bPf bPn bLs bLe bGv bXs bSk bSl bOu bAs bTb bTn := by
  refine nm_e (nm_r (e' := nI (c.N + 1)) (by rw [eN, nI_1]) ?_)
  rw [nI_pred]; exact k
end
theorem zz_comI {c : ab_W} {K : Nat} {r : Nat → Bool} {p : List Nat} (hK : K = 2 ∨ K = 3 ∨ K = 4) (hI : ab_I c) (h : an_ref c = 0) (hp : K = 4 → p.length ≤ 96 ∧ ∀ y, y ∈ p → y < c.N) (hr : ∀ a, (K ≤ 2 → r a = false) ∧ (K = 3 → r a = decide (a = c.N)) ∧ (K = 4 → r a = p.any (fun y => c.rs y a))) : ab_I (ab_com (ab_ten c K c.sl) [] r p) := by
  obtain ⟨h1, h2, h3, h24⟩ := an_ref0 h
  obtain ⟨z1, z2, z3, z4, z5, z6, z7, z8, z9, z10⟩ := hI.1
  obtain ⟨l1, l2, l3, l4, l5, l6⟩ := hI.2.1
  have eg : (ab_ten c K c.sl).sg c.N = c.sl := ab_us
  have ek : (ab_ten c K c.sl).kd c.N = K := ab_us
  have ev : (ab_ten c K c.sl).lv c.N = c.S := ab_us
  refine ab_com_I (ab_ten_I hI) h24 ?_ ⟨Nat.zero_le _, fun y hy => absurd hy List.not_mem_nil⟩ ?_ ?_ ?_ ?_ ?_ ?_
  · show ab_ok (ab_ten c K c.sl) c.N
    unfold ab_ok
    rw [eg, ek, ev]
    exact ⟨by omega, by omega, by omega, l1, h2, l4, fun z => absurd z (by omega), z10⟩
  · show (ab_ten c K c.sl).lv c.N ≤ c.S
    rw [ev]; exact Nat.le_refl _
  · intro z
    have z : (ab_ten c K c.sl).kd c.N = 1 := z
    rw [ek] at z; omega
  · intro _ s hs hC
    have hs : s ∈ (ab_ten c K c.sl).sg c.N := hs
    rw [eg] at hs
    obtain ⟨i, i1, i2, i3, i4⟩ := ab_ht_i.mp (h3 s hs hC)
    refine ⟨i, i1, ?_, i3, ?_, ?_⟩
    · rw [ab_ten_kd i1]; exact i2
    · rw [ab_ten_var i1]; exact i4
    · show (ab_ten c K c.sl).lv i ≤ (ab_ten c K c.sl).lv c.N
      rw [ev, ab_ten_lv i1]
      exact hI.2.2.2.1.2.2.2 i i1 (by omega) i3
  · intro _
    exact ab_ten_cov hI h3
  · intro z
    have z : (ab_ten c K c.sl).kd c.N = 4 := z
    rw [ek] at z
    exact hp z
  · intro a
    show ((ab_ten c K c.sl).kd c.N ≤ 2 → _) ∧ ((ab_ten c K c.sl).kd c.N = 3 → _) ∧ ((ab_ten c K c.sl).kd c.N = 4 → _)
    rw [ek]
    exact hr a
theorem i_vc_hypothesis {k : Nat} {u : SX} {v : SY} (I : i_Rel k u v) (hk : k + 5 ≤ 2564) : wpX_hypothesis (fun r u' => wpY_hypothesis (fun r' v' => r' = r ∧ i_Rel (k + 5) u' v') v) u := by
  refine zz_el (P := fun u v => wpX_hypothesis (fun r u' => wpY_hypothesis (fun r' v' => r' = r ∧ i_Rel (k + 5) u' v') v) u) ?_ I
  intro fC fV fH fP fsl fll ftl fpl fN fS fh fe ft fr aSy aLb aLt aPf aGv aKd aLv aLn aVr aSt aHc aHs aPr aRm aTl aAr aPl aSk aEl aEs aEp aEx aTs aTn aTb aTz aTp aAs aAl aAv aRe gC gA gH gP gN gS gx gd go bKd bLn bLv bSt bCa bPl bSn bPf bPn bLs bLe bGv bXs bSk bSl bOu bAs bTb bTn c hI hX hY
  have rel : i_Rel (k + 5) (fC, fV, fH, fP, fsl, fll, ftl, fpl, fN, fS, fh, fe, ft, fr, aSy, aLb, aLt, aPf, aGv, aKd, aLv, aLn, aVr, aSt, aHc, aHs, aPr, aRm, aTl, aAr, aPl, aSk, aEl, aEs, aEp, aEx, aTs, aTn, aTb, aTz, aTp, aAs, aAl, aAv, aRe) (gC, gA, gH, gP, gN, gS, gx, gd, go, bKd, bLn, bLv, bSt, bCa, bPl, bSn, bPf, bPn, bLs, bLe, bGv, bXs, bSk, bSl, bOu, bAs, bTb, bTn) := ⟨c, hI, hX, hY⟩
  unfold wpX_hypothesis wpY_hypothesis
  refine xw_strRef hI hX ?_
  by_cases h0 : an_ref c = 0
  · obtain ⟨h1, h2, h3, h24⟩ := an_ref0 h0
    have eN : fN = nI c.N := hX.1.2.2.2.2.1
    have eS : fS = nI c.S := hX.1.2.2.2.2.2
    refine br_t h0 (And.intro (pk_in c.N 24 h24 eN) (nm_r (zb_up c.N eN rfl) ?_))
    refine xw_addFS (c := c) hI h24 hX.1.1 eN hX.2.1 (fun m hm => ?_)
    refine yw_add (K := 2) (Or.inl rfl) hI hY (fun z => absurd h0 z) (fun _ z => absurd z (by decide)) (fun _ _ hKd hLn hLv hSt hSn hW hS m2 => ?_)
    refine pk_le 256 256 (fun _ => br_f (by decide) (yw_303 hY.1.2.2.2.2.1 ⟨rfl, ?_⟩)) (fun h => absurd h (by omega))
    have ek : (ab_ten c 2 c.sl).kd c.N = 2 := ab_us
    have ev : (ab_ten c 2 c.sl).lv c.N = c.S := ab_us
    have cN : c.ca c.N = 0 := hI.2.2.2.1.2.1 c.N (Nat.le_refl _)
    refine ⟨ab_com (ab_ten c 2 c.sl) [] (fun _ => false) [], zz_comI (Or.inl rfl) hI h0 (fun z => absurd z (by decide)) (fun a => ⟨fun _ => rfl, fun z => absurd z (by decide), fun z => absurd z (by decide)⟩), ?_, ?_⟩
    · have hX1 : rx_R (ab_ten c 2 c.sl) c.N (fC, fV, fH, fP, fsl, fll, ftl, fpl, fN, fS, fh, fe, ft, fr, aSy, aLb, aLt, aPf, aGv, aKd, aLv, aLn, aVr, aSt, aHc, aHs, aPr, upd aRm c.N 0, aTl, aAr, aPl, aSk, aEl, aEs, aEp, aEx, aTs, aTn, aTb, aTz, aTp, aAs, aAl, aAv, aRe) := by
        have h := rx_ten (k := 2) (s := c.sl) _ hX
        obtain ⟨hf, hsy, hlb, hlt, hpf, hkd, hlv, hst, hvr, hhs, hpr, hrm, htl, har, hpl⟩ := h
        refine ⟨hf, hsy, hlb, hlt, hpf, hkd, hlv, hst, hvr, hhs, hpr, fun x hx => ?_, htl, har, hpl⟩
        have hx' : x < c.N := hx
        rw [pk_un (Nat.ne_of_lt hx')]; exact hrm x hx
      refine zz_addX (c := ab_ten c 2 c.sl) (ab_ten_I hI) hX1 ab_us ?_ ?_ ?_ ?_ ?_ ?_ hm ?_
      · show (2 : Int32) = nI ((ab_ten c 2 c.sl).kd c.N)
        rw [ek]; rfl
      · show fS = (ab_ten c 2 c.sl).lev c.N
        unfold ab_W.lev
        rw [ek, ev, if_neg (by decide)]
        show fS = if c.ca c.N = 0 then nI c.S else -21
        rw [if_pos cN]; exact eS
      · refine zz_lts (N := c.N) (P := fun x => 3 ≤ (ab_ten c 2 c.sl).kd x → aHc x = nI ((ab_ten c 2 c.sl).hs x).length ∧ zb_Sg aHs (x * 24) ((ab_ten c 2 c.sl).hs x)) hX1.2.2.2.2.2.2.2.2.2.1 (fun z => ?_)
        rw [ek] at z; exact absurd z (by decide)
      · refine zz_lts (N := c.N) (P := fun x => 3 ≤ (ab_ten c 2 c.sl).kd x → ∀ v, v < 8 → zb_MK (aPr (x * 8 + v)) (fun w => (ab_ten c 2 c.sl).fp x (c.C + v) (c.C + w))) hX1.2.2.2.2.2.2.2.2.2.2.1 (fun z => ?_)
        rw [ek] at z; exact absurd z (by decide)
      · show zb_MK (upd aRm c.N 0 c.N) (fun _ => false)
        rw [pk_us]; exact zb_MK0
      · show rx_l fpl aPf 0 (if (ab_ten c 2 c.sl).kd c.N = 4 then [] else (ab_ten c 2 c.sl).lp)
        rw [ek, if_neg (by decide), ab_ten_lp]; exact hX.2.2.2.2.1
      · show (ab_ten c 2 c.sl).kd c.N ≠ 1
        rw [ek]; decide
    · refine ry_com (c := ab_ten c 2 c.sl) hW (rx_l0 bLs 0) (rx_ln hY.2.2.1 (pk_un (by decide))) (rx_ln hY.2.2.2.1 (pk_un (by decide))) ?_ ?_ (fun j hj => rfl) (fun i hi => rfl) ?_
      · show hLv c.N = nI ((ab_ten c 2 c.sl).lv c.N)
        rw [ev]; exact hS
      · intro z
        have z : (ab_ten c 2 c.sl).kd c.N = 4 := z
        rw [ek] at z; exact absurd z (by decide)
      · intro x hx hk
        have hx : x < c.N := hx
        rw [ab_ten_kd hx] at hk
        exact (hI.2.2.2.2.2.2.2.2.1 x hx hk).1
  · exact br_f h0 (yw_add (K := 2) (Or.inl rfl) hI hY (fun _ => ⟨rfl, rel⟩) (fun z => absurd z h0) (fun z => absurd z h0))
theorem i_vc_axiom {k : Nat} {u : SX} {v : SY} (I : i_Rel k u v) (hk : k + 5 ≤ 2564) : wpX_axiom (fun r u' => wpY_axiom (fun r' v' => r' = r ∧ i_Rel (k + 5) u' v') v) u := by
  refine zz_el (P := fun u v => wpX_axiom (fun r u' => wpY_axiom (fun r' v' => r' = r ∧ i_Rel (k + 5) u' v') v) u) ?_ I
  intro fC fV fH fP fsl fll ftl fpl fN fS fh fe ft fr aSy aLb aLt aPf aGv aKd aLv aLn aVr aSt aHc aHs aPr aRm aTl aAr aPl aSk aEl aEs aEp aEx aTs aTn aTb aTz aTp aAs aAl aAv aRe gC gA gH gP gN gS gx gd go bKd bLn bLv bSt bCa bPl bSn bPf bPn bLs bLe bGv bXs bSk bSl bOu bAs bTb bTn c hI hX hY
  have rel : i_Rel (k + 5) (fC, fV, fH, fP, fsl, fll, ftl, fpl, fN, fS, fh, fe, ft, fr, aSy, aLb, aLt, aPf, aGv, aKd, aLv, aLn, aVr, aSt, aHc, aHs, aPr, aRm, aTl, aAr, aPl, aSk, aEl, aEs, aEp, aEx, aTs, aTn, aTb, aTz, aTp, aAs, aAl, aAv, aRe) (gC, gA, gH, gP, gN, gS, gx, gd, go, bKd, bLn, bLv, bSt, bCa, bPl, bSn, bPf, bPn, bLs, bLe, bGv, bXs, bSk, bSl, bOu, bAs, bTb, bTn) := ⟨c, hI, hX, hY⟩
  unfold wpX_axiom wpY_axiom
  refine xw_strRef hI hX ?_
  by_cases h0 : an_ref c = 0
  · obtain ⟨h1, h2, h3, h24⟩ := an_ref0 h0
    have eN : fN = nI c.N := hX.1.2.2.2.2.1
    have ek : (ab_ten c 3 c.sl).kd c.N = 3 := ab_us
    have ev : (ab_ten c 3 c.sl).lv c.N = c.S := ab_us
    have hX1 := rx_ten (k := 3) (s := c.sl) _ hX
    refine br_t h0 ?_
    rw [eN] at hX1 ⊢
    refine xw_build (c := ab_ten c 3 c.sl) (ab_ten_I hI) h24 hX1 ab_us ab_us (fun hHc hHs hPr hhs hpr => ?_)
    refine And.intro (vp_in_nI h24 (by omega)) (nm_r (zb_up c.N rfl rfl) ?_)
    refine xw_addFS (c := c) hI h24 hX.1.1 rfl hX.2.1 (fun m hm => ?_)
    refine yw_add (K := 3) (Or.inr (Or.inl rfl)) hI hY (fun z => absurd h0 z) (fun _ z => absurd z (by decide)) (fun _ _ hKd hLn hLv hSt hSn hW hS m2 => ?_)
    refine pk_le 256 256 (fun _ => br_f (by decide) (yw_303 hY.1.2.2.2.2.1 ⟨rfl, ?_⟩)) (fun h => absurd h (by omega))
    refine ⟨ab_com (ab_ten c 3 c.sl) [] (fun a => decide (a = c.N)) [], zz_comI (Or.inr (Or.inl rfl)) hI h0 (fun z => absurd z (by decide)) (fun a => ⟨fun z => absurd z (by decide), fun _ => rfl, fun z => absurd z (by decide)⟩), ?_, ?_⟩
    · have hX2 : rx_R (ab_ten c 3 c.sl) c.N (fC, fV, fH, fP, fsl, fll, ftl, fpl, nI c.N, fS, fh, fe, ft, fr, aSy, aLb, aLt, aPf, aGv, aKd, aLv, aLn, aVr, aSt, hHc, hHs, hPr, upd aRm c.N ((1 : Int32) <<< (nI c.N &&& 31)), aTl, aAr, aPl, aSk, aEl, aEs, aEp, aEx, aTs, aTn, aTb, aTz, aTp, aAs, aAl, aAv, aRe) := by
        obtain ⟨hf, hsy, hlb, hlt, hpf, hkd, hlv, hst, hvr, _, _, hrm, htl, har, hpl⟩ := hX1
        refine ⟨hf, hsy, hlb, hlt, hpf, hkd, hlv, hst, hvr, fun x hx => hhs x (Nat.lt_succ_of_lt hx), fun x hx => hpr x (Nat.lt_succ_of_lt hx), fun x hx => ?_, htl, har, hpl⟩
        have hx' : x < c.N := hx
        rw [pk_un (Nat.ne_of_lt hx')]; exact hrm x hx
      refine zz_addX (c := ab_ten c 3 c.sl) (ab_ten_I hI) hX2 ab_us ?_ ?_ hhs hpr ?_ ?_ hm ?_
      · show (3 : Int32) = nI ((ab_ten c 3 c.sl).kd c.N)
        rw [ek]; rfl
      · show (0 : Int32) = (ab_ten c 3 c.sl).lev c.N
        unfold ab_W.lev
        rw [ek, if_pos (by decide)]
      · show zb_MK (upd aRm c.N ((1 : Int32) <<< (nI c.N &&& 31)) c.N) (fun a => decide (a = c.N))
        rw [pk_us]; exact zb_MKs (by omega)
      · show rx_l fpl aPf 0 (if (ab_ten c 3 c.sl).kd c.N = 4 then [] else (ab_ten c 3 c.sl).lp)
        rw [ek, if_neg (by decide), ab_ten_lp]; exact hX.2.2.2.2.1
      · show (ab_ten c 3 c.sl).kd c.N ≠ 1
        rw [ek]; decide
    · refine ry_com (c := ab_ten c 3 c.sl) hW (rx_l0 bLs 0) (rx_ln hY.2.2.1 (pk_un (by decide))) (rx_ln hY.2.2.2.1 (pk_un (by decide))) ?_ ?_ (fun j hj => rfl) (fun i hi => rfl) ?_
      · show hLv c.N = nI ((ab_ten c 3 c.sl).lv c.N)
        rw [ev]; exact hS
      · intro z
        have z : (ab_ten c 3 c.sl).kd c.N = 4 := z
        rw [ek] at z; exact absurd z (by decide)
      · intro x hx hk
        have hx : x < c.N := hx
        rw [ab_ten_kd hx] at hk
        exact (hI.2.2.2.2.2.2.2.2.1 x hx hk).1
  · exact br_f h0 (yw_add (K := 3) (Or.inr (Or.inl rfl)) hI hY (fun _ => ⟨rfl, rel⟩) (fun z => absurd z h0) (fun z => absurd z h0))
end
section
/-! stacks of strings in arrays; coverage -/
def qs_ (a n : Nat → Int32) : Nat → List (List Nat) → Prop
  | _, [] => True
  | i, w :: r => (n i = nI w.length ∧ zb_Sg a (i * 16) w) ∧ qs_ a n (i + 1) r
theorem qs_app {a n : Nat → Int32} : ∀ (A B : List (List Nat)) (i : Nat), qs_ a n i (A ++ B) ↔ qs_ a n i A ∧ qs_ a n (i + A.length) B := by
  intro A
  induction A with
  | nil => intro B i; exact ⟨fun h => ⟨trivial, h⟩, fun h => h.2⟩
  | cons w A ih =>
    intro B i
    show _ ∧ qs_ a n (i + 1) (A ++ B) ↔ (_ ∧ qs_ a n (i + 1) A) ∧ qs_ a n (i + (A.length + 1)) B
    rw [ih B (i + 1), show i + 1 + A.length = i + (A.length + 1) by omega]
    exact and_assoc.symm
theorem qs_cg {a n a' n' : Nat → Int32} : ∀ (A : List (List Nat)) (i : Nat), (∀ w, w ∈ A → w.length ≤ 16) → (∀ k, k < i + A.length → n' k = n k) → (∀ k, k < (i + A.length) * 16 → a' k = a k) → qs_ a n i A → qs_ a' n' i A := by
  intro A
  induction A with
  | nil => intro i _ _ _ _; trivial
  | cons w A ih =>
    intro i hw hn ha h
    have hl := hw w List.mem_cons_self
    have e : i + (w :: A).length = i + 1 + A.length := by rw [List.length_cons]; omega
    rw [e] at hn ha
    refine ⟨⟨by rw [hn i (by omega)]; exact h.1.1, zb_cg h.1.2 (fun k hk => ha _ (by omega))⟩, ih (i + 1) (fun w' hw' => hw w' (List.mem_cons_of_mem _ hw')) hn ha h.2⟩
theorem qs_get {a n : Nat → Int32} : ∀ (A : List (List Nat)) (i k : Nat) (w : List Nat), A[k]? = some w → qs_ a n i A → n (i + k) = nI w.length ∧ zb_Sg a ((i + k) * 16) w := by
  intro A
  induction A with
  | nil => intro i k w h _; simp at h
  | cons v A ih =>
    intro i k w h hq
    cases k with
    | zero =>
      simp at h
      subst h
      exact hq.1
    | succ k =>
      have h : A[k]? = some w := by simpa using h
      have := ih (i + 1) k w h hq.2
      rwa [show i + 1 + k = i + (k + 1) by omega] at this
/-- domain of the assignment -/
def rn_cv (c : ab_W) : List Nat → List Nat → Prop
  | [], _ => True
  | j :: js, D => if c.kd j = 1 then rn_cv c js (c.var j :: D) else (∀ s, s ∈ c.sg j → c.C ≤ s → s ∈ D) ∧ rn_cv c js D
def rn_dm (c : ab_W) : List Nat → List Nat → List Nat
  | [], D => D
  | j :: js, D => if c.kd j = 1 then rn_dm c js (c.var j :: D) else rn_dm c js D
theorem rn_dm_mono {c : ab_W} : ∀ (js D : List Nat) (s : Nat), s ∈ D → s ∈ rn_dm c js D := by
  intro js
  induction js with
  | nil => intro D s h; exact h
  | cons j js ih =>
    intro D s h
    show s ∈ if c.kd j = 1 then rn_dm c js (c.var j :: D) else rn_dm c js D
    by_cases q : c.kd j = 1
    · rw [if_pos q]; exact ih _ s (List.mem_cons_of_mem _ h)
    · rw [if_neg q]; exact ih _ s h
theorem rn_cov {c : ab_W} {x : Nat} (hc : ab_cov c x) (hk : ∀ j, j ∈ c.hs x → c.kd j ≠ 1 → c.kd j = 2) : ∀ (js pre D : List Nat), c.hs x = pre ++ js → (∀ i, i ∈ pre → c.kd i = 1 → c.var i ∈ D) → rn_cv c js D ∧ (∀ i, i ∈ pre ++ js → c.kd i = 1 → c.var i ∈ rn_dm c js D) := by
  intro js
  induction js with
  | nil =>
    intro pre D _ h
    refine ⟨trivial, fun i hi hk => ?_⟩
    rw [List.append_nil] at hi
    exact h i hi hk
  | cons j js ih =>
    intro pre D e h
    have e2 : c.hs x = (pre ++ [j]) ++ js := by rw [List.append_assoc]; exact e
    show (if c.kd j = 1 then rn_cv c js (c.var j :: D) else (∀ s, s ∈ c.sg j → c.C ≤ s → s ∈ D) ∧ rn_cv c js D) ∧ (∀ i, i ∈ pre ++ j :: js → c.kd i = 1 → c.var i ∈ if c.kd j = 1 then rn_dm c js (c.var j :: D) else rn_dm c js D)
    have em : ∀ i, i ∈ pre ++ j :: js ↔ i ∈ (pre ++ [j]) ++ js := fun i => by rw [List.append_assoc]; rfl
    by_cases q : c.kd j = 1
    · rw [if_pos q]
      have := ih (pre ++ [j]) (c.var j :: D) e2 (fun i hi hk => by
        rcases List.mem_append.mp hi with hi | hi
        · exact List.mem_cons_of_mem _ (h i hi hk)
        · rw [List.mem_singleton] at hi
          rw [hi]; exact List.mem_cons_self)
      refine ⟨this.1, fun i hi hk => ?_⟩
      rw [if_pos q]
      exact this.2 i ((em i).mp hi) hk
    · rw [if_neg q]
      have := ih (pre ++ [j]) D e2 (fun i hi hk => by
        rcases List.mem_append.mp hi with hi | hi
        · exact h i hi hk
        · rw [List.mem_singleton] at hi
          rw [hi] at hk; exact absurd hk q)
      refine ⟨⟨fun s hs hC => ?_, this.1⟩, fun i hi hk => ?_⟩
      · have hj : j ∈ c.hs x := by rw [e]; exact List.mem_append.mpr (Or.inr List.mem_cons_self)
        obtain ⟨i, h1, h2, h3, h4⟩ := hc.2 j hj (hk j hj q) s hs hC
        rw [e] at h2
        rcases List.mem_append.mp h2 with h2 | h2
        · rw [← h4]; exact h i h2 h3
        · exfalso
          have hp : (c.hs x).Pairwise (· < ·) := ab_hs_sorted
          rw [e] at hp
          have hp := (List.pairwise_append.mp hp).2.1
          rw [List.pairwise_cons] at hp
          rcases List.mem_cons.mp h2 with h2 | h2
          · omega
          · have := hp.1 i h2; omega
      · rw [if_neg q]
        exact this.2 i ((em i).mp hi) hk
theorem rn_covx {c : ab_W} {x : Nat} (hI : ab_I c) (hx : x < c.N) (h3 : 3 ≤ c.kd x) : rn_cv c (c.hs x) [] ∧ ∀ s, c.C ≤ s → c.man x s = true → s ∈ rn_dm c (c.hs x) [] := by
  have hc := hI.2.2.2.2.2.2.1 x hx h3
  have hk : ∀ j, j ∈ c.hs x → c.kd j ≠ 1 → c.kd j = 2 := by
    intro j hj h1
    have h := (ab_inF_i.mp (ab_hs_i.mp hj)).1
    have := (hI.2.2.1 j (by omega)).1
    omega
  have := rn_cov hc hk (c.hs x) [] [] rfl (fun i hi => absurd hi List.not_mem_nil)
  refine ⟨this.1, fun s hC hm => ?_⟩
  obtain ⟨i, h1, h2, h4⟩ := hc.1 s hC hm
  rw [← h4]
  exact this.2 i h1 h2
/-- lists: a piece in front -/
theorem zb_front {A R B : List Nat} : A ++ R = B ↔ A.length ≤ B.length ∧ (∀ k, k < A.length → B.getD k 0 = A.getD k 0) ∧ R = B.drop A.length := by
  constructor
  · intro h
    subst h
    refine ⟨by rw [List.length_append]; omega, fun k hk => zb_gal hk, by rw [List.drop_left]⟩
  · intro ⟨h1, h2, h3⟩
    rw [h3]
    have : B.take A.length = A := by
      apply List.ext_getElem
      · rw [List.length_take]; omega
      · intro i hi1 hi2
        rw [List.getElem_take]
        have := h2 i hi2
        rw [List.getD_eq_getElem?_getD, List.getD_eq_getElem?_getD, List.getElem?_eq_getElem hi2, List.getElem?_eq_getElem (by omega)] at this
        exact this
    conv => lhs; rw [← this]
    rw [List.length_take, show min A.length B.length = A.length by omega]
    exact List.take_append_drop _ _
theorem zb_drop {w : List Nat} {p : Nat} (h : p < w.length) : w.drop p = w.getD p 0 :: w.drop (p + 1) := by
  rw [List.drop_eq_getElem_cons h, List.getD_eq_getElem?_getD, List.getElem?_eq_getElem h]
  rfl
theorem zb_dropg {w : List Nat} {p k : Nat} : (w.drop p).getD k 0 = w.getD (p + k) 0 := by
  rw [List.getD_eq_getElem?_getD, List.getD_eq_getElem?_getD, List.getElem?_drop]
/-- the assignment σ on D, as pieces of the component's stack -/
def ax1_ (c : ab_W) (l : List Nat) (aSk : Nat → Int32) (x y z : Int32) : Prop := ∃ a, x = nI a ∧ y = nI l.length ∧ zb_Sg aSk a l ∧ a + l.length ≤ 256 ∧ zb_MK z (fun v => decide (c.C + v ∈ l)) ∧ (∀ y, y ∈ l → y < c.C + c.V)
def ax_ (c : ab_W) (σ : Nat → List Nat) (D : List Nat) (aSk aAs aAl aAv : Nat → Int32) : Prop := ∀ s, s ∈ D → (c.C ≤ s ∧ s < c.C + c.V) ∧ ax1_ c (σ s) aSk (aAs (s - c.C)) (aAl (s - c.C)) (aAv (s - c.C))
end
section
/-! the component: matching, disjointness, substitution -/
theorem rn_sbs_c {C : Nat} {σ : Nat → List Nat} {y : Nat} {l : List Nat} (h : y < C) : rn_sbs C σ (y :: l) = y :: rn_sbs C σ l := by
  show (if y < C then [y] else σ y) ++ rn_sbs C σ l = _
  rw [if_pos h]; rfl
theorem rn_sbs_v {C : Nat} {σ : Nat → List Nat} {y : Nat} {l : List Nat} (h : C ≤ y) : rn_sbs C σ (y :: l) = σ y ++ rn_sbs C σ l := by
  show (if y < C then [y] else σ y) ++ rn_sbs C σ l = _
  rw [if_neg (by omega)]
section
variable {c : ab_W} {M : Nat} {fC fV fH fP fsl fll ftl fpl fN fS fh fe ft fr : Int32} {aSy aLb aLt aPf aGv aKd aLv aLn aVr aSt aHc aHs aPr aRm aTl aAr aPl aSk aEl aEs aEp aEx aTs aTn aTb aTz aTp aAs aAl aAv aRe : Nat → Int32}
theorem xl_ml {post : Int32 → Prop} {j e : Nat} {w : List Nat} {σ : Nat → List Nat} {D : List Nat} (hI : ab_I c) (hR : rx_R c M (fC, fV, fH, fP, fsl, fll, ftl, fpl, fN, fS, fh, fe, ft, fr, aSy, aLb, aLt, aPf, aGv, aKd, aLv, aLn, aVr, aSt, aHc, aHs, aPr, aRm, aTl, aAr, aPl, aSk, aEl, aEs, aEp, aEx, aTs, aTn, aTb, aTz, aTp, aAs, aAl, aAv, aRe)) (hj : j < c.N) (he : e < 16) (hw : zb_Sg aSk (e * 16) w) (hwl : w.length ≤ 16) (hws : ∀ y, y ∈ w → y < c.C + c.V) (hA : ax_ c σ D aSk aAs aAl aAv) :
    ∀ (l : List Nat) (i p : Nat), zb_Sg aSt (j * 10 + i) l → i + l.length = (c.sg j).length → (∀ s, s ∈ l → s < c.C + c.V) → (∀ s, s ∈ l → c.C ≤ s → s ∈ D) → p ≤ w.length → post (zb_1 (decide (rn_sbs c.C σ l = w.drop p))) → wX_matchesLogical_13 post (nI j) (nI e) (nI w.length) fC fV fH fP fsl fll ftl fpl fN fS fh fe ft fr aSy aLb aLt aPf aGv aKd aLv aLn aVr aSt aHc aHs aPr aRm aTl aAr aPl aSk aEl aEs aEp aEx aTs aTn aTb aTz aTp aAs aAl aAv aRe (l.length + 1) (nI p) (nI i) := by
  obtain ⟨z1, z2, z3, z4, z5, z6, z7, z8, z9, z10⟩ := hI.1
  have ho := hI.2.2.1 j hj
  have hsl := ho.2.2.2.1
  have hlen : aLn j = nI (c.sg j).length := (hR.2.2.2.2.2.2.2.1 j hj).1
  have i1 : vp_in (nI j) 24 := vp_in_nI (by omega) (by omega)
  intro l
  induction l with
  | nil =>
    intro i p _ hi _ _ hp k
    have hi : i + 0 = (c.sg j).length := hi
    refine And.intro i1 ?_
    rw [nI_clamp (by omega), hlen]
    refine pk_le _ i (fun _ => pk_eq p w.length (fun q => ?_) (fun q => ?_) rfl rfl (by omega) (by omega)) (fun h => absurd h (by omega)) rfl rfl (by omega) (by omega)
    · refine zb_k1 k (decide_eq_true ?_)
      rw [q, List.drop_length]; rfl
    · refine zb_k0 k (decide_eq_false ?_)
      intro z
      have := congrArg List.length z
      rw [List.length_drop] at this
      have : 0 = w.length - p := this
      omega
  | cons y l ih =>
    intro i p hs hi hb hD hp k
    rw [zb_cons] at hs
    have hy := hb y List.mem_cons_self
    rw [List.length_cons] at hi
    refine And.intro i1 ?_
    rw [nI_clamp (by omega), hlen]
    refine pk_le _ i (fun h => absurd h (by omega)) (fun _ => And.intro (pk_in (j * 10 + i) 240 (by omega) (zb_x10 j i)) ?_) rfl rfl (by omega) (by omega)
    refine nm_r (e' := nI y) (by rw [zb_c10 j i (by omega)]; exact hs.1) ?_
    have ih' := fun p => ih (i + 1) p hs.2 (by omega) (fun s h => hb s (List.mem_cons_of_mem _ h)) (fun s h => hD s (List.mem_cons_of_mem _ h))
    refine pk_le c.C y (fun q => ?_) (fun q => ?_) hR.1.1 rfl
    · obtain ⟨hr, a, a1, a2, a3, a4, a5, a6⟩ := hA y (hD y List.mem_cons_self q)
      rw [rn_sbs_v q] at k
      refine nm_r (e' := nI (y - c.C)) (by rw [hR.1.1, pk_sub q]) (And.intro (vp_in_nI (by omega) (by omega)) (nm_r (e' := nI (σ y).length) (by rw [nI_clamp (by omega)]; exact a2) ?_))
      refine pk_le (p + (σ y).length) w.length (fun q2 => ?_) (fun q2 => zb_k0 k (decide_eq_false ?_)) (nI_add _ _) rfl (by omega) (by omega)
      · by_cases hall : ∀ k, k < (σ y).length → w.getD (p + k) 0 = (σ y).getD k 0
        · have hk : post (zb_1 (decide (rn_sbs c.C σ l = w.drop (p + (σ y).length)))) := by
            refine zb_1d k ?_
            rw [decide_eq_decide, zb_front]
            rw [List.length_drop, List.drop_drop]
            constructor
            · intro h; exact h.2.2
            · intro h; exact ⟨by omega, fun k hk => by rw [zb_dropg]; exact hall k hk, h⟩
          refine zb_find (fun n x => wX_matchesLogical_110 post (wX_matchesLogical_13 post (nI j) (nI e) (nI w.length) fC fV fH fP fsl fll ftl fpl fN fS fh fe ft fr aSy aLb aLt aPf aGv aKd aLv aLn aVr aSt aHc aHs aPr aRm aTl aAr aPl aSk aEl aEs aEp aEx aTs aTn aTb aTz aTp aAs aAl aAv aRe (l.length + 1)) (nI j) (nI e) (nI w.length) (nI p) (nI i) (nI (y - c.C)) (nI (σ y).length) fC fV fH fP fsl fll ftl fpl fN fS fh fe ft fr aSy aLb aLt aPf aGv aKd aLv aLn aVr aSt aHc aHs aPr aRm aTl aAr aPl aSk aEl aEs aEp aEx aTs aTn aTb aTz aTp aAs aAl aAv aRe n (nI x)) (fun _ => True) (σ y).length ?_ (fun m x hx h => absurd trivial h) ?_
          · intro m x hx _ w2
            have e1 : nI e * 16 + nI p + nI x = nI (e * 16 + p + x) := by rw [zb_x16, nI_add]
            have e2 : aAs (nI (y - c.C)).toNatClampNeg + nI x = nI (a + x) := by rw [nI_clamp (by omega), a1, nI_add]
            refine pk_le (σ y).length x (fun h => absurd h (by omega)) (fun _ => ?_) rfl rfl (by omega) (by omega)
            refine And.intro (pk_in (e * 16 + p + x) 256 (by omega) e1) (And.intro (vp_in_nI (by omega) (by omega)) (And.intro (pk_in (a + x) 256 (by omega) e2) ?_))
            refine br_t ?_ (nm_r (nI_1 x) w2)
            rw [e1, e2, nI_clamp (by omega), nI_clamp (by omega), a3 x hx, Nat.add_assoc, hw (p + x) (by omega), hall x hx]
          · intro _ m
            exact pk_le (σ y).length (σ y).length (fun _ => nm_r (nI_add _ _) (nm_r (nI_1 i) (ih' (p + (σ y).length) q2 hk))) (fun h => absurd h (by omega)) rfl rfl (by omega) (by omega)
        · have hk : post 0 := by
            refine zb_k0 k (decide_eq_false ?_)
            rw [zb_front]
            intro z
            exact hall (fun k hk => by have := z.2.1 k hk; rwa [zb_dropg] at this)
          refine zb_find (fun n x => wX_matchesLogical_110 post (wX_matchesLogical_13 post (nI j) (nI e) (nI w.length) fC fV fH fP fsl fll ftl fpl fN fS fh fe ft fr aSy aLb aLt aPf aGv aKd aLv aLn aVr aSt aHc aHs aPr aRm aTl aAr aPl aSk aEl aEs aEp aEx aTs aTn aTb aTz aTp aAs aAl aAv aRe (l.length + 1)) (nI j) (nI e) (nI w.length) (nI p) (nI i) (nI (y - c.C)) (nI (σ y).length) fC fV fH fP fsl fll ftl fpl fN fS fh fe ft fr aSy aLb aLt aPf aGv aKd aLv aLn aVr aSt aHc aHs aPr aRm aTl aAr aPl aSk aEl aEs aEp aEx aTs aTn aTb aTz aTp aAs aAl aAv aRe n (nI x)) (fun k => w.getD (p + k) 0 = (σ y).getD k 0) (σ y).length ?_ ?_ (fun h => absurd h hall)
          · intro m x hx hp2 w2
            have e1 : nI e * 16 + nI p + nI x = nI (e * 16 + p + x) := by rw [zb_x16, nI_add]
            have e2 : aAs (nI (y - c.C)).toNatClampNeg + nI x = nI (a + x) := by rw [nI_clamp (by omega), a1, nI_add]
            refine pk_le (σ y).length x (fun h => absurd h (by omega)) (fun _ => ?_) rfl rfl (by omega) (by omega)
            refine And.intro (pk_in (e * 16 + p + x) 256 (by omega) e1) (And.intro (vp_in_nI (by omega) (by omega)) (And.intro (pk_in (a + x) 256 (by omega) e2) ?_))
            refine br_t ?_ (nm_r (nI_1 x) w2)
            rw [e1, e2, nI_clamp (by omega), nI_clamp (by omega), a3 x hx, Nat.add_assoc, hw (p + x) (by omega), hp2]
          · intro m x hx hp2 _
            have e1 : nI e * 16 + nI p + nI x = nI (e * 16 + p + x) := by rw [zb_x16, nI_add]
            have e2 : aAs (nI (y - c.C)).toNatClampNeg + nI x = nI (a + x) := by rw [nI_clamp (by omega), a1, nI_add]
            refine pk_le (σ y).length x (fun h => absurd h (by omega)) (fun _ => ?_) rfl rfl (by omega) (by omega)
            refine And.intro (pk_in (e * 16 + p + x) 256 (by omega) e1) (And.intro (vp_in_nI (by omega) (by omega)) (And.intro (pk_in (a + x) 256 (by omega) e2) ?_))
            refine br_f ?_ hk
            rw [e1, e2, nI_clamp (by omega), nI_clamp (by omega), a3 x hx, Nat.add_assoc, hw (p + x) (by omega)]
            intro z
            have b1 := hws _ (zb_gm (l := w) (i := p + x) (by omega))
            have b2 := a6 _ (zb_gm (l := σ y) (i := x) hx)
            exact hp2 ((nI_eq (by omega) (by omega)).mp z)
      · rw [zb_front]
        intro z
        have := z.1
        rw [List.length_drop] at this
        omega
    · rw [rn_sbs_c q] at k
      refine pk_le w.length p (fun q2 => zb_k0 k (decide_eq_false ?_)) (fun q2 => And.intro (pk_in (e * 16 + p) 256 (by omega) (zb_x16 e p)) ?_) rfl rfl (by omega) (by omega)
      · intro z
        have := congrArg List.length z
        rw [List.length_drop, List.length_cons] at this
        omega
      · rw [zb_c16 e p (by omega), hw p q2]
        have b1 := hws _ (zb_gm (l := w) (i := p) q2)
        rw [zb_drop q2] at k
        refine pk_eq (w.getD p 0) y (fun q3 => nm_r (nI_1 p) (nm_r (nI_1 i) (ih' (p + 1) (by omega) (zb_1d k ?_)))) (fun q3 => zb_k0 k (decide_eq_false ?_)) rfl rfl (by omega) (by omega)
        · rw [decide_eq_decide, q3]
          constructor
          · intro h; exact (List.cons.inj h).2
          · intro h; rw [h]
        · intro z
          exact q3 (List.cons.inj z).1.symm
theorem xw_ml {post : Int32 → Prop} {j e : Nat} {w : List Nat} {σ : Nat → List Nat} {D : List Nat} (hI : ab_I c) (hR : rx_R c M (fC, fV, fH, fP, fsl, fll, ftl, fpl, fN, fS, fh, fe, ft, fr, aSy, aLb, aLt, aPf, aGv, aKd, aLv, aLn, aVr, aSt, aHc, aHs, aPr, aRm, aTl, aAr, aPl, aSk, aEl, aEs, aEp, aEx, aTs, aTn, aTb, aTz, aTp, aAs, aAl, aAv, aRe)) (hj : j < c.N) (he : e < 16) (hwn : aEl e = nI w.length) (hw : zb_Sg aSk (e * 16) w) (hwl : w.length ≤ 16) (hws : ∀ y, y ∈ w → y < c.C + c.V) (hA : ax_ c σ D aSk aAs aAl aAv) (hD : ∀ s, s ∈ c.sg j → c.C ≤ s → s ∈ D) (k : post (zb_1 (decide (rn_sbs c.C σ (c.sg j) = w)))) : wpX_matchesLogical post (fC, fV, fH, fP, fsl, fll, ftl, fpl, fN, fS, fh, fe, ft, fr, aSy, aLb, aLt, aPf, aGv, aKd, aLv, aLn, aVr, aSt, aHc, aHs, aPr, aRm, aTl, aAr, aPl, aSk, aEl, aEs, aEp, aEx, aTs, aTn, aTb, aTz, aTp, aAs, aAl, aAv, aRe) (nI j) (nI e) := by
  refine And.intro (vp_in_nI he (by omega)) (nm_r (e' := nI w.length) (by rw [nI_clamp (by omega)]; exact hwn) ?_)
  exact ⟨_, xl_ml hI hR hj he hw hwl hws hA (c.sg j) 0 0 (hR.2.2.2.2.2.2.2.1 j hj).2 (by omega) (hI.2.2.1 j hj).2.2.2.2.2.1 hD (Nat.zero_le _) k⟩
theorem zb_tailg {w : List Nat} {k : Nat} : w.tail.getD k 0 = w.getD (k + 1) 0 := by
  cases w with
  | nil => rfl
  | cons a w => rfl
theorem xw_assign {post : SX → Prop} {v e : Nat} {w : List Nat} (hI : ab_I c) (hR : rx_R c M (fC, fV, fH, fP, fsl, fll, ftl, fpl, fN, fS, fh, fe, ft, fr, aSy, aLb, aLt, aPf, aGv, aKd, aLv, aLn, aVr, aSt, aHc, aHs, aPr, aRm, aTl, aAr, aPl, aSk, aEl, aEs, aEp, aEx, aTs, aTn, aTb, aTz, aTp, aAs, aAl, aAv, aRe)) (hv : v < 8) (he : e < 16) (hwn : aEl e = nI w.length) (hw : zb_Sg aSk (e * 16) w) (hw1 : 1 ≤ w.length) (hwl : w.length ≤ 16) (hws : ∀ y, y ∈ w → y < c.C + c.V) (k : ∀ m, zb_MK m (fun b => decide (c.C + b ∈ w.tail)) → post (fC, fV, fH, fP, fsl, fll, ftl, fpl, fN, fS, fh, fe, ft, fr, aSy, aLb, aLt, aPf, aGv, aKd, aLv, aLn, aVr, aSt, aHc, aHs, aPr, aRm, aTl, aAr, aPl, aSk, aEl, aEs, aEp, aEx, aTs, aTn, aTb, aTz, aTp, upd aAs v (nI (e * 16 + 1)), upd aAl v (nI (w.length - 1)), upd aAv v m, aRe)) : wpX_assign post (fC, fV, fH, fP, fsl, fll, ftl, fpl, fN, fS, fh, fe, ft, fr, aSy, aLb, aLt, aPf, aGv, aKd, aLv, aLn, aVr, aSt, aHc, aHs, aPr, aRm, aTl, aAr, aPl, aSk, aEl, aEs, aEp, aEx, aTs, aTn, aTb, aTz, aTp, aAs, aAl, aAv, aRe) (nI v) (nI e) := by
  have htl : w.tail.length = w.length - 1 := List.length_tail
  have ie : vp_in (nI e) 16 := vp_in_nI he (by omega)
  have iv : vp_in (nI v) 8 := vp_in_nI hv (by omega)
  have key : ∀ d i m, i + d = w.tail.length → zb_MK m (fun b => decide (c.C + b ∈ w.tail.take i)) → wX_assign_5 post (nI v) (nI e) fC fV fH fP fsl fll ftl fpl fN fS fh fe ft fr aSy aLb aLt aPf aGv aKd aLv aLn aVr aSt aHc aHs aPr aRm aTl aAr aPl aSk aEl aEs aEp aEx aTs aTn aTb aTz aTp aAs aAl aAv aRe (d + 1) m (nI (i + 1)) := by
    intro d
    induction d with
    | zero =>
      intro i m hi hm
      rw [List.take_of_length_le (by omega)] at hm
      refine And.intro ie ?_
      rw [nI_clamp (by omega), hwn]
      refine pk_le w.length (i + 1) (fun _ => ?_) (fun h => absurd h (by omega)) rfl rfl (by omega) (by omega)
      refine And.intro iv (nm_r (zb_up v rfl (zb_z16 e)) (And.intro ie (And.intro iv (nm_r (zb_up v rfl (by rw [show nI w.length - 1 = nI (w.length - 1) from pk_sub (b := 1) hw1])) (And.intro iv (nm_r (zb_up v rfl rfl) (k m hm)))))))
    | succ d ih =>
      intro i m hi hm
      have hlt : i < w.tail.length := by omega
      refine And.intro ie ?_
      rw [nI_clamp (by omega), hwn]
      refine pk_le w.length (i + 1) (fun h => absurd h (by omega)) (fun _ => And.intro (pk_in (e * 16 + (i + 1)) 256 (by omega) (zb_x16 e (i + 1))) ?_) rfl rfl (by omega) (by omega)
      rw [zb_c16 e (i + 1) (by omega), hw (i + 1) (by omega), ← zb_tailg]
      refine xw_varBit hI hR (hws _ (List.mem_of_mem_tail (zb_gm hlt))) (fun m2 h2 => ?_)
      refine nm_e (nm_r (nI_1 (i + 1)) (ih (i + 1) _ (by omega) ?_))
      refine zb_MKe (zb_MKor hm h2) (fun b _ => ?_)
      rw [← Bool.decide_or, decide_eq_decide, zb_take1 hlt]
  exact ⟨_, key w.tail.length 0 0 (by omega) (zb_MKe zb_MK0 (fun b _ => by rw [decide_eq_false (by simp)]))⟩
end
end
section
/-! the component: all hypotheses, the disjoint pairs, the substituted string -/
theorem ax_ext {c : ab_W} {σ : Nat → List Nat} {D : List Nat} {aSk aAs aAl aAv : Nat → Int32} {e s : Nat} {w : List Nat} {m : Int32} (hA : ax_ c σ D aSk aAs aAl aAv) (hs : c.C ≤ s ∧ s < c.C + c.V) (he : e < 16) (hw : zb_Sg aSk (e * 16) w) (hw1 : 1 ≤ w.length) (hwl : w.length ≤ 16) (hws : ∀ y, y ∈ w → y < c.C + c.V) (hm : zb_MK m (fun b => decide (c.C + b ∈ w.tail))) : ax_ c (fun t => if t = s then w.tail else σ t) (s :: D) aSk (upd aAs (s - c.C) (nI (e * 16 + 1))) (upd aAl (s - c.C) (nI (w.length - 1))) (upd aAv (s - c.C) m) := by
  intro t ht
  have htl : w.tail.length = w.length - 1 := List.length_tail
  by_cases q : t = s
  · refine ⟨by rw [q]; exact hs, ?_⟩
    have e1 : (fun t => if t = s then w.tail else σ t) t = w.tail := if_pos q
    rw [e1, q, pk_us, pk_us, pk_us]
    refine ⟨e * 16 + 1, rfl, by rw [htl], ?_, by omega, hm, fun y hy => hws y (List.mem_of_mem_tail hy)⟩
    intro k hk
    rw [zb_tailg, Nat.add_assoc, Nat.add_comm 1 k]
    exact hw (k + 1) (by omega)
  · have htD : t ∈ D := by
      rcases List.mem_cons.mp ht with h | h
      · exact absurd h q
      · exact h
    obtain ⟨h1, h2⟩ := hA t htD
    refine ⟨h1, ?_⟩
    have e1 : (fun t => if t = s then w.tail else σ t) t = σ t := if_neg q
    rw [e1, pk_un (by omega), pk_un (by omega), pk_un (by omega)]
    exact h2
/-- what every entry's string is -/
def ws_ok (c : ab_W) (ws : List (List Nat)) : Prop := ∀ w, w ∈ ws → 1 ≤ w.length ∧ w.length ≤ 16 ∧ ∀ y, y ∈ w → y < c.C + c.V
section
variable {c : ab_W} {M : Nat} {fC fV fH fP fsl fll ftl fpl fN fS fh fe ft fr : Int32} {aSy aLb aLt aPf aGv aKd aLv aLn aVr aSt aHc aHs aPr aRm aTl aAr aPl aSk aEl aEs aEp aEx aTs aTn aTb aTz aTp aAs aAl aAv aRe : Nat → Int32}
theorem xl_mh {post : Int32 → SX → Prop} {x b : Nat} (hI : ab_I c) (hR : rx_R c M (fC, fV, fH, fP, fsl, fll, ftl, fpl, fN, fS, fh, fe, ft, fr, aSy, aLb, aLt, aPf, aGv, aKd, aLv, aLn, aVr, aSt, aHc, aHs, aPr, aRm, aTl, aAr, aPl, aSk, aEl, aEs, aEp, aEx, aTs, aTn, aTb, aTz, aTp, aAs, aAl, aAv, aRe)) (hx : x < c.N) (hxM : x < M) (h3 : 3 ≤ c.kd x) :
    ∀ (js : List Nat) (ws : List (List Nat)) (i : Nat) (σ : Nat → List Nat) (D : List Nat) (hAs hAl hAv : Nat → Int32), (c.hs x).length = i + js.length → zb_Sg aHs (x * 24 + i) js → (∀ j, j ∈ js → j < x) → ws.length = js.length → b + i + ws.length ≤ 16 → qs_ aSk aEl (b + i) ws → ws_ok c ws → ax_ c σ D aSk hAs hAl hAv → rn_cv c js D →
    (rn_mt c.C c.kd c.sg js ws σ = none → ∀ gAs gAl gAv : Nat → Int32, post 0 (fC, fV, fH, fP, fsl, fll, ftl, fpl, fN, fS, fh, fe, ft, fr, aSy, aLb, aLt, aPf, aGv, aKd, aLv, aLn, aVr, aSt, aHc, aHs, aPr, aRm, aTl, aAr, aPl, aSk, aEl, aEs, aEp, aEx, aTs, aTn, aTb, aTz, aTp, gAs, gAl, gAv, aRe)) →
    (∀ σ', rn_mt c.C c.kd c.sg js ws σ = some σ' → ∀ gAs gAl gAv : Nat → Int32, ax_ c σ' (rn_dm c js D) aSk gAs gAl gAv → post 1 (fC, fV, fH, fP, fsl, fll, ftl, fpl, fN, fS, fh, fe, ft, fr, aSy, aLb, aLt, aPf, aGv, aKd, aLv, aLn, aVr, aSt, aHc, aHs, aPr, aRm, aTl, aAr, aPl, aSk, aEl, aEs, aEp, aEx, aTs, aTn, aTb, aTz, aTp, gAs, gAl, gAv, aRe)) →
    wX_matchHypotheses_2 post (nI x) (nI b) (js.length + 1) (nI i) fC fV fH fP fsl fll ftl fpl fN fS fh fe ft fr aSy aLb aLt aPf aGv aKd aLv aLn aVr aSt aHc aHs aPr aRm aTl aAr aPl aSk aEl aEs aEp aEx aTs aTn aTb aTz aTp hAs hAl hAv aRe := by
  obtain ⟨z1, z2, z3, z4, z5, z6, z7, z8, z9, z10⟩ := hI.1
  have hhs := hR.2.2.2.2.2.2.2.2.2.1 x hxM h3
  have hlen : (c.hs x).length ≤ x := ab_hs_len
  have ix : vp_in (nI x) 24 := vp_in_nI (by omega) (by omega)
  intro js
  induction js with
  | nil =>
    intro ws i σ D hAs hAl hAv hl _ _ hwl _ _ _ hA _ kn ks
    have hl : (c.hs x).length = i := hl
    refine And.intro ix ?_
    rw [nI_clamp (by omega), hhs.1]
    refine pk_le _ i (fun _ => ?_) (fun h => absurd h (by omega)) rfl rfl (by omega) (by omega)
    exact ks σ (by simp [rn_mt]) _ _ _ hA
  | cons j js ih =>
    intro ws i σ D hAs hAl hAv hl hsg hjx hwl hb16 hq hok hA hcv kn ks
    cases ws with
    | nil => simp at hwl
    | cons w ws =>
      rw [List.length_cons] at hl hwl hb16
      rw [List.length_cons] at hwl
      rw [zb_cons] at hsg
      have hj := hjx j List.mem_cons_self
      have hjN : j < c.N := by omega
      have ho := hI.2.2.1 j hjN
      have hk4 := ho.2.1
      have hw := hok w List.mem_cons_self
      have hst := hR.2.2.2.2.2.2.2.1 j hjN
      have ij : vp_in (nI j) 24 := vp_in_nI (by omega) (by omega)
      refine And.intro ix ?_
      rw [nI_clamp (by omega), hhs.1]
      refine pk_le _ i (fun h => absurd h (by omega)) (fun _ => And.intro (pk_in (x * 24 + i) 576 (by omega) (zb_x24 x i)) ?_) rfl rfl (by omega) (by omega)
      refine nm_r (e' := nI j) (by rw [zb_c24 x i (by omega)]; exact hsg.1) (nm_r (nI_add b i) (And.intro ij ?_))
      rw [nI_clamp (by omega), hR.2.2.2.2.2.1 j hjN]
      refine pk_eq (c.kd j) 1 (fun q => ?_) (fun q => ?_) rfl rfl (by omega) (by omega)
      · have h2 := ho.2.2.2.2.2.2.1 q
        have hv : c.var j < c.C + c.V := ho.2.2.2.2.2.1 _ (zb_gm (by omega))
        have e0 : aSk ((b + i) * 16) = nI (w.getD 0 0) := hq.1.2 0 hw.1
        have e1 : aSt (j * 10) = nI ((c.sg j).getD 0 0) := hst.2 0 (by omega)
        have e2 : aSt (j * 10 + 1) = nI (c.var j) := hst.2 1 (by omega)
        refine And.intro (pk_in ((b + i) * 16) 256 (by omega) (zb_y16 _)) (And.intro (pk_in (j * 10) 240 (by omega) (zb_y10 _)) ?_)
        rw [zb_e16 _ (by omega), zb_e10 _ (by omega), e0, e1]
        have b1 := hw.2.2 _ (zb_gm (l := w) (i := 0) hw.1)
        have b2 := ho.2.2.2.2.1
        refine pk_eq (w.getD 0 0) ((c.sg j).getD 0 0) (fun q2 => ?_) (fun q2 => ?_) rfl rfl (by omega) (by omega)
        · refine And.intro (pk_in (j * 10 + 1) 240 (by omega) (zb_z10 j)) (nm_r (e' := nI (c.var j - c.C)) (by rw [zb_d10 j (by omega), e2, hR.1.1, pk_sub h2.2]) ?_)
          refine xw_assign hI (rx_ig hR) (by omega) (by omega) hq.1.1 hq.1.2 hw.1 hw.2.1 hw.2.2 (fun m hm => nm_r (nI_1 i) ?_)
          have hcv' : rn_cv c js (c.var j :: D) := by
            have h : if c.kd j = 1 then rn_cv c js (c.var j :: D) else _ := hcv
            rw [if_pos q] at h; exact h
          have emt : rn_mt c.C c.kd c.sg (j :: js) (w :: ws) σ = rn_mt c.C c.kd c.sg js ws (fun t => if t = c.var j then w.tail else σ t) := by
            show (if c.kd j = 1 then (if w.getD 0 0 = (c.sg j).getD 0 0 then _ else none) else _) = _
            rw [if_pos q, if_pos q2]; rfl
          have edm : rn_dm c (j :: js) D = rn_dm c js (c.var j :: D) := by
            show (if c.kd j = 1 then _ else _) = _
            rw [if_pos q]
          refine ih ws (i + 1) _ (c.var j :: D) _ _ _ (by omega) hsg.2 (fun j' h => hjx j' (List.mem_cons_of_mem _ h)) (by omega) (by omega) hq.2 (fun w' h => hok w' (List.mem_cons_of_mem _ h)) (ax_ext hA ⟨h2.2, hv⟩ (by omega) hq.1.2 hw.1 hw.2.1 hw.2.2 hm) hcv' ?_ ?_
          · intro h; exact kn (emt.trans h)
          · intro σ' h gAs gAl gAv hg
            rw [← edm] at hg
            exact ks σ' (emt.trans h) gAs gAl gAv hg
        · refine kn ?_ _ _ _
          show (if c.kd j = 1 then (if w.getD 0 0 = (c.sg j).getD 0 0 then _ else none) else _) = none
          rw [if_pos q, if_neg q2]
      · have hcv' : (∀ s, s ∈ c.sg j → c.C ≤ s → s ∈ D) ∧ rn_cv c js D := by
          have h : if c.kd j = 1 then _ else (∀ s, s ∈ c.sg j → c.C ≤ s → s ∈ D) ∧ rn_cv c js D := hcv
          rw [if_neg q] at h; exact h
        have edm : rn_dm c (j :: js) D = rn_dm c js D := by
          show (if c.kd j = 1 then _ else _) = _
          rw [if_neg q]
        refine xw_ml (w := w) (σ := σ) (D := D) hI (rx_ig hR) hjN (by omega) hq.1.1 hq.1.2 hw.2.1 hw.2.2 hA hcv'.1 (zb_br (fun q2 => ?_) (fun q2 => nm_r (nI_1 i) ?_))
        · refine kn ?_ _ _ _
          rw [decide_eq_false_iff_not] at q2
          show (if c.kd j = 1 then _ else if rn_sbs c.C σ (c.sg j) = w then _ else none) = none
          rw [if_neg q, if_neg q2]
        · rw [decide_eq_true_iff] at q2
          have emt : rn_mt c.C c.kd c.sg (j :: js) (w :: ws) σ = rn_mt c.C c.kd c.sg js ws σ := by
            show (if c.kd j = 1 then _ else if rn_sbs c.C σ (c.sg j) = w then _ else none) = _
            rw [if_neg q, if_pos q2]
          refine ih ws (i + 1) σ D _ _ _ (by omega) hsg.2 (fun j' h => hjx j' (List.mem_cons_of_mem _ h)) (by omega) (by omega) hq.2 (fun w' h => hok w' (List.mem_cons_of_mem _ h)) hA hcv'.2 ?_ ?_
          · intro h; exact kn (emt.trans h)
          · intro σ' h gAs gAl gAv hg
            rw [← edm] at hg
            exact ks σ' (emt.trans h) gAs gAl gAv hg
theorem xw_asDis {post : Int32 → Prop} {v w : Nat} {σ : Nat → List Nat} {D : List Nat} (hI : ab_I c) (hR : rx_R c M (fC, fV, fH, fP, fsl, fll, ftl, fpl, fN, fS, fh, fe, ft, fr, aSy, aLb, aLt, aPf, aGv, aKd, aLv, aLn, aVr, aSt, aHc, aHs, aPr, aRm, aTl, aAr, aPl, aSk, aEl, aEs, aEp, aEx, aTs, aTn, aTb, aTz, aTp, aAs, aAl, aAv, aRe)) (hA : ax_ c σ D aSk aAs aAl aAv) (hv : c.C + v ∈ D) (hw : c.C + w ∈ D) (k : post (zb_1 (rn_apart c.C c.pl (σ (c.C + v)) (σ (c.C + w))))) : wpX_assignedDisjoint post (fC, fV, fH, fP, fsl, fll, ftl, fpl, fN, fS, fh, fe, ft, fr, aSy, aLb, aLt, aPf, aGv, aKd, aLv, aLn, aVr, aSt, aHc, aHs, aPr, aRm, aTl, aAr, aPl, aSk, aEl, aEs, aEp, aEx, aTs, aTn, aTb, aTz, aTp, aAs, aAl, aAv, aRe) (nI v) (nI w) := by
  obtain ⟨z1, z2, z3, z4, z5, z6, z7, z8, z9, z10⟩ := hI.1
  obtain ⟨v1, a, _, _, _, _, v2, v3⟩ := hA _ hv
  obtain ⟨w1, a', _, _, _, _, w2, w3⟩ := hA _ hw
  rw [Nat.add_sub_cancel_left] at v2 w2
  have har := hR.2.2.2.2.2.2.2.2.2.2.2.2.2.1
  have hz : ∀ y, y < 8 → (aAv w &&& (aAr y ^^^ (-1)) = 0 ↔ ∀ z, z ∈ σ (c.C + w) → c.C ≤ z → c.pl (c.C + y) z ≠ 0) := by
    intro y hy
    rw [zb_MK0i (zb_MKand w2 (zb_MKn (har y hy)))]
    constructor
    · intro h z hz hC
      have h1 := w3 z hz
      have := h (z - c.C) (by omega)
      rw [show c.C + (z - c.C) = z by omega, decide_eq_true hz, Bool.true_and, Bool.not_eq_false', decide_eq_true_iff] at this
      exact this
    · intro h b _
      by_cases q : c.C + b ∈ σ (c.C + w)
      · rw [decide_eq_true q, Bool.true_and, Bool.not_eq_false', decide_eq_true_iff]
        exact h _ q (by omega)
      · rw [decide_eq_false q, Bool.false_and]
  have iv : vp_in (nI v) 8 := vp_in_nI (by omega) (by omega)
  have iw : vp_in (nI w) 8 := vp_in_nI (by omega) (by omega)
  unfold wpX_assignedDisjoint
  refine zb_find (fun n y => wX_assignedDisjoint_2 post (nI v) (nI w) fC fV fH fP fsl fll ftl fpl fN fS fh fe ft fr aSy aLb aLt aPf aGv aKd aLv aLn aVr aSt aHc aHs aPr aRm aTl aAr aPl aSk aEl aEs aEp aEx aTs aTn aTb aTz aTp aAs aAl aAv aRe n (nI y)) (fun y => ¬ (c.C + y ∈ σ (c.C + v) ∧ ¬ (aAv w &&& (aAr y ^^^ (-1)) = 0))) 8 ?_ ?_ ?_
  · intro m y hy hp w0
    refine pk_le 8 y (fun h => absurd h (by omega)) (fun _ => And.intro iv ?_)
    rw [nI_clamp (n := v) (by omega)]
    refine xw_hasBit v2 (by omega) (zb_br (fun q => nm_r (nI_1 y) w0) (fun q => And.intro iw (And.intro (vp_in_nI hy (by omega)) ?_)))
    rw [decide_eq_true_iff] at q
    rw [nI_clamp (n := w) (by omega), nI_clamp (n := y) (by omega)]
    exact br_t (Classical.not_not.mp (fun z => hp ⟨q, z⟩)) (nm_r (nI_1 y) w0)
  · intro m y hy hp _
    obtain ⟨p1, p2⟩ := Classical.not_not.mp hp
    refine pk_le 8 y (fun h => absurd h (by omega)) (fun _ => And.intro iv ?_)
    rw [nI_clamp (n := v) (by omega)]
    refine xw_hasBit v2 (by omega) (zb_br (fun q => ?_) (fun q => And.intro iw (And.intro (vp_in_nI hy (by omega)) ?_)))
    · rw [decide_eq_false_iff_not] at q; exact absurd p1 q
    · rw [nI_clamp (n := w) (by omega), nI_clamp (n := y) (by omega)]
      refine br_f p2 (zb_k0 k ?_)
      rw [Bool.eq_false_iff]
      intro z
      rw [rn_apart_i] at z
      exact p2 ((hz y hy).mpr (fun t ht hC => z _ p1 t ht (by omega) hC))
  · intro hp m
    refine pk_le 8 8 (fun _ => zb_k1 k ?_) (fun h => absurd h (by omega))
    rw [rn_apart_i]
    intro y hy t ht hC hC2
    have h1 := v3 y hy
    have := hp (y - c.C) (by omega)
    rw [show c.C + (y - c.C) = y by omega] at this
    have h2 := Classical.not_not.mp (fun z => this ⟨hy, z⟩)
    have h3 := (hz (y - c.C) (by omega)).mp h2 t ht hC2
    rwa [show c.C + (y - c.C) = y by omega] at h3
theorem xw_disHolds {post : Int32 → Prop} {x : Nat} {σ : Nat → List Nat} {D : List Nat} (hI : ab_I c) (hR : rx_R c M (fC, fV, fH, fP, fsl, fll, ftl, fpl, fN, fS, fh, fe, ft, fr, aSy, aLb, aLt, aPf, aGv, aKd, aLv, aLn, aVr, aSt, aHc, aHs, aPr, aRm, aTl, aAr, aPl, aSk, aEl, aEs, aEp, aEx, aTs, aTn, aTb, aTz, aTp, aAs, aAl, aAv, aRe)) (hx : x < c.N) (hxM : x < M) (h3 : 3 ≤ c.kd x) (hA : ax_ c σ D aSk aAs aAl aAv) (hD : ∀ s, c.C ≤ s → c.man x s = true → s ∈ D) (k : post (zb_1 (rn_dj c x σ))) : wpX_disjointHolds post (fC, fV, fH, fP, fsl, fll, ftl, fpl, fN, fS, fh, fe, ft, fr, aSy, aLb, aLt, aPf, aGv, aKd, aLv, aLn, aVr, aSt, aHc, aHs, aPr, aRm, aTl, aAr, aPl, aSk, aEl, aEs, aEp, aEx, aTs, aTn, aTb, aTz, aTp, aAs, aAl, aAv, aRe) (nI x) := by
  obtain ⟨z1, z2, z3, z4, z5, z6, z7, z8, z9, z10⟩ := hI.1
  have hpr := hR.2.2.2.2.2.2.2.2.2.2.1 x hxM h3
  have hfp : ∀ v w, c.fp x (c.C + v) (c.C + w) = true → c.C + v ∈ D ∧ c.C + w ∈ D := by
    intro v w h
    unfold ab_W.fp at h
    rw [Bool.and_eq_true, Bool.and_eq_true] at h
    exact ⟨hD _ (by omega) h.2.1, hD _ (by omega) h.2.2⟩
  unfold wpX_disjointHolds
  by_cases hall : ∀ v, v < 8 → ∀ w, v + 1 ≤ w → w < 8 → c.fp x (c.C + v) (c.C + w) = true → rn_apart c.C c.pl (σ (c.C + v)) (σ (c.C + w)) = true
  · have hk : post 1 := by
      refine zb_k1 k (rn_dj_i.mpr (fun s t hs ht hC hst hf => ?_))
      have := hall (s - c.C) (by omega) (t - c.C) (by omega) (by omega)
      rw [show c.C + (s - c.C) = s by omega, show c.C + (t - c.C) = t by omega] at this
      exact this hf
    refine zb_count (fun n v => wX_disjointHolds_2 post (nI x) fC fV fH fP fsl fll ftl fpl fN fS fh fe ft fr aSy aLb aLt aPf aGv aKd aLv aLn aVr aSt aHc aHs aPr aRm aTl aAr aPl aSk aEl aEs aEp aEx aTs aTn aTb aTz aTp aAs aAl aAv aRe n (nI v)) 8 ?_ ?_
    · intro m v hv w0
      refine pk_le 8 v (fun h => absurd h (by omega)) (fun _ => And.intro (pk_in (x * 8 + v) 192 (by omega) (zb_x8 x v)) ?_)
      rw [zb_c8 x v (by omega)]
      refine nm_e (nm_r (nI_1 v) ?_)
      refine zb_countF (fun n w => wX_disjointHolds_25 post (wX_disjointHolds_2 post (nI x) fC fV fH fP fsl fll ftl fpl fN fS fh fe ft fr aSy aLb aLt aPf aGv aKd aLv aLn aVr aSt aHc aHs aPr aRm aTl aAr aPl aSk aEl aEs aEp aEx aTs aTn aTb aTz aTp aAs aAl aAv aRe m) (nI x) (nI v) (aPr (x * 8 + v)) fC fV fH fP fsl fll ftl fpl fN fS fh fe ft fr aSy aLb aLt aPf aGv aKd aLv aLn aVr aSt aHc aHs aPr aRm aTl aAr aPl aSk aEl aEs aEp aEx aTs aTn aTb aTz aTp aAs aAl aAv aRe n (nI w)) (v + 1) 8 (by omega) ?_ ?_
      · intro m2 w h1 h2 w2
        refine pk_le 8 w (fun h => absurd h (by omega)) (fun _ => ?_)
        refine xw_hasBit (hpr v hv) (by omega) (zb_br (fun q => nm_r (nI_1 w) w2) (fun q => ?_))
        obtain ⟨d1, d2⟩ := hfp v w q
        refine xw_asDis hI hR hA d1 d2 ?_
        rw [hall v hv w h1 h2 q]
        exact br_f (by decide) (nm_r (nI_1 w) w2)
      · intro m2
        exact pk_le 8 8 (fun _ => nm_r (nI_1 v) w0) (fun h => absurd h (by omega))
    · intro m
      exact pk_le 8 8 (fun _ => hk) (fun h => absurd h (by omega))
  · have hk : post 0 := by
      refine zb_k0 k ?_
      rw [Bool.eq_false_iff]
      intro z
      rw [rn_dj_i] at z
      refine hall (fun v hv w h1 h2 hf => ?_)
      obtain ⟨d1, d2⟩ := hfp v w hf
      exact z _ _ (hA _ d1).1.2 (hA _ d2).1.2 (by omega) (by omega) hf
    have hrow : ∀ (m v : Nat), v < 8 → (∀ w, v + 1 ≤ w → w < 8 → c.fp x (c.C + v) (c.C + w) = true → rn_apart c.C c.pl (σ (c.C + v)) (σ (c.C + w)) = true) → wX_disjointHolds_2 post (nI x) fC fV fH fP fsl fll ftl fpl fN fS fh fe ft fr aSy aLb aLt aPf aGv aKd aLv aLn aVr aSt aHc aHs aPr aRm aTl aAr aPl aSk aEl aEs aEp aEx aTs aTn aTb aTz aTp aAs aAl aAv aRe m (nI (v + 1)) → wX_disjointHolds_2 post (nI x) fC fV fH fP fsl fll ftl fpl fN fS fh fe ft fr aSy aLb aLt aPf aGv aKd aLv aLn aVr aSt aHc aHs aPr aRm aTl aAr aPl aSk aEl aEs aEp aEx aTs aTn aTb aTz aTp aAs aAl aAv aRe (m + 1) (nI v) := by
      intro m v hv hr w0
      refine pk_le 8 v (fun h => absurd h (by omega)) (fun _ => And.intro (pk_in (x * 8 + v) 192 (by omega) (zb_x8 x v)) ?_)
      rw [zb_c8 x v (by omega)]
      refine nm_e (nm_r (nI_1 v) ?_)
      refine zb_countF (fun n w => wX_disjointHolds_25 post (wX_disjointHolds_2 post (nI x) fC fV fH fP fsl fll ftl fpl fN fS fh fe ft fr aSy aLb aLt aPf aGv aKd aLv aLn aVr aSt aHc aHs aPr aRm aTl aAr aPl aSk aEl aEs aEp aEx aTs aTn aTb aTz aTp aAs aAl aAv aRe m) (nI x) (nI v) (aPr (x * 8 + v)) fC fV fH fP fsl fll ftl fpl fN fS fh fe ft fr aSy aLb aLt aPf aGv aKd aLv aLn aVr aSt aHc aHs aPr aRm aTl aAr aPl aSk aEl aEs aEp aEx aTs aTn aTb aTz aTp aAs aAl aAv aRe n (nI w)) (v + 1) 8 (by omega) ?_ ?_
      · intro m2 w h1 h2 w2
        refine pk_le 8 w (fun h => absurd h (by omega)) (fun _ => ?_)
        refine xw_hasBit (hpr v hv) (by omega) (zb_br (fun q => nm_r (nI_1 w) w2) (fun q => ?_))
        obtain ⟨d1, d2⟩ := hfp v w q
        refine xw_asDis hI hR hA d1 d2 ?_
        rw [hr w h1 h2 q]
        exact br_f (by decide) (nm_r (nI_1 w) w2)
      · intro m2
        exact pk_le 8 8 (fun _ => nm_r (nI_1 v) w0) (fun h => absurd h (by omega))
    refine zb_find (fun n v => wX_disjointHolds_2 post (nI x) fC fV fH fP fsl fll ftl fpl fN fS fh fe ft fr aSy aLb aLt aPf aGv aKd aLv aLn aVr aSt aHc aHs aPr aRm aTl aAr aPl aSk aEl aEs aEp aEx aTs aTn aTb aTz aTp aAs aAl aAv aRe n (nI v)) (fun v => ∀ w, v + 1 ≤ w → w < 8 → c.fp x (c.C + v) (c.C + w) = true → rn_apart c.C c.pl (σ (c.C + v)) (σ (c.C + w)) = true) 8 (fun m v hv hr w0 => hrow m v hv hr w0) ?_ (fun h => absurd h hall)
    intro m v hv hp _
    refine pk_le 8 v (fun h => absurd h (by omega)) (fun _ => And.intro (pk_in (x * 8 + v) 192 (by omega) (zb_x8 x v)) ?_)
    rw [zb_c8 x v (by omega)]
    refine nm_e (nm_r (nI_1 v) ?_)
    refine zb_searchF (fun n w => wX_disjointHolds_25 post (wX_disjointHolds_2 post (nI x) fC fV fH fP fsl fll ftl fpl fN fS fh fe ft fr aSy aLb aLt aPf aGv aKd aLv aLn aVr aSt aHc aHs aPr aRm aTl aAr aPl aSk aEl aEs aEp aEx aTs aTn aTb aTz aTp aAs aAl aAv aRe m) (nI x) (nI v) (aPr (x * 8 + v)) fC fV fH fP fsl fll ftl fpl fN fS fh fe ft fr aSy aLb aLt aPf aGv aKd aLv aLn aVr aSt aHc aHs aPr aRm aTl aAr aPl aSk aEl aEs aEp aEx aTs aTn aTb aTz aTp aAs aAl aAv aRe n (nI w)) (fun w => c.fp x (c.C + v) (c.C + w) = true → rn_apart c.C c.pl (σ (c.C + v)) (σ (c.C + w)) = true) (v + 1) 8 (by omega) ?_ ?_ ?_
    · intro m2 w h1 h2 hr w2
      refine pk_le 8 w (fun h => absurd h (by omega)) (fun _ => ?_)
      refine xw_hasBit (hpr v hv) (by omega) (zb_br (fun q => nm_r (nI_1 w) w2) (fun q => ?_))
      obtain ⟨d1, d2⟩ := hfp v w q
      refine xw_asDis hI hR hA d1 d2 ?_
      rw [hr q]
      exact br_f (by decide) (nm_r (nI_1 w) w2)
    · intro m2 w h1 h2 hr _
      refine pk_le 8 w (fun h => absurd h (by omega)) (fun _ => ?_)
      refine xw_hasBit (hpr v hv) (by omega) (zb_br (fun q => ?_) (fun q => ?_))
      · exact absurd (fun z => by rw [q] at z; exact absurd z (by decide)) hr
      · obtain ⟨d1, d2⟩ := hfp v w q
        refine xw_asDis hI hR hA d1 d2 (zb_br (fun _ => hk) (fun z => absurd (fun _ => z) hr))
    · intro hr
      exact absurd (fun w h1 h2 => hr w h1 h2) hp
theorem xl_sub {post : Int32 → SX → Prop} {x : Nat} {σ : Nat → List Nat} {D : List Nat} (hI : ab_I c) (hR : rx_R c M (fC, fV, fH, fP, fsl, fll, ftl, fpl, fN, fS, fh, fe, ft, fr, aSy, aLb, aLt, aPf, aGv, aKd, aLv, aLn, aVr, aSt, aHc, aHs, aPr, aRm, aTl, aAr, aPl, aSk, aEl, aEs, aEp, aEx, aTs, aTn, aTb, aTz, aTp, aAs, aAl, aAv, aRe)) (hx : x < c.N) (hA : ax_ c σ D aSk aAs aAl aAv) :
    ∀ (l : List Nat) (i : Nat) (R : List Nat) (gr : Int32) (hRe : Nat → Int32), zb_Sg aSt (x * 10 + i) l → i + l.length = (c.sg x).length → (∀ s, s ∈ l → s < c.C + c.V) → (∀ s, s ∈ l → c.C ≤ s → s ∈ D) → gr = nI R.length → R.length ≤ 16 → zb_Sg hRe 0 R →
    ((R ++ rn_sbs c.C σ l).length ≤ 16 → ∀ (jr : Int32) (gRe : Nat → Int32), jr = nI (R ++ rn_sbs c.C σ l).length → zb_Sg gRe 0 (R ++ rn_sbs c.C σ l) → post 1 (fC, fV, fH, fP, fsl, fll, ftl, fpl, fN, fS, fh, fe, ft, jr, aSy, aLb, aLt, aPf, aGv, aKd, aLv, aLn, aVr, aSt, aHc, aHs, aPr, aRm, aTl, aAr, aPl, aSk, aEl, aEs, aEp, aEx, aTs, aTn, aTb, aTz, aTp, aAs, aAl, aAv, gRe)) →
    (16 < (R ++ rn_sbs c.C σ l).length → ∀ (jr : Int32) (gRe : Nat → Int32), post 0 (fC, fV, fH, fP, fsl, fll, ftl, fpl, fN, fS, fh, fe, ft, jr, aSy, aLb, aLt, aPf, aGv, aKd, aLv, aLn, aVr, aSt, aHc, aHs, aPr, aRm, aTl, aAr, aPl, aSk, aEl, aEs, aEp, aEx, aTs, aTn, aTb, aTz, aTp, aAs, aAl, aAv, gRe)) →
    wX_substitute_7 post (nI x) fC fV fH fP fsl fll ftl fpl fN fS fh fe ft (l.length + 1) (nI i) gr aSy aLb aLt aPf aGv aKd aLv aLn aVr aSt aHc aHs aPr aRm aTl aAr aPl aSk aEl aEs aEp aEx aTs aTn aTb aTz aTp aAs aAl aAv hRe := by
  obtain ⟨z1, z2, z3, z4, z5, z6, z7, z8, z9, z10⟩ := hI.1
  have ho := hI.2.2.1 x hx
  have hsl := ho.2.2.2.1
  have hlen : aLn x = nI (c.sg x).length := (hR.2.2.2.2.2.2.2.1 x hx).1
  have ix : vp_in (nI x) 24 := vp_in_nI (by omega) (by omega)
  intro l
  induction l with
  | nil =>
    intro i R gr hRe _ hi _ _ hgr hR16 hsR k1 k0
    have hi : i + 0 = (c.sg x).length := hi
    refine And.intro ix ?_
    rw [nI_clamp (by omega), hlen]
    refine pk_le _ i (fun _ => ?_) (fun h => absurd h (by omega)) rfl rfl (by omega) (by omega)
    have e : R ++ rn_sbs c.C σ [] = R := List.append_nil R
    rw [e] at k1
    exact k1 hR16 gr hRe hgr hsR
  | cons y l ih =>
    intro i R gr hRe hs hi hb hD hgr hR16 hsR k1 k0
    rw [zb_cons] at hs
    have hy := hb y List.mem_cons_self
    rw [List.length_cons] at hi
    refine And.intro ix ?_
    rw [nI_clamp (by omega), hlen]
    refine pk_le _ i (fun h => absurd h (by omega)) (fun _ => And.intro (pk_in (x * 10 + i) 240 (by omega) (zb_x10 x i)) ?_) rfl rfl (by omega) (by omega)
    refine nm_r (e' := nI y) (by rw [zb_c10 x i (by omega)]; exact hs.1) ?_
    have ih' := fun R gr hRe => ih (i + 1) R gr hRe hs.2 (by omega) (fun s h => hb s (List.mem_cons_of_mem _ h)) (fun s h => hD s (List.mem_cons_of_mem _ h))
    refine pk_le c.C y (fun q => ?_) (fun q => ?_) hR.1.1 rfl
    · obtain ⟨hr, a, a1, a2, a3, a4, a5, a6⟩ := hA y (hD y List.mem_cons_self q)
      rw [rn_sbs_v q, ← List.append_assoc] at k1 k0
      refine nm_r (e' := nI (y - c.C)) (by rw [hR.1.1, pk_sub q]) (And.intro (vp_in_nI (by omega) (by omega)) (nm_r (e' := nI (σ y).length) (by rw [nI_clamp (by omega)]; exact a2) ?_))
      have hla : (R ++ σ y).length = R.length + (σ y).length := List.length_append
      refine pk_le (R.length + (σ y).length) 16 (fun q2 => ?_) (fun q2 => k0 (by rw [List.length_append, hla]; omega) _ _) (by rw [hgr, nI_add]) rfl (by omega) (by omega)
      have key : ∃ n, wX_substitute_105 post (wX_substitute_7 post (nI x) fC fV fH fP fsl fll ftl fpl fN fS fh fe ft (l.length + 1)) (nI x) (nI i) (nI (y - c.C)) (nI (σ y).length) fC fV fH fP fsl fll ftl fpl fN fS fh fe ft gr n (nI 0) aSy aLb aLt aPf aGv aKd aLv aLn aVr aSt aHc aHs aPr aRm aTl aAr aPl aSk aEl aEs aEp aEx aTs aTn aTb aTz aTp aAs aAl aAv (zb_cp hRe R.length (fun k => aSk (a + k)) 0) := by
        refine zb_count (fun n k => wX_substitute_105 post (wX_substitute_7 post (nI x) fC fV fH fP fsl fll ftl fpl fN fS fh fe ft (l.length + 1)) (nI x) (nI i) (nI (y - c.C)) (nI (σ y).length) fC fV fH fP fsl fll ftl fpl fN fS fh fe ft gr n (nI k) aSy aLb aLt aPf aGv aKd aLv aLn aVr aSt aHc aHs aPr aRm aTl aAr aPl aSk aEl aEs aEp aEx aTs aTn aTb aTz aTp aAs aAl aAv (zb_cp hRe R.length (fun k => aSk (a + k)) k)) (σ y).length ?_ ?_
        · intro m k hk w
          rw [← zb_cpS] at w
          have e1 : aAs (nI (y - c.C)).toNatClampNeg + nI k = nI (a + k) := by rw [nI_clamp (by omega), a1, nI_add]
          have e2 : gr + nI k = nI (R.length + k) := by rw [hgr, nI_add]
          refine pk_le (σ y).length k (fun h => absurd h (by omega)) (fun _ => And.intro (vp_in_nI (by omega) (by omega)) (And.intro (pk_in (a + k) 256 (by omega) e1) (And.intro (pk_in (R.length + k) 16 (by omega) e2) ?_))) rfl rfl (by omega) (by omega)
          exact nm_r (zb_up (R.length + k) e2 (by rw [e1, nI_clamp (by omega)])) (nm_r (nI_1 k) w)
        · intro m
          refine pk_le (σ y).length (σ y).length (fun _ => ?_) (fun h => absurd h (by omega)) rfl rfl (by omega) (by omega)
          refine nm_r (e' := nI (R ++ σ y).length) (by rw [hgr, nI_add, hla]) (nm_r (nI_1 i) (ih' (R ++ σ y) _ _ rfl (by omega) ?_ k1 k0))
          rw [zb_app]
          refine ⟨zb_cpK hsR (by omega), ?_⟩
          rw [Nat.zero_add]
          exact zb_cpG a3
      rw [zb_cp0] at key
      exact key
    · rw [rn_sbs_c q, show R ++ y :: rn_sbs c.C σ l = (R ++ [y]) ++ rn_sbs c.C σ l by rw [List.append_assoc]; rfl] at k1 k0
      have hla : (R ++ [y]).length = R.length + 1 := by rw [List.length_append]; rfl
      refine pk_lt R.length 16 (fun q2 => ?_) (fun q2 => k0 (by rw [List.length_append, hla]; omega) _ _) hgr rfl (by omega) (by omega)
      refine And.intro (pk_in R.length 16 q2 hgr) (nm_r (zb_up R.length hgr rfl) (nm_r (e' := nI (R ++ [y]).length) (by rw [hgr, nI_1, hla]) (nm_r (nI_1 i) (ih' (R ++ [y]) _ _ rfl (by omega) ?_ k1 k0))))
      rw [zb_app, zb_one, Nat.zero_add]
      exact ⟨zb_cu hsR (by omega), pk_us⟩
theorem xw_sub {post : Int32 → SX → Prop} {x : Nat} {σ : Nat → List Nat} {D : List Nat} (hI : ab_I c) (hR : rx_R c M (fC, fV, fH, fP, fsl, fll, ftl, fpl, fN, fS, fh, fe, ft, fr, aSy, aLb, aLt, aPf, aGv, aKd, aLv, aLn, aVr, aSt, aHc, aHs, aPr, aRm, aTl, aAr, aPl, aSk, aEl, aEs, aEp, aEx, aTs, aTn, aTb, aTz, aTp, aAs, aAl, aAv, aRe)) (hx : x < c.N) (hA : ax_ c σ D aSk aAs aAl aAv) (hD : ∀ s, s ∈ c.sg x → c.C ≤ s → s ∈ D)
    (k1 : (rn_sbs c.C σ (c.sg x)).length ≤ 16 → ∀ (jr : Int32) (gRe : Nat → Int32), jr = nI (rn_sbs c.C σ (c.sg x)).length → zb_Sg gRe 0 (rn_sbs c.C σ (c.sg x)) → post 1 (fC, fV, fH, fP, fsl, fll, ftl, fpl, fN, fS, fh, fe, ft, jr, aSy, aLb, aLt, aPf, aGv, aKd, aLv, aLn, aVr, aSt, aHc, aHs, aPr, aRm, aTl, aAr, aPl, aSk, aEl, aEs, aEp, aEx, aTs, aTn, aTb, aTz, aTp, aAs, aAl, aAv, gRe))
    (k0 : 16 < (rn_sbs c.C σ (c.sg x)).length → ∀ (jr : Int32) (gRe : Nat → Int32), post 0 (fC, fV, fH, fP, fsl, fll, ftl, fpl, fN, fS, fh, fe, ft, jr, aSy, aLb, aLt, aPf, aGv, aKd, aLv, aLn, aVr, aSt, aHc, aHs, aPr, aRm, aTl, aAr, aPl, aSk, aEl, aEs, aEp, aEx, aTs, aTn, aTb, aTz, aTp, aAs, aAl, aAv, gRe)) : wpX_substitute post (fC, fV, fH, fP, fsl, fll, ftl, fpl, fN, fS, fh, fe, ft, fr, aSy, aLb, aLt, aPf, aGv, aKd, aLv, aLn, aVr, aSt, aHc, aHs, aPr, aRm, aTl, aAr, aPl, aSk, aEl, aEs, aEp, aEx, aTs, aTn, aTb, aTz, aTp, aAs, aAl, aAv, aRe) (nI x) := by
  unfold wpX_substitute
  exact ⟨_, xl_sub hI hR hx hA (c.sg x) 0 [] 0 aRe (hR.2.2.2.2.2.2.2.1 x hx).2 (by omega) (hI.2.2.1 x hx).2.2.2.2.2.1 hD rfl (Nat.zero_le _) (zb_nil _ _) k1 k0⟩
end
end
section
/-! the component: one label -/
def qp_ (a p : Nat → Int32) : Nat → Nat → List rn_E → Prop
  | _, _, [] => True
  | i, o, e :: r => (a i = nI o ∧ p i = nI e.2.2) ∧ qp_ a p (i + 1) (o + e.2.1.length) r
theorem qp_app {a p : Nat → Int32} : ∀ (A B : List rn_E) (i o : Nat), qp_ a p i o (A ++ B) ↔ qp_ a p i o A ∧ qp_ a p (i + A.length) (o + (rn_xs A).length) B := by
  intro A
  induction A with
  | nil => intro B i o; exact ⟨fun h => ⟨trivial, h⟩, fun h => h.2⟩
  | cons e A ih =>
    intro B i o
    have ex : (rn_xs (e :: A)).length = e.2.1.length + (rn_xs A).length := by
      show (e.2.1 ++ rn_xs A).length = _
      rw [List.length_append]
    show _ ∧ qp_ a p (i + 1) (o + e.2.1.length) (A ++ B) ↔ (_ ∧ qp_ a p (i + 1) (o + e.2.1.length) A) ∧ qp_ a p (i + (A.length + 1)) (o + (rn_xs (e :: A)).length) B
    rw [ih B (i + 1), ex, show i + 1 + A.length = i + (A.length + 1) by omega, Nat.add_assoc]
    exact and_assoc.symm
theorem qp_cg {a p a' p' : Nat → Int32} : ∀ (A : List rn_E) (i o : Nat), (∀ k, k < i + A.length → a' k = a k ∧ p' k = p k) → qp_ a p i o A → qp_ a' p' i o A := by
  intro A
  induction A with
  | nil => intro i o _ _; trivial
  | cons e A ih =>
    intro i o h hq
    have e1 : i + (e :: A).length = i + 1 + A.length := by rw [List.length_cons]; omega
    rw [e1] at h
    exact ⟨⟨by rw [(h i (by omega)).1]; exact hq.1.1, by rw [(h i (by omega)).2]; exact hq.1.2⟩, ih (i + 1) _ h hq.2⟩
def qt_ (s n b z p : Nat → Int32) : Nat → List rn_T → Prop
  | _, [] => True
  | i, t :: r => (n i = nI t.1.1.length ∧ zb_Sg s (i * 16) t.1.1 ∧ b i = nI t.2 ∧ z i = nI t.1.2.1.length ∧ p i = nI t.1.2.2) ∧ qt_ s n b z p (i + 1) r
theorem qt_app {s n b z p : Nat → Int32} : ∀ (A B : List rn_T) (i : Nat), qt_ s n b z p i (A ++ B) ↔ qt_ s n b z p i A ∧ qt_ s n b z p (i + A.length) B := by
  intro A
  induction A with
  | nil => intro B i; exact ⟨fun h => ⟨trivial, h⟩, fun h => h.2⟩
  | cons t A ih =>
    intro B i
    show _ ∧ qt_ s n b z p (i + 1) (A ++ B) ↔ (_ ∧ qt_ s n b z p (i + 1) A) ∧ qt_ s n b z p (i + (A.length + 1)) B
    rw [ih B (i + 1), show i + 1 + A.length = i + (A.length + 1) by omega]
    exact and_assoc.symm
theorem qt_cg {s n b z p s' n' b' z' p' : Nat → Int32} : ∀ (A : List rn_T) (i : Nat), (∀ t, t ∈ A → t.1.1.length ≤ 16) → (∀ k, k < i + A.length → n' k = n k ∧ b' k = b k ∧ z' k = z k ∧ p' k = p k) → (∀ k, k < (i + A.length) * 16 → s' k = s k) → qt_ s n b z p i A → qt_ s' n' b' z' p' i A := by
  intro A
  induction A with
  | nil => intro i _ _ _ _; trivial
  | cons t A ih =>
    intro i hw hn ha h
    have hl := hw t List.mem_cons_self
    have e : i + (t :: A).length = i + 1 + A.length := by rw [List.length_cons]; omega
    rw [e] at hn ha
    obtain ⟨⟨h1, h2, h3, h4, h5⟩, h6⟩ := h
    obtain ⟨n1, n2, n3, n4⟩ := hn i (by omega)
    exact ⟨⟨by rw [n1]; exact h1, zb_cg h2 (fun k hk => ha _ (by omega)), by rw [n2]; exact h3, by rw [n3]; exact h4, by rw [n4]; exact h5⟩, ih (i + 1) (fun t' ht' => hw t' (List.mem_cons_of_mem _ ht')) hn ha h6⟩
theorem qt_get {s n b z p : Nat → Int32} : ∀ (A : List rn_T) (i k : Nat) (t : rn_T), A[k]? = some t → qt_ s n b z p i A → n (i + k) = nI t.1.1.length ∧ zb_Sg s ((i + k) * 16) t.1.1 ∧ b (i + k) = nI t.2 ∧ z (i + k) = nI t.1.2.1.length ∧ p (i + k) = nI t.1.2.2 := by
  intro A
  induction A with
  | nil => intro i k t h _; simp at h
  | cons v A ih =>
    intro i k t h hq
    cases k with
    | zero =>
      simp at h
      subst h
      exact hq.1
    | succ k =>
      have h : A[k]? = some t := by simpa using h
      have := ih (i + 1) k t h hq.2
      rwa [show i + 1 + k = i + (k + 1) by omega] at this
def xq_ (E : List rn_E) (T : List rn_T) (fh fe ft : Int32) (aSk aEl aEs aEp aEx aTs aTn aTb aTz aTp : Nat → Int32) : Prop := fh = nI E.length ∧ fe = nI (rn_xs E).length ∧ ft = nI T.length ∧ qs_ aSk aEl 0 (rn_ws E) ∧ qp_ aEs aEp 0 0 E ∧ zb_Sg aEx 0 (rn_xs E) ∧ qt_ aTs aTn aTb aTz aTp 0 T
def xq_R (c : ab_W) (M : Nat) (E : List rn_E) (T : List rn_T) (u : SX) : Prop := match u with
  | (fC, fV, fH, fP, fsl, fll, ftl, fpl, fN, fS, fh, fe, ft, fr, aSy, aLb, aLt, aPf, aGv, aKd, aLv, aLn, aVr, aSt, aHc, aHs, aPr, aRm, aTl, aAr, aPl, aSk, aEl, aEs, aEp, aEx, aTs, aTn, aTb, aTz, aTp, aAs, aAl, aAv, aRe) => rx_R c M (fC, fV, fH, fP, fsl, fll, ftl, fpl, fN, fS, fh, fe, ft, fr, aSy, aLb, aLt, aPf, aGv, aKd, aLv, aLn, aVr, aSt, aHc, aHs, aPr, aRm, aTl, aAr, aPl, aSk, aEl, aEs, aEp, aEx, aTs, aTn, aTb, aTz, aTp, aAs, aAl, aAv, aRe) ∧ xq_ E T fh fe ft aSk aEl aEs aEp aEx aTs aTn aTb aTz aTp
theorem rn_wsok {c : ab_W} {E : List rn_E} (h : ∀ e, e ∈ E → rn_gd c e) : ws_ok c (rn_ws E) := by
  intro w hw
  obtain ⟨e, he, rfl⟩ := List.mem_map.mp hw
  have := h e he
  exact ⟨this.2.2.2.1, this.2.2.2.2.1, this.2.2.2.2.2.1⟩
section
variable {c : ab_W} {M : Nat} {fC fV fH fP fsl fll ftl fpl fN fS fh fe ft fr : Int32} {aSy aLb aLt aPf aGv aKd aLv aLn aVr aSt aHc aHs aPr aRm aTl aAr aPl aSk aEl aEs aEp aEx aTs aTn aTb aTz aTp aAs aAl aAv aRe : Nat → Int32}
theorem xw_56 {post : SX → Prop} {b x3 : Nat} {w : List Nat} (hb : b < 16) (hfr : fr = nI w.length) (hwl : w.length ≤ 16) (k : post (fC, fV, fH, fP, fsl, fll, ftl, fpl, fN, fS, nI (b + 1), fe, ft, fr, aSy, aLb, aLt, aPf, aGv, aKd, aLv, aLn, aVr, aSt, aHc, aHs, aPr, aRm, aTl, aAr, aPl, zb_cp aSk (b * 16) aRe w.length, upd aEl b (nI w.length), aEs, upd aEp b (nI x3), aEx, aTs, aTn, aTb, aTz, aTp, aAs, aAl, aAv, aRe)) : wX_replaceTop_56 post (nI b) (nI x3) fC fV fH fP fsl fll ftl fpl fN fS fh fe ft fr aSy aLb aLt aPf aGv aKd aLv aLn aVr aSt aHc aHs aPr aRm aTl aAr aPl aSk aEl aEs aEp aEx aTs aTn aTb aTz aTp aAs aAl aAv aRe := by
  have ib : vp_in (nI b) 16 := vp_in_nI hb (by omega)
  refine And.intro ib (nm_r (zb_up b rfl rfl) (And.intro ib (nm_r (zb_up b rfl hfr) ?_)))
  have key : ∃ n, wX_replaceTop_76 post (nI b) fC fV fH fP fsl fll ftl fpl fN fS fh fe ft fr n (nI 0) aSy aLb aLt aPf aGv aKd aLv aLn aVr aSt aHc aHs aPr aRm aTl aAr aPl (zb_cp aSk (b * 16) aRe 0) (upd aEl b (nI w.length)) aEs (upd aEp b (nI x3)) aEx aTs aTn aTb aTz aTp aAs aAl aAv aRe := by
    refine zb_count (fun n i => wX_replaceTop_76 post (nI b) fC fV fH fP fsl fll ftl fpl fN fS fh fe ft fr n (nI i) aSy aLb aLt aPf aGv aKd aLv aLn aVr aSt aHc aHs aPr aRm aTl aAr aPl (zb_cp aSk (b * 16) aRe i) (upd aEl b (nI w.length)) aEs (upd aEp b (nI x3)) aEx aTs aTn aTb aTz aTp aAs aAl aAv aRe) w.length ?_ ?_
    · intro m i hi w0
      rw [← zb_cpS] at w0
      refine pk_le w.length i (fun h => absurd h (by omega)) (fun _ => And.intro (vp_in_nI (by omega) (by omega)) (And.intro (pk_in (b * 16 + i) 256 (by omega) (zb_x16 b i)) ?_)) hfr rfl (by omega) (by omega)
      exact nm_r (zb_up (b * 16 + i) (zb_x16 b i) (zb_rd i rfl)) (nm_r (nI_1 i) w0)
    · intro m
      exact pk_le w.length w.length (fun _ => nm_r (nI_1 b) k) (fun h => absurd h (by omega)) hfr rfl (by omega) (by omega)
  rw [zb_cp0] at key
  exact key
theorem xl_peak {post : SX → Prop} {b q H : Nat} (hH : H ≤ 16) (k : ∀ x3, x3 ≤ 16 → x3 = x3 → True) :
    ∀ (r : List rn_E) (i o acc : Nat), i + r.length = q → qp_ aEs aEp (b + i) o r → rn_ix H (b + i) r → (∀ e, e ∈ r → 1 ≤ e.2.2) → acc ≤ 16 → b + q ≤ 16 →
    (rn_acc i r acc ≤ 16 → wX_replaceTop_5 post (nI b) (nI q) fC fV fH fP fsl fll ftl fpl fN fS fh fe ft fr aSy aLb aLt aPf aGv aKd aLv aLn aVr aSt aHc aHs aPr aRm aTl aAr aPl aSk aEl aEs aEp aEx aTs aTn aTb aTz aTp aAs aAl aAv aRe 1 (nI (rn_acc i r acc)) (nI q)) → wX_replaceTop_5 post (nI b) (nI q) fC fV fH fP fsl fll ftl fpl fN fS fh fe ft fr aSy aLb aLt aPf aGv aKd aLv aLn aVr aSt aHc aHs aPr aRm aTl aAr aPl aSk aEl aEs aEp aEx aTs aTn aTb aTz aTp aAs aAl aAv aRe (r.length + 1) (nI acc) (nI i) := by
  intro r
  induction r with
  | nil =>
    intro i o acc hi _ _ _ ha _ k
    have hi : i = q := hi
    rw [hi]
    exact k ha
  | cons e r ih =>
    intro i o acc hi hq hx hp ha hbq k
    rw [List.length_cons] at hi
    have h1 := hx.1
    have h2 := hp e List.mem_cons_self
    refine pk_le q i (fun h => absurd h (by omega)) (fun _ => And.intro (pk_in (b + i) 16 (by omega) (nI_add b i)) ?_) rfl rfl (by omega) (by omega)
    refine nm_r (e' := nI (i + e.2.2)) (by rw [nI_add, nI_clamp (by omega), hq.1.2, nI_add]) ?_
    have k : rn_acc (i + 1) r (if i + e.2.2 ≤ acc then acc else i + e.2.2) ≤ 16 → wX_replaceTop_5 post (nI b) (nI q) fC fV fH fP fsl fll ftl fpl fN fS fh fe ft fr aSy aLb aLt aPf aGv aKd aLv aLn aVr aSt aHc aHs aPr aRm aTl aAr aPl aSk aEl aEs aEp aEx aTs aTn aTb aTz aTp aAs aAl aAv aRe 1 (nI (rn_acc (i + 1) r (if i + e.2.2 ≤ acc then acc else i + e.2.2))) (nI q) := k
    have hq2 : qp_ aEs aEp (b + (i + 1)) (o + e.2.1.length) r := hq.2
    have hx2 : rn_ix H (b + (i + 1)) r := hx.2
    refine pk_le (i + e.2.2) acc (fun q1 => nm_r (nI_1 i) ?_) (fun q1 => nm_r (nI_1 i) ?_) rfl rfl (by omega) (by omega)
    · rw [if_pos q1] at k
      exact ih (i + 1) _ acc (by omega) hq2 hx2 (fun e' h => hp e' (List.mem_cons_of_mem _ h)) ha hbq k
    · rw [if_neg (by omega)] at k
      exact ih (i + 1) _ (i + e.2.2) (by omega) hq2 hx2 (fun e' h => hp e' (List.mem_cons_of_mem _ h)) (by omega) hbq k
theorem xw_repl {post : SX → Prop} {b o H : Nat} {D : List rn_E} {w : List Nat} (hb : b < 16) (hH : H ≤ 16) (hbD : b + D.length ≤ 16) (hq : qp_ aEs aEp b o D) (hx : rn_ix H b D) (hp : ∀ e, e ∈ D → 1 ≤ e.2.2) (hfr : fr = nI w.length) (hwl : w.length ≤ 16)
    (k0 : D.length = 0 → post (fC, fV, fH, fP, fsl, fll, ftl, fpl, fN, fS, nI (b + 1), fe, ft, fr, aSy, aLb, aLt, aPf, aGv, aKd, aLv, aLn, aVr, aSt, aHc, aHs, aPr, aRm, aTl, aAr, aPl, zb_cp aSk (b * 16) aRe w.length, upd aEl b (nI w.length), upd aEs b (fe - 1), upd aEp b (nI (rn_pk D)), aEx, aTs, aTn, aTb, aTz, aTp, aAs, aAl, aAv, aRe))
    (k1 : D.length ≠ 0 → post (fC, fV, fH, fP, fsl, fll, ftl, fpl, fN, fS, nI (b + 1), fe, ft, fr, aSy, aLb, aLt, aPf, aGv, aKd, aLv, aLn, aVr, aSt, aHc, aHs, aPr, aRm, aTl, aAr, aPl, zb_cp aSk (b * 16) aRe w.length, upd aEl b (nI w.length), aEs, upd aEp b (nI (rn_pk D)), aEx, aTs, aTn, aTb, aTz, aTp, aAs, aAl, aAv, aRe)) : wpX_replaceTop post (fC, fV, fH, fP, fsl, fll, ftl, fpl, fN, fS, fh, fe, ft, fr, aSy, aLb, aLt, aPf, aGv, aKd, aLv, aLn, aVr, aSt, aHc, aHs, aPr, aRm, aTl, aAr, aPl, aSk, aEl, aEs, aEp, aEx, aTs, aTn, aTb, aTz, aTp, aAs, aAl, aAv, aRe) (nI b) (nI D.length) := by
  have ib : vp_in (nI b) 16 := vp_in_nI hb (by omega)
  unfold wpX_replaceTop
  refine ⟨D.length + 1, xl_peak (b := b) (q := D.length) hH (fun _ _ _ => trivial) D 0 o 1 (by omega) hq hx hp (by omega) hbD (fun hacc => ?_)⟩
  rw [rn_acc_pk hp]
  refine pk_le D.length D.length (fun _ => ?_) (fun h => absurd h (by omega)) rfl rfl (by omega) (by omega)
  refine pk_eq D.length 0 (fun h => And.intro ib (nm_r (zb_up b rfl rfl) ?_)) (fun h => ?_) rfl rfl (by omega) (by omega)
  · exact xw_56 hb hfr hwl (k0 h)
  · exact xw_56 hb hfr hwl (k1 h)
theorem xw_runHyp {post : Int32 → SX → Prop} {x : Nat} {E : List rn_E} {T : List rn_T} (hI : ab_I c) (hR : rx_R c M (fC, fV, fH, fP, fsl, fll, ftl, fpl, fN, fS, fh, fe, ft, fr, aSy, aLb, aLt, aPf, aGv, aKd, aLv, aLn, aVr, aSt, aHc, aHs, aPr, aRm, aTl, aAr, aPl, aSk, aEl, aEs, aEp, aEx, aTs, aTn, aTb, aTz, aTp, aAs, aAl, aAv, aRe)) (hx : x < c.N) (hk : c.kd x ≤ 2) (hG : rn_GE c E) (hh : fh = nI E.length) (hfe : fe = nI ((rn_xs E).length + 1)) (hft : ft = nI T.length) (hqs : qs_ aSk aEl 0 (rn_ws E)) (hqp : qp_ aEs aEp 0 0 E) (hex : zb_Sg aEx 0 (rn_xs E ++ [x])) (hqt : qt_ aTs aTn aTb aTz aTp 0 T)
    (ke : ∀ e, rn_psh c x E = .error e → ∀ u', rx_R c M u' → post e u') (ko : ∀ E', rn_psh c x E = .ok E' → ∀ u', xq_R c M E' T u' → post 0 u') : wpX_runHypothesis post (fC, fV, fH, fP, fsl, fll, ftl, fpl, fN, fS, fh, fe, ft, fr, aSy, aLb, aLt, aPf, aGv, aKd, aLv, aLn, aVr, aSt, aHc, aHs, aPr, aRm, aTl, aAr, aPl, aSk, aEl, aEs, aEp, aEx, aTs, aTn, aTb, aTz, aTp, aAs, aAl, aAv, aRe) (nI x) := by
  obtain ⟨z1, z2, z3, z4, z5, z6, z7, z8, z9, z10⟩ := hI.1
  obtain ⟨g1, g2, g3, g4⟩ := hG
  have ho := hI.2.2.1 x hx
  have hl4 := ho.2.2.2.2.2.2.2
  have hl10 := ho.2.2.2.1
  have hst := hR.2.2.2.2.2.2.2.1 x hx
  have ix : vp_in (nI x) 24 := vp_in_nI (by omega) (by omega)
  refine And.intro ix ?_
  rw [nI_clamp (by omega), hR.2.2.2.2.2.2.1 x hx]
  unfold ab_W.lev
  rw [if_neg (by omega)]
  by_cases q : c.ca x = 0
  · rw [if_pos q]
    refine br_f (fun z => ?_) ?_
    · have : (nI (c.lv x)).toInt = -21 := by rw [z]; rfl
      rw [nI_toInt (by omega)] at this
      omega
    · refine pk_lt E.length c.H (fun q2 => ?_) (fun q2 => ?_) hh hR.1.2.2.1 (by omega) (by omega)
      · rw [hh]
        have ie : vp_in (nI E.length) 16 := vp_in_nI (by omega) (by omega)
        have key : ∃ n, wX_runHypothesis_35 post (nI x) (nI E.length) fC fV fH fP fsl fll ftl fpl fN fS (nI E.length) fe ft fr n (nI 0) aSy aLb aLt aPf aGv aKd aLv aLn aVr aSt aHc aHs aPr aRm aTl aAr aPl (zb_cp aSk (E.length * 16) (fun i => aSt (x * 10 + i)) 0) aEl aEs aEp aEx aTs aTn aTb aTz aTp aAs aAl aAv aRe := by
          refine zb_count (fun n i => wX_runHypothesis_35 post (nI x) (nI E.length) fC fV fH fP fsl fll ftl fpl fN fS (nI E.length) fe ft fr n (nI i) aSy aLb aLt aPf aGv aKd aLv aLn aVr aSt aHc aHs aPr aRm aTl aAr aPl (zb_cp aSk (E.length * 16) (fun i => aSt (x * 10 + i)) i) aEl aEs aEp aEx aTs aTn aTb aTz aTp aAs aAl aAv aRe) (c.sg x).length ?_ ?_
          · intro m i hi w
            rw [← zb_cpS] at w
            refine And.intro ix ?_
            rw [nI_clamp (by omega), hst.1]
            refine pk_le _ i (fun h => absurd h (by omega)) (fun _ => And.intro (pk_in (x * 10 + i) 240 (by omega) (zb_x10 x i)) (And.intro (pk_in (E.length * 16 + i) 256 (by omega) (zb_x16 _ i)) ?_)) rfl rfl (by omega) (by omega)
            exact nm_r (zb_up (E.length * 16 + i) (zb_x16 _ i) (by rw [zb_c10 x i (by omega)])) (nm_r (nI_1 i) w)
          · intro m
            refine And.intro ix ?_
            rw [nI_clamp (n := x) (by omega), hst.1]
            refine pk_le _ (c.sg x).length (fun _ => ?_) (fun h => absurd h (by omega)) rfl rfl (by omega) (by omega)
            refine And.intro ix (And.intro ie (nm_r (zb_up E.length rfl rfl) (And.intro ie (nm_r (e' := upd aEs E.length (nI (rn_xs E).length)) (by rw [nI_clamp (by omega), hfe, nI_pred]) (And.intro ie (nm_r (zb_up E.length rfl rfl) (nm_r (nI_1 E.length) ?_)))))))
            have hpsh : rn_psh c x E = .ok (E ++ [(c.sg x, [x], 1)]) := by
              unfold rn_psh
              rw [if_pos hk, if_pos q, if_pos q2]
            refine ko _ hpsh _ (And.intro (rx_ig hR) ?_)
            have ex : rn_xs (E ++ [(c.sg x, [x], 1)]) = rn_xs E ++ [x] := by rw [rn_xs_app, rn_xs_one]
            refine ⟨by rw [List.length_append]; rfl, by rw [ex, List.length_append, hfe]; rfl, hft, ?_, ?_, by rw [ex]; exact hex, hqt⟩
            · rw [rn_ws_app, qs_app, rn_ws_len, Nat.zero_add]
              refine ⟨qs_cg _ 0 (fun w hw => (rn_wsok g1 w hw).2.1) (fun k hk => ?_) (fun k hk => ?_) hqs, ⟨pk_us, ?_⟩, trivial⟩
              · rw [rn_ws_len] at hk
                exact pk_un (by omega)
              · rw [rn_ws_len] at hk
                exact zb_cpN (Or.inl (by omega))
              · exact zb_cpG hst.2
            · rw [qp_app, Nat.zero_add, Nat.zero_add]
              refine ⟨qp_cg _ 0 0 (fun k hk => ⟨pk_un (by omega), pk_un (by omega)⟩) hqp, ⟨pk_us, pk_us⟩, trivial⟩
        rw [zb_cp0] at key
        exact key
      · refine ke _ ?_ _ hR
        unfold rn_psh
        rw [if_pos hk, if_pos q, if_neg (by omega)]
  · rw [if_neg q]
    refine br_t rfl (ke _ ?_ _ hR)
    unfold rn_psh
    rw [if_pos hk, if_neg q]
end
end
section
/-! the component: an assertion, a label -/
section
variable {c : ab_W} {M : Nat} {fC fV fH fP fsl fll ftl fpl fN fS fh fe ft fr : Int32} {aSy aLb aLt aPf aGv aKd aLv aLn aVr aSt aHc aHs aPr aRm aTl aAr aPl aSk aEl aEs aEp aEx aTs aTn aTb aTz aTp aAs aAl aAv aRe : Nat → Int32}
theorem xw_mh {post : Int32 → SX → Prop} {x b : Nat} {ws : List (List Nat)} (hI : ab_I c) (hR : rx_R c M (fC, fV, fH, fP, fsl, fll, ftl, fpl, fN, fS, fh, fe, ft, fr, aSy, aLb, aLt, aPf, aGv, aKd, aLv, aLn, aVr, aSt, aHc, aHs, aPr, aRm, aTl, aAr, aPl, aSk, aEl, aEs, aEp, aEx, aTs, aTn, aTb, aTz, aTp, aAs, aAl, aAv, aRe)) (hx : x < c.N) (hxM : x < M) (h3 : 3 ≤ c.kd x) (hl : ws.length = (c.hs x).length) (hb : b + ws.length ≤ 16) (hq : qs_ aSk aEl b ws) (hok : ws_ok c ws)
    (kn : rn_mt c.C c.kd c.sg (c.hs x) ws (fun _ => []) = none → ∀ gAs gAl gAv : Nat → Int32, post 0 (fC, fV, fH, fP, fsl, fll, ftl, fpl, fN, fS, fh, fe, ft, fr, aSy, aLb, aLt, aPf, aGv, aKd, aLv, aLn, aVr, aSt, aHc, aHs, aPr, aRm, aTl, aAr, aPl, aSk, aEl, aEs, aEp, aEx, aTs, aTn, aTb, aTz, aTp, gAs, gAl, gAv, aRe))
    (ks : ∀ σ', rn_mt c.C c.kd c.sg (c.hs x) ws (fun _ => []) = some σ' → ∀ gAs gAl gAv : Nat → Int32, ax_ c σ' (rn_dm c (c.hs x) []) aSk gAs gAl gAv → post 1 (fC, fV, fH, fP, fsl, fll, ftl, fpl, fN, fS, fh, fe, ft, fr, aSy, aLb, aLt, aPf, aGv, aKd, aLv, aLn, aVr, aSt, aHc, aHs, aPr, aRm, aTl, aAr, aPl, aSk, aEl, aEs, aEp, aEx, aTs, aTn, aTb, aTz, aTp, gAs, gAl, gAv, aRe)) : wpX_matchHypotheses post (fC, fV, fH, fP, fsl, fll, ftl, fpl, fN, fS, fh, fe, ft, fr, aSy, aLb, aLt, aPf, aGv, aKd, aLv, aLn, aVr, aSt, aHc, aHs, aPr, aRm, aTl, aAr, aPl, aSk, aEl, aEs, aEp, aEx, aTs, aTn, aTb, aTz, aTp, aAs, aAl, aAv, aRe) (nI x) (nI b) := by
  unfold wpX_matchHypotheses
  exact ⟨_, xl_mh (b := b) hI hR hx hxM h3 (c.hs x) ws 0 (fun _ => []) [] aAs aAl aAv (by omega) (hR.2.2.2.2.2.2.2.2.2.1 x hxM h3).2 (fun j hj => (ab_inF_i.mp (ab_hs_i.mp hj)).1.1) hl (by omega) hq hok (fun s hs => absurd hs List.not_mem_nil) (rn_covx hI hx h3).1 kn ks⟩
theorem xw_runAss {post : Int32 → SX → Prop} {x : Nat} {E : List rn_E} {T : List rn_T} (hI : ab_I c) (hR : rx_R c M (fC, fV, fH, fP, fsl, fll, ftl, fpl, fN, fS, fh, fe, ft, fr, aSy, aLb, aLt, aPf, aGv, aKd, aLv, aLn, aVr, aSt, aHc, aHs, aPr, aRm, aTl, aAr, aPl, aSk, aEl, aEs, aEp, aEx, aTs, aTn, aTb, aTz, aTp, aAs, aAl, aAv, aRe)) (hx : x < c.N) (hxM : x < M) (hk : ¬ c.kd x ≤ 2) (hG : rn_GE c E) (hh : fh = nI E.length) (hfe : fe = nI ((rn_xs E).length + 1)) (hft : ft = nI T.length) (hqs : qs_ aSk aEl 0 (rn_ws E)) (hqp : qp_ aEs aEp 0 0 E) (hex : zb_Sg aEx 0 (rn_xs E ++ [x])) (hqt : qt_ aTs aTn aTb aTz aTp 0 T)
    (ke : ∀ e, rn_psh c x E = .error e → ∀ u', rx_R c M u' → post e u') (ko : ∀ E', rn_psh c x E = .ok E' → ∀ u', xq_R c M E' T u' → post 0 u') : wpX_runAssertion post (fC, fV, fH, fP, fsl, fll, ftl, fpl, fN, fS, fh, fe, ft, fr, aSy, aLb, aLt, aPf, aGv, aKd, aLv, aLn, aVr, aSt, aHc, aHs, aPr, aRm, aTl, aAr, aPl, aSk, aEl, aEs, aEp, aEx, aTs, aTn, aTb, aTz, aTp, aAs, aAl, aAv, aRe) (nI x) := by
  obtain ⟨z1, z2, z3, z4, z5, z6, z7, z8, z9, z10⟩ := hI.1
  obtain ⟨g1, g2, g3, g4⟩ := hG
  have h3 : 3 ≤ c.kd x := by omega
  have hlen : (c.hs x).length ≤ x := ab_hs_len
  have hhs := hR.2.2.2.2.2.2.2.2.2.1 x hxM h3
  have hcov := rn_covx hI hx h3
  have ix : vp_in (nI x) 24 := vp_in_nI (by omega) (by omega)
  refine And.intro ix (nm_r (e' := nI (c.hs x).length) (by rw [nI_clamp (by omega)]; exact hhs.1) ?_)
  by_cases hq : (c.hs x).length ≤ E.length
  · refine nm_r (e' := nI (E.length - (c.hs x).length)) (by rw [hh]; exact pk_sub hq) (br_t (nI_pos' (by omega)) ?_)
    have epsh : rn_psh c x E = match rn_asr c x (rn_ws (E.drop (E.length - (c.hs x).length))) with
      | .error e => .error e
      | .ok w => if E.length - (c.hs x).length < c.H then .ok (E.take (E.length - (c.hs x).length) ++ [(w, rn_xs (E.drop (E.length - (c.hs x).length)) ++ [x], rn_pk (E.drop (E.length - (c.hs x).length)))]) else .error (-14) := by
      unfold rn_psh
      rw [if_neg hk, if_pos hq]
      generalize rn_asr c x (rn_ws (E.drop (E.length - (c.hs x).length))) = z
      cases z <;> rfl
    have hDl : (c.hs x).length = (E.drop (E.length - (c.hs x).length)).length := by rw [List.length_drop]; omega
    have hAl : (E.take (E.length - (c.hs x).length)).length = E.length - (c.hs x).length := by rw [List.length_take]; omega
    have hAD : E.take (E.length - (c.hs x).length) ++ E.drop (E.length - (c.hs x).length) = E := List.take_append_drop _ _
    have hbe : E.length - (c.hs x).length + (c.hs x).length = E.length := by omega
    generalize hD : E.drop (E.length - (c.hs x).length) = D at *
    generalize hA' : E.take (E.length - (c.hs x).length) = A at *
    generalize hb : E.length - (c.hs x).length = b at *
    have mD : ∀ e, e ∈ D → rn_gd c e := fun e he => g1 e (by rw [← hAD]; exact List.mem_append.mpr (Or.inr he))
    have mA : ∀ e, e ∈ A → rn_gd c e := fun e he => g1 e (by rw [← hAD]; exact List.mem_append.mpr (Or.inl he))
    have hqs2 := hqs
    rw [← hAD, rn_ws_app, qs_app, rn_ws_len, hAl, Nat.zero_add] at hqs2
    have hqp2 := hqp
    rw [← hAD, qp_app, hAl, Nat.zero_add, Nat.zero_add] at hqp2
    have hix := g2
    rw [← hAD, rn_ix_app, hAl, Nat.zero_add] at hix
    have hxs : rn_xs E = rn_xs A ++ rn_xs D := by rw [← hAD, rn_xs_app]
    refine xw_mh (ws := rn_ws D) hI hR hx hxM h3 (by rw [rn_ws_len, hDl]) (by rw [rn_ws_len]; omega) hqs2.2 (rn_wsok mD) (fun hn gAs gAl gAv => ?_) (fun σ hs gAs gAl gAv hA => ?_)
    · refine br_t rfl (ke (-16) ?_ _ (rx_ig hR))
      rw [epsh, rn_asr_n hn]
    · refine br_f (by decide) (xw_disHolds hI (rx_ig hR) hx hxM h3 hA hcov.2 (zb_br (fun hdj => ?_) (fun hdj => ?_)))
      · refine ke (-17) ?_ _ (rx_ig hR)
        rw [epsh, rn_asr_d hs hdj]
      · refine xw_sub hI (rx_ig hR) hx hA (fun s h1 h2 => hcov.2 s h2 (ab_man_i.mpr (Or.inl h1))) (fun hw16 jr gRe hjr hgRe => ?_) (fun hw16 jr gRe => ?_)
        · have hasr := rn_asr_o hs hdj hw16
          rw [hasr] at epsh
          dsimp only at epsh
          generalize rn_sbs c.C σ (c.sg x) = w at *
          refine br_f (by decide) (pk_lt b c.H (fun hbH => ?_) (fun hbH => ?_) rfl hR.1.2.2.1 (by omega) (by omega))
          · rw [if_pos hbH] at epsh
            have ex : rn_xs (A ++ [(w, rn_xs D ++ [x], rn_pk D)]) = rn_xs E ++ [x] := by rw [rn_xs_app, rn_xs_one, hxs, List.append_assoc]
            have eqs : ∀ (aL : Nat → Int32), qs_ (zb_cp aSk (b * 16) gRe w.length) (upd aEl b (nI w.length)) 0 (rn_ws (A ++ [(w, rn_xs D ++ [x], rn_pk D)])) := by
              intro _
              rw [rn_ws_app, qs_app, rn_ws_len, Nat.zero_add, hAl]
              refine ⟨qs_cg _ 0 (fun w' hw' => (rn_wsok mA w' hw').2.1) (fun k hk => ?_) (fun k hk => ?_) hqs2.1, ⟨pk_us, ?_⟩, trivial⟩
              · rw [rn_ws_len] at hk
                exact pk_un (by omega)
              · rw [rn_ws_len] at hk
                exact zb_cpN (Or.inl (by omega))
              · refine zb_cpG (fun i hi => ?_)
                have := hgRe i hi
                rwa [Nat.zero_add] at this
            rw [show (c.hs x).length = D.length from hDl]
            refine xw_repl (D := D) (w := w) (H := c.H) (by omega) z6 (by omega) hqp2.2 hix.2 (fun e he => (mD e he).2.2.1) hjr hw16 (fun hD0 => ?_) (fun hD0 => ?_)
            · refine ko _ epsh _ (And.intro (rx_ig hR) ⟨?_, ?_, hft, eqs aEl, ?_, by rw [ex]; exact hex, hqt⟩)
              · rw [List.length_append, hAl]; rfl
              · rw [ex, List.length_append, hfe]; rfl
              · rw [qp_app, Nat.zero_add, Nat.zero_add, hAl]
                refine ⟨qp_cg _ 0 0 (fun k hk => ⟨pk_un (by omega), pk_un (by omega)⟩) hqp2.1, ⟨?_, pk_us⟩, trivial⟩
                have hDn : D = [] := List.length_eq_zero_iff.mp hD0
                rw [pk_us, hfe, nI_pred, hxs, hDn]
                show nI (rn_xs A ++ []).length = _
                rw [List.append_nil]
            · refine ko _ epsh _ (And.intro (rx_ig hR) ⟨?_, ?_, hft, eqs aEl, ?_, by rw [ex]; exact hex, hqt⟩)
              · rw [List.length_append, hAl]; rfl
              · rw [ex, List.length_append, hfe]; rfl
              · rw [qp_app, Nat.zero_add, Nat.zero_add, hAl]
                refine ⟨qp_cg _ 0 0 (fun k hk => ⟨rfl, pk_un (by omega)⟩) hqp2.1, ⟨?_, pk_us⟩, trivial⟩
                cases D with
                | nil => exact absurd rfl hD0
                | cons d D' => exact hqp2.2.1.1
          · rw [if_neg (by omega)] at epsh
            exact ke (-14) epsh _ (rx_ig hR)
        · refine br_t rfl (ke (-18) ?_ _ (rx_ig hR))
          rw [epsh, rn_asr_l hs hdj hw16]
  · refine nm_r (e' := nI E.length - nI (c.hs x).length) (by rw [hh]) (br_f ?_ (ke (-15) ?_ _ hR))
    · intro z
      exact absurd (pk_sneg (a := E.length) (b := (c.hs x).length) (by omega) (by omega)) (Int32.not_lt.mpr z)
    · unfold rn_psh
      rw [if_neg hk, if_neg hq]
theorem xw_takeLabel {post : Int32 → SX → Prop} {x : Nat} {E : List rn_E} {T : List rn_T} (hI : ab_I c) (hx : x < c.N) (hxM : c.N ≤ M) (hG : rn_GE c E) (hQ : xq_R c M E T (fC, fV, fH, fP, fsl, fll, ftl, fpl, fN, fS, fh, fe, ft, fr, aSy, aLb, aLt, aPf, aGv, aKd, aLv, aLn, aVr, aSt, aHc, aHs, aPr, aRm, aTl, aAr, aPl, aSk, aEl, aEs, aEp, aEx, aTs, aTn, aTb, aTz, aTp, aAs, aAl, aAv, aRe))
    (ke : ∀ e, rn_tkl c x E = .error e → ∀ u', rx_R c M u' → post e u') (ko : ∀ E', rn_tkl c x E = .ok E' → ∀ u', xq_R c M E' T u' → post 0 u') : wpX_takeLabel post (fC, fV, fH, fP, fsl, fll, ftl, fpl, fN, fS, fh, fe, ft, fr, aSy, aLb, aLt, aPf, aGv, aKd, aLv, aLn, aVr, aSt, aHc, aHs, aPr, aRm, aTl, aAr, aPl, aSk, aEl, aEs, aEp, aEx, aTs, aTn, aTb, aTz, aTp, aAs, aAl, aAv, aRe) (nI x) := by
  obtain ⟨z1, z2, z3, z4, z5, z6, z7, z8, z9, z10⟩ := hI.1
  obtain ⟨hR, hh, hfe, hft, hqs, hqp, hex, hqt⟩ := hQ
  have hP := hG.2.2.2
  refine pk_le ((rn_xs E).length + 1) c.P (fun q => ?_) (fun q => ?_) (by rw [hfe, nI_1]) hR.1.2.2.2.1 (by omega) (by omega)
  · have ke' : ∀ e, rn_psh c x E = .error e → ∀ u', rx_R c M u' → post e u' := fun e h => ke e (by unfold rn_tkl; rw [if_pos q]; exact h)
    have ko' : ∀ E', rn_psh c x E = .ok E' → ∀ u', xq_R c M E' T u' → post 0 u' := fun E' h => ko E' (by unfold rn_tkl; rw [if_pos q]; exact h)
    have hex' : zb_Sg (upd aEx (rn_xs E).length (nI x)) 0 (rn_xs E ++ [x]) := by
      rw [zb_app, zb_one, Nat.zero_add]
      exact ⟨zb_cu hex (by omega), pk_us⟩
    refine And.intro (pk_in (rn_xs E).length 96 (by omega) hfe) (nm_r (zb_up (rn_xs E).length hfe rfl) (nm_r (e' := nI ((rn_xs E).length + 1)) (by rw [hfe, nI_1]) ?_))
    refine xw_isHyp hI (rx_ig hR) hx (zb_br (fun q2 => ?_) (fun q2 => ?_))
    · rw [decide_eq_false_iff_not] at q2
      refine xw_runAss (E := E) (T := T) hI (rx_ig hR) hx (by omega) q2 hG hh rfl hft hqs hqp hex' hqt ?_ ?_
      · intro e he
        refine rx_el ?_
        intro fC fV fH fP fsl fll ftl fpl fN fS fh fe ft fr aSy aLb aLt aPf aGv aKd aLv aLn aVr aSt aHc aHs aPr aRm aTl aAr aPl aSk aEl aEs aEp aEx aTs aTn aTb aTz aTp aAs aAl aAv aRe hu
        exact ke' e he _ hu
      · intro E' he
        refine rx_el ?_
        intro fC fV fH fP fsl fll ftl fpl fN fS fh fe ft fr aSy aLb aLt aPf aGv aKd aLv aLn aVr aSt aHc aHs aPr aRm aTl aAr aPl aSk aEl aEs aEp aEx aTs aTn aTb aTz aTp aAs aAl aAv aRe hu
        exact ko' E' he _ hu
    · rw [decide_eq_true_iff] at q2
      refine xw_runHyp (E := E) (T := T) hI (rx_ig hR) hx q2 hG hh rfl hft hqs hqp hex' hqt ?_ ?_
      · intro e he
        refine rx_el ?_
        intro fC fV fH fP fsl fll ftl fpl fN fS fh fe ft fr aSy aLb aLt aPf aGv aKd aLv aLn aVr aSt aHc aHs aPr aRm aTl aAr aPl aSk aEl aEs aEp aEx aTs aTn aTb aTz aTp aAs aAl aAv aRe hu
        exact ke' e he _ hu
      · intro E' he
        refine rx_el ?_
        intro fC fV fH fP fsl fll ftl fpl fN fS fh fe ft fr aSy aLb aLt aPf aGv aKd aLv aLn aVr aSt aHc aHs aPr aRm aTl aAr aPl aSk aEl aEs aEp aEx aTs aTn aTb aTz aTp aAs aAl aAv aRe hu
        exact ko' E' he _ hu
  · refine ke (-12) ?_ _ hR
    unfold rn_tkl
    rw [if_neg (by omega)]
end
end
section
/-! the component: tags, numbers -/
theorem rn_tkl_rel {c : ab_W} {x : Nat} {E : List rn_E} (q : (rn_xs E).length + 1 ≤ c.P) : rn_row c [x] (rn_ws E) = Except.map rn_ws (rn_tkl c x E) := by
  rw [rn_row_1, rn_psh_stp]
  unfold rn_tkl
  rw [if_pos q]
theorem rn_tkt_rel {c : ab_W} {t : rn_T} {E : List rn_E} (hG : rn_GE c E) (ht : rn_gd c t.1) (q : (rn_xs E).length + t.1.2.1.length ≤ c.P) : rn_row c t.1.2.1 (rn_ws E) = Except.map rn_ws (rn_tkt c t E) := by
  have h := ht.1 (rn_ws E) (by rw [rn_ws_len]; exact hG.2.2.1)
  rw [rn_ws_len] at h
  unfold rn_tkt
  rw [if_pos q]
  by_cases q2 : E.length + t.1.2.2 ≤ c.H
  · rw [if_pos q2, h.1 q2]
    show _ = Except.ok (rn_ws (E ++ [t.1]))
    rw [rn_ws_app]; rfl
  · rw [if_neg q2, h.2 (by omega)]; rfl
section
variable {c : ab_W} {M : Nat} {fC fV fH fP fsl fll ftl fpl fN fS fh fe ft fr : Int32} {aSy aLb aLt aPf aGv aKd aLv aLn aVr aSt aHc aHs aPr aRm aTl aAr aPl aSk aEl aEs aEp aEx aTs aTn aTb aTz aTp aAs aAl aAv aRe : Nat → Int32}
theorem xw_takeTag {post : Int32 → SX → Prop} {k : Nat} {t : rn_T} {E : List rn_E} {T : List rn_T} (hI : ab_I c) (hG : rn_GE c E) (hT : rn_GT c E T) (h32 : T.length ≤ 32) (hk : T[k]? = some t) (hQ : xq_R c M E T (fC, fV, fH, fP, fsl, fll, ftl, fpl, fN, fS, fh, fe, ft, fr, aSy, aLb, aLt, aPf, aGv, aKd, aLv, aLn, aVr, aSt, aHc, aHs, aPr, aRm, aTl, aAr, aPl, aSk, aEl, aEs, aEp, aEx, aTs, aTn, aTb, aTz, aTp, aAs, aAl, aAv, aRe))
    (ke : ∀ e, rn_tkt c t E = .error e → ∀ u', rx_R c M u' → post e u') (ko : ∀ E', rn_tkt c t E = .ok E' → ∀ u', xq_R c M E' T u' → post 0 u') : wpX_takeTag post (fC, fV, fH, fP, fsl, fll, ftl, fpl, fN, fS, fh, fe, ft, fr, aSy, aLb, aLt, aPf, aGv, aKd, aLv, aLn, aVr, aSt, aHc, aHs, aPr, aRm, aTl, aAr, aPl, aSk, aEl, aEs, aEp, aEx, aTs, aTn, aTb, aTz, aTp, aAs, aAl, aAv, aRe) (nI k) := by
  obtain ⟨z1, z2, z3, z4, z5, z6, z7, z8, z9, z10⟩ := hI.1
  obtain ⟨hR, hh, hfe, hft, hqs, hqp, hex, hqt⟩ := hQ
  obtain ⟨g1, g2, g3, g4⟩ := hG
  have hkl : k < T.length := (List.getElem?_eq_some_iff.mp hk).1
  obtain ⟨t1, t2, a, b, t3, t4⟩ := hT t (List.mem_of_getElem? hk)
  obtain ⟨q1, q2, q3, q4, q5⟩ := qt_get T 0 k t hk hqt
  rw [Nat.zero_add] at q1 q2 q3 q4 q5
  have hwl := t1.2.2.2.2.1
  have hp1 := t1.2.2.1
  have hxl : (rn_xs E).length = a.length + (t.1.2.1.length + b.length) := by rw [t3, List.length_append, List.length_append]
  have ik : vp_in (nI k) 32 := vp_in_nI (by omega) (by omega)
  refine And.intro ik (nm_r (e' := nI t.1.2.1.length) (by rw [nI_clamp (by omega)]; exact q4) ?_)
  refine pk_le ((rn_xs E).length + t.1.2.1.length) c.P (fun h1 => And.intro ik ?_) (fun h1 => ?_) (by rw [hfe, nI_add]) hR.1.2.2.2.1 (by omega) (by omega)
  · rw [nI_clamp (by omega), q5]
    refine pk_le (E.length + t.1.2.2) c.H (fun h2 => ?_) (fun h2 => ?_) (by rw [hh, nI_add]) hR.1.2.2.1 (by omega) (by omega)
    · have ih : vp_in fh 16 := pk_in E.length 16 (by omega) hh
      have hu : ∀ {f : Nat → Int32} {v w : Int32}, v = w → upd f fh.toNatClampNeg v = upd f E.length w := fun e => zb_up E.length hh e
      refine And.intro ik (nm_r (e' := nI t.2) q3 (And.intro ih (nm_r (hu hfe) (And.intro ik (And.intro ih (nm_r (hu rfl) (And.intro ik (And.intro ih (nm_r (hu q1) ?_)))))))))
      rw [hh]
      have key : ∃ n, wX_takeTag_97 post (nI k) (nI t.1.2.1.length) (nI t.2) (nI E.length) fC fV fH fP fsl fll ftl fpl fN fS (nI E.length) fe ft fr n (nI 0) aSy aLb aLt aPf aGv aKd aLv aLn aVr aSt aHc aHs aPr aRm aTl aAr aPl aSk (upd aEl E.length (nI t.1.1.length)) (upd aEs E.length (nI (rn_xs E).length)) (upd aEp E.length (nI t.1.2.2)) (zb_cp aEx (rn_xs E).length (fun i => aEx (t.2 + i)) 0) aTs aTn aTb aTz aTp aAs aAl aAv aRe := by
        refine zb_count (fun n i => wX_takeTag_97 post (nI k) (nI t.1.2.1.length) (nI t.2) (nI E.length) fC fV fH fP fsl fll ftl fpl fN fS (nI E.length) fe ft fr n (nI i) aSy aLb aLt aPf aGv aKd aLv aLn aVr aSt aHc aHs aPr aRm aTl aAr aPl aSk (upd aEl E.length (nI t.1.1.length)) (upd aEs E.length (nI (rn_xs E).length)) (upd aEp E.length (nI t.1.2.2)) (zb_cp aEx (rn_xs E).length (fun i => aEx (t.2 + i)) i) aTs aTn aTb aTz aTp aAs aAl aAv aRe) t.1.2.1.length ?_ ?_
        · intro m i hi w
          rw [← zb_cpS] at w
          have e1 : nI t.2 + nI i = nI (t.2 + i) := nI_add _ _
          have e2 : fe + nI i = nI ((rn_xs E).length + i) := by rw [hfe, nI_add]
          refine pk_le t.1.2.1.length i (fun h => absurd h (by omega)) (fun _ => And.intro (pk_in (t.2 + i) 96 (by omega) e1) (And.intro (pk_in ((rn_xs E).length + i) 96 (by omega) e2) ?_)) rfl rfl (by omega) (by omega)
          exact nm_r (zb_up ((rn_xs E).length + i) e2 (by rw [e1, nI_clamp (by omega), zb_cpN (by omega)])) (nm_r (nI_1 i) w)
        · intro m
          refine pk_le t.1.2.1.length t.1.2.1.length (fun _ => nm_r (e' := nI ((rn_xs E).length + t.1.2.1.length)) (by rw [hfe, nI_add]) ?_) (fun h => absurd h (by omega)) rfl rfl (by omega) (by omega)
          have key2 : ∃ n, wX_takeTag_143 post (nI k) (nI E.length) fC fV fH fP fsl fll ftl fpl fN fS (nI E.length) (nI ((rn_xs E).length + t.1.2.1.length)) ft fr n (nI 0) aSy aLb aLt aPf aGv aKd aLv aLn aVr aSt aHc aHs aPr aRm aTl aAr aPl (zb_cp aSk (E.length * 16) (fun i => aTs (k * 16 + i)) 0) (upd aEl E.length (nI t.1.1.length)) (upd aEs E.length (nI (rn_xs E).length)) (upd aEp E.length (nI t.1.2.2)) (zb_cp aEx (rn_xs E).length (fun i => aEx (t.2 + i)) t.1.2.1.length) aTs aTn aTb aTz aTp aAs aAl aAv aRe := by
            refine zb_count (fun n i => wX_takeTag_143 post (nI k) (nI E.length) fC fV fH fP fsl fll ftl fpl fN fS (nI E.length) (nI ((rn_xs E).length + t.1.2.1.length)) ft fr n (nI i) aSy aLb aLt aPf aGv aKd aLv aLn aVr aSt aHc aHs aPr aRm aTl aAr aPl (zb_cp aSk (E.length * 16) (fun i => aTs (k * 16 + i)) i) (upd aEl E.length (nI t.1.1.length)) (upd aEs E.length (nI (rn_xs E).length)) (upd aEp E.length (nI t.1.2.2)) (zb_cp aEx (rn_xs E).length (fun i => aEx (t.2 + i)) t.1.2.1.length) aTs aTn aTb aTz aTp aAs aAl aAv aRe) t.1.1.length ?_ ?_
            · intro m2 i hi w
              rw [← zb_cpS] at w
              refine And.intro ik ?_
              rw [nI_clamp (n := k) (by omega), q1]
              refine pk_le t.1.1.length i (fun h => absurd h (by omega)) (fun _ => And.intro (pk_in (k * 16 + i) 512 (by omega) (zb_x16 k i)) (And.intro (pk_in (E.length * 16 + i) 256 (by omega) (zb_x16 _ i)) ?_)) rfl rfl (by omega) (by omega)
              exact nm_r (zb_up (E.length * 16 + i) (zb_x16 _ i) (by rw [zb_c16 k i (by omega)])) (nm_r (nI_1 i) w)
            · intro m2
              refine And.intro ik ?_
              rw [nI_clamp (n := k) (by omega), q1]
              refine pk_le t.1.1.length t.1.1.length (fun _ => nm_r (nI_1 E.length) ?_) (fun h => absurd h (by omega)) rfl rfl (by omega) (by omega)
              have etk : rn_tkt c t E = .ok (E ++ [t.1]) := by
                unfold rn_tkt
                rw [if_pos h1, if_pos h2]
              have ex : rn_xs (E ++ [t.1]) = rn_xs E ++ t.1.2.1 := by rw [rn_xs_app, rn_xs_one]
              refine ko _ etk _ (And.intro (rx_ig hR) ⟨?_, ?_, hft, ?_, ?_, ?_, hqt⟩)
              · rw [List.length_append]; rfl
              · rw [ex, List.length_append]
              · rw [rn_ws_app, qs_app, rn_ws_len, Nat.zero_add]
                refine ⟨qs_cg _ 0 (fun w hw => (rn_wsok g1 w hw).2.1) (fun k hk => ?_) (fun k hk => ?_) hqs, ⟨pk_us, ?_⟩, trivial⟩
                · rw [rn_ws_len] at hk
                  exact pk_un (by omega)
                · rw [rn_ws_len] at hk
                  exact zb_cpN (Or.inl (by omega))
                · exact zb_cpG q2
              · rw [qp_app, Nat.zero_add, Nat.zero_add]
                refine ⟨qp_cg _ 0 0 (fun k hk => ⟨pk_un (by omega), pk_un (by omega)⟩) hqp, ⟨pk_us, pk_us⟩, trivial⟩
              · rw [ex, zb_app, Nat.zero_add]
                refine ⟨zb_cpK hex (by omega), zb_cpG (fun i hi => ?_)⟩
                have h := hex
                rw [t3, zb_app, zb_app, Nat.zero_add, t4] at h
                exact h.2.1 i hi
          rw [zb_cp0] at key2
          exact key2
      rw [zb_cp0] at key
      exact key
    · refine ke (-14) ?_ _ hR
      unfold rn_tkt
      rw [if_pos h1, if_neg (by omega)]
  · refine ke (-12) ?_ _ hR
    unfold rn_tkt
    rw [if_neg (by omega)]
theorem xw_makeTag {post : SX → Prop} {E : List rn_E} {T : List rn_T} (hI : ab_I c) (hG : rn_GE c E) (hT : rn_GT c E T) (h32 : T.length < 32) (hE : 1 ≤ E.length) (hQ : xq_R c M E T (fC, fV, fH, fP, fsl, fll, ftl, fpl, fN, fS, fh, fe, ft, fr, aSy, aLb, aLt, aPf, aGv, aKd, aLv, aLn, aVr, aSt, aHc, aHs, aPr, aRm, aTl, aAr, aPl, aSk, aEl, aEs, aEp, aEx, aTs, aTn, aTb, aTz, aTp, aAs, aAl, aAv, aRe))
    (k : ∀ u', xq_R c M E (T ++ [rn_tag E]) u' → post u') : wpX_makeTag post (fC, fV, fH, fP, fsl, fll, ftl, fpl, fN, fS, fh, fe, ft, fr, aSy, aLb, aLt, aPf, aGv, aKd, aLv, aLn, aVr, aSt, aHc, aHs, aPr, aRm, aTl, aAr, aPl, aSk, aEl, aEs, aEp, aEx, aTs, aTn, aTb, aTz, aTp, aAs, aAl, aAv, aRe) := by
  obtain ⟨z1, z2, z3, z4, z5, z6, z7, z8, z9, z10⟩ := hI.1
  obtain ⟨hR, hh, hfe, hft, hqs, hqp, hex, hqt⟩ := hQ
  obtain ⟨g1, g2, g3, g4⟩ := hG
  obtain ⟨A, e, rfl⟩ := rn_last hE
  have hAl : (A ++ [e]).length = A.length + 1 := by rw [List.length_append]; rfl
  have he := g1 e (List.mem_append.mpr (Or.inr (List.mem_singleton.mpr rfl)))
  have hwl := he.2.2.2.2.1
  have hqe := hqs
  rw [rn_ws_app, qs_app, rn_ws_len, Nat.zero_add] at hqe
  obtain ⟨_, ⟨q1, q2⟩, _⟩ := hqe
  have hqf := hqp
  rw [qp_app, Nat.zero_add, Nat.zero_add] at hqf
  obtain ⟨_, ⟨p1, p2⟩, _⟩ := hqf
  have hxs : (rn_xs (A ++ [e])).length = (rn_xs A).length + e.2.1.length := by rw [rn_xs_app, rn_xs_one, List.length_append]
  have q1 : aEl A.length = nI e.1.length := q1
  have q2 : zb_Sg aSk (A.length * 16) e.1 := q2
  have ie : vp_in (nI A.length) 16 := vp_in_nI (by omega) (by omega)
  have it : vp_in ft 32 := pk_in T.length 32 h32 hft
  have hu : ∀ {f : Nat → Int32} {v w : Int32}, v = w → upd f ft.toNatClampNeg v = upd f T.length w := fun e => zb_up T.length hft e
  refine pk_eq (A.length + 1) 0 (fun h => absurd h (by omega)) (fun _ => ?_) (by rw [hh, hAl]) rfl (by omega) (by omega)
  refine pk_lt T.length 32 (fun _ => ?_) (fun h => absurd h (by omega)) hft rfl (by omega) (by omega)
  refine nm_r (e' := nI A.length) (by rw [hh, hAl, nI_pred]) ?_
  have ea : ∀ f : Nat → Int32, f (nI A.length).toNatClampNeg = f A.length := fun f => by rw [nI_clamp (by omega)]
  refine And.intro ie (And.intro it (nm_r (hu ((ea aEs).trans p1)) (And.intro ie (And.intro it (nm_r (e' := upd aTz T.length (nI e.2.1.length)) ?_ (And.intro ie (And.intro it (nm_r (hu ((ea aEp).trans p2)) (And.intro ie (And.intro it (nm_r (hu ((ea aEl).trans q1)) ?_)))))))))))
  · refine hu ?_
    rw [ea aEs, p1, hfe, hxs, pk_sub (by omega), Nat.add_sub_cancel_left]
  rw [hft]
  have key : ∃ n, wX_makeTag_84 post (nI A.length) (nI T.length) fC fV fH fP fsl fll ftl fpl fN fS fh fe (nI T.length) fr n (nI 0) aSy aLb aLt aPf aGv aKd aLv aLn aVr aSt aHc aHs aPr aRm aTl aAr aPl aSk aEl aEs aEp aEx (zb_cp aTs (T.length * 16) (fun i => aSk (A.length * 16 + i)) 0) (upd aTn T.length (nI e.1.length)) (upd aTb T.length (nI (rn_xs A).length)) (upd aTz T.length (nI e.2.1.length)) (upd aTp T.length (nI e.2.2)) aAs aAl aAv aRe := by
    refine zb_count (fun n i => wX_makeTag_84 post (nI A.length) (nI T.length) fC fV fH fP fsl fll ftl fpl fN fS fh fe (nI T.length) fr n (nI i) aSy aLb aLt aPf aGv aKd aLv aLn aVr aSt aHc aHs aPr aRm aTl aAr aPl aSk aEl aEs aEp aEx (zb_cp aTs (T.length * 16) (fun i => aSk (A.length * 16 + i)) i) (upd aTn T.length (nI e.1.length)) (upd aTb T.length (nI (rn_xs A).length)) (upd aTz T.length (nI e.2.1.length)) (upd aTp T.length (nI e.2.2)) aAs aAl aAv aRe) e.1.length ?_ ?_
    · intro m i hi w
      rw [← zb_cpS] at w
      refine And.intro ie ?_
      rw [ea aEl, q1]
      refine pk_le e.1.length i (fun h => absurd h (by omega)) (fun _ => And.intro (pk_in (A.length * 16 + i) 256 (by omega) (zb_x16 _ i)) (And.intro (pk_in (T.length * 16 + i) 512 (by omega) (zb_x16 _ i)) ?_)) rfl rfl (by omega) (by omega)
      exact nm_r (zb_up (T.length * 16 + i) (zb_x16 _ i) (by rw [zb_c16 _ i (by omega)])) (nm_r (nI_1 i) w)
    · intro m
      refine And.intro ie ?_
      rw [ea aEl, q1]
      refine pk_le e.1.length e.1.length (fun _ => nm_r (nI_1 T.length) ?_) (fun h => absurd h (by omega)) rfl rfl (by omega) (by omega)
      refine k _ (And.intro (rx_ig hR) ⟨hh, hfe, ?_, hqs, hqp, hex, ?_⟩)
      · rw [List.length_append]; rfl
      · rw [rn_tag_c, qt_app, Nat.zero_add]
        refine ⟨qt_cg _ 0 (fun t ht => (hT t ht).1.2.2.2.2.1) (fun k hk => ⟨pk_un (by omega), pk_un (by omega), pk_un (by omega), pk_un (by omega)⟩) (fun k hk => zb_cpN (Or.inl (by omega))) hqt, ⟨pk_us, zb_cpG q2, pk_us, pk_us, pk_us⟩, trivial⟩
  rw [zb_cp0] at key
  exact key
theorem xw_takeNum {post : Int32 → SX → Prop} {k : Nat} {E : List rn_E} {T : List rn_T} (hI : ab_I c) (h24 : c.N < 24) (hM : M = c.N + 1) (h3 : 3 ≤ c.kd c.N) (hG : rn_GE c E) (hT : rn_GT c E T) (h32 : T.length ≤ 32) (hk1 : 1 ≤ k) (hk2 : k ≤ 2020) (hQ : xq_R c M E T (fC, fV, fH, fP, fsl, fll, ftl, fpl, fN, fS, fh, fe, ft, fr, aSy, aLb, aLt, aPf, aGv, aKd, aLv, aLn, aVr, aSt, aHc, aHs, aPr, aRm, aTl, aAr, aPl, aSk, aEl, aEs, aEp, aEx, aTs, aTn, aTb, aTz, aTp, aAs, aAl, aAv, aRe))
    (ke : ∀ e, rn_num c k E T = .error e → ∀ u', rx_R c M u' → post e u') (ko : ∀ E', rn_num c k E T = .ok E' → ∀ u', xq_R c M E' T u' → post 0 u') : wpX_takeNumber post (fC, fV, fH, fP, fsl, fll, ftl, fpl, fN, fS, fh, fe, ft, fr, aSy, aLb, aLt, aPf, aGv, aKd, aLv, aLn, aVr, aSt, aHc, aHs, aPr, aRm, aTl, aAr, aPl, aSk, aEl, aEs, aEp, aEx, aTs, aTn, aTb, aTz, aTp, aAs, aAl, aAv, aRe) (nI c.N) (nI k) := by
  have hR := hQ.1
  have hhs := hR.2.2.2.2.2.2.2.2.2.1 c.N (by omega) h3
  have hlen : (c.hs c.N).length ≤ c.N := ab_hs_len
  obtain ⟨l1, l2, l3, l4, l5, l6⟩ := hI.2.1
  refine And.intro (vp_in_nI h24 (by omega)) (nm_r (e' := nI (c.hs c.N).length) (by rw [nI_clamp (by omega)]; exact hhs.1) ?_)
  refine pk_lt (c.hs c.N).length k (fun h1 => ?_) (fun h1 => ?_) rfl rfl (by omega) (by omega)
  · have hfl : fll = nI c.ll.length := hR.2.2.1.1
    refine pk_lt ((c.hs c.N).length + c.ll.length) k (fun h2 => ?_) (fun h2 => ?_) (by rw [hfl, nI_add]) rfl (by omega) (by omega)
    · refine nm_r (e' := nI (k - (c.hs c.N).length - c.ll.length - 1)) ?_ ?_
      · rw [hfl, pk_sub (by omega), pk_sub (by omega)]
        exact pk_sub (b := 1) (by omega)
      have en : rn_num c k E T = match T[k - (c.hs c.N).length - c.ll.length - 1]? with
          | none => .error (-11)
          | some t => rn_tkt c t E := by
        unfold rn_num
        rw [if_neg (by omega), if_neg (by omega)]
        generalize T[k - (c.hs c.N).length - c.ll.length - 1]? = z
        cases z <;> rfl
      refine pk_le T.length (k - (c.hs c.N).length - c.ll.length - 1) (fun h4 => ?_) (fun h4 => ?_) hQ.2.2.2.1 rfl (by omega) (by omega)
      · refine ke (-11) ?_ _ hR
        rw [en, List.getElem?_eq_none (by omega)]
      · have eg := List.getElem?_eq_getElem h4
        rw [eg] at en
        refine xw_takeTag hI hG hT h32 eg hQ ?_ ?_
        · intro e he
          refine rx_el ?_
          intro fC fV fH fP fsl fll ftl fpl fN fS fh fe ft fr aSy aLb aLt aPf aGv aKd aLv aLn aVr aSt aHc aHs aPr aRm aTl aAr aPl aSk aEl aEs aEp aEx aTs aTn aTb aTz aTp aAs aAl aAv aRe hu
          exact ke e (en.trans he) _ hu
        · intro E' he
          refine rx_el ?_
          intro fC fV fH fP fsl fll ftl fpl fN fS fh fe ft fr aSy aLb aLt aPf aGv aKd aLv aLn aVr aSt aHc aHs aPr aRm aTl aAr aPl aSk aEl aEs aEp aEx aTs aTn aTb aTz aTp aAs aAl aAv aRe hu
          exact ko E' (en.trans he) _ hu
    · have ei : nI k - nI (c.hs c.N).length - 1 = nI (k - (c.hs c.N).length - 1) := by
        rw [pk_sub (by omega)]
        exact pk_sub (b := 1) (by omega)
      have hlt : k - (c.hs c.N).length - 1 < c.ll.length := by omega
      have en : rn_num c k E T = rn_tkl c (c.ll.getD (k - (c.hs c.N).length - 1) 0) E := by
        unfold rn_num
        rw [if_neg (by omega), if_pos (by omega)]
      refine And.intro (pk_in (k - (c.hs c.N).length - 1) 32 (by omega) ei) ?_
      have e0 : aLb (k - (c.hs c.N).length - 1) = nI (c.ll.getD (k - (c.hs c.N).length - 1) 0) := by
        have := hR.2.2.1.2 _ hlt
        rwa [Nat.zero_add] at this
      rw [ei, nI_clamp (by omega), e0]
      refine xw_takeLabel hI (l5 _ (zb_gm hlt)) (by omega) hG hQ ?_ ?_
      · intro e he
        refine rx_el ?_
        intro fC fV fH fP fsl fll ftl fpl fN fS fh fe ft fr aSy aLb aLt aPf aGv aKd aLv aLn aVr aSt aHc aHs aPr aRm aTl aAr aPl aSk aEl aEs aEp aEx aTs aTn aTb aTz aTp aAs aAl aAv aRe hu
        exact ke e (en.trans he) _ hu
      · intro E' he
        refine rx_el ?_
        intro fC fV fH fP fsl fll ftl fpl fN fS fh fe ft fr aSy aLb aLt aPf aGv aKd aLv aLn aVr aSt aHc aHs aPr aRm aTl aAr aPl aSk aEl aEs aEp aEx aTs aTn aTb aTz aTp aAs aAl aAv aRe hu
        exact ko E' (en.trans he) _ hu
  · have ei : nI c.N * 24 + nI k - 1 = nI (c.N * 24 + (k - 1)) := by
      rw [zb_x24, show nI (c.N * 24 + k) - 1 = nI (c.N * 24 + k - 1) from pk_sub (b := 1) (by omega)]
      congr 1
      omega
    have hlt : k - 1 < (c.hs c.N).length := by omega
    have en : rn_num c k E T = rn_tkl c ((c.hs c.N).getD (k - 1) 0) E := by
      unfold rn_num
      rw [if_pos (by omega)]
    refine And.intro (pk_in (c.N * 24 + (k - 1)) 576 (by omega) ei) ?_
    rw [ei, nI_clamp (by omega), hhs.2 (k - 1) hlt]
    have hx : (c.hs c.N).getD (k - 1) 0 < c.N := (ab_inF_i.mp (ab_hs_i.mp (zb_gm hlt))).1.1
    refine xw_takeLabel hI hx (by omega) hG hQ ?_ ?_
    · intro e he
      refine rx_el ?_
      intro fC fV fH fP fsl fll ftl fpl fN fS fh fe ft fr aSy aLb aLt aPf aGv aKd aLv aLn aVr aSt aHc aHs aPr aRm aTl aAr aPl aSk aEl aEs aEp aEx aTs aTn aTb aTz aTp aAs aAl aAv aRe hu
      exact ke e (en.trans he) _ hu
    · intro E' he
      refine rx_el ?_
      intro fC fV fH fP fsl fll ftl fpl fN fS fh fe ft fr aSy aLb aLt aPf aGv aKd aLv aLn aVr aSt aHc aHs aPr aRm aTl aAr aPl aSk aEl aEs aEp aEx aTs aTn aTb aTz aTp aAs aAl aAv aRe hu
      exact ko E' (en.trans he) _ hu
end
end
section
/-! the component: the whole run of a proof -/
def rn_fin (c : ab_W) (r : Except Int32 (List rn_E)) : Except Int32 (List rn_E) := match r with
  | .error e => .error e
  | .ok E => rn_end c E
theorem rn_tkl_ne {c : ab_W} {x : Nat} {E : List rn_E} {e : Int32} (h : rn_tkl c x E = .error e) : e ≠ 0 := (rn_tkl_er h).1
theorem rn_tkt_ne {c : ab_W} {t : rn_T} {E : List rn_E} {e : Int32} (h : rn_tkt c t E = .error e) : e ≠ 0 := by
  unfold rn_tkt at h
  by_cases q : (rn_xs E).length + t.1.2.1.length ≤ c.P
  · rw [if_pos q] at h
    by_cases q2 : E.length + t.1.2.2 ≤ c.H
    · rw [if_pos q2] at h; cases h
    · rw [if_neg q2] at h; cases h; decide
  · rw [if_neg q] at h; cases h; decide
theorem rn_num_ne {c : ab_W} {k : Nat} {E : List rn_E} {T : List rn_T} {e : Int32} (h : rn_num c k E T = .error e) : e ≠ 0 := by
  unfold rn_num at h
  by_cases q : k ≤ (c.hs c.N).length
  · rw [if_pos q] at h; exact rn_tkl_ne h
  · rw [if_neg q] at h
    by_cases q2 : k ≤ (c.hs c.N).length + c.ll.length
    · rw [if_pos q2] at h; exact rn_tkl_ne h
    · rw [if_neg q2] at h
      cases ht : T[k - (c.hs c.N).length - c.ll.length - 1]? with
      | none => rw [ht] at h; cases h; decide
      | some t => rw [ht] at h; exact rn_tkt_ne h
theorem rn_num_ok {c : ab_W} {k : Nat} {E E' : List rn_E} {T : List rn_T} (hI : ab_I c) (hk : 1 ≤ k) (hG : rn_GE c E) (hT : rn_GT c E T) (h : rn_num c k E T = .ok E') : rn_GE c E' ∧ rn_GT c E' T ∧ 1 ≤ E'.length := by
  unfold rn_num at h
  by_cases q : k ≤ (c.hs c.N).length
  · rw [if_pos q] at h
    have hlt : k - 1 < (c.hs c.N).length := by omega
    have hx : (c.hs c.N).getD (k - 1) 0 < c.N := (ab_inF_i.mp (ab_hs_i.mp (zb_gm hlt))).1.1
    obtain ⟨a, b, d, _⟩ := rn_tkl_ok hI hx hG h
    exact ⟨a, rn_GT_up hT b, d⟩
  · rw [if_neg q] at h
    by_cases q2 : k ≤ (c.hs c.N).length + c.ll.length
    · rw [if_pos q2] at h
      obtain ⟨a, b, d, _⟩ := rn_tkl_ok hI (hI.2.1.2.2.2.2.1 _ (zb_gm (by omega))) hG h
      exact ⟨a, rn_GT_up hT b, d⟩
    · rw [if_neg q2] at h
      cases ht : T[k - (c.hs c.N).length - c.ll.length - 1]? with
      | none => rw [ht] at h; cases h
      | some t =>
        rw [ht] at h
        obtain ⟨a, b, d, _⟩ := rn_tkt_ok hG (hT t (List.mem_of_getElem? ht)).1 h
        exact ⟨a, rn_GT_up hT b, d⟩
theorem rn_nrm_e {c : ab_W} {x : Nat} {l : List Nat} {E : List rn_E} {e : Int32} (h : rn_tkl c x E = .error e) : rn_nrm c (x :: l) E = .error e := by
  unfold rn_nrm; rw [h]
theorem rn_nrm_o {c : ab_W} {x : Nat} {l : List Nat} {E E' : List rn_E} (h : rn_tkl c x E = .ok E') : rn_nrm c (x :: l) E = rn_nrm c l E' := by
  conv => lhs; unfold rn_nrm
  rw [h]
theorem rn_nrm_ne {c : ab_W} : ∀ (l : List Nat) (E : List rn_E) (e : Int32), rn_nrm c l E = .error e → e ≠ 0 := by
  intro l
  induction l with
  | nil => intro E e h; cases h
  | cons x l ih =>
    intro E e h
    cases ht : rn_tkl c x E with
    | error e' => rw [rn_nrm_e ht] at h; cases h; exact rn_tkl_ne ht
    | ok E' => rw [rn_nrm_o ht] at h; exact ih E' e h
def rn_bd (r : Except Int32 (List rn_E)) (K : List rn_E → Except Int32 (List rn_E)) : Except Int32 (List rn_E) := match r with
  | .error e => .error e
  | .ok E => K E
def rn_cst (c : ab_W) (a n : Nat) (b : Bool) (E : List rn_E) (T : List rn_T) (K : Nat → Bool → List rn_E → List rn_T → Except Int32 (List rn_E)) : Except Int32 (List rn_E) :=
  if a = 90 then (if b = true then K n false E (T ++ [rn_tag E]) else .error (-11))
  else if a < 85 then rn_bd (rn_num c (20 * n + (a - 64)) E T) (fun E' => K 0 true E' T)
  else if 5 * n + (a - 84) ≤ 99 then K (5 * n + (a - 84)) false E T else .error (-11)
def rn_cm (c : ab_W) : List Nat → Nat → Bool → List rn_E → List rn_T → Except Int32 (List rn_E)
  | [] => fun n _ E _ => if n = 0 then .ok E else .error (-11)
  | a :: l => fun n b E T => rn_cst c a n b E T (rn_cm c l)
theorem rn_cmp_eq {c : ab_W} {a n : Nat} {l : List Nat} {b : Bool} {E : List rn_E} {T : List rn_T} : rn_cm c (a :: l) n b E T = if a = 90 then (if b = true then rn_cm c l n false E (T ++ [rn_tag E]) else .error (-11))
    else if a < 85 then rn_bd (rn_num c (20 * n + (a - 64)) E T) (fun E' => rn_cm c l 0 true E' T)
    else if 5 * n + (a - 84) ≤ 99 then rn_cm c l (5 * n + (a - 84)) false E T else .error (-11) := by
  show rn_cst c a n b E T (rn_cm c l) = _
  unfold rn_cst
  rfl
theorem rn_cmp_ne {c : ab_W} : ∀ (l : List Nat) (n : Nat) (b : Bool) (E : List rn_E) (T : List rn_T) (e : Int32), rn_cm c l n b E T = .error e → e ≠ 0 := by
  intro l
  induction l with
  | nil =>
    intro n b E T e h
    have h : (if n = 0 then Except.ok E else Except.error (-11)) = Except.error e := h
    by_cases q : n = 0
    · rw [if_pos q] at h; cases h
    · rw [if_neg q] at h; cases h; decide
  | cons a l ih =>
    intro n b E T e h
    rw [rn_cmp_eq] at h
    by_cases q : a = 90
    · rw [if_pos q] at h
      by_cases q2 : b = true
      · rw [if_pos q2] at h; exact ih _ _ _ _ _ h
      · rw [if_neg q2] at h; cases h; decide
    · rw [if_neg q] at h
      by_cases q2 : a < 85
      · rw [if_pos q2] at h
        cases ht : rn_num c (20 * n + (a - 64)) E T with
        | error e' => rw [ht] at h; cases h; exact rn_num_ne ht
        | ok E' => rw [ht] at h; exact ih _ _ _ _ _ h
      · rw [if_neg q2] at h
        by_cases q3 : 5 * n + (a - 84) ≤ 99
        · rw [if_pos q3] at h; exact ih _ _ _ _ _ h
        · rw [if_neg q3] at h; cases h; decide
def xt_2 (post : Int32 → SX → Prop) (n : Nat) (i : Int32) (u : SX) : Prop := match u with
  | (fC, fV, fH, fP, fsl, fll, ftl, fpl, fN, fS, fh, fe, ft, fr, aSy, aLb, aLt, aPf, aGv, aKd, aLv, aLn, aVr, aSt, aHc, aHs, aPr, aRm, aTl, aAr, aPl, aSk, aEl, aEs, aEp, aEx, aTs, aTn, aTb, aTz, aTp, aAs, aAl, aAv, aRe) => wX_runNormal_2 post n i fC fV fH fP fsl fll ftl fpl fN fS fh fe ft fr aSy aLb aLt aPf aGv aKd aLv aLn aVr aSt aHc aHs aPr aRm aTl aAr aPl aSk aEl aEs aEp aEx aTs aTn aTb aTz aTp aAs aAl aAv aRe
def xt_7 (post : Int32 → SX → Prop) (a : Int32) (n : Nat) (x y i : Int32) (u : SX) : Prop := match u with
  | (fC, fV, fH, fP, fsl, fll, ftl, fpl, fN, fS, fh, fe, ft, fr, aSy, aLb, aLt, aPf, aGv, aKd, aLv, aLn, aVr, aSt, aHc, aHs, aPr, aRm, aTl, aAr, aPl, aSk, aEl, aEs, aEp, aEx, aTs, aTn, aTb, aTz, aTp, aAs, aAl, aAv, aRe) => wX_runCompressed_7 post a n x y i fC fV fH fP fsl fll ftl fpl fN fS fh fe ft fr aSy aLb aLt aPf aGv aKd aLv aLn aVr aSt aHc aHs aPr aRm aTl aAr aPl aSk aEl aEs aEp aEx aTs aTn aTb aTz aTp aAs aAl aAv aRe
section
variable {c : ab_W} {M : Nat}
theorem xl_nrm {post : Int32 → SX → Prop} {T : List rn_T} (hI : ab_I c) (hNM : c.N ≤ M) :
    ∀ (l : List Nat) (i : Nat) (E : List rn_E) (u : SX), xq_R c M E T u → rn_GE c E → l = c.ll.drop i → i + l.length = c.ll.length →
    (∀ e, rn_nrm c l E = .error e → ∀ u', rx_R c M u' → post e u') → (∀ E', rn_nrm c l E = .ok E' → rn_GE c E' → ∀ u', xq_R c M E' T u' → post 0 u') → xt_2 post (l.length + 1) (nI i) u := by
  intro l
  induction l with
  | nil =>
    intro i E u
    refine rx_el (P := fun u => xq_R c M E T u → rn_GE c E → ([] : List Nat) = c.ll.drop i → i + ([] : List Nat).length = c.ll.length → (∀ e, rn_nrm c [] E = .error e → ∀ u', rx_R c M u' → post e u') → (∀ E', rn_nrm c [] E = .ok E' → rn_GE c E' → ∀ u', xq_R c M E' T u' → post 0 u') → xt_2 post (([] : List Nat).length + 1) (nI i) u) ?_ u
    intro fC fV fH fP fsl fll ftl fpl fN fS fh fe ft fr aSy aLb aLt aPf aGv aKd aLv aLn aVr aSt aHc aHs aPr aRm aTl aAr aPl aSk aEl aEs aEp aEx aTs aTn aTb aTz aTp aAs aAl aAv aRe hQ hG _ hi _ ko
    have hi : i = c.ll.length := hi
    have l2 : c.ll.length ≤ 32 := hI.2.1.2.1
    show wX_runNormal_2 post (0 + 1) (nI i) fC fV fH fP fsl fll ftl fpl fN fS fh fe ft fr aSy aLb aLt aPf aGv aKd aLv aLn aVr aSt aHc aHs aPr aRm aTl aAr aPl aSk aEl aEs aEp aEx aTs aTn aTb aTz aTp aAs aAl aAv aRe
    exact pk_le c.ll.length i (fun _ => ko E rfl hG _ hQ) (fun h => absurd h (by omega)) hQ.1.2.2.1.1 rfl (by omega) (by omega)
  | cons x l ih =>
    intro i E u
    refine rx_el (P := fun u => xq_R c M E T u → rn_GE c E → x :: l = c.ll.drop i → i + (x :: l).length = c.ll.length → (∀ e, rn_nrm c (x :: l) E = .error e → ∀ u', rx_R c M u' → post e u') → (∀ E', rn_nrm c (x :: l) E = .ok E' → rn_GE c E' → ∀ u', xq_R c M E' T u' → post 0 u') → xt_2 post ((x :: l).length + 1) (nI i) u) ?_ u
    intro fC fV fH fP fsl fll ftl fpl fN fS fh fe ft fr aSy aLb aLt aPf aGv aKd aLv aLn aVr aSt aHc aHs aPr aRm aTl aAr aPl aSk aEl aEs aEp aEx aTs aTn aTb aTz aTp aAs aAl aAv aRe hQ hG hl hi ke ko
    have l2 : c.ll.length ≤ 32 := hI.2.1.2.1
    rw [List.length_cons] at hi
    have hlt : i < c.ll.length := by omega
    rw [zb_drop hlt] at hl
    obtain ⟨hl1, hl2⟩ := List.cons.inj hl
    have hx : x < c.N := by rw [hl1]; exact hI.2.1.2.2.2.2.1 _ (zb_gm hlt)
    have e0 : aLb i = nI x := by
      have := hQ.1.2.2.1.2 i hlt
      rw [Nat.zero_add] at this
      rw [hl1]; exact this
    show wX_runNormal_2 post ((l.length + 1) + 1) (nI i) fC fV fH fP fsl fll ftl fpl fN fS fh fe ft fr aSy aLb aLt aPf aGv aKd aLv aLn aVr aSt aHc aHs aPr aRm aTl aAr aPl aSk aEl aEs aEp aEx aTs aTn aTb aTz aTp aAs aAl aAv aRe
    refine pk_le c.ll.length i (fun h => absurd h (by omega)) (fun _ => And.intro (vp_in_nI (by omega) (by omega)) ?_) hQ.1.2.2.1.1 rfl (by omega) (by omega)
    rw [nI_clamp (by omega), e0]
    refine xw_takeLabel hI hx hNM hG hQ ?_ ?_
    · intro e he
      refine rx_el ?_
      intro fC fV fH fP fsl fll ftl fpl fN fS fh fe ft fr aSy aLb aLt aPf aGv aKd aLv aLn aVr aSt aHc aHs aPr aRm aTl aAr aPl aSk aEl aEs aEp aEx aTs aTn aTb aTz aTp aAs aAl aAv aRe hu
      exact br_f (rn_tkl_ne he) (ke e (rn_nrm_e he) _ hu)
    · intro E' he
      refine rx_el ?_
      intro fC fV fH fP fsl fll ftl fpl fN fS fh fe ft fr aSy aLb aLt aPf aGv aKd aLv aLn aVr aSt aHc aHs aPr aRm aTl aAr aPl aSk aEl aEs aEp aEx aTs aTn aTb aTz aTp aAs aAl aAv aRe hu
      refine br_t rfl (nm_r (nI_1 i) ?_)
      exact ih (i + 1) E' (fC, fV, fH, fP, fsl, fll, ftl, fpl, fN, fS, fh, fe, ft, fr, aSy, aLb, aLt, aPf, aGv, aKd, aLv, aLn, aVr, aSt, aHc, aHs, aPr, aRm, aTl, aAr, aPl, aSk, aEl, aEs, aEp, aEx, aTs, aTn, aTb, aTz, aTp, aAs, aAl, aAv, aRe) hu (rn_tkl_ok hI hx hG he).1 hl2 (by omega) (fun e h => ke e ((rn_nrm_o he).trans h)) (fun E'' h => ko E'' ((rn_nrm_o he).trans h))
end
end
section
section
variable {c : ab_W} {M : Nat}
theorem xl_cmp {post : Int32 → SX → Prop} (hI : ab_I c) (h24 : c.N < 24) (hM : M = c.N + 1) (h3 : 3 ≤ c.kd c.N) :
    ∀ (l : List Nat) (n : Nat) (b : Bool) (E : List rn_E) (T : List rn_T) (i : Nat) (u : SX), xq_R c M E T u → rn_GE c E → rn_GT c E T → (b = true → 1 ≤ E.length) → n ≤ 99 → 2 * T.length + (if b = true then 1 else 0) ≤ i → l = c.tl.drop i → i + l.length = c.tl.length →
    (∀ e, rn_cm c l n b E T = .error e → ∀ u', rx_R c M u' → post e u') → (∀ E', rn_cm c l n b E T = .ok E' → rn_GE c E' → ∀ T' u', xq_R c M E' T' u' → post 0 u') → xt_7 post (nI c.N) (l.length + 1) (nI n) (zb_1 b) (nI i) u := by
  have l3 : c.tl.length ≤ 64 := hI.2.1.2.2.1
  have l6 := hI.2.1.2.2.2.2.2
  intro l
  induction l with
  | nil =>
    intro n b E T i u
    refine rx_el (P := fun u => xq_R c M E T u → rn_GE c E → rn_GT c E T → (b = true → 1 ≤ E.length) → n ≤ 99 → 2 * T.length + (if b = true then 1 else 0) ≤ i → ([] : List Nat) = c.tl.drop i → i + ([] : List Nat).length = c.tl.length → (∀ e, rn_cm c [] n b E T = .error e → ∀ u', rx_R c M u' → post e u') → (∀ E', rn_cm c [] n b E T = .ok E' → rn_GE c E' → ∀ T' u', xq_R c M E' T' u' → post 0 u') → xt_7 post (nI c.N) (([] : List Nat).length + 1) (nI n) (zb_1 b) (nI i) u) ?_ u
    intro fC fV fH fP fsl fll ftl fpl fN fS fh fe ft fr aSy aLb aLt aPf aGv aKd aLv aLn aVr aSt aHc aHs aPr aRm aTl aAr aPl aSk aEl aEs aEp aEx aTs aTn aTb aTz aTp aAs aAl aAv aRe hQ hG hT hb hn ht _ hi ke ko
    have hi : i = c.tl.length := hi
    have er : rn_cm c [] n b E T = if n = 0 then .ok E else .error (-11) := rfl
    show wX_runCompressed_7 post (nI c.N) (0 + 1) (nI n) (zb_1 b) (nI i) fC fV fH fP fsl fll ftl fpl fN fS fh fe ft fr aSy aLb aLt aPf aGv aKd aLv aLn aVr aSt aHc aHs aPr aRm aTl aAr aPl aSk aEl aEs aEp aEx aTs aTn aTb aTz aTp aAs aAl aAv aRe
    refine pk_le c.tl.length i (fun _ => pk_eq n 0 (fun q => ?_) (fun q => ?_) rfl rfl (by omega) (by omega)) (fun h => absurd h (by omega)) hQ.1.2.2.2.1.1 rfl (by omega) (by omega)
    · rw [if_pos q] at er
      exact ko E er hG T _ hQ
    · rw [if_neg q] at er
      exact ke (-11) er _ hQ.1
  | cons a l ih =>
    intro n b E T i u
    refine rx_el (P := fun u => xq_R c M E T u → rn_GE c E → rn_GT c E T → (b = true → 1 ≤ E.length) → n ≤ 99 → 2 * T.length + (if b = true then 1 else 0) ≤ i → a :: l = c.tl.drop i → i + (a :: l).length = c.tl.length → (∀ e, rn_cm c (a :: l) n b E T = .error e → ∀ u', rx_R c M u' → post e u') → (∀ E', rn_cm c (a :: l) n b E T = .ok E' → rn_GE c E' → ∀ T' u', xq_R c M E' T' u' → post 0 u') → xt_7 post (nI c.N) ((a :: l).length + 1) (nI n) (zb_1 b) (nI i) u) ?_ u
    intro fC fV fH fP fsl fll ftl fpl fN fS fh fe ft fr aSy aLb aLt aPf aGv aKd aLv aLn aVr aSt aHc aHs aPr aRm aTl aAr aPl aSk aEl aEs aEp aEx aTs aTn aTb aTz aTp aAs aAl aAv aRe hQ hG hT hb hn ht hl hi ke ko
    rw [List.length_cons] at hi
    have hlt : i < c.tl.length := by omega
    rw [zb_drop hlt] at hl
    obtain ⟨hl1, hl2⟩ := List.cons.inj hl
    have hab : 65 ≤ a ∧ a ≤ 90 := by rw [hl1]; exact l6 _ (zb_gm hlt)
    have e0 : aLt i = nI a := by
      have := hQ.1.2.2.2.1.2 i hlt
      rw [Nat.zero_add] at this
      rw [hl1]; exact this
    have er := rn_cmp_eq (c := c) (a := a) (n := n) (l := l) (b := b) (E := E) (T := T)
    show wX_runCompressed_7 post (nI c.N) ((l.length + 1) + 1) (nI n) (zb_1 b) (nI i) fC fV fH fP fsl fll ftl fpl fN fS fh fe ft fr aSy aLb aLt aPf aGv aKd aLv aLn aVr aSt aHc aHs aPr aRm aTl aAr aPl aSk aEl aEs aEp aEx aTs aTn aTb aTz aTp aAs aAl aAv aRe
    refine pk_le c.tl.length i (fun h => absurd h (by omega)) (fun _ => And.intro (vp_in_nI (by omega) (by omega)) (nm_r (e' := nI a) (by rw [nI_clamp (by omega)]; exact e0) ?_)) hQ.1.2.2.2.1.1 rfl (by omega) (by omega)
    refine pk_eq a 90 (fun q => ?_) (fun q => ?_) rfl rfl (by omega) (by omega)
    · rw [if_pos q] at er
      refine zb_br (fun qb => ?_) (fun qb => ?_)
      · rw [qb, if_neg (by decide)] at er
        rw [qb] at ke
        exact ke (-11) er _ hQ.1
      · rw [qb, if_pos rfl] at er
        rw [qb, if_pos rfl] at ht
        rw [qb] at ke ko
        refine xw_makeTag hI hG hT (by omega) (hb qb) hQ ?_
        refine rx_el ?_
        intro fC fV fH fP fsl fll ftl fpl fN fS fh fe ft fr aSy aLb aLt aPf aGv aKd aLv aLn aVr aSt aHc aHs aPr aRm aTl aAr aPl aSk aEl aEs aEp aEx aTs aTn aTb aTz aTp aAs aAl aAv aRe hu
        refine nm_r (nI_1 i) ?_
        refine ih n false E (T ++ [rn_tag E]) (i + 1) (fC, fV, fH, fP, fsl, fll, ftl, fpl, fN, fS, fh, fe, ft, fr, aSy, aLb, aLt, aPf, aGv, aKd, aLv, aLn, aVr, aSt, aHc, aHs, aPr, aRm, aTl, aAr, aPl, aSk, aEl, aEs, aEp, aEx, aTs, aTn, aTb, aTz, aTp, aAs, aAl, aAv, aRe) hu hG (rn_GT_tag hG hT (hb qb)) (fun z => absurd z (by decide)) hn ?_ hl2 (by omega) (fun e h => ke e (er.trans h)) (fun E' h => ko E' (er.trans h))
        rw [List.length_append, List.length_singleton, if_neg (by decide)]
        omega
    · rw [if_neg q] at er
      refine pk_lt a 85 (fun q2 => ?_) (fun q2 => ?_) rfl rfl (by omega) (by omega)
      · rw [if_pos q2] at er
        have ek : (20 : Int32) * nI n + (nI a - 64) = nI (20 * n + (a - 64)) := by
          rw [show (20 : Int32) * nI n = nI (20 * n) from pk_mul 20 n, show nI a - 64 = nI (a - 64) from pk_sub (b := 64) (by omega), nI_add]
        refine nm_r ek ?_
        refine xw_takeNum hI h24 hM h3 hG hT (by omega) (by omega) (by omega) hQ ?_ ?_
        · intro e he
          refine rx_el ?_
          intro fC fV fH fP fsl fll ftl fpl fN fS fh fe ft fr aSy aLb aLt aPf aGv aKd aLv aLn aVr aSt aHc aHs aPr aRm aTl aAr aPl aSk aEl aEs aEp aEx aTs aTn aTb aTz aTp aAs aAl aAv aRe hu
          rw [he] at er
          exact br_f (rn_num_ne he) (ke e er _ hu)
        · intro E' he
          refine rx_el ?_
          intro fC fV fH fP fsl fll ftl fpl fN fS fh fe ft fr aSy aLb aLt aPf aGv aKd aLv aLn aVr aSt aHc aHs aPr aRm aTl aAr aPl aSk aEl aEs aEp aEx aTs aTn aTb aTz aTp aAs aAl aAv aRe hu
          rw [he] at er
          obtain ⟨o1, o2, o3⟩ := rn_num_ok hI (by omega) hG hT he
          refine br_t rfl (nm_r (nI_1 i) ?_)
          refine ih 0 true E' T (i + 1) (fC, fV, fH, fP, fsl, fll, ftl, fpl, fN, fS, fh, fe, ft, fr, aSy, aLb, aLt, aPf, aGv, aKd, aLv, aLn, aVr, aSt, aHc, aHs, aPr, aRm, aTl, aAr, aPl, aSk, aEl, aEs, aEp, aEx, aTs, aTn, aTb, aTz, aTp, aAs, aAl, aAv, aRe) hu o1 o2 (fun _ => o3) (by omega) ?_ hl2 (by omega) (fun e h => ke e (er.trans h)) (fun E'' h => ko E'' (er.trans h))
          rw [if_pos rfl]
          omega
      · rw [if_neg (by omega)] at er
        have ek : (5 : Int32) * nI n + (nI a - 84) = nI (5 * n + (a - 84)) := by
          rw [show (5 : Int32) * nI n = nI (5 * n) from pk_mul 5 n, show nI a - 84 = nI (a - 84) from pk_sub (b := 84) (by omega), nI_add]
        refine nm_r ek (pk_le (5 * n + (a - 84)) 99 (fun q3 => nm_r (nI_1 i) ?_) (fun q3 => ?_) rfl rfl (by omega) (by omega))
        · rw [if_pos q3] at er
          refine ih _ false E T (i + 1) (fC, fV, fH, fP, fsl, fll, ftl, fpl, fN, fS, fh, fe, ft, fr, aSy, aLb, aLt, aPf, aGv, aKd, aLv, aLn, aVr, aSt, aHc, aHs, aPr, aRm, aTl, aAr, aPl, aSk, aEl, aEs, aEp, aEx, aTs, aTn, aTb, aTz, aTp, aAs, aAl, aAv, aRe) hQ hG hT (fun z => absurd z (by decide)) q3 ?_ hl2 (by omega) (fun e h => ke e (er.trans h)) (fun E'' h => ko E'' (er.trans h))
          rw [if_neg (by decide)]
          omega
        · rw [if_neg (by omega)] at er
          exact ke (-11) er _ hQ.1
end
end
section
section
variable {c : ab_W} {M : Nat} {fC fV fH fP fsl fll ftl fpl fN fS fh fe ft fr : Int32} {aSy aLb aLt aPf aGv aKd aLv aLn aVr aSt aHc aHs aPr aRm aTl aAr aPl aSk aEl aEs aEp aEx aTs aTn aTb aTz aTp aAs aAl aAv aRe : Nat → Int32}
theorem xw_end {post : Int32 → Prop} {E : List rn_E} {T : List rn_T} (hI : ab_I c) (hG : rn_GE c E) (hQ : xq_R c M E T (fC, fV, fH, fP, fsl, fll, ftl, fpl, fN, fS, fh, fe, ft, fr, aSy, aLb, aLt, aPf, aGv, aKd, aLv, aLn, aVr, aSt, aHc, aHs, aPr, aRm, aTl, aAr, aPl, aSk, aEl, aEs, aEp, aEx, aTs, aTn, aTb, aTz, aTp, aAs, aAl, aAv, aRe)) (ke : ∀ e, rn_end c E = .error e → post e) (ko : ∀ E', rn_end c E = .ok E' → post 0) : wpX_endOutcome post (fC, fV, fH, fP, fsl, fll, ftl, fpl, fN, fS, fh, fe, ft, fr, aSy, aLb, aLt, aPf, aGv, aKd, aLv, aLn, aVr, aSt, aHc, aHs, aPr, aRm, aTl, aAr, aPl, aSk, aEl, aEs, aEp, aEx, aTs, aTn, aTb, aTz, aTp, aAs, aAl, aAv, aRe) := by
  obtain ⟨z1, z2, z3, z4, z5, z6, z7, z8, z9, z10⟩ := hI.1
  obtain ⟨l1, l2, l3, l4, l5, l6⟩ := hI.2.1
  obtain ⟨hR, hh, hfe, hft, hqs, hqp, hex, hqt⟩ := hQ
  have h16 := hG.2.2.1
  refine pk_eq E.length 1 (fun q => ?_) (fun q => ?_) hh rfl (by omega) (by omega)
  · have en : rn_end c E = if (rn_ws E).getD 0 [] = c.sl then .ok E else .error (-20) := by
      unfold rn_end; rw [if_pos q]
    obtain ⟨A, e, rfl⟩ := rn_last (E := E) (by omega)
    have hA : A = [] := by
      rw [List.length_append, List.length_singleton] at q
      exact List.length_eq_zero_iff.mp (by omega)
    subst hA
    have hg := hG.1 e (by simp)
    have hwl := hg.2.2.2.2.1
    have hws := hg.2.2.2.2.2.1
    obtain ⟨⟨q1, q2⟩, _⟩ := hqs
    have q1 : aEl 0 = nI e.1.length := q1
    have q2 : zb_Sg aSk 0 e.1 := q2
    have en : rn_end c ([] ++ [e]) = if e.1 = c.sl then .ok ([] ++ [e]) else .error (-20) := en
    have hat : ∀ i, i < c.sl.length → aSy i = nI (c.sl.getD i 0) := fun i hi => by
      have := hR.2.1.2 i hi
      rwa [Nat.zero_add] at this
    have hak : ∀ i, i < e.1.length → aSk i = nI (e.1.getD i 0) := fun i hi => by
      have := q2 i hi
      rwa [Nat.zero_add] at this
    refine pk_eq e.1.length c.sl.length (fun q3 => ?_) (fun q3 => ?_) q1 hR.2.1.1 (by omega) (by omega)
    · refine zb_find (fun n i => wX_endOutcome_29 post fC fV fH fP fsl fll ftl fpl fN fS fh fe ft fr aSy aLb aLt aPf aGv aKd aLv aLn aVr aSt aHc aHs aPr aRm aTl aAr aPl aSk aEl aEs aEp aEx aTs aTn aTb aTz aTp aAs aAl aAv aRe n (nI i)) (fun i => e.1.getD i 0 = c.sl.getD i 0) c.sl.length ?_ ?_ ?_
      · intro m i hi hp w
        refine pk_le c.sl.length i (fun h => absurd h (by omega)) (fun _ => And.intro (vp_in_nI (by omega) (by omega)) (And.intro (vp_in_nI (by omega) (by omega)) ?_)) hR.2.1.1 rfl (by omega) (by omega)
        rw [nI_clamp (by omega), hak i (by omega), hat i hi, hp]
        exact br_t rfl (nm_r (nI_1 i) w)
      · intro m i hi hp _
        refine pk_le c.sl.length i (fun h => absurd h (by omega)) (fun _ => And.intro (vp_in_nI (by omega) (by omega)) (And.intro (vp_in_nI (by omega) (by omega)) ?_)) hR.2.1.1 rfl (by omega) (by omega)
        rw [nI_clamp (by omega), hak i (by omega), hat i hi]
        have b1 := hws _ (zb_gm (l := e.1) (i := i) (by omega))
        have b2 := l4 _ (zb_gm hi)
        refine br_f (fun z => hp ((nI_eq (by omega) (by omega)).mp z)) (ke (-20) ?_)
        rw [en, if_neg (fun z => hp (by rw [z]))]
      · intro hp m
        refine pk_le c.sl.length c.sl.length (fun _ => ?_) (fun h => absurd h (by omega)) hR.2.1.1 rfl (by omega) (by omega)
        have heq : e.1 = c.sl := by
          have := (zb_front (A := e.1) (R := []) (B := c.sl)).mpr ⟨by omega, fun k hk => (hp k (by omega)).symm, by rw [List.drop_of_length_le (by omega)]⟩
          rwa [List.append_nil] at this
        rw [if_pos heq] at en
        exact ko _ en
    · refine ke (-20) ?_
      rw [en, if_neg (fun z => q3 (by rw [z]))]
  · refine ke (-19) ?_
    unfold rn_end
    rw [if_neg q]
theorem xw_36 {post : Int32 → SX → Prop} {E : List rn_E} {T : List rn_T} (hI : ab_I c) (hG : rn_GE c E) (hQ : xq_R c M E T (fC, fV, fH, fP, fsl, fll, ftl, fpl, fN, fS, fh, fe, ft, fr, aSy, aLb, aLt, aPf, aGv, aKd, aLv, aLn, aVr, aSt, aHc, aHs, aPr, aRm, aTl, aAr, aPl, aSk, aEl, aEs, aEp, aEx, aTs, aTn, aTb, aTz, aTp, aAs, aAl, aAv, aRe)) (ke : ∀ e, rn_end c E = .error e → ∀ u', rx_R c M u' → post e u') (ko : ∀ E', rn_end c E = .ok E' → ∀ u', xq_R c M E T u' → post 0 u') : wX_runProof_36 post 0 fC fV fH fP fsl fll ftl fpl fN fS fh fe ft fr aSy aLb aLt aPf aGv aKd aLv aLn aVr aSt aHc aHs aPr aRm aTl aAr aPl aSk aEl aEs aEp aEx aTs aTn aTb aTz aTp aAs aAl aAv aRe := by
  unfold wX_runProof_36
  exact br_t rfl (xw_end hI hG hQ (fun e h => ke e h _ hQ.1) (fun E' h => ko E' h _ hQ))
theorem rn_end_ok {E E' : List rn_E} (h : rn_end c E = .ok E') : E' = E := by
  unfold rn_end at h
  by_cases q : E.length = 1
  · rw [if_pos q] at h
    by_cases q2 : (rn_ws E).getD 0 [] = c.sl
    · rw [if_pos q2] at h; cases h; rfl
    · rw [if_neg q2] at h; cases h
  · rw [if_neg q] at h; cases h
theorem rn_GE0 (hI : ab_I c) : rn_GE c [] := ⟨fun e he => absurd he List.not_mem_nil, trivial, Nat.zero_le _, Nat.zero_le _⟩
/-- the outcome of the proof in the lists -/
def rn_out (c : ab_W) : Except Int32 (List rn_E) := rn_fin c (if c.tl.length = 0 then rn_nrm c c.ll [] else rn_cm c c.tl 0 false [] [])
end
end
section
section
variable {c : ab_W} {M : Nat} {fC fV fH fP fsl fll ftl fpl fN fS fh fe ft fr : Int32} {aSy aLb aLt aPf aGv aKd aLv aLn aVr aSt aHc aHs aPr aRm aTl aAr aPl aSk aEl aEs aEp aEx aTs aTn aTb aTz aTp aAs aAl aAv aRe : Nat → Int32}
theorem xw_nrm {post : Int32 → SX → Prop} {T : List rn_T} (hI : ab_I c) (hNM : c.N ≤ M) (hQ : xq_R c M [] T (fC, fV, fH, fP, fsl, fll, ftl, fpl, fN, fS, fh, fe, ft, fr, aSy, aLb, aLt, aPf, aGv, aKd, aLv, aLn, aVr, aSt, aHc, aHs, aPr, aRm, aTl, aAr, aPl, aSk, aEl, aEs, aEp, aEx, aTs, aTn, aTb, aTz, aTp, aAs, aAl, aAv, aRe)) (ke : ∀ e, rn_nrm c c.ll [] = .error e → ∀ u', rx_R c M u' → post e u') (ko : ∀ E', rn_nrm c c.ll [] = .ok E' → rn_GE c E' → ∀ u', xq_R c M E' T u' → post 0 u') : wpX_runNormal post (fC, fV, fH, fP, fsl, fll, ftl, fpl, fN, fS, fh, fe, ft, fr, aSy, aLb, aLt, aPf, aGv, aKd, aLv, aLn, aVr, aSt, aHc, aHs, aPr, aRm, aTl, aAr, aPl, aSk, aEl, aEs, aEp, aEx, aTs, aTn, aTb, aTz, aTp, aAs, aAl, aAv, aRe) := by
  unfold wpX_runNormal
  exact ⟨c.ll.length + 1, xl_nrm hI hNM c.ll 0 [] (fC, fV, fH, fP, fsl, fll, ftl, fpl, fN, fS, fh, fe, ft, fr, aSy, aLb, aLt, aPf, aGv, aKd, aLv, aLn, aVr, aSt, aHc, aHs, aPr, aRm, aTl, aAr, aPl, aSk, aEl, aEs, aEp, aEx, aTs, aTn, aTb, aTz, aTp, aAs, aAl, aAv, aRe) hQ (rn_GE0 hI) rfl (by omega) ke ko⟩
theorem xw_cmp {post : Int32 → SX → Prop} (hI : ab_I c) (h24 : c.N < 24) (hM : M = c.N + 1) (h3 : 3 ≤ c.kd c.N) (hQ : xq_R c M [] [] (fC, fV, fH, fP, fsl, fll, ftl, fpl, fN, fS, fh, fe, ft, fr, aSy, aLb, aLt, aPf, aGv, aKd, aLv, aLn, aVr, aSt, aHc, aHs, aPr, aRm, aTl, aAr, aPl, aSk, aEl, aEs, aEp, aEx, aTs, aTn, aTb, aTz, aTp, aAs, aAl, aAv, aRe)) (ke : ∀ e, rn_cm c c.tl 0 false [] [] = .error e → ∀ u', rx_R c M u' → post e u') (ko : ∀ E', rn_cm c c.tl 0 false [] [] = .ok E' → rn_GE c E' → ∀ T' u', xq_R c M E' T' u' → post 0 u') : wpX_runCompressed post (fC, fV, fH, fP, fsl, fll, ftl, fpl, fN, fS, fh, fe, ft, fr, aSy, aLb, aLt, aPf, aGv, aKd, aLv, aLn, aVr, aSt, aHc, aHs, aPr, aRm, aTl, aAr, aPl, aSk, aEl, aEs, aEp, aEx, aTs, aTn, aTb, aTz, aTp, aAs, aAl, aAv, aRe) (nI c.N) := by
  unfold wpX_runCompressed
  exact ⟨c.tl.length + 1, xl_cmp hI h24 hM h3 c.tl 0 false [] [] 0 (fC, fV, fH, fP, fsl, fll, ftl, fpl, fN, fS, fh, fe, ft, fr, aSy, aLb, aLt, aPf, aGv, aKd, aLv, aLn, aVr, aSt, aHc, aHs, aPr, aRm, aTl, aAr, aPl, aSk, aEl, aEs, aEp, aEx, aTs, aTn, aTb, aTz, aTp, aAs, aAl, aAv, aRe) hQ (rn_GE0 hI) (fun t ht => absurd ht List.not_mem_nil) (fun z => absurd z (by decide)) (by omega) (by decide) rfl (by omega) ke ko⟩
theorem xw_proof {post : Int32 → SX → Prop} (hI : ab_I c) (h24 : c.N < 24) (hM : M = c.N + 1) (h3 : 3 ≤ c.kd c.N) (hR : rx_R c M (fC, fV, fH, fP, fsl, fll, ftl, fpl, fN, fS, fh, fe, ft, fr, aSy, aLb, aLt, aPf, aGv, aKd, aLv, aLn, aVr, aSt, aHc, aHs, aPr, aRm, aTl, aAr, aPl, aSk, aEl, aEs, aEp, aEx, aTs, aTn, aTb, aTz, aTp, aAs, aAl, aAv, aRe))
    (ke : ∀ e, rn_out c = .error e → ∀ u', rx_R c M u' → post e u') (ko : ∀ E, rn_out c = .ok E → rn_GE c E → ∀ T u', xq_R c M E T u' → post 0 u') : wpX_runProof post (fC, fV, fH, fP, fsl, fll, ftl, fpl, fN, fS, fh, fe, ft, fr, aSy, aLb, aLt, aPf, aGv, aKd, aLv, aLn, aVr, aSt, aHc, aHs, aPr, aRm, aTl, aAr, aPl, aSk, aEl, aEs, aEp, aEx, aTs, aTn, aTb, aTz, aTp, aAs, aAl, aAv, aRe) (nI c.N) := by
  obtain ⟨l1, l2, l3, l4, l5, l6⟩ := hI.2.1
  have hQ : xq_R c M [] [] (fC, fV, fH, fP, fsl, fll, ftl, fpl, fN, fS, 0, 0, 0, fr, aSy, aLb, aLt, aPf, aGv, aKd, aLv, aLn, aVr, aSt, aHc, aHs, aPr, aRm, aTl, aAr, aPl, aSk, aEl, aEs, aEp, aEx, aTs, aTn, aTb, aTz, aTp, aAs, aAl, aAv, aRe) := And.intro (rx_ig hR) ⟨rfl, rfl, rfl, trivial, trivial, zb_nil _ _, trivial⟩
  unfold rn_out at ke ko
  refine pk_eq c.tl.length 0 (fun q => ?_) (fun q => ?_) hR.2.2.2.1.1 rfl (by omega) (by omega)
  · rw [if_pos q] at ke ko
    refine xw_nrm hI (by omega) hQ ?_ ?_
    · intro e he
      rw [he] at ke
      refine rx_el ?_
      intro fC fV fH fP fsl fll ftl fpl fN fS fh fe ft fr aSy aLb aLt aPf aGv aKd aLv aLn aVr aSt aHc aHs aPr aRm aTl aAr aPl aSk aEl aEs aEp aEx aTs aTn aTb aTz aTp aAs aAl aAv aRe hu
      show wX_runProof_36 post e fC fV fH fP fsl fll ftl fpl fN fS fh fe ft fr aSy aLb aLt aPf aGv aKd aLv aLn aVr aSt aHc aHs aPr aRm aTl aAr aPl aSk aEl aEs aEp aEx aTs aTn aTb aTz aTp aAs aAl aAv aRe
      unfold wX_runProof_36
      exact br_f (rn_nrm_ne _ _ _ he) (ke e rfl _ hu)
    · intro E he hG
      rw [he] at ke ko
      refine rx_el ?_
      intro fC fV fH fP fsl fll ftl fpl fN fS fh fe ft fr aSy aLb aLt aPf aGv aKd aLv aLn aVr aSt aHc aHs aPr aRm aTl aAr aPl aSk aEl aEs aEp aEx aTs aTn aTb aTz aTp aAs aAl aAv aRe hu
      refine xw_36 hI hG hu (fun e h => ke e h) (fun E' h u' hu' => ?_)
      have := rn_end_ok h
      subst this
      exact ko _ h hG _ u' hu'
  · rw [if_neg q] at ke ko
    refine xw_cmp hI h24 hM h3 hQ ?_ ?_
    · intro e he
      rw [he] at ke
      refine rx_el ?_
      intro fC fV fH fP fsl fll ftl fpl fN fS fh fe ft fr aSy aLb aLt aPf aGv aKd aLv aLn aVr aSt aHc aHs aPr aRm aTl aAr aPl aSk aEl aEs aEp aEx aTs aTn aTb aTz aTp aAs aAl aAv aRe hu
      show wX_runProof_36 post e fC fV fH fP fsl fll ftl fpl fN fS fh fe ft fr aSy aLb aLt aPf aGv aKd aLv aLn aVr aSt aHc aHs aPr aRm aTl aAr aPl aSk aEl aEs aEp aEx aTs aTn aTb aTz aTp aAs aAl aAv aRe
      unfold wX_runProof_36
      exact br_f (rn_cmp_ne _ _ _ _ _ _ he) (ke e rfl _ hu)
    · intro E he hG T
      rw [he] at ke ko
      refine rx_el ?_
      intro fC fV fH fP fsl fll ftl fpl fN fS fh fe ft fr aSy aLb aLt aPf aGv aKd aLv aLn aVr aSt aHc aHs aPr aRm aTl aAr aPl aSk aEl aEs aEp aEx aTs aTn aTb aTz aTp aAs aAl aAv aRe hu
      refine xw_36 hI hG hu (fun e h => ke e h) (fun E' h u' hu' => ?_)
      have := rn_end_ok h
      subst this
      exact ko _ h hG _ u' hu'
end
end
section
section
variable {c : ab_W} {M : Nat} {fC fV fH fP fsl fll ftl fpl fN fS fh fe ft fr : Int32} {aSy aLb aLt aPf aGv aKd aLv aLn aVr aSt aHc aHs aPr aRm aTl aAr aPl aSk aEl aEs aEp aEx aTs aTn aTb aTz aTp aAs aAl aAv aRe : Nat → Int32}
theorem xw_keep {post : SX → Prop} {E : List rn_E} {T : List rn_T} (hI : ab_I c) (h24 : c.N < 24) (hG : rn_GE c E) (hQ : xq_R c M E T (fC, fV, fH, fP, fsl, fll, ftl, fpl, fN, fS, fh, fe, ft, fr, aSy, aLb, aLt, aPf, aGv, aKd, aLv, aLn, aVr, aSt, aHc, aHs, aPr, aRm, aTl, aAr, aPl, aSk, aEl, aEs, aEp, aEx, aTs, aTn, aTb, aTz, aTp, aAs, aAl, aAv, aRe)) (k : ∀ m, zb_MK m (fun a => (rn_xs E).any (fun y => c.rs y a)) → post (fC, fV, fH, fP, fsl, fll, ftl, nI (rn_xs E).length, fN, fS, fh, fe, ft, fr, aSy, aLb, aLt, zb_cp aPf 0 aEx (rn_xs E).length, aGv, aKd, aLv, aLn, aVr, aSt, aHc, aHs, aPr, upd aRm c.N m, aTl, aAr, aPl, aSk, aEl, aEs, aEp, aEx, aTs, aTn, aTb, aTz, aTp, aAs, aAl, aAv, aRe)) : wpX_keepProof post (fC, fV, fH, fP, fsl, fll, ftl, fpl, fN, fS, fh, fe, ft, fr, aSy, aLb, aLt, aPf, aGv, aKd, aLv, aLn, aVr, aSt, aHc, aHs, aPr, aRm, aTl, aAr, aPl, aSk, aEl, aEs, aEp, aEx, aTs, aTn, aTb, aTz, aTp, aAs, aAl, aAv, aRe) (nI c.N) := by
  obtain ⟨z1, z2, z3, z4, z5, z6, z7, z8, z9, z10⟩ := hI.1
  obtain ⟨hR, hh, hfe, hft, hqs, hqp, hex, hqt⟩ := hQ
  have hP := hG.2.2.2
  have hrm := hR.2.2.2.2.2.2.2.2.2.2.2.1
  have hb : ∀ y, y ∈ rn_xs E → y < c.N := by
    intro y hy
    unfold rn_xs at hy
    obtain ⟨e, he, hy⟩ := List.mem_flatMap.mp hy
    exact (hG.1 e he).2.2.2.2.2.2 y hy
  have key : ∀ d i m, i + d = (rn_xs E).length → zb_MK m (fun a => ((rn_xs E).take i).any (fun y => c.rs y a)) → wX_keepProof_4 post (nI c.N) fC fV fH fP fsl fll ftl fpl fN fS fh fe ft fr (d + 1) m (nI i) aSy aLb aLt (zb_cp aPf 0 aEx i) aGv aKd aLv aLn aVr aSt aHc aHs aPr aRm aTl aAr aPl aSk aEl aEs aEp aEx aTs aTn aTb aTz aTp aAs aAl aAv aRe := by
    intro d
    induction d with
    | zero =>
      intro i m hi hm
      have e : i = (rn_xs E).length := by omega
      rw [List.take_of_length_le (by omega)] at hm
      refine pk_le (rn_xs E).length i (fun _ => And.intro (vp_in_nI h24 (by omega)) (nm_r (zb_up c.N rfl rfl) ?_)) (fun h => absurd h (by omega)) hfe rfl (by omega) (by omega)
      rw [e]
      have h := k m hm
      rw [← hfe] at h
      exact h
    | succ d ih =>
      intro i m hi hm
      have hlt : i < (rn_xs E).length := by omega
      have e0 : aEx i = nI ((rn_xs E).getD i 0) := by
        have := hex i hlt
        rwa [Nat.zero_add] at this
      have hyb := hb _ (zb_gm hlt)
      have ii : vp_in (nI i) 96 := vp_in_nI (by omega) (by omega)
      refine pk_le (rn_xs E).length i (fun h => absurd h (by omega)) (fun _ => And.intro ii (And.intro ii (nm_r (e' := zb_cp aPf 0 aEx (i + 1)) (by rw [nI_clamp (by omega), zb_cpS0]) (And.intro ii ?_)))) hfe rfl (by omega) (by omega)
      rw [nI_clamp (by omega), e0]
      refine And.intro (vp_in_nI (by omega) (by omega)) (nm_e (nm_r (nI_1 i) (ih (i + 1) _ (by omega) ?_)))
      rw [nI_clamp (by omega)]
      refine zb_MKe (zb_MKor hm (hrm _ hyb)) (fun a _ => ?_)
      rw [List.take_succ_eq_append_getElem hlt, List.any_append, List.getD_eq_getElem?_getD, List.getElem?_eq_getElem hlt]
      simp
  unfold wpX_keepProof
  have h := key (rn_xs E).length 0 0 (by omega) (zb_MKe zb_MK0 (fun a _ => rfl))
  rw [zb_cp0] at h
  exact ⟨_, h⟩
end
end
section
/-! the reference: substitution, comparison, push -/
def ay_ (c : ab_W) (σ : Nat → List Nat) (D : List Nat) (stk : List (List Nat)) (bAs : Nat → Int32) : Prop := ∀ s, s ∈ D → (c.C ≤ s ∧ s < c.C + c.V) ∧ ∃ e w, stk[e]? = some w ∧ bAs s = nI e ∧ σ s = w.tail
section
variable {c : ab_W} {M : Nat} {gC gA gH gP gN gS gx gd go : Int32} {bKd bLn bLv bSt bCa bPl bSn bPf bPn bLs bLe bGv bXs bSk bSl bOu bAs bTb bTn : Nat → Int32}
theorem yl_sub {post : SY → Prop} {x : Nat} {σ : Nat → List Nat} {D : List Nat} {stk : List (List Nat)} (hI : ab_I c) (hR : ry_R c M (gC, gA, gH, gP, gN, gS, gx, gd, go, bKd, bLn, bLv, bSt, bCa, bPl, bSn, bPf, bPn, bLs, bLe, bGv, bXs, bSk, bSl, bOu, bAs, bTb, bTn)) (hM : ab_M c M) (hx : x < M) (hq : qs_ bSk bSl 0 stk) (hok : ws_ok c stk) (h16 : stk.length ≤ 16) (hA : ay_ c σ D stk bAs) :
    ∀ (l : List Nat) (i : Nat) (R : List Nat) (ho : Int32) (hOu : Nat → Int32), zb_Sg bSt (x * 10 + i) l → i + l.length = (c.sg x).length → (∀ s, s ∈ l → s < c.C + c.V) → (∀ s, s ∈ l → c.C ≤ s → s ∈ D) → ho = nI R.length → R.length ≤ i * 15 → zb_Sg hOu 0 R →
    (∀ (jo : Int32) (gOu : Nat → Int32), jo = nI (R ++ rn_sbs c.C σ l).length → zb_Sg gOu 0 (R ++ rn_sbs c.C σ l) → (R ++ rn_sbs c.C σ l).length ≤ 150 → post (gC, gA, gH, gP, gN, gS, gx, gd, jo, bKd, bLn, bLv, bSt, bCa, bPl, bSn, bPf, bPn, bLs, bLe, bGv, bXs, bSk, bSl, gOu, bAs, bTb, bTn)) →
    wY_substitute_7 post (nI x) gC gA gH gP gN gS gx gd (l.length + 1) (nI i) ho bKd bLn bLv bSt bCa bPl bSn bPf bPn bLs bLe bGv bXs bSk bSl hOu bAs bTb bTn := by
  obtain ⟨z1, z2, z3, z4, z5, z6, z7, z8, z9, z10⟩ := hI.1
  have hm := hM.1
  have hsl := (hM.2 x hx).2.2.2.1
  have hlen : bLn x = nI (c.sg x).length := (hR.2.2.2.2.2.2.1 x hx).1
  have ix : vp_in (nI x) 24 := vp_in_nI (by omega) (by omega)
  intro l
  induction l with
  | nil =>
    intro i R ho hOu _ hi _ _ hho hR15 hsR k
    have hi : i + 0 = (c.sg x).length := hi
    refine And.intro ix ?_
    rw [nI_clamp (by omega), hlen]
    refine pk_le _ i (fun _ => ?_) (fun h => absurd h (by omega)) rfl rfl (by omega) (by omega)
    have e : R ++ rn_sbs c.C σ [] = R := List.append_nil R
    rw [e] at k
    exact k ho hOu hho hsR (by omega)
  | cons y l ih =>
    intro i R ho hOu hs hi hb hD hho hR15 hsR k
    rw [zb_cons] at hs
    have hy := hb y List.mem_cons_self
    rw [List.length_cons] at hi
    refine And.intro ix ?_
    rw [nI_clamp (by omega), hlen]
    refine pk_le _ i (fun h => absurd h (by omega)) (fun _ => And.intro (pk_in (x * 10 + i) 240 (by omega) (zb_x10 x i)) ?_) rfl rfl (by omega) (by omega)
    refine nm_r (e' := nI y) (by rw [zb_c10 x i (by omega)]; exact hs.1) ?_
    have ih' := fun R ho hOu => ih (i + 1) R ho hOu hs.2 (by omega) (fun s h => hb s (List.mem_cons_of_mem _ h)) (fun s h => hD s (List.mem_cons_of_mem _ h))
    refine pk_le c.C y (fun q => ?_) (fun q => ?_) hR.1.1 rfl
    · obtain ⟨hr, e, w, a1, a2, a3⟩ := hA y (hD y List.mem_cons_self q)
      rw [rn_sbs_v q, ← List.append_assoc, a3] at k
      have he : e < stk.length := by
        rw [List.getElem?_eq_some_iff] at a1
        exact a1.1
      have hmem : w ∈ stk := List.mem_of_getElem? a1
      obtain ⟨w1, w2, w3⟩ := hok w hmem
      have hqe := qs_get stk 0 e w a1 hq
      rw [Nat.zero_add] at hqe
      have htl : w.tail.length = w.length - 1 := List.length_tail
      have iy : vp_in (nI y) 16 := vp_in_nI (by omega) (by omega)
      have ey : bAs (nI y).toNatClampNeg = nI e := by rw [nI_clamp (by omega)]; exact a2
      have key : ∃ n, wY_substitute_63 post (wY_substitute_7 post (nI x) gC gA gH gP gN gS gx gd (l.length + 1)) (nI x) (nI i) (nI y) gC gA gH gP gN gS gx gd n (nI (0 + 1)) (nI (R.length + 0)) bKd bLn bLv bSt bCa bPl bSn bPf bPn bLs bLe bGv bXs bSk bSl (zb_cp hOu R.length (fun t => bSk (e * 16 + (t + 1))) 0) bAs bTb bTn := by
        refine zb_count (fun n t => wY_substitute_63 post (wY_substitute_7 post (nI x) gC gA gH gP gN gS gx gd (l.length + 1)) (nI x) (nI i) (nI y) gC gA gH gP gN gS gx gd n (nI (t + 1)) (nI (R.length + t)) bKd bLn bLv bSt bCa bPl bSn bPf bPn bLs bLe bGv bXs bSk bSl (zb_cp hOu R.length (fun t => bSk (e * 16 + (t + 1))) t) bAs bTb bTn) w.tail.length ?_ ?_
        · intro m t ht w0
          rw [← zb_cpS] at w0
          refine And.intro iy (And.intro (by rw [ey]; exact vp_in_nI (by omega) (by omega)) ?_)
          rw [ey, nI_clamp (n := e) (by omega), hqe.1]
          have e1 : nI e * 16 + nI (t + 1) = nI (e * 16 + (t + 1)) := zb_x16 e (t + 1)
          refine pk_le w.length (t + 1) (fun h => absurd h (by omega)) (fun _ => And.intro iy (And.intro (pk_in (e * 16 + (t + 1)) 256 (by omega) e1) (And.intro (vp_in_nI (by omega) (by omega)) ?_))) rfl rfl (by omega) (by omega)
          exact nm_r (zb_up (R.length + t) rfl (by rw [zb_c16 e (t + 1) (by omega)])) (nm_r (nI_1 _) (nm_r (nI_1 _) w0))
        · intro m
          refine And.intro iy (And.intro (by rw [ey]; exact vp_in_nI (by omega) (by omega)) ?_)
          rw [ey, nI_clamp (n := e) (by omega), hqe.1]
          refine pk_le w.length (w.tail.length + 1) (fun _ => nm_r (nI_1 i) ?_) (fun h => absurd h (by omega)) rfl rfl (by omega) (by omega)
          have hla : (R ++ w.tail).length = R.length + w.tail.length := List.length_append
          rw [← hla]
          refine ih' (R ++ w.tail) _ _ rfl (by rw [hla]; omega) ?_ k
          rw [zb_app]
          refine ⟨zb_cpK hsR (by omega), ?_⟩
          rw [Nat.zero_add]
          refine zb_cpG (fun t ht => ?_)
          rw [zb_tailg]
          exact hqe.2 (t + 1) (by omega)
      rw [zb_cp0, show nI (R.length + 0) = ho from hho.symm] at key
      exact key
    · rw [rn_sbs_c q, show R ++ y :: rn_sbs c.C σ l = (R ++ [y]) ++ rn_sbs c.C σ l by rw [List.append_assoc]; rfl] at k
      have hla : (R ++ [y]).length = R.length + 1 := by rw [List.length_append]; rfl
      refine And.intro (pk_in R.length 160 (by omega) hho) (nm_r (zb_up R.length hho rfl) (nm_r (e' := nI (R ++ [y]).length) (by rw [hho, nI_1, hla]) (nm_r (nI_1 i) (ih' (R ++ [y]) _ _ rfl (by rw [hla]; omega) ?_ k))))
      rw [zb_app, zb_one, Nat.zero_add]
      exact ⟨zb_cu hsR (by omega), pk_us⟩
theorem yw_sub {post : SY → Prop} {x : Nat} {σ : Nat → List Nat} {D : List Nat} {stk : List (List Nat)} (hI : ab_I c) (hR : ry_R c M (gC, gA, gH, gP, gN, gS, gx, gd, go, bKd, bLn, bLv, bSt, bCa, bPl, bSn, bPf, bPn, bLs, bLe, bGv, bXs, bSk, bSl, bOu, bAs, bTb, bTn)) (hM : ab_M c M) (hx : x < M) (hq : qs_ bSk bSl 0 stk) (hok : ws_ok c stk) (h16 : stk.length ≤ 16) (hA : ay_ c σ D stk bAs) (hD : ∀ s, s ∈ c.sg x → c.C ≤ s → s ∈ D) (k : ∀ (jo : Int32) (gOu : Nat → Int32), jo = nI (rn_sbs c.C σ (c.sg x)).length → zb_Sg gOu 0 (rn_sbs c.C σ (c.sg x)) → (rn_sbs c.C σ (c.sg x)).length ≤ 150 → post (gC, gA, gH, gP, gN, gS, gx, gd, jo, bKd, bLn, bLv, bSt, bCa, bPl, bSn, bPf, bPn, bLs, bLe, bGv, bXs, bSk, bSl, gOu, bAs, bTb, bTn)) : wpY_substitute post (gC, gA, gH, gP, gN, gS, gx, gd, go, bKd, bLn, bLv, bSt, bCa, bPl, bSn, bPf, bPn, bLs, bLe, bGv, bXs, bSk, bSl, bOu, bAs, bTb, bTn) (nI x) := by
  unfold wpY_substitute
  exact ⟨_, yl_sub hI hR hM hx hq hok h16 hA (c.sg x) 0 [] 0 bOu (hR.2.2.2.2.2.2.1 x hx).2 (by omega) (hM.2 x hx).2.2.2.2.2.1 hD rfl (Nat.zero_le _) (zb_nil _ _) k⟩
theorem yw_outIs {post : Int32 → Prop} {e : Nat} {w R : List Nat} (he : e < 16) (hwn : bSl e = nI w.length) (hw : zb_Sg bSk (e * 16) w) (hwl : w.length ≤ 16) (hws : ∀ y, y ∈ w → y < 2 ^ 31) (hgo : go = nI R.length) (hR : zb_Sg bOu 0 R) (hRl : R.length ≤ 150) (hRs : ∀ y, y ∈ R → y < 2 ^ 31) (k : post (zb_1 (decide (R = w)))) : wpY_outIs post (gC, gA, gH, gP, gN, gS, gx, gd, go, bKd, bLn, bLv, bSt, bCa, bPl, bSn, bPf, bPn, bLs, bLe, bGv, bXs, bSk, bSl, bOu, bAs, bTb, bTn) (nI e) := by
  refine And.intro (vp_in_nI he (by omega)) ?_
  rw [nI_clamp (by omega), hwn]
  refine pk_eq R.length w.length (fun q => ?_) (fun q => zb_k0 k (decide_eq_false (fun z => q (by rw [z])))) hgo rfl (by omega) (by omega)
  have hat : ∀ i, i < R.length → bOu i = nI (R.getD i 0) := fun i hi => by
    have := hR i hi
    rwa [Nat.zero_add] at this
  refine zb_find (fun n i => wY_outIs_17 post (nI e) gC gA gH gP gN gS gx gd go bKd bLn bLv bSt bCa bPl bSn bPf bPn bLs bLe bGv bXs bSk bSl bOu bAs bTb bTn n (nI i)) (fun i => R.getD i 0 = w.getD i 0) R.length ?_ ?_ ?_
  · intro m i hi hp w0
    refine pk_le R.length i (fun h => absurd h (by omega)) (fun _ => And.intro (vp_in_nI (by omega) (by omega)) (And.intro (pk_in (e * 16 + i) 256 (by omega) (zb_x16 e i)) ?_)) hgo rfl (by omega) (by omega)
    rw [nI_clamp (by omega), zb_c16 e i (by omega), hat i hi, hw i (by omega), hp]
    exact br_t rfl (nm_r (nI_1 i) w0)
  · intro m i hi hp _
    refine pk_le R.length i (fun h => absurd h (by omega)) (fun _ => And.intro (vp_in_nI (by omega) (by omega)) (And.intro (pk_in (e * 16 + i) 256 (by omega) (zb_x16 e i)) ?_)) hgo rfl (by omega) (by omega)
    rw [nI_clamp (by omega), zb_c16 e i (by omega), hat i hi, hw i (by omega)]
    refine br_f (fun z => hp ((nI_eq (hRs _ (zb_gm hi)) (hws _ (zb_gm (by omega)))).mp z)) (zb_k0 k (decide_eq_false (fun z => hp (by rw [z]))))
  · intro hp m
    refine pk_le R.length R.length (fun _ => zb_k1 k (decide_eq_true ?_)) (fun h => absurd h (by omega)) hgo rfl (by omega) (by omega)
    have := (zb_front (A := R) (R := []) (B := w)).mpr ⟨by omega, fun k hk => (hp k hk).symm, by rw [List.drop_of_length_le (by omega)]⟩
    rwa [List.append_nil] at this
theorem yw_copyOut {post : SY → Prop} {x : Nat} (hR : ry_R c M (gC, gA, gH, gP, gN, gS, gx, gd, go, bKd, bLn, bLv, bSt, bCa, bPl, bSn, bPf, bPn, bLs, bLe, bGv, bXs, bSk, bSl, bOu, bAs, bTb, bTn)) (hM : ab_M c M) (hx : x < M) (k : ∀ gOu : Nat → Int32, zb_Sg gOu 0 (c.sg x) → post (gC, gA, gH, gP, gN, gS, gx, gd, nI (c.sg x).length, bKd, bLn, bLv, bSt, bCa, bPl, bSn, bPf, bPn, bLs, bLe, bGv, bXs, bSk, bSl, gOu, bAs, bTb, bTn)) : wpY_copyOut post (gC, gA, gH, gP, gN, gS, gx, gd, go, bKd, bLn, bLv, bSt, bCa, bPl, bSn, bPf, bPn, bLs, bLe, bGv, bXs, bSk, bSl, bOu, bAs, bTb, bTn) (nI x) := by
  have hm := hM.1
  have hsl := (hM.2 x hx).2.2.2.1
  have hst := hR.2.2.2.2.2.2.1 x hx
  refine And.intro (vp_in_nI (by omega) (by omega)) (nm_r (e' := nI (c.sg x).length) (by rw [nI_clamp (by omega)]; exact hst.1) ?_)
  have key : ∃ n, wY_copyOut_12 post (nI x) gC gA gH gP gN gS gx gd (nI (c.sg x).length) n (nI 0) bKd bLn bLv bSt bCa bPl bSn bPf bPn bLs bLe bGv bXs bSk bSl (zb_cp bOu 0 (fun i => bSt (x * 10 + i)) 0) bAs bTb bTn := by
    refine zb_count (fun n i => wY_copyOut_12 post (nI x) gC gA gH gP gN gS gx gd (nI (c.sg x).length) n (nI i) bKd bLn bLv bSt bCa bPl bSn bPf bPn bLs bLe bGv bXs bSk bSl (zb_cp bOu 0 (fun i => bSt (x * 10 + i)) i) bAs bTb bTn) (c.sg x).length ?_ ?_
    · intro m i hi w
      rw [← zb_cpS0] at w
      refine pk_le (c.sg x).length i (fun h => absurd h (by omega)) (fun _ => And.intro (pk_in (x * 10 + i) 240 (by omega) (zb_x10 x i)) (And.intro (vp_in_nI (by omega) (by omega)) ?_)) rfl rfl (by omega) (by omega)
      exact nm_r (zb_up i rfl (by rw [zb_c10 x i (by omega)])) (nm_r (nI_1 i) w)
    · intro m
      exact pk_le (c.sg x).length (c.sg x).length (fun _ => k _ (zb_cpG hst.2)) (fun h => absurd h (by omega)) rfl rfl (by omega) (by omega)
  rw [zb_cp0] at key
  exact key
theorem yw_push {post : SY → Prop} {d : Nat} {R : List Nat} (hd : d < 16) (hgd : gd = nI d) (hgo : go = nI R.length) (hRl : R.length ≤ 16) (k : post (gC, gA, gH, gP, gN, gS, gx, nI (d + 1), go, bKd, bLn, bLv, bSt, bCa, bPl, bSn, bPf, bPn, bLs, bLe, bGv, bXs, zb_cp bSk (d * 16) bOu R.length, upd bSl d (nI R.length), bOu, bAs, bTb, bTn)) : wpY_push post (gC, gA, gH, gP, gN, gS, gx, gd, go, bKd, bLn, bLv, bSt, bCa, bPl, bSn, bPf, bPn, bLs, bLe, bGv, bXs, bSk, bSl, bOu, bAs, bTb, bTn) := by
  unfold wpY_push
  have key : ∃ n, wY_push_2 post gC gA gH gP gN gS gx gd go n (nI 0) bKd bLn bLv bSt bCa bPl bSn bPf bPn bLs bLe bGv bXs (zb_cp bSk (d * 16) bOu 0) bSl bOu bAs bTb bTn := by
    refine zb_count (fun n i => wY_push_2 post gC gA gH gP gN gS gx gd go n (nI i) bKd bLn bLv bSt bCa bPl bSn bPf bPn bLs bLe bGv bXs (zb_cp bSk (d * 16) bOu i) bSl bOu bAs bTb bTn) R.length ?_ ?_
    · intro m i hi w
      rw [← zb_cpS] at w
      have e1 : gd * 16 + nI i = nI (d * 16 + i) := by rw [hgd]; exact zb_x16 d i
      refine pk_le R.length i (fun h => absurd h (by omega)) (fun _ => And.intro (vp_in_nI (by omega) (by omega)) (And.intro (pk_in (d * 16 + i) 256 (by omega) e1) ?_)) hgo rfl (by omega) (by omega)
      exact nm_r (zb_up (d * 16 + i) e1 (zb_rd i rfl)) (nm_r (nI_1 i) w)
    · intro m
      refine pk_le R.length R.length (fun _ => And.intro (pk_in d 16 hd hgd) ?_) (fun h => absurd h (by omega)) hgo rfl (by omega) (by omega)
      exact nm_r (zb_up d hgd hgo) (nm_r (e' := nI (d + 1)) (by rw [hgd, nI_1]) k)
  rw [zb_cp0] at key
  exact key
theorem yw_apart {post : Int32 → Prop} {e f : Nat} {w v : List Nat} (hI : ab_I c) (hR : ry_R c M (gC, gA, gH, gP, gN, gS, gx, gd, go, bKd, bLn, bLv, bSt, bCa, bPl, bSn, bPf, bPn, bLs, bLe, bGv, bXs, bSk, bSl, bOu, bAs, bTb, bTn)) (he : e < 16) (hf : f < 16) (hwn : bSl e = nI w.length) (hw : zb_Sg bSk (e * 16) w) (hwl : 1 ≤ w.length ∧ w.length ≤ 16) (hws : ∀ y, y ∈ w → y < c.C + c.V) (hvn : bSl f = nI v.length) (hv : zb_Sg bSk (f * 16) v) (hvl : 1 ≤ v.length ∧ v.length ≤ 16) (hvs : ∀ y, y ∈ v → y < c.C + c.V) (k : post (zb_1 (rn_apart c.C c.pl w.tail v.tail))) : wpY_apart post (gC, gA, gH, gP, gN, gS, gx, gd, go, bKd, bLn, bLv, bSt, bCa, bPl, bSn, bPf, bPn, bLs, bLe, bGv, bXs, bSk, bSl, bOu, bAs, bTb, bTn) (nI e) (nI f) := by
  obtain ⟨z1, z2, z3, z4, z5, z6, z7, z8, z9, z10⟩ := hI.1
  have ie : vp_in (nI e) 16 := vp_in_nI he (by omega)
  have jf : vp_in (nI f) 16 := vp_in_nI hf (by omega)
  have hpl := hR.2.2.2.2.2.2.2.2.1
  -- one pair of symbols
  let bad : Nat → Nat → Prop := fun i t => c.C ≤ w.getD i 0 ∧ c.C ≤ v.getD t 0 ∧ c.pl (w.getD i 0) (v.getD t 0) = 0
  have hbad : (∃ i t, 1 ≤ i ∧ i < w.length ∧ 1 ≤ t ∧ t < v.length ∧ bad i t) → post 0 := by
    intro ⟨i, t, h1, h2, h3, h4, b1, b2, b3⟩
    refine zb_k0 k ?_
    rw [Bool.eq_false_iff]
    intro z
    rw [rn_apart_i] at z
    have m1 : w.getD i 0 ∈ w.tail := zb_mem.mpr ⟨i - 1, by rw [List.length_tail]; omega, by rw [zb_tailg, show i - 1 + 1 = i by omega]⟩
    have m2 : v.getD t 0 ∈ v.tail := zb_mem.mpr ⟨t - 1, by rw [List.length_tail]; omega, by rw [zb_tailg, show t - 1 + 1 = t by omega]⟩
    exact z _ m1 _ m2 b1 b2 b3
  have hgood : (∀ i, 1 ≤ i → i < w.length → ∀ t, 1 ≤ t → t < v.length → ¬ bad i t) → post 1 := by
    intro h
    refine zb_k1 k (rn_apart_i.mpr (fun y hy z hz c1 c2 c3 => ?_))
    obtain ⟨i, hi, ei⟩ := zb_mem.mp hy
    obtain ⟨t, ht, et⟩ := zb_mem.mp hz
    rw [List.length_tail] at hi ht
    rw [zb_tailg] at ei et
    refine h (i + 1) (by omega) (by omega) (t + 1) (by omega) (by omega) ⟨?_, ?_, ?_⟩
    · rw [ei]; exact c1
    · rw [et]; exact c2
    · rw [ei, et]; exact c3
  -- the step over one pair
  have step : ∀ (J : Int32 → Prop) (m i t : Nat), 1 ≤ i → i < w.length → 1 ≤ t → t < v.length → (¬ bad i t → wY_apart_15 post J (nI e) (nI f) (nI i) gC gA gH gP gN gS gx gd go bKd bLn bLv bSt bCa bPl bSn bPf bPn bLs bLe bGv bXs bSk bSl bOu bAs bTb bTn m (nI (t + 1))) → wY_apart_15 post J (nI e) (nI f) (nI i) gC gA gH gP gN gS gx gd go bKd bLn bLv bSt bCa bPl bSn bPf bPn bLs bLe bGv bXs bSk bSl bOu bAs bTb bTn (m + 1) (nI t) := by
    intro J m i t h1 h2 h3 h4 w0
    have b1 := hws _ (zb_gm (l := w) h2)
    have b2 := hvs _ (zb_gm (l := v) h4)
    refine And.intro jf ?_
    rw [nI_clamp (by omega), hvn]
    refine pk_le v.length t (fun h => absurd h (by omega)) (fun _ => ?_) rfl rfl (by omega) (by omega)
    refine And.intro (pk_in (e * 16 + i) 256 (by omega) (zb_x16 e i)) (nm_r (e' := nI (w.getD i 0)) (by rw [zb_c16 e i (by omega)]; exact hw i h2) (And.intro (pk_in (f * 16 + t) 256 (by omega) (zb_x16 f t)) (nm_r (e' := nI (v.getD t 0)) (by rw [zb_c16 f t (by omega)]; exact hv t h4) ?_)))
    by_cases c1 : c.C ≤ w.getD i 0
    · refine yw_isVar_y hR c1 b1 (by omega) (br_f (by decide) ?_)
      by_cases c2 : c.C ≤ v.getD t 0
      · refine yw_isVar_y hR c2 b2 (by omega) (br_f (by decide) ?_)
        refine pk_eq (w.getD i 0) (v.getD t 0) (fun q => hbad ⟨i, t, h1, h2, h3, h4, c1, c2, ?_⟩) (fun q => And.intro (pk_in (w.getD i 0 * 16 + v.getD t 0) 256 (by omega) (zb_x16 _ _)) ?_) rfl rfl (by omega) (by omega)
        · rw [q]; exact hI.2.2.2.2.2.2.2.1.1 _
        · have hpb := hI.2.2.2.2.2.2.2.1.2.1 (w.getD i 0) (v.getD t 0)
          rw [zb_c16 _ _ (by omega), hpl _ _ (by omega) (by omega)]
          refine pk_eq (c.pl (w.getD i 0) (v.getD t 0)) 0 (fun q2 => hbad ⟨i, t, h1, h2, h3, h4, c1, c2, q2⟩) (fun q2 => nm_r (nI_1 t) (w0 (fun z => q2 z.2.2))) rfl rfl (by omega) (by omega)
      · exact yw_isVar_n hR (Or.inl (nI_lt (by omega) (by omega))) (br_t rfl (nm_r (nI_1 t) (w0 (fun z => c2 z.2.1))))
    · exact yw_isVar_n hR (Or.inl (nI_lt (by omega) (by omega))) (br_t rfl (nm_r (nI_1 t) (w0 (fun z => c1 z.1))))
  unfold wpY_apart
  refine zb_searchF (fun n i => wY_apart_2 post (nI e) (nI f) gC gA gH gP gN gS gx gd go bKd bLn bLv bSt bCa bPl bSn bPf bPn bLs bLe bGv bXs bSk bSl bOu bAs bTb bTn n (nI i)) (fun i => ∀ t, 1 ≤ t → t < v.length → ¬ bad i t) 1 w.length hwl.1 ?_ ?_ ?_
  · intro m i h1 h2 hp w0
    refine And.intro ie ?_
    rw [nI_clamp (by omega), hwn]
    refine pk_le w.length i (fun h => absurd h (by omega)) (fun _ => ?_) rfl rfl (by omega) (by omega)
    refine zb_countF (fun n t => wY_apart_15 post (wY_apart_2 post (nI e) (nI f) gC gA gH gP gN gS gx gd go bKd bLn bLv bSt bCa bPl bSn bPf bPn bLs bLe bGv bXs bSk bSl bOu bAs bTb bTn m) (nI e) (nI f) (nI i) gC gA gH gP gN gS gx gd go bKd bLn bLv bSt bCa bPl bSn bPf bPn bLs bLe bGv bXs bSk bSl bOu bAs bTb bTn n (nI t)) 1 v.length hvl.1 (fun m2 t h3 h4 w2 => step _ m2 i t h1 h2 h3 h4 (fun _ => w2)) ?_
    intro m2
    refine And.intro jf ?_
    rw [nI_clamp (by omega), hvn]
    exact pk_le v.length v.length (fun _ => nm_r (nI_1 i) w0) (fun h => absurd h (by omega)) rfl rfl (by omega) (by omega)
  · intro m i h1 h2 hp _
    have hex : ∃ t, 1 ≤ t ∧ t < v.length ∧ bad i t := by
      refine Classical.not_not.mp (fun z => hp (fun t h3 h4 hb => z ⟨t, h3, h4, hb⟩))
    obtain ⟨t, h3, h4, hb⟩ := hex
    refine And.intro ie ?_
    rw [nI_clamp (by omega), hwn]
    refine pk_le w.length i (fun h => absurd h (by omega)) (fun _ => ?_) rfl rfl (by omega) (by omega)
    refine zb_searchF (fun n t => wY_apart_15 post (wY_apart_2 post (nI e) (nI f) gC gA gH gP gN gS gx gd go bKd bLn bLv bSt bCa bPl bSn bPf bPn bLs bLe bGv bXs bSk bSl bOu bAs bTb bTn m) (nI e) (nI f) (nI i) gC gA gH gP gN gS gx gd go bKd bLn bLv bSt bCa bPl bSn bPf bPn bLs bLe bGv bXs bSk bSl bOu bAs bTb bTn n (nI t)) (fun t => ¬ bad i t) 1 v.length hvl.1 (fun m2 t h3 h4 _ w2 => step _ m2 i t h1 h2 h3 h4 (fun _ => w2)) (fun m2 t h3 h4 hp2 _ => step _ m2 i t h1 h2 h3 h4 (fun z => absurd z hp2)) ?_
    intro hall
    exact absurd hb (hall t h3 h4)
  · intro hp m
    refine And.intro ie ?_
    rw [nI_clamp (by omega), hwn]
    exact pk_le w.length w.length (fun _ => hgood hp) (fun h => absurd h (by omega)) rfl rfl (by omega) (by omega)
end
end
section
/-! the reference: one label -/
def qu_ (b n : Nat → Int32) : Nat → List rn_T → Prop
  | _, [] => True
  | i, t :: r => (b i = nI t.2 ∧ n i = nI t.1.2.1.length) ∧ qu_ b n (i + 1) r
theorem qu_app {b n : Nat → Int32} : ∀ (A B : List rn_T) (i : Nat), qu_ b n i (A ++ B) ↔ qu_ b n i A ∧ qu_ b n (i + A.length) B := by
  intro A
  induction A with
  | nil => intro B i; exact ⟨fun h => ⟨trivial, h⟩, fun h => h.2⟩
  | cons t A ih =>
    intro B i
    show _ ∧ qu_ b n (i + 1) (A ++ B) ↔ (_ ∧ qu_ b n (i + 1) A) ∧ qu_ b n (i + (A.length + 1)) B
    rw [ih B (i + 1), show i + 1 + A.length = i + (A.length + 1) by omega]
    exact and_assoc.symm
theorem qu_cg {b n b' n' : Nat → Int32} : ∀ (A : List rn_T) (i : Nat), (∀ k, k < i + A.length → b' k = b k ∧ n' k = n k) → qu_ b n i A → qu_ b' n' i A := by
  intro A
  induction A with
  | nil => intro i _ _; trivial
  | cons t A ih =>
    intro i hn h
    have e : i + (t :: A).length = i + 1 + A.length := by rw [List.length_cons]; omega
    rw [e] at hn
    exact ⟨⟨by rw [(hn i (by omega)).1]; exact h.1.1, by rw [(hn i (by omega)).2]; exact h.1.2⟩, ih (i + 1) hn h.2⟩
theorem qu_get {b n : Nat → Int32} : ∀ (A : List rn_T) (i k : Nat) (t : rn_T), A[k]? = some t → qu_ b n i A → b (i + k) = nI t.2 ∧ n (i + k) = nI t.1.2.1.length := by
  intro A
  induction A with
  | nil => intro i k t h _; simp at h
  | cons v A ih =>
    intro i k t h hq
    cases k with
    | zero =>
      simp at h
      subst h
      exact hq.1
    | succ k =>
      have h : A[k]? = some t := by simpa using h
      have := ih (i + 1) k t h hq.2
      rwa [show i + 1 + k = i + (k + 1) by omega] at this
def yq_ (stk : List (List Nat)) (xs : List Nat) (T : List rn_T) (gx gd : Int32) (bXs bSk bSl bTb bTn : Nat → Int32) : Prop := gd = nI stk.length ∧ gx = nI xs.length ∧ qs_ bSk bSl 0 stk ∧ zb_Sg bXs 0 xs ∧ qu_ bTb bTn 0 T
def yq_R (c : ab_W) (M : Nat) (stk : List (List Nat)) (xs : List Nat) (T : List rn_T) (v : SY) : Prop := match v with
  | (gC, gA, gH, gP, gN, gS, gx, gd, go, bKd, bLn, bLv, bSt, bCa, bPl, bSn, bPf, bPn, bLs, bLe, bGv, bXs, bSk, bSl, bOu, bAs, bTb, bTn) => ry_R c M (gC, gA, gH, gP, gN, gS, gx, gd, go, bKd, bLn, bLv, bSt, bCa, bPl, bSn, bPf, bPn, bLs, bLe, bGv, bXs, bSk, bSl, bOu, bAs, bTb, bTn) ∧ yq_ stk xs T gx gd bXs bSk bSl bTb bTn
theorem ay_ext {c : ab_W} {σ : Nat → List Nat} {D : List Nat} {stk : List (List Nat)} {bAs : Nat → Int32} {e s : Nat} {w : List Nat} (hA : ay_ c σ D stk bAs) (hs : c.C ≤ s ∧ s < c.C + c.V) (hw : stk[e]? = some w) : ay_ c (fun t => if t = s then w.tail else σ t) (s :: D) stk (upd bAs s (nI e)) := by
  intro t ht
  by_cases q : t = s
  · refine ⟨by rw [q]; exact hs, e, w, hw, ?_, if_pos q⟩
    rw [q, pk_us]
  · have htD : t ∈ D := by
      rcases List.mem_cons.mp ht with h | h
      · exact absurd h q
      · exact h
    obtain ⟨h1, a, w', h2, h3, h4⟩ := hA t htD
    refine ⟨h1, a, w', h2, ?_, ?_⟩
    · rw [pk_un q]; exact h3
    · show (if t = s then w.tail else σ t) = w'.tail
      rw [if_neg q]; exact h4
section
variable {c : ab_W} {M : Nat} {gC gA gH gP gN gS gx gd go : Int32} {bKd bLn bLv bSt bCa bPl bSn bPf bPn bLs bLe bGv bXs bSk bSl bOu bAs bTb bTn : Nat → Int32}
theorem yl_74 {post : Int32 → SY → Prop} {x q : Nat} {stk : List (List Nat)} (hI : ab_I c) (hR : ry_R c M (gC, gA, gH, gP, gN, gS, gx, gd, go, bKd, bLn, bLv, bSt, bCa, bPl, bSn, bPf, bPn, bLs, bLe, bGv, bXs, bSk, bSl, bOu, bAs, bTb, bTn)) (hM : ab_M c M) (hx : x < c.N) (hxM : x < M) (hqs : qs_ bSk bSl 0 stk) (hok : ws_ok c stk) (h16 : stk.length ≤ 16) :
    ∀ (d j : Nat) (e : Nat) (σ : Nat → List Nat) (D : List Nat) (ho : Int32) (hOu hAs : Nat → Int32), j + d = x → e + ((List.range' j d).filter (c.inF x)).length = stk.length → ay_ c σ D stk hAs → rn_cv c ((List.range' j d).filter (c.inF x)) D →
    (rn_mt c.C c.kd c.sg ((List.range' j d).filter (c.inF x)) (stk.drop e) σ = none → ∀ (jo : Int32) (gOu gAs : Nat → Int32), post (-16) (gC, gA, gH, gP, gN, gS, gx, gd, jo, bKd, bLn, bLv, bSt, bCa, bPl, bSn, bPf, bPn, bLs, bLe, bGv, bXs, bSk, bSl, gOu, gAs, bTb, bTn)) →
    (∀ σ', rn_mt c.C c.kd c.sg ((List.range' j d).filter (c.inF x)) (stk.drop e) σ = some σ' → ∀ (jo : Int32) (gOu gAs : Nat → Int32), ay_ c σ' (rn_dm c ((List.range' j d).filter (c.inF x)) D) stk gAs → ∃ n, wY_run_179 post (nI x) (nI q) gC gA gH gP gN gS gx gd jo bKd bLn bLv bSt bCa bPl bSn bPf bPn bLs bLe bGv bXs bSk bSl gOu gAs bTb bTn n (nI c.C)) →
    wY_run_74 post (nI x) (nI q) (d + 1) (nI e) (nI j) gC gA gH gP gN gS gx gd ho bKd bLn bLv bSt bCa bPl bSn bPf bPn bLs bLe bGv bXs bSk bSl hOu hAs bTb bTn := by
  obtain ⟨z1, z2, z3, z4, z5, z6, z7, z8, z9, z10⟩ := hI.1
  have hm := hM.1
  intro d
  induction d with
  | zero =>
    intro j e σ D ho hOu hAs hj he hA _ kn ks
    refine pk_le x j (fun _ => ?_) (fun h => absurd h (by omega)) rfl rfl (by omega) (by omega)
    rw [hR.1.1]
    have hs := ks σ (by simp [rn_mt]) ho hOu hAs hA
    rw [hR.1.1] at hs
    exact hs
  | succ d ih =>
    intro j e σ D ho hOu hAs hj he hA hcv kn ks
    have hjx : j < x := by omega
    have hjN : j < c.N := by omega
    have hob := hI.2.2.1 j hjN
    have hk4 := hob.2.1
    have ij : vp_in (nI j) 24 := vp_in_nI (by omega) (by omega)
    refine pk_le x j (fun h => absurd h (by omega)) (fun _ => ?_) rfl rfl (by omega) (by omega)
    refine yw_inF hI hM (ry_ig hR) hxM hjx (zb_br (fun q1 => ?_) (fun q1 => And.intro ij ?_))
    · have ef : (List.range' j (d + 1)).filter (c.inF x) = (List.range' (j + 1) d).filter (c.inF x) := by
        rw [List.range'_succ, List.filter_cons_of_neg (by rw [q1]; decide)]
      rw [ef] at he hcv kn ks
      exact nm_r (nI_1 j) (ih (j + 1) e σ D ho hOu hAs (by omega) he hA hcv kn ks)
    · have ef : (List.range' j (d + 1)).filter (c.inF x) = j :: (List.range' (j + 1) d).filter (c.inF x) := by
        rw [List.range'_succ, List.filter_cons_of_pos q1]
      rw [ef] at he hcv kn ks
      rw [List.length_cons] at he
      have hel : e < stk.length := by omega
      obtain ⟨w, hw⟩ : ∃ w, stk[e]? = some w := ⟨stk[e], List.getElem?_eq_getElem hel⟩
      have ed : stk.drop e = w :: stk.drop (e + 1) := by
        rw [List.drop_eq_getElem_cons hel]
        rw [List.getElem?_eq_getElem hel] at hw
        cases hw
        rfl
      rw [ed] at kn ks
      have hwm : w ∈ stk := List.mem_of_getElem? hw
      obtain ⟨w1, w2, w3⟩ := hok w hwm
      have hqe := qs_get stk 0 e w hw hqs
      rw [Nat.zero_add] at hqe
      have hst := hR.2.2.2.2.2.2.1 j (by omega)
      rw [nI_clamp (by omega), hR.2.2.2.2.1 j (by omega)]
      refine pk_eq (c.kd j) 1 (fun q2 => ?_) (fun q2 => ?_) rfl rfl (by omega) (by omega)
      · have h2 := hob.2.2.2.2.2.2.1 q2
        have hv : c.var j < c.C + c.V := hob.2.2.2.2.2.1 _ (zb_gm (by omega))
        have e0 : bSk (e * 16) = nI (w.getD 0 0) := hqe.2 0 w1
        have e1 : bSt (j * 10) = nI ((c.sg j).getD 0 0) := hst.2 0 (by omega)
        have e2 : bSt (j * 10 + 1) = nI (c.var j) := hst.2 1 (by omega)
        refine And.intro (pk_in (e * 16) 256 (by omega) (zb_y16 _)) (And.intro (pk_in (j * 10) 240 (by omega) (zb_y10 _)) ?_)
        rw [zb_e16 _ (by omega), zb_e10 _ (by omega), e0, e1]
        have b1 := w3 _ (zb_gm (l := w) (i := 0) w1)
        have b2 := hob.2.2.2.2.1
        refine pk_eq (w.getD 0 0) ((c.sg j).getD 0 0) (fun q3 => ?_) (fun q3 => ?_) rfl rfl (by omega) (by omega)
        · refine And.intro (pk_in (j * 10 + 1) 240 (by omega) (zb_z10 j)) ?_
          rw [zb_d10 j (by omega), e2]
          refine And.intro (vp_in_nI (by omega) (by omega)) (nm_r (zb_up (c.var j) rfl rfl) (nm_r (nI_1 e) (nm_r (nI_1 j) ?_)))
          have hcv' : rn_cv c ((List.range' (j + 1) d).filter (c.inF x)) (c.var j :: D) := by
            have h : if c.kd j = 1 then rn_cv c ((List.range' (j + 1) d).filter (c.inF x)) (c.var j :: D) else _ := hcv
            rw [if_pos q2] at h; exact h
          have emt : rn_mt c.C c.kd c.sg (j :: (List.range' (j + 1) d).filter (c.inF x)) (w :: stk.drop (e + 1)) σ = rn_mt c.C c.kd c.sg ((List.range' (j + 1) d).filter (c.inF x)) (stk.drop (e + 1)) (fun t => if t = c.var j then w.tail else σ t) := by
            show (if c.kd j = 1 then (if w.getD 0 0 = (c.sg j).getD 0 0 then _ else none) else _) = _
            rw [if_pos q2, if_pos q3]; rfl
          have edm : rn_dm c (j :: (List.range' (j + 1) d).filter (c.inF x)) D = rn_dm c ((List.range' (j + 1) d).filter (c.inF x)) (c.var j :: D) := by
            show (if c.kd j = 1 then _ else _) = _
            rw [if_pos q2]
          refine ih (j + 1) (e + 1) _ (c.var j :: D) _ _ _ (by omega) (by omega) (ay_ext hA ⟨h2.2, hv⟩ hw) hcv' ?_ ?_
          · intro h; exact kn (emt.trans h)
          · intro σ' h jo gOu gAs hg
            rw [← edm] at hg
            exact ks σ' (emt.trans h) jo gOu gAs hg
        · refine kn ?_ _ _ _
          show (if c.kd j = 1 then (if w.getD 0 0 = (c.sg j).getD 0 0 then _ else none) else _) = none
          rw [if_pos q2, if_neg q3]
      · have hcv' : (∀ s, s ∈ c.sg j → c.C ≤ s → s ∈ D) ∧ rn_cv c ((List.range' (j + 1) d).filter (c.inF x)) D := by
          have h : if c.kd j = 1 then _ else (∀ s, s ∈ c.sg j → c.C ≤ s → s ∈ D) ∧ rn_cv c ((List.range' (j + 1) d).filter (c.inF x)) D := hcv
          rw [if_neg q2] at h; exact h
        have edm : rn_dm c (j :: (List.range' (j + 1) d).filter (c.inF x)) D = rn_dm c ((List.range' (j + 1) d).filter (c.inF x)) D := by
          show (if c.kd j = 1 then _ else _) = _
          rw [if_neg q2]
        refine yw_sub hI (ry_ig hR) hM (by omega) hqs hok h16 hA hcv'.1 (fun jo gOu hjo hgOu hl150 => ?_)
        have hsig : ∀ y, y ∈ rn_sbs c.C σ (c.sg j) → y < 2 ^ 31 := by
          intro y hy
          unfold rn_sbs at hy
          obtain ⟨a, ha, hy⟩ := List.mem_flatMap.mp hy
          have hab := hob.2.2.2.2.2.1 a ha
          by_cases qa : a < c.C
          · rw [if_pos qa, List.mem_singleton] at hy
            omega
          · rw [if_neg qa] at hy
            obtain ⟨_, e', w', g1, _, g3⟩ := hA a (hcv'.1 a ha (by omega))
            rw [g3] at hy
            have := (hok w' (List.mem_of_getElem? g1)).2.2 y (List.mem_of_mem_tail hy)
            omega
        refine yw_outIs (w := w) (R := rn_sbs c.C σ (c.sg j)) (by omega) hqe.1 hqe.2 w2 (fun y hy => by have := w3 y hy; omega) hjo hgOu hl150 hsig (zb_br (fun q3 => ?_) (fun q3 => nm_r (nI_1 e) (nm_r (nI_1 j) ?_)))
        · refine kn ?_ _ _ _
          rw [decide_eq_false_iff_not] at q3
          show (if c.kd j = 1 then _ else if rn_sbs c.C σ (c.sg j) = w then _ else none) = none
          rw [if_neg q2, if_neg q3]
        · rw [decide_eq_true_iff] at q3
          have emt : rn_mt c.C c.kd c.sg (j :: (List.range' (j + 1) d).filter (c.inF x)) (w :: stk.drop (e + 1)) σ = rn_mt c.C c.kd c.sg ((List.range' (j + 1) d).filter (c.inF x)) (stk.drop (e + 1)) σ := by
            show (if c.kd j = 1 then _ else if rn_sbs c.C σ (c.sg j) = w then _ else none) = _
            rw [if_neg q2, if_pos q3]
          refine ih (j + 1) (e + 1) σ D _ _ _ (by omega) (by omega) hA hcv'.2 ?_ ?_
          · intro h; exact kn (emt.trans h)
          · intro σ' h jo gOu gAs hg
            rw [← edm] at hg
            exact ks σ' (emt.trans h) jo gOu gAs hg
/-- the pairs, then what stands behind them -/
theorem yw_179 {post : Int32 → SY → Prop} {x q : Nat} {stk : List (List Nat)} {σ : Nat → List Nat} {D : List Nat} (hI : ab_I c) (hR : ry_R c M (gC, gA, gH, gP, gN, gS, gx, gd, go, bKd, bLn, bLv, bSt, bCa, bPl, bSn, bPf, bPn, bLs, bLe, bGv, bXs, bSk, bSl, bOu, bAs, bTb, bTn)) (hM : ab_M c M) (hx : x < c.N) (hxM : x < M) (h3 : 3 ≤ c.kd x) (hqs : qs_ bSk bSl 0 stk) (hok : ws_ok c stk) (h16 : stk.length ≤ 16) (hA : ay_ c σ D stk bAs) (hD : ∀ s, c.C ≤ s → c.man x s = true → s ∈ D)
    (kd : rn_dj c x σ = false → post (-17) (gC, gA, gH, gP, gN, gS, gx, gd, go, bKd, bLn, bLv, bSt, bCa, bPl, bSn, bPf, bPn, bLs, bLe, bGv, bXs, bSk, bSl, bOu, bAs, bTb, bTn)) (ky : rn_dj c x σ = true → ∀ m, wY_run_179 post (nI x) (nI q) gC gA gH gP gN gS gx gd go bKd bLn bLv bSt bCa bPl bSn bPf bPn bLs bLe bGv bXs bSk bSl bOu bAs bTb bTn (m + 1) (nI (c.C + c.V))) : ∃ n, wY_run_179 post (nI x) (nI q) gC gA gH gP gN gS gx gd go bKd bLn bLv bSt bCa bPl bSn bPf bPn bLs bLe bGv bXs bSk bSl bOu bAs bTb bTn n (nI c.C) := by
  obtain ⟨z1, z2, z3, z4, z5, z6, z7, z8, z9, z10⟩ := hI.1
  have hm := hM.1
  have step : ∀ (J : Int32 → Prop) (m s t : Nat), c.C ≤ s → s < t → t < c.C + c.V → (c.fp x s t = true → rn_apart c.C c.pl (σ s) (σ t) = false → post (-17) (gC, gA, gH, gP, gN, gS, gx, gd, go, bKd, bLn, bLv, bSt, bCa, bPl, bSn, bPf, bPn, bLs, bLe, bGv, bXs, bSk, bSl, bOu, bAs, bTb, bTn)) → ((c.fp x s t = true → rn_apart c.C c.pl (σ s) (σ t) = true) → wY_run_194 post J (nI x) (nI q) (nI s) gC gA gH gP gN gS gx gd go bKd bLn bLv bSt bCa bPl bSn bPf bPn bLs bLe bGv bXs bSk bSl bOu bAs bTb bTn m (nI (t + 1))) → wY_run_194 post J (nI x) (nI q) (nI s) gC gA gH gP gN gS gx gd go bKd bLn bLv bSt bCa bPl bSn bPf bPn bLs bLe bGv bXs bSk bSl bOu bAs bTb bTn (m + 1) (nI t) := by
    intro J m s t h1 h2 h4 kb kg
    refine pk_le (c.C + c.V) t (fun h => absurd h (by omega)) (fun _ => ?_) hR.1.2.1 rfl (by omega) (by omega)
    refine yw_fp hI hM hR hxM h3 (by omega) (by omega) (zb_br (fun q1 => nm_r (nI_1 t) (kg (fun z => by rw [q1] at z; exact absurd z (by decide)))) (fun q1 => And.intro (vp_in_nI (by omega) (by omega)) (And.intro (vp_in_nI (by omega) (by omega)) ?_)))
    have q1' := q1
    unfold ab_W.fp at q1'
    rw [Bool.and_eq_true, Bool.and_eq_true] at q1'
    obtain ⟨s1, e, w, s2, s3, s4⟩ := hA s (hD s h1 q1'.2.1)
    obtain ⟨t1, f, v, t2, t3, t4⟩ := hA t (hD t (by omega) q1'.2.2)
    have he : e < stk.length := (List.getElem?_eq_some_iff.mp s2).1
    have hf : f < stk.length := (List.getElem?_eq_some_iff.mp t2).1
    have qe := qs_get stk 0 e w s2 hqs
    have qf := qs_get stk 0 f v t2 hqs
    rw [Nat.zero_add] at qe qf
    obtain ⟨w1, w2, w3⟩ := hok w (List.mem_of_getElem? s2)
    obtain ⟨v1, v2, v3⟩ := hok v (List.mem_of_getElem? t2)
    rw [nI_clamp (n := s) (by omega), nI_clamp (n := t) (by omega), s3, t3]
    refine yw_apart hI hR (by omega) (by omega) qe.1 qe.2 ⟨w1, w2⟩ w3 qf.1 qf.2 ⟨v1, v2⟩ v3 (zb_br (fun q2 => ?_) (fun q2 => ?_))
    · exact kb q1 (by rw [s4, t4]; exact q2)
    · exact nm_r (nI_1 t) (kg (fun _ => by rw [s4, t4]; exact q2))
  have hbad : (∃ s t, c.C ≤ s ∧ s < t ∧ t < c.C + c.V ∧ c.fp x s t = true ∧ rn_apart c.C c.pl (σ s) (σ t) = false) → post (-17) (gC, gA, gH, gP, gN, gS, gx, gd, go, bKd, bLn, bLv, bSt, bCa, bPl, bSn, bPf, bPn, bLs, bLe, bGv, bXs, bSk, bSl, bOu, bAs, bTb, bTn) := by
    intro ⟨s, t, h1, h2, h4, h5, h6⟩
    refine kd ?_
    rw [Bool.eq_false_iff]
    intro z
    have := rn_dj_i.mp z s t (by omega) h4 h1 h2 h5
    rw [h6] at this; exact absurd this (by decide)
  refine zb_searchF (fun n s => wY_run_179 post (nI x) (nI q) gC gA gH gP gN gS gx gd go bKd bLn bLv bSt bCa bPl bSn bPf bPn bLs bLe bGv bXs bSk bSl bOu bAs bTb bTn n (nI s)) (fun s => ∀ t, s < t → t < c.C + c.V → c.fp x s t = true → rn_apart c.C c.pl (σ s) (σ t) = true) c.C (c.C + c.V) (by omega) ?_ ?_ ?_
  · intro m s h1 h2 hp w0
    refine pk_le (c.C + c.V) s (fun h => absurd h (by omega)) (fun _ => nm_r (nI_1 s) ?_) hR.1.2.1 rfl (by omega) (by omega)
    refine zb_countF (fun n t => wY_run_194 post (wY_run_179 post (nI x) (nI q) gC gA gH gP gN gS gx gd go bKd bLn bLv bSt bCa bPl bSn bPf bPn bLs bLe bGv bXs bSk bSl bOu bAs bTb bTn m) (nI x) (nI q) (nI s) gC gA gH gP gN gS gx gd go bKd bLn bLv bSt bCa bPl bSn bPf bPn bLs bLe bGv bXs bSk bSl bOu bAs bTb bTn n (nI t)) (s + 1) (c.C + c.V) (by omega) (fun m2 t h3 h4 w2 => step _ m2 s t h1 (by omega) h4 (fun a b => absurd (hp t (by omega) h4 a) (by rw [b]; decide)) (fun _ => w2)) ?_
    intro m2
    exact pk_le (c.C + c.V) (c.C + c.V) (fun _ => nm_r (nI_1 s) w0) (fun h => absurd h (by omega)) hR.1.2.1 rfl (by omega) (by omega)
  · intro m s h1 h2 hp _
    refine pk_le (c.C + c.V) s (fun h => absurd h (by omega)) (fun _ => nm_r (nI_1 s) ?_) hR.1.2.1 rfl (by omega) (by omega)
    refine zb_searchF (fun n t => wY_run_194 post (wY_run_179 post (nI x) (nI q) gC gA gH gP gN gS gx gd go bKd bLn bLv bSt bCa bPl bSn bPf bPn bLs bLe bGv bXs bSk bSl bOu bAs bTb bTn m) (nI x) (nI q) (nI s) gC gA gH gP gN gS gx gd go bKd bLn bLv bSt bCa bPl bSn bPf bPn bLs bLe bGv bXs bSk bSl bOu bAs bTb bTn n (nI t)) (fun t => c.fp x s t = true → rn_apart c.C c.pl (σ s) (σ t) = true) (s + 1) (c.C + c.V) (by omega) (fun m2 t h3 h4 _ w2 => step _ m2 s t h1 (by omega) h4 (fun a b => hbad ⟨s, t, h1, by omega, h4, a, b⟩) (fun _ => w2)) (fun m2 t h3 h4 hp2 _ => step _ m2 s t h1 (by omega) h4 (fun a b => hbad ⟨s, t, h1, by omega, h4, a, b⟩) (fun z => absurd z hp2)) ?_
    intro hall
    exact absurd (fun t h3 h4 => hall t (by omega) h4) hp
  · intro hp m
    refine ky (rn_dj_i.mpr (fun s t h1 h2 h4 h5 h6 => hp s h4 h1 t h5 h2 h6)) m
end
end
section
/-! the reference: run, take, the start of a subproof -/
theorem rn_stp_er {c : ab_W} {x : Nat} {s : List (List Nat)} {e : Int32} (h : rn_stp c x s = .error e) : e ≠ 0 := by
  unfold rn_stp at h
  by_cases h1 : c.kd x ≤ 2
  · rw [if_pos h1] at h
    by_cases h2 : c.ca x = 0
    · rw [if_pos h2] at h
      by_cases h3 : s.length < c.H
      · rw [if_pos h3] at h; cases h
      · rw [if_neg h3] at h; cases h; decide
    · rw [if_neg h2] at h; cases h; decide
  · rw [if_neg h1] at h
    by_cases h2 : (c.hs x).length ≤ s.length
    · rw [if_pos h2] at h
      cases ha : rn_asr c x (s.drop (s.length - (c.hs x).length)) with
      | error e' => rw [ha] at h; cases h; exact rn_asr_ne ha
      | ok w =>
        rw [ha] at h
        dsimp only at h
        by_cases h3 : s.length - (c.hs x).length < c.H
        · rw [if_pos h3] at h; cases h
        · rw [if_neg h3] at h; cases h; decide
    · rw [if_neg h2] at h; cases h; decide
theorem rn_stp_ok {c : ab_W} {x : Nat} {s t : List (List Nat)} (hI : ab_I c) (hx : x < c.N) (hok : ws_ok c s) (hH : s.length ≤ c.H) (h : rn_stp c x s = .ok t) : ws_ok c t ∧ t.length ≤ c.H := by
  have ho := hI.2.2.1 x hx
  unfold rn_stp at h
  by_cases h1 : c.kd x ≤ 2
  · rw [if_pos h1] at h
    by_cases h2 : c.ca x = 0
    · rw [if_pos h2] at h
      by_cases h3 : s.length < c.H
      · rw [if_pos h3] at h
        cases h
        refine ⟨fun w hw => ?_, by rw [List.length_append, List.length_singleton]; exact h3⟩
        rcases List.mem_append.mp hw with hw | hw
        · exact hok w hw
        · rw [List.mem_singleton] at hw
          subst hw
          exact ⟨ho.2.2.1, Nat.le_trans ho.2.2.2.1 (by decide), ho.2.2.2.2.2.1⟩
      · rw [if_neg h3] at h; cases h
    · rw [if_neg h2] at h; cases h
  · rw [if_neg h1] at h
    by_cases h2 : (c.hs x).length ≤ s.length
    · rw [if_pos h2] at h
      cases ha : rn_asr c x (s.drop (s.length - (c.hs x).length)) with
      | error e' => rw [ha] at h; cases h
      | ok w =>
        rw [ha] at h
        dsimp only at h
        by_cases h3 : s.length - (c.hs x).length < c.H
        · rw [if_pos h3] at h
          cases h
          have hstr := rn_asr_str hI hx (fun w' hw' => (hok w' (List.mem_of_mem_drop hw')).2.2) ha
          refine ⟨fun w' hw => ?_, ?_⟩
          · rcases List.mem_append.mp hw with hw | hw
            · exact hok w' (List.mem_of_mem_take hw)
            · rw [List.mem_singleton] at hw
              subst hw
              exact hstr
          · rw [List.length_append, List.length_singleton, List.length_take]
            omega
        · rw [if_neg h3] at h; cases h
    · rw [if_neg h2] at h; cases h
section
variable {c : ab_W} {M : Nat} {gC gA gH gP gN gS gx gd go : Int32} {bKd bLn bLv bSt bCa bPl bSn bPf bPn bLs bLe bGv bXs bSk bSl bOu bAs bTb bTn : Nat → Int32}
theorem yw_run {post : Int32 → SY → Prop} {x : Nat} {stk : List (List Nat)} {xs : List Nat} {T : List rn_T} (hI : ab_I c) (hM : ab_M c M) (hx : x < c.N) (hNM : c.N ≤ M) (hok : ws_ok c stk) (hH : stk.length ≤ c.H) (hQ : yq_R c M stk xs T (gC, gA, gH, gP, gN, gS, gx, gd, go, bKd, bLn, bLv, bSt, bCa, bPl, bSn, bPf, bPn, bLs, bLe, bGv, bXs, bSk, bSl, bOu, bAs, bTb, bTn))
    (ke : ∀ e, rn_stp c x stk = .error e → ∀ u', ry_R c M u' → post e u') (ko : ∀ stk', rn_stp c x stk = .ok stk' → ∀ u', yq_R c M stk' xs T u' → post 0 u') : wpY_run post (gC, gA, gH, gP, gN, gS, gx, gd, go, bKd, bLn, bLv, bSt, bCa, bPl, bSn, bPf, bPn, bLs, bLe, bGv, bXs, bSk, bSl, bOu, bAs, bTb, bTn) (nI x) := by
  obtain ⟨z1, z2, z3, z4, z5, z6, z7, z8, z9, z10⟩ := hI.1
  obtain ⟨hR, hgd, hgx, hqs, hxs, hqu⟩ := hQ
  have hm := hM.1
  have ho := hI.2.2.1 x hx
  have hk4 := ho.2.1
  have hcb := hI.2.2.2.1.1 x
  have ix : vp_in (nI x) 24 := vp_in_nI (by omega) (by omega)
  refine And.intro ix ?_
  rw [nI_clamp (by omega), hR.2.2.2.2.1 x (by omega)]
  refine pk_lt 2 (c.kd x) (fun hk => ?_) (fun hk => And.intro ix ?_) rfl rfl (by omega) (by omega)
  · have h3 : 3 ≤ c.kd x := hk
    have hk' : ¬ c.kd x ≤ 2 := by omega
    have hlen : (c.hs x).length ≤ x := ab_hs_len
    have hcov := rn_covx hI hx h3
    refine yw_count hI hM hR (by omega) ?_
    have eq : c.q x = (c.hs x).length := by unfold ab_W.q; rw [if_neg hk']
    rw [eq]
    refine pk_le (c.hs x).length stk.length (fun hq => ?_) (fun hq => ?_) rfl hgd (by omega) (by omega)
    · have estp : rn_stp c x stk = match rn_asr c x (stk.drop (stk.length - (c.hs x).length)) with
        | .error e => .error e
        | .ok w => if stk.length - (c.hs x).length < c.H then .ok (stk.take (stk.length - (c.hs x).length) ++ [w]) else .error (-14) := by
        unfold rn_stp
        rw [if_neg hk', if_pos hq]
        generalize rn_asr c x (stk.drop (stk.length - (c.hs x).length)) = z
        cases z <;> rfl
      refine nm_r (e' := nI (stk.length - (c.hs x).length)) (by rw [hgd]; exact pk_sub hq) ?_
      have hbe : stk.length - (c.hs x).length + (c.hs x).length = stk.length := by omega
      have hAl : (stk.take (stk.length - (c.hs x).length)).length = stk.length - (c.hs x).length := by rw [List.length_take]; omega
      have hAD : stk.take (stk.length - (c.hs x).length) ++ stk.drop (stk.length - (c.hs x).length) = stk := List.take_append_drop _ _
      generalize hb : stk.length - (c.hs x).length = b at *
      have eh : (List.range' 0 x).filter (c.inF x) = c.hs x := by rw [← List.range_eq_range']; rfl
      refine ⟨x + 1, yl_74 (q := (c.hs x).length) (stk := stk) hI hR hM hx (by omega) hqs hok (by omega) x 0 b (fun _ => []) [] go bOu bAs (by omega) (by rw [eh]; exact hbe) (fun s hs => absurd hs List.not_mem_nil) (by rw [eh]; exact hcov.1) ?_ ?_⟩
      · intro hn jo gOu gAs
        rw [eh] at hn
        refine ke (-16) ?_ _ (ry_ig hR)
        rw [estp, rn_asr_n hn]
      · intro σ hs jo gOu gAs hA
        rw [eh] at hs hA
        refine yw_179 (σ := σ) (D := rn_dm c (c.hs x) []) (stk := stk) hI (ry_ig hR) hM hx (by omega) h3 hqs hok (by omega) hA hcov.2 (fun hdj => ?_) (fun hdj m => ?_)
        · refine ke (-17) ?_ _ (ry_ig hR)
          rw [estp, rn_asr_d hs hdj]
        · refine pk_le (c.C + c.V) (c.C + c.V) (fun _ => ?_) (fun h => absurd h (by omega)) hR.1.2.1 rfl (by omega) (by omega)
          refine yw_sub (stk := stk) (σ := σ) hI (ry_ig hR) hM (by omega) hqs hok (by omega) hA (fun s h1 h2 => hcov.2 s h2 (ab_man_i.mpr (Or.inl h1))) (fun jo2 gOu2 hjo hgOu hl150 => ?_)
          refine pk_le (rn_sbs c.C σ (c.sg x)).length 16 (fun hw16 => ?_) (fun hw16 => ?_) hjo rfl (by omega) (by omega)
          · have hasr := rn_asr_o hs hdj hw16
            rw [hasr] at estp
            dsimp only at estp
            generalize rn_sbs c.C σ (c.sg x) = w at *
            have egd : gd - nI (c.hs x).length = nI b := by rw [hgd, ← hb]; exact pk_sub hq
            refine pk_eq b c.H (fun hbH => ?_) (fun hbH => ?_) egd hR.1.2.2.1 (by omega) (by omega)
            · rw [if_neg (by omega)] at estp
              exact ke (-14) estp _ (ry_ig hR)
            · rw [if_pos (by omega)] at estp
              refine nm_r egd ?_
              refine yw_push (d := b) (R := w) (by omega) rfl hjo hw16 ?_
              refine ko _ estp _ (And.intro (ry_ig hR) ⟨?_, hgx, ?_, hxs, hqu⟩)
              · rw [List.length_append, hAl]; rfl
              · have hqs2 := hqs
                rw [← hAD, qs_app, hAl, Nat.zero_add] at hqs2
                rw [qs_app, Nat.zero_add, hAl]
                refine ⟨qs_cg _ 0 (fun w' hw' => (hok w' (List.mem_of_mem_take hw')).2.1) (fun k hk => ?_) (fun k hk => ?_) hqs2.1, ⟨pk_us, ?_⟩, trivial⟩
                · exact pk_un (by omega)
                · exact zb_cpN (Or.inl (by omega))
                · refine zb_cpG (fun i hi => ?_)
                  have := hgOu i hi
                  rwa [Nat.zero_add] at this
          · refine ke (-18) ?_ _ (ry_ig hR)
            rw [estp, rn_asr_l hs hdj hw16]
    · refine ke (-15) ?_ _ hR
      unfold rn_stp
      rw [if_neg hk', if_neg (by omega)]
  · rw [hR.2.2.2.2.2.2.2.1 x (by omega)]
    refine pk_eq (c.ca x) 0 (fun h2 => ?_) (fun h2 => ?_) rfl rfl (by omega) (by omega)
    · refine pk_eq stk.length c.H (fun h4 => ?_) (fun h4 => ?_) hgd hR.1.2.2.1 (by omega) (by omega)
      · refine ke (-14) ?_ _ hR
        unfold rn_stp
        rw [if_pos hk, if_pos h2, if_neg (by omega)]
      · refine yw_copyOut hR hM (by omega) (fun gOu hgOu => ?_)
        have hl10 := ho.2.2.2.1
        refine yw_push (d := stk.length) (R := c.sg x) (by omega) hgd rfl (by omega) ?_
        have estp : rn_stp c x stk = .ok (stk ++ [c.sg x]) := by
          unfold rn_stp
          rw [if_pos hk, if_pos h2, if_pos (by omega)]
        refine ko _ estp _ (And.intro (ry_ig hR) ⟨?_, hgx, ?_, hxs, hqu⟩)
        · rw [List.length_append]; rfl
        · rw [qs_app, Nat.zero_add]
          refine ⟨qs_cg _ 0 (fun w' hw' => (hok w' hw').2.1) (fun k hk => ?_) (fun k hk => ?_) hqs, ⟨pk_us, ?_⟩, trivial⟩
          · exact pk_un (by omega)
          · exact zb_cpN (Or.inl (by omega))
          · refine zb_cpG (fun i hi => ?_)
            have := hgOu i hi
            rwa [Nat.zero_add] at this
    · refine ke (-13) ?_ _ hR
      unfold rn_stp
      rw [if_pos hk, if_neg h2]
theorem yw_step {post : Int32 → SY → Prop} {x st len i m : Nat} {stk : List (List Nat)} {xs : List Nat} {T : List rn_T} (hI : ab_I c) (hM : ab_M c M) (hx : x < c.N) (hNM : c.N ≤ M) (hok : ws_ok c stk) (hH : stk.length ≤ c.H) (hQ : yq_R c M stk xs T (gC, gA, gH, gP, gN, gS, gx, gd, go, bKd, bLn, bLv, bSt, bCa, bPl, bSn, bPf, bPn, bLs, bLe, bGv, bXs, bSk, bSl, bOu, bAs, bTb, bTn)) (hi : i < len) (hlen : len < 2 ^ 31) (hsrc : bXs (st + i) = nI x) (hst : st + i < 97) (hxl : xs.length < 97)
    (ke : ∀ e, rn_stp c x stk = .error e → ∀ u', ry_R c M u' → post e u')
    (ko : ∀ stk', rn_stp c x stk = .ok stk' → ∀ (gC gA gH gP gN gS gx gd go : Int32) (bKd bLn bLv bSt bCa bPl bSn bPf bPn bLs bLe bGv bXs bSk bSl bOu bAs bTb bTn : Nat → Int32), yq_R c M stk' (xs ++ [x]) T (gC, gA, gH, gP, gN, gS, gx, gd, go, bKd, bLn, bLv, bSt, bCa, bPl, bSn, bPf, bPn, bLs, bLe, bGv, bXs, bSk, bSl, bOu, bAs, bTb, bTn) → wY_take_18 post (nI st) (nI len) m (nI (i + 1)) gC gA gH gP gN gS gx gd go bKd bLn bLv bSt bCa bPl bSn bPf bPn bLs bLe bGv bXs bSk bSl bOu bAs bTb bTn) : wY_take_18 post (nI st) (nI len) (m + 1) (nI i) gC gA gH gP gN gS gx gd go bKd bLn bLv bSt bCa bPl bSn bPf bPn bLs bLe bGv bXs bSk bSl bOu bAs bTb bTn := by
  obtain ⟨hR, hgd, hgx, hqs, hxs, hqu⟩ := hQ
  have e1 : nI st + nI i = nI (st + i) := nI_add st i
  have e2 : nI (xs.length + 1) - 1 = nI xs.length := nI_pred xs.length
  refine pk_le len i (fun h => absurd h (by omega)) (fun _ => And.intro (pk_in (st + i) 97 hst e1) (And.intro (pk_in xs.length 97 hxl hgx) (nm_r (e' := upd bXs xs.length (nI x)) (by rw [hgx, nI_clamp (by omega), e1, nI_clamp (by omega), hsrc]) (nm_r (e' := nI (xs.length + 1)) (by rw [hgx, nI_1]) (And.intro (pk_in xs.length 97 hxl e2) ?_))))) rfl rfl hlen (by omega)
  rw [e2, nI_clamp (by omega), pk_us]
  have hQ' : yq_R c M stk (xs ++ [x]) T (gC, gA, gH, gP, gN, gS, nI (xs.length + 1), gd, go, bKd, bLn, bLv, bSt, bCa, bPl, bSn, bPf, bPn, bLs, bLe, bGv, upd bXs xs.length (nI x), bSk, bSl, bOu, bAs, bTb, bTn) := by
    refine And.intro (ry_ig hR) ⟨hgd, by rw [List.length_append]; rfl, hqs, ?_, hqu⟩
    rw [zb_app, zb_one, Nat.zero_add]
    exact ⟨zb_cu hxs (by omega), pk_us⟩
  refine yw_run hI hM hx hNM hok hH hQ' ?_ ?_
  · intro e he
    have hne := rn_stp_er he
    refine ry_el ?_
    intro gC gA gH gP gN gS gx gd go bKd bLn bLv bSt bCa bPl bSn bPf bPn bLs bLe bGv bXs bSk bSl bOu bAs bTb bTn hu
    exact br_f hne (ke e he _ hu)
  · intro stk' he
    refine ry_el ?_
    intro gC gA gH gP gN gS gx gd go bKd bLn bLv bSt bCa bPl bSn bPf bPn bLs bLe bGv bXs bSk bSl bOu bAs bTb bTn hu
    exact br_t rfl (nm_r (nI_1 i) (ko stk' he _ _ _ _ _ _ _ _ _ _ _ _ _ _ _ _ _ _ _ _ _ _ _ _ _ _ _ _ hu))
def yt_18 (post : Int32 → SY → Prop) (a b : Int32) (n : Nat) (i : Int32) (v : SY) : Prop := match v with
  | (gC, gA, gH, gP, gN, gS, gx, gd, go, bKd, bLn, bLv, bSt, bCa, bPl, bSn, bPf, bPn, bLs, bLe, bGv, bXs, bSk, bSl, bOu, bAs, bTb, bTn) => wY_take_18 post a b n i gC gA gH gP gN gS gx gd go bKd bLn bLv bSt bCa bPl bSn bPf bPn bLs bLe bGv bXs bSk bSl bOu bAs bTb bTn
end
section
variable {c : ab_W} {M : Nat}
theorem yl_row {post : Int32 → SY → Prop} {st len : Nat} {T : List rn_T} (hI : ab_I c) (hM : ab_M c M) (hNM : c.N ≤ M) (hlen : len < 2 ^ 31) :
    ∀ (r : List Nat) (i : Nat) (stk : List (List Nat)) (xs : List Nat) (v : SY), yq_R c M stk xs T v → ws_ok c stk → stk.length ≤ c.H → i + r.length = len → (∀ y, y ∈ r → y < c.N) → (∃ a b, xs = a ++ (r ++ b) ∧ a.length = st + i) → xs.length + r.length ≤ 96 →
    (∀ e, rn_row c r stk = .error e → ∀ u', ry_R c M u' → post e u') → (∀ stk', rn_row c r stk = .ok stk' → ∀ u', yq_R c M stk' (xs ++ r) T u' → post 0 u') → yt_18 post (nI st) (nI len) (r.length + 1) (nI i) v := by
  intro r
  induction r with
  | nil =>
    intro i stk xs v
    refine ry_el (P := fun v => yq_R c M stk xs T v → ws_ok c stk → stk.length ≤ c.H → i + ([] : List Nat).length = len → (∀ y, y ∈ ([] : List Nat) → y < c.N) → (∃ a b, xs = a ++ (([] : List Nat) ++ b) ∧ a.length = st + i) → xs.length + ([] : List Nat).length ≤ 96 → (∀ e, rn_row c [] stk = .error e → ∀ u', ry_R c M u' → post e u') → (∀ stk', rn_row c [] stk = .ok stk' → ∀ u', yq_R c M stk' (xs ++ []) T u' → post 0 u') → yt_18 post (nI st) (nI len) (([] : List Nat).length + 1) (nI i) v) ?_ v
    intro gC gA gH gP gN gS gx gd go bKd bLn bLv bSt bCa bPl bSn bPf bPn bLs bLe bGv bXs bSk bSl bOu bAs bTb bTn hQ _ _ hi _ _ _ _ ko
    have hi : i = len := hi
    rw [List.append_nil] at ko
    show wY_take_18 post (nI st) (nI len) (0 + 1) (nI i) gC gA gH gP gN gS gx gd go bKd bLn bLv bSt bCa bPl bSn bPf bPn bLs bLe bGv bXs bSk bSl bOu bAs bTb bTn
    exact pk_le len i (fun _ => ko stk rfl _ hQ) (fun h => absurd h (by omega)) rfl rfl hlen (by omega)
  | cons x r ih =>
    intro i stk xs v
    refine ry_el (P := fun v => yq_R c M stk xs T v → ws_ok c stk → stk.length ≤ c.H → i + (x :: r).length = len → (∀ y, y ∈ x :: r → y < c.N) → (∃ a b, xs = a ++ ((x :: r) ++ b) ∧ a.length = st + i) → xs.length + (x :: r).length ≤ 96 → (∀ e, rn_row c (x :: r) stk = .error e → ∀ u', ry_R c M u' → post e u') → (∀ stk', rn_row c (x :: r) stk = .ok stk' → ∀ u', yq_R c M stk' (xs ++ (x :: r)) T u' → post 0 u') → yt_18 post (nI st) (nI len) ((x :: r).length + 1) (nI i) v) ?_ v
    intro gC gA gH gP gN gS gx gd go bKd bLn bLv bSt bCa bPl bSn bPf bPn bLs bLe bGv bXs bSk bSl bOu bAs bTb bTn hQ hok hH hi hb hseg hl ke ko
    rw [List.length_cons] at hi hl
    obtain ⟨a, b, hseg, ha⟩ := hseg
    have hx : x < c.N := hb x List.mem_cons_self
    have hxl : (a ++ (x :: r ++ b)).length = a.length + (r.length + 1 + b.length) := by rw [List.length_append, List.length_append, List.length_cons]
    rw [← hseg] at hxl
    have hsrc : bXs (st + i) = nI x := by
      have h := hQ.2.2.2.2.1
      rw [hseg, zb_app, Nat.zero_add, List.cons_append, zb_cons, ha] at h
      exact h.2.1
    show wY_take_18 post (nI st) (nI len) ((r.length + 1) + 1) (nI i) gC gA gH gP gN gS gx gd go bKd bLn bLv bSt bCa bPl bSn bPf bPn bLs bLe bGv bXs bSk bSl bOu bAs bTb bTn
    refine yw_step (x := x) (stk := stk) (xs := xs) (T := T) hI hM hx hNM hok hH hQ (by omega) hlen hsrc (by omega) (by omega) ?_ ?_
    · intro e he; exact ke e (rn_row_e he)
    · intro stk' he gC gA gH gP gN gS gx gd go bKd bLn bLv bSt bCa bPl bSn bPf bPn bLs bLe bGv bXs bSk bSl bOu bAs bTb bTn hu
      obtain ⟨hok', hH'⟩ := rn_stp_ok hI hx hok hH he
      refine ih (i + 1) stk' (xs ++ [x]) _ hu hok' hH' (by omega) (fun y hy => hb y (List.mem_cons_of_mem _ hy)) ⟨a ++ [x], b ++ [x], ?_, ?_⟩ ?_ ?_ ?_
      · rw [hseg]; simp
      · rw [List.length_append, List.length_singleton]; omega
      · rw [List.length_append, List.length_singleton]; omega
      · intro e h; exact ke e ((rn_row_o he).trans h)
      · intro stk'' h
        rw [List.append_assoc]
        exact ko stk'' ((rn_row_o he).trans h)
end
section
variable {c : ab_W} {M : Nat} {gC gA gH gP gN gS gx gd go : Int32} {bKd bLn bLv bSt bCa bPl bSn bPf bPn bLs bLe bGv bXs bSk bSl bOu bAs bTb bTn : Nat → Int32}
/-- a tag's row is taken -/
theorem yw_takeT {post : Int32 → SY → Prop} {st : Nat} {row : List Nat} {stk : List (List Nat)} {xs : List Nat} {T : List rn_T} (hI : ab_I c) (hM : ab_M c M) (hNM : c.N ≤ M) (hok : ws_ok c stk) (hH : stk.length ≤ c.H) (hQ : yq_R c M stk xs T (gC, gA, gH, gP, gN, gS, gx, gd, go, bKd, bLn, bLv, bSt, bCa, bPl, bSn, bPf, bPn, bLs, bLe, bGv, bXs, bSk, bSl, bOu, bAs, bTb, bTn)) (hb : ∀ y, y ∈ row → y < c.N) (hseg : ∃ a b, xs = a ++ (row ++ b) ∧ a.length = st) (hxl : xs.length ≤ c.P)
    (kl : c.P < xs.length + row.length → ∀ u', ry_R c M u' → post (-12) u')
    (ke : xs.length + row.length ≤ c.P → ∀ e, rn_row c row stk = .error e → ∀ u', ry_R c M u' → post e u') (ko : xs.length + row.length ≤ c.P → ∀ stk', rn_row c row stk = .ok stk' → ∀ u', yq_R c M stk' (xs ++ row) T u' → post 0 u') : wpY_take post (gC, gA, gH, gP, gN, gS, gx, gd, go, bKd, bLn, bLv, bSt, bCa, bPl, bSn, bPf, bPn, bLs, bLe, bGv, bXs, bSk, bSl, bOu, bAs, bTb, bTn) (nI st) (nI row.length) := by
  obtain ⟨z1, z2, z3, z4, z5, z6, z7, z8, z9, z10⟩ := hI.1
  have hl : row.length ≤ xs.length := by
    obtain ⟨a, b, h, _⟩ := hseg
    rw [h, List.length_append, List.length_append]; omega
  refine pk_le (xs.length + row.length) c.P (fun q => ?_) (fun q => kl q _ hQ.1) (by rw [hQ.2.2.1, nI_add]) hQ.1.1.2.2.2.1 (by omega) (by omega)
  exact ⟨_, yl_row hI hM hNM (by omega) row 0 stk xs _ hQ hok hH (by omega) hb hseg (by omega) (ke q) (ko q)⟩
/-- one label is taken; it stands behind the row -/
theorem yw_take1 {post : Int32 → SY → Prop} {x : Nat} {stk : List (List Nat)} {xs : List Nat} {T : List rn_T} (hI : ab_I c) (hM : ab_M c M) (hx : x < c.N) (hNM : c.N ≤ M) (hok : ws_ok c stk) (hH : stk.length ≤ c.H) (hQ : yq_R c M stk xs T (gC, gA, gH, gP, gN, gS, gx, gd, go, bKd, bLn, bLv, bSt, bCa, bPl, bSn, bPf, bPn, bLs, bLe, bGv, bXs, bSk, bSl, bOu, bAs, bTb, bTn)) (hsrc : bXs xs.length = nI x) (hxl : xs.length ≤ c.P)
    (kl : c.P < xs.length + 1 → ∀ u', ry_R c M u' → post (-12) u')
    (ke : xs.length + 1 ≤ c.P → ∀ e, rn_row c [x] stk = .error e → ∀ u', ry_R c M u' → post e u') (ko : xs.length + 1 ≤ c.P → ∀ stk', rn_row c [x] stk = .ok stk' → ∀ u', yq_R c M stk' (xs ++ [x]) T u' → post 0 u') : wpY_take post (gC, gA, gH, gP, gN, gS, gx, gd, go, bKd, bLn, bLv, bSt, bCa, bPl, bSn, bPf, bPn, bLs, bLe, bGv, bXs, bSk, bSl, bOu, bAs, bTb, bTn) gx 1 := by
  obtain ⟨z1, z2, z3, z4, z5, z6, z7, z8, z9, z10⟩ := hI.1
  have hgx : gx = nI xs.length := hQ.2.2.1
  rw [hgx] at hQ ⊢
  refine pk_le (xs.length + 1) c.P (fun q => ⟨2, ?_⟩) (fun q => kl q _ hQ.1) (nI_1 _) hQ.1.1.2.2.2.1 (by omega) (by omega)
  refine yw_step (x := x) (st := xs.length) (len := 1) (i := 0) (m := 1) (stk := stk) (xs := xs) (T := T) hI hM hx hNM hok hH hQ (by omega) (by omega) hsrc (by omega) (by omega) ?_ ?_
  · intro e he; exact ke q e (by rw [rn_row_1]; exact he)
  · intro stk' he gC gA gH gP gN gS gx gd go bKd bLn bLv bSt bCa bPl bSn bPf bPn bLs bLe bGv bXs bSk bSl bOu bAs bTb bTn hu
    exact pk_le 1 1 (fun _ => ko q stk' (by rw [rn_row_1]; exact he) _ hu) (fun h => absurd h (by omega))
theorem yw_start {post : Int32 → Prop} {xs : List Nat} (hI : ab_I c) (hR : ry_R c M (gC, gA, gH, gP, gN, gS, gx, gd, go, bKd, bLn, bLv, bSt, bCa, bPl, bSn, bPf, bPn, bLs, bLe, bGv, bXs, bSk, bSl, bOu, bAs, bTb, bTn)) (hM : ab_M c M) (hNM : c.N ≤ M) (hgx : gx = nI xs.length) (hxs : zb_Sg bXs 0 xs) (hb : ∀ y, y ∈ xs → y < c.N) (hl : xs.length ≤ 96) (k : post (nI (xs.length - rn_scan c xs.reverse 1))) : wpY_subproofStart post (gC, gA, gH, gP, gN, gS, gx, gd, go, bKd, bLn, bLv, bSt, bCa, bPl, bSn, bPf, bPn, bLs, bLe, bGv, bXs, bSk, bSl, bOu, bAs, bTb, bTn) := by
  have hm := hM.1
  have key : ∀ n need, n ≤ xs.length → need + n * 24 ≤ 5000 → post (nI (n - rn_scan c (xs.take n).reverse need)) → wY_subproofStart_14 post gC gA gH gP gN gS gx gd go bKd bLn bLv bSt bCa bPl bSn bPf bPn bLs bLe bGv bXs bSk bSl bOu bAs bTb bTn (n + 1) (nI need) (nI n) (nI n - 1) := by
    intro n
    induction n with
    | zero =>
      intro need _ _ k
      refine br_t (by decide) ?_
      rw [Nat.zero_sub] at k
      exact k
    | succ n ih =>
      intro need hn hb5 k
      have hlt : n < xs.length := by omega
      rw [nI_pred]
      refine br_f (nI_pos (by omega)) (pk_le need 0 (fun q => ?_) (fun q => And.intro (vp_in_nI (by omega) (by omega)) ?_) rfl rfl (by omega) (by omega))
      · have q0 : need = 0 := by omega
        rw [q0, rn_scan_0, Nat.sub_zero] at k
        exact k
      · have hxb := hb _ (zb_gm hlt)
        have hqb : c.q (xs.getD n 0) ≤ 24 := by
          unfold ab_W.q
          have h1 : (c.hs (xs.getD n 0)).length ≤ xs.getD n 0 := ab_hs_len
          by_cases qq : c.kd (xs.getD n 0) ≤ 2
          · rw [if_pos qq]; omega
          · rw [if_neg qq]; omega
        have e0 : bXs n = nI (xs.getD n 0) := by
          have := hxs n hlt
          rwa [Nat.zero_add] at this
        rw [nI_clamp (by omega), e0]
        refine yw_count hI hM hR (by omega) ?_
        obtain ⟨p, rfl⟩ : ∃ p, need = p + 1 := ⟨need - 1, by omega⟩
        refine nm_r (e' := nI (p + c.q (xs.getD n 0))) (by rw [nI_pred, nI_add]) (nm_r (e' := nI n - 1) (Int32.sub_eq_add_neg _ _).symm (ih (p + c.q (xs.getD n 0)) (by omega) (by omega) ?_))
        rw [List.take_succ_eq_append_getElem hlt, List.reverse_append] at k
        have e1 : xs[n] = xs.getD n 0 := by rw [List.getD_eq_getElem?_getD, List.getElem?_eq_getElem hlt]; rfl
        rw [e1] at k
        have k : post (nI (n + 1 - rn_scan c (xs.getD n 0 :: (xs.take n).reverse) (p + 1))) := k
        rw [rn_scan_s] at k
        rw [show n - rn_scan c (xs.take n).reverse (p + c.q (xs.getD n 0)) = n + 1 - (1 + rn_scan c (xs.take n).reverse (p + c.q (xs.getD n 0))) by omega]
        exact k
  unfold wpY_subproofStart
  have h := key xs.length 1 (Nat.le_refl _) (by omega) (by
    rw [List.take_of_length_le (Nat.le_refl _)]
    exact k)
  rw [← hgx] at h
  exact nm_e ⟨xs.length + 1, h⟩
end
end
section
/-! the reference: the whole run of a proof -/
def yt_37 (post : Int32 → SY → Prop) (a b d e : Int32) (n : Nat) (i : Int32) (v : SY) : Prop := match v with
  | (gC, gA, gH, gP, gN, gS, gx, gd, go, bKd, bLn, bLv, bSt, bCa, bPl, bSn, bPf, bPn, bLs, bLe, bGv, bXs, bSk, bSl, bOu, bAs, bTb, bTn) => wY_prove_37 post a b d e n i gC gA gH gP gN gS gx gd go bKd bLn bLv bSt bCa bPl bSn bPf bPn bLs bLe bGv bXs bSk bSl bOu bAs bTb bTn
def yt_97 (post : Int32 → SY → Prop) (a b : Int32) (n : Nat) (x y i : Int32) (v : SY) : Prop := match v with
  | (gC, gA, gH, gP, gN, gS, gx, gd, go, bKd, bLn, bLv, bSt, bCa, bPl, bSn, bPf, bPn, bLs, bLe, bGv, bXs, bSk, bSl, bOu, bAs, bTb, bTn) => wY_prove_97 post a b n x y i gC gA gH gP gN gS gx gd go bKd bLn bLv bSt bCa bPl bSn bPf bPn bLs bLe bGv bXs bSk bSl bOu bAs bTb bTn
section
variable {c : ab_W} {M : Nat} {gC gA gH gP gN gS gx gd go : Int32} {bKd bLn bLv bSt bCa bPl bSn bPf bPn bLs bLe bGv bXs bSk bSl bOu bAs bTb bTn : Nat → Int32}
theorem yw_tkl {post : Int32 → SY → Prop} {x : Nat} {E : List rn_E} {T : List rn_T} (hI : ab_I c) (hM : ab_M c M) (hx : x < c.N) (hNM : c.N ≤ M) (hG : rn_GE c E) (hQ : yq_R c M (rn_ws E) (rn_xs E) T (gC, gA, gH, gP, gN, gS, gx, gd, go, bKd, bLn, bLv, bSt, bCa, bPl, bSn, bPf, bPn, bLs, bLe, bGv, bXs, bSk, bSl, bOu, bAs, bTb, bTn)) (hsrc : bXs (rn_xs E).length = nI x)
    (ke : ∀ e, rn_tkl c x E = .error e → ∀ u', ry_R c M u' → post e u') (ko : ∀ E', rn_tkl c x E = .ok E' → ∀ u', yq_R c M (rn_ws E') (rn_xs E') T u' → post 0 u') : wpY_take post (gC, gA, gH, gP, gN, gS, gx, gd, go, bKd, bLn, bLv, bSt, bCa, bPl, bSn, bPf, bPn, bLs, bLe, bGv, bXs, bSk, bSl, bOu, bAs, bTb, bTn) gx 1 := by
  refine yw_take1 hI hM hx hNM (rn_wsok hG.1) (by rw [rn_ws_len]; exact hG.2.2.1) hQ hsrc hG.2.2.2 (fun q => ke (-12) ?_) (fun q e he => ?_) (fun q stk' he => ?_)
  · unfold rn_tkl; rw [if_neg (by omega)]
  · rw [rn_tkl_rel q] at he
    cases ht : rn_tkl c x E with
    | error e' =>
      rw [ht] at he
      have he : Except.error e' = Except.error e := he
      cases he
      exact ke _ ht
    | ok E' =>
      rw [ht] at he
      have he : Except.ok (rn_ws E') = Except.error e := he
      cases he
  · rw [rn_tkl_rel q] at he
    cases ht : rn_tkl c x E with
    | error e' =>
      rw [ht] at he
      have he : Except.error e' = Except.ok stk' := he
      cases he
    | ok E' =>
      rw [ht] at he
      have he : Except.ok (rn_ws E') = Except.ok stk' := he
      cases he
      rw [← (rn_tkl_ok hI hx hG ht).2.1]
      exact ko E' ht
theorem yw_tkt {post : Int32 → SY → Prop} {t : rn_T} {E : List rn_E} {T : List rn_T} (hI : ab_I c) (hM : ab_M c M) (hNM : c.N ≤ M) (hG : rn_GE c E) (hT : rn_GT c E T) (ht : t ∈ T) (hQ : yq_R c M (rn_ws E) (rn_xs E) T (gC, gA, gH, gP, gN, gS, gx, gd, go, bKd, bLn, bLv, bSt, bCa, bPl, bSn, bPf, bPn, bLs, bLe, bGv, bXs, bSk, bSl, bOu, bAs, bTb, bTn))
    (ke : ∀ e, rn_tkt c t E = .error e → ∀ u', ry_R c M u' → post e u') (ko : ∀ E', rn_tkt c t E = .ok E' → ∀ u', yq_R c M (rn_ws E') (rn_xs E') T u' → post 0 u') : wpY_take post (gC, gA, gH, gP, gN, gS, gx, gd, go, bKd, bLn, bLv, bSt, bCa, bPl, bSn, bPf, bPn, bLs, bLe, bGv, bXs, bSk, bSl, bOu, bAs, bTb, bTn) (nI t.2) (nI t.1.2.1.length) := by
  obtain ⟨t1, t2, t3⟩ := hT t ht
  refine yw_takeT hI hM hNM (rn_wsok hG.1) (by rw [rn_ws_len]; exact hG.2.2.1) hQ t1.2.2.2.2.2.2 t3 hG.2.2.2 (fun q => ke (-12) ?_) (fun q e he => ?_) (fun q stk' he => ?_)
  · unfold rn_tkt; rw [if_neg (by omega)]
  · rw [rn_tkt_rel hG t1 q] at he
    cases ht : rn_tkt c t E with
    | error e' =>
      rw [ht] at he
      have he : Except.error e' = Except.error e := he
      cases he
      exact ke _ ht
    | ok E' =>
      rw [ht] at he
      have he : Except.ok (rn_ws E') = Except.error e := he
      cases he
  · rw [rn_tkt_rel hG t1 q] at he
    cases ht : rn_tkt c t E with
    | error e' =>
      rw [ht] at he
      have he : Except.error e' = Except.ok stk' := he
      cases he
    | ok E' =>
      rw [ht] at he
      have he : Except.ok (rn_ws E') = Except.ok stk' := he
      cases he
      rw [← (rn_tkt_ok hG t1 ht).2.1]
      exact ko E' ht
theorem yw_365 {post : Int32 → SY → Prop} {m p n i : Nat} {x1 x2 : Int32} {r : Int32} (k0 : r = 0 → wY_prove_97 post (nI m) (nI p) n x1 x2 (nI (i + 1)) gC gA gH gP gN gS gx gd go bKd bLn bLv bSt bCa bPl bSn bPf bPn bLs bLe bGv bXs bSk bSl bOu bAs bTb bTn) (k1 : r ≠ 0 → post r (gC, gA, gH, gP, gN, gS, gx, gd, go, bKd, bLn, bLv, bSt, bCa, bPl, bSn, bPf, bPn, bLs, bLe, bGv, bXs, bSk, bSl, bOu, bAs, bTb, bTn)) : wY_prove_365 post (wY_prove_97 post (nI m) (nI p) n) x1 x2 r (nI m) (nI p) (nI i) gC gA gH gP gN gS gx gd go bKd bLn bLv bSt bCa bPl bSn bPf bPn bLs bLe bGv bXs bSk bSl bOu bAs bTb bTn := by
  unfold wY_prove_365
  exact br_c (fun h => nm_r (nI_1 i) (k0 h)) (fun h => k1 h)
theorem yw_307l {post : Int32 → SY → Prop} {n i k x : Nat} {E : List rn_E} {T : List rn_T} (hI : ab_I c) (hM : ab_M c M) (hNM : c.N ≤ M) (hG : rn_GE c E) (hx : x < c.N) (hm : (c.hs c.N).length ≤ 24) (hp : c.ll.length ≤ 32) (hk : k ≤ (c.hs c.N).length + c.ll.length) (hQ : yq_R c M (rn_ws E) (rn_xs E) T (gC, gA, gH, gP, gN, gS, gx, gd, go, bKd, bLn, bLv, bSt, bCa, bPl, bSn, bPf, bPn, bLs, bLe, bGv, bXs, bSk, bSl, bOu, bAs, bTb, bTn)) (hsrc : bXs (rn_xs E).length = nI x)
    (ke : ∀ e, rn_tkl c x E = .error e → ∀ u', ry_R c M u' → post e u') (ko : ∀ E', rn_tkl c x E = .ok E' → ∀ (gC gA gH gP gN gS gx gd go : Int32) (bKd bLn bLv bSt bCa bPl bSn bPf bPn bLs bLe bGv bXs bSk bSl bOu bAs bTb bTn : Nat → Int32), yq_R c M (rn_ws E') (rn_xs E') T (gC, gA, gH, gP, gN, gS, gx, gd, go, bKd, bLn, bLv, bSt, bCa, bPl, bSn, bPf, bPn, bLs, bLe, bGv, bXs, bSk, bSl, bOu, bAs, bTb, bTn) → wY_prove_97 post (nI (c.hs c.N).length) (nI c.ll.length) n 0 (nI T.length) (nI (i + 1)) gC gA gH gP gN gS gx gd go bKd bLn bLv bSt bCa bPl bSn bPf bPn bLs bLe bGv bXs bSk bSl bOu bAs bTb bTn) : wY_prove_307 post (wY_prove_97 post (nI (c.hs c.N).length) (nI c.ll.length) n) 0 (nI T.length) (nI (c.hs c.N).length) (nI c.ll.length) (nI i) (nI k) gC gA gH gP gN gS gx gd go bKd bLn bLv bSt bCa bPl bSn bPf bPn bLs bLe bGv bXs bSk bSl bOu bAs bTb bTn := by
  refine pk_lt ((c.hs c.N).length + c.ll.length) k (fun h => absurd h (by omega)) (fun _ => ?_) (nI_add _ _) rfl (by omega) (by omega)
  refine yw_tkl hI hM hx hNM hG hQ hsrc ?_ ?_
  · intro e he
    refine ry_el ?_
    intro gC gA gH gP gN gS gx gd go bKd bLn bLv bSt bCa bPl bSn bPf bPn bLs bLe bGv bXs bSk bSl bOu bAs bTb bTn hu
    exact yw_365 (fun z => absurd z (rn_tkl_ne he)) (fun _ => ke e he _ hu)
  · intro E' he
    refine ry_el ?_
    intro gC gA gH gP gN gS gx gd go bKd bLn bLv bSt bCa bPl bSn bPf bPn bLs bLe bGv bXs bSk bSl bOu bAs bTb bTn hu
    exact yw_365 (fun _ => ko E' he _ _ _ _ _ _ _ _ _ _ _ _ _ _ _ _ _ _ _ _ _ _ _ _ _ _ _ _ hu) (fun z => absurd rfl z)
theorem yw_307t {post : Int32 → SY → Prop} {n i k : Nat} {t : rn_T} {E : List rn_E} {T : List rn_T} (hI : ab_I c) (hM : ab_M c M) (hNM : c.N ≤ M) (hG : rn_GE c E) (hT : rn_GT c E T) (hm : (c.hs c.N).length ≤ 24) (hp : c.ll.length ≤ 32) (hT32 : T.length ≤ 32) (hk : (c.hs c.N).length + c.ll.length < k) (ht : T[k - (c.hs c.N).length - c.ll.length - 1]? = some t) (hQ : yq_R c M (rn_ws E) (rn_xs E) T (gC, gA, gH, gP, gN, gS, gx, gd, go, bKd, bLn, bLv, bSt, bCa, bPl, bSn, bPf, bPn, bLs, bLe, bGv, bXs, bSk, bSl, bOu, bAs, bTb, bTn))
    (ke : ∀ e, rn_tkt c t E = .error e → ∀ u', ry_R c M u' → post e u') (ko : ∀ E', rn_tkt c t E = .ok E' → ∀ (gC gA gH gP gN gS gx gd go : Int32) (bKd bLn bLv bSt bCa bPl bSn bPf bPn bLs bLe bGv bXs bSk bSl bOu bAs bTb bTn : Nat → Int32), yq_R c M (rn_ws E') (rn_xs E') T (gC, gA, gH, gP, gN, gS, gx, gd, go, bKd, bLn, bLv, bSt, bCa, bPl, bSn, bPf, bPn, bLs, bLe, bGv, bXs, bSk, bSl, bOu, bAs, bTb, bTn) → wY_prove_97 post (nI (c.hs c.N).length) (nI c.ll.length) n 0 (nI T.length) (nI (i + 1)) gC gA gH gP gN gS gx gd go bKd bLn bLv bSt bCa bPl bSn bPf bPn bLs bLe bGv bXs bSk bSl bOu bAs bTb bTn) : wY_prove_307 post (wY_prove_97 post (nI (c.hs c.N).length) (nI c.ll.length) n) 0 (nI T.length) (nI (c.hs c.N).length) (nI c.ll.length) (nI i) (nI k) gC gA gH gP gN gS gx gd go bKd bLn bLv bSt bCa bPl bSn bPf bPn bLs bLe bGv bXs bSk bSl bOu bAs bTb bTn := by
  have hlt := (List.getElem?_eq_some_iff.mp ht).1
  have ei : nI k - nI (c.hs c.N).length - nI c.ll.length - 1 = nI (k - (c.hs c.N).length - c.ll.length - 1) := by
    rw [pk_sub (by omega), pk_sub (by omega)]
    exact pk_sub (b := 1) (by omega)
  obtain ⟨q1, q2⟩ := qu_get T 0 _ t ht hQ.2.2.2.2.2
  rw [Nat.zero_add] at q1 q2
  have ii := pk_in (k - (c.hs c.N).length - c.ll.length - 1) 64 (by omega) ei
  refine pk_lt ((c.hs c.N).length + c.ll.length) k (fun _ => And.intro ii (And.intro ii ?_)) (fun h => absurd h (by omega)) (nI_add _ _) rfl (by omega) (by omega)
  rw [ei, nI_clamp (by omega), q1, q2]
  refine yw_tkt hI hM hNM hG hT (List.mem_of_getElem? ht) hQ ?_ ?_
  · intro e he
    refine ry_el ?_
    intro gC gA gH gP gN gS gx gd go bKd bLn bLv bSt bCa bPl bSn bPf bPn bLs bLe bGv bXs bSk bSl bOu bAs bTb bTn hu
    exact yw_365 (fun z => absurd z (rn_tkt_ne he)) (fun _ => ke e he _ hu)
  · intro E' he
    refine ry_el ?_
    intro gC gA gH gP gN gS gx gd go bKd bLn bLv bSt bCa bPl bSn bPf bPn bLs bLe bGv bXs bSk bSl bOu bAs bTb bTn hu
    exact yw_365 (fun _ => ko E' he _ _ _ _ _ _ _ _ _ _ _ _ _ _ _ _ _ _ _ _ _ _ _ _ _ _ _ _ hu) (fun z => absurd rfl z)
/-- the end of the letters -/
theorem yw_fin {post : Int32 → SY → Prop} {m i n : Nat} {x4 x5 x2 : Int32} {E : List rn_E} {T : List rn_T} (hI : ab_I c) (hM : ab_M c M) (hNM : c.N < M) (eg : c.sg c.N = c.sl) (hG : rn_GE c E) (hi : c.tl.length ≤ i) (hi2 : i ≤ 64) (hn : n ≤ 99) (hQ : yq_R c M (rn_ws E) (rn_xs E) T (gC, gA, gH, gP, gN, gS, gx, gd, go, bKd, bLn, bLv, bSt, bCa, bPl, bSn, bPf, bPn, bLs, bLe, bGv, bXs, bSk, bSl, bOu, bAs, bTb, bTn))
    (kn : n ≠ 0 → ∀ u', ry_R c M u' → post (-11) u') (ke : n = 0 → ∀ e, rn_end c E = .error e → ∀ u', ry_R c M u' → post e u') (ko : n = 0 → ∀ E', rn_end c E = .ok E' → ∀ u', yq_R c M (rn_ws E) (rn_xs E) T u' → post 0 u') : wY_prove_97 post x4 x5 (m + 1) (nI n) x2 (nI i) gC gA gH gP gN gS gx gd go bKd bLn bLv bSt bCa bPl bSn bPf bPn bLs bLe bGv bXs bSk bSl bOu bAs bTb bTn := by
  obtain ⟨z1, z2, z3, z4, z5, z6, z7, z8, z9, z10⟩ := hI.1
  obtain ⟨l1, l2, l3, l4, l5, l6⟩ := hI.2.1
  obtain ⟨hR, hgd, hgx, hqs, hxs, hqu⟩ := hQ
  have h16 := hG.2.2.1
  refine pk_le c.tl.length i (fun _ => ?_) (fun h => absurd h (by omega)) hR.2.2.2.1.1 rfl (by omega) (by omega)
  refine pk_eq n 0 (fun q => ?_) (fun q => kn q _ hR) rfl rfl (by omega) (by omega)
  refine pk_eq E.length 1 (fun q1 => ?_) (fun q1 => ?_) (by rw [hgd, rn_ws_len]) rfl (by omega) (by omega)
  · have en : rn_end c E = if (rn_ws E).getD 0 [] = c.sl then .ok E else .error (-20) := by
      unfold rn_end; rw [if_pos q1]
    have hE : ∃ e, E = [e] := List.length_eq_one_iff.mp q1
    obtain ⟨e, rfl⟩ := hE
    have hg := hG.1 e (by simp)
    have en : rn_end c [e] = if e.1 = c.sl then .ok [e] else .error (-20) := en
    obtain ⟨⟨s1, s2⟩, _⟩ := hqs
    have hgN : gN = nI c.N := hR.1.2.2.2.2.1
    rw [hgN] at hR ⊢
    refine yw_copyOut hR hM hNM (fun gOu hgOu => ?_)
    rw [eg] at hgOu ⊢
    refine yw_outIs (e := 0) (w := e.1) (R := c.sl) (by omega) s1 s2 hg.2.2.2.2.1 (fun y hy => by have := hg.2.2.2.2.2.1 y hy; omega) rfl hgOu (by omega) (fun y hy => by have := l4 y hy; omega) (zb_br (fun h => ?_) (fun h => ?_))
    · rw [decide_eq_false_iff_not] at h
      refine ke q (-20) ?_ _ (ry_ig hR)
      rw [en, if_neg (fun z => h z.symm)]
    · rw [decide_eq_true_iff] at h
      rw [if_pos h.symm] at en
      refine ko q _ en _ (And.intro (ry_ig hR) ⟨hgd, hgx, ⟨⟨s1, s2⟩, trivial⟩, hxs, hqu⟩)
  · refine ke q (-19) ?_ _ hR
    unfold rn_end
    rw [if_neg q1]
end
end
section
/-! the reference: letters, labels, prove -/
theorem rn_scan_last {c : ab_W} {A : List rn_E} {e : rn_E} (hb : rn_Bal c e.2.1) : (rn_xs (A ++ [e])).length - rn_scan c (rn_xs (A ++ [e])).reverse 1 = (rn_xs A).length := by
  rw [rn_xs_app, rn_xs_one, List.reverse_append, hb 0 (rn_xs A).reverse, rn_scan_0, List.length_append]
  omega
section
variable {c : ab_W} {M : Nat}
theorem yl_97 {post : Int32 → SY → Prop} (hI : ab_I c) (h24 : c.N < 24) (hMe : M = c.N + 1) (hM : ab_M c M) (eg : c.sg c.N = c.sl) :
    ∀ (l : List Nat) (n : Nat) (b : Bool) (E : List rn_E) (T : List rn_T) (i : Nat) (v : SY), yq_R c M (rn_ws E) (rn_xs E) T v → rn_GE c E → rn_GT c E T → (b = true → 1 ≤ E.length) → n ≤ 99 → 2 * T.length + (if b = true then 1 else 0) ≤ i → (b = true ↔ 0 < i ∧ c.tl.getD (i - 1) 0 ≤ 84) → l = c.tl.drop i → i + l.length = c.tl.length →
    (∀ e, rn_fin c (rn_cm c l n b E T) = .error e → ∀ u', ry_R c M u' → post e u') → (∀ E', rn_fin c (rn_cm c l n b E T) = .ok E' → ∀ T' u', yq_R c M (rn_ws E') (rn_xs E') T' u' → post 0 u') → yt_97 post (nI (c.hs c.N).length) (nI c.ll.length) (l.length + 1) (nI n) (nI T.length) (nI i) v := by
  have l2 : c.ll.length ≤ 32 := hI.2.1.2.1
  have l3 : c.tl.length ≤ 64 := hI.2.1.2.2.1
  have l5 := hI.2.1.2.2.2.2.1
  have l6 := hI.2.1.2.2.2.2.2
  have hhl : (c.hs c.N).length ≤ c.N := ab_hs_len
  intro l
  induction l with
  | nil =>
    intro n b E T i v
    refine ry_el (P := fun v => yq_R c M (rn_ws E) (rn_xs E) T v → rn_GE c E → rn_GT c E T → (b = true → 1 ≤ E.length) → n ≤ 99 → 2 * T.length + (if b = true then 1 else 0) ≤ i → (b = true ↔ 0 < i ∧ c.tl.getD (i - 1) 0 ≤ 84) → ([] : List Nat) = c.tl.drop i → i + ([] : List Nat).length = c.tl.length → (∀ e, rn_fin c (rn_cm c [] n b E T) = .error e → ∀ u', ry_R c M u' → post e u') → (∀ E', rn_fin c (rn_cm c [] n b E T) = .ok E' → ∀ T' u', yq_R c M (rn_ws E') (rn_xs E') T' u' → post 0 u') → yt_97 post (nI (c.hs c.N).length) (nI c.ll.length) (([] : List Nat).length + 1) (nI n) (nI T.length) (nI i) v) ?_ v
    intro gC gA gH gP gN gS gx gd go bKd bLn bLv bSt bCa bPl bSn bPf bPn bLs bLe bGv bXs bSk bSl bOu bAs bTb bTn hQ hG hT hb hn ht _ _ hi ke ko
    have hi : i = c.tl.length := hi
    have er : rn_cm c [] n b E T = if n = 0 then .ok E else .error (-11) := rfl
    rw [er] at ke ko
    show wY_prove_97 post (nI (c.hs c.N).length) (nI c.ll.length) (0 + 1) (nI n) (nI T.length) (nI i) gC gA gH gP gN gS gx gd go bKd bLn bLv bSt bCa bPl bSn bPf bPn bLs bLe bGv bXs bSk bSl bOu bAs bTb bTn
    refine yw_fin hI hM (by omega) eg hG (by omega) (by omega) hn hQ (fun q => ?_) (fun q => ?_) (fun q => ?_)
    · rw [if_neg q] at ke
      exact ke (-11) rfl
    · rw [if_pos q] at ke
      exact ke
    · rw [if_pos q] at ko
      intro E' h u' hu'
      have := rn_end_ok h
      subst this
      exact ko _ h _ u' hu'
  | cons a l ih =>
    intro n b E T i v
    refine ry_el (P := fun v => yq_R c M (rn_ws E) (rn_xs E) T v → rn_GE c E → rn_GT c E T → (b = true → 1 ≤ E.length) → n ≤ 99 → 2 * T.length + (if b = true then 1 else 0) ≤ i → (b = true ↔ 0 < i ∧ c.tl.getD (i - 1) 0 ≤ 84) → a :: l = c.tl.drop i → i + (a :: l).length = c.tl.length → (∀ e, rn_fin c (rn_cm c (a :: l) n b E T) = .error e → ∀ u', ry_R c M u' → post e u') → (∀ E', rn_fin c (rn_cm c (a :: l) n b E T) = .ok E' → ∀ T' u', yq_R c M (rn_ws E') (rn_xs E') T' u' → post 0 u') → yt_97 post (nI (c.hs c.N).length) (nI c.ll.length) ((a :: l).length + 1) (nI n) (nI T.length) (nI i) v) ?_ v
    intro gC gA gH gP gN gS gx gd go bKd bLn bLv bSt bCa bPl bSn bPf bPn bLs bLe bGv bXs bSk bSl bOu bAs bTb bTn hQ hG hT hb hn ht hbi hl hi ke ko
    rw [List.length_cons] at hi
    have hlt : i < c.tl.length := by omega
    rw [zb_drop hlt] at hl
    obtain ⟨hl1, hl2⟩ := List.cons.inj hl
    have hab : 65 ≤ a ∧ a ≤ 90 := by rw [hl1]; exact l6 _ (zb_gm hlt)
    have hR := hQ.1
    have e0 : bLs (128 + i) = nI a := by
      rw [hl1]; exact hR.2.2.2.1.2 i hlt
    have er := rn_cmp_eq (c := c) (a := a) (n := n) (l := l) (b := b) (E := E) (T := T)
    rw [er] at ke ko
    have hnext : ∀ b' : Bool, (b' = true ↔ a ≤ 84) → (b' = true ↔ 0 < i + 1 ∧ c.tl.getD (i + 1 - 1) 0 ≤ 84) := by
      intro b' h
      rw [Nat.add_sub_cancel, ← hl1, h]
      exact ⟨fun z => ⟨by omega, z⟩, fun z => z.2⟩
    show wY_prove_97 post (nI (c.hs c.N).length) (nI c.ll.length) ((l.length + 1) + 1) (nI n) (nI T.length) (nI i) gC gA gH gP gN gS gx gd go bKd bLn bLv bSt bCa bPl bSn bPf bPn bLs bLe bGv bXs bSk bSl bOu bAs bTb bTn
    refine pk_le c.tl.length i (fun h => absurd h (by omega)) (fun _ => And.intro (pk_in (128 + i) 192 (by omega) (nI_add 128 i)) (nm_r (e' := nI a) (by rw [show (128 : Int32) + nI i = nI (128 + i) from nI_add 128 i, nI_clamp (by omega)]; exact e0) ?_)) hR.2.2.2.1.1 rfl (by omega) (by omega)
    refine pk_eq a 90 (fun q => ?_) (fun q => ?_) rfl rfl (by omega) (by omega)
    · rw [if_pos q] at ke ko
      by_cases qb : b = true
      · rw [if_pos qb] at ke ko
        rw [if_pos qb] at ht
        obtain ⟨b1, b2⟩ := hbi.mp qb
        have ei : (128 : Int32) + nI i - 1 = nI (128 + (i - 1)) := by
          rw [show (128 : Int32) + nI i = nI (128 + i) from nI_add 128 i, show nI (128 + i) - 1 = nI (128 + i - 1) from pk_sub (b := 1) (by omega)]
          congr 1
          omega
        have e1 : bLs (128 + (i - 1)) = nI (c.tl.getD (i - 1) 0) := hR.2.2.2.1.2 (i - 1) (by omega)
        refine pk_eq i 0 (fun z => absurd z (by omega)) (fun _ => And.intro (pk_in (128 + (i - 1)) 192 (by omega) ei) ?_) rfl rfl (by omega) (by omega)
        rw [ei, nI_clamp (by omega), e1]
        refine pk_le (c.tl.getD (i - 1) 0) 84 (fun _ => ?_) (fun z => absurd z (by omega)) rfl rfl (by omega) (by omega)
        obtain ⟨A, e, rfl⟩ := rn_last (hb qb)
        have hg := hG.1 e (List.mem_append.mpr (Or.inr (List.mem_singleton.mpr rfl)))
        have hxb : ∀ y, y ∈ rn_xs (A ++ [e]) → y < c.N := by
          intro y hy
          unfold rn_xs at hy
          obtain ⟨e', he', hy⟩ := List.mem_flatMap.mp hy
          exact (hG.1 e' he').2.2.2.2.2.2 y hy
        have hP := hG.2.2.2
        have hP96 : c.P ≤ 96 := hI.1.2.2.2.2.2.2.2.1
        have hlx : (rn_xs (A ++ [e])).length = (rn_xs A).length + e.2.1.length := by rw [rn_xs_app, rn_xs_one, List.length_append]
        refine yw_start hI hR hM (by omega) hQ.2.2.1 hQ.2.2.2.2.1 hxb (by omega) ?_
        rw [rn_scan_last hg.2.1]
        have iT : vp_in (nI T.length) 64 := vp_in_nI (by omega) (by omega)
        refine And.intro iT (nm_r (zb_up T.length rfl rfl) (And.intro iT (And.intro iT (nm_r (e' := upd bTn T.length (nI e.2.1.length)) ?_ (nm_r (nI_1 T.length) (nm_r (nI_1 i) ?_))))))
        · rw [nI_clamp (by omega), pk_us, hQ.2.2.1, hlx, pk_sub (by omega), Nat.add_sub_cancel_left]
        · have hlt2 : (T ++ [rn_tag (A ++ [e])]).length = T.length + 1 := by rw [List.length_append]; rfl
          rw [← hlt2]
          refine ih n false (A ++ [e]) (T ++ [rn_tag (A ++ [e])]) (i + 1) (gC, gA, gH, gP, gN, gS, gx, gd, go, bKd, bLn, bLv, bSt, bCa, bPl, bSn, bPf, bPn, bLs, bLe, bGv, bXs, bSk, bSl, bOu, bAs, upd bTb T.length (nI (rn_xs A).length), upd bTn T.length (nI e.2.1.length)) ?_ hG (rn_GT_tag hG hT (hb qb)) (fun z => absurd z (by decide)) hn ?_ (hnext false ⟨fun z => absurd z (by decide), fun z => absurd z (by omega)⟩) hl2 (by omega) ke ko
          · obtain ⟨_, hgd, hgx, hqs, hxs, hqu⟩ := hQ
            refine And.intro (ry_ig hR) ⟨hgd, hgx, hqs, hxs, ?_⟩
            rw [rn_tag_c, qu_app, Nat.zero_add]
            exact ⟨qu_cg _ 0 (fun k hk => ⟨pk_un (by omega), pk_un (by omega)⟩) hqu, ⟨pk_us, pk_us⟩, trivial⟩
          · rw [hlt2, if_neg (by decide)]
            omega
      · rw [if_neg qb] at ke
        have kb : ∀ u', ry_R c M u' → post (-11) u' := ke (-11) rfl
        refine pk_eq i 0 (fun z => kb _ hR) (fun z => ?_) rfl rfl (by omega) (by omega)
        have ei : (128 : Int32) + nI i - 1 = nI (128 + (i - 1)) := by
          rw [show (128 : Int32) + nI i = nI (128 + i) from nI_add 128 i, show nI (128 + i) - 1 = nI (128 + i - 1) from pk_sub (b := 1) (by omega)]
          congr 1
          omega
        have e1 : bLs (128 + (i - 1)) = nI (c.tl.getD (i - 1) 0) := hR.2.2.2.1.2 (i - 1) (by omega)
        have hb2 := (l6 _ (zb_gm (l := c.tl) (i := i - 1) (by omega))).2
        refine And.intro (pk_in (128 + (i - 1)) 192 (by omega) ei) ?_
        rw [ei, nI_clamp (by omega), e1]
        refine pk_le (c.tl.getD (i - 1) 0) 84 (fun z2 => absurd (hbi.mpr ⟨by omega, z2⟩) qb) (fun _ => kb _ hR) rfl rfl (by omega) (by omega)
    · rw [if_neg q] at ke ko
      refine pk_lt a 85 (fun q2 => ?_) (fun q2 => ?_) rfl rfl (by omega) (by omega)
      · rw [if_pos q2] at ke ko
        have ek : (20 : Int32) * nI n + nI a - 64 = nI (20 * n + (a - 64)) := by
          rw [show (20 : Int32) * nI n = nI (20 * n) from pk_mul 20 n, nI_add, show nI (20 * n + a) - 64 = nI (20 * n + a - 64) from pk_sub (b := 64) (by omega)]
          congr 1
          omega
        refine nm_r ek ?_
        generalize hk : 20 * n + (a - 64) = k at ke ko
        have hk1 : 1 ≤ k := by omega
        have hk2 : k ≤ 2020 := by omega
        have ke' : ∀ e, rn_num c k E T = .error e → ∀ u', ry_R c M u' → post e u' := by
          intro e he
          rw [he] at ke
          exact ke e rfl
        have ko' : ∀ E', rn_num c k E T = .ok E' → ∀ (gC gA gH gP gN gS gx gd go : Int32) (bKd bLn bLv bSt bCa bPl bSn bPf bPn bLs bLe bGv bXs bSk bSl bOu bAs bTb bTn : Nat → Int32), yq_R c M (rn_ws E') (rn_xs E') T (gC, gA, gH, gP, gN, gS, gx, gd, go, bKd, bLn, bLv, bSt, bCa, bPl, bSn, bPf, bPn, bLs, bLe, bGv, bXs, bSk, bSl, bOu, bAs, bTb, bTn) → wY_prove_97 post (nI (c.hs c.N).length) (nI c.ll.length) (l.length + 1) 0 (nI T.length) (nI (i + 1)) gC gA gH gP gN gS gx gd go bKd bLn bLv bSt bCa bPl bSn bPf bPn bLs bLe bGv bXs bSk bSl bOu bAs bTb bTn := by
          intro E' he gC gA gH gP gN gS gx gd go bKd bLn bLv bSt bCa bPl bSn bPf bPn bLs bLe bGv bXs bSk bSl bOu bAs bTb bTn hu
          rw [he] at ke ko
          obtain ⟨o1, o2, o3⟩ := rn_num_ok hI hk1 hG hT he
          refine ih 0 true E' T (i + 1) (gC, gA, gH, gP, gN, gS, gx, gd, go, bKd, bLn, bLv, bSt, bCa, bPl, bSn, bPf, bPn, bLs, bLe, bGv, bXs, bSk, bSl, bOu, bAs, bTb, bTn) hu o1 o2 (fun _ => o3) (by omega) ?_ (hnext true ⟨fun _ => by omega, fun _ => rfl⟩) hl2 (by omega) ke ko
          rw [if_pos rfl]
          omega
        have exq : (nI (c.hs c.N).length + nI c.ll.length) + nI T.length = nI ((c.hs c.N).length + c.ll.length + T.length) := by rw [nI_add, nI_add]
        refine pk_le k ((c.hs c.N).length + c.ll.length + T.length) (fun q3 => ?_) (fun q3 => ?_) rfl exq (by omega) (by omega)
        · have hxl : (rn_xs E).length < 97 := by
            have := hG.2.2.2
            have hP96 : c.P ≤ 96 := hI.1.2.2.2.2.2.2.2.1
            omega
          have hgx : gx = nI (rn_xs E).length := hQ.2.2.1
          have hQ' : ∀ z : Int32, yq_R c M (rn_ws E) (rn_xs E) T (gC, gA, gH, gP, gN, gS, gx, gd, go, bKd, bLn, bLv, bSt, bCa, bPl, bSn, bPf, bPn, bLs, bLe, bGv, upd bXs (rn_xs E).length z, bSk, bSl, bOu, bAs, bTb, bTn) := by
            intro z
            obtain ⟨_, hgd, hgx, hqs, hxs, hqu⟩ := hQ
            exact And.intro (ry_ig hR) ⟨hgd, hgx, hqs, zb_cu hxs (by omega), hqu⟩
          refine pk_lt (c.hs c.N).length k (fun q4 => ?_) (fun q4 => ?_) rfl rfl (by omega) (by omega)
          · refine pk_lt ((c.hs c.N).length + c.ll.length) k (fun q5 => ?_) (fun q5 => ?_) (nI_add _ _) rfl (by omega) (by omega)
            · have hT' : k - (c.hs c.N).length - c.ll.length - 1 < T.length := by omega
              have eg' := List.getElem?_eq_getElem hT'
              have en : rn_num c k E T = rn_tkt c T[k - (c.hs c.N).length - c.ll.length - 1] E := by
                unfold rn_num
                rw [if_neg (by omega), if_neg (by omega), eg']
              exact yw_307t hI hM (by omega) hG hT (by omega) l2 (by omega) q5 eg' hQ (fun e he => ke' e (en.trans he)) (fun E' he => ko' E' (en.trans he))
            · have hlt3 : k - (c.hs c.N).length - 1 < c.ll.length := by omega
              have en : rn_num c k E T = rn_tkl c (c.ll.getD (k - (c.hs c.N).length - 1) 0) E := by
                unfold rn_num
                rw [if_neg (by omega), if_pos (by omega)]
              have ei : (64 : Int32) + nI k - nI (c.hs c.N).length - 1 = nI (64 + (k - (c.hs c.N).length - 1)) := by
                rw [show (64 : Int32) + nI k = nI (64 + k) from nI_add 64 k, pk_sub (by omega), show nI (64 + k - (c.hs c.N).length) - 1 = nI (64 + k - (c.hs c.N).length - 1) from pk_sub (b := 1) (by omega)]
                congr 1
                omega
              have e1 : bLs (64 + (k - (c.hs c.N).length - 1)) = nI (c.ll.getD (k - (c.hs c.N).length - 1) 0) := hR.2.2.1.2 _ hlt3
              refine And.intro (pk_in (64 + (k - (c.hs c.N).length - 1)) 192 (by omega) ei) (And.intro (pk_in (rn_xs E).length 97 hxl hgx) (nm_r (zb_up (rn_xs E).length hgx (by rw [ei, nI_clamp (by omega), e1])) ?_))
              exact yw_307l hI hM (by omega) hG (l5 _ (zb_gm hlt3)) (by omega) l2 (by omega) (hQ' _) pk_us (fun e he => ke' e (en.trans he)) (fun E' he => ko' E' (en.trans he))
          · have hlt3 : k - 1 < (c.hs c.N).length := by omega
            have en : rn_num c k E T = rn_tkl c ((c.hs c.N).getD (k - 1) 0) E := by
              unfold rn_num
              rw [if_pos (by omega)]
            have hx : (c.hs c.N).getD (k - 1) 0 < c.N := (ab_inF_i.mp (ab_hs_i.mp (zb_gm hlt3))).1.1
            have hgN : gN = nI c.N := hR.1.2.2.2.2.1
            rw [show nI k - 1 = nI (k - 1) from pk_sub (b := 1) hk1]
            have hn : ∀ {po : Int32 → Prop}, po (nI ((c.hs c.N).getD (k - 1) 0)) → wpY_nth po (gC, gA, gH, gP, gN, gS, gx, gd, go, bKd, bLn, bLv, bSt, bCa, bPl, bSn, bPf, bPn, bLs, bLe, bGv, bXs, bSk, bSl, bOu, bAs, bTb, bTn) gN (nI (k - 1)) := by
              intro po hp
              have h := yw_nth_y (post := po) (x := c.N) hI hM hR (by omega) hlt3 hp
              rw [← hgN] at h
              exact h
            refine hn (And.intro (pk_in (rn_xs E).length 97 hxl hgx) (nm_r (zb_up (rn_xs E).length hgx rfl) ?_))
            exact yw_307l hI hM (by omega) hG hx (by omega) l2 (by omega) (hQ' _) pk_us (fun e he => ke' e (en.trans he)) (fun E' he => ko' E' (en.trans he))
        · refine ke' (-11) ?_ _ hR
          unfold rn_num
          rw [if_neg (by omega), if_neg (by omega), List.getElem?_eq_none (by omega)]
      · rw [if_neg (by omega)] at ke ko
        have ek : (5 : Int32) * nI n + nI a - 84 = nI (5 * n + (a - 84)) := by
          rw [show (5 : Int32) * nI n = nI (5 * n) from pk_mul 5 n, nI_add, show nI (5 * n + a) - 84 = nI (5 * n + a - 84) from pk_sub (b := 84) (by omega)]
          congr 1
          omega
        refine nm_r ek (pk_le (5 * n + (a - 84)) 99 (fun q3 => nm_r (nI_1 i) ?_) (fun q3 => ?_) rfl rfl (by omega) (by omega))
        · rw [if_pos q3] at ke ko
          refine ih _ false E T (i + 1) (gC, gA, gH, gP, gN, gS, gx, gd, go, bKd, bLn, bLv, bSt, bCa, bPl, bSn, bPf, bPn, bLs, bLe, bGv, bXs, bSk, bSl, bOu, bAs, bTb, bTn) hQ hG hT (fun z => absurd z (by decide)) q3 ?_ (hnext false ⟨fun z => absurd z (by decide), fun z => absurd z (by omega)⟩) hl2 (by omega) ke ko
          rw [if_neg (by decide)]
          omega
        · rw [if_neg (by omega)] at ke
          exact ke (-11) rfl _ hR
theorem yl_37 {post : Int32 → SY → Prop} (hI : ab_I c) (h24 : c.N < 24) (hMe : M = c.N + 1) (hM : ab_M c M) (eg : c.sg c.N = c.sl) (ht0 : c.tl.length = 0) :
    ∀ (l : List Nat) (i : Nat) (E : List rn_E) (v : SY), yq_R c M (rn_ws E) (rn_xs E) [] v → rn_GE c E → l = c.ll.drop i → i + l.length = c.ll.length →
    (∀ e, rn_fin c (rn_nrm c l E) = .error e → ∀ u', ry_R c M u' → post e u') → (∀ E', rn_fin c (rn_nrm c l E) = .ok E' → ∀ T' u', yq_R c M (rn_ws E') (rn_xs E') T' u' → post 0 u') → yt_37 post 0 0 (nI (c.hs c.N).length) (nI c.ll.length) (l.length + 1) (nI i) v := by
  have l2 : c.ll.length ≤ 32 := hI.2.1.2.1
  have l5 := hI.2.1.2.2.2.2.1
  have hP96 : c.P ≤ 96 := hI.1.2.2.2.2.2.2.2.1
  intro l
  induction l with
  | nil =>
    intro i E v
    refine ry_el (P := fun v => yq_R c M (rn_ws E) (rn_xs E) [] v → rn_GE c E → ([] : List Nat) = c.ll.drop i → i + ([] : List Nat).length = c.ll.length → (∀ e, rn_fin c (rn_nrm c [] E) = .error e → ∀ u', ry_R c M u' → post e u') → (∀ E', rn_fin c (rn_nrm c [] E) = .ok E' → ∀ T' u', yq_R c M (rn_ws E') (rn_xs E') T' u' → post 0 u') → yt_37 post 0 0 (nI (c.hs c.N).length) (nI c.ll.length) (([] : List Nat).length + 1) (nI i) v) ?_ v
    intro gC gA gH gP gN gS gx gd go bKd bLn bLv bSt bCa bPl bSn bPf bPn bLs bLe bGv bXs bSk bSl bOu bAs bTb bTn hQ hG _ hi ke ko
    have hi : i = c.ll.length := hi
    show wY_prove_37 post 0 0 (nI (c.hs c.N).length) (nI c.ll.length) (0 + 1) (nI i) gC gA gH gP gN gS gx gd go bKd bLn bLv bSt bCa bPl bSn bPf bPn bLs bLe bGv bXs bSk bSl bOu bAs bTb bTn
    refine pk_le c.ll.length i (fun _ => ⟨1, ?_⟩) (fun h => absurd h (by omega)) rfl rfl (by omega) (by omega)
    refine yw_fin (n := 0) (i := 0) (m := 0) hI hM (by omega) eg hG (by omega) (by omega) (by omega) hQ (fun q => absurd rfl q) (fun _ => ke) (fun _ E' h u' hu' => ?_)
    have := rn_end_ok h
    subst this
    exact ko _ h _ u' hu'
  | cons x l ih =>
    intro i E v
    refine ry_el (P := fun v => yq_R c M (rn_ws E) (rn_xs E) [] v → rn_GE c E → x :: l = c.ll.drop i → i + (x :: l).length = c.ll.length → (∀ e, rn_fin c (rn_nrm c (x :: l) E) = .error e → ∀ u', ry_R c M u' → post e u') → (∀ E', rn_fin c (rn_nrm c (x :: l) E) = .ok E' → ∀ T' u', yq_R c M (rn_ws E') (rn_xs E') T' u' → post 0 u') → yt_37 post 0 0 (nI (c.hs c.N).length) (nI c.ll.length) ((x :: l).length + 1) (nI i) v) ?_ v
    intro gC gA gH gP gN gS gx gd go bKd bLn bLv bSt bCa bPl bSn bPf bPn bLs bLe bGv bXs bSk bSl bOu bAs bTb bTn hQ hG hl hi ke ko
    rw [List.length_cons] at hi
    have hlt : i < c.ll.length := by omega
    rw [zb_drop hlt] at hl
    obtain ⟨hl1, hl2⟩ := List.cons.inj hl
    have hx : x < c.N := by rw [hl1]; exact l5 _ (zb_gm hlt)
    have hR := hQ.1
    have e0 : bLs (64 + i) = nI x := by rw [hl1]; exact hR.2.2.1.2 i hlt
    have hgx : gx = nI (rn_xs E).length := hQ.2.2.1
    have hxl : (rn_xs E).length < 97 := by
      have := hG.2.2.2
      omega
    have hQ' : yq_R c M (rn_ws E) (rn_xs E) [] (gC, gA, gH, gP, gN, gS, gx, gd, go, bKd, bLn, bLv, bSt, bCa, bPl, bSn, bPf, bPn, bLs, bLe, bGv, upd bXs (rn_xs E).length (nI x), bSk, bSl, bOu, bAs, bTb, bTn) := by
      obtain ⟨_, hgd, hgx, hqs, hxs, hqu⟩ := hQ
      exact And.intro (ry_ig hR) ⟨hgd, hgx, hqs, zb_cu hxs (by omega), hqu⟩
    show wY_prove_37 post 0 0 (nI (c.hs c.N).length) (nI c.ll.length) ((l.length + 1) + 1) (nI i) gC gA gH gP gN gS gx gd go bKd bLn bLv bSt bCa bPl bSn bPf bPn bLs bLe bGv bXs bSk bSl bOu bAs bTb bTn
    refine pk_le c.ll.length i (fun h => absurd h (by omega)) (fun _ => ?_) rfl rfl (by omega) (by omega)
    refine pk_eq c.tl.length 0 (fun _ => ?_) (fun z => absurd ht0 z) hR.2.2.2.1.1 rfl (by omega) (by omega)
    refine And.intro (pk_in (64 + i) 192 (by omega) (nI_add 64 i)) (And.intro (pk_in (rn_xs E).length 97 hxl hgx) (nm_r (e' := upd bXs (rn_xs E).length (nI x)) (by rw [hgx, nI_clamp (by omega), show (64 : Int32) + nI i = nI (64 + i) from nI_add 64 i, nI_clamp (by omega), e0]) ?_))
    refine yw_tkl hI hM hx (by omega) hG hQ' pk_us ?_ ?_
    · intro e he
      refine ry_el ?_
      intro gC gA gH gP gN gS gx gd go bKd bLn bLv bSt bCa bPl bSn bPf bPn bLs bLe bGv bXs bSk bSl bOu bAs bTb bTn hu
      have h := rn_nrm_e (l := l) he
      rw [h] at ke
      exact br_f (rn_tkl_ne he) (ke e rfl _ hu)
    · intro E' he
      refine ry_el ?_
      intro gC gA gH gP gN gS gx gd go bKd bLn bLv bSt bCa bPl bSn bPf bPn bLs bLe bGv bXs bSk bSl bOu bAs bTb bTn hu
      have h := rn_nrm_o (l := l) he
      rw [h] at ke ko
      refine br_t rfl (nm_r (nI_1 i) ?_)
      exact ih (i + 1) E' (gC, gA, gH, gP, gN, gS, gx, gd, go, bKd, bLn, bLv, bSt, bCa, bPl, bSn, bPf, bPn, bLs, bLe, bGv, bXs, bSk, bSl, bOu, bAs, bTb, bTn) hu (rn_tkl_ok hI hx hG he).1 hl2 (by omega) ke ko
end
section
variable {c : ab_W} {M : Nat} {gC gA gH gP gN gS gx gd go : Int32} {bKd bLn bLv bSt bCa bPl bSn bPf bPn bLs bLe bGv bXs bSk bSl bOu bAs bTb bTn : Nat → Int32}
theorem yw_prove {post : Int32 → SY → Prop} (hI : ab_I c) (h24 : c.N < 24) (hMe : M = c.N + 1) (hM : ab_M c M) (h3 : 3 ≤ c.kd c.N) (eg : c.sg c.N = c.sl) (hR : ry_R c M (gC, gA, gH, gP, gN, gS, gx, gd, go, bKd, bLn, bLv, bSt, bCa, bPl, bSn, bPf, bPn, bLs, bLe, bGv, bXs, bSk, bSl, bOu, bAs, bTb, bTn))
    (ke : ∀ e, rn_out c = .error e → ∀ u', ry_R c M u' → post e u') (ko : ∀ E, rn_out c = .ok E → ∀ T' u', yq_R c M (rn_ws E) (rn_xs E) T' u' → post 0 u') : wpY_prove post (gC, gA, gH, gP, gN, gS, gx, gd, go, bKd, bLn, bLv, bSt, bCa, bPl, bSn, bPf, bPn, bLs, bLe, bGv, bXs, bSk, bSl, bOu, bAs, bTb, bTn) := by
  obtain ⟨l1, l2, l3, l4, l5, l6⟩ := hI.2.1
  have hgN : gN = nI c.N := hR.1.2.2.2.2.1
  have hQ : yq_R c M (rn_ws []) (rn_xs []) [] (gC, gA, gH, gP, gN, gS, 0, 0, go, bKd, bLn, bLv, bSt, bCa, bPl, bSn, bPf, bPn, bLs, bLe, bGv, bXs, bSk, bSl, bOu, bAs, bTb, bTn) := And.intro (ry_ig hR) ⟨rfl, rfl, trivial, zb_nil _ _, trivial⟩
  unfold rn_out at ke ko
  unfold wpY_prove
  have hcnt : ∀ {po : Int32 → Prop}, po (nI (c.q c.N)) → wpY_count po (gC, gA, gH, gP, gN, gS, 0, 0, go, bKd, bLn, bLv, bSt, bCa, bPl, bSn, bPf, bPn, bLs, bLe, bGv, bXs, bSk, bSl, bOu, bAs, bTb, bTn) gN := by
    intro po hp
    have h := yw_count (post := po) (x := c.N) hI hM hQ.1 (by omega) hp
    rw [← hgN] at h
    exact h
  refine hcnt (nm_r (e' := nI c.ll.length) hR.2.2.1.1 ?_)
  have eq : c.q c.N = (c.hs c.N).length := by unfold ab_W.q; rw [if_neg (by omega)]
  rw [eq]
  by_cases q : c.tl.length = 0
  · rw [if_pos q] at ke ko
    have h := yl_37 (post := post) hI h24 hMe hM eg q c.ll 0 [] (gC, gA, gH, gP, gN, gS, 0, 0, go, bKd, bLn, bLv, bSt, bCa, bPl, bSn, bPf, bPn, bLs, bLe, bGv, bXs, bSk, bSl, bOu, bAs, bTb, bTn) hQ (rn_GE0 hI) rfl (by omega) ke ko
    exact ⟨c.ll.length + 1, h⟩
  · rw [if_neg q] at ke ko
    have h := yl_97 (post := post) hI h24 hMe hM eg c.tl 0 false [] [] 0 (gC, gA, gH, gP, gN, gS, 0, 0, go, bKd, bLn, bLv, bSt, bCa, bPl, bSn, bPf, bPn, bLs, bLe, bGv, bXs, bSk, bSl, bOu, bAs, bTb, bTn) hQ (rn_GE0 hI) (fun t ht => absurd ht List.not_mem_nil) (fun z => absurd z (by decide)) (by omega) (by decide) ⟨fun z => absurd z (by decide), fun z => absurd z.1 (by omega)⟩ rfl (by omega) ke ko
    have h : wY_prove_97 post (nI (c.hs c.N).length) (nI c.ll.length) (c.tl.length + 1) 0 0 0 gC gA gH gP gN gS 0 0 go bKd bLn bLv bSt bCa bPl bSn bPf bPn bLs bLe bGv bXs bSk bSl bOu bAs bTb bTn := h
    refine ⟨1, ?_⟩
    refine pk_le c.ll.length 0 (fun _ => ⟨_, h⟩) (fun z => ?_) rfl rfl (by omega) (by omega)
    refine pk_eq c.tl.length 0 (fun z2 => absurd z2 q) (fun _ => ⟨_, h⟩) hR.2.2.2.1.1 rfl (by omega) (by omega)
end
end
section
/-! theorem on each side -/
theorem rn_out_ne {c : ab_W} {e : Int32} (h : rn_out c = .error e) : e ≠ 0 := by
  have hend : ∀ E, rn_end c E = .error e → e ≠ 0 := by
    intro E h
    unfold rn_end at h
    by_cases q : E.length = 1
    · rw [if_pos q] at h
      by_cases q2 : (rn_ws E).getD 0 [] = c.sl
      · rw [if_pos q2] at h; cases h
      · rw [if_neg q2] at h; cases h; decide
    · rw [if_neg q] at h; cases h; decide
  unfold rn_out at h
  by_cases q : c.tl.length = 0
  · rw [if_pos q] at h
    cases hn : rn_nrm c c.ll [] with
    | error e' =>
      rw [hn] at h
      have h : Except.error e' = Except.error e := h
      cases h
      exact rn_nrm_ne _ _ _ hn
    | ok E => rw [hn] at h; exact hend E h
  · rw [if_neg q] at h
    cases hn : rn_cm c c.tl 0 false [] [] with
    | error e' =>
      rw [hn] at h
      have h : Except.error e' = Except.error e := h
      cases h
      exact rn_cmp_ne _ _ _ _ _ _ hn
    | ok E => rw [hn] at h; exact hend E h
/-- the world in which the theorem stands -/
def ab_thm (c : ab_W) (p : List Nat) : ab_W := ab_com (ab_sL (ab_ten c 4 c.sl) c.sl [] []) [] (fun a => p.any (fun y => c.rs y a)) p
theorem ab_thm_I {c : ab_W} {p : List Nat} (hI : ab_I c) (h : an_ref c = 0) (hp : p.length ≤ 96 ∧ ∀ y, y ∈ p → y < c.N) : ab_I (ab_thm c p) := by
  have h1 : ab_I (ab_com (ab_ten c 4 c.sl) [] (fun a => p.any (fun y => c.rs y a)) p) := zz_comI (Or.inr (Or.inr rfl)) hI h (fun _ => hp) (fun a => ⟨fun z => absurd z (by decide), fun z => absurd z (by decide), fun _ => rfl⟩)
  have hnil : ∀ (P : Nat → Prop), ∀ y, y ∈ ([] : List Nat) → P y := fun P y hy => absurd hy List.not_mem_nil
  exact ab_sL_I (sl := []) (ll := []) (tl := []) h1 ⟨Nat.zero_le _, Nat.zero_le _, Nat.zero_le _, hnil _, hnil _, hnil _⟩
section
variable {c : ab_W} {fC fV fH fP fsl fll ftl fpl fN fS fh fe ft fr : Int32} {aSy aLb aLt aPf aGv aKd aLv aLn aVr aSt aHc aHs aPr aRm aTl aAr aPl aSk aEl aEs aEp aEx aTs aTn aTb aTz aTp aAs aAl aAv aRe : Nat → Int32}
theorem zz_addT {r : Nat → Bool} {p : List Nat} {pk plv m gpl : Int32} {hPf : Nat → Int32} (hI : ab_I c) (hR : rx_R c c.N (fC, fV, fH, fP, fsl, fll, ftl, fpl, fN, fS, fh, fe, ft, fr, aSy, aLb, aLt, aPf, aGv, aKd, aLv, aLn, aVr, aSt, aHc, aHs, aPr, aRm, aTl, aAr, aPl, aSk, aEl, aEs, aEp, aEx, aTs, aTn, aTb, aTz, aTp, aAs, aAl, aAv, aRe)) (eg : c.sg c.N = c.sl) (ek : pk = nI (c.kd c.N)) (el : plv = c.lev c.N) (hhs : rx_hs c (c.N + 1) aHc aHs) (hpr : rx_pr c (c.N + 1) aPr) (hrm : zb_MK (aRm c.N) r) (hpf : rx_l gpl hPf 0 (if c.kd c.N = 4 then p else c.lp)) (hm : zb_MK m (fun v => decide (c.C + v ∈ c.sl))) (hk1 : c.kd c.N ≠ 1) : rx_R (ab_com c [] r p) (c.N + 1) (fC, fV, fH, fP, 0, fll, ftl, gpl, nI (c.N + 1), fS, fh, fe, ft, fr, aSy, aLb, aLt, hPf, aGv, upd aKd c.N pk, upd aLv c.N plv, upd aLn c.N (nI c.sl.length), upd aVr c.N m, zb_cp aSt (c.N * 10) aSy c.sl.length, aHc, aHs, aPr, aRm, aTl, aAr, aPl, aSk, aEl, aEs, aEp, aEx, aTs, aTn, aTb, aTz, aTp, aAs, aAl, aAv, aRe) := by
  refine rx_com hR (rx_l0 aSy 0) ?_ ?_ (fun j hj => pk_un (Nat.ne_of_lt hj)) ?_ (fun j hj => pk_un (Nat.ne_of_lt hj)) ?_ (fun j hj => pk_un (Nat.ne_of_lt hj)) ?_ (fun i hi => zb_cpN (by omega)) (fun j hj => (hI.2.2.1 j hj).2.2.2.1) ?_ (fun j hj => pk_un (Nat.ne_of_lt hj)) hhs hpr hrm (fun j hj => rfl) ?_
  · rw [ab_com_lp]; exact hpf
  · rw [pk_us, ek]
  · rw [pk_us, el]
  · rw [pk_us, eg]
  · rw [eg]
    refine zb_cpG (fun i hi => ?_)
    have := hR.2.1.2 i hi
    rwa [Nat.zero_add] at this
  · intro _
    rw [pk_us, eg]; exact hm
  · intro v hv
    show aTl v = -1 ↔ (ab_com c [] r p).ht (c.C + v) = false
    rw [hR.2.2.2.2.2.2.2.2.2.2.2.2.1 v hv, ← Bool.not_eq_true, ← Bool.not_eq_true, ab_com_ht]
    constructor
    · intro h z
      rcases z with z | z
      · exact h z
      · exact hk1 z.1
    · intro h z; exact h (Or.inl z)
/-- the accepted proof is kept and the theorem added -/
theorem xw_acc {post : Int32 → SX → Prop} {E : List rn_E} {T : List rn_T} (hI : ab_I c) (h24 : c.N < 24) (hG : rn_GE (ab_ten c 4 c.sl) E) (hQ : xq_R (ab_ten c 4 c.sl) (c.N + 1) E T (fC, fV, fH, fP, fsl, fll, ftl, fpl, fN, fS, fh, fe, ft, fr, aSy, aLb, aLt, aPf, aGv, aKd, aLv, aLn, aVr, aSt, aHc, aHs, aPr, aRm, aTl, aAr, aPl, aSk, aEl, aEs, aEp, aEx, aTs, aTn, aTb, aTz, aTp, aAs, aAl, aAv, aRe)) (k : ∀ u', rx_R (ab_thm c (rn_xs E)) (c.N + 1) u' → post (nI c.N) u') :
    wpX_keepProof (fun u => match u with | (fC, fV, fH, fP, fsl, fll, ftl, fpl, fN, fS, fh, fe, ft, fr, aSy, aLb, aLt, aPf, aGv, aKd, aLv, aLn, aVr, aSt, aHc, aHs, aPr, aRm, aTl, aAr, aPl, aSk, aEl, aEs, aEp, aEx, aTs, aTn, aTb, aTz, aTp, aAs, aAl, aAv, aRe) => wpX_addFromSymbols (fun r u => match u with | (fC, fV, fH, fP, fsl, fll, ftl, fpl, fN, fS, fh, fe, ft, fr, aSy, aLb, aLt, aPf, aGv, aKd, aLv, aLn, aVr, aSt, aHc, aHs, aPr, aRm, aTl, aAr, aPl, aSk, aEl, aEs, aEp, aEx, aTs, aTn, aTb, aTz, aTp, aAs, aAl, aAv, aRe) => post r (fC, fV, fH, fP, fsl, fll, ftl, fpl, fN, fS, fh, fe, ft, fr, aSy, aLb, aLt, aPf, aGv, aKd, aLv, aLn, aVr, aSt, aHc, aHs, aPr, aRm, aTl, aAr, aPl, aSk, aEl, aEs, aEp, aEx, aTs, aTn, aTb, aTz, aTp, aAs, aAl, aAv, aRe)) (fC, fV, fH, fP, fsl, 0, 0, fpl, fN, fS, fh, fe, ft, fr, aSy, aLb, aLt, aPf, aGv, aKd, aLv, aLn, aVr, aSt, aHc, aHs, aPr, aRm, aTl, aAr, aPl, aSk, aEl, aEs, aEp, aEx, aTs, aTn, aTb, aTz, aTp, aAs, aAl, aAv, aRe) 4 0) (fC, fV, fH, fP, fsl, fll, ftl, fpl, fN, fS, fh, fe, ft, fr, aSy, aLb, aLt, aPf, aGv, aKd, aLv, aLn, aVr, aSt, aHc, aHs, aPr, aRm, aTl, aAr, aPl, aSk, aEl, aEs, aEp, aEx, aTs, aTn, aTb, aTz, aTp, aAs, aAl, aAv, aRe) (nI c.N) := by
  have hI1 : ab_I (ab_ten c 4 c.sl) := ab_ten_I hI
  obtain ⟨l1, l2, l3, l4, l5, l6⟩ := hI.2.1
  refine xw_keep (c := ab_ten c 4 c.sl) hI1 h24 hG hQ (fun m hm => ?_)
  have hR := hQ.1
  refine xw_addFS (c := ab_ten c 4 c.sl) hI1 h24 hR.1.1 hR.1.2.2.2.2.1 hR.2.1 (fun m2 hm2 => ?_)
  have ek : (ab_ten c 4 c.sl).kd c.N = 4 := ab_us
  have hnil : ∀ (P : Nat → Prop), ∀ y, y ∈ ([] : List Nat) → P y := fun P y hy => absurd hy List.not_mem_nil
  have hIs : ab_I (ab_sL (ab_ten c 4 c.sl) c.sl [] []) := ab_sL_I hI1 ⟨l1, Nat.zero_le _, Nat.zero_le _, l4, hnil _, hnil _⟩
  have hRs : rx_R (ab_sL (ab_ten c 4 c.sl) c.sl [] []) c.N (fC, fV, fH, fP, fsl, 0, 0, fpl, fN, fS, fh, fe, ft, fr, aSy, aLb, aLt, aPf, aGv, aKd, aLv, aLn, aVr, aSt, aHc, aHs, aPr, upd aRm c.N m, aTl, aAr, aPl, aSk, aEl, aEs, aEp, aEx, aTs, aTn, aTb, aTz, aTp, aAs, aAl, aAv, aRe) := by
    obtain ⟨hf, hsy, hlb, hlt, hpf, hkd, hlv, hst, hvr, hhs, hpr, hrm, htl, har, hpl⟩ := hR
    refine ⟨hf, hsy, rx_l0 _ 0, rx_l0 _ 0, hpf, hkd, hlv, hst, hvr, fun x hx => hhs x (Nat.lt_succ_of_lt hx), fun x hx => hpr x (Nat.lt_succ_of_lt hx), fun x hx => ?_, htl, har, hpl⟩
    have hx' : x < c.N := hx
    rw [pk_un (Nat.ne_of_lt hx')]; exact hrm x hx
  refine k _ (zz_addT (c := ab_sL (ab_ten c 4 c.sl) c.sl [] []) hIs hRs ab_us ?_ ?_ hR.2.2.2.2.2.2.2.2.2.1 hR.2.2.2.2.2.2.2.2.2.2.1 ?_ ?_ hm2 ?_)
  · show (4 : Int32) = nI ((ab_ten c 4 c.sl).kd c.N)
    rw [ek]; rfl
  · show (0 : Int32) = (ab_ten c 4 c.sl).lev c.N
    unfold ab_W.lev
    rw [ek, if_pos (by decide)]
  · show zb_MK (upd aRm c.N m c.N) (fun a => (rn_xs E).any (fun y => c.rs y a))
    rw [pk_us]; exact hm
  · show rx_l (nI (rn_xs E).length) (zb_cp aPf 0 aEx (rn_xs E).length) 0 (if (ab_ten c 4 c.sl).kd c.N = 4 then rn_xs E else (ab_sL (ab_ten c 4 c.sl) c.sl [] []).lp)
    rw [if_pos ek]
    refine ⟨rfl, zb_cpG (fun i hi => ?_)⟩
    have := hQ.2.2.2.2.2.2.1 i hi
    rwa [Nat.zero_add] at this
  · show (ab_ten c 4 c.sl).kd c.N ≠ 1
    rw [ek]; decide
theorem xw_28 {post : Int32 → SX → Prop} (hI : ab_I c) (h24 : c.N < 24) (hX : rx_R c c.N (fC, fV, fH, fP, fsl, fll, ftl, fpl, fN, fS, fh, fe, ft, fr, aSy, aLb, aLt, aPf, aGv, aKd, aLv, aLn, aVr, aSt, aHc, aHs, aPr, aRm, aTl, aAr, aPl, aSk, aEl, aEs, aEp, aEx, aTs, aTn, aTb, aTz, aTp, aAs, aAl, aAv, aRe))
    (ke : ∀ e, rn_out (ab_ten c 4 c.sl) = .error e → ∀ u', rx_R (ab_ten c 4 c.sl) (c.N + 1) u' → post e u')
    (ko : ∀ E, rn_out (ab_ten c 4 c.sl) = .ok E → rn_GE (ab_ten c 4 c.sl) E → ∀ u', rx_R (ab_thm c (rn_xs E)) (c.N + 1) u' → post (nI c.N) u') : wX_theorem_28 post fC fV fH fP fsl fll ftl fpl fN fS fh fe ft fr aSy aLb aLt aPf aGv aKd aLv aLn aVr aSt aHc aHs aPr aRm aTl aAr aPl aSk aEl aEs aEp aEx aTs aTn aTb aTz aTp aAs aAl aAv aRe := by
  have hI1 : ab_I (ab_ten c 4 c.sl) := ab_ten_I hI
  have ek : (ab_ten c 4 c.sl).kd c.N = 4 := ab_us
  have eN : fN = nI c.N := hX.1.2.2.2.2.1
  have hX1 := rx_ten (k := 4) (s := c.sl) _ hX
  unfold wX_theorem_28
  rw [eN] at hX1 ⊢
  refine xw_build (c := ab_ten c 4 c.sl) hI1 h24 hX1 ab_us ab_us (fun hHc hHs hPr hhs hpr => ?_)
  have hX2 : rx_R (ab_ten c 4 c.sl) (c.N + 1) (fC, fV, fH, fP, fsl, fll, ftl, fpl, nI c.N, fS, fh, fe, ft, fr, aSy, aLb, aLt, aPf, aGv, aKd, aLv, aLn, aVr, aSt, hHc, hHs, hPr, aRm, aTl, aAr, aPl, aSk, aEl, aEs, aEp, aEx, aTs, aTn, aTb, aTz, aTp, aAs, aAl, aAv, aRe) := by
    obtain ⟨hf, hsy, hlb, hlt, hpf, hkd, hlv, hst, hvr, _, _, hrm, htl, har, hpl⟩ := hX1
    exact ⟨hf, hsy, hlb, hlt, hpf, hkd, hlv, hst, hvr, hhs, hpr, hrm, htl, har, hpl⟩
  refine xw_proof (c := ab_ten c 4 c.sl) (M := c.N + 1) hI1 h24 rfl (by show 3 ≤ (ab_ten c 4 c.sl).kd c.N; rw [ek]; decide) hX2 ?_ ?_
  · intro e he
    refine rx_el ?_
    intro fC fV fH fP fsl fll ftl fpl fN fS fh fe ft fr aSy aLb aLt aPf aGv aKd aLv aLn aVr aSt aHc aHs aPr aRm aTl aAr aPl aSk aEl aEs aEp aEx aTs aTn aTb aTz aTp aAs aAl aAv aRe hu
    exact br_f (rn_out_ne he) (ke e he _ hu)
  · intro E he hG T
    refine rx_el ?_
    intro fC fV fH fP fsl fll ftl fpl fN fS fh fe ft fr aSy aLb aLt aPf aGv aKd aLv aLn aVr aSt aHc aHs aPr aRm aTl aAr aPl aSk aEl aEs aEp aEx aTs aTn aTb aTz aTp aAs aAl aAv aRe hu
    exact br_t rfl (xw_acc hI h24 hG hu (ko E he hG))
theorem xw_thm {post : Int32 → SX → Prop} (hI : ab_I c) (hX : rx_R c c.N (fC, fV, fH, fP, fsl, fll, ftl, fpl, fN, fS, fh, fe, ft, fr, aSy, aLb, aLt, aPf, aGv, aKd, aLv, aLn, aVr, aSt, aHc, aHs, aPr, aRm, aTl, aAr, aPl, aSk, aEl, aEs, aEp, aEx, aTs, aTn, aTb, aTz, aTp, aAs, aAl, aAv, aRe)) (kr : an_ref c ≠ 0 → post (an_ref c) (fC, fV, fH, fP, fsl, fll, ftl, fpl, fN, fS, fh, fe, ft, fr, aSy, aLb, aLt, aPf, aGv, aKd, aLv, aLn, aVr, aSt, aHc, aHs, aPr, aRm, aTl, aAr, aPl, aSk, aEl, aEs, aEp, aEx, aTs, aTn, aTb, aTz, aTp, aAs, aAl, aAv, aRe)) (kp : an_ref c = 0 → c.ll.length = 0 → c.tl.length = 0 → post (-10) (fC, fV, fH, fP, fsl, fll, ftl, fpl, fN, fS, fh, fe, ft, fr, aSy, aLb, aLt, aPf, aGv, aKd, aLv, aLn, aVr, aSt, aHc, aHs, aPr, aRm, aTl, aAr, aPl, aSk, aEl, aEs, aEp, aEx, aTs, aTn, aTb, aTz, aTp, aAs, aAl, aAv, aRe))
    (ke : an_ref c = 0 → ¬ (c.ll.length = 0 ∧ c.tl.length = 0) → ∀ e, rn_out (ab_ten c 4 c.sl) = .error e → ∀ u', rx_R (ab_ten c 4 c.sl) (c.N + 1) u' → post e u')
    (ko : an_ref c = 0 → ¬ (c.ll.length = 0 ∧ c.tl.length = 0) → ∀ E, rn_out (ab_ten c 4 c.sl) = .ok E → rn_GE (ab_ten c 4 c.sl) E → ∀ u', rx_R (ab_thm c (rn_xs E)) (c.N + 1) u' → post (nI c.N) u') : wpX_theorem post (fC, fV, fH, fP, fsl, fll, ftl, fpl, fN, fS, fh, fe, ft, fr, aSy, aLb, aLt, aPf, aGv, aKd, aLv, aLn, aVr, aSt, aHc, aHs, aPr, aRm, aTl, aAr, aPl, aSk, aEl, aEs, aEp, aEx, aTs, aTn, aTb, aTz, aTp, aAs, aAl, aAv, aRe) := by
  obtain ⟨l1, l2, l3, l4, l5, l6⟩ := hI.2.1
  unfold wpX_theorem
  refine xw_strRef hI hX ?_
  by_cases h0 : an_ref c = 0
  · obtain ⟨h1, h2, h3, h24⟩ := an_ref0 h0
    refine br_t h0 (pk_eq c.ll.length 0 (fun q => ?_) (fun q => ?_) hX.2.2.1.1 rfl (by omega) (by omega))
    · refine pk_eq c.tl.length 0 (fun q2 => kp h0 q q2) (fun q2 => ?_) hX.2.2.2.1.1 rfl (by omega) (by omega)
      exact xw_28 hI h24 hX (ke h0 (fun z => q2 z.2)) (ko h0 (fun z => q2 z.2))
    · exact xw_28 hI h24 hX (ke h0 (fun z => q z.1)) (ko h0 (fun z => q z.1))
  · exact br_f h0 (kr h0)
end
section
variable {c : ab_W} {M : Nat} {gC gA gH gP gN gS gx gd go : Int32} {bKd bLn bLv bSt bCa bPl bSn bPf bPn bLs bLe bGv bXs bSk bSl bOu bAs bTb bTn : Nat → Int32}
theorem yw_239 {post : Int32 → SY → Prop} {xs : List Nat} (h24 : c.N < 24) (hgN : gN = nI c.N) (hgx : gx = nI xs.length) (hl : xs.length ≤ 96) (k : post (nI c.N) (gC, gA, gH, gP, nI (c.N + 1), gS, gx, gd, go, bKd, bLn, bLv, bSt, bCa, bPl, bSn, zb_cp bPf (c.N * 96) bXs xs.length, upd bPn c.N (nI xs.length), bLs, upd (upd (upd bLe 1 0) 2 0) 0 0, bGv, bXs, bSk, bSl, bOu, bAs, bTb, bTn)) : ∃ n, wY_add_239 post gC gA gH gP gN gS gx gd go n 0 bKd bLn bLv bSt bCa bPl bSn bPf bPn bLs bLe bGv bXs bSk bSl bOu bAs bTb bTn := by
  have key : ∃ n, wY_add_239 post gC gA gH gP gN gS gx gd go n (nI 0) bKd bLn bLv bSt bCa bPl bSn (zb_cp bPf (c.N * 96) bXs 0) bPn bLs bLe bGv bXs bSk bSl bOu bAs bTb bTn := by
    refine zb_count (fun n i => wY_add_239 post gC gA gH gP gN gS gx gd go n (nI i) bKd bLn bLv bSt bCa bPl bSn (zb_cp bPf (c.N * 96) bXs i) bPn bLs bLe bGv bXs bSk bSl bOu bAs bTb bTn) xs.length ?_ ?_
    · intro m i hi w
      rw [← zb_cpS] at w
      have ei : gN * 96 + nI i = nI (c.N * 96 + i) := by rw [hgN]; exact zb_x96 c.N i
      refine pk_le xs.length i (fun h => absurd h (by omega)) (fun _ => And.intro (vp_in_nI (by omega) (by omega)) (And.intro (pk_in (c.N * 96 + i) 2304 (by omega) ei) ?_)) hgx rfl (by omega) (by omega)
      exact nm_r (zb_up (c.N * 96 + i) ei (zb_rd i rfl)) (nm_r (nI_1 i) w)
    · intro m
      refine pk_le xs.length xs.length (fun _ => And.intro (pk_in c.N 24 h24 hgN) (nm_r (zb_up c.N hgN hgx) (nm_e (nm_e ?_)))) (fun h => absurd h (by omega)) hgx rfl (by omega) (by omega)
      exact yw_303 hgN k
  rw [zb_cp0] at key
  exact key
theorem zz_thm0 {post : Int32 → SY → Prop} (hI : ab_I c) (hY : ry_R c c.N (gC, gA, gH, gP, gN, gS, gx, gd, go, bKd, bLn, bLv, bSt, bCa, bPl, bSn, bPf, bPn, bLs, bLe, bGv, bXs, bSk, bSl, bOu, bAs, bTb, bTn)) (h0 : an_ref c ≠ 0) (k : post (an_ref c) (gC, gA, gH, gP, gN, gS, gx, gd, go, bKd, bLn, bLv, bSt, bCa, bPl, bSn, bPf, bPn, bLs, bLe, bGv, bXs, bSk, bSl, bOu, bAs, bTb, bTn)) : wpY_theorem post (gC, gA, gH, gP, gN, gS, gx, gd, go, bKd, bLn, bLv, bSt, bCa, bPl, bSn, bPf, bPn, bLs, bLe, bGv, bXs, bSk, bSl, bOu, bAs, bTb, bTn) := by
  unfold wpY_theorem
  exact yw_add (K := 4) (Or.inr (Or.inr rfl)) hI hY (fun _ => k) (fun z => absurd z h0) (fun z => absurd z h0)
theorem zz_thm1 {post : Int32 → SY → Prop} (hI : ab_I c) (hY : ry_R c c.N (gC, gA, gH, gP, gN, gS, gx, gd, go, bKd, bLn, bLv, bSt, bCa, bPl, bSn, bPf, bPn, bLs, bLe, bGv, bXs, bSk, bSl, bOu, bAs, bTb, bTn)) (h0 : an_ref c = 0) (e1 : c.ll.length = 0) (e2 : c.tl.length = 0) (k : post (-10) (gC, gA, gH, gP, gN, gS, gx, gd, go, bKd, bLn, bLv, bSt, bCa, bPl, bSn, bPf, bPn, bLs, bLe, bGv, bXs, bSk, bSl, bOu, bAs, bTb, bTn)) : wpY_theorem post (gC, gA, gH, gP, gN, gS, gx, gd, go, bKd, bLn, bLv, bSt, bCa, bPl, bSn, bPf, bPn, bLs, bLe, bGv, bXs, bSk, bSl, bOu, bAs, bTb, bTn) := by
  unfold wpY_theorem
  exact yw_add (K := 4) (Or.inr (Or.inr rfl)) hI hY (fun z => absurd h0 z) (fun _ _ _ _ => k) (fun _ hn => absurd ⟨rfl, e1, e2⟩ hn)
theorem yw_thm {post : Int32 → SY → Prop} (hI : ab_I c) (hY : ry_R c c.N (gC, gA, gH, gP, gN, gS, gx, gd, go, bKd, bLn, bLv, bSt, bCa, bPl, bSn, bPf, bPn, bLs, bLe, bGv, bXs, bSk, bSl, bOu, bAs, bTb, bTn)) (hlen : ∀ E, rn_out (ab_ten c 4 c.sl) = .ok E → (rn_xs E).length ≤ 96) (kr : an_ref c ≠ 0 → post (an_ref c) (gC, gA, gH, gP, gN, gS, gx, gd, go, bKd, bLn, bLv, bSt, bCa, bPl, bSn, bPf, bPn, bLs, bLe, bGv, bXs, bSk, bSl, bOu, bAs, bTb, bTn)) (kp : an_ref c = 0 → c.ll.length = 0 → c.tl.length = 0 → post (-10) (gC, gA, gH, gP, gN, gS, gx, gd, go, bKd, bLn, bLv, bSt, bCa, bPl, bSn, bPf, bPn, bLs, bLe, bGv, bXs, bSk, bSl, bOu, bAs, bTb, bTn))
    (ke : an_ref c = 0 → ¬ (c.ll.length = 0 ∧ c.tl.length = 0) → ∀ e, rn_out (ab_ten c 4 c.sl) = .error e → ∀ v', ry_R (ab_ten c 4 c.sl) (c.N + 1) v' → post e v')
    (ko : an_ref c = 0 → ¬ (c.ll.length = 0 ∧ c.tl.length = 0) → ∀ E, rn_out (ab_ten c 4 c.sl) = .ok E → ∀ v', ry_R (ab_thm c (rn_xs E)) (c.N + 1) v' → post (nI c.N) v') : wpY_theorem post (gC, gA, gH, gP, gN, gS, gx, gd, go, bKd, bLn, bLv, bSt, bCa, bPl, bSn, bPf, bPn, bLs, bLe, bGv, bXs, bSk, bSl, bOu, bAs, bTb, bTn) := by
  unfold wpY_theorem
  refine yw_add (K := 4) (Or.inr (Or.inr rfl)) hI hY kr (fun a _ b d => kp a b d) (fun h0 hn hKd hLn hLv hSt hSn hW hS m => ?_)
  obtain ⟨h1, h2, h3, h24⟩ := an_ref0 h0
  obtain ⟨z1, z2, z3, z4, z5, z6, z7, z8, z9, z10⟩ := hI.1
  obtain ⟨l1, l2, l3, l4, l5, l6⟩ := hI.2.1
  have hI1 : ab_I (ab_ten c 4 c.sl) := ab_ten_I hI
  have ek : (ab_ten c 4 c.sl).kd c.N = 4 := ab_us
  have egs : (ab_ten c 4 c.sl).sg c.N = c.sl := ab_us
  have evs : (ab_ten c 4 c.sl).lv c.N = c.S := ab_us
  have hn' : ¬ (c.ll.length = 0 ∧ c.tl.length = 0) := fun z => hn ⟨rfl, z⟩
  have hM : ab_M (ab_ten c 4 c.sl) (c.N + 1) := by
    refine ⟨h24, zz_lts (N := c.N) (fun j hj => hI1.2.2.1 j hj) ?_⟩
    unfold ab_ok
    rw [egs, ek, evs]
    exact ⟨by decide, by decide, by omega, l1, h2, l4, fun z => absurd z (by decide), z10⟩
  refine pk_le 256 256 (fun _ => br_t rfl ?_) (fun h => absurd h (by omega))
  refine yw_prove (c := ab_ten c 4 c.sl) (M := c.N + 1) hI1 h24 rfl hM (by show 3 ≤ (ab_ten c 4 c.sl).kd c.N; rw [ek]; decide) egs hW ?_ ?_
  · intro e he
    refine ry_el ?_
    intro gC gA gH gP gN gS gx gd go bKd bLn bLv bSt bCa bPl bSn bPf bPn bLs bLe bGv bXs bSk bSl bOu bAs bTb bTn hu
    exact br_f (rn_out_ne he) (ke h0 hn' e he _ hu)
  · intro E he T
    refine ry_el ?_
    intro gC gA gH gP gN gS gx gd go bKd bLn bLv bSt bCa bPl bSn bPf bPn bLs bLe bGv bXs bSk bSl bOu bAs bTb bTn hu
    obtain ⟨hR, hgd, hgx, hqs, hxs, hqu⟩ := hu
    refine br_t rfl (yw_239 (c := c) (xs := rn_xs E) h24 hR.1.2.2.2.2.1 hgx (hlen E he) ?_)
    refine ko h0 hn' E he _ ?_
    have hRs : ry_R (ab_sL (ab_ten c 4 c.sl) c.sl [] []) (c.N + 1) (gC, gA, gH, gP, gN, gS, gx, gd, go, bKd, bLn, bLv, bSt, bCa, bPl, bSn, bPf, bPn, bLs, upd (upd bLe 1 0) 2 0, bGv, bXs, bSk, bSl, bOu, bAs, bTb, bTn) := by
      refine ry_sL (c := ab_ten c 4 c.sl) hR (rx_ln hR.2.1 ?_) (rx_ln (rx_l0 bLs 64) ?_) (rx_ln (rx_l0 bLs 128) ?_)
      · rw [pk_un (by decide), pk_un (by decide)]
      · rw [pk_un (by decide), pk_us]
      · rw [pk_us]
    refine ry_com (c := ab_sL (ab_ten c 4 c.sl) c.sl [] []) hRs (rx_ln (rx_l0 bLs 0) pk_us) (rx_ln (rx_l0 bLs 64) ?_) (rx_ln (rx_l0 bLs 128) ?_) ?_ ?_ (fun j hj => pk_un (Nat.ne_of_lt hj)) (fun i hi => zb_cpN (Or.inl hi)) ?_
    · rw [pk_un (by decide), pk_un (by decide), pk_us]
    · rw [pk_un (by decide), pk_us]
    · exact hR.2.2.2.2.2.1 c.N (Nat.lt_succ_self _)
    · intro _
      refine ⟨pk_us, zb_cpG (fun i hi => ?_)⟩
      have := hxs i hi
      rwa [Nat.zero_add] at this
    · intro x hx hk
      have hx : x < c.N := hx
      have hk : (ab_ten c 4 c.sl).kd x = 4 := hk
      rw [ab_ten_kd hx] at hk
      exact (hI.2.2.2.2.2.2.2.2.1 x hx hk).1
end
end
section
/-! owed row: theorem -/
theorem i_vc_theorem {k : Nat} {u : SX} {v : SY} (I : i_Rel k u v) (hk : k + 5 ≤ 2564) : wpX_theorem (fun r u' => wpY_theorem (fun r' v' => r' = r ∧ i_Rel (k + 5) u' v') v) u := by
  refine zz_el (P := fun u v => wpX_theorem (fun r u' => wpY_theorem (fun r' v' => r' = r ∧ i_Rel (k + 5) u' v') v) u) ?_ I
  intro fC fV fH fP fsl fll ftl fpl fN fS fh fe ft fr aSy aLb aLt aPf aGv aKd aLv aLn aVr aSt aHc aHs aPr aRm aTl aAr aPl aSk aEl aEs aEp aEx aTs aTn aTb aTz aTp aAs aAl aAv aRe gC gA gH gP gN gS gx gd go bKd bLn bLv bSt bCa bPl bSn bPf bPn bLs bLe bGv bXs bSk bSl bOu bAs bTb bTn c hI hX hY
  have rel : i_Rel (k + 5) (fC, fV, fH, fP, fsl, fll, ftl, fpl, fN, fS, fh, fe, ft, fr, aSy, aLb, aLt, aPf, aGv, aKd, aLv, aLn, aVr, aSt, aHc, aHs, aPr, aRm, aTl, aAr, aPl, aSk, aEl, aEs, aEp, aEx, aTs, aTn, aTb, aTz, aTp, aAs, aAl, aAv, aRe) (gC, gA, gH, gP, gN, gS, gx, gd, go, bKd, bLn, bLv, bSt, bCa, bPl, bSn, bPf, bPn, bLs, bLe, bGv, bXs, bSk, bSl, bOu, bAs, bTb, bTn) := ⟨c, hI, hX, hY⟩
  have hI1 : ab_I (ab_ten c 4 c.sl) := ab_ten_I hI
  refine xw_thm hI hX (fun h0 => ?_) (fun h0 e1 e2 => ?_) (fun h0 hn e he u' hu => ?_) (fun h0 hn E he hG u' hu => ?_)
  · exact zz_thm0 hI hY h0 ⟨rfl, rel⟩
  · exact zz_thm1 hI hY h0 e1 e2 ⟨rfl, rel⟩
  · refine yw_thm hI hY (fun E hE => absurd (hE.symm.trans he) (fun z => nomatch z)) (fun z => absurd h0 z) (fun _ a b => absurd ⟨a, b⟩ hn) (fun _ _ e' he' v' hv => ?_) (fun _ _ E hE => absurd (hE.symm.trans he) (fun z => nomatch z))
    have ee : e' = e := by
      rw [he] at he'
      cases he'
      rfl
    exact ⟨ee, ab_ten c 4 c.sl, hI1, rx_dn (Nat.le_succ _) _ hu, ry_dn (Nat.le_succ _) _ hv⟩
  · have hP : c.P ≤ 96 := hI.1.2.2.2.2.2.2.2.1
    have hlE : (rn_xs E).length ≤ 96 := Nat.le_trans hG.2.2.2 hP
    have hbE : ∀ y, y ∈ rn_xs E → y < c.N := by
      intro y hy
      unfold rn_xs at hy
      obtain ⟨e, hE, hy⟩ := List.mem_flatMap.mp hy
      exact (hG.1 e hE).2.2.2.2.2.2 y hy
    have same : ∀ E', rn_out (ab_ten c 4 c.sl) = .ok E' → E' = E := by
      intro E' h
      rw [he] at h
      cases h
      rfl
    refine yw_thm hI hY (fun E' h => by rw [same E' h]; exact hlE) (fun z => absurd h0 z) (fun _ a b => absurd ⟨a, b⟩ hn) (fun _ _ e' he' => absurd (he'.symm.trans he) (fun z => nomatch z)) (fun _ _ E' hE' v' hv => ?_)
    rw [same E' hE'] at hv
    exact ⟨rfl, ab_thm c (rn_xs E), ab_thm_I hI h0 ⟨hlE, hbE⟩, hu, hv⟩
end
