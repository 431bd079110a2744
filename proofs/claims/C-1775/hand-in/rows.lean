section
/-! part 01: rows pasted from kit/rows (PURE-ROWS, BITS) -/
theorem pk_us {f : Nat → Int32} {k : Nat} {x : Int32} : upd f k x k = x := if_pos rfl
theorem pk_un {f : Nat → Int32} {k j : Nat} {x : Int32} (h : j ≠ k) : upd f k x j = f j := if_neg h
theorem pk_sub {a b : Nat} (h : b ≤ a) : nI a - nI b = nI (a - b) := by
  obtain ⟨c, rfl⟩ : ∃ c, a = c + b := ⟨a - b, by omega⟩
  rw [← nI_add, Int32.add_sub_cancel, Nat.add_sub_cancel]
theorem pk_m1 (n : Nat) : nI (n + 1) + (-1) = nI n := by
  rw [← nI_1, Int32.add_assoc, show (1 : Int32) + (-1) = 0 from rfl, Int32.add_zero]
theorem pk_mul (a b : Nat) : nI a * nI b = nI (a * b) := (Int32.ofNat_mul a b).symm
theorem pk_div {a d : Nat} (ha : a < 2 ^ 31) (h0 : 0 < d) (hd : d < 2 ^ 31) : nI a / nI d = nI (a / d) := by
  apply Int32.toInt_inj.mp
  rw [lg_idiv_nonneg (by rw [nI_toInt ha]; omega) (by rw [nI_toInt hd]; omega), nI_toInt ha, nI_toInt hd, nI_toInt (Nat.lt_of_le_of_lt (Nat.div_le_self a d) ha)]
  first | rfl | exact (Int.natCast_ediv _ _).symm
theorem pk_rem {a d : Nat} (ha : a < 2 ^ 31) (h0 : 0 < d) (hd : d < 2 ^ 31) : nI a - nI a / nI d * nI d = nI (a % d) := by
  rw [pk_div ha h0 hd, pk_mul, pk_sub (Nat.div_mul_le_self a d)]
  exact congrArg nI (by have := Nat.div_add_mod' a d; omega)
theorem pk_sub_toInt {a b : Nat} (ha : a < 2 ^ 30) (hb : b < 2 ^ 30) : (nI a - nI b).toInt = (a : Int) - b := by
  rw [Int32.toInt_sub, nI_toInt (by omega), nI_toInt (by omega)]
  exact Int.bmod_eq_of_le (by omega) (by omega)
theorem pk_sneg {a b : Nat} (hb : b < 2 ^ 30) (h : a < b) : nI a - nI b < 0 := by
  rw [Int32.lt_iff_toInt_lt, pk_sub_toInt (by omega) hb, show (0 : Int32).toInt = 0 from by decide]
  omega
theorem pk_ix (x : Int32) {n : Nat} (hn : n < 2 ^ 31) : x < 0 ∨ nI n ≤ x ∨ ∃ j : Nat, j < n ∧ x = nI j := by
  by_cases h : x < 0
  · exact Or.inl h
  · obtain ⟨j, hj, rfl⟩ := nI_of h
    by_cases h2 : j < n
    · exact Or.inr (Or.inr ⟨j, h2, rfl⟩)
    · exact Or.inr (Or.inl (nI_le (by omega) hj))
theorem pk_le {x y : Int32} {A B : Prop} (a b : Nat) (f : a ≤ b → A) (g : b < a → B) (hx : x = nI a := by rfl) (hy : y = nI b := by rfl) (ha : a < 2 ^ 31 := by omega) (hb : b < 2 ^ 31 := by omega) : (x ≤ y → A) ∧ (¬ x ≤ y → B) := by
  subst hx hy
  rw [nI_leI ha hb]
  exact ⟨f, fun z => g (by omega)⟩
theorem pk_lt {x y : Int32} {A B : Prop} (a b : Nat) (f : a < b → A) (g : b ≤ a → B) (hx : x = nI a := by rfl) (hy : y = nI b := by rfl) (ha : a < 2 ^ 31 := by omega) (hb : b < 2 ^ 31 := by omega) : (x < y → A) ∧ (¬ x < y → B) := by
  subst hx hy
  rw [nI_ltI ha hb]
  exact ⟨f, fun z => g (by omega)⟩
theorem pk_eq {x y : Int32} {A B : Prop} (a b : Nat) (f : a = b → A) (g : a ≠ b → B) (hx : x = nI a := by rfl) (hy : y = nI b := by rfl) (ha : a < 2 ^ 31 := by omega) (hb : b < 2 ^ 31 := by omega) : (x = y → A) ∧ (¬ x = y → B) := by
  subst hx hy
  rw [nI_eq ha hb]
  exact ⟨f, g⟩
theorem pk_in {x : Int32} (n N : Nat) (h : n < N) (hx : x = nI n := by rfl) (hN : N < 2 ^ 31 := by omega) : vp_in x N := by
  subst hx
  exact vp_in_nI h hN
theorem pk_cl {x : Int32} (n : Nat) (hx : x = nI n := by rfl) (h : n < 2 ^ 31 := by omega) : x.toNatClampNeg = n := by
  subst hx
  exact nI_clamp h
theorem pk_tn {n : Nat} (h : n < 2 ^ 32) : (nI n).toBitVec.toNat = n := Nat.mod_eq_of_lt h
theorem pk_vb (z : Int32) : vp_nar .byte z.toInt8.toInt32 = z.toInt8.toInt32 := by rw [vp_nar_byte]; simp
def bt (x : Int32) (i : Nat) : Bool := x.toBitVec.getLsbD i
theorem b_ext {x y : Int32} (h : ∀ i, i < 32 → bt x i = bt y i) : x = y := Int32.toBitVec_inj.mp (BitVec.eq_of_getLsbD_eq (fun i hi => h i hi))
theorem b_or (x y : Int32) (i : Nat) : bt (x ||| y) i = (bt x i || bt y i) := by unfold bt; rw [Int32.toBitVec_or, BitVec.getLsbD_or]
theorem b_and (x y : Int32) (i : Nat) : bt (x &&& y) i = (bt x i && bt y i) := by unfold bt; rw [Int32.toBitVec_and, BitVec.getLsbD_and]
theorem b_xor (x y : Int32) (i : Nat) : bt (x ^^^ y) i = (bt x i ^^ bt y i) := by unfold bt; rw [Int32.toBitVec_xor, BitVec.getLsbD_xor]
theorem b_big {x : Int32} {i : Nat} (h : 32 ≤ i) : bt x i = false := BitVec.getLsbD_of_ge _ _ h
theorem b_255 (i : Nat) : bt 255 i = decide (i < 8) := by
  rcases Nat.lt_or_ge i 32 with h | h
  · exact (by decide +kernel : ∀ i, i < 32 → bt 255 i = decide (i < 8)) i h
  · rw [b_big h, decide_eq_false (by omega)]
theorem b_65535 (i : Nat) : bt 65535 i = decide (i < 16) := by
  rcases Nat.lt_or_ge i 32 with h | h
  · exact (by decide +kernel : ∀ i, i < 32 → bt 65535 i = decide (i < 16)) i h
  · rw [b_big h, decide_eq_false (by omega)]
theorem b_m1 : ∀ i, i < 32 → bt (-1) i = true := by decide +kernel
theorem b_0 (i : Nat) : bt 0 i = false := BitVec.getLsbD_zero
theorem s_l : ∀ n, n < 32 → ((nI n &&& 31).toBitVec.smod 32).toNat = n := by decide +kernel
theorem s_u : ∀ n, n < 32 → (((nI n).toUInt32 &&& Int32.toUInt32 31).toBitVec % 32).toNat = n := by decide +kernel
theorem b_shl (n : Nat) (hn : n < 32) (x : Int32) {i : Nat} (hi : i < 32) : bt (x <<< (nI n &&& 31)) i = (decide (n ≤ i) && bt x (i - n)) := by
  unfold bt
  rw [Int32.toBitVec_shiftLeft]
  show (x.toBitVec <<< ((nI n &&& 31).toBitVec.smod 32).toNat).getLsbD i = _
  rw [s_l n hn, BitVec.getLsbD_shiftLeft]
  rcases Nat.lt_or_ge i n with h | h
  · simp [h, Nat.not_le.mpr h]
  · simp [hi, h, Nat.not_lt.mpr h]
theorem b_ushr (n : Nat) (hn : n < 32) (x : Int32) (i : Nat) : bt ((x.toUInt32 >>> ((nI n).toUInt32 &&& Int32.toUInt32 31)).toInt32) i = bt x (n + i) := by
  show (x.toUInt32 >>> ((nI n).toUInt32 &&& Int32.toUInt32 31)).toBitVec.getLsbD i = x.toUInt32.toBitVec.getLsbD (n + i)
  rw [UInt32.toBitVec_shiftRight]
  show (x.toUInt32.toBitVec >>> (((nI n).toUInt32 &&& Int32.toUInt32 31).toBitVec % 32).toNat).getLsbD i = _
  rw [s_u n hn, BitVec.getLsbD_ushiftRight]
theorem b_sshr (n : Nat) (hn : n < 32) (x : Int32) {i : Nat} (hi : i < 32) : bt (x >>> (nI n &&& 31)) i = if n + i < 32 then bt x (n + i) else bt x 31 := by
  unfold bt
  rw [Int32.toBitVec_shiftRight]
  show (x.toBitVec.sshiftRight ((nI n &&& 31).toBitVec.smod 32).toNat).getLsbD i = _
  rw [s_l n hn, BitVec.getLsbD_sshiftRight, BitVec.msb_eq_getLsbD_last]
  simp [hi]
end
section
/-! part 02: numbers, bytes, bits, masks -/
def zq_nF (f : Nat → Nat) : Nat → Int32 := fun j => nI (f j)
def zq_un (f : Nat → Nat) (k v : Nat) : Nat → Nat := fun j => if j = k then v else f j
theorem zq_un_s {f : Nat → Nat} {k v : Nat} : zq_un f k v k = v := if_pos rfl
theorem zq_un_n {f : Nat → Nat} {k v j : Nat} (h : j ≠ k) : zq_un f k v j = f j := if_neg h
theorem zq_nF_upd (f : Nat → Nat) (k v : Nat) : upd (zq_nF f) k (nI v) = zq_nF (zq_un f k v) := by
  funext j
  unfold upd zq_nF zq_un
  by_cases h : j = k
  · rw [if_pos h, if_pos h]
  · rw [if_neg h, if_neg h]
theorem zq_nF_0 : (fun _ => (0 : Int32)) = zq_nF (fun _ => 0) := by
  funext j
  exact nI_0.symm
/-- reading a shared array at a natural place -/
theorem zq_nF_at {f : Nat → Nat} {x : Int32} (k : Nat) (hx : x = nI k) (hk : k < 2 ^ 31) : zq_nF f x.toNatClampNeg = nI (f k) := by
  rw [pk_cl k hx hk]
  rfl
theorem zq_ph_b8 : ∀ n, n < 128 → (nI n).toInt8.toInt32 = nI n := by decide +kernel
theorem zq_ph_vb {n : Nat} (h : n < 128) : vp_nar .byte (nI n).toInt8.toInt32 = nI n := by
  rw [pk_vb, zq_ph_b8 n h]
theorem zq_ph_vb0 : vp_nar .byte 0 = nI 0 := by
  rw [vp_nar_byte]
  decide
theorem zq_ph_vz0 : vp_nar .boolean 0 = 0 := by decide
theorem zq_ph_vz1 : vp_nar .boolean 1 = 1 := by decide
theorem zq_ph_sub1 {n : Nat} (h : 0 < n) : nI n - 1 = nI (n - 1) := by
  obtain ⟨k, rfl⟩ : ∃ k, n = k + 1 := ⟨n - 1, by omega⟩
  exact nI_pred k
theorem zq_ph_add1 {n : Nat} (h : 0 < n) : nI n + (-1) = nI (n - 1) := by
  obtain ⟨k, rfl⟩ : ∃ k, n = k + 1 := ⟨n - 1, by omega⟩
  exact pk_m1 k
theorem zq_ph_m1 (x : Int32) : x + (-1) = x - 1 := (Int32.sub_eq_add_neg x 1).symm
theorem zq_ph_neg : (nI 0 - 1 : Int32) < 0 := by decide
theorem zq_ph_neg1 : (nI 0 - 1 : Int32) = -1 := by decide
theorem zq_ph_mul (a b : Nat) : nI a * 24 + nI b = nI (a * 24 + b) := by
  rw [show (24 : Int32) = nI 24 from rfl, pk_mul, nI_add]
theorem zq_ph_mulY (a b : Nat) : 24 * nI a + nI b = nI (a * 24 + b) := by
  rw [show (24 : Int32) = nI 24 from rfl, pk_mul, nI_add, Nat.mul_comm]
theorem zq_ph_mulY0 (a : Nat) : 24 * nI a = nI (a * 24) := by
  rw [show (24 : Int32) = nI 24 from rfl, pk_mul, Nat.mul_comm]
theorem zq_ph_mul0 (a : Nat) : nI a * 24 = nI (a * 24) := by
  rw [show (24 : Int32) = nI 24 from rfl, pk_mul]
theorem zq_ph_mulW (a b : Nat) : nI a * 12 + nI b = nI (a * 12 + b) := by
  rw [show (12 : Int32) = nI 12 from rfl, pk_mul, nI_add]
/-! bits -/
theorem zq_ph_b1 : ∀ i, i < 32 → bt 1 i = decide (i = 0) := by decide +kernel
theorem zq_ph_sh : ∀ p, p < 32 → ∀ i, i < 32 → bt ((1 : Int32) <<< (nI p &&& 31)) i = decide (i = p) := by
  intro p hp i hi
  rw [b_shl p hp 1 hi, zq_ph_b1 (i - p) (by omega)]
  by_cases h : i = p
  · subst h
    simp
  · rw [decide_eq_false h]
    by_cases h2 : p ≤ i
    · rw [decide_eq_false (by omega : ¬ i - p = 0), Bool.and_false]
    · rw [decide_eq_false h2, Bool.false_and]
theorem zq_ph_bit (x : Int32) {e : Nat} (he : e < 32) : ((x >>> (nI e &&& 31)) &&& 1) = if bt x e = true then 1 else 0 := by
  apply b_ext
  intro i hi
  rw [b_and, b_sshr e he x hi, zq_ph_b1 i hi]
  by_cases h0 : i = 0
  · subst h0
    rw [if_pos (by omega : e + 0 < 32), Nat.add_zero, decide_eq_true rfl, Bool.and_true]
    cases bt x e
    · rw [if_neg Bool.false_ne_true, b_0]
    · rw [if_pos rfl, zq_ph_b1 0 (by omega)]
      rfl
  · rw [decide_eq_false h0, Bool.and_false]
    cases bt x e
    · rw [if_neg Bool.false_ne_true, b_0]
    · rw [if_pos rfl, zq_ph_b1 i hi, decide_eq_false h0]
theorem zq_ph_bit0 (x : Int32) {e : Nat} (he : e < 32) (h : ¬ bt x e = true) : ((x >>> (nI e &&& 31)) &&& 1) = 0 := by
  rw [zq_ph_bit x he, if_neg h]
theorem zq_ph_bit1 (x : Int32) {e : Nat} (he : e < 32) (h : bt x e = true) : ((x >>> (nI e &&& 31)) &&& 1) = 1 := by
  rw [zq_ph_bit x he, if_pos h]
theorem zq_ph_10 : ¬ (1 : Int32) = 0 := by decide
theorem zq_ph_01 : ¬ (0 : Int32) = 1 := by decide
/-- a branch on a bit: X asks '= 0', Y asks '= 1' -/
theorem zq_ph_brX {x : Int32} {e : Nat} {A B : Prop} (he : e < 32) (f : ¬ bt x e = true → A) (g : bt x e = true → B) : (((x >>> (nI e &&& 31)) &&& 1) = 0 → A) ∧ (¬ ((x >>> (nI e &&& 31)) &&& 1) = 0 → B) := by
  by_cases h : bt x e = true
  · rw [zq_ph_bit1 x he h]
    exact ⟨fun z => absurd z zq_ph_10, fun _ => g h⟩
  · rw [zq_ph_bit0 x he h]
    exact ⟨fun _ => f h, fun z => absurd rfl z⟩
theorem zq_ph_brY {x : Int32} {e : Nat} {A B : Prop} (he : e < 32) (g : bt x e = true → B) (f : ¬ bt x e = true → A) : (((x >>> (nI e &&& 31)) &&& 1) = 1 → B) ∧ (¬ ((x >>> (nI e &&& 31)) &&& 1) = 1 → A) := by
  by_cases h : bt x e = true
  · rw [zq_ph_bit1 x he h]
    exact ⟨fun _ => g h, fun z => absurd rfl z⟩
  · rw [zq_ph_bit0 x he h]
    exact ⟨fun z => absurd z zq_ph_01, fun _ => f h⟩
/-- the set of all ends below n -/
def zq_mk (n : Nat) : Int32 := ((1 : Int32) <<< (nI n &&& 31)) - 1
theorem zq_mk_2 : ∀ f, f < 24 → ((2 : Int32) <<< (nI f &&& 31)) - 1 = zq_mk (f + 1) := by decide +kernel
def zq_mx (a b : Nat) : Nat := if a ≤ b then b else a
theorem zq_mk_or : ∀ a, a < 25 → ∀ b, b < 25 → zq_mk a ||| zq_mk b = zq_mk (zq_mx a b) := by decide +kernel
theorem zq_mk_0 : zq_mk 0 = 0 := by decide
theorem zq_mx_lt {a b n : Nat} (ha : a < n) (hb : b < n) : zq_mx a b < n := by
  unfold zq_mx
  split
  · exact hb
  · exact ha
theorem zq_mx_le : ∀ a, a < 25 → ∀ b, b < 25 → ((nI a - 1 ≤ nI b - 1) ↔ a ≤ b) := by decide +kernel
theorem zq_ph_or0 (x : Int32) : x ||| 0 = x := by
  apply b_ext
  intro i _
  rw [b_or, b_0, Bool.or_false]
theorem zq_ph_or0' (x : Int32) : 0 ||| x = x := by
  apply b_ext
  intro i _
  rw [b_or, b_0, Bool.false_or]
theorem zq_ph_ors (x y : Int32) : (x ||| y) ||| y = x ||| y := by
  apply b_ext
  intro i _
  rw [b_or, b_or]
  cases bt x i <;> cases bt y i <;> rfl
theorem zq_ph_orz {x y : Int32} : x ||| y = 0 ↔ x = 0 ∧ y = 0 := by
  constructor
  · intro h
    have k : ∀ i, (bt x i || bt y i) = false := by
      intro i
      rw [← b_or, h, b_0]
    constructor
    · apply b_ext
      intro i _
      have := k i
      rw [b_0]
      cases hx : bt x i
      · rfl
      · rw [hx] at this
        exact this
    · apply b_ext
      intro i _
      have := k i
      rw [b_0]
      cases hx : bt y i
      · rfl
      · rw [hx, Bool.or_true] at this
        exact this
  · rintro ⟨rfl, rfl⟩
    exact zq_ph_or0 0
/-- an 'if' over any proposition, as an int -/
noncomputable def zq_bI (p : Prop) : Int32 := @ite _ p (Classical.propDecidable p) 1 0
theorem zq_bI_t {p : Prop} (h : p) : zq_bI p = 1 := by
  unfold zq_bI
  exact if_pos h
theorem zq_bI_f {p : Prop} (h : ¬ p) : zq_bI p = 0 := by
  unfold zq_bI
  exact if_neg h
theorem zq_bI_c {p q : Prop} (h : p ↔ q) : zq_bI p = zq_bI q := by
  rw [propext h]
/-- a branch on it -/
theorem zq_bI_br {p A B : Prop} (f : ¬ p → A) (g : p → B) : (zq_bI p = 0 → A) ∧ (¬ zq_bI p = 0 → B) := by
  by_cases h : p
  · rw [zq_bI_t h]
    exact ⟨fun z => absurd z zq_ph_10, fun _ => g h⟩
  · rw [zq_bI_f h]
    exact ⟨fun _ => f h, fun z => absurd rfl z⟩
theorem zq_bI_br1 {p A B : Prop} (g : p → B) (f : ¬ p → A) : (zq_bI p = 1 → B) ∧ (¬ zq_bI p = 1 → A) := by
  by_cases h : p
  · rw [zq_bI_t h]
    exact ⟨fun _ => g h, fun z => absurd rfl z⟩
  · rw [zq_bI_f h]
    exact ⟨fun z => absurd z zq_ph_01, fun _ => f h⟩
theorem zq_bI_vb (p : Prop) : vp_nar .boolean (zq_bI p) = zq_bI p := by
  by_cases h : p
  · rw [zq_bI_t h]
    exact zq_ph_vz1
  · rw [zq_bI_f h]
    exact zq_ph_vz0
end
section
/-! part 03: the query as the beginning of a tree, in lists -/
def zq_pt (t : Nat) : Nat := if t < 12 then 0 else if t < 22 then 2 else 1
def zq_ck (t : Nat) : Nat := if t < 20 then 2 else if t < 23 then 1 else 2
def zq_okT (c t : Nat) : Prop := (c = 1 ∧ 20 ≤ t ∧ t < 24) ∨ (c = 2 ∧ t < 19)
theorem zq_pt_3 (t : Nat) : zq_pt t = 0 ∨ zq_pt t = 1 ∨ zq_pt t = 2 := by
  unfold zq_pt
  split
  · exact Or.inl rfl
  · split
    · exact Or.inr (Or.inr rfl)
    · exact Or.inr (Or.inl rfl)
theorem zq_pt_le (t : Nat) : zq_pt t ≤ 2 := by
  rcases zq_pt_3 t with h | h | h <;> omega
theorem zq_ck_2 (t : Nat) : zq_ck t = 1 ∨ zq_ck t = 2 := by
  unfold zq_ck
  split
  · exact Or.inr rfl
  · split
    · exact Or.inl rfl
    · exact Or.inr rfl
/-- j copies of c on top -/
def zq_pu (c : Nat) : Nat → List Nat → List Nat
  | 0, L => L
  | j + 1, L => zq_pu c j (c :: L)
theorem zq_pu_s (c : Nat) : ∀ (j : Nat) (L : List Nat), zq_pu c (j + 1) L = c :: zq_pu c j L := by
  intro j
  induction j with
  | zero => intro L; rfl
  | succ j ih =>
    intro L
    show zq_pu c (j + 1) (c :: L) = c :: zq_pu c j (c :: L)
    exact ih (c :: L)
theorem zq_pu_len (c : Nat) : ∀ (j : Nat) (L : List Nat), (zq_pu c j L).length = j + L.length := by
  intro j
  induction j with
  | zero => intro L; show L.length = 0 + L.length; omega
  | succ j ih =>
    intro L
    show (zq_pu c j (c :: L)).length = _
    rw [ih, List.length_cons]
    omega
/-- what is due behind k tokens: 1 a condition, 2 a span; the next one is the head -/
def zq_du (q : Nat → Nat) : Nat → List Nat
  | 0 => [1]
  | k + 1 => zq_pu (zq_ck (q k)) (zq_pt (q k)) (zq_du q k).tail
def zq_Va (q : Nat → Nat) (m : Nat) : Prop := ∀ k, k < m → ∃ c r, zq_du q k = c :: r ∧ zq_okT c (q k)
theorem zq_du_len (q : Nat → Nat) : ∀ k, (zq_du q k).length ≤ k + 1 := by
  intro k
  induction k with
  | zero => exact Nat.le_refl 1
  | succ k ih =>
    show (zq_pu (zq_ck (q k)) (zq_pt (q k)) (zq_du q k).tail).length ≤ _
    rw [zq_pu_len, List.length_tail]
    have := zq_pt_le (q k)
    omega
theorem zq_du_congr {q q' : Nat → Nat} : ∀ k, (∀ j, j < k → q j = q' j) → zq_du q k = zq_du q' k := by
  intro k
  induction k with
  | zero => intro _; rfl
  | succ k ih =>
    intro h
    show zq_pu (zq_ck (q k)) (zq_pt (q k)) (zq_du q k).tail = zq_pu (zq_ck (q' k)) (zq_pt (q' k)) (zq_du q' k).tail
    rw [h k (by omega), ih (fun j hj => h j (by omega))]
theorem zq_Va_less {q : Nat → Nat} {m n : Nat} (h : zq_Va q m) (hn : n ≤ m) : zq_Va q n := fun k hk => h k (by omega)
theorem zq_Va_0 (q : Nat → Nat) : zq_Va q 0 := fun k hk => absurd hk (by omega)
theorem zq_Va_more {q : Nat → Nat} {m t c : Nat} {r : List Nat} (h : zq_Va q m) (hd : zq_du q m = c :: r) (ht : zq_okT c t) : zq_Va (zq_un q m t) (m + 1) := by
  intro k hk
  have e : zq_du (zq_un q m t) k = zq_du q k := zq_du_congr k (fun j hj => zq_un_n (by omega))
  rw [e]
  by_cases hkm : k = m
  · subst hkm
    exact ⟨c, r, hd, by rw [zq_un_s]; exact ht⟩
  · rw [zq_un_n hkm]
    exact h k (by omega)
/-- the tokens that X holds as wanting parts: the token's place and what it still wants, the last one ahead -/
def zq_at1 : List (Nat × Nat) → List (Nat × Nat)
  | [] => []
  | (k, w) :: r => if w = 1 then r else (k, w - 1) :: r
theorem zq_at1_c (k w : Nat) (r : List (Nat × Nat)) : zq_at1 ((k, w) :: r) = if w = 1 then r else (k, w - 1) :: r := rfl
theorem zq_at1_1 {k w : Nat} {r : List (Nat × Nat)} (h : w = 1) : zq_at1 ((k, w) :: r) = r := (zq_at1_c k w r).trans (if_pos h)
theorem zq_at1_2 {k w : Nat} {r : List (Nat × Nat)} (h : ¬ w = 1) : zq_at1 ((k, w) :: r) = (k, w - 1) :: r := (zq_at1_c k w r).trans (if_neg h)
def zq_op (q : Nat → Nat) : Nat → List (Nat × Nat)
  | 0 => []
  | k + 1 => if zq_pt (q k) = 0 then zq_at1 (zq_op q k) else (k, zq_pt (q k)) :: zq_at1 (zq_op q k)
def zq_Dk (q : Nat → Nat) : Nat → List (Nat × Nat) → Prop
  | _, [] => True
  | b, (k, w) :: r => k < b ∧ 1 ≤ w ∧ w ≤ zq_pt (q k) ∧ zq_Dk q k r
theorem zq_Dk_mono {q : Nat → Nat} {b b' : Nat} (hb : b ≤ b') : ∀ {L : List (Nat × Nat)}, zq_Dk q b L → zq_Dk q b' L
  | [], _ => trivial
  | (_, _) :: _, h => ⟨Nat.lt_of_lt_of_le h.1 hb, h.2⟩
theorem zq_Dk_at1 {q : Nat → Nat} {b : Nat} : ∀ {L : List (Nat × Nat)}, zq_Dk q b L → zq_Dk q b (zq_at1 L)
  | [], _ => trivial
  | (k, w) :: r, h => by
    obtain ⟨h1, h2, h3, h4⟩ := h
    show zq_Dk q b (if w = 1 then r else (k, w - 1) :: r)
    by_cases hw : w = 1
    · rw [if_pos hw]
      exact zq_Dk_mono (by omega) h4
    · rw [if_neg hw]
      exact ⟨h1, by omega, by omega, h4⟩
theorem zq_Dk_op (q : Nat → Nat) : ∀ k, zq_Dk q k (zq_op q k) := by
  intro k
  induction k with
  | zero => exact trivial
  | succ k ih =>
    show zq_Dk q (k + 1) (if zq_pt (q k) = 0 then zq_at1 (zq_op q k) else (k, zq_pt (q k)) :: zq_at1 (zq_op q k))
    by_cases h : zq_pt (q k) = 0
    · rw [if_pos h]
      exact zq_Dk_mono (by omega) (zq_Dk_at1 ih)
    · rw [if_neg h]
      exact ⟨by omega, by omega, by omega, zq_Dk_at1 ih⟩
theorem zq_Dk_len {q : Nat → Nat} : ∀ {L : List (Nat × Nat)} {b : Nat}, zq_Dk q b L → L.length ≤ b
  | [], _, _ => Nat.zero_le _
  | (k, w) :: r, b, h => by
    have := zq_Dk_len h.2.2.2
    have := h.1
    rw [List.length_cons]
    omega
theorem zq_op_len (q : Nat → Nat) (k : Nat) : (zq_op q k).length ≤ k := zq_Dk_len (zq_Dk_op q k)
/-- no key k in the list -/
def zq_Nk (k : Nat) : List (Nat × Nat) → Prop
  | [] => True
  | (j, _) :: r => j ≠ k ∧ zq_Nk k r
theorem zq_Nk_at1 {k : Nat} : ∀ {L : List (Nat × Nat)}, zq_Nk k L → zq_Nk k (zq_at1 L)
  | [], _ => trivial
  | (j, w) :: r, h => by
    show zq_Nk k (if w = 1 then r else (j, w - 1) :: r)
    by_cases hw : w = 1
    · rw [if_pos hw]
      exact h.2
    · rw [if_neg hw]
      exact ⟨h.1, h.2⟩
theorem zq_Nk_of_Dk {q : Nat → Nat} {k : Nat} : ∀ {L : List (Nat × Nat)} {b : Nat}, zq_Dk q b L → b ≤ k → zq_Nk k L
  | [], _, _, _ => trivial
  | (j, w) :: r, b, h, hb => ⟨by have := h.1; omega, zq_Nk_of_Dk h.2.2.2 (by have := h.1; omega)⟩
theorem zq_op_s (q : Nat → Nat) (k : Nat) : zq_op q (k + 1) = if zq_pt (q k) = 0 then zq_at1 (zq_op q k) else (k, zq_pt (q k)) :: zq_at1 (zq_op q k) := rfl
/-- a token that got its last part does not come back -/
theorem zq_op_gone {q : Nat → Nat} {y k : Nat} {r : List (Nat × Nat)} (h : zq_op q y = (k, 1) :: r) : ∀ d, zq_Nk k (zq_op q (y + 1 + d)) := by
  have hD := zq_Dk_op q y
  rw [h] at hD
  intro d
  induction d with
  | zero =>
    show zq_Nk k (zq_op q (y + 1))
    rw [zq_op_s, h]
    have hr : zq_at1 ((k, 1) :: r) = r := zq_at1_1 rfl
    have hN : zq_Nk k r := zq_Nk_of_Dk hD.2.2.2 (Nat.le_refl _)
    rw [hr]
    by_cases hp : zq_pt (q y) = 0
    · rw [if_pos hp]
      exact hN
    · rw [if_neg hp]
      exact ⟨by have := hD.1; omega, hN⟩
  | succ d ih =>
    show zq_Nk k (zq_op q (y + 1 + d + 1))
    rw [zq_op_s]
    by_cases hp : zq_pt (q (y + 1 + d)) = 0
    · rw [if_pos hp]
      exact zq_Nk_at1 ih
    · rw [if_neg hp]
      exact ⟨by have := hD.1; omega, zq_Nk_at1 ih⟩
theorem zq_op_top {q : Nat → Nat} {k w : Nat} {r : List (Nat × Nat)} (h : zq_op q (k + 1) = (k, w) :: r) : w = zq_pt (q k) := by
  rw [zq_op_s] at h
  by_cases hp : zq_pt (q k) = 0
  · rw [if_pos hp] at h
    have := zq_Dk_at1 (zq_Dk_op q k)
    rw [h] at this
    exact absurd this.1 (by omega)
  · rw [if_neg hp] at h
    injection h with h1 h2
    injection h1 with h3 h4
    exact h4.symm
/-- the second parts as they are known ahead of token x -/
def zq_Sv (q : Nat → Nat) (x : Nat) (se : Nat → Int32) : Prop := ∀ y, y < x → ∀ k r, zq_op q y = (k, 1) :: r → zq_pt (q k) = 2 → se k = nI y
theorem zq_Sv_0 (q : Nat → Nat) (se : Nat → Int32) : zq_Sv q 0 se := fun y hy => absurd hy (by omega)
theorem zq_Sv_nil {q : Nat → Nat} {x : Nat} {se : Nat → Int32} (h : zq_Sv q x se) (ho : zq_op q x = []) : zq_Sv q (x + 1) se := by
  intro y hy k r e hp
  by_cases hyx : y = x
  · subst hyx
    rw [ho] at e
    exact absurd e (by simp)
  · exact h y (by omega) k r e hp
theorem zq_Sv_same {q : Nat → Nat} {k0 w0 : Nat} {r0 : List (Nat × Nat)} {se : Nat → Int32} (h : zq_Sv q (k0 + 1) se) (ho : zq_op q (k0 + 1) = (k0, w0) :: r0) : zq_Sv q (k0 + 1 + 1) se := by
  intro y hy k r e hp
  by_cases hyx : y = k0 + 1
  · subst hyx
    rw [ho] at e
    injection e with e1 e2
    injection e1 with e3 e4
    have := zq_op_top ho
    rw [e3] at this
    omega
  · exact h y (by omega) k r e hp
theorem zq_Sv_put {q : Nat → Nat} {x k0 w0 : Nat} {r0 : List (Nat × Nat)} {se : Nat → Int32} (h : zq_Sv q x se) (ho : zq_op q x = (k0, w0) :: r0) : zq_Sv q (x + 1) (upd se k0 (nI x)) := by
  intro y hy k r e hp
  by_cases hyx : y = x
  · subst hyx
    rw [ho] at e
    injection e with e1 e2
    injection e1 with e3 e4
    rw [e3]
    exact pk_us
  · have hg := zq_op_gone e (x - (y + 1))
    rw [show y + 1 + (x - (y + 1)) = x by omega, ho] at hg
    rw [pk_un (by have := hg.1; omega)]
    exact h y (by omega) k r e hp
/-! what X holds as wanting is what is due -/
def zq_fl (q : Nat → Nat) : List (Nat × Nat) → List Nat
  | [] => []
  | (k, w) :: r => zq_pu (zq_ck (q k)) w (zq_fl q r)
theorem zq_fl_at1 {q : Nat → Nat} {b : Nat} : ∀ {L : List (Nat × Nat)}, zq_Dk q b L → zq_fl q (zq_at1 L) = (zq_fl q L).tail
  | [], _ => rfl
  | (k, w) :: r, h => by
    show zq_fl q (if w = 1 then r else (k, w - 1) :: r) = (zq_pu (zq_ck (q k)) w (zq_fl q r)).tail
    by_cases hw : w = 1
    · rw [if_pos hw, hw]
      rfl
    · rw [if_neg hw]
      obtain ⟨v, rfl⟩ : ∃ v, w = v + 1 := ⟨w - 1, by have := h.2.1; omega⟩
      rw [zq_pu_s]
      rfl
theorem zq_fl_tail (q : Nat → Nat) : ∀ k, zq_fl q (zq_at1 (zq_op q k)) = (zq_du q k).tail ∧ zq_fl q (zq_op q (k + 1)) = zq_du q (k + 1) := by
  intro k
  have step : ∀ k, zq_fl q (zq_at1 (zq_op q k)) = (zq_du q k).tail → zq_fl q (zq_op q (k + 1)) = zq_du q (k + 1) := by
    intro k h
    rw [zq_op_s]
    show _ = zq_pu (zq_ck (q k)) (zq_pt (q k)) (zq_du q k).tail
    by_cases hp : zq_pt (q k) = 0
    · rw [if_pos hp, hp, h]
      rfl
    · rw [if_neg hp, ← h]
      rfl
  induction k with
  | zero => exact ⟨rfl, step 0 rfl⟩
  | succ k ih =>
    have h1 : zq_fl q (zq_at1 (zq_op q (k + 1))) = (zq_du q (k + 1)).tail := by
      rw [zq_fl_at1 (zq_Dk_op q (k + 1)), ih.2]
    exact ⟨h1, step (k + 1) h1⟩
theorem zq_fl_op (q : Nat → Nat) {k : Nat} (hk : 1 ≤ k) : zq_fl q (zq_op q k) = zq_du q k := by
  obtain ⟨j, rfl⟩ : ∃ j, k = j + 1 := ⟨k - 1, by omega⟩
  exact (zq_fl_tail q j).2
theorem zq_op_cons {q : Nat → Nat} {k j w : Nat} {r : List (Nat × Nat)} (h : zq_op q k = (j, w) :: r) : ∃ R, zq_du q k = zq_ck (q j) :: R := by
  have hk : 1 ≤ k := by
    rcases Nat.eq_zero_or_pos k with h0 | h0
    · subst h0
      exact absurd h (by show ¬ ([] = _); simp)
    · exact h0
  have hD := zq_Dk_op q k
  rw [h] at hD
  rw [← zq_fl_op q hk, h]
  obtain ⟨v, rfl⟩ : ∃ v, w = v + 1 := ⟨w - 1, by have := hD.2.1; omega⟩
  exact ⟨_, zq_pu_s _ _ _⟩
theorem zq_op_nil {q : Nat → Nat} {k : Nat} (hk : 1 ≤ k) (h : zq_op q k = []) : zq_du q k = [] := by
  rw [← zq_fl_op q hk, h]
  rfl
end
section
/-! part 04: the reference's stack from the right, and the second parts -/
def zq_La (q : Nat → Nat) (m k a : Nat) : Prop := k < a ∧ a < m ∧ ∃ r, zq_op q a = (k, 1) :: r
def zq_Fil (q : Nat → Nat) (m : Nat) : List (Nat × Nat) → List Nat → Prop
  | [], K => K = []
  | (k, w) :: r, K => (w = 1 ∧ ∃ a K1, K = a :: K1 ∧ zq_La q m k a ∧ zq_Fil q m r K1) ∨ (w = 2 ∧ ∃ a b K1, K = a :: b :: K1 ∧ zq_La q m k b ∧ zq_Fil q m r K1)
theorem zq_Fil_push {q : Nat → Nat} {m x : Nat} {L : List (Nat × Nat)} {K : List Nat} (h : zq_Fil q m (if zq_pt (q x) = 0 then L else (x, zq_pt (q x)) :: L) K) : zq_Fil q m L (K.drop (zq_pt (q x))) := by
  rcases zq_pt_3 (q x) with hp | hp | hp
  · rw [if_pos hp] at h
    rw [hp]
    exact h
  · rw [hp] at h ⊢
    rw [if_neg (by omega)] at h
    rcases h with ⟨_, a, K1, e, _, h⟩ | ⟨h, _⟩
    · rw [e]
      exact h
    · omega
  · rw [hp] at h ⊢
    rw [if_neg (by omega)] at h
    rcases h with ⟨h, _⟩ | ⟨_, a, b, K1, e, _, h⟩
    · omega
    · rw [e]
      exact h
theorem zq_Fil_step {q : Nat → Nat} {m x : Nat} {K : List Nat} (hv : zq_Va q m) (hx : 1 ≤ x) (hm : x < m) (h : zq_Fil q m (zq_op q (x + 1)) K) : zq_Fil q m (zq_op q x) (x :: K.drop (zq_pt (q x))) := by
  have h' := zq_Fil_push h
  have hD := zq_Dk_op q x
  cases hL : zq_op q x with
  | nil =>
    obtain ⟨c, r, e, _⟩ := hv x hm
    rw [zq_op_nil hx hL] at e
    exact absurd e (by simp)
  | cons p r =>
    obtain ⟨k, w⟩ := p
    rw [hL] at h' hD
    have hla : w = 1 → zq_La q m k x := fun hw => ⟨hD.1, hm, r, by rw [hL, hw]⟩
    have hw2 : w = 1 ∨ w = 2 := by
      have := hD.2.1
      have := hD.2.2.1
      have := zq_pt_le (q k)
      omega
    rcases hw2 with hw | hw
    · rw [zq_at1_1 hw] at h'
      exact Or.inl ⟨hw, x, _, rfl, hla hw, h'⟩
    · rw [zq_at1_2 (by omega)] at h'
      rcases h' with ⟨_, a, K1, e, hl, hf⟩ | ⟨hh, _⟩
      · exact Or.inr ⟨hw, x, a, K1, by rw [e], hl, hf⟩
      · omega
def zq_ks (q : Nat → Nat) (m : Nat) : Nat → List Nat
  | 0 => []
  | d + 1 => (m - (d + 1)) :: (zq_ks q m d).drop (zq_pt (q (m - (d + 1))))
/-- the stack when the tokens from x on have been done -/
def zq_Kx (q : Nat → Nat) (m x : Nat) : List Nat := zq_ks q m (m - x)
theorem zq_Kx_m (q : Nat → Nat) (m : Nat) : zq_Kx q m m = [] := by
  unfold zq_Kx
  rw [Nat.sub_self]
  rfl
theorem zq_Kx_s (q : Nat → Nat) {m x : Nat} (h : x < m) : zq_Kx q m x = x :: (zq_Kx q m (x + 1)).drop (zq_pt (q x)) := by
  unfold zq_Kx
  obtain ⟨d, hd⟩ : ∃ d, m - x = d + 1 := ⟨m - x - 1, by omega⟩
  rw [hd, show m - (x + 1) = d by omega]
  show (m - (d + 1)) :: (zq_ks q m d).drop (zq_pt (q (m - (d + 1)))) = _
  rw [show m - (d + 1) = x by omega]
theorem zq_ks_len (q : Nat → Nat) (m : Nat) : ∀ d, (zq_ks q m d).length ≤ d := by
  intro d
  induction d with
  | zero => exact Nat.le_refl 0
  | succ d ih =>
    show ((m - (d + 1)) :: (zq_ks q m d).drop (zq_pt (q (m - (d + 1))))).length ≤ d + 1
    rw [List.length_cons, List.length_drop]
    omega
theorem zq_Kx_len (q : Nat → Nat) (m x : Nat) : (zq_Kx q m x).length ≤ m - x := zq_ks_len q m (m - x)
theorem zq_Kx_fil {q : Nat → Nat} {m : Nat} (hv : zq_Va q m) (hc : zq_op q m = []) : ∀ d x, x + d = m → 1 ≤ x → zq_Fil q m (zq_op q x) (zq_Kx q m x) := by
  intro d
  induction d with
  | zero =>
    intro x hx _
    rw [show x = m by omega, hc, zq_Kx_m]
    exact rfl
  | succ d ih =>
    intro x hx h1
    rw [zq_Kx_s q (by omega : x < m)]
    exact zq_Fil_step hv h1 (by omega) (ih (x + 1) (by omega) (by omega))
/-- the place of the second part of k -/
def zq_sec (q : Nat → Nat) (m k : Nat) : Nat := (zq_Kx q m (k + 1)).getD 1 0
theorem zq_ch_next {q : Nat → Nat} {m k : Nat} (hv : zq_Va q m) (hc : zq_op q m = []) (hk : k < m) (hp : zq_pt (q k) ≠ 0) : k + 1 < m ∧ zq_okT (zq_ck (q k)) (q (k + 1)) ∧ zq_op q (k + 1) = (k, zq_pt (q k)) :: zq_at1 (zq_op q k) := by
  have e : zq_op q (k + 1) = (k, zq_pt (q k)) :: zq_at1 (zq_op q k) := by
    rw [zq_op_s, if_neg hp]
  have hm : k + 1 < m := by
    rcases Nat.lt_or_ge (k + 1) m with h | h
    · exact h
    · rw [show m = k + 1 by omega, e] at hc
      exact absurd hc (by simp)
  obtain ⟨R, hR⟩ := zq_op_cons e
  obtain ⟨c, r, h1, h2⟩ := hv (k + 1) hm
  rw [hR] at h1
  injection h1 with h3 h4
  rw [h3]
  exact ⟨hm, h2, e⟩
theorem zq_ch_one {q : Nat → Nat} {m k : Nat} (hv : zq_Va q m) (hc : zq_op q m = []) (hk : k < m) (hp : zq_pt (q k) ≠ 0) : ∃ K1, zq_Kx q m (k + 1) = (k + 1) :: K1 := by
  obtain ⟨h1, _, _⟩ := zq_ch_next hv hc hk hp
  exact ⟨_, zq_Kx_s q h1⟩
theorem zq_ch_two {q : Nat → Nat} {m k : Nat} (hv : zq_Va q m) (hc : zq_op q m = []) (hk : k < m) (hp : zq_pt (q k) = 2) : (∃ K1, zq_Kx q m (k + 1) = (k + 1) :: zq_sec q m k :: K1) ∧ zq_La q m k (zq_sec q m k) ∧ zq_okT (zq_ck (q k)) (q (zq_sec q m k)) := by
  obtain ⟨h1, _, h3⟩ := zq_ch_next hv hc hk (by omega)
  have hf := zq_Kx_fil hv hc (m - (k + 1)) (k + 1) (by omega) (by omega)
  rw [h3, hp] at hf
  rcases hf with ⟨h, _⟩ | ⟨_, a, b, K1, e, hl, _⟩
  · omega
  · have ha : a = k + 1 := by
      have := zq_Kx_s q h1
      rw [e] at this
      injection this
    have hb : zq_sec q m k = b := by
      unfold zq_sec
      rw [e]
      rfl
    rw [hb]
    refine ⟨⟨K1, by rw [e, ha]⟩, hl, ?_⟩
    obtain ⟨_, hbm, r, hr⟩ := hl
    obtain ⟨R, hR⟩ := zq_op_cons hr
    obtain ⟨c, r', h4, h5⟩ := hv b hbm
    rw [hR] at h4
    injection h4 with h6 h7
    rw [h6]
    exact h5
theorem zq_sec_at {q : Nat → Nat} {m k : Nat} {se : Nat → Int32} (hv : zq_Va q m) (hc : zq_op q m = []) (hk : k < m) (hp : zq_pt (q k) = 2) (h : zq_Sv q m se) : se k = nI (zq_sec q m k) := by
  obtain ⟨_, ⟨_, h2, r, h3⟩, _⟩ := zq_ch_two hv hc hk hp
  exact h _ h2 k r h3 hp
theorem zq_Va_tok {q : Nat → Nat} {m k : Nat} (hv : zq_Va q m) (hk : k < m) : q k < 24 ∧ q k ≠ 19 := by
  obtain ⟨c, r, _, h⟩ := hv k hk
  rcases h with h | h <;> omega
theorem zq_Va_first {q : Nat → Nat} {m : Nat} (hv : zq_Va q m) (hm : 0 < m) : 20 ≤ q 0 := by
  obtain ⟨c, r, e, h⟩ := hv 0 hm
  have e' : [1] = c :: r := e
  injection e' with e1 e2
  rcases h with h | h <;> omega
end
section
/-! part 05: what a query works out to, token by token from the last -/
def zq_grn (x : Int32) : Nat → Nat
  | 0 => 0
  | f + 1 => if bt x f = true then f + 1 else zq_grn x f
theorem zq_grn_le (x : Int32) : ∀ n, zq_grn x n ≤ n := by
  intro n
  induction n with
  | zero => exact Nat.le_refl 0
  | succ n ih =>
    show (if bt x n = true then n + 1 else zq_grn x n) ≤ n + 1
    split
    · exact Nat.le_refl _
    · omega
theorem zq_grn_t {x : Int32} {f : Nat} (h : bt x f = true) : zq_grn x (f + 1) = f + 1 := if_pos h
theorem zq_grn_f {x : Int32} {f : Nat} (h : ¬ bt x f = true) : zq_grn x (f + 1) = zq_grn x f := if_neg h
def zq_far (B : Nat → Int32) : Nat → Nat
  | 0 => 0
  | b + 1 => zq_mx (zq_grn (B b) 24) (zq_far B b)
theorem zq_far_lt (B : Nat → Int32) : ∀ b, zq_far B b < 25 := by
  intro b
  induction b with
  | zero => show 0 < 25; omega
  | succ b ih => exact zq_mx_lt (by have := zq_grn_le (B b) 24; omega) ih
theorem zq_mx_bit {g F f : Nat} (h : g ≤ f) : zq_mx (zq_mx g F) (f + 1) = zq_mx (f + 1) F := by
  unfold zq_mx
  by_cases h1 : g ≤ F <;> by_cases h2 : f + 1 ≤ F
  · rw [if_pos h1, if_pos h2]
    by_cases h3 : F ≤ f + 1
    · rw [if_pos h3]; omega
    · rw [if_neg h3]
  · rw [if_pos h1, if_neg h2, if_pos (by omega)]
  · rw [if_neg h1, if_pos h2]
    omega
  · rw [if_neg h1, if_neg h2, if_pos (by omega)]
def zq_gf (x : Int32) (d : Nat) (B : Nat → Int32) : Nat → Int32
  | 0 => 0
  | e + 1 => if bt x e = true then zq_gf x d B e ||| B (e + d) else zq_gf x d B e
theorem zq_gf_t {x : Int32} {d e : Nat} {B : Nat → Int32} (h : bt x e = true) : zq_gf x d B (e + 1) = zq_gf x d B e ||| B (e + d) := if_pos h
theorem zq_gf_f {x : Int32} {d e : Nat} {B : Nat → Int32} (h : ¬ bt x e = true) : zq_gf x d B (e + 1) = zq_gf x d B e := if_neg h
def zq_cb (t : Nat) (A B : Nat → Int32) (b : Nat) : Int32 :=
  if t = 12 then A b ||| B b else if t = 18 then A b &&& zq_mk (zq_far B (b + 1)) else zq_gf (A b) (t - 13) B (24 - (t - 13))
theorem zq_cb_12 (A B : Nat → Int32) (b : Nat) : zq_cb 12 A B b = A b ||| B b := if_pos rfl
theorem zq_cb_18 (A B : Nat → Int32) (b : Nat) : zq_cb 18 A B b = A b &&& zq_mk (zq_far B (b + 1)) := by
  unfold zq_cb
  rw [if_neg (by omega), if_pos rfl]
theorem zq_cb_13 {t : Nat} (A B : Nat → Int32) (b : Nat) (h : t ≠ 12) (h' : t ≠ 18) : zq_cb t A B b = zq_gf (A b) (t - 13) B (24 - (t - 13)) := by
  unfold zq_cb
  rw [if_neg h, if_neg h']
def zq_ww (sz wd : Nat → Nat) (d t b : Nat) : Int32 := if b < sz d ∧ wd (d * 24 + b) = t then (1 : Int32) <<< (nI b &&& 31) else 0
def zq_CX (t : Nat) (A : Nat → Int32) (x y : Prop) : Prop :=
  if t = 23 then (∃ b, b < 24 ∧ A b ≠ 0) else if t = 22 then ¬ x else if t = 20 then x ∧ y else x ∨ y
theorem zq_CX_23 (A : Nat → Int32) (x y : Prop) : zq_CX 23 A x y = ∃ b, b < 24 ∧ A b ≠ 0 := if_pos rfl
theorem zq_CX_22 (A : Nat → Int32) (x y : Prop) : zq_CX 22 A x y = ¬ x := by
  unfold zq_CX
  rw [if_neg (by omega), if_pos rfl]
theorem zq_CX_20 (A : Nat → Int32) (x y : Prop) : zq_CX 20 A x y = (x ∧ y) := by
  unfold zq_CX
  rw [if_neg (by omega), if_neg (by omega), if_pos rfl]
theorem zq_CX_21 (A : Nat → Int32) (x y : Prop) : zq_CX 21 A x y = (x ∨ y) := by
  unfold zq_CX
  rw [if_neg (by omega), if_neg (by omega), if_neg (by omega)]
def zq_tb (sz wd q : Nat → Nat) (m d : Nat) : Nat → (Nat → Nat → Int32) × (Nat → Prop)
  | 0 => (fun _ _ => 0, fun _ => False)
  | i + 1 =>
    (fun j b => if j = m - (i + 1) then (if q j < 12 then zq_ww sz wd d (q j) b else zq_cb (q j) ((zq_tb sz wd q m d i).1 (j + 1)) ((zq_tb sz wd q m d i).1 (zq_sec q m j)) b) else (zq_tb sz wd q m d i).1 j b,
     fun j => if j = m - (i + 1) then zq_CX (q j) ((zq_tb sz wd q m d i).1 (j + 1)) ((zq_tb sz wd q m d i).2 (j + 1)) ((zq_tb sz wd q m d i).2 (zq_sec q m j)) else (zq_tb sz wd q m d i).2 j)
/-- the spans of the tokens from e on -/
def zq_Ev (sz wd q : Nat → Nat) (m d e : Nat) : Nat → Nat → Int32 := (zq_tb sz wd q m d (m - e)).1
/-- the conditions of the tokens from e on -/
def zq_Tv (sz wd q : Nat → Nat) (m d e : Nat) : Nat → Prop := (zq_tb sz wd q m d (m - e)).2
section
variable {sz wd q : Nat → Nat} {m d : Nat}
theorem zq_tb_s {x : Nat} (h : x < m) : m - x = (m - (x + 1)) + 1 ∧ m - ((m - (x + 1)) + 1) = x := by omega
theorem zq_Ev_ne {x j : Nat} (h : x < m) (hj : j ≠ x) : zq_Ev sz wd q m d x j = zq_Ev sz wd q m d (x + 1) j := by
  unfold zq_Ev
  rw [(zq_tb_s h).1]
  funext b
  show (if j = m - ((m - (x + 1)) + 1) then _ else (zq_tb sz wd q m d (m - (x + 1))).1 j b) = _
  rw [(zq_tb_s h).2, if_neg hj]
theorem zq_Ev_w {x b : Nat} (h : x < m) (hq : q x < 12) : zq_Ev sz wd q m d x x b = zq_ww sz wd d (q x) b := by
  unfold zq_Ev
  rw [(zq_tb_s h).1]
  show (if x = m - ((m - (x + 1)) + 1) then (if q x < 12 then _ else _) else _) = _
  rw [(zq_tb_s h).2, if_pos rfl, if_pos hq]
theorem zq_Ev_c {x b : Nat} (h : x < m) (hq : ¬ q x < 12) : zq_Ev sz wd q m d x x b = zq_cb (q x) (zq_Ev sz wd q m d (x + 1) (x + 1)) (zq_Ev sz wd q m d (x + 1) (zq_sec q m x)) b := by
  unfold zq_Ev
  rw [(zq_tb_s h).1]
  show (if x = m - ((m - (x + 1)) + 1) then (if q x < 12 then _ else _) else _) = _
  rw [(zq_tb_s h).2, if_pos rfl, if_neg hq]
theorem zq_Tv_ne {x j : Nat} (h : x < m) (hj : j ≠ x) : zq_Tv sz wd q m d x j = zq_Tv sz wd q m d (x + 1) j := by
  unfold zq_Tv
  rw [(zq_tb_s h).1]
  show (if j = m - ((m - (x + 1)) + 1) then _ else (zq_tb sz wd q m d (m - (x + 1))).2 j) = _
  rw [(zq_tb_s h).2, if_neg hj]
theorem zq_Tv_c {x : Nat} (h : x < m) : zq_Tv sz wd q m d x x = zq_CX (q x) (zq_Ev sz wd q m d (x + 1) (x + 1)) (zq_Tv sz wd q m d (x + 1) (x + 1)) (zq_Tv sz wd q m d (x + 1) (zq_sec q m x)) := by
  unfold zq_Tv zq_Ev
  rw [(zq_tb_s h).1]
  show (if x = m - ((m - (x + 1)) + 1) then _ else _) = _
  rw [(zq_tb_s h).2, if_pos rfl]
/-- zq_ann array of ends and one of truths hold what the tokens from e on work out to -/
def zq_GG (sz wd q : Nat → Nat) (m d e : Nat) (en tr : Nat → Int32) : Prop :=
  ∀ j, e ≤ j → j < m → (q j < 19 → ∀ b, b < 24 → en (j * 24 + b) = zq_Ev sz wd q m d e j b) ∧ (20 ≤ q j → tr j = zq_bI (zq_Tv sz wd q m d e j))
theorem zq_GG_m (en tr : Nat → Int32) : zq_GG sz wd q m d m en tr := fun j h h' => absurd h' (by omega)
theorem zq_GG_span {x : Nat} {en en' tr tr' : Nat → Int32} (hx : x < m) (hq : q x < 19) (h : zq_GG sz wd q m d (x + 1) en tr) (hf : ∀ i, x * 24 + 24 ≤ i → en' i = en i) (ht : ∀ j, x < j → j < m → tr' j = tr j) (hr : ∀ b, b < 24 → en' (x * 24 + b) = zq_Ev sz wd q m d x x b) : zq_GG sz wd q m d x en' tr' := by
  intro j h1 h2
  by_cases hj : j = x
  · subst hj
    exact ⟨fun _ => hr, fun h3 => absurd h3 (by omega)⟩
  · rw [zq_Ev_ne hx hj, zq_Tv_ne hx hj]
    obtain ⟨h3, h4⟩ := h j (by omega) h2
    refine ⟨fun h5 b hb => ?_, fun h5 => ?_⟩
    · rw [hf _ (by omega)]
      exact h3 h5 b hb
    · rw [ht j (by omega) h2]
      exact h4 h5
theorem zq_GG_cond {x : Nat} {en en' tr tr' : Nat → Int32} (hx : x < m) (hq : 20 ≤ q x) (h : zq_GG sz wd q m d (x + 1) en tr) (hf : ∀ i, x * 24 + 24 ≤ i → en' i = en i) (ht : ∀ j, x < j → j < m → tr' j = tr j) (hr : tr' x = zq_bI (zq_Tv sz wd q m d x x)) : zq_GG sz wd q m d x en' tr' := by
  intro j h1 h2
  by_cases hj : j = x
  · subst hj
    exact ⟨fun h3 => absurd h3 (by omega), fun _ => hr⟩
  · rw [zq_Ev_ne hx hj, zq_Tv_ne hx hj]
    obtain ⟨h3, h4⟩ := h j (by omega) h2
    refine ⟨fun h5 b hb => ?_, fun h5 => ?_⟩
    · rw [hf _ (by omega)]
      exact h3 h5 b hb
    · rw [ht j (by omega) h2]
      exact h4 h5
end
/-! answers -/
/-- the first place from x on, e places being left, where a row isn't empty -/
def zq_fb (A : Nat → Int32) : Nat → Nat → Int32
  | 0, _ => -1
  | e + 1, x => if A x = 0 then zq_fb A e (x + 1) else nI x
/-- the first bit from x on, e places being left -/
def zq_fe (y : Int32) : Nat → Nat → Int32
  | 0, _ => -1
  | e + 1, x => if bt y x = true then nI x else zq_fe y e (x + 1)
theorem zq_fb_neg {A : Nat → Int32} : ∀ e x, x + e = 24 → ((zq_fb A e x < 0) ↔ ¬ ∃ b, x ≤ b ∧ b < 24 ∧ A b ≠ 0) := by
  intro e
  induction e with
  | zero =>
    intro x hx
    constructor
    · rintro _ ⟨b, h1, h2, _⟩
      omega
    · intro _
      show (-1 : Int32) < 0
      decide
  | succ e ih =>
    intro x hx
    show ((if A x = 0 then zq_fb A e (x + 1) else nI x) < 0) ↔ _
    by_cases h : A x = 0
    · rw [if_pos h, ih (x + 1) (by omega)]
      constructor
      · rintro h1 ⟨b, h2, h3, h4⟩
        apply h1
        refine ⟨b, ?_, h3, h4⟩
        rcases Nat.lt_or_ge x b with h5 | h5
        · exact h5
        · rw [show b = x by omega] at h4
          exact absurd h h4
      · rintro h1 ⟨b, h2, h3, h4⟩
        exact h1 ⟨b, by omega, h3, h4⟩
    · rw [if_neg h]
      constructor
      · intro h1
        exact absurd h1 (nI_pos (by omega))
      · intro h1
        exact absurd ⟨x, Nat.le_refl _, by omega, h⟩ h1
/-- the bits of x below n, counted -/
def zq_onn (x : Int32) : Nat → Int32
  | 0 => 0
  | e + 1 => zq_onn x e + (if bt x e = true then 1 else 0)
def zq_sb (A : Nat → Int32) : Nat → Int32
  | 0 => 0
  | b + 1 => zq_sb A b + zq_onn (A b) 24
/-- the sum cell by cell -/
def zq_sc (A : Nat → Int32) (c : Nat) : Int32 := zq_sb A (c / 24) + zq_onn (A (c / 24)) (c % 24)
theorem zq_sc_0 (A : Nat → Int32) : zq_sc A 0 = 0 := by
  show (0 : Int32) + 0 = 0
  rfl
theorem zq_sc_s (A : Nat → Int32) (c : Nat) : zq_sc A (c + 1) = zq_sc A c + (if bt (A (c / 24)) (c % 24) = true then 1 else 0) := by
  unfold zq_sc
  by_cases h : c % 24 = 23
  · rw [show (c + 1) / 24 = c / 24 + 1 by omega, show (c + 1) % 24 = 0 by omega, h]
    show zq_sb A (c / 24) + zq_onn (A (c / 24)) (23 + 1) + 0 = _
    rw [Int32.add_zero]
    show zq_sb A (c / 24) + (zq_onn (A (c / 24)) 23 + (if bt (A (c / 24)) 23 = true then 1 else 0)) = _
    rw [Int32.add_assoc]
  · rw [show (c + 1) / 24 = c / 24 by omega, show (c + 1) % 24 = c % 24 + 1 by omega]
    show zq_sb A (c / 24) + (zq_onn (A (c / 24)) (c % 24) + (if bt (A (c / 24)) (c % 24) = true then 1 else 0)) = _
    rw [Int32.add_assoc]
theorem zq_sc_24 (A : Nat → Int32) (n : Nat) : zq_sc A (n * 24) = zq_sb A n := by
  unfold zq_sc
  rw [show n * 24 / 24 = n by omega, show n * 24 % 24 = 0 by omega]
  exact Int32.add_zero _
/-- has x a bit below n -/
def zq_ann (x : Int32) : Nat → Bool
  | 0 => false
  | e + 1 => zq_ann x e || bt x e
/-- documents below n whose set isn't empty -/
def zq_hvv (M : Nat → Int32) : Nat → Int32
  | 0 => 0
  | d + 1 => if zq_ann (M d) 24 = true then zq_hvv M d ||| ((1 : Int32) <<< (nI d &&& 31)) else zq_hvv M d
def zq_hcc (M : Nat → Int32) (c : Nat) : Int32 := if zq_ann (M (c / 24)) (c % 24) = true then zq_hvv M (c / 24) ||| ((1 : Int32) <<< (nI (c / 24) &&& 31)) else zq_hvv M (c / 24)
theorem zq_hcc_0 (M : Nat → Int32) : zq_hcc M 0 = 0 := rfl
theorem zq_hcc_24 (M : Nat → Int32) (n : Nat) : zq_hcc M (n * 24) = zq_hvv M n := by
  unfold zq_hcc
  rw [show n * 24 / 24 = n by omega, show n * 24 % 24 = 0 by omega]
  exact if_neg Bool.false_ne_true
theorem zq_hcc_s (M : Nat → Int32) (c : Nat) : zq_hcc M (c + 1) = if bt (M (c / 24)) (c % 24) = true then zq_hcc M c ||| ((1 : Int32) <<< (nI (c / 24) &&& 31)) else zq_hcc M c := by
  have step : (if zq_ann (M (c / 24)) (c % 24 + 1) = true then zq_hvv M (c / 24) ||| ((1 : Int32) <<< (nI (c / 24) &&& 31)) else zq_hvv M (c / 24)) = if bt (M (c / 24)) (c % 24) = true then zq_hcc M c ||| ((1 : Int32) <<< (nI (c / 24) &&& 31)) else zq_hcc M c := by
    unfold zq_hcc
    show (if (zq_ann (M (c / 24)) (c % 24) || bt (M (c / 24)) (c % 24)) = true then _ else _) = _
    cases h1 : zq_ann (M (c / 24)) (c % 24) <;> cases h2 : bt (M (c / 24)) (c % 24)
    · rfl
    · rfl
    · rfl
    · exact (zq_ph_ors _ _).symm
  rw [← step]
  by_cases h : c % 24 = 23
  · rw [h]
    have : c + 1 = (c / 24 + 1) * 24 := by omega
    rw [this, zq_hcc_24]
    rfl
  · unfold zq_hcc
    rw [show (c + 1) / 24 = c / 24 by omega, show (c + 1) % 24 = c % 24 + 1 by omega]
theorem zq_ann_iff {x : Int32} : ∀ n, zq_ann x n = true ↔ ∃ i, i < n ∧ bt x i = true := by
  intro n
  induction n with
  | zero =>
    constructor
    · intro h
      exact absurd h Bool.false_ne_true
    · rintro ⟨i, h, _⟩
      omega
  | succ n ih =>
    show (zq_ann x n || bt x n) = true ↔ _
    rw [Bool.or_eq_true, ih]
    constructor
    · rintro (⟨i, h1, h2⟩ | h)
      · exact ⟨i, by omega, h2⟩
      · exact ⟨n, by omega, h⟩
    · rintro ⟨i, h1, h2⟩
      rcases Nat.lt_or_ge i n with h3 | h3
      · exact Or.inl ⟨i, h3, h2⟩
      · rw [show i = n by omega] at h2
        exact Or.inr h2
theorem zq_ann_0 {x : Int32} (h : ∀ i, 24 ≤ i → i < 32 → bt x i = false) : x = 0 ↔ ¬ zq_ann x 24 = true := by
  rw [zq_ann_iff]
  constructor
  · rintro rfl ⟨i, _, h2⟩
    rw [b_0] at h2
    exact absurd h2 Bool.false_ne_true
  · intro h1
    apply b_ext
    intro i hi
    rw [b_0]
    rcases Nat.lt_or_ge i 24 with h2 | h2
    · cases h3 : bt x i
      · rfl
      · exact absurd ⟨i, h2, h3⟩ h1
    · exact h i h2 hi
end
section
/-! part 06: small methods of X and Y -/
theorem zq_xd_no {post : Int32 → Prop} {x : Int32} (h : x < 0 ∨ nI 6 ≤ x) (hp : post 0) : wpX_isDocument post x := by
  by_cases h0 : x < 0
  · exact br_t h0 hp
  · exact br_f h0 (br_t (h.resolve_left h0) hp)
theorem zq_xd_yes {post : Int32 → Prop} {d : Nat} (h : d < 6) (hp : post 1) : wpX_isDocument post (nI d) :=
  br_f (nI_pos (by omega)) (br_f (nI_ge (b := 6) h (by decide)) hp)
theorem zq_xw_no {post : Int32 → Prop} {x : Int32} (h : x < 0 ∨ nI 12 ≤ x) (hp : post 0) : wpX_isWord post x := by
  by_cases h0 : x < 0
  · exact br_t h0 hp
  · exact br_f h0 (br_t (h.resolve_left h0) hp)
theorem zq_xw_yes {post : Int32 → Prop} {d : Nat} (h : d < 12) (hp : post 1) : wpX_isWord post (nI d) :=
  br_f (nI_pos (by omega)) (br_f (nI_ge (b := 12) h (by decide)) hp)
theorem zq_ph_5 {x : Int32} (h : nI 6 ≤ x) : 5 < x := by
  have h5 : (5 : Int32).toInt = 5 := by decide
  have h6 : (nI 6).toInt = 6 := by decide
  rw [Int32.le_iff_toInt_le] at h
  rw [Int32.lt_iff_toInt_lt]
  omega
theorem zq_ph_11 {x : Int32} (h : nI 12 ≤ x) : ¬ x ≤ 11 := by
  have h5 : (11 : Int32).toInt = 11 := by decide
  have h6 : (nI 12).toInt = 12 := by decide
  rw [Int32.le_iff_toInt_le] at h
  rw [Int32.le_iff_toInt_le]
  omega
theorem zq_yd_no {post : Int32 → Prop} {v : SY} {x : Int32} (h : x < 0 ∨ nI 6 ≤ x) (hp : post 0) : wpY_document post v x := by
  obtain ⟨a1, a2, a3, a4, a5, a6, a7⟩ := v
  by_cases h0 : x < 0
  · exact br_t h0 hp
  · exact br_f h0 (br_t (zq_ph_5 (h.resolve_left h0)) hp)
theorem zq_yd_yes {post : Int32 → Prop} {v : SY} {d : Nat} (h : d < 6) (hp : post 1) : wpY_document post v (nI d) := by
  obtain ⟨a1, a2, a3, a4, a5, a6, a7⟩ := v
  exact br_f (nI_pos (by omega)) (br_f (nI_nlt (a := d) (b := 5) |> fun _ => (show ¬ nI 5 < nI d from nI_nlt (by omega) (by omega))) hp)
theorem zq_xs_yes {post : Int32 → Prop} {t : Nat} (h : t < 19) (hp : post 1) : wpX_isSpan post (nI t) :=
  br_f (nI_pos (by omega)) (br_f (show ¬ nI 18 < nI t from nI_nlt (by omega) (by omega)) hp)
theorem zq_xs_no {post : Int32 → Prop} {t : Nat} (h : 19 ≤ t) (h' : t < 2 ^ 31) (hp : post 0) : wpX_isSpan post (nI t) :=
  br_f (nI_pos h') (br_t (show nI 18 < nI t from nI_lt (by omega) h') hp)
theorem zq_xs_neg {post : Int32 → Prop} {x : Int32} (h : x < 0) (hp : post 0) : wpX_isSpan post x := br_t h hp
theorem zq_xc_yes {post : Int32 → Prop} {t : Nat} (h : 20 ≤ t) (h' : t < 24) (hp : post 1) : wpX_isCondition post (nI t) :=
  br_f (show ¬ nI t < nI 20 from nI_nlt h (by omega)) (br_f (show ¬ nI 23 < nI t from nI_nlt (by omega) (by omega)) hp)
theorem zq_xc_lo {post : Int32 → Prop} {t : Nat} (h : t < 20) (hp : post 0) : wpX_isCondition post (nI t) :=
  br_t (show nI t < nI 20 from nI_lt h (by omega)) hp
theorem zq_ph_lt20 {x : Int32} (h : x < 0) : x < 20 := by
  have h5 : (20 : Int32).toInt = 20 := by decide
  have h6 : (0 : Int32).toInt = 0 := by decide
  rw [Int32.lt_iff_toInt_lt] at h ⊢
  omega
theorem zq_xc_neg {post : Int32 → Prop} {x : Int32} (h : x < 0) (hp : post 0) : wpX_isCondition post x := br_t (zq_ph_lt20 h) hp
theorem zq_xc_hi {post : Int32 → Prop} {t : Nat} (h : 24 ≤ t) (h' : t < 2 ^ 31) (hp : post 0) : wpX_isCondition post (nI t) :=
  br_f (show ¬ nI t < nI 20 from nI_nlt (by omega) h') (br_t (show nI 23 < nI t from nI_lt (by omega) h') hp)
theorem zq_xw_wants {post : Int32 → Prop} {x : Int32} (t : Nat) (hx : x = nI t) (ht : t < 24) (hp : post (nI (zq_pt t))) : wpX_wants post x := by
  subst hx
  unfold zq_pt at hp
  refine pk_le 12 t (fun h => ?_) (fun h => ?_)
  · rw [if_neg (by omega)] at hp
    refine pk_eq t 22 (fun h1 => ?_) (fun h1 => ?_)
    · rw [if_neg (by omega)] at hp
      exact hp
    · refine pk_eq t 23 (fun h2 => ?_) (fun h2 => ?_)
      · rw [if_neg (by omega)] at hp
        exact hp
      · rw [if_pos (by omega)] at hp
        exact hp
  · rw [if_pos h] at hp
    exact hp
theorem zq_yp_parts {post : Int32 → Prop} {v : SY} {x : Int32} (t : Nat) (hx : x = nI t) (ht : t < 24) (hp : post (nI (zq_pt t))) : wpY_parts post v x := by
  subst hx
  obtain ⟨a1, a2, a3, a4, a5, a6, a7⟩ := v
  unfold zq_pt at hp
  refine pk_lt 11 t (fun h => ?_) (fun h => ?_)
  · rw [if_neg (by omega)] at hp
    refine pk_lt t 22 (fun h1 => ?_) (fun h1 => ?_)
    · rw [if_pos h1] at hp
      exact hp
    · rw [if_neg (by omega)] at hp
      exact hp
  · rw [if_pos (by omega)] at hp
    exact hp
/-! X's loops over one set -/
theorem zq_xg_loop {post : Int32 → Prop} {x : Int32} : ∀ e n, e ≤ 24 → e < n → post (nI (zq_grn x e) - 1) → wX_greatest_3 post x n (nI e - 1) := by
  intro e
  induction e with
  | zero =>
    intro n _ hn hp
    obtain ⟨n, rfl⟩ : ∃ k, n = k + 1 := ⟨n - 1, by omega⟩
    refine br_t zq_ph_neg ?_
    have hp' : post (nI 0 - 1) := hp
    rw [zq_ph_neg1] at hp'
    exact hp'
  | succ e ih =>
    intro n he hn hp
    obtain ⟨n, rfl⟩ : ∃ k, n = k + 1 := ⟨n - 1, by omega⟩
    rw [nI_pred]
    refine br_f (nI_pos (by omega)) (zq_ph_brX (by omega) (fun hb => ?_) (fun hb => ?_))
    · refine nm_r (zq_ph_m1 (nI e)) (ih n (by omega) (by omega) ?_)
      rw [zq_grn_f hb] at hp
      exact hp
    · rw [zq_grn_t hb, nI_pred] at hp
      exact hp
theorem zq_xg_greatest {post : Int32 → Prop} {x : Int32} (hp : post (nI (zq_grn x 24) - 1)) : wpX_greatest post x :=
  ⟨25, zq_xg_loop 24 25 (by omega) (by omega) hp⟩
theorem zq_xu_upTo {post : Int32 → Prop} {F : Nat} (hp : post (zq_mk F)) : wpX_upTo post (nI F - 1) := by
  show post (((1 : Int32) <<< (((nI F - 1) + 1) &&& 31)) - 1)
  rw [Int32.sub_add_cancel]
  exact hp
theorem zq_xo_loop {post : Int32 → Prop} {x : Int32} : ∀ r e n, e + r = 24 → r < n → post (zq_onn x 24) → wX_ones_4 post x n (zq_onn x e) (nI e) := by
  intro r
  induction r with
  | zero =>
    intro e n he hn hp
    obtain ⟨n, rfl⟩ : ∃ k, n = k + 1 := ⟨n - 1, by omega⟩
    rw [show e = 24 by omega]
    exact br_t (show nI 24 ≤ nI 24 from nI_le (by omega) (by omega)) hp
  | succ r ih =>
    intro e n he hn hp
    obtain ⟨n, rfl⟩ : ∃ k, n = k + 1 := ⟨n - 1, by omega⟩
    refine br_f (nI_ge (b := 24) (by omega) (by omega)) (nm_r (e' := zq_onn x (e + 1)) ?_ (nm_r (nI_1 e) (ih (e + 1) n (by omega) (by omega) hp)))
    rw [zq_ph_bit x (by omega)]
    rfl
theorem zq_xo_ones {post : Int32 → Prop} {x : Int32} (hp : post (zq_onn x 24)) : wpX_ones post x :=
  ⟨25, zq_xo_loop 24 0 25 (by omega) (by omega) hp⟩
section
variable {m d k s t : Nat} {sz wd q : Nat → Nat} {oc : Int32} {P se ot ow en tr ro st pl : Nat → Int32} {A B : Nat → Int32}
/-- X: the ends of the second part behind a distance -/
theorem zq_xn_loop {post : Int32 → Prop} {x : Int32} (hd : d ≤ 4) (hs : s < 12) (hB : ∀ b, b < 24 → en (s * 24 + b) = B b) : ∀ r e n, e + d + r = 24 → r < n → post (zq_gf x d B (24 - d)) → wX_goOn_6 post x (nI d) (nI (s * 24)) (nI m) oc (zq_nF sz) (zq_nF wd) P (zq_nF q) se ot ow en tr n (zq_gf x d B e) (nI e) := by
  intro r
  induction r with
  | zero =>
    intro e n he hn hp
    obtain ⟨n, rfl⟩ : ∃ k, n = k + 1 := ⟨n - 1, by omega⟩
    refine br_t ?_ ?_
    · rw [nI_add]
      exact nI_le (a := 24) (by omega) (by omega)
    · rw [show e = 24 - d by omega]
      exact hp
  | succ r ih =>
    intro e n he hn hp
    obtain ⟨n, rfl⟩ : ∃ k, n = k + 1 := ⟨n - 1, by omega⟩
    refine br_f ?_ (zq_ph_brX (by omega) (fun hb => ?_) (fun hb => ?_))
    · rw [nI_add]
      exact nI_ge (b := 24) (by omega) (by omega)
    · refine nm_r (nI_1 e) ?_
      rw [← zq_gf_f (d := d) (B := B) hb]
      exact ih (e + 1) n (by omega) (by omega) hp
    · have hi : nI (s * 24) + nI e + nI d = nI (s * 24 + (e + d)) := by
        rw [nI_add, nI_add, Nat.add_assoc]
      refine And.intro (pk_in _ _ (by omega) hi) (nm_r (e' := zq_gf x d B (e + 1)) ?_ (nm_r (nI_1 e) (ih (e + 1) n (by omega) (by omega) hp)))
      rw [pk_cl _ hi (by omega), hB _ (by omega), zq_gf_t hb]
theorem zq_xn_goOn {post : Int32 → Prop} {x : Int32} (hd : d ≤ 4) (hs : s < 12) (hB : ∀ b, b < 24 → en (s * 24 + b) = B b) (hp : post (zq_gf x d B (24 - d))) : wpX_goOn post ((nI m), oc, (zq_nF sz), (zq_nF wd), P, (zq_nF q), se, ot, ow, en, tr) x (nI d) (nI (s * 24)) :=
  ⟨24 - d + 1, zq_xn_loop hd hs hB (24 - d) 0 _ (by omega) (by omega) hp⟩
/-- X: the first begin -/
theorem zq_xf_loop {post : Int32 → Prop} (hk : k < 12) (hA : ∀ b, b < 24 → en (k * 24 + b) = A b) : ∀ e x n, x + e = 24 → e < n → post (zq_fb A e x) → wX_firstBegin_10 post (nI k) (nI m) oc (zq_nF sz) (zq_nF wd) P (zq_nF q) se ot ow en tr n (nI x) := by
  intro e
  induction e with
  | zero =>
    intro x n hx hn hp
    obtain ⟨n, rfl⟩ : ∃ k, n = k + 1 := ⟨n - 1, by omega⟩
    exact br_t (show nI 24 ≤ nI x from nI_le (by omega) (by omega)) hp
  | succ e ih =>
    intro x n hx hn hp
    obtain ⟨n, rfl⟩ : ∃ k, n = k + 1 := ⟨n - 1, by omega⟩
    refine br_f (nI_ge (b := 24) (by omega) (by omega)) (And.intro (pk_in _ _ (by omega) (zq_ph_mul k x)) ?_)
    rw [pk_cl _ (zq_ph_mul k x) (by omega), hA x (by omega)]
    have hp' : post (if A x = 0 then zq_fb A e (x + 1) else nI x) := hp
    by_cases h : A x = 0
    · rw [if_pos h] at hp'
      exact br_t h (nm_r (nI_1 x) (ih (x + 1) n (by omega) (by omega) hp'))
    · rw [if_neg h] at hp'
      exact br_f h hp'
theorem zq_xf_in {post : Int32 → Prop} (hk : k < 12) (hA : ∀ b, b < 24 → en (k * 24 + b) = A b) {x : Nat} (hx : x < 24) (hp : post (zq_fb A (24 - x) x)) : wpX_firstBegin post ((nI m), oc, (zq_nF sz), (zq_nF wd), P, (zq_nF q), se, ot, ow, en, tr) (nI k) (nI x) :=
  br_t (nI_pos' (by omega)) ⟨25 - x, zq_xf_loop hk hA (24 - x) x _ (by omega) (by omega) hp⟩
theorem zq_xf_0 {post : Int32 → Prop} (hk : k < 12) (hA : ∀ b, b < 24 → en (k * 24 + b) = A b) (hp : post (zq_fb A 24 0)) : wpX_firstBegin post ((nI m), oc, (zq_nF sz), (zq_nF wd), P, (zq_nF q), se, ot, ow, en, tr) (nI k) 0 :=
  zq_xf_in (x := 0) hk hA (by omega) hp
theorem zq_xf_neg {post : Int32 → Prop} (hk : k < 12) (hA : ∀ b, b < 24 → en (k * 24 + b) = A b) {b : Int32} (hb : b < 0) (hp : post (zq_fb A 24 0)) : wpX_firstBegin post ((nI m), oc, (zq_nF sz), (zq_nF wd), P, (zq_nF q), se, ot, ow, en, tr) (nI k) b :=
  br_f (Int32.not_le.mpr hb) ⟨25, zq_xf_loop hk hA 24 0 _ (by omega) (by omega) hp⟩
theorem zq_xf_hi {post : Int32 → Prop} {k b : Int32} (hb : nI 24 ≤ b) (hp : post (-1)) : wpX_firstBegin post ((nI m), oc, (zq_nF sz), (zq_nF wd), P, (zq_nF q), se, ot, ow, en, tr) k b :=
  br_t (Int32.le_trans (show (0 : Int32) ≤ nI 24 by decide) hb) ⟨1, br_t hb hp⟩
end
end
section
/-! part 07: X reads its tokens -/
def zq_RpT (a b : Nat → Int32) : List (Nat × Nat) → Prop
  | [] => True
  | (k, w) :: r => a r.length = nI k ∧ b r.length = nI w ∧ zq_RpT a b r
theorem zq_RpT_c {a b a' b' : Nat → Int32} : ∀ {L : List (Nat × Nat)}, (∀ i, i < L.length → a' i = a i) → (∀ i, i < L.length → b' i = b i) → zq_RpT a b L → zq_RpT a' b' L
  | [], _, _, _ => trivial
  | (k, w) :: r, ha, hb, h => by
    refine ⟨?_, ?_, zq_RpT_c (fun i hi => ha i ?_) (fun i hi => hb i ?_) h.2.2⟩
    · rw [ha _ (by rw [List.length_cons]; omega)]
      exact h.1
    · rw [hb _ (by rw [List.length_cons]; omega)]
      exact h.2.1
    · rw [List.length_cons]; omega
    · rw [List.length_cons]; omega
section
variable {m : Nat} {sz wd q : Nat → Nat} {oc : Int32} {P se ot ow en tr : Nat → Int32}
/-- the second half of attach -/
theorem zq_xa_32 {post : SX → Prop} {k w : Nat} {r : List (Nat × Nat)} (hr : r.length < 14) (hw : w = 1 ∨ w = 2) (hR : zq_RpT ot ow ((k, w) :: r))
    (H : ∀ ow', zq_RpT ot ow' (zq_at1 ((k, w) :: r)) → post ((nI m), (nI (zq_at1 ((k, w) :: r)).length), (zq_nF sz), (zq_nF wd), P, (zq_nF q), se, ot, ow', en, tr)) :
    wX_attach_32 post (nI r.length) (nI m) (nI (r.length + 1)) (zq_nF sz) (zq_nF wd) P (zq_nF q) se ot ow en tr := by
  have hv : ow (nI r.length).toNatClampNeg = nI w := by
    rw [nI_clamp (by omega)]
    exact hR.2.1
  have hu : upd ow (nI r.length).toNatClampNeg (vp_nar .byte ((ow (nI r.length).toNatClampNeg) - 1).toInt8.toInt32) = upd ow r.length (nI (w - 1)) := by
    rw [hv, nI_clamp (by omega), zq_ph_sub1 (by omega), zq_ph_vb (by omega)]
  refine And.intro (vp_in_nI hr (by omega)) (And.intro (vp_in_nI hr (by omega)) (nm_r hu (And.intro (vp_in_nI hr (by omega)) ?_)))
  have hx : upd ow r.length (nI (w - 1)) (nI r.length).toNatClampNeg = nI (w - 1) := by
    rw [nI_clamp (by omega)]
    exact pk_us
  have hrest : zq_RpT ot (upd ow r.length (nI (w - 1))) r := zq_RpT_c (fun i hi => rfl) (fun i hi => pk_un (by omega)) hR.2.2
  refine pk_eq (w - 1) 0 (fun h0 => ?_) (fun h0 => ?_) hx
  · have e : zq_at1 ((k, w) :: r) = r := zq_at1_1 (by omega)
    have H' := H (upd ow r.length (nI (w - 1)))
    rw [e] at H'
    exact nm_r (nI_pred r.length) (H' hrest)
  · have e : zq_at1 ((k, w) :: r) = (k, w - 1) :: r := zq_at1_2 (by omega)
    have H' := H (upd ow r.length (nI (w - 1)))
    rw [e] at H'
    exact H' ⟨hR.1, pk_us, hrest⟩
theorem zq_xa_attach {post : SX → Prop} {k w x : Nat} {r : List (Nat × Nat)} (hr : r.length < 14) (hw : w = 1 ∨ w = 2) (hx : x < 12) (hk : k < x) (hR : zq_RpT ot ow ((k, w) :: r))
    (H : ∀ se' ow', (x = k + 1 → se' = se) → (x ≠ k + 1 → se' = upd se k (nI x)) → zq_RpT ot ow' (zq_at1 ((k, w) :: r)) → post ((nI m), (nI (zq_at1 ((k, w) :: r)).length), (zq_nF sz), (zq_nF wd), P, (zq_nF q), se', ot, ow', en, tr)) :
    wpX_attach post ((nI m), (nI (r.length + 1)), (zq_nF sz), (zq_nF wd), P, (zq_nF q), se, ot, ow, en, tr) (nI x) := by
  have ho : ot (nI r.length).toNatClampNeg = nI k := by
    rw [nI_clamp (by omega)]
    exact hR.1
  refine nm_r (nI_pred r.length) (And.intro (vp_in_nI hr (by omega)) ?_)
  refine pk_eq x (k + 1) (fun h => ?_) (fun h => ?_) rfl (by rw [ho]; exact nI_1 k)
  · exact zq_xa_32 hr hw hR (fun ow' h' => H se ow' (fun _ => rfl) (fun h2 => absurd h h2) h')
  · refine And.intro (vp_in_nI hr (by omega)) (And.intro (pk_in k 12 (by omega) ho) (nm_r (e' := upd se k (nI x)) ?_ ?_))
    · rw [ho, nI_clamp (by omega), zq_ph_vb (by omega)]
    · exact zq_xa_32 hr hw hR (fun ow' h' => H (upd se k (nI x)) ow' (fun h2 => absurd h2 h) (fun _ => rfl) h')
theorem zq_xr_27 {post : SX → Prop} {J : Int32 → Int32 → Int32 → (Nat → Int32) → (Nat → Int32) → (Nat → Int32) → (Nat → Int32) → (Nat → Int32) → (Nat → Int32) → (Nat → Int32) → (Nat → Int32) → (Nat → Int32) → Prop} {x : Nat} {L : List (Nat × Nat)} (hx : x < 12) (hq : q x < 24) (hl : L.length ≤ x) (hR : zq_RpT ot ow L)
    (H : ∀ ot' ow', zq_RpT ot' ow' (if zq_pt (q x) = 0 then L else (x, zq_pt (q x)) :: L) → J (nI (x + 1)) (nI m) (nI (if zq_pt (q x) = 0 then L else (x, zq_pt (q x)) :: L).length) (zq_nF sz) (zq_nF wd) P (zq_nF q) se ot' ow' en tr) :
    wX_read_27 post J (nI x) (nI m) (nI L.length) (zq_nF sz) (zq_nF wd) P (zq_nF q) se ot ow en tr := by
  refine And.intro (vp_in_nI hx (by omega)) (zq_xw_wants (q x) (zq_nF_at x rfl (by omega)) hq ?_)
  refine pk_le (zq_pt (q x)) 0 (fun h => ?_) (fun h => ?_) rfl rfl (by have := zq_pt_le (q x); omega)
  · have h0 : zq_pt (q x) = 0 := by omega
    have H' := H ot ow
    rw [if_pos h0] at H'
    exact nm_r (nI_1 x) (H' hR)
  · have hp := zq_pt_le (q x)
    have H' := H (upd ot L.length (nI x)) (upd ow L.length (nI (zq_pt (q x))))
    rw [if_neg (by omega)] at H'
    refine And.intro (vp_in_nI (by omega) (by omega)) (nm_r (e' := upd ot L.length (nI x)) ?_ (And.intro (vp_in_nI (by omega) (by omega)) (nm_r (e' := upd ow L.length (nI (zq_pt (q x)))) ?_ (nm_r (nI_1 L.length) (nm_r (nI_1 x) (H' ?_))))))
    · rw [nI_clamp (by omega), zq_ph_vb (by omega)]
    · rw [nI_clamp (by omega), zq_ph_vb (by omega)]
    · exact ⟨pk_us, pk_us, zq_RpT_c (fun i hi => pk_un (by omega)) (fun i hi => pk_un (by omega)) hR⟩
theorem zq_xr_loop {post : SX → Prop} (hm : m ≤ 12) (hq : ∀ j, q j < 24)
    (H : ∀ se' ot' ow', zq_RpT ot' ow' (zq_op q m) → zq_Sv q m se' → post ((nI m), (nI (zq_op q m).length), (zq_nF sz), (zq_nF wd), P, (zq_nF q), se', ot', ow', en, tr)) :
    ∀ d x n, x + d = m → d < n → ∀ se ot ow, zq_RpT ot ow (zq_op q x) → zq_Sv q x se → wX_read_7 post n (nI x) (nI m) (nI (zq_op q x).length) (zq_nF sz) (zq_nF wd) P (zq_nF q) se ot ow en tr := by
  intro d
  induction d with
  | zero =>
    intro x n hx hn se ot ow hR hS
    obtain ⟨n, rfl⟩ : ∃ k, n = k + 1 := ⟨n - 1, by omega⟩
    have e : x = m := by omega
    subst e
    exact br_t (nI_le (by omega) (by omega)) (H se ot ow hR hS)
  | succ d ih =>
    intro x n hx hn se ot ow hR hS
    obtain ⟨n, rfl⟩ : ∃ k, n = k + 1 := ⟨n - 1, by omega⟩
    have hlen := zq_op_len q x
    have hD := zq_Dk_op q x
    have key : ∀ L se' ow', zq_at1 (zq_op q x) = L → L.length ≤ x → zq_RpT ot ow' L → zq_Sv q (x + 1) se' → wX_read_27 post (wX_read_7 post n) (nI x) (nI m) (nI L.length) (zq_nF sz) (zq_nF wd) P (zq_nF q) se' ot ow' en tr := by
      intro L se' ow' eL hl h1 h2
      refine zq_xr_27 (by omega) (hq x) hl h1 (fun ot' ow'' h3 => ?_)
      have e : (if zq_pt (q x) = 0 then L else (x, zq_pt (q x)) :: L) = zq_op q (x + 1) := by
        rw [← eL]
        rfl
      rw [e] at h3 ⊢
      exact ih (x + 1) n (by omega) (by omega) se' ot' ow'' h3 h2
    refine br_f (nI_ge (by omega) (by omega)) ?_
    cases hL : zq_op q x with
    | nil =>
      rw [hL] at hR
      refine br_t (show nI 0 ≤ nI 0 from nI_le (by omega) (by omega)) ?_
      exact key [] se ow (by rw [hL]; rfl) (by show 0 ≤ x; omega) trivial (zq_Sv_nil hS hL)
    | cons p r =>
      obtain ⟨k, w⟩ := p
      rw [hL] at hR hD hlen
      rw [List.length_cons] at hlen
      refine br_f (nI_nle (n := r.length + 1) (by omega) (by omega)) ?_
      have hw : w = 1 ∨ w = 2 := by
        have := hD.2.1
        have := hD.2.2.1
        have := zq_pt_le (q k)
        omega
      have hD1 := zq_Dk_len (zq_Dk_at1 hD)
      refine zq_xa_attach (by omega) hw (by omega) hD.1 hR (fun se' ow' h1 h2 h3 => ?_)
      refine key _ se' ow' (by rw [hL]) hD1 h3 ?_
      by_cases hk : x = k + 1
      · rw [h1 hk]
        subst hk
        exact zq_Sv_same hS hL
      · rw [h2 hk]
        exact zq_Sv_put hS hL
theorem zq_xr_read {post : SX → Prop} (hm : m ≤ 12) (hq : ∀ j, q j < 24)
    (H : ∀ se' ot' ow', zq_RpT ot' ow' (zq_op q m) → zq_Sv q m se' → post ((nI m), (nI (zq_op q m).length), (zq_nF sz), (zq_nF wd), P, (zq_nF q), se', ot', ow', en, tr)) : wpX_read post ((nI m), oc, (zq_nF sz), (zq_nF wd), P, (zq_nF q), se, ot, ow, en, tr) :=
  ⟨m + 1, zq_xr_loop hm hq H m 0 _ (by omega) (by omega) se ot ow trivial (zq_Sv_0 q se)⟩
/-- complete -/
def zq_Cp (q : Nat → Nat) (m : Nat) : Prop := 0 < m ∧ zq_op q m = []
theorem zq_xr_complete {post : Int32 → SX → Prop} (hm : m ≤ 12) (hq : ∀ j, q j < 24)
    (H : ∀ se' ot' ow', zq_Sv q m se' → post (zq_bI (zq_Cp q m)) ((nI m), (nI (zq_op q m).length), (zq_nF sz), (zq_nF wd), P, (zq_nF q), se', ot', ow', en, tr)) : wpX_complete post ((nI m), oc, (zq_nF sz), (zq_nF wd), P, (zq_nF q), se, ot, ow, en, tr) := by
  unfold wpX_complete
  dsimp only
  refine zq_xr_read hm hq (fun se' ot' ow' h1 h2 => ?_)
  have H' := H se' ot' ow' h2
  have hl := zq_op_len q m
  refine pk_le m 0 (fun h => ?_) (fun h => ?_)
  · rw [zq_bI_f (fun z => by have := z.1; omega)] at H'
    exact H'
  · refine pk_eq (zq_op q m).length 0 (fun h0 => ?_) (fun h0 => ?_)
    · rw [zq_bI_t ⟨h, List.length_eq_zero_iff.mp h0⟩] at H'
      exact H'
    · rw [zq_bI_f (fun z => h0 (by rw [z.2]; rfl))] at H'
      exact H'
/-! ask: the token must be of the kind that is due -/
def zq_OkI (c : Nat) (x : Int32) : Prop := ∃ t, x = nI t ∧ zq_okT c t
theorem zq_xk_93 {post : Int32 → SX → Prop} {t : Nat} (hm : m < 12) (ht : t < 24)
    (H : post (nI (m + 1)) ((nI (m + 1)), oc, (zq_nF sz), (zq_nF wd), P, (zq_nF (zq_un q m t)), se, ot, ow, en, tr)) : wX_ask_93 post (nI t) 1 (nI m) oc (zq_nF sz) (zq_nF wd) P (zq_nF q) se ot ow en tr := by
  refine br_f zq_ph_10 (And.intro (vp_in_nI hm (by omega)) (nm_r (e' := zq_nF (zq_un q m t)) ?_ (nm_r (nI_1 m) H)))
  rw [nI_clamp (by omega), zq_ph_vb (by omega), zq_nF_upd]
theorem zq_xk_930 {post : Int32 → SX → Prop} {x : Int32} (H : post (-1) ((nI m), oc, (zq_nF sz), (zq_nF wd), P, (zq_nF q), se, ot, ow, en, tr)) : wX_ask_93 post x 0 (nI m) oc (zq_nF sz) (zq_nF wd) P (zq_nF q) se ot ow en tr := br_t rfl H
theorem zq_ph_ix24 (x : Int32) : x < 0 ∨ ∃ t, t < 2 ^ 31 ∧ x = nI t := by
  by_cases h : x < 0
  · exact Or.inl h
  · obtain ⟨j, hj, e⟩ := nI_of h
    exact Or.inr ⟨j, hj, e⟩
theorem zq_ph_nI {a b : Nat} (ha : a < 2 ^ 31) (hb : b < 2 ^ 31) (h : nI a = nI b) : a = b := (nI_eq ha hb).mp h
theorem zq_ok_nI {c t : Nat} (ht : t < 2 ^ 31) (h : zq_OkI c (nI t)) : zq_okT c t := by
  obtain ⟨s, e, h1⟩ := h
  have hs : s < 24 := by rcases h1 with h1 | h1 <;> omega
  rw [zq_ph_nI ht (by omega) e]
  exact h1
theorem zq_ok_neg {c : Nat} {x : Int32} (hx : x < 0) : ¬ zq_OkI c x := by
  rintro ⟨s, e, h1⟩
  rw [e] at hx
  exact nI_pos (by rcases h1 with h1 | h1 <;> omega) hx
theorem zq_xk_77 {post : Int32 → SX → Prop} {c : Nat} {x : Int32} {z : Int32} (hm : m < 12) (hz : (c = 1 ∧ z = 0) ∨ (c = 2 ∧ z = 1))
    (H0 : ¬ zq_OkI c x → post (-1) ((nI m), oc, (zq_nF sz), (zq_nF wd), P, (zq_nF q), se, ot, ow, en, tr)) (H1 : ∀ t, x = nI t → zq_okT c t → post (nI (m + 1)) ((nI (m + 1)), oc, (zq_nF sz), (zq_nF wd), P, (zq_nF (zq_un q m t)), se, ot, ow, en, tr)) : wX_ask_77 post x z (nI m) oc (zq_nF sz) (zq_nF wd) P (zq_nF q) se ot ow en tr := by
  rcases hz with ⟨hc, rfl⟩ | ⟨hc, rfl⟩
  · subst hc
    refine br_t rfl ?_
    rcases zq_ph_ix24 x with hx | ⟨t, ht, rfl⟩
    · exact zq_xc_neg hx (zq_xk_930 (H0 (zq_ok_neg hx)))
    · by_cases h1 : t < 20
      · refine zq_xc_lo h1 (zq_xk_930 (H0 (fun h => ?_)))
        rcases zq_ok_nI ht h with h | h <;> omega
      · by_cases h2 : t < 24
        · exact zq_xc_yes (by omega) h2 (zq_xk_93 hm h2 (H1 t rfl (Or.inl ⟨rfl, by omega, h2⟩)))
        · refine zq_xc_hi (by omega) ht (zq_xk_930 (H0 (fun h => ?_)))
          rcases zq_ok_nI ht h with h | h <;> omega
  · subst hc
    refine br_f zq_ph_10 ?_
    rcases zq_ph_ix24 x with hx | ⟨t, ht, rfl⟩
    · exact zq_xs_neg hx (zq_xk_930 (H0 (zq_ok_neg hx)))
    · by_cases h1 : t < 19
      · exact zq_xs_yes h1 (zq_xk_93 hm (by omega) (H1 t rfl (Or.inr ⟨rfl, h1⟩)))
      · refine zq_xs_no (by omega) ht (zq_xk_930 (H0 (fun h => ?_)))
        rcases zq_ok_nI ht h with h | h <;> omega
theorem zq_xk_58 {post : Int32 → SX → Prop} {s : Nat} {x z : Int32} (hm : m < 12) (hz : z = nI s) (hs : s < 24) (hs' : s ≠ 19)
    (H0 : ¬ zq_OkI (zq_ck s) x → post (-1) ((nI m), oc, (zq_nF sz), (zq_nF wd), P, (zq_nF q), se, ot, ow, en, tr)) (H1 : ∀ t, x = nI t → zq_okT (zq_ck s) t → post (nI (m + 1)) ((nI (m + 1)), oc, (zq_nF sz), (zq_nF wd), P, (zq_nF (zq_un q m t)), se, ot, ow, en, tr)) : wX_ask_58 post x z (nI m) oc (zq_nF sz) (zq_nF wd) P (zq_nF q) se ot ow en tr := by
  subst hz
  refine pk_eq s 23 (fun h => ?_) (fun h => ?_)
  · refine zq_xk_77 (c := zq_ck s) hm (Or.inr ⟨?_, rfl⟩) H0 H1
    subst h
    rfl
  · by_cases h1 : s < 19
    · refine zq_xs_yes h1 (br_f zq_ph_10 ?_)
      refine zq_xk_77 (c := zq_ck s) hm (Or.inr ⟨?_, rfl⟩) H0 H1
      unfold zq_ck
      rw [if_pos (by omega)]
    · refine zq_xs_no (by omega) (by omega) (br_t rfl ?_)
      refine zq_xk_77 (c := zq_ck s) hm (Or.inl ⟨?_, rfl⟩) H0 H1
      unfold zq_ck
      rw [if_neg (by omega), if_pos (by omega)]
/-- the kind that is due: 0 none -/
def zq_hdq (q : Nat → Nat) (m : Nat) : Nat := (zq_du q m).headD 0
theorem zq_xk_ask {post : Int32 → SX → Prop} {x : Int32} (hm : m ≤ 12) (hq : ∀ j, q j < 24) (hv : zq_Va q m)
    (HF : 12 ≤ m ∨ zq_hdq q m = 0 → ∀ se' ot' ow', post (-2) ((nI m), (nI (zq_op q m).length), (zq_nF sz), (zq_nF wd), P, (zq_nF q), se', ot', ow', en, tr))
    (H0 : m < 12 → zq_hdq q m ≠ 0 → ¬ zq_OkI (zq_hdq q m) x → ∀ se' ot' ow', post (-1) ((nI m), (nI (zq_op q m).length), (zq_nF sz), (zq_nF wd), P, (zq_nF q), se', ot', ow', en, tr))
    (H1 : m < 12 → ∀ t, x = nI t → zq_okT (zq_hdq q m) t → ∀ se' ot' ow', post (nI (m + 1)) ((nI (m + 1)), (nI (zq_op q m).length), (zq_nF sz), (zq_nF wd), P, (zq_nF (zq_un q m t)), se', ot', ow', en, tr)) : wpX_ask post ((nI m), oc, (zq_nF sz), (zq_nF wd), P, (zq_nF q), se, ot, ow, en, tr) x := by
  unfold wpX_ask
  dsimp only
  refine zq_xr_read hm hq (fun se' ot' ow' hR hS => ?_)
  have hl := zq_op_len q m
  refine pk_le 12 m (fun h => HF (Or.inl h) se' ot' ow') (fun h => ?_)
  have top : ∀ k w r, zq_op q m = (k, w) :: r → wX_ask_30 post x (nI m) (nI (zq_op q m).length) (zq_nF sz) (zq_nF wd) P (zq_nF q) se' ot' ow' en tr := by
    intro k w r e
    have hD := zq_Dk_op q m
    rw [e] at hR hD
    rw [e]
    have he : zq_hdq q m = zq_ck (q k) := by
      obtain ⟨R, hR⟩ := zq_op_cons e
      unfold zq_hdq
      rw [hR]
      rfl
    have hk := hD.1
    have htk := zq_Va_tok hv hk
    rw [e, List.length_cons] at hl
    have ho : ot' (nI r.length).toNatClampNeg = nI k := by
      rw [nI_clamp (by omega)]
      exact hR.1
    refine br_f (nI_nle (n := r.length + 1) (by omega) (by omega)) ?_
    rw [show nI ((k, w) :: r).length - 1 = nI r.length from nI_pred r.length]
    refine And.intro (vp_in_nI (by omega) (by omega)) ?_
    rw [ho]
    refine And.intro (vp_in_nI (by omega) (by omega)) ?_
    have H0' := fun h1 h2 h3 => H0 h1 h2 h3 se' ot' ow'
    have H1' := fun h1 t h2 h3 => H1 h1 t h2 h3 se' ot' ow'
    rw [he, e] at H0' H1'
    refine zq_xk_58 (s := q k) h (zq_nF_at k rfl (by omega)) htk.1 htk.2 (fun h1 => H0' h ?_ h1) (fun t h1 h2 => H1' h t h1 h2)
    have := zq_ck_2 (q k)
    omega
  refine pk_le m 0 (fun h0 => ?_) (fun h0 => ?_)
  · have e0 : m = 0 := by omega
    subst e0
    refine br_t (show nI 0 ≤ nI 0 from nI_le (by omega) (by omega)) ?_
    exact zq_xk_58 (s := 20) h rfl (by omega) (by omega) (fun h1 => H0 h (show (1 : Nat) ≠ 0 by decide) h1 se' ot' ow') (fun t h1 h2 => H1 h t h1 h2 se' ot' ow')
  · refine pk_eq (zq_op q m).length 0 (fun h1 => ?_) (fun h1 => ?_)
    · refine HF (Or.inr ?_) se' ot' ow'
      unfold zq_hdq
      rw [zq_op_nil h0 (List.length_eq_zero_iff.mp h1)]
      rfl
    · cases hL : zq_op q m with
      | nil =>
        rw [hL] at h1
        exact absurd rfl h1
      | cons p r =>
        obtain ⟨k, w⟩ := p
        rw [← hL]
        exact top k w r hL
end
end
section
/-! part 08: X works a query out -/
def zq_PI (sz wd : Nat → Nat) (P : Nat → Int32) : Prop := ∀ d, d < 6 → ∀ w, w < 12 → ∀ i, i < 32 → bt (P (d * 12 + w)) i = decide (i < sz d ∧ wd (d * 24 + i) = w)
theorem zq_PI_word {sz wd : Nat → Nat} {P : Nat → Int32} (h : zq_PI sz wd P) {d w b : Nat} (hd : d < 6) (hw : w < 12) (hb : b < 24) : P (d * 12 + w) &&& ((1 : Int32) <<< (nI b &&& 31)) = zq_ww sz wd d w b := by
  apply b_ext
  intro i hi
  rw [b_and, zq_ph_sh b (by omega) i hi, h d hd w hw i hi]
  unfold zq_ww
  by_cases hc : b < sz d ∧ wd (d * 24 + b) = w
  · rw [if_pos hc, zq_ph_sh b (by omega) i hi]
    by_cases hib : i = b
    · rw [hib, decide_eq_true hc, decide_eq_true rfl]
      rfl
    · rw [decide_eq_false hib, Bool.and_false]
  · rw [if_neg hc, b_0]
    by_cases hib : i = b
    · rw [hib, decide_eq_false hc]
      rfl
    · rw [decide_eq_false hib, Bool.and_false]
section
variable {m d k s t : Nat} {sz wd q : Nat → Nat} {oc : Int32} {P se ot ow en tr : Nat → Int32} {A B : Nat → Int32}
theorem zq_xw_loop {post : SX → Prop} {en0 : Nat → Int32} {pl : Int32} (hk : k < 12)
    (H : ∀ en', (∀ i, i < k * 24 ∨ k * 24 + 24 ≤ i → en' i = en0 i) → (∀ b, b < 24 → en' (k * 24 + b) = pl &&& ((1 : Int32) <<< (nI b &&& 31))) → post ((nI m), oc, (zq_nF sz), (zq_nF wd), P, (zq_nF q), se, ot, ow, en', tr)) :
    ∀ r b n en, b + r = 24 → r < n → (∀ i, i < k * 24 ∨ k * 24 + 24 ≤ i → en i = en0 i) → (∀ c, c < b → en (k * 24 + c) = pl &&& ((1 : Int32) <<< (nI c &&& 31))) → wX_word_2 post (nI k) pl (nI m) oc n (nI b) (zq_nF sz) (zq_nF wd) P (zq_nF q) se ot ow en tr := by
  intro r
  induction r with
  | zero =>
    intro b n en hb hn h1 h2
    obtain ⟨n, rfl⟩ : ∃ k, n = k + 1 := ⟨n - 1, by omega⟩
    have e : b = 24 := by omega
    subst e
    exact br_t (show nI 24 ≤ nI 24 from nI_le (by omega) (by omega)) (H en h1 h2)
  | succ r ih =>
    intro b n en hb hn h1 h2
    obtain ⟨n, rfl⟩ : ∃ k, n = k + 1 := ⟨n - 1, by omega⟩
    refine br_f (nI_ge (b := 24) (by omega) (by omega)) (And.intro (pk_in _ _ (by omega) (zq_ph_mul k b)) ?_)
    refine nm_r (e' := upd en (k * 24 + b) (pl &&& ((1 : Int32) <<< (nI b &&& 31)))) (by rw [pk_cl _ (zq_ph_mul k b) (by omega)]) (nm_r (nI_1 b) (ih (b + 1) n _ (by omega) (by omega) ?_ ?_))
    · intro i hi
      rw [pk_un (by omega)]
      exact h1 i hi
    · intro c hc
      by_cases e : c = b
      · rw [e]
        exact pk_us
      · rw [pk_un (by omega)]
        exact h2 c (by omega)
theorem zq_xw_word {post : SX → Prop} {pl : Int32} (hk : k < 12)
    (H : ∀ en', (∀ i, i < k * 24 ∨ k * 24 + 24 ≤ i → en' i = en i) → (∀ b, b < 24 → en' (k * 24 + b) = pl &&& ((1 : Int32) <<< (nI b &&& 31))) → post ((nI m), oc, (zq_nF sz), (zq_nF wd), P, (zq_nF q), se, ot, ow, en', tr)) : wpX_word post ((nI m), oc, (zq_nF sz), (zq_nF wd), P, (zq_nF q), se, ot, ow, en, tr) (nI k) pl :=
  ⟨25, zq_xw_loop hk H 24 0 25 en (by omega) (by omega) (fun _ _ => rfl) (fun c hc => absurd hc (by omega))⟩
/-- the loop of combine: F is the farthest end so zq_far and one -/
theorem zq_xc_loop {post : SX → Prop} {en0 : Nat → Int32} (hk : k < 11) (hks : k < s) (hs : s < 12) (ht : 12 ≤ t) (ht' : t < 19)
    (hA : ∀ b, b < 24 → en0 ((k + 1) * 24 + b) = A b) (hB : ∀ b, b < 24 → en0 (s * 24 + b) = B b)
    (H : ∀ en', (∀ i, i < k * 24 ∨ k * 24 + 24 ≤ i → en' i = en0 i) → (∀ b, b < 24 → en' (k * 24 + b) = zq_cb t A B b) → post ((nI m), oc, (zq_nF sz), (zq_nF wd), P, (zq_nF q), se, ot, ow, en', tr)) :
    ∀ r b n F en, b + r = 24 → r < n → F < 25 → (t = 18 → F = zq_far B b) → (∀ i, i < k * 24 ∨ k * 24 + 24 ≤ i → en i = en0 i) → (∀ c, c < b → en (k * 24 + c) = zq_cb t A B c) →
      wX_combine_24 post (nI k) (nI t) (nI ((k + 1) * 24)) (nI (s * 24)) (nI m) oc n (nI F - 1) (nI b) (zq_nF sz) (zq_nF wd) P (zq_nF q) se ot ow en tr := by
  intro r
  induction r with
  | zero =>
    intro b n F en hb hn hF hF' h1 h2
    obtain ⟨n, rfl⟩ : ∃ k, n = k + 1 := ⟨n - 1, by omega⟩
    have e : b = 24 := by omega
    subst e
    exact br_t (show nI 24 ≤ nI 24 from nI_le (by omega) (by omega)) (H en h1 h2)
  | succ r ih =>
    intro b n F en hb hn hF hF' h1 h2
    obtain ⟨n, rfl⟩ : ∃ k, n = k + 1 := ⟨n - 1, by omega⟩
    have hiA : nI ((k + 1) * 24) + nI b = nI ((k + 1) * 24 + b) := nI_add _ _
    have hiB : nI (s * 24) + nI b = nI (s * 24 + b) := nI_add _ _
    have hAb : ∀ c, c < 24 → en ((k + 1) * 24 + c) = A c := by
      intro c hc
      rw [h1 _ (by omega)]
      exact hA c hc
    have hBb : ∀ c, c < 24 → en (s * 24 + c) = B c := by
      intro c hc
      rw [h1 _ (by omega)]
      exact hB c hc
    have key : ∀ (G : Nat) (y : Int32), G < 25 → (t = 18 → G = zq_far B (b + 1)) → y = zq_cb t A B b →
        wX_combine_130 post (wX_combine_24 post (nI k) (nI t) (nI ((k + 1) * 24)) (nI (s * 24)) (nI m) oc n) (nI k) (nI t) (nI ((k + 1) * 24)) (nI (s * 24)) (nI G - 1) (nI b) y (nI m) oc (zq_nF sz) (zq_nF wd) P (zq_nF q) se ot ow en tr := by
      intro G y hG hG' hy
      refine And.intro (pk_in _ _ (by omega) (zq_ph_mul k b)) (nm_r (e' := upd en (k * 24 + b) (zq_cb t A B b)) (by rw [pk_cl _ (zq_ph_mul k b) (by omega), hy]) (nm_r (nI_1 b) (ih (b + 1) n G _ (by omega) (by omega) hG hG' ?_ ?_)))
      · intro i hi
        rw [pk_un (by omega)]
        exact h1 i hi
      · intro c hc
        by_cases e : c = b
        · rw [e]
          exact pk_us
        · rw [pk_un (by omega)]
          exact h2 c (by omega)
    refine br_f (nI_ge (b := 24) (by omega) (by omega)) (And.intro (pk_in _ _ (by omega) hiA) (nm_r (e' := A b) (by rw [pk_cl _ hiA (by omega)]; exact hAb b (by omega)) ?_))
    refine pk_eq t 12 (fun e12 => ?_) (fun n12 => ?_)
    · refine And.intro (pk_in _ _ (by omega) hiB) (nm_r (e' := zq_cb t A B b) ?_ (key F _ hF (fun h => absurd h (by omega)) rfl))
      rw [pk_cl _ hiB (by omega), hBb b (by omega), e12, zq_cb_12]
    · refine pk_eq t 18 (fun e18 => ?_) (fun n18 => ?_)
      · refine And.intro (pk_in _ _ (by omega) hiB) ?_
        rw [pk_cl _ hiB (by omega), hBb b (by omega)]
        have hg : zq_grn (B b) 24 < 25 := by
          have := zq_grn_le (B b) 24
          omega
        have up : ∀ G, G < 25 → G = zq_far B (b + 1) →
            wX_combine_101 post (wX_combine_24 post (nI k) (nI t) (nI ((k + 1) * 24)) (nI (s * 24)) (nI m) oc n) (nI k) (nI t) (nI ((k + 1) * 24)) (nI (s * 24)) (nI b) (A b) (nI G - 1) (nI m) oc (zq_nF sz) (zq_nF wd) P (zq_nF q) se ot ow en tr := by
          intro G hG hG'
          refine zq_xu_upTo (nm_r (e' := zq_cb t A B b) ?_ (key G _ hG (fun _ => hG') rfl))
          rw [e18, zq_cb_18, hG']
        refine zq_xg_greatest ?_
        have hfar : zq_far B (b + 1) = zq_mx (zq_grn (B b) 24) (zq_far B b) := rfl
        have hFb := hF' e18
        by_cases hle : zq_grn (B b) 24 ≤ F
        · refine br_t ((zq_mx_le _ hg _ hF).mpr hle) (up F hF ?_)
          rw [hfar, ← hFb]
          exact (if_pos hle).symm
        · refine br_f (fun z => hle ((zq_mx_le _ hg _ hF).mp z)) (up _ hg ?_)
          rw [hfar, ← hFb]
          exact (if_neg hle).symm
      · rw [show nI t - 13 = nI (t - 13) from pk_sub (b := 13) (by omega)]
        refine zq_xn_goOn (B := B) (by omega) hs hBb (key F _ hF (fun h => absurd h n18) ?_)
        exact (zq_cb_13 A B b n12 n18).symm
theorem zq_xc_combine {post : SX → Prop} (hk : k < 11) (hks : k < s) (hs : s < 12) (hse : se k = nI s) (ht : 12 ≤ t) (ht' : t < 19)
    (hA : ∀ b, b < 24 → en ((k + 1) * 24 + b) = A b) (hB : ∀ b, b < 24 → en (s * 24 + b) = B b)
    (H : ∀ en', (∀ i, i < k * 24 ∨ k * 24 + 24 ≤ i → en' i = en i) → (∀ b, b < 24 → en' (k * 24 + b) = zq_cb t A B b) → post ((nI m), oc, (zq_nF sz), (zq_nF wd), P, (zq_nF q), se, ot, ow, en', tr)) : wpX_combine post ((nI m), oc, (zq_nF sz), (zq_nF wd), P, (zq_nF q), se, ot, ow, en, tr) (nI k) (nI t) := by
  refine nm_r (e' := nI ((k + 1) * 24)) ?_ (And.intro (vp_in_nI (by omega) (by omega)) (nm_r (e' := nI (s * 24)) ?_ ⟨25, ?_⟩))
  · rw [nI_1, zq_ph_mul0]
  · rw [nI_clamp (by omega), hse, zq_ph_mul0]
  · have h := zq_xc_loop (oc := oc) (sz := sz) (wd := wd) (q := q) (P := P) (se := se) (ot := ot) (ow := ow) (tr := tr) (m := m) hk hks hs ht ht' hA hB H 24 0 25 0 en (by omega) (by omega) (by omega) (fun _ => rfl) (fun _ _ => rfl) (fun c hc => absurd hc (by omega))
    rw [zq_ph_neg1] at h
    exact h
/-- the condition of token k -/
theorem zq_xc_condition {post : Int32 → Prop} {x y : Prop} (hk : k < 11) (ht : 20 ≤ t) (ht' : t < 24)
    (hA : t = 23 → ∀ b, b < 24 → en ((k + 1) * 24 + b) = A b) (hx : t ≠ 23 → tr (k + 1) = zq_bI x) (hy : t = 20 ∨ t = 21 → ∃ s, s < 12 ∧ se k = nI s ∧ tr s = zq_bI y)
    (H : post (zq_bI (zq_CX t A x y))) : wpX_condition post ((nI m), oc, (zq_nF sz), (zq_nF wd), P, (zq_nF q), se, ot, ow, en, tr) (nI k) (nI t) := by
  refine And.intro (pk_in (k + 1) 12 (by omega) (nI_1 k)) (nm_r (e' := tr (k + 1)) (by rw [pk_cl (k + 1) (nI_1 k) (by omega)]) ?_)
  refine pk_eq t 23 (fun h => ?_) (fun h => ?_)
  · subst h
    rw [nI_1]
    refine zq_xf_0 (A := A) (by omega) (hA rfl) ?_
    rw [zq_CX_23] at H
    have hn := zq_fb_neg (A := A) 24 0 rfl
    by_cases hf : zq_fb A 24 0 < 0
    · rw [zq_bI_f (fun z => by obtain ⟨b, h1, h2⟩ := z; exact hn.mp hf ⟨b, by omega, h1, h2⟩)] at H
      exact br_t hf H
    · rw [zq_bI_t ?_] at H
      · exact br_f hf H
      · by_cases hz : ∃ b, b < 24 ∧ A b ≠ 0
        · exact hz
        · exact absurd (hn.mpr (fun z => by obtain ⟨b, _, h1, h2⟩ := z; exact hz ⟨b, h1, h2⟩)) hf
  · rw [hx h]
    refine pk_eq t 22 (fun h2 => ?_) (fun h2 => ?_)
    · subst h2
      rw [zq_CX_22] at H
      refine zq_bI_br (fun hz => ?_) (fun hz => ?_)
      · rw [zq_bI_t hz] at H
        exact H
      · rw [zq_bI_f (fun z => z hz)] at H
        exact H
    · obtain ⟨s, hs, hse, hts⟩ := hy (by omega)
      have hsc : se (nI k).toNatClampNeg = nI s := by
        rw [nI_clamp (by omega)]
        exact hse
      have hin : vp_in (se (nI k).toNatClampNeg) 12 := pk_in s 12 hs hsc
      have htr : tr (se (nI k).toNatClampNeg).toNatClampNeg = zq_bI y := by
        rw [pk_cl s hsc (by omega)]
        exact hts
      refine pk_eq t 20 (fun h3 => ?_) (fun h3 => ?_)
      · subst h3
        rw [zq_CX_20] at H
        refine zq_bI_br (fun hz => ?_) (fun hz => And.intro (vp_in_nI (by omega) (by omega)) (And.intro hin ?_))
        · rw [zq_bI_f (fun z => hz z.1)] at H
          exact H
        · rw [htr]
          refine zq_bI_br (fun hw => ?_) (fun hw => ?_)
          · rw [zq_bI_f (fun z => hw z.2)] at H
            exact H
          · rw [zq_bI_t ⟨hz, hw⟩] at H
            exact H
      · have h4 : t = 21 := by omega
        subst h4
        rw [zq_CX_21] at H
        refine zq_bI_br (fun hz => And.intro (vp_in_nI (by omega) (by omega)) (And.intro hin ?_)) (fun hz => ?_)
        · rw [htr]
          refine zq_bI_br (fun hw => ?_) (fun hw => ?_)
          · rw [zq_bI_f (fun z => z.elim hz hw)] at H
            exact H
          · rw [zq_bI_t (Or.inr hw)] at H
            exact H
        · rw [zq_bI_t (Or.inl hz)] at H
          exact H
theorem zq_pt_0 {t : Nat} (h : t < 12) : zq_pt t = 0 := if_pos h
theorem zq_pt_2 {t : Nat} (h : 12 ≤ t) (h' : t < 22) : zq_pt t = 2 := by
  unfold zq_pt
  rw [if_neg (by omega), if_pos h']
theorem zq_pt_1 {t : Nat} (h : 22 ≤ t) : zq_pt t = 1 := by
  unfold zq_pt
  rw [if_neg (by omega), if_neg (by omega)]
theorem zq_ok_2 {t s : Nat} (h : zq_okT (zq_ck t) s) (ht : t < 20 ∨ t = 23) : s < 19 := by
  have : zq_ck t = 2 := by
    unfold zq_ck
    rcases ht with h1 | h1
    · rw [if_pos h1]
    · subst h1
      rfl
  rcases h with h | h <;> omega
theorem zq_ok_1 {t s : Nat} (h : zq_okT (zq_ck t) s) (ht : 20 ≤ t) (ht' : t < 23) : 20 ≤ s := by
  have : zq_ck t = 1 := by
    unfold zq_ck
    rw [if_neg (by omega), if_pos ht']
  rcases h with h | h <;> omega
theorem zq_xk_work {post : Int32 → SX → Prop} (hm : m ≤ 12) (hd : d < 6) (hq : ∀ j, q j < 24) (hv : zq_Va q m) (hc : zq_op q m = []) (hP : zq_PI sz wd P) (hS : zq_Sv q m se)
    (H : ∀ en' tr', zq_GG sz wd q m d 0 en' tr' → post 1 ((nI m), oc, (zq_nF sz), (zq_nF wd), P, (zq_nF q), se, ot, ow, en', tr')) :
    ∀ e n en tr, e ≤ m → e < n → zq_GG sz wd q m d e en tr → wX_work_16 post (nI d) n (nI e - 1) (nI m) oc (zq_nF sz) (zq_nF wd) P (zq_nF q) se ot ow en tr := by
  intro e
  induction e with
  | zero =>
    intro n en tr _ hn hG
    obtain ⟨n, rfl⟩ : ∃ k, n = k + 1 := ⟨n - 1, by omega⟩
    exact br_t zq_ph_neg (H en tr hG)
  | succ x ih =>
    intro n en tr he hn hG
    obtain ⟨n, rfl⟩ : ∃ k, n = k + 1 := ⟨n - 1, by omega⟩
    have hxm : x < m := by omega
    have htok := zq_Va_tok hv hxm
    rw [nI_pred]
    refine br_f (nI_pos (by omega)) (And.intro (vp_in_nI (by omega) (by omega)) (nm_r (zq_nF_at x rfl (by omega)) ?_))
    have hpred : nI x + (-1) = nI x - 1 := zq_ph_m1 _
    refine pk_le 12 (q x) (fun h12 => ?_) (fun h12 => ?_) rfl rfl (by omega) (by have := htok.1; omega)
    · have hp0 : zq_pt (q x) ≠ 0 := by
        unfold zq_pt
        rw [if_neg (by omega)]
        split <;> omega
      obtain ⟨c1, c2, _⟩ := zq_ch_next hv hc hxm hp0
      by_cases h19 : q x < 19
      · refine zq_xs_yes h19 (br_f zq_ph_10 ?_)
        have hp2 := zq_pt_2 h12 (by omega)
        obtain ⟨_, ⟨l1, l2, _⟩, c3⟩ := zq_ch_two hv hc hxm hp2
        have hA := (hG (x + 1) (Nat.le_refl _) c1).1 (zq_ok_2 c2 (Or.inl (by omega)))
        have hB := (hG (zq_sec q m x) (by omega) l2).1 (zq_ok_2 c3 (Or.inl (by omega)))
        refine zq_xc_combine (by omega) l1 (by omega) (zq_sec_at hv hc hxm hp2 hS) h12 h19 hA hB (fun en' h1 h2 => ?_)
        refine nm_r hpred (ih n en' tr (by omega) (by omega) (zq_GG_span hxm h19 hG (fun i hi => h1 i (Or.inr hi)) (fun j _ _ => rfl) (fun b hb => ?_)))
        rw [h2 b hb, zq_Ev_c hxm (by omega)]
      · refine zq_xs_no (by omega) (by have := htok.1; omega) (br_t rfl ?_)
        have h20 : 20 ≤ q x := by have := htok.2; omega
        refine zq_xc_condition (A := zq_Ev sz wd q m d (x + 1) (x + 1)) (x := zq_Tv sz wd q m d (x + 1) (x + 1)) (y := zq_Tv sz wd q m d (x + 1) (zq_sec q m x)) (by omega) h20 htok.1 ?_ ?_ ?_ ?_
        · intro h23
          exact (hG (x + 1) (Nat.le_refl _) c1).1 (zq_ok_2 c2 (Or.inr h23))
        · intro h23
          exact (hG (x + 1) (Nat.le_refl _) c1).2 (zq_ok_1 c2 h20 (by have := htok.1; omega))
        · intro h21
          have hp2 := zq_pt_2 h12 (by omega)
          obtain ⟨_, ⟨l1, l2, _⟩, c3⟩ := zq_ch_two hv hc hxm hp2
          exact ⟨zq_sec q m x, by omega, zq_sec_at hv hc hxm hp2 hS, (hG (zq_sec q m x) (by omega) l2).2 (zq_ok_1 c3 h20 (by omega))⟩
        · rw [← zq_Tv_c hxm]
          refine And.intro (vp_in_nI (by omega) (by omega)) (nm_r (e' := upd tr x (zq_bI (zq_Tv sz wd q m d x x))) (by rw [zq_bI_vb, nI_clamp (by omega)]) (nm_r hpred (ih n en _ (by omega) (by omega) (zq_GG_cond hxm h20 hG (fun i _ => rfl) (fun j hj _ => pk_un (by omega)) pk_us))))
    · have hi := zq_ph_mulW d (q x)
      refine And.intro (pk_in _ _ (by omega) hi) ?_
      rw [pk_cl _ hi (by omega)]
      refine zq_xw_word (by omega) (fun en' h1 h2 => ?_)
      refine nm_r hpred (ih n en' tr (by omega) (by omega) (zq_GG_span hxm (by omega) hG (fun i hi => h1 i (Or.inr hi)) (fun j _ _ => rfl) (fun b hb => ?_)))
      rw [h2 b hb, zq_Ev_w hxm h12, zq_PI_word hP hd h12 hb]
/-- X.work: the answer, and what the arrays then hold -/
theorem zq_xk_done {post : Int32 → SX → Prop} (hm : m ≤ 12) (hd : d < 6) (hq : ∀ j, q j < 24) (hv : zq_Va q m) (hP : zq_PI sz wd P)
    (H0 : ¬ zq_Cp q m → ∀ oc' se' ot' ow', post 0 ((nI m), oc', (zq_nF sz), (zq_nF wd), P, (zq_nF q), se', ot', ow', en, tr))
    (H1 : zq_Cp q m → ∀ oc' se' ot' ow' en' tr', zq_GG sz wd q m d 0 en' tr' → post 1 ((nI m), oc', (zq_nF sz), (zq_nF wd), P, (zq_nF q), se', ot', ow', en', tr')) : wpX_work post ((nI m), oc, (zq_nF sz), (zq_nF wd), P, (zq_nF q), se, ot, ow, en, tr) (nI d) := by
  unfold wpX_work
  dsimp only
  refine zq_xr_complete hm hq (fun se' ot' ow' hS => ?_)
  refine zq_bI_br (fun h => H0 h _ se' ot' ow') (fun h => nm_e ⟨m + 1, ?_⟩)
  exact zq_xk_work hm hd hq hv h.2 hP hS (fun en' tr' => H1 h _ se' ot' ow' en' tr') m (m + 1) en tr (Nat.le_refl m) (by omega) (zq_GG_m en tr)
end
end
section
/-! part 09: Y: what is due; ask, complete -/
def zq_RpP (p : Nat → Int32) : List Nat → Prop
  | [] => True
  | c :: r => p r.length = nI c ∧ zq_RpP p r
theorem zq_RpP_c {a a' : Nat → Int32} : ∀ {L : List Nat}, (∀ i, i < L.length → a' i = a i) → zq_RpP a L → zq_RpP a' L
  | [], _, _ => trivial
  | c :: r, ha, h => by
    refine ⟨?_, zq_RpP_c (fun i hi => ha i ?_) h.2⟩
    · rw [ha _ (by rw [List.length_cons]; omega)]
      exact h.1
    · rw [List.length_cons]; omega
section
variable {m : Nat} {sz wd q : Nat → Nat} {ro st pl : Nat → Int32}
theorem zq_yu_40 {post : Int32 → SY → Prop} {J : Int32 → Int32 → (Nat → Int32) → (Nat → Int32) → (Nat → Int32) → (Nat → Int32) → (Nat → Int32) → (Nat → Int32) → Prop} {x g : Nat} (hx : x < 12) (hq : q x < 24) (hg : g ≤ 2) :
    ∀ j n, j ≤ g → j < n → ∀ L pl, zq_RpP pl L → L.length + j ≤ 24 → (∀ pl', zq_RpP pl' (zq_pu (zq_ck (q x)) j L) → J (nI (zq_pu (zq_ck (q x)) j L).length) (nI (x + 1)) (zq_nF sz) (zq_nF wd) (zq_nF q) ro st pl') →
      wY_due_40 post J (nI x) (nI g) (nI m) n (nI L.length) (nI (g - j)) (zq_nF sz) (zq_nF wd) (zq_nF q) ro st pl := by
  intro j
  induction j with
  | zero =>
    intro n hj hn L pl hR hl H
    obtain ⟨n, rfl⟩ : ∃ k, n = k + 1 := ⟨n - 1, by omega⟩
    exact br_t (nI_le (by omega) (by omega)) (nm_r (nI_1 x) (H pl hR))
  | succ j ih =>
    intro n hj hn L pl hR hl H
    obtain ⟨n, rfl⟩ : ∃ k, n = k + 1 := ⟨n - 1, by omega⟩
    have key : wY_due_40 post J (nI x) (nI g) (nI m) n (nI (zq_ck (q x) :: L).length) (nI (g - j)) (zq_nF sz) (zq_nF wd) (zq_nF q) ro st (upd pl L.length (nI (zq_ck (q x)))) := by
      refine ih n (by omega) (by omega) (zq_ck (q x) :: L) _ ⟨pk_us, zq_RpP_c (fun i hi => pk_un (by omega)) hR⟩ (by rw [List.length_cons]; omega) H
    have e4 : nI (g - (j + 1)) + 1 = nI (g - j) := by
      rw [nI_1]
      exact congrArg nI (by omega)
    have hqx : zq_nF q (nI x).toNatClampNeg = nI (q x) := zq_nF_at x rfl (by omega)
    refine br_f (nI_ge (by omega) (by omega)) (And.intro (vp_in_nI hx (by omega)) ?_)
    refine pk_lt (q x) 20 (fun h => ?_) (fun h => And.intro (vp_in_nI hx (by omega)) ?_) hqx
    · have ec : zq_ck (q x) = 2 := if_pos h
      rw [ec] at key
      exact And.intro (vp_in_nI (by omega) (by omega)) (nm_r (e' := upd pl L.length (nI 2)) (by rw [nI_clamp (by omega)]; rfl) (nm_r (nI_1 L.length) (nm_r e4 key)))
    · refine pk_lt 22 (q x) (fun h2 => ?_) (fun h2 => ?_) rfl hqx
      · have ec : zq_ck (q x) = 2 := by
          unfold zq_ck
          rw [if_neg (by omega), if_neg (by omega)]
        rw [ec] at key
        exact And.intro (vp_in_nI (by omega) (by omega)) (nm_r (e' := upd pl L.length (nI 2)) (by rw [nI_clamp (by omega)]; rfl) (nm_r (nI_1 L.length) (nm_r e4 key)))
      · have ec : zq_ck (q x) = 1 := by
          unfold zq_ck
          rw [if_neg (by omega), if_pos (by omega)]
        rw [ec] at key
        exact And.intro (vp_in_nI (by omega) (by omega)) (nm_r (e' := upd pl L.length (nI 1)) (by rw [nI_clamp (by omega)]; rfl) (nm_r (nI_1 L.length) (nm_r e4 key)))
theorem zq_yu_loop {post : Int32 → SY → Prop} (hm : m ≤ 12) (hq : ∀ j, q j < 24) (hv : zq_Va q m)
    (H : ∀ pl', post (nI (zq_hdq q m)) ((nI m), (zq_nF sz), (zq_nF wd), (zq_nF q), ro, st, pl')) :
    ∀ d x n, x + d = m → d < n → ∀ pl, zq_RpP pl (zq_du q x) → wY_due_11 post (nI m) n (nI (zq_du q x).length) (nI x) (zq_nF sz) (zq_nF wd) (zq_nF q) ro st pl := by
  intro d
  induction d with
  | zero =>
    intro x n hx hn pl hR
    obtain ⟨n, rfl⟩ : ∃ k, n = k + 1 := ⟨n - 1, by omega⟩
    have e : x = m := by omega
    subst e
    refine br_t (nI_le (by omega) (by omega)) ?_
    have hl := zq_du_len q x
    have H' := H pl
    unfold zq_hdq at H'
    cases hL : zq_du q x with
    | nil =>
      rw [hL] at H'
      exact br_t rfl H'
    | cons c r =>
      rw [hL] at H' hR hl
      rw [List.length_cons] at hl
      have e1 : nI (c :: r).length - 1 = nI r.length := nI_pred r.length
      refine br_f (nI_ne0 (n := r.length + 1) (by omega) (by omega)) ?_
      rw [e1]
      refine And.intro (vp_in_nI (by omega) (by omega)) ?_
      rw [nI_clamp (by omega), hR.1]
      exact H'
  | succ d ih =>
    intro x n hx hn pl hR
    obtain ⟨n, rfl⟩ : ∃ k, n = k + 1 := ⟨n - 1, by omega⟩
    have hl := zq_du_len q x
    obtain ⟨c, r, hL, hok⟩ := hv x (by omega)
    refine br_f (nI_ge (by omega) (by omega)) ?_
    have key := ih (x + 1) n (by omega) (by omega)
    have hdu : zq_du q (x + 1) = zq_pu (zq_ck (q x)) (zq_pt (q x)) r := by
      show zq_pu (zq_ck (q x)) (zq_pt (q x)) (zq_du q x).tail = _
      rw [hL]
      rfl
    rw [hdu] at key
    rw [hL] at hR hl ⊢
    rw [List.length_cons] at hl
    refine br_f (nI_nle (n := r.length + 1) (by omega) (by omega)) (nm_r (pk_m1 r.length) (And.intro (vp_in_nI (by omega) (by omega)) ?_))
    refine zq_yp_parts (q x) (zq_nF_at x rfl (by omega)) (hq x) ⟨zq_pt (q x) + 1, ?_⟩
    have hp := zq_pt_le (q x)
    have h40 := zq_yu_40 (post := post) (J := wY_due_11 post (nI m) n) (m := m) (sz := sz) (wd := wd) (ro := ro) (st := st) (by omega : x < 12) (hq x) hp (zq_pt (q x)) (zq_pt (q x) + 1) (Nat.le_refl _) (by omega) r pl hR.2 (by omega) (fun pl' h => key pl' h)
    rw [Nat.sub_self] at h40
    exact h40
theorem zq_yu_due {post : Int32 → SY → Prop} (hm : m ≤ 12) (hq : ∀ j, q j < 24) (hv : zq_Va q m) (H : ∀ pl', post (nI (zq_hdq q m)) ((nI m), (zq_nF sz), (zq_nF wd), (zq_nF q), ro, st, pl')) : wpY_due post ((nI m), (zq_nF sz), (zq_nF wd), (zq_nF q), ro, st, pl) :=
  nm_e ⟨m + 1, zq_yu_loop hm hq hv H m 0 (m + 1) (by omega) (by omega) _ ⟨pk_us, trivial⟩⟩
theorem zq_hdq_0 {q : Nat → Nat} {m : Nat} (hv : zq_Va q m) : zq_hdq q m = 0 ↔ zq_Cp q m := by
  unfold zq_hdq zq_Cp
  rcases Nat.eq_zero_or_pos m with h0 | h0
  · subst h0
    constructor
    · intro h
      exact absurd h (show ¬ (1 : Nat) = 0 by decide)
    · rintro ⟨h, _⟩
      omega
  · cases hL : zq_op q m with
    | nil =>
      rw [zq_op_nil h0 hL]
      exact ⟨fun _ => ⟨h0, rfl⟩, fun _ => rfl⟩
    | cons p r =>
      obtain ⟨k, w⟩ := p
      obtain ⟨R, hR⟩ := zq_op_cons hL
      rw [hR]
      constructor
      · intro h
        have h' : zq_ck (q k) = 0 := h
        have := zq_ck_2 (q k)
        omega
      · rintro ⟨_, h⟩
        exact absurd h (by simp)
theorem zq_hdq_2 {q : Nat → Nat} {m : Nat} : zq_hdq q m = 0 ∨ zq_hdq q m = 1 ∨ zq_hdq q m = 2 := by
  unfold zq_hdq
  rcases Nat.eq_zero_or_pos m with h0 | h0
  · subst h0
    exact Or.inr (Or.inl rfl)
  · cases hL : zq_op q m with
    | nil =>
      rw [zq_op_nil h0 hL]
      exact Or.inl rfl
    | cons p r =>
      obtain ⟨k, w⟩ := p
      obtain ⟨R, hR⟩ := zq_op_cons hL
      rw [hR]
      exact Or.inr (zq_ck_2 (q k))
theorem zq_yu_complete {post : Int32 → SY → Prop} (hm : m ≤ 12) (hq : ∀ j, q j < 24) (hv : zq_Va q m) (H : ∀ pl', post (zq_bI (zq_Cp q m)) ((nI m), (zq_nF sz), (zq_nF wd), (zq_nF q), ro, st, pl')) : wpY_complete post ((nI m), (zq_nF sz), (zq_nF wd), (zq_nF q), ro, st, pl) := by
  unfold wpY_complete
  dsimp only
  refine zq_yu_due hm hq hv (fun pl' => ?_)
  have H' := H pl'
  refine pk_eq (zq_hdq q m) 0 (fun h => ?_) (fun h => ?_) rfl rfl (by have := zq_hdq_2 (q := q) (m := m); omega)
  · rw [zq_bI_t ((zq_hdq_0 hv).mp h)] at H'
    exact H'
  · rw [zq_bI_f (fun z => h ((zq_hdq_0 hv).mpr z))] at H'
    exact H'
theorem zq_yk_75 {post : Int32 → SY → Prop} {t : Nat} (hm : m < 12) (H : post (nI (m + 1)) ((nI (m + 1)), (zq_nF sz), (zq_nF wd), (zq_nF (zq_un q m t)), ro, st, pl)) : wY_ask_75 post (nI t) (nI m) (zq_nF sz) (zq_nF wd) (zq_nF q) ro st pl := by
  refine And.intro (vp_in_nI hm (by omega)) (nm_r (e' := zq_nF (zq_un q m t)) ?_ (nm_r (nI_1 m) H))
  rw [nI_clamp (by omega), zq_nF_upd]
theorem zq_yk_54 {post : Int32 → SY → Prop} {c : Nat} {x a b : Int32} (hm : m < 12) (hc : c = 1 ∨ c = 2) (hb : c = 1 → b = zq_bI (zq_OkI c x)) (ha : c = 2 → a = zq_bI (zq_OkI c x))
    (H0 : ¬ zq_OkI c x → post (-1) ((nI m), (zq_nF sz), (zq_nF wd), (zq_nF q), ro, st, pl)) (H1 : ∀ t, x = nI t → zq_okT c t → post (nI (m + 1)) ((nI (m + 1)), (zq_nF sz), (zq_nF wd), (zq_nF (zq_un q m t)), ro, st, pl)) : wY_ask_54 post x (nI c) a b (nI m) (zq_nF sz) (zq_nF wd) (zq_nF q) ro st pl := by
  have yes : zq_OkI c x → wY_ask_75 post x (nI m) (zq_nF sz) (zq_nF wd) (zq_nF q) ro st pl := by
    rintro ⟨t, rfl, h⟩
    exact zq_yk_75 hm (H1 t rfl h)
  refine pk_eq c 1 (fun h => ?_) (fun h => ?_) rfl rfl (by omega)
  · rw [hb h]
    exact zq_bI_br H0 yes
  · rw [ha (by omega)]
    exact zq_bI_br H0 yes
theorem zq_yk_ask {post : Int32 → SY → Prop} {x : Int32} (hm : m ≤ 12) (hq : ∀ j, q j < 24) (hv : zq_Va q m)
    (HF : 12 ≤ m ∨ zq_hdq q m = 0 → ∀ pl', post (-2) ((nI m), (zq_nF sz), (zq_nF wd), (zq_nF q), ro, st, pl'))
    (H0 : m < 12 → zq_hdq q m ≠ 0 → ¬ zq_OkI (zq_hdq q m) x → ∀ pl', post (-1) ((nI m), (zq_nF sz), (zq_nF wd), (zq_nF q), ro, st, pl'))
    (H1 : m < 12 → ∀ t, x = nI t → zq_okT (zq_hdq q m) t → ∀ pl', post (nI (m + 1)) ((nI (m + 1)), (zq_nF sz), (zq_nF wd), (zq_nF (zq_un q m t)), ro, st, pl')) : wpY_ask post ((nI m), (zq_nF sz), (zq_nF wd), (zq_nF q), ro, st, pl) x := by
  unfold wpY_ask
  dsimp only
  refine zq_yu_due hm hq hv (fun pl' => ?_)
  have h2 := zq_hdq_2 (q := q) (m := m)
  refine pk_le 12 m (fun h => HF (Or.inl h) pl') (fun h => ?_)
  refine pk_eq (zq_hdq q m) 0 (fun h0 => HF (Or.inr h0) pl') (fun h0 => ?_) rfl rfl (by omega)
  have hc : zq_hdq q m = 1 ∨ zq_hdq q m = 2 := by omega
  have key : ∀ a b, (zq_hdq q m = 1 → b = zq_bI (zq_OkI (zq_hdq q m) x)) → (zq_hdq q m = 2 → a = zq_bI (zq_OkI (zq_hdq q m) x)) → wY_ask_54 post x (nI (zq_hdq q m)) a b (nI m) (zq_nF sz) (zq_nF wd) (zq_nF q) ro st pl' := by
    intro a b hb ha
    exact zq_yk_54 h hc hb ha (fun z => H0 h h0 z pl') (fun t z1 z2 => H1 h t z1 z2 pl')
  rcases zq_ph_ix24 x with hx | ⟨t, ht, rfl⟩
  · refine br_t hx (br_t (zq_ph_lt20 hx) (key _ _ (fun _ => ?_) (fun _ => ?_)))
    · rw [zq_bI_f (zq_ok_neg hx)]
    · rw [zq_bI_f (zq_ok_neg hx)]
  · refine br_f (nI_pos ht) ?_
    refine pk_lt 18 t (fun h18 => ?_) (fun h18 => ?_)
    · refine pk_lt t 20 (fun h20 => key _ _ (fun hh => ?_) (fun hh => ?_)) (fun h20 => ?_)
      · rw [zq_bI_f (fun z => by rcases zq_ok_nI ht z with z | z <;> omega)]
      · rw [zq_bI_f (fun z => by rcases zq_ok_nI ht z with z | z <;> omega)]
      · refine pk_lt 23 t (fun h23 => key _ _ (fun hh => ?_) (fun hh => ?_)) (fun h23 => key _ _ (fun hh => ?_) (fun hh => ?_))
        · rw [zq_bI_f (fun z => by rcases zq_ok_nI ht z with z | z <;> omega)]
        · rw [zq_bI_f (fun z => by rcases zq_ok_nI ht z with z | z <;> omega)]
        · rw [zq_bI_t ⟨t, rfl, Or.inl ⟨hh, h20, by omega⟩⟩]
        · rw [zq_bI_f (fun z => by rcases zq_ok_nI ht z with z | z <;> omega)]
    · refine pk_lt t 20 (fun h20 => key _ _ (fun hh => ?_) (fun hh => ?_)) (fun h20 => absurd h20 (by omega))
      · rw [zq_bI_f (fun z => by rcases zq_ok_nI ht z with z | z <;> omega)]
      · rw [zq_bI_t ⟨t, rfl, Or.inr ⟨hh, by omega⟩⟩]
end
end
section
/-! part 10: Y works a query out -/
section
variable {m d k s t x : Nat} {sz wd q : Nat → Nat} {ro st pl : Nat → Int32} {A B : Nat → Int32}
theorem zq_yt_loop {post : Int32 → Prop} {y : Int32} (hd : d ≤ 4) (hs : s < 12) (hB : ∀ b, b < 24 → ro (s * 24 + b) = B b) : ∀ r e n, e + d + r = 24 → r < n → post (zq_gf y d B (24 - d)) → wY_then_6 post y (nI s) (nI d) (nI m) (zq_nF sz) (zq_nF wd) (zq_nF q) ro st pl n (zq_gf y d B e) (nI e) := by
  intro r
  induction r with
  | zero =>
    intro e n he hn hp
    obtain ⟨n, rfl⟩ : ∃ k, n = k + 1 := ⟨n - 1, by omega⟩
    refine br_t ?_ ?_
    · rw [nI_add]
      exact nI_le (a := 24) (by omega) (by omega)
    · rw [show e = 24 - d by omega]
      exact hp
  | succ r ih =>
    intro e n he hn hp
    obtain ⟨n, rfl⟩ : ∃ k, n = k + 1 := ⟨n - 1, by omega⟩
    refine br_f ?_ (zq_ph_brY (by omega) (fun hb => ?_) (fun hb => ?_))
    · rw [nI_add]
      exact nI_ge (b := 24) (by omega) (by omega)
    · have hi : 24 * nI s + nI e + nI d = nI (s * 24 + (e + d)) := by
        rw [zq_ph_mulY, nI_add, Nat.add_assoc]
      refine And.intro (pk_in _ _ (by omega) hi) (nm_r (e' := zq_gf y d B (e + 1)) ?_ (nm_r (nI_1 e) (ih (e + 1) n (by omega) (by omega) hp)))
      rw [pk_cl _ hi (by omega), hB _ (by omega), zq_gf_t hb]
    · refine nm_r (nI_1 e) ?_
      rw [← zq_gf_f (d := d) (B := B) hb]
      exact ih (e + 1) n (by omega) (by omega) hp
theorem zq_yt_then {post : Int32 → Prop} {y : Int32} (hd : d ≤ 4) (hs : s < 12) (hB : ∀ b, b < 24 → ro (s * 24 + b) = B b) (hp : post (zq_gf y d B (24 - d))) : wpY_then post ((nI m), (zq_nF sz), (zq_nF wd), (zq_nF q), ro, st, pl) y (nI s) (nI d) :=
  ⟨24 - d + 1, zq_yt_loop hd hs hB (24 - d) 0 _ (by omega) (by omega) hp⟩
/-- one row of within -/
theorem zq_yi_14 {post : Int32 → Prop} {J : Int32 → Int32 → Prop} {x1 : Int32} {F c : Nat} (hs : s < 12) (hc : c < 24) (hF : F < 25) (hB : ro (s * 24 + c) = B c)
    (H : J (zq_mk (zq_mx (zq_grn (B c) 24) F)) (nI (c + 1))) :
    ∀ r f n, f + r = 24 → r < n → wY_within_14 post J x1 (nI s) (nI c) (nI m) (zq_nF sz) (zq_nF wd) (zq_nF q) ro st pl n (zq_mk (zq_mx (zq_grn (B c) f) F)) (nI f) := by
  intro r
  induction r with
  | zero =>
    intro f n hf hn
    obtain ⟨n, rfl⟩ : ∃ k, n = k + 1 := ⟨n - 1, by omega⟩
    have e : f = 24 := by omega
    subst e
    exact br_t (show nI 24 ≤ nI 24 from nI_le (by omega) (by omega)) (nm_r (nI_1 c) H)
  | succ r ih =>
    intro f n hf hn
    obtain ⟨n, rfl⟩ : ∃ k, n = k + 1 := ⟨n - 1, by omega⟩
    have hi := zq_ph_mulY s c
    have hg := zq_grn_le (B c) f
    have key := ih (f + 1) n (by omega) (by omega)
    refine br_f (nI_ge (b := 24) (by omega) (by omega)) (And.intro (pk_in _ _ (by omega) hi) ?_)
    rw [pk_cl _ hi (by omega), hB]
    refine zq_ph_brY (by omega) (fun hb => ?_) (fun hb => ?_)
    · rw [zq_grn_t hb] at key
      refine nm_r (e' := zq_mk (zq_mx (f + 1) F)) ?_ (nm_r (nI_1 f) key)
      rw [zq_mk_2 f (by omega), zq_mk_or _ (zq_mx_lt (by omega) hF) _ (by omega), zq_mx_bit hg]
    · rw [zq_grn_f hb] at key
      exact nm_r (nI_1 f) key
theorem zq_mx_0 (F : Nat) : zq_mx 0 F = F := if_pos (Nat.zero_le F)
theorem zq_yi_loop {post : Int32 → Prop} {b : Nat} (hs : s < 12) (hb : b < 24) (hB : ∀ c, c < 24 → ro (s * 24 + c) = B c) (hp : post (zq_mk (zq_far B (b + 1)))) :
    ∀ r c n, c + r = b + 1 → r < n → wY_within_5 post (nI b) (nI s) (nI m) (zq_nF sz) (zq_nF wd) (zq_nF q) ro st pl n (zq_mk (zq_far B c)) (nI c) := by
  intro r
  induction r with
  | zero =>
    intro c n hc hn
    obtain ⟨n, rfl⟩ : ∃ k, n = k + 1 := ⟨n - 1, by omega⟩
    have e : c = b + 1 := by omega
    subst e
    exact br_t (nI_lt (by omega) (by omega)) hp
  | succ r ih =>
    intro c n hc hn
    obtain ⟨n, rfl⟩ : ∃ k, n = k + 1 := ⟨n - 1, by omega⟩
    refine br_f (nI_nlt (by omega) (by omega)) ⟨25, ?_⟩
    have h := zq_yi_14 (post := post) (J := wY_within_5 post (nI b) (nI s) (nI m) (zq_nF sz) (zq_nF wd) (zq_nF q) ro st pl n) (x1 := nI b) (m := m) (sz := sz) (wd := wd) (q := q) (st := st) (pl := pl) (B := B) (F := zq_far B c) hs (by omega : c < 24) (zq_far_lt B c) (hB c (by omega)) (ih (c + 1) n (by omega) (by omega)) 24 0 25 (by omega) (by omega)
    rw [show zq_grn (B c) 0 = 0 from rfl, zq_mx_0] at h
    exact h
theorem zq_yi_within {post : Int32 → Prop} {b : Nat} (hs : s < 12) (hb : b < 24) (hB : ∀ c, c < 24 → ro (s * 24 + c) = B c) (hp : post (zq_mk (zq_far B (b + 1)))) : wpY_within post ((nI m), (zq_nF sz), (zq_nF wd), (zq_nF q), ro, st, pl) (nI b) (nI s) := by
  refine ⟨b + 2, ?_⟩
  have h := zq_yi_loop (post := post) (m := m) (sz := sz) (wd := wd) (q := q) (st := st) (pl := pl) hs hb hB hp (b + 1) 0 (b + 2) (by omega) (by omega)
  rw [show zq_far B 0 = 0 from rfl, zq_mk_0] at h
  exact h
/-- the row of a token, by its parts -/
theorem zq_ya_word {post : Int32 → Prop} {b : Nat} {p1 p2 : Int32} (hd : d < 6) (ht : t < 12) (hb : b < 24) (hsz : ∀ j, sz j ≤ 24) (hwd : ∀ j, wd j < 12) (hp : post (zq_ww sz wd d t b)) : wpY_spansAt post ((nI m), (zq_nF sz), (zq_nF wd), (zq_nF q), ro, st, pl) (nI t) p1 p2 (nI d) (nI b) := by
  have hi := zq_ph_mulY d b
  have h24 := hsz d
  have h12 := hwd (d * 24 + b)
  unfold zq_ww at hp
  refine br_f (show ¬ nI 11 < nI t from nI_nlt (by omega) (by omega)) (And.intro (vp_in_nI hd (by omega)) ?_)
  refine pk_le (sz d) b (fun h => ?_) (fun h => And.intro (pk_in _ _ (by omega) hi) ?_) (zq_nF_at d rfl (by omega)) rfl (by omega) (by omega)
  · rw [if_neg (fun z => by have := z.1; omega)] at hp
    exact hp
  · refine pk_eq (wd (d * 24 + b)) t (fun h2 => ?_) (fun h2 => ?_) (zq_nF_at _ hi (by omega)) rfl (by omega) (by omega)
    · rw [if_pos ⟨h, h2⟩] at hp
      exact hp
    · rw [if_neg (fun z => h2 z.2)] at hp
      exact hp
theorem zq_ya_span {post : Int32 → Prop} {b a : Nat} {p3 : Int32} (ha : a < 12) (hs : s < 12) (ht : 12 ≤ t) (ht' : t < 19) (hb : b < 24)
    (hA : ∀ b, b < 24 → ro (a * 24 + b) = A b) (hB : ∀ b, b < 24 → ro (s * 24 + b) = B b) (hp : post (zq_cb t A B b)) : wpY_spansAt post ((nI m), (zq_nF sz), (zq_nF wd), (zq_nF q), ro, st, pl) (nI t) (nI a) (nI s) p3 (nI b) := by
  have hiA := zq_ph_mulY a b
  have hiB := zq_ph_mulY s b
  refine br_t (show nI 11 < nI t from nI_lt (by omega) (by omega)) (And.intro (pk_in _ _ (by omega) hiA) (nm_r (e' := A b) (by rw [pk_cl _ hiA (by omega)]; exact hA b hb) ?_))
  refine pk_eq t 12 (fun h => And.intro (pk_in _ _ (by omega) hiB) ?_) (fun h => ?_)
  · rw [pk_cl _ hiB (by omega), hB b hb]
    subst h
    rw [zq_cb_12] at hp
    exact hp
  · refine pk_eq t 18 (fun h2 => ?_) (fun h2 => ?_)
    · subst h2
      rw [zq_cb_18] at hp
      exact zq_yi_within hs hb hB hp
    · rw [show nI t - 13 = nI (t - 13) from pk_sub (b := 13) (by omega)]
      rw [zq_cb_13 A B b h h2] at hp
      exact zq_yt_then (by omega) hs hB hp
/-- some -/
def zq_orr (A : Nat → Int32) : Nat → Int32
  | 0 => 0
  | b + 1 => zq_orr A b ||| A b
theorem zq_orr_0 (A : Nat → Int32) : ∀ n, zq_orr A n = 0 ↔ ¬ ∃ b, b < n ∧ A b ≠ 0 := by
  intro n
  induction n with
  | zero =>
    constructor
    · rintro _ ⟨b, h, _⟩
      omega
    · intro _
      rfl
  | succ n ih =>
    show zq_orr A n ||| A n = 0 ↔ _
    rw [zq_ph_orz, ih]
    constructor
    · rintro ⟨h1, h2⟩ ⟨b, h3, h4⟩
      rcases Nat.lt_or_ge b n with h5 | h5
      · exact h1 ⟨b, h5, h4⟩
      · rw [show b = n by omega] at h4
        exact h4 h2
    · intro h
      refine ⟨?_, ?_⟩
      · rintro ⟨b, h3, h4⟩
        exact h ⟨b, by omega, h4⟩
      · by_cases h2 : A n = 0
        · exact h2
        · exact absurd ⟨n, by omega, h2⟩ h
theorem zq_ye_loop {post : Int32 → Prop} (hs : s < 12) (hB : ∀ b, b < 24 → ro (s * 24 + b) = B b) (hp : post (zq_bI (∃ b, b < 24 ∧ B b ≠ 0))) : ∀ r e n, e + r = 24 → r < n → wY_some_4 post (nI s) (nI m) (zq_nF sz) (zq_nF wd) (zq_nF q) ro st pl n (zq_orr B e) (nI e) := by
  intro r
  induction r with
  | zero =>
    intro e n he hn
    obtain ⟨n, rfl⟩ : ∃ k, n = k + 1 := ⟨n - 1, by omega⟩
    have e : e = 24 := by omega
    subst e
    refine br_t (show nI 24 ≤ nI 24 from nI_le (by omega) (by omega)) ?_
    by_cases h : zq_orr B 24 = 0
    · rw [zq_bI_f ((zq_orr_0 B 24).mp h)] at hp
      exact br_t h hp
    · rw [zq_bI_t ?_] at hp
      · exact br_f h hp
      · by_cases hz : ∃ b, b < 24 ∧ B b ≠ 0
        · exact hz
        · exact absurd ((zq_orr_0 B 24).mpr hz) h
  | succ r ih =>
    intro e n he hn
    obtain ⟨n, rfl⟩ : ∃ k, n = k + 1 := ⟨n - 1, by omega⟩
    have hi := zq_ph_mulY s e
    refine br_f (nI_ge (b := 24) (by omega) (by omega)) (And.intro (pk_in _ _ (by omega) hi) (nm_r (e' := zq_orr B (e + 1)) ?_ (nm_r (nI_1 e) (ih (e + 1) n (by omega) (by omega)))))
    rw [pk_cl _ hi (by omega), hB e (by omega)]
    rfl
theorem zq_ye_some {post : Int32 → Prop} (hs : s < 12) (hB : ∀ b, b < 24 → ro (s * 24 + b) = B b) (hp : post (zq_bI (∃ b, b < 24 ∧ B b ≠ 0))) : wpY_some post ((nI m), (zq_nF sz), (zq_nF wd), (zq_nF q), ro, st, pl) (nI s) :=
  ⟨25, zq_ye_loop hs hB hp 24 0 25 (by omega) (by omega)⟩
end
end
section
/-! part 11: Y's loop over the tokens from the last -/
theorem zq_RpP_drop {a : Nat → Int32} : ∀ {L : List Nat} (j : Nat), zq_RpP a L → zq_RpP a (L.drop j)
  | L, 0, h => by
    rw [List.drop_zero]
    exact h
  | [], j + 1, _ => trivial
  | c :: r, j + 1, h => by
    rw [List.drop_succ_cons]
    exact zq_RpP_drop j h.2
/-- what the top two places of the stack hold; 0 where there is none -/
theorem zq_RpP_top {a : Nat → Int32} : ∀ {K : List Nat}, zq_RpP a K → (0 < K.length → a (K.length - 1) = nI (K.getD 0 0)) ∧ (K.length < 1 → K.getD 0 0 = 0) ∧ (1 < K.length → a (K.length - 2) = nI (K.getD 1 0)) ∧ (K.length < 2 → K.getD 1 0 = 0)
  | [], _ => ⟨fun h => absurd h (by decide), fun _ => rfl, fun h => absurd h (by decide), fun _ => rfl⟩
  | [c], h => ⟨fun _ => h.1, fun h => absurd h (by simp), fun h => absurd h (by simp), fun _ => rfl⟩
  | c :: b :: r, h => by
    refine ⟨fun _ => ?_, fun h => ?_, fun _ => ?_, fun h => ?_⟩
    · exact h.1
    · exact absurd h (by simp)
    · exact h.2.1
    · exact absurd h (by rw [List.length_cons, List.length_cons]; omega)
theorem zq_ks_lt (q : Nat → Nat) {m : Nat} (hm : 0 < m) : ∀ d, ∀ a, a ∈ zq_ks q m d → a < m := by
  intro d
  induction d with
  | zero =>
    intro a h
    have h' : a ∈ ([] : List Nat) := h
    exact absurd h' (by simp)
  | succ d ih =>
    intro a h
    have h' : a ∈ (m - (d + 1)) :: (zq_ks q m d).drop (zq_pt (q (m - (d + 1)))) := h
    rcases List.mem_cons.mp h' with h1 | h1
    · omega
    · exact ih a (List.mem_of_mem_drop h1)
theorem zq_getD_lt {K : List Nat} {m : Nat} (hm : 0 < m) (h : ∀ a, a ∈ K → a < m) (i : Nat) : K.getD i 0 < m := by
  rw [List.getD_eq_getElem?_getD]
  cases e : K[i]? with
  | none => exact hm
  | some v => exact h v (List.mem_of_getElem? e)
theorem zq_Kx_lt (q : Nat → Nat) {m : Nat} (hm : 0 < m) (x i : Nat) : (zq_Kx q m x).getD i 0 < m := zq_getD_lt hm (zq_ks_lt q hm (m - x)) i
theorem zq_bI_1 {p : Prop} : zq_bI p = 1 ↔ p := by
  by_cases h : p
  · rw [zq_bI_t h]
    exact ⟨fun _ => h, fun _ => rfl⟩
  · rw [zq_bI_f h]
    exact ⟨fun z => absurd z zq_ph_01, fun z => absurd z h⟩
theorem zq_bI_01 {p : Prop} {F : Int32 → Prop} (h : F (zq_bI p)) : (p → F 1) ∧ (¬ p → F 0) := by
  refine ⟨fun z => ?_, fun z => ?_⟩
  · rw [zq_bI_t z] at h
    exact h
  · rw [zq_bI_f z] at h
    exact h
theorem zq_CX_cong {t : Nat} {A : Nat → Int32} {x y x' y' : Prop} (ht : 20 ≤ t) (ht' : t < 24) (hx : t ≠ 23 → (x ↔ x')) (hy : t = 20 ∨ t = 21 → (y ↔ y')) : zq_CX t A x y ↔ zq_CX t A x' y' := by
  have h4 : t = 20 ∨ t = 21 ∨ t = 22 ∨ t = 23 := by omega
  rcases h4 with h | h | h | h <;> subst h
  · rw [zq_CX_20, zq_CX_20, hx (by omega), hy (by omega)]
  · rw [zq_CX_21, zq_CX_21, hx (by omega), hy (by omega)]
  · rw [zq_CX_22, zq_CX_22, hx (by omega)]
  · rw [zq_CX_23, zq_CX_23]
section
variable {m d k s t x : Nat} {sz wd q : Nat → Nat} {ro st pl : Nat → Int32} {A B : Nat → Int32} {post : SY → Prop} {J : Int32 → Int32 → (Nat → Int32) → (Nat → Int32) → (Nat → Int32) → (Nat → Int32) → (Nat → Int32) → (Nat → Int32) → Prop} {x1 x2 x4 x5 x6 x7 : Int32}
theorem zq_yw_257 (hm : m ≤ 12) (hx : x < m) (hR : zq_RpP st (zq_Kx q m (x + 1))) (hp : zq_pt (q x) ≤ (zq_Kx q m (x + 1)).length)
    (H : ∀ st', zq_RpP st' (zq_Kx q m x) → J (nI (zq_Kx q m x).length) (nI x - 1) (zq_nF sz) (zq_nF wd) (zq_nF q) ro st' pl) : wY_work_257 post J x1 (nI (zq_Kx q m (x + 1)).length) (nI x) (nI (zq_pt (q x))) (nI m) (zq_nF sz) (zq_nF wd) (zq_nF q) ro st pl := by
  have hl := zq_Kx_len q m (x + 1)
  have hK := zq_Kx_s q hx
  have hdl : (zq_Kx q m (x + 1)).length - zq_pt (q x) = ((zq_Kx q m (x + 1)).drop (zq_pt (q x))).length := (List.length_drop).symm
  have hR' := zq_RpP_drop (zq_pt (q x)) hR
  refine br_f (nI_nlt (by omega) (by omega)) ?_
  rw [pk_sub hp, hdl]
  rw [hK] at H
  refine And.intro (vp_in_nI (by omega) (by omega)) (nm_r (e' := upd st ((zq_Kx q m (x + 1)).drop (zq_pt (q x))).length (nI x)) (by rw [nI_clamp (by omega)]) (nm_r (nI_1 _) (nm_r (zq_ph_m1 (nI x)) (H _ ⟨pk_us, zq_RpP_c (fun i hi => pk_un (by omega)) hR'⟩))))
theorem zq_yw_219 {V : Nat → Int32} {ro0 : Nat → Int32} (hx : x < 12)
    (hV : ∀ ro, (∀ i, i < x * 24 ∨ x * 24 + 24 ≤ i → ro i = ro0 i) → ∀ b, b < 24 → ∀ p : Int32 → Prop, p (V b) → wpY_spansAt p ((nI m), (zq_nF sz), (zq_nF wd), (zq_nF q), ro, st, pl) x4 x6 x7 x1 (nI b))
    (H : ∀ ro', (∀ i, i < x * 24 ∨ x * 24 + 24 ≤ i → ro' i = ro0 i) → (∀ b, b < 24 → ro' (x * 24 + b) = V b) → wY_work_257 post J x1 x2 (nI x) x5 (nI m) (zq_nF sz) (zq_nF wd) (zq_nF q) ro' st pl) :
    ∀ r b n ro, b + r = 24 → r < n → (∀ i, i < x * 24 ∨ x * 24 + 24 ≤ i → ro i = ro0 i) → (∀ c, c < b → ro (x * 24 + c) = V c) → wY_work_219 post J x1 x2 (nI x) x4 x5 x6 x7 (nI m) n (nI b) (zq_nF sz) (zq_nF wd) (zq_nF q) ro st pl := by
  intro r
  induction r with
  | zero =>
    intro b n ro hb hn h1 h2
    obtain ⟨n, rfl⟩ : ∃ k, n = k + 1 := ⟨n - 1, by omega⟩
    have e : b = 24 := by omega
    subst e
    exact br_t (show nI 24 ≤ nI 24 from nI_le (by omega) (by omega)) (H ro h1 h2)
  | succ r ih =>
    intro b n ro hb hn h1 h2
    obtain ⟨n, rfl⟩ : ∃ k, n = k + 1 := ⟨n - 1, by omega⟩
    have hi := zq_ph_mulY x b
    refine br_f (nI_ge (b := 24) (by omega) (by omega)) (hV ro h1 b (by omega) _ ?_)
    refine And.intro (pk_in _ _ (by omega) hi) (nm_r (e' := upd ro (x * 24 + b) (V b)) (by rw [pk_cl _ hi (by omega)]) (nm_r (nI_1 b) (ih (b + 1) n _ (by omega) (by omega) ?_ ?_)))
    · intro i hi
      rw [pk_un (by omega)]
      exact h1 i hi
    · intro c hc
      by_cases e : c = b
      · rw [e]
        exact pk_us
      · rw [pk_un (by omega)]
        exact h2 c (by omega)
theorem zq_yw_192 {C : Prop} (hx : x < 12) (H : wY_work_257 post J x1 x2 (nI x) x5 (nI m) (zq_nF sz) (zq_nF wd) (zq_nF q) (upd ro (x * 24) (zq_bI C)) st pl) : wY_work_192 post J x1 x2 (nI x) x5 (zq_bI C) (nI m) (zq_nF sz) (zq_nF wd) (zq_nF q) ro st pl := by
  have hi := zq_ph_mulY0 x
  have hin : vp_in (24 * nI x) 288 := pk_in _ _ (by omega) hi
  refine zq_bI_br (fun h => And.intro hin (nm_r (e' := upd ro (x * 24) 0) (by rw [pk_cl _ hi (by omega)]) ?_)) (fun h => And.intro hin (nm_r (e' := upd ro (x * 24) 1) (by rw [pk_cl _ hi (by omega)]) ?_))
  · rw [zq_bI_f h] at H
    exact H
  · rw [zq_bI_t h] at H
    exact H
theorem zq_yw_114 {one two : Prop} (ht : 20 ≤ t) (ht' : t < 24) (hs : s < 12) (hA : t = 23 → ∀ b, b < 24 → ro (s * 24 + b) = A b)
    (H : wY_work_192 post J x1 x2 (nI x) x5 (zq_bI (zq_CX t A one two)) (nI m) (zq_nF sz) (zq_nF wd) (zq_nF q) ro st pl) : wY_work_114 post J x1 x2 (nI x) (nI t) x5 (nI s) (zq_bI one) (zq_bI two) (nI m) (zq_nF sz) (zq_nF wd) (zq_nF q) ro st pl := by
  refine pk_eq t 20 (fun h => ?_) (fun h => ?_)
  · subst h
    rw [zq_CX_20] at H
    refine zq_bI_br (fun h1 => ?_) (fun h1 => zq_bI_br (fun h2 => ?_) (fun h2 => ?_))
    · rw [zq_bI_f (fun z => h1 z.1)] at H
      exact H
    · rw [zq_bI_f (fun z => h2 z.2)] at H
      exact H
    · rw [zq_bI_t ⟨h1, h2⟩] at H
      exact H
  · refine pk_eq t 21 (fun h => ?_) (fun h => ?_)
    · subst h
      rw [zq_CX_21] at H
      refine zq_bI_br (fun h1 => zq_bI_br (fun h2 => ?_) (fun h2 => ?_)) (fun h1 => ?_)
      · rw [zq_bI_f (fun z => z.elim h1 h2)] at H
        exact H
      · rw [zq_bI_t (Or.inr h2)] at H
        exact H
      · rw [zq_bI_t (Or.inl h1)] at H
        exact H
    · refine pk_eq t 22 (fun h => ?_) (fun h => ?_)
      · subst h
        rw [zq_CX_22] at H
        refine zq_bI_br (fun h1 => ?_) (fun h1 => ?_)
        · rw [zq_bI_t h1] at H
          exact H
        · rw [zq_bI_f (fun z => z h1)] at H
          exact H
      · have h3 : t = 23 := by omega
        subst h3
        rw [zq_CX_23] at H
        exact zq_ye_some hs (hA rfl) H
theorem zq_yw_cond (ht : 20 ≤ t) (ht' : t < 24) (hs : s < 12) (hk : k < 12) (hx : x < 12) (hA : t = 23 → ∀ b, b < 24 → ro (s * 24 + b) = A b)
    (H : wY_work_257 post J x1 x2 (nI x) x5 (nI m) (zq_nF sz) (zq_nF wd) (zq_nF q) (upd ro (x * 24) (zq_bI (zq_CX t A (ro (s * 24) = 1) (ro (k * 24) = 1)))) st pl) : wY_work_65 post J x1 x2 (nI x) (nI t) x5 (nI s) (nI k) (nI m) (zq_nF sz) (zq_nF wd) (zq_nF q) ro st pl := by
  have hs' := zq_ph_mulY0 s
  have hk' := zq_ph_mulY0 k
  refine br_f (show ¬ nI t < nI 20 from nI_nlt ht (by omega)) (And.intro (pk_in _ _ (by omega) hs') ?_)
  rw [pk_cl _ hs' (by omega)]
  refine zq_bI_01 (p := ro (s * 24) = 1) (F := fun z => wY_work_93 post J x1 x2 (nI x) (nI t) x5 (nI s) (nI k) z (nI m) (zq_nF sz) (zq_nF wd) (zq_nF q) ro st pl) ?_
  refine And.intro (pk_in _ _ (by omega) hk') ?_
  rw [pk_cl _ hk' (by omega)]
  refine zq_bI_01 (p := ro (k * 24) = 1) (F := fun z => wY_work_114 post J x1 x2 (nI x) (nI t) x5 (nI s) (zq_bI (ro (s * 24) = 1)) z (nI m) (zq_nF sz) (zq_nF wd) (zq_nF q) ro st pl) ?_
  exact zq_yw_114 ht ht' hs hA (zq_yw_192 hx H)
end
section
variable {m d : Nat} {sz wd q : Nat → Nat} {ro st pl : Nat → Int32}
theorem zq_yw_loop {post : SY → Prop} (hm : m ≤ 12) (hd : d < 6) (hq : ∀ j, q j < 24) (hv : zq_Va q m) (hc : zq_op q m = []) (hsz : ∀ j, sz j ≤ 24) (hwd : ∀ j, wd j < 12)
    (H : ∀ ro' st', zq_GG sz wd q m d 0 ro' (fun j => ro' (j * 24)) → post ((nI m), (zq_nF sz), (zq_nF wd), (zq_nF q), ro', st', pl)) :
    ∀ e n ro st, e ≤ m → e < n → zq_RpP st (zq_Kx q m e) → zq_GG sz wd q m d e ro (fun j => ro (j * 24)) → wY_work_9 post (nI d) (nI m) n (nI (zq_Kx q m e).length) (nI e - 1) (zq_nF sz) (zq_nF wd) (zq_nF q) ro st pl := by
  intro e
  induction e with
  | zero =>
    intro n ro st _ hn hR hG
    obtain ⟨n, rfl⟩ : ∃ k, n = k + 1 := ⟨n - 1, by omega⟩
    exact br_t zq_ph_neg (H ro st hG)
  | succ x ih =>
    intro n ro st he hn hR hG
    obtain ⟨n, rfl⟩ : ∃ k, n = k + 1 := ⟨n - 1, by omega⟩
    have hxm : x < m := by omega
    have htok := zq_Va_tok hv hxm
    have hl := zq_Kx_len q m (x + 1)
    have ha0 := zq_Kx_lt q (by omega : 0 < m) (x + 1) 0
    have ha1 := zq_Kx_lt q (by omega : 0 < m) (x + 1) 1
    obtain ⟨r1, r2, r3, r4⟩ := zq_RpP_top hR
    have hpl : zq_pt (q x) ≤ (zq_Kx q m (x + 1)).length := by
      rcases zq_pt_3 (q x) with hp | hp | hp
      · omega
      · obtain ⟨K1, e1⟩ := zq_ch_one hv hc hxm (by omega)
        rw [e1, List.length_cons]
        omega
      · obtain ⟨⟨K1, e1⟩, _⟩ := zq_ch_two hv hc hxm hp
        rw [e1, List.length_cons, List.length_cons]
        omega
    rw [nI_pred]
    refine br_f (nI_pos (by omega)) (And.intro (vp_in_nI (by omega) (by omega)) (nm_r (zq_nF_at x rfl (by omega)) ?_))
    refine zq_yp_parts (q x) rfl htok.1 ?_
    have fin : ∀ ro', zq_GG sz wd q m d x ro' (fun j => ro' (j * 24)) → wY_work_257 post (wY_work_9 post (nI d) (nI m) n) (nI d) (nI (zq_Kx q m (x + 1)).length) (nI x) (nI (zq_pt (q x))) (nI m) (zq_nF sz) (zq_nF wd) (zq_nF q) ro' st pl := by
      intro ro' hG'
      exact zq_yw_257 hm hxm hR hpl (fun st' hR' => ih n ro' st' (by omega) (by omega) hR' hG')
    have main : wY_work_65 post (wY_work_9 post (nI d) (nI m) n) (nI d) (nI (zq_Kx q m (x + 1)).length) (nI x) (nI (q x)) (nI (zq_pt (q x))) (nI ((zq_Kx q m (x + 1)).getD 0 0)) (nI ((zq_Kx q m (x + 1)).getD 1 0)) (nI m) (zq_nF sz) (zq_nF wd) (zq_nF q) ro st pl := by
      by_cases h12 : q x < 12
      · refine br_t (show nI (q x) < nI 20 from nI_lt (by omega) (by omega)) ⟨25, ?_⟩
        refine zq_yw_219 (V := zq_ww sz wd d (q x)) (ro0 := ro) (by omega) (fun ro' _ b hb p hp => zq_ya_word hd h12 hb hsz hwd hp) (fun ro' h1 h2 => fin ro' ?_) 24 0 25 ro (by omega) (by omega) (fun _ _ => rfl) (fun c hc => absurd hc (by omega))
        exact zq_GG_span hxm (by omega) hG (fun i hi => h1 i (Or.inr hi)) (fun j hj _ => h1 (j * 24) (by omega)) (fun b hb => by rw [h2 b hb, zq_Ev_w hxm h12])
      · have hp0 : zq_pt (q x) ≠ 0 := by
          unfold zq_pt
          rw [if_neg h12]
          split <;> omega
        obtain ⟨c1, c2, _⟩ := zq_ch_next hv hc hxm hp0
        obtain ⟨K1, eK⟩ := zq_ch_one hv hc hxm hp0
        have es : (zq_Kx q m (x + 1)).getD 0 0 = x + 1 := by
          rw [eK]
          rfl
        rw [es]
        by_cases h19 : q x < 19
        · have hp2 := zq_pt_2 (by omega : 12 ≤ q x) (by omega)
          obtain ⟨_, ⟨l1, l2, _⟩, c3⟩ := zq_ch_two hv hc hxm hp2
          have hA := (hG (x + 1) (Nat.le_refl _) c1).1 (zq_ok_2 c2 (Or.inl (by omega)))
          have hB := (hG (zq_sec q m x) (by omega) l2).1 (zq_ok_2 c3 (Or.inl (by omega)))
          refine br_t (show nI (q x) < nI 20 from nI_lt (by omega) (by omega)) ⟨25, ?_⟩
          refine zq_yw_219 (V := zq_cb (q x) (zq_Ev sz wd q m d (x + 1) (x + 1)) (zq_Ev sz wd q m d (x + 1) (zq_sec q m x))) (ro0 := ro) (by omega) (fun ro' hf b hb p hp => ?_) (fun ro' h1 h2 => fin ro' ?_) 24 0 25 ro (by omega) (by omega) (fun _ _ => rfl) (fun c hc => absurd hc (by omega))
          · refine zq_ya_span (a := x + 1) (s := zq_sec q m x) (by omega) (by omega) (by omega) h19 hb (fun b hb => ?_) (fun b hb => ?_) hp
            · rw [hf _ (by omega)]
              exact hA b hb
            · rw [hf _ (by omega)]
              exact hB b hb
          · exact zq_GG_span hxm (by omega) hG (fun i hi => h1 i (Or.inr hi)) (fun j hj _ => h1 (j * 24) (by omega)) (fun b hb => by rw [h2 b hb, zq_Ev_c hxm h12])
        · have h20 : 20 ≤ q x := by have := htok.2; omega
          refine zq_yw_cond (A := zq_Ev sz wd q m d (x + 1) (x + 1)) h20 htok.1 (by omega) (by omega) (by omega) (fun h23 => (hG (x + 1) (Nat.le_refl _) c1).1 (zq_ok_2 c2 (Or.inr h23))) (fin _ ?_)
          refine zq_GG_cond hxm h20 hG (fun i hi => pk_un (by omega)) (fun j hj _ => pk_un (by omega)) ?_
          show upd ro (x * 24) _ (x * 24) = _
          rw [pk_us, zq_Tv_c hxm]
          refine zq_bI_c (zq_CX_cong h20 htok.1 (fun h23 => ?_) (fun h21 => ?_))
          · have hh : ro ((x + 1) * 24) = zq_bI (zq_Tv sz wd q m d (x + 1) (x + 1)) := (hG (x + 1) (Nat.le_refl _) c1).2 (zq_ok_1 c2 h20 (by have := htok.1; omega))
            rw [hh]
            exact zq_bI_1
          · have hp2 := zq_pt_2 (by omega : 12 ≤ q x) (by omega)
            obtain ⟨_, ⟨l1, l2, _⟩, c3⟩ := zq_ch_two hv hc hxm hp2
            have hh := (hG (zq_sec q m x) (by omega) l2).2 (zq_ok_1 c3 h20 (by omega))
            have hh' : ro ((zq_Kx q m (x + 1)).getD 1 0 * 24) = zq_bI (zq_Tv sz wd q m d (x + 1) (zq_sec q m x)) := hh
            rw [hh']
            exact zq_bI_1
    have m46 : wY_work_46 post (wY_work_9 post (nI d) (nI m) n) (nI d) (nI (zq_Kx q m (x + 1)).length) (nI x) (nI (q x)) (nI (zq_pt (q x))) (nI ((zq_Kx q m (x + 1)).getD 0 0)) (nI m) (zq_nF sz) (zq_nF wd) (zq_nF q) ro st pl := by
      refine pk_lt (zq_Kx q m (x + 1)).length 2 (fun h => ?_) (fun h => ?_)
      · rw [r4 h] at main
        exact main
      · rw [show nI (zq_Kx q m (x + 1)).length - 2 = nI ((zq_Kx q m (x + 1)).length - 2) from pk_sub (b := 2) h]
        refine And.intro (vp_in_nI (by omega) (by omega)) ?_
        rw [nI_clamp (by omega), r3 h]
        exact main
    refine pk_lt (zq_Kx q m (x + 1)).length 1 (fun h => ?_) (fun h => ?_)
    · rw [r2 h] at m46
      exact m46
    · rw [show nI (zq_Kx q m (x + 1)).length - 1 = nI ((zq_Kx q m (x + 1)).length - 1) from pk_sub (b := 1) h]
      refine And.intro (vp_in_nI (by omega) (by omega)) ?_
      rw [nI_clamp (by omega), r1 h]
      exact m46
theorem zq_yw_work {post : SY → Prop} (hm : m ≤ 12) (hd : d < 6) (hq : ∀ j, q j < 24) (hv : zq_Va q m) (hc : zq_op q m = []) (hsz : ∀ j, sz j ≤ 24) (hwd : ∀ j, wd j < 12)
    (H : ∀ ro' st', zq_GG sz wd q m d 0 ro' (fun j => ro' (j * 24)) → post ((nI m), (zq_nF sz), (zq_nF wd), (zq_nF q), ro', st', pl)) : wpY_work post ((nI m), (zq_nF sz), (zq_nF wd), (zq_nF q), ro, st, pl) (nI d) := by
  refine nm_e ⟨m + 1, ?_⟩
  have h := zq_yw_loop (pl := pl) hm hd hq hv hc hsz hwd H m (m + 1) ro st (Nat.le_refl m) (by omega) (by rw [zq_Kx_m]; exact trivial) (zq_GG_m _ _)
  rw [zq_Kx_m] at h
  exact h
end
end
section
/-! part 12: holds, matching; the k-th HAS -/
def zq_Iv (m : Nat) (sz wd q : Nat → Nat) (P : Nat → Int32) : Prop := m ≤ 12 ∧ (∀ j, sz j ≤ 24) ∧ (∀ j, wd j < 12) ∧ (∀ j, q j < 24) ∧ zq_Va q m ∧ zq_PI sz wd P
theorem zq_bI_brx {x : Int32} {p A B : Prop} (e : x = zq_bI p) (f : ¬ p → A) (g : p → B) : (x = 0 → A) ∧ (¬ x = 0 → B) := by
  rw [e]
  exact zq_bI_br f g
theorem zq_bI_br1x {x : Int32} {p A B : Prop} (e : x = zq_bI p) (g : p → B) (f : ¬ p → A) : (x = 1 → B) ∧ (¬ x = 1 → A) := by
  rw [e]
  exact zq_bI_br1 g f
def zq_Hd (sz wd q : Nat → Nat) (m d : Nat) : Prop := zq_Cp q m ∧ zq_Tv sz wd q m d 0 0
noncomputable def zq_mt (h : Nat → Prop) : Nat → Int32
  | 0 => 0
  | d + 1 => @ite _ (h d) (Classical.propDecidable _) (zq_mt h d ||| ((1 : Int32) <<< (nI d &&& 31))) (zq_mt h d)
theorem zq_mt_t {h : Nat → Prop} {d : Nat} (z : h d) : zq_mt h (d + 1) = zq_mt h d ||| ((1 : Int32) <<< (nI d &&& 31)) := by
  show @ite _ (h d) (Classical.propDecidable _) (zq_mt h d ||| ((1 : Int32) <<< (nI d &&& 31))) (zq_mt h d) = _
  exact if_pos z
theorem zq_mt_f {h : Nat → Prop} {d : Nat} (z : ¬ h d) : zq_mt h (d + 1) = zq_mt h d := by
  show @ite _ (h d) (Classical.propDecidable _) (zq_mt h d ||| ((1 : Int32) <<< (nI d &&& 31))) (zq_mt h d) = _
  exact if_neg z
section
variable {m d : Nat} {sz wd q : Nat → Nat} {oc : Int32} {P se ot ow en tr ro st pl : Nat → Int32}
theorem zq_xh_holds {post : Int32 → SX → Prop} (hI : zq_Iv m sz wd q P) (hd : d < 6)
    (H : ∀ oc' se' ot' ow' en' tr', post (zq_bI (zq_Hd sz wd q m d)) ((nI m), oc', (zq_nF sz), (zq_nF wd), P, (zq_nF q), se', ot', ow', en', tr')) : wpX_holds post ((nI m), oc, (zq_nF sz), (zq_nF wd), P, (zq_nF q), se, ot, ow, en, tr) (nI d) := by
  obtain ⟨hm, hsz, hwd, hq, hv, hP⟩ := hI
  unfold wpX_holds
  dsimp only
  refine zq_xd_yes hd (br_f zq_ph_10 ?_)
  refine zq_xk_done hm hd hq hv hP (fun hn oc' se' ot' ow' => br_t rfl ?_) (fun hc oc' se' ot' ow' en' tr' hG => br_f zq_ph_10 (zq_bI_brx ((hG 0 (Nat.le_refl 0) hc.1).2 (zq_Va_first hv hc.1)) (fun z => ?_) (fun z => ?_)))
  · have H' := H oc' se' ot' ow' en tr
    rw [zq_bI_f (fun z => hn z.1)] at H'
    exact H'
  · have H' := H oc' se' ot' ow' en' tr'
    rw [zq_bI_f (fun y => z y.2)] at H'
    exact H'
  · have H' := H oc' se' ot' ow' en' tr'
    rw [zq_bI_t ⟨hc, z⟩] at H'
    exact H'
theorem zq_yh_holds {post : Int32 → SY → Prop} (hI : zq_Iv m sz wd q P) (hd : d < 6)
    (H : ∀ ro' st' pl', post (zq_bI (zq_Hd sz wd q m d)) ((nI m), (zq_nF sz), (zq_nF wd), (zq_nF q), ro', st', pl')) : wpY_holds post ((nI m), (zq_nF sz), (zq_nF wd), (zq_nF q), ro, st, pl) (nI d) := by
  obtain ⟨hm, hsz, hwd, hq, hv, hP⟩ := hI
  unfold wpY_holds
  dsimp only
  refine zq_yd_yes hd (br_f zq_ph_10 ?_)
  refine zq_yu_complete hm hq hv (fun pl' => zq_bI_br (fun hn => ?_) (fun hc => ?_))
  · have H' := H ro st pl'
    rw [zq_bI_f (fun z => hn z.1)] at H'
    exact H'
  · refine zq_yw_work hm hd hq hv hc.2 hsz hwd (fun ro' st' hG => ?_)
    have H' := H ro' st' pl'
    have e : ro' 0 = zq_bI (zq_Tv sz wd q m d 0 0) := (hG 0 (Nat.le_refl 0) hc.1).2 (zq_Va_first hv hc.1)
    refine zq_bI_br1x e (fun z => ?_) (fun z => ?_)
    · rw [zq_bI_t ⟨hc, z⟩] at H'
      exact H'
    · rw [zq_bI_f (fun y => z y.2)] at H'
      exact H'
theorem zq_xm_loop {post : Int32 → SX → Prop} (hI : zq_Iv m sz wd q P)
    (H : ∀ oc' se' ot' ow' en' tr', post (zq_mt (zq_Hd sz wd q m) 6) ((nI m), oc', (zq_nF sz), (zq_nF wd), P, (zq_nF q), se', ot', ow', en', tr')) :
    ∀ e x n, x + e = 6 → e < n → ∀ oc se ot ow en tr, wX_matching_4 post n (zq_mt (zq_Hd sz wd q m) x) (nI x) (nI m) oc (zq_nF sz) (zq_nF wd) P (zq_nF q) se ot ow en tr := by
  intro e
  induction e with
  | zero =>
    intro x n hx hn oc se ot ow en tr
    obtain ⟨n, rfl⟩ : ∃ k, n = k + 1 := ⟨n - 1, by omega⟩
    have e : x = 6 := by omega
    subst e
    exact br_t (show nI 6 ≤ nI 6 from nI_le (by omega) (by omega)) (H oc se ot ow en tr)
  | succ e ih =>
    intro x n hx hn oc se ot ow en tr
    obtain ⟨n, rfl⟩ : ∃ k, n = k + 1 := ⟨n - 1, by omega⟩
    refine br_f (nI_ge (b := 6) (by omega) (by omega)) ?_
    refine zq_xh_holds hI (by omega) (fun oc' se' ot' ow' en' tr' => ?_)
    have key := ih (x + 1) n (by omega) (by omega) oc' se' ot' ow' en' tr'
    refine zq_bI_br (fun z => ?_) (fun z => ?_)
    · rw [zq_mt_f z] at key
      exact nm_r (zq_ph_or0 _) (nm_r (nI_1 x) key)
    · rw [zq_mt_t z] at key
      exact nm_e (nm_r (nI_1 x) key)
theorem zq_ym_loop {post : Int32 → SY → Prop} (hI : zq_Iv m sz wd q P)
    (H : ∀ ro' st' pl', post (zq_mt (zq_Hd sz wd q m) 6) ((nI m), (zq_nF sz), (zq_nF wd), (zq_nF q), ro', st', pl')) :
    ∀ e x n, x + e = 6 → e < n → ∀ ro st pl, wY_matching_4 post n (zq_mt (zq_Hd sz wd q m) x) (nI x) (nI m) (zq_nF sz) (zq_nF wd) (zq_nF q) ro st pl := by
  intro e
  induction e with
  | zero =>
    intro x n hx hn ro st pl
    obtain ⟨n, rfl⟩ : ∃ k, n = k + 1 := ⟨n - 1, by omega⟩
    have e : x = 6 := by omega
    subst e
    exact br_t (show nI 6 ≤ nI 6 from nI_le (by omega) (by omega)) (H ro st pl)
  | succ e ih =>
    intro x n hx hn ro st pl
    obtain ⟨n, rfl⟩ : ∃ k, n = k + 1 := ⟨n - 1, by omega⟩
    refine br_f (nI_ge (b := 6) (by omega) (by omega)) ?_
    refine zq_yh_holds hI (by omega) (fun ro' st' pl' => ?_)
    have key := ih (x + 1) n (by omega) (by omega) ro' st' pl'
    refine zq_bI_br (fun z => ?_) (fun z => ?_)
    · rw [zq_mt_f z] at key
      exact nm_r (nI_1 x) key
    · rw [zq_mt_t z] at key
      exact nm_e (nm_r (nI_1 x) key)
/-! the k-th HAS -/
def zq_fd (q : Nat → Nat) (p : Int32) : Nat → Nat → Nat → Int32
  | 0, _, _ => -1
  | e + 1, x, c => if q x = 23 then (if nI c = p then nI (x + 1) else zq_fd q p e (x + 1) (c + 1)) else zq_fd q p e (x + 1) c
theorem zq_fd_res {p : Int32} : ∀ e x c, x + e = m → zq_fd q p e x c = -1 ∨ ∃ i, i < m ∧ q i = 23 ∧ zq_fd q p e x c = nI (i + 1) := by
  intro e
  induction e with
  | zero => intro x c _; exact Or.inl rfl
  | succ e ih =>
    intro x c hx
    show (if q x = 23 then (if nI c = p then nI (x + 1) else zq_fd q p e (x + 1) (c + 1)) else zq_fd q p e (x + 1) c) = -1 ∨ ∃ i, i < m ∧ q i = 23 ∧ (if q x = 23 then (if nI c = p then nI (x + 1) else zq_fd q p e (x + 1) (c + 1)) else zq_fd q p e (x + 1) c) = nI (i + 1)
    by_cases h : q x = 23
    · rw [if_pos h]
      by_cases h2 : nI c = p
      · rw [if_pos h2]
        exact Or.inr ⟨x, by omega, h, rfl⟩
      · rw [if_neg h2]
        exact ih (x + 1) (c + 1) (by omega)
    · rw [if_neg h]
      exact ih (x + 1) c (by omega)
theorem zq_fd_neg {p : Int32} (hp : p < 0) : ∀ e x c, c + e < 2 ^ 31 → zq_fd q p e x c = -1 := by
  intro e
  induction e with
  | zero => intro x c _; rfl
  | succ e ih =>
    intro x c hc
    show (if q x = 23 then (if nI c = p then nI (x + 1) else zq_fd q p e (x + 1) (c + 1)) else zq_fd q p e (x + 1) c) = -1
    by_cases h : q x = 23
    · rw [if_pos h, if_neg (fun z => by rw [← z] at hp; exact nI_pos (by omega) hp)]
      exact ih (x + 1) (c + 1) (by omega)
    · rw [if_neg h]
      exact ih (x + 1) c (by omega)
theorem zq_xs_loop {post : Int32 → SX → Prop} {p : Int32} (hm : m ≤ 12) (hq : ∀ j, q j < 24) :
    ∀ e x n c, x + e = m → e < n → post (zq_fd q p e x c) ((nI m), oc, (zq_nF sz), (zq_nF wd), P, (zq_nF q), se, ot, ow, en, tr) → wX_spanOf_26 post p (nI m) oc (zq_nF sz) (zq_nF wd) P (zq_nF q) se ot ow en tr n (nI c) (nI x) := by
  intro e
  induction e with
  | zero =>
    intro x n c hx hn hp
    obtain ⟨n, rfl⟩ : ∃ k, n = k + 1 := ⟨n - 1, by omega⟩
    exact br_t (nI_le (by omega) (by omega)) hp
  | succ e ih =>
    intro x n c hx hn hp
    obtain ⟨n, rfl⟩ : ∃ k, n = k + 1 := ⟨n - 1, by omega⟩
    have hp' : post (if q x = 23 then (if nI c = p then nI (x + 1) else zq_fd q p e (x + 1) (c + 1)) else zq_fd q p e (x + 1) c) ((nI m), oc, (zq_nF sz), (zq_nF wd), P, (zq_nF q), se, ot, ow, en, tr) := hp
    have h24 := hq x
    refine br_f (nI_ge (by omega) (by omega)) (And.intro (vp_in_nI (by omega) (by omega)) ?_)
    refine pk_eq (q x) 23 (fun h => ?_) (fun h => ?_) (zq_nF_at x rfl (by omega))
    · rw [if_pos h] at hp'
      by_cases h2 : nI c = p
      · rw [if_pos h2] at hp'
        refine br_t h2 ?_
        rw [nI_1]
        exact hp'
      · rw [if_neg h2] at hp'
        exact br_f h2 (nm_r (nI_1 c) (nm_r (nI_1 x) (ih (x + 1) n (c + 1) (by omega) (by omega) hp')))
    · rw [if_neg h] at hp'
      exact nm_r (nI_1 x) (ih (x + 1) n c (by omega) (by omega) hp')
theorem zq_ys_loop {post : Int32 → SY → Prop} {p : Int32} (hm : m ≤ 12) (hq : ∀ j, q j < 24) :
    ∀ e x n c, x + e = m → e < n → post (zq_fd q p e x c) ((nI m), (zq_nF sz), (zq_nF wd), (zq_nF q), ro, st, pl) → wY_find_27 post p (nI m) (zq_nF sz) (zq_nF wd) (zq_nF q) ro st pl n (nI c) (nI x) := by
  intro e
  induction e with
  | zero =>
    intro x n c hx hn hp
    obtain ⟨n, rfl⟩ : ∃ k, n = k + 1 := ⟨n - 1, by omega⟩
    exact br_t (nI_le (by omega) (by omega)) hp
  | succ e ih =>
    intro x n c hx hn hp
    obtain ⟨n, rfl⟩ : ∃ k, n = k + 1 := ⟨n - 1, by omega⟩
    have hp' : post (if q x = 23 then (if nI c = p then nI (x + 1) else zq_fd q p e (x + 1) (c + 1)) else zq_fd q p e (x + 1) c) ((nI m), (zq_nF sz), (zq_nF wd), (zq_nF q), ro, st, pl) := hp
    have h24 := hq x
    refine br_f (nI_ge (by omega) (by omega)) (And.intro (vp_in_nI (by omega) (by omega)) ?_)
    refine pk_eq (q x) 23 (fun h => ?_) (fun h => ?_) (zq_nF_at x rfl (by omega))
    · rw [if_pos h] at hp'
      by_cases h2 : nI c = p
      · rw [if_pos h2] at hp'
        refine br_t h2 ?_
        rw [nI_1]
        exact hp'
      · rw [if_neg h2] at hp'
        exact br_f h2 (nm_r (nI_1 c) (nm_r (nI_1 x) (ih (x + 1) n (c + 1) (by omega) (by omega) hp')))
    · rw [if_neg h] at hp'
      exact nm_r (nI_1 x) (ih (x + 1) n c (by omega) (by omega) hp')
/-- the answer of spanOf and of find -/
noncomputable def zq_spR (q : Nat → Nat) (m : Nat) (p : Int32) : Int32 := @ite _ (zq_Cp q m) (Classical.propDecidable _) (zq_fd q p m 0 0) (-1)
theorem zq_spR_t {p : Int32} (h : zq_Cp q m) : zq_spR q m p = zq_fd q p m 0 0 := by
  unfold zq_spR
  exact if_pos h
theorem zq_spR_f {p : Int32} (h : ¬ zq_Cp q m) : zq_spR q m p = -1 := by
  unfold zq_spR
  exact if_neg h
theorem zq_ph_n1 : ¬ (0 : Int32) ≤ -1 := by decide
theorem zq_ph_n1lt : (-1 : Int32) < 0 := by decide
theorem zq_spR_neg {p : Int32} (hm : m ≤ 12) (hp : p < 0) : zq_spR q m p = -1 := by
  by_cases h : zq_Cp q m
  · rw [zq_spR_t h, zq_fd_neg hp _ _ _ (by omega)]
  · exact zq_spR_f h
theorem zq_spR_cases {p : Int32} (hv : zq_Va q m) : zq_spR q m p = -1 ∨ ∃ j, j < m ∧ q j < 19 ∧ zq_spR q m p = nI j := by
  by_cases h : zq_Cp q m
  · rw [zq_spR_t h]
    rcases zq_fd_res (m := m) (q := q) (p := p) m 0 0 (by omega) with h1 | ⟨i, h1, h2, h3⟩
    · exact Or.inl h1
    · obtain ⟨c1, c2, _⟩ := zq_ch_next hv h.2 h1 (by rw [h2]; decide)
      exact Or.inr ⟨i + 1, c1, zq_ok_2 c2 (Or.inr h2), h3⟩
  · exact Or.inl (zq_spR_f h)
theorem zq_xs_spanOf {post : Int32 → SX → Prop} {p : Int32} (hI : zq_Iv m sz wd q P) (hd : d < 6)
    (H : ∀ oc' se' ot' ow' en' tr', (0 ≤ zq_spR q m p → zq_GG sz wd q m d 0 en' tr') → post (zq_spR q m p) ((nI m), oc', (zq_nF sz), (zq_nF wd), P, (zq_nF q), se', ot', ow', en', tr')) : wpX_spanOf post ((nI m), oc, (zq_nF sz), (zq_nF wd), P, (zq_nF q), se, ot, ow, en, tr) p (nI d) := by
  obtain ⟨hm, hsz, hwd, hq, hv, hP⟩ := hI
  unfold wpX_spanOf
  dsimp only
  refine zq_xd_yes hd (br_f zq_ph_10 ?_)
  by_cases hp : p < 0
  · have H' := H oc se ot ow en tr
    rw [zq_spR_neg hm hp] at H'
    exact br_t hp (H' (fun z => absurd z zq_ph_n1))
  · refine br_f hp (zq_xk_done hm hd hq hv hP (fun hn oc' se' ot' ow' => br_t rfl ?_) (fun hc oc' se' ot' ow' en' tr' hG => br_f zq_ph_10 ⟨m + 1, ?_⟩))
    · have H' := H oc' se' ot' ow' en tr
      rw [zq_spR_f hn] at H'
      exact H' (fun z => absurd z zq_ph_n1)
    · have H' := H oc' se' ot' ow' en' tr' (fun _ => hG)
      rw [zq_spR_t hc] at H'
      exact zq_xs_loop hm hq m 0 (m + 1) 0 (by omega) (by omega) H'
theorem zq_ys_find {post : Int32 → SY → Prop} {p : Int32} (hI : zq_Iv m sz wd q P) (hd : d < 6)
    (H : ∀ ro' st' pl', (0 ≤ zq_spR q m p → zq_GG sz wd q m d 0 ro' (fun j => ro' (j * 24))) → post (zq_spR q m p) ((nI m), (zq_nF sz), (zq_nF wd), (zq_nF q), ro', st', pl')) : wpY_find post ((nI m), (zq_nF sz), (zq_nF wd), (zq_nF q), ro, st, pl) p (nI d) := by
  obtain ⟨hm, hsz, hwd, hq, hv, hP⟩ := hI
  unfold wpY_find
  dsimp only
  refine zq_yd_yes hd (br_f zq_ph_10 ?_)
  refine zq_yu_complete hm hq hv (fun pl' => zq_bI_br (fun hn => ?_) (fun hc => ?_))
  · have H' := H ro st pl'
    rw [zq_spR_f hn] at H'
    exact H' (fun z => absurd z zq_ph_n1)
  · refine zq_yw_work hm hd hq hv hc.2 hsz hwd (fun ro' st' hG => ⟨m + 1, ?_⟩)
    have H' := H ro' st' pl' (fun _ => hG)
    rw [zq_spR_t hc] at H'
    exact zq_ys_loop hm hq m 0 (m + 1) 0 (by omega) (by omega) H'
theorem zq_xs_spanOf_no {post : Int32 → SX → Prop} {u : SX} {p x : Int32} (h : x < 0 ∨ nI 6 ≤ x) (H : post (-1) u) : wpX_spanOf post u p x := by
  obtain ⟨a1, a2, a3, a4, a5, a6, a7, a8, a9, a10, a11⟩ := u
  unfold wpX_spanOf
  dsimp only
  refine zq_xd_no h ?_
  exact br_t rfl H
theorem zq_ys_find_no {post : Int32 → SY → Prop} {v : SY} {p x : Int32} (h : x < 0 ∨ nI 6 ≤ x) (H : post (-1) v) : wpY_find post v p x := by
  obtain ⟨a1, a2, a3, a4, a5, a6, a7⟩ := v
  unfold wpY_find
  dsimp only
  refine zq_yd_no h ?_
  exact br_t rfl H
end
end
section
/-! part 13: spans, begins, ends; having, frequency, hasTokens -/
section
variable {m d j : Nat} {sz wd q : Nat → Nat} {oc : Int32} {P se ot ow en tr ro st pl : Nat → Int32} {A M : Nat → Int32}
theorem zq_xp_loop {post : Int32 → SX → Prop} (hj : j < 12) (hA : ∀ b, b < 24 → en (j * 24 + b) = A b) (H : post (zq_sb A 24) ((nI m), oc, (zq_nF sz), (zq_nF wd), P, (zq_nF q), se, ot, ow, en, tr)) :
    ∀ e b n, b + e = 24 → e < n → wX_spans_19 post (nI j) (nI m) oc (zq_nF sz) (zq_nF wd) P (zq_nF q) se ot ow en tr n (zq_sb A b) (nI b) := by
  intro e
  induction e with
  | zero =>
    intro b n hb hn
    obtain ⟨n, rfl⟩ : ∃ k, n = k + 1 := ⟨n - 1, by omega⟩
    have e : b = 24 := by omega
    subst e
    exact br_t (show nI 24 ≤ nI 24 from nI_le (by omega) (by omega)) H
  | succ e ih =>
    intro b n hb hn
    obtain ⟨n, rfl⟩ : ∃ k, n = k + 1 := ⟨n - 1, by omega⟩
    have hi := zq_ph_mul j b
    refine br_f (nI_ge (b := 24) (by omega) (by omega)) (And.intro (pk_in _ _ (by omega) hi) ?_)
    rw [pk_cl _ hi (by omega), hA b (by omega)]
    exact zq_xo_ones (nm_e (nm_r (nI_1 b) (ih (b + 1) n (by omega) (by omega))))
theorem zq_ph_24 : ¬ (24 : Int32) = 0 := by decide
theorem zq_ph_div {c : Nat} (hc : c < 2 ^ 31) : nI c / 24 = nI (c / 24) := pk_div (d := 24) hc (by omega) (by omega)
theorem zq_ph_rem {c : Nat} (hc : c < 2 ^ 31) : nI c - nI c / 24 * 24 = nI (c % 24) := pk_rem (d := 24) hc (by omega) (by omega)
theorem zq_yp_loop {post : Int32 → SY → Prop} (hj : j < 12) (hA : ∀ b, b < 24 → ro (j * 24 + b) = A b) (H : post (zq_sb A 24) ((nI m), (zq_nF sz), (zq_nF wd), (zq_nF q), ro, st, pl)) :
    ∀ e c n, c + e = 576 → e < n → wY_spans_21 post (nI j) (nI m) (zq_nF sz) (zq_nF wd) (zq_nF q) ro st pl n (zq_sc A c) (nI c) := by
  intro e
  induction e with
  | zero =>
    intro c n hc hn
    obtain ⟨n, rfl⟩ : ∃ k, n = k + 1 := ⟨n - 1, by omega⟩
    have e : c = 24 * 24 := by omega
    subst e
    rw [zq_sc_24]
    exact br_t (show nI 576 ≤ nI 576 from nI_le (by omega) (by omega)) H
  | succ e ih =>
    intro c n hc hn
    obtain ⟨n, rfl⟩ : ∃ k, n = k + 1 := ⟨n - 1, by omega⟩
    have hi : 24 * nI j + nI c / 24 = nI (j * 24 + c / 24) := by
      rw [zq_ph_div (by omega), zq_ph_mulY]
    refine br_f (nI_ge (b := 576) (by omega) (by omega)) (br_f (nI_pos (by omega)) (And.intro zq_ph_24 (And.intro (pk_in _ _ (by omega) hi) (And.intro zq_ph_24 (nm_r (e' := zq_sc A (c + 1)) ?_ (nm_r (nI_1 c) (ih (c + 1) n (by omega) (by omega))))))))
    rw [pk_cl _ hi (by omega), hA _ (by omega), zq_ph_rem (by omega), zq_ph_bit _ (by omega), zq_sc_s]
theorem zq_yp_neg {post : Int32 → SY → Prop} {r : Int32} (hr : r < 0) (H : post (-1) ((nI m), (zq_nF sz), (zq_nF wd), (zq_nF q), ro, st, pl)) : wY_spans_21 post r (nI m) (zq_nF sz) (zq_nF wd) (zq_nF q) ro st pl 1 (-1) 0 :=
  br_f (show ¬ nI 576 ≤ nI 0 from nI_ge (by omega) (by omega)) (br_t hr H)
/-! begins -/
theorem zq_yb_loop {post : Int32 → SY → Prop} {b : Int32} (hj : j < 12) (hA : ∀ b, b < 24 → ro (j * 24 + b) = A b) :
    ∀ e x n, x + e = 24 → e < n → ¬ nI x < b → post (zq_fb A e x) ((nI m), (zq_nF sz), (zq_nF wd), (zq_nF q), ro, st, pl) → wY_begins_11 post b (nI j) (nI m) (zq_nF sz) (zq_nF wd) (zq_nF q) ro st pl n (nI x) := by
  intro e
  induction e with
  | zero =>
    intro x n hx hn hb hp
    obtain ⟨n, rfl⟩ : ∃ k, n = k + 1 := ⟨n - 1, by omega⟩
    exact br_t (show nI 24 ≤ nI x from nI_le (by omega) (by omega)) hp
  | succ e ih =>
    intro x n hx hn hb hp
    obtain ⟨n, rfl⟩ : ∃ k, n = k + 1 := ⟨n - 1, by omega⟩
    have hi := zq_ph_mulY j x
    refine br_f (nI_ge (b := 24) (by omega) (by omega)) (br_f (nI_pos (by omega)) (br_f hb (And.intro (pk_in _ _ (by omega) hi) ?_)))
    rw [pk_cl _ hi (by omega), hA x (by omega)]
    have hp' : post (if A x = 0 then zq_fb A e (x + 1) else nI x) ((nI m), (zq_nF sz), (zq_nF wd), (zq_nF q), ro, st, pl) := hp
    by_cases h : A x = 0
    · rw [if_pos h] at hp'
      refine br_t h (nm_r (nI_1 x) (ih (x + 1) n (by omega) (by omega) (fun z => hb (Int32.lt_of_le_of_lt ?_ z)) hp'))
      exact nI_le (by omega) (by omega)
    · rw [if_neg h] at hp'
      exact br_f h hp'
theorem zq_yb_skip {post : Int32 → SY → Prop} {b : Int32} {x0 N : Nat} (hj : j < 12) (hx0 : x0 ≤ 24) (hb : ∀ x, x < x0 → nI x < b) (H : ∀ n, N ≤ n → wY_begins_11 post b (nI j) (nI m) (zq_nF sz) (zq_nF wd) (zq_nF q) ro st pl n (nI x0)) :
    ∀ e x n, x + e = x0 → e + N ≤ n → wY_begins_11 post b (nI j) (nI m) (zq_nF sz) (zq_nF wd) (zq_nF q) ro st pl n (nI x) := by
  intro e
  induction e with
  | zero =>
    intro x n hx hn
    rw [show x = x0 by omega]
    exact H n (by omega)
  | succ e ih =>
    intro x n hx hn
    obtain ⟨n, rfl⟩ : ∃ k, n = k + 1 := ⟨n - 1, by omega⟩
    exact br_f (nI_ge (b := 24) (by omega) (by omega)) (br_f (nI_pos (by omega)) (br_t (hb x (by omega)) (nm_r (nI_1 x) (ih (x + 1) n (by omega) (by omega)))))
theorem zq_yb_neg {post : Int32 → SY → Prop} {b r : Int32} (hr : r < 0) (H : post (-1) ((nI m), (zq_nF sz), (zq_nF wd), (zq_nF q), ro, st, pl)) : wY_begins_11 post b r (nI m) (zq_nF sz) (zq_nF wd) (zq_nF q) ro st pl 1 0 :=
  br_f (show ¬ nI 24 ≤ nI 0 from nI_ge (by omega) (by omega)) (br_t hr H)
/-- both find the same first begin -/
theorem zq_bg_both (A : Nat → Int32) (b : Int32) : ∃ r : Int32, (∀ (j m : Nat) (sz wd q : Nat → Nat) (oc : Int32) (P se ot ow en tr : Nat → Int32) (post : Int32 → Prop), j < 12 → (∀ b, b < 24 → en (j * 24 + b) = A b) → post r → wpX_firstBegin post ((nI m), oc, (zq_nF sz), (zq_nF wd), P, (zq_nF q), se, ot, ow, en, tr) (nI j) b) ∧
    (∀ (j m : Nat) (sz wd q : Nat → Nat) (ro st pl : Nat → Int32) (post : Int32 → SY → Prop), j < 12 → (∀ b, b < 24 → ro (j * 24 + b) = A b) → post r ((nI m), (zq_nF sz), (zq_nF wd), (zq_nF q), ro, st, pl) → ∃ n, wY_begins_11 post b (nI j) (nI m) (zq_nF sz) (zq_nF wd) (zq_nF q) ro st pl n 0) := by
  rcases pk_ix b (n := 24) (by omega) with hb | hb | ⟨b0, hb, rfl⟩
  · refine ⟨zq_fb A 24 0, fun j m sz wd q oc P se ot ow en tr post hj hA hp => zq_xf_neg hj hA hb hp, fun j m sz wd q ro st pl post hj hA hp => ⟨25, zq_yb_loop hj hA 24 0 25 (by omega) (by omega) (fun z => ?_) hp⟩⟩
    have z' : (0 : Int32) < b := z
    exact Int32.lt_irrefl (Int32.lt_trans hb z')
  · refine ⟨-1, fun j m sz wd q oc P se ot ow en tr post hj hA hp => zq_xf_hi hb hp, fun j m sz wd q ro st pl post hj hA hp => ⟨25, zq_yb_skip (x0 := 24) (N := 1) hj (by omega) (fun x hx => Int32.lt_of_lt_of_le (nI_lt hx (by omega)) hb) (fun n hn => ?_) 24 0 25 (by omega) (by omega)⟩⟩
    obtain ⟨n, rfl⟩ : ∃ k, n = k + 1 := ⟨n - 1, by omega⟩
    exact br_t (show nI 24 ≤ nI 24 from nI_le (by omega) (by omega)) hp
  · refine ⟨zq_fb A (24 - b0) b0, fun j m sz wd q oc P se ot ow en tr post hj hA hp => zq_xf_in hj hA hb hp, fun j m sz wd q ro st pl post hj hA hp => ⟨26, zq_yb_skip (x0 := b0) (N := 25 - b0) hj (by omega) (fun x hx => nI_lt hx (by omega)) (fun n hn => ?_) b0 0 26 (by omega) (by omega)⟩⟩
    exact zq_yb_loop hj hA (24 - b0) b0 n (by omega) (by omega) (nI_nlt (by omega) (by omega)) hp
/-! ends -/
theorem zq_xe_loop {post : Int32 → SX → Prop} {y : Int32} : ∀ e x n, x + e = 24 → e < n → post (zq_fe y e x) ((nI m), oc, (zq_nF sz), (zq_nF wd), P, (zq_nF q), se, ot, ow, en, tr) → wX_ends_42 post y (nI m) oc (zq_nF sz) (zq_nF wd) P (zq_nF q) se ot ow en tr n (nI x) := by
  intro e
  induction e with
  | zero =>
    intro x n hx hn hp
    obtain ⟨n, rfl⟩ : ∃ k, n = k + 1 := ⟨n - 1, by omega⟩
    exact br_t (show nI 24 ≤ nI x from nI_le (by omega) (by omega)) hp
  | succ e ih =>
    intro x n hx hn hp
    obtain ⟨n, rfl⟩ : ∃ k, n = k + 1 := ⟨n - 1, by omega⟩
    have hp' : post (if bt y x = true then nI x else zq_fe y e (x + 1)) ((nI m), oc, (zq_nF sz), (zq_nF wd), P, (zq_nF q), se, ot, ow, en, tr) := hp
    refine br_f (nI_ge (b := 24) (by omega) (by omega)) (zq_ph_brX (by omega) (fun hb => ?_) (fun hb => ?_))
    · rw [if_neg hb] at hp'
      exact nm_r (nI_1 x) (ih (x + 1) n (by omega) (by omega) hp')
    · rw [if_pos hb] at hp'
      exact hp'
theorem zq_yeloop {post : Int32 → SY → Prop} {b : Nat} (hj : j < 12) (hb : b < 24) (hA : ro (j * 24 + b) = A b) : ∀ e x n, x + e = 24 → e < n → post (zq_fe (A b) e x) ((nI m), (zq_nF sz), (zq_nF wd), (zq_nF q), ro, st, pl) → wY_ends_11 post (nI b) (nI j) (nI m) (zq_nF sz) (zq_nF wd) (zq_nF q) ro st pl n (nI x) := by
  intro e
  induction e with
  | zero =>
    intro x n hx hn hp
    obtain ⟨n, rfl⟩ : ∃ k, n = k + 1 := ⟨n - 1, by omega⟩
    exact br_t (show nI 24 ≤ nI x from nI_le (by omega) (by omega)) hp
  | succ e ih =>
    intro x n hx hn hp
    obtain ⟨n, rfl⟩ : ∃ k, n = k + 1 := ⟨n - 1, by omega⟩
    have hi := zq_ph_mulY j b
    have hp' : post (if bt (A b) x = true then nI x else zq_fe (A b) e (x + 1)) ((nI m), (zq_nF sz), (zq_nF wd), (zq_nF q), ro, st, pl) := hp
    refine br_f (nI_ge (b := 24) (by omega) (by omega)) (br_f (nI_pos (by omega)) (br_f (nI_pos (by omega)) (br_f (nI_ge (b := 24) hb (by omega)) (And.intro (pk_in _ _ (by omega) hi) ?_))))
    rw [pk_cl _ hi (by omega), hA]
    refine zq_ph_brY (by omega) (fun hb => ?_) (fun hb => ?_)
    · rw [if_pos hb] at hp'
      exact hp'
    · rw [if_neg hb] at hp'
      exact nm_r (nI_1 x) (ih (x + 1) n (by omega) (by omega) hp')
theorem zq_ph_024 : ¬ (24 : Int32) ≤ 0 := by decide
theorem zq_ye_r {post : Int32 → SY → Prop} {b r : Int32} (hr : r < 0) (H : post (-1) ((nI m), (zq_nF sz), (zq_nF wd), (zq_nF q), ro, st, pl)) : wY_ends_11 post b r (nI m) (zq_nF sz) (zq_nF wd) (zq_nF q) ro st pl 1 0 := br_f zq_ph_024 (br_t hr H)
theorem zq_ye_b {post : Int32 → SY → Prop} {b : Int32} (hj : j < 12) (hb : b < 0 ∨ nI 24 ≤ b) (H : post (-1) ((nI m), (zq_nF sz), (zq_nF wd), (zq_nF q), ro, st, pl)) : wY_ends_11 post b (nI j) (nI m) (zq_nF sz) (zq_nF wd) (zq_nF q) ro st pl 1 0 := by
  refine br_f zq_ph_024 (br_f (nI_pos (by omega)) ?_)
  by_cases h : b < 0
  · exact br_t h H
  · exact br_f h (br_t (hb.resolve_left h) H)
/-! having and frequency: M d is the set of places of the word in document d -/
theorem zq_xv_loop {post : Int32 → Prop} {w : Nat} (hw : w < 12) (hP : zq_PI sz wd P) (hsz : ∀ j, sz j ≤ 24) (H : post (zq_hvv (fun d => P (d * 12 + w)) 6)) :
    ∀ e x n, x + e = 6 → e < n → wX_having_4 post (nI w) (nI m) oc (zq_nF sz) (zq_nF wd) P (zq_nF q) se ot ow en tr n (zq_hvv (fun d => P (d * 12 + w)) x) (nI x) := by
  intro e
  induction e with
  | zero =>
    intro x n hx hn
    obtain ⟨n, rfl⟩ : ∃ k, n = k + 1 := ⟨n - 1, by omega⟩
    have e : x = 6 := by omega
    subst e
    exact br_t (show nI 6 ≤ nI 6 from nI_le (by omega) (by omega)) H
  | succ e ih =>
    intro x n hx hn
    obtain ⟨n, rfl⟩ : ∃ k, n = k + 1 := ⟨n - 1, by omega⟩
    have hi := zq_ph_mulW x w
    have key := ih (x + 1) n (by omega) (by omega)
    have h0 : P (x * 12 + w) = 0 ↔ ¬ zq_ann (P (x * 12 + w)) 24 = true := zq_ann_0 (fun i h1 h2 => by
      rw [hP x (by omega) w hw i h2]
      exact decide_eq_false (fun z => by have := hsz x; omega))
    refine br_f (nI_ge (b := 6) (by omega) (by omega)) (zq_xw_yes hw (br_f zq_ph_10 (And.intro (pk_in _ _ (by omega) hi) ?_)))
    rw [pk_cl _ hi (by omega)]
    by_cases h : P (x * 12 + w) = 0
    · rw [show zq_hvv (fun d => P (d * 12 + w)) (x + 1) = zq_hvv (fun d => P (d * 12 + w)) x from if_neg (h0.mp h)] at key
      exact br_t h (nm_r (zq_ph_or0 _) (nm_r (nI_1 x) key))
    · rw [show zq_hvv (fun d => P (d * 12 + w)) (x + 1) = zq_hvv (fun d => P (d * 12 + w)) x ||| ((1 : Int32) <<< (nI x &&& 31)) from if_pos (Classical.not_not.mp (fun z => h (h0.mpr z)))] at key
      exact br_f h (nm_e (nm_r (nI_1 x) key))
theorem zq_xq_loop {post : Int32 → Prop} {w : Nat} (hw : w < 12) (H : post (zq_sb (fun d => P (d * 12 + w)) 6)) :
    ∀ e x n, x + e = 6 → e < n → wX_frequency_4 post (nI w) (nI m) oc (zq_nF sz) (zq_nF wd) P (zq_nF q) se ot ow en tr n (zq_sb (fun d => P (d * 12 + w)) x) (nI x) := by
  intro e
  induction e with
  | zero =>
    intro x n hx hn
    obtain ⟨n, rfl⟩ : ∃ k, n = k + 1 := ⟨n - 1, by omega⟩
    have e : x = 6 := by omega
    subst e
    exact br_t (show nI 6 ≤ nI 6 from nI_le (by omega) (by omega)) H
  | succ e ih =>
    intro x n hx hn
    obtain ⟨n, rfl⟩ : ∃ k, n = k + 1 := ⟨n - 1, by omega⟩
    have hi := zq_ph_mulW x w
    have key := ih (x + 1) n (by omega) (by omega)
    refine br_f (nI_ge (b := 6) (by omega) (by omega)) (zq_xw_yes hw (br_f zq_ph_10 (And.intro (pk_in _ _ (by omega) hi) ?_)))
    rw [pk_cl _ hi (by omega)]
    exact zq_xo_ones (nm_e (nm_r (nI_1 x) key))
/-- Y's sets of the word w, for any w -/
def zq_Ms (sz wd : Nat → Nat) (w : Nat) (M : Nat → Int32) : Prop := ∀ d, d < 6 → ∀ i, i < 24 → (bt (M d) i = true ↔ i < sz d ∧ wd (d * 24 + i) = w)
theorem zq_Ms_in {w : Nat} (hw : w < 12) (hP : zq_PI sz wd P) : zq_Ms sz wd w (fun d => P (d * 12 + w)) := by
  intro d hd i hi
  show bt (P (d * 12 + w)) i = true ↔ _
  rw [hP d hd w hw i (by omega), decide_eq_true_iff]
theorem zq_Ms_out {w : Nat} (hw : 12 ≤ w) (hwd : ∀ j, wd j < 12) : zq_Ms sz wd w (fun _ => 0) := by
  intro d hd i hi
  show bt 0 i = true ↔ _
  rw [b_0]
  constructor
  · intro h
    exact absurd h Bool.false_ne_true
  · rintro ⟨_, h⟩
    have := hwd (d * 24 + i)
    omega
theorem zq_yv_loop {post : Int32 → Prop} {w : Nat} (hw : w < 2 ^ 31) (hsz : ∀ j, sz j ≤ 24) (hwd : ∀ j, wd j < 12) (hM : zq_Ms sz wd w M) (H : post (zq_hvv M 6)) :
    ∀ e c n, c + e = 144 → e < n → wY_having_4 post (nI w) (nI m) (zq_nF sz) (zq_nF wd) (zq_nF q) ro st pl n (zq_hcc M c) (nI c) := by
  intro e
  induction e with
  | zero =>
    intro c n hc hn
    obtain ⟨n, rfl⟩ : ∃ k, n = k + 1 := ⟨n - 1, by omega⟩
    have e : c = 6 * 24 := by omega
    subst e
    rw [zq_hcc_24]
    exact br_t (show nI 144 ≤ nI 144 from nI_le (by omega) (by omega)) H
  | succ e ih =>
    intro c n hc hn
    obtain ⟨n, rfl⟩ : ∃ k, n = k + 1 := ⟨n - 1, by omega⟩
    have hi : nI c / 24 = nI (c / 24) := zq_ph_div (by omega)
    have key := ih (c + 1) n (by omega) (by omega)
    have hm := hM (c / 24) (by omega) (c % 24) (by omega)
    rw [show c / 24 * 24 + c % 24 = c by omega] at hm
    have h24 := hsz (c / 24)
    have h12 := hwd c
    refine br_f (nI_ge (b := 144) (by omega) (by omega)) (br_f (nI_pos (by omega)) (And.intro zq_ph_24 (And.intro zq_ph_24 (And.intro (pk_in _ _ (by omega) hi) ?_))))
    refine pk_le (sz (c / 24)) (c % 24) (fun h => ?_) (fun h => And.intro (vp_in_nI (by omega) (by omega)) ?_) (zq_nF_at _ hi (by omega)) (zq_ph_rem (by omega))
    · rw [zq_hcc_s, if_neg (fun z => by have := (hm.mp z).1; omega)] at key
      exact nm_r (nI_1 c) key
    · refine pk_eq (wd c) w (fun h2 => And.intro zq_ph_24 ?_) (fun h2 => ?_) (zq_nF_at c rfl (by omega))
      · rw [zq_hcc_s, if_pos (hm.mpr ⟨h, h2⟩)] at key
        exact nm_r (by rw [hi]) (nm_r (nI_1 c) key)
      · rw [zq_hcc_s, if_neg (fun z => h2 (hm.mp z).2)] at key
        exact nm_r (nI_1 c) key
theorem zq_yq_loop {post : Int32 → Prop} {w : Nat} (hw : w < 2 ^ 31) (hsz : ∀ j, sz j ≤ 24) (hwd : ∀ j, wd j < 12) (hM : zq_Ms sz wd w M) (H : post (zq_sb M 6)) :
    ∀ e c n, c + e = 144 → e < n → wY_frequency_4 post (nI w) (nI m) (zq_nF sz) (zq_nF wd) (zq_nF q) ro st pl n (zq_sc M c) (nI c) := by
  intro e
  induction e with
  | zero =>
    intro c n hc hn
    obtain ⟨n, rfl⟩ : ∃ k, n = k + 1 := ⟨n - 1, by omega⟩
    have e : c = 6 * 24 := by omega
    subst e
    rw [zq_sc_24]
    exact br_t (show nI 144 ≤ nI 144 from nI_le (by omega) (by omega)) H
  | succ e ih =>
    intro c n hc hn
    obtain ⟨n, rfl⟩ : ∃ k, n = k + 1 := ⟨n - 1, by omega⟩
    have hi : nI c / 24 = nI (c / 24) := zq_ph_div (by omega)
    have key := ih (c + 1) n (by omega) (by omega)
    have hm := hM (c / 24) (by omega) (c % 24) (by omega)
    rw [show c / 24 * 24 + c % 24 = c by omega] at hm
    have h24 := hsz (c / 24)
    have h12 := hwd c
    refine br_f (nI_ge (b := 144) (by omega) (by omega)) (br_f (nI_pos (by omega)) (And.intro zq_ph_24 (And.intro zq_ph_24 (And.intro (pk_in _ _ (by omega) hi) ?_))))
    refine pk_le (sz (c / 24)) (c % 24) (fun h => ?_) (fun h => And.intro (vp_in_nI (by omega) (by omega)) ?_) (zq_nF_at _ hi (by omega)) (zq_ph_rem (by omega))
    · rw [zq_sc_s, if_neg (fun z => by have := (hm.mp z).1; omega), Int32.add_zero] at key
      exact nm_r (nI_1 c) key
    · refine pk_eq (wd c) w (fun h2 => ?_) (fun h2 => ?_) (zq_nF_at c rfl (by omega))
      · rw [zq_sc_s, if_pos (hm.mpr ⟨h, h2⟩)] at key
        exact nm_e (nm_r (nI_1 c) key)
      · rw [zq_sc_s, if_neg (fun z => h2 (hm.mp z).2), Int32.add_zero] at key
        exact nm_r (nI_1 c) key
/-! hasTokens -/
def zq_hkt (q : Nat → Nat) : Nat → Int32
  | 0 => 0
  | x + 1 => if q x = 23 then zq_hkt q x + 1 else zq_hkt q x
theorem zq_xt_loop {post : Int32 → Prop} (hm : m ≤ 12) (hq : ∀ j, q j < 24) (H : post (zq_hkt q m)) :
    ∀ e x n, x + e = m → e < n → wX_hasTokens_4 post (nI m) oc (zq_nF sz) (zq_nF wd) P (zq_nF q) se ot ow en tr n (zq_hkt q x) (nI x) := by
  intro e
  induction e with
  | zero =>
    intro x n hx hn
    obtain ⟨n, rfl⟩ : ∃ k, n = k + 1 := ⟨n - 1, by omega⟩
    have e : x = m := by omega
    subst e
    exact br_t (nI_le (by omega) (by omega)) H
  | succ e ih =>
    intro x n hx hn
    obtain ⟨n, rfl⟩ : ∃ k, n = k + 1 := ⟨n - 1, by omega⟩
    have key := ih (x + 1) n (by omega) (by omega)
    have h24 := hq x
    refine br_f (nI_ge (by omega) (by omega)) (And.intro (vp_in_nI (by omega) (by omega)) ?_)
    refine pk_eq (q x) 23 (fun h => ?_) (fun h => ?_) (zq_nF_at x rfl (by omega))
    · rw [show zq_hkt q (x + 1) = zq_hkt q x + 1 from if_pos h] at key
      exact nm_e (nm_r (nI_1 x) key)
    · rw [show zq_hkt q (x + 1) = zq_hkt q x from if_neg h] at key
      exact nm_r (Int32.add_zero _) (nm_r (nI_1 x) key)
theorem zq_yt_hloop {post : Int32 → Prop} (hm : m ≤ 12) (hq : ∀ j, q j < 24) (H : post (zq_hkt q m)) :
    ∀ e x n, x + e = m → e < n → wY_hasTokens_4 post (nI m) (zq_nF sz) (zq_nF wd) (zq_nF q) ro st pl n (zq_hkt q x) (nI x) := by
  intro e
  induction e with
  | zero =>
    intro x n hx hn
    obtain ⟨n, rfl⟩ : ∃ k, n = k + 1 := ⟨n - 1, by omega⟩
    have e : x = m := by omega
    subst e
    exact br_t (nI_le (by omega) (by omega)) H
  | succ e ih =>
    intro x n hx hn
    obtain ⟨n, rfl⟩ : ∃ k, n = k + 1 := ⟨n - 1, by omega⟩
    have key := ih (x + 1) n (by omega) (by omega)
    have h24 := hq x
    refine br_f (nI_ge (by omega) (by omega)) (And.intro (vp_in_nI (by omega) (by omega)) ?_)
    refine pk_eq (q x) 23 (fun h => ?_) (fun h => ?_) (zq_nF_at x rfl (by omega))
    · rw [show zq_hkt q (x + 1) = zq_hkt q x + 1 from if_pos h] at key
      exact nm_e (nm_r (nI_1 x) key)
    · rw [show zq_hkt q (x + 1) = zq_hkt q x from if_neg h] at key
      exact nm_r (nI_1 x) key
end
end
section
/-! part 14: documents -/
theorem zq_PI_write {sz wd : Nat → Nat} {P : Nat → Int32} {d w : Nat} (h : zq_PI sz wd P) (hsz : ∀ j, sz j ≤ 24) (hw : w < 12) (hs : sz d < 24) :
    zq_PI (zq_un sz d (sz d + 1)) (zq_un wd (d * 24 + sz d) w) (upd P (d * 12 + w) (P (d * 12 + w) ||| ((1 : Int32) <<< (nI (sz d) &&& 31)))) := by
  intro d' hd' w' hw' i hi
  have h24 := hsz d'
  by_cases e : d' = d ∧ w' = w
  · obtain ⟨rfl, rfl⟩ := e
    rw [pk_us, b_or, h d' hd' w' hw' i hi, zq_ph_sh (sz d') (by omega) i hi, ← Bool.decide_or]
    apply decide_eq_decide.mpr
    rw [zq_un_s]
    by_cases hip : i = sz d'
    · rw [hip, zq_un_s]
      exact ⟨fun _ => ⟨by omega, rfl⟩, fun _ => Or.inr rfl⟩
    · rw [zq_un_n (by omega : d' * 24 + i ≠ d' * 24 + sz d')]
      constructor
      · rintro (⟨h1, h2⟩ | h1)
        · exact ⟨by omega, h2⟩
        · exact absurd h1 hip
      · rintro ⟨h1, h2⟩
        exact Or.inl ⟨by omega, h2⟩
  · rw [pk_un (by omega), h d' hd' w' hw' i hi]
    apply decide_eq_decide.mpr
    by_cases hd : d' = d
    · subst hd
      rw [zq_un_s]
      by_cases hip : i = sz d'
      · rw [hip, zq_un_s]
        constructor
        · rintro ⟨h1, _⟩
          omega
        · rintro ⟨_, h1⟩
          exact absurd ⟨rfl, h1.symm⟩ e
      · rw [zq_un_n (by omega : d' * 24 + i ≠ d' * 24 + sz d')]
        constructor
        · rintro ⟨h1, h2⟩
          exact ⟨by omega, h2⟩
        · rintro ⟨h1, h2⟩
          exact ⟨by omega, h2⟩
    · rw [zq_un_n hd]
      constructor
      · rintro ⟨h1, h2⟩
        rw [zq_un_n (by omega : d' * 24 + i ≠ d * 24 + sz d)]
        exact ⟨h1, h2⟩
      · rintro ⟨h1, h2⟩
        rw [zq_un_n (by omega : d' * 24 + i ≠ d * 24 + sz d)] at h2
        exact ⟨h1, h2⟩
theorem zq_PI_clear {P : Nat → Int32} {d w p d' w' i : Nat} (hw : w < 12) (hw' : w' < 12) (hp : p < 32) (hi : i < 32) :
    bt (upd P (d * 12 + w) (P (d * 12 + w) &&& (((1 : Int32) <<< (nI p &&& 31)) ^^^ (-1))) (d' * 12 + w')) i = (bt (P (d' * 12 + w')) i && !decide (d' = d ∧ w' = w ∧ i = p)) := by
  by_cases e : d' = d ∧ w' = w
  · obtain ⟨rfl, rfl⟩ := e
    rw [pk_us, b_and, b_xor, b_m1 i hi, zq_ph_sh p hp i hi]
    by_cases hip : i = p
    · rw [decide_eq_true hip, decide_eq_true (p := d' = d' ∧ w' = w' ∧ i = p) ⟨rfl, rfl, hip⟩]
      rfl
    · rw [decide_eq_false hip, decide_eq_false (p := d' = d' ∧ w' = w' ∧ i = p) (fun z => hip z.2.2)]
      rfl
  · rw [pk_un (by omega), decide_eq_false (p := d' = d ∧ w' = w ∧ i = p) (fun z => e ⟨z.1, z.2.1⟩)]
    rw [Bool.not_false, Bool.and_true]
theorem zq_PI_set {P : Nat → Int32} {d w p d' w' i : Nat} (hw : w < 12) (hw' : w' < 12) (hp : p < 32) (hi : i < 32) :
    bt (upd P (d * 12 + w) (P (d * 12 + w) ||| ((1 : Int32) <<< (nI p &&& 31))) (d' * 12 + w')) i = (bt (P (d' * 12 + w')) i || decide (d' = d ∧ w' = w ∧ i = p)) := by
  by_cases e : d' = d ∧ w' = w
  · obtain ⟨rfl, rfl⟩ := e
    rw [pk_us, b_or, zq_ph_sh p hp i hi]
    by_cases hip : i = p
    · rw [decide_eq_true hip, decide_eq_true (p := d' = d' ∧ w' = w' ∧ i = p) ⟨rfl, rfl, hip⟩]
    · rw [decide_eq_false hip, decide_eq_false (p := d' = d' ∧ w' = w' ∧ i = p) (fun z => hip z.2.2)]
  · rw [pk_un (by omega), decide_eq_false (p := d' = d ∧ w' = w ∧ i = p) (fun z => e ⟨z.1, z.2.1⟩)]
    rw [Bool.or_false]
theorem zq_PI_change {sz wd : Nat → Nat} {P P1 : Nat → Int32} {d w p : Nat} (h : zq_PI sz wd P) (hsz : ∀ j, sz j ≤ 24) (hwd : ∀ j, wd j < 12) (hw : w < 12) (hp : p < sz d)
    (e1 : P1 = upd P (d * 12 + wd (d * 24 + p)) (P (d * 12 + wd (d * 24 + p)) &&& (((1 : Int32) <<< (nI p &&& 31)) ^^^ (-1)))) :
    zq_PI sz (zq_un wd (d * 24 + p) w) (upd P1 (d * 12 + w) (P1 (d * 12 + w) ||| ((1 : Int32) <<< (nI p &&& 31)))) := by
  intro d' hd' w' hw' i hi
  have h24 := hsz d
  have h24' := hsz d'
  rw [zq_PI_set hw hw' (by omega) hi, e1, zq_PI_clear (hwd _) hw' (by omega) hi, h d' hd' w' hw' i hi, ← decide_not, ← Bool.decide_and, ← Bool.decide_or]
  apply decide_eq_decide.mpr
  by_cases e : d' = d ∧ i = p
  · obtain ⟨rfl, rfl⟩ := e
    rw [zq_un_s]
    constructor
    · rintro (⟨⟨h1, h2⟩, h3⟩ | ⟨_, h2, _⟩)
      · exact absurd ⟨rfl, h2.symm, rfl⟩ h3
      · exact ⟨hp, h2.symm⟩
    · rintro ⟨_, h2⟩
      exact Or.inr ⟨rfl, h2.symm, rfl⟩
  · constructor
    · rintro (⟨⟨h1, h2⟩, h3⟩ | ⟨h1, _, h2⟩)
      · rw [zq_un_n (by omega : d' * 24 + i ≠ d * 24 + p)]
        exact ⟨h1, h2⟩
      · exact absurd ⟨h1, h2⟩ e
    · rintro ⟨h1, h2⟩
      rw [zq_un_n (by omega : d' * 24 + i ≠ d * 24 + p)] at h2
      exact Or.inl ⟨⟨h1, h2⟩, fun z => e ⟨z.1, z.2.2⟩⟩
theorem zq_PI_erase {sz wd : Nat → Nat} {P P' : Nat → Int32} {d : Nat} (h : zq_PI sz wd P) (hf : ∀ i, i < d * 12 ∨ d * 12 + 12 ≤ i → P' i = P i) (hz : ∀ w, w < 12 → P' (d * 12 + w) = 0) : zq_PI (zq_un sz d 0) wd P' := by
  intro d' hd' w' hw' i hi
  by_cases e : d' = d
  · subst e
    rw [hz w' hw', b_0, zq_un_s]
    exact (decide_eq_false (fun z => by have := z.1; omega)).symm
  · rw [hf _ (by omega), zq_un_n e]
    exact h d' hd' w' hw' i hi
section
variable {m d w p : Nat} {sz wd q : Nat → Nat} {oc : Int32} {P se ot ow en tr ro st pl : Nat → Int32}
theorem zq_xw_write {post : Int32 → SX → Prop} (hd : d < 6) (hw : w < 12) (hsz : ∀ j, sz j ≤ 24)
    (H0 : ¬ sz d < 24 → post (-2) ((nI m), oc, (zq_nF sz), (zq_nF wd), P, (zq_nF q), se, ot, ow, en, tr))
    (H1 : sz d < 24 → post (nI (sz d)) ((nI m), oc, (zq_nF (zq_un sz d (sz d + 1))), (zq_nF (zq_un wd (d * 24 + sz d) w)), (upd P (d * 12 + w) (P (d * 12 + w) ||| ((1 : Int32) <<< (nI (sz d) &&& 31)))), (zq_nF q), se, ot, ow, en, tr)) : wpX_write post ((nI m), oc, (zq_nF sz), (zq_nF wd), P, (zq_nF q), se, ot, ow, en, tr) (nI d) (nI w) := by
  have hS : zq_nF sz (nI d).toNatClampNeg = nI (sz d) := zq_nF_at d rfl (by omega)
  have h24 := hsz d
  have hi := zq_ph_mul d (sz d)
  have hj := zq_ph_mulW d w
  unfold wpX_write
  dsimp only
  refine zq_xd_yes hd (br_f zq_ph_10 (zq_xw_yes hw (br_f zq_ph_10 (And.intro (vp_in_nI hd (by omega)) ?_))))
  refine pk_lt (sz d) 24 (fun h => ?_) (fun h => H0 (by omega)) hS
  have H := H1 h
  refine And.intro (vp_in_nI hd (by omega)) (nm_r hS (And.intro (pk_in _ _ (by omega) hi) (nm_r (e' := zq_nF (zq_un wd (d * 24 + sz d) w)) ?_ (And.intro (pk_in _ _ (by omega) hj) (And.intro (pk_in _ _ (by omega) hj) (nm_r (e' := upd P (d * 12 + w) (P (d * 12 + w) ||| ((1 : Int32) <<< (nI (sz d) &&& 31)))) ?_ (And.intro (vp_in_nI hd (by omega)) (And.intro (vp_in_nI hd (by omega)) (nm_r (e' := zq_nF (zq_un sz d (sz d + 1))) ?_ H)))))))))
  · rw [pk_cl _ hi (by omega), zq_ph_vb (by omega), zq_nF_upd]
  · rw [pk_cl _ hj (by omega)]
  · rw [hS, nI_clamp (by omega), nI_1, zq_ph_vb (by omega), zq_nF_upd]
theorem zq_yw_write {post : Int32 → SY → Prop} (hd : d < 6) (hw : w < 12) (hsz : ∀ j, sz j ≤ 24)
    (H0 : ¬ sz d < 24 → post (-2) ((nI m), (zq_nF sz), (zq_nF wd), (zq_nF q), ro, st, pl))
    (H1 : sz d < 24 → post (nI (sz d)) ((nI m), (zq_nF (zq_un sz d (sz d + 1))), (zq_nF (zq_un wd (d * 24 + sz d) w)), (zq_nF q), ro, st, pl)) : wpY_write post ((nI m), (zq_nF sz), (zq_nF wd), (zq_nF q), ro, st, pl) (nI d) (nI w) := by
  have hS : zq_nF sz (nI d).toNatClampNeg = nI (sz d) := zq_nF_at d rfl (by omega)
  have h24 := hsz d
  have hi := zq_ph_mulY d (sz d)
  unfold wpY_write
  dsimp only
  refine zq_yd_yes hd (br_f zq_ph_10 (br_f (nI_pos (by omega)) (br_t (show nI w ≤ nI 11 from nI_le (by omega) (by omega)) (And.intro (vp_in_nI hd (by omega)) ?_))))
  refine pk_lt (sz d) 24 (fun h => ?_) (fun h => H0 (by omega)) hS
  have H := H1 h
  rw [hS]
  refine And.intro (vp_in_nI hd (by omega)) (And.intro (pk_in _ _ (by omega) hi) (nm_r (e' := zq_nF (zq_un wd (d * 24 + sz d) w)) ?_ (And.intro (vp_in_nI hd (by omega)) (And.intro (vp_in_nI hd (by omega)) (nm_r (e' := zq_nF (zq_un sz d (sz d + 1))) ?_ (And.intro (vp_in_nI hd (by omega)) ?_))))))
  · rw [pk_cl _ hi (by omega), zq_nF_upd]
  · rw [nI_clamp (by omega), nI_1, zq_nF_upd]
  · rw [zq_nF_at d rfl (by omega), zq_un_s, nI_pred]
    exact H
theorem zq_xc_change {post : Int32 → SX → Prop} (hd : d < 6) (hp : p < sz d) (hw : w < 12) (hsz : ∀ j, sz j ≤ 24) (hwd : ∀ j, wd j < 12)
    (H : ∀ P1, P1 = upd P (d * 12 + wd (d * 24 + p)) (P (d * 12 + wd (d * 24 + p)) &&& (((1 : Int32) <<< (nI p &&& 31)) ^^^ (-1))) →
      post 1 ((nI m), oc, (zq_nF sz), (zq_nF (zq_un wd (d * 24 + p) w)), (upd P1 (d * 12 + w) (P1 (d * 12 + w) ||| ((1 : Int32) <<< (nI p &&& 31)))), (zq_nF q), se, ot, ow, en, tr)) : wpX_change post ((nI m), oc, (zq_nF sz), (zq_nF wd), P, (zq_nF q), se, ot, ow, en, tr) (nI d) (nI p) (nI w) := by
  have hS : zq_nF sz (nI d).toNatClampNeg = nI (sz d) := zq_nF_at d rfl (by omega)
  have h24 := hsz d
  have h12 := hwd (d * 24 + p)
  have hi := zq_ph_mul d p
  have hj := zq_ph_mulW d w
  have ho := zq_ph_mulW d (wd (d * 24 + p))
  unfold wpX_change
  dsimp only
  refine zq_xd_yes hd (br_f zq_ph_10 (br_f (nI_pos (by omega)) (And.intro (vp_in_nI hd (by omega)) ?_)))
  refine pk_le (sz d) p (fun h => absurd h (by omega)) (fun h => ?_) hS
  refine zq_xw_yes hw (br_f zq_ph_10 (And.intro (pk_in _ _ (by omega) hi) (nm_r (zq_nF_at _ hi (by omega)) (And.intro (pk_in _ _ (by omega) ho) (And.intro (pk_in _ _ (by omega) ho) (nm_r (e' := upd P (d * 12 + wd (d * 24 + p)) (P (d * 12 + wd (d * 24 + p)) &&& (((1 : Int32) <<< (nI p &&& 31)) ^^^ (-1)))) ?_ (And.intro (pk_in _ _ (by omega) hi) (nm_r (e' := zq_nF (zq_un wd (d * 24 + p) w)) ?_ (And.intro (pk_in _ _ (by omega) hj) (And.intro (pk_in _ _ (by omega) hj) (nm_r ?_ (H _ rfl))))))))))))
  · rw [pk_cl _ ho (by omega)]
  · rw [pk_cl _ hi (by omega), zq_ph_vb (by omega), zq_nF_upd]
  · rw [pk_cl _ hj (by omega)]
theorem zq_yc_change {post : Int32 → SY → Prop} (hd : d < 6) (hp : p < sz d) (hw : w < 12) (hsz : ∀ j, sz j ≤ 24)
    (H : post 1 ((nI m), (zq_nF sz), (zq_nF (zq_un wd (d * 24 + p) w)), (zq_nF q), ro, st, pl)) : wpY_change post ((nI m), (zq_nF sz), (zq_nF wd), (zq_nF q), ro, st, pl) (nI d) (nI p) (nI w) := by
  have hS : zq_nF sz (nI d).toNatClampNeg = nI (sz d) := zq_nF_at d rfl (by omega)
  have h24 := hsz d
  have hi := zq_ph_mulY d p
  unfold wpY_change
  dsimp only
  refine zq_yd_yes hd (br_f zq_ph_10 (br_f (nI_pos (by omega)) (And.intro (vp_in_nI hd (by omega)) ?_)))
  refine pk_le (sz d) p (fun h => absurd h (by omega)) (fun h => ?_) hS
  refine br_f (nI_pos (by omega)) (br_t (show nI w ≤ nI 11 from nI_le (by omega) (by omega)) (And.intro (pk_in _ _ (by omega) hi) (nm_r ?_ H)))
  rw [pk_cl _ hi (by omega), zq_nF_upd]
theorem zq_xe_eloop {post : Int32 → SX → Prop} {P0 : Nat → Int32} (hd : d < 6)
    (H : ∀ P', (∀ i, i < d * 12 ∨ d * 12 + 12 ≤ i → P' i = P0 i) → (∀ w, w < 12 → P' (d * 12 + w) = 0) → post 1 ((nI m), oc, (zq_nF sz), (zq_nF wd), P', (zq_nF q), se, ot, ow, en, tr)) :
    ∀ e x n P, x + e = 12 → e < n → (∀ i, i < d * 12 ∨ d * 12 + 12 ≤ i → P i = P0 i) → (∀ w, w < x → P (d * 12 + w) = 0) → wX_erase_18 post (nI d) (nI m) oc n (nI x) (zq_nF sz) (zq_nF wd) P (zq_nF q) se ot ow en tr := by
  intro e
  induction e with
  | zero =>
    intro x n P hx hn h1 h2
    obtain ⟨n, rfl⟩ : ∃ k, n = k + 1 := ⟨n - 1, by omega⟩
    have e : x = 12 := by omega
    subst e
    exact br_t (show nI 12 ≤ nI 12 from nI_le (by omega) (by omega)) (H P h1 h2)
  | succ e ih =>
    intro x n P hx hn h1 h2
    obtain ⟨n, rfl⟩ : ∃ k, n = k + 1 := ⟨n - 1, by omega⟩
    have hi := zq_ph_mulW d x
    refine br_f (nI_ge (b := 12) (by omega) (by omega)) (And.intro (pk_in _ _ (by omega) hi) (nm_r (e' := upd P (d * 12 + x) 0) (by rw [pk_cl _ hi (by omega)]) (nm_r (nI_1 x) (ih (x + 1) n _ (by omega) (by omega) ?_ ?_))))
    · intro i hi
      rw [pk_un (by omega)]
      exact h1 i hi
    · intro c hc
      by_cases e : c = x
      · rw [e]
        exact pk_us
      · rw [pk_un (by omega)]
        exact h2 c (by omega)
theorem zq_xe_erase {post : Int32 → SX → Prop} (hd : d < 6)
    (H : ∀ P', (∀ i, i < d * 12 ∨ d * 12 + 12 ≤ i → P' i = P i) → (∀ w, w < 12 → P' (d * 12 + w) = 0) → post 1 ((nI m), oc, (zq_nF (zq_un sz d 0)), (zq_nF wd), P', (zq_nF q), se, ot, ow, en, tr)) : wpX_erase post ((nI m), oc, (zq_nF sz), (zq_nF wd), P, (zq_nF q), se, ot, ow, en, tr) (nI d) := by
  unfold wpX_erase
  dsimp only
  refine zq_xd_yes hd (br_f zq_ph_10 (And.intro (vp_in_nI hd (by omega)) (nm_r (e' := zq_nF (zq_un sz d 0)) ?_ ⟨13, ?_⟩)))
  · rw [nI_clamp (by omega), zq_ph_vb0, zq_nF_upd]
  · exact zq_xe_eloop hd H 12 0 13 P (by omega) (by omega) (fun _ _ => rfl) (fun c hc => absurd hc (by omega))
theorem zq_ye_erase {post : Int32 → SY → Prop} (hd : d < 6) (H : post 1 ((nI m), (zq_nF (zq_un sz d 0)), (zq_nF wd), (zq_nF q), ro, st, pl)) : wpY_erase post ((nI m), (zq_nF sz), (zq_nF wd), (zq_nF q), ro, st, pl) (nI d) := by
  unfold wpY_erase
  dsimp only
  refine zq_yd_yes hd (br_f zq_ph_10 (And.intro (vp_in_nI hd (by omega)) (nm_r (e' := zq_nF (zq_un sz d 0)) ?_ H)))
  rw [nI_clamp (by omega), ← nI_0, zq_nF_upd]
end
end
section
/-! part 15: the relation, and what is owed -/
/-- sizes, words and tokens are the same on both sides; the posts are the words' places; the tokens are a well typed beginning of a query; all else is scratch -/
def i_Rel (_ : Nat) (u : SX) (v : SY) : Prop :=
  ∃ (m : Nat) (sz wd q : Nat → Nat) (oc : Int32) (P se ot ow en tr ro st pl : Nat → Int32), zq_Iv m sz wd q P ∧ u = ((nI m), oc, (zq_nF sz), (zq_nF wd), P, (zq_nF q), se, ot, ow, en, tr) ∧ v = ((nI m), (zq_nF sz), (zq_nF wd), (zq_nF q), ro, st, pl)
theorem zq_re_el {R : SX → SY → Prop} {k : Nat} {u : SX} {v : SY} (I : i_Rel k u v) (h : ∀ (m : Nat) (sz wd q : Nat → Nat) (oc : Int32) (P se ot ow en tr ro st pl : Nat → Int32), zq_Iv m sz wd q P → R ((nI m), oc, (zq_nF sz), (zq_nF wd), P, (zq_nF q), se, ot, ow, en, tr) ((nI m), (zq_nF sz), (zq_nF wd), (zq_nF q), ro, st, pl)) : R u v := by
  obtain ⟨m, sz, wd, q, oc, P, se, ot, ow, en, tr, ro, st, pl, hI, rfl, rfl⟩ := I
  exact h m sz wd q oc P se ot ow en tr ro st pl hI
theorem zq_re_in {k m : Nat} {sz wd q : Nat → Nat} {oc : Int32} {P se ot ow en tr ro st pl : Nat → Int32} (hI : zq_Iv m sz wd q P) : i_Rel k ((nI m), oc, (zq_nF sz), (zq_nF wd), P, (zq_nF q), se, ot, ow, en, tr) ((nI m), (zq_nF sz), (zq_nF wd), (zq_nF q), ro, st, pl) :=
  ⟨m, sz, wd, q, oc, P, se, ot, ow, en, tr, ro, st, pl, hI, rfl, rfl⟩
theorem i_up {k : Nat} {u : SX} {v : SY} (h : i_Rel k u v) : i_Rel (k + 4) u v := h
theorem i_vc0 : wpX_init (fun u => wpY_init (fun v => i_Rel 0 u v)) := by
  have hI : zq_Iv 0 (fun _ => 0) (fun _ => 0) (fun _ => 0) (fun _ => 0) := by
    refine ⟨Nat.zero_le _, fun _ => Nat.zero_le _, fun _ => (by decide : 0 < 12), fun _ => (by decide : 0 < 24), zq_Va_0 _, ?_⟩
    intro d hd w hw i hi
    show bt 0 i = _
    rw [b_0]
    exact (decide_eq_false (fun z => Nat.not_lt_zero i z.1)).symm
  have h := zq_re_in (k := 0) (oc := 0) (se := fun _ => 0) (ot := fun _ => 0) (ow := fun _ => 0) (en := fun _ => 0) (tr := fun _ => 0) (ro := fun _ => 0) (st := fun _ => 0) (pl := fun _ => 0) hI
  rw [← zq_nF_0, nI_0] at h
  exact h
theorem i_vc_write {k : Nat} {u : SX} {v : SY} (I : i_Rel k u v) (hk : k + 4 ≤ 2048) (v1 : Int32) (v2 : Int32) : wpX_write (fun r u' => wpY_write (fun r' v' => r' = r ∧ i_Rel (k + 4) u' v') v v1 v2) u v1 v2 := by
  refine zq_re_el (R := fun u v => wpX_write (fun r u' => wpY_write (fun r' v' => r' = r ∧ i_Rel (k + 4) u' v') v v1 v2) u v1 v2) I ?_
  intro m sz wd q oc P se ot ow en tr ro st pl hI
  obtain ⟨hm, hsz, hwd, hq, hv, hP⟩ := id hI
  have no1 : v1 < 0 ∨ nI 6 ≤ v1 → wpX_write (fun r u' => wpY_write (fun r' v' => r' = r ∧ i_Rel (k + 4) u' v') ((nI m), (zq_nF sz), (zq_nF wd), (zq_nF q), ro, st, pl) v1 v2) ((nI m), oc, (zq_nF sz), (zq_nF wd), P, (zq_nF q), se, ot, ow, en, tr) v1 v2 := by
    intro h
    unfold wpX_write
    dsimp only
    refine zq_xd_no h (br_t rfl ?_)
    unfold wpY_write
    dsimp only
    refine zq_yd_no h (br_t rfl ⟨rfl, zq_re_in hI⟩)
  rcases pk_ix v1 (n := 6) (by omega) with h1 | h1 | ⟨d, hd, rfl⟩
  · exact no1 (Or.inl h1)
  · exact no1 (Or.inr h1)
  · have no2 : v2 < 0 ∨ nI 12 ≤ v2 → wpX_write (fun r u' => wpY_write (fun r' v' => r' = r ∧ i_Rel (k + 4) u' v') ((nI m), (zq_nF sz), (zq_nF wd), (zq_nF q), ro, st, pl) (nI d) v2) ((nI m), oc, (zq_nF sz), (zq_nF wd), P, (zq_nF q), se, ot, ow, en, tr) (nI d) v2 := by
      intro h
      unfold wpX_write
      dsimp only
      refine zq_xd_yes hd (br_f zq_ph_10 (zq_xw_no h (br_t rfl ?_)))
      unfold wpY_write
      dsimp only
      refine zq_yd_yes hd (br_f zq_ph_10 ?_)
      by_cases h0 : v2 < 0
      · exact br_t h0 ⟨rfl, zq_re_in hI⟩
      · exact br_f h0 (br_f (zq_ph_11 (h.resolve_left h0)) ⟨rfl, zq_re_in hI⟩)
    rcases pk_ix v2 (n := 12) (by omega) with h2 | h2 | ⟨w, hw, rfl⟩
    · exact no2 (Or.inl h2)
    · exact no2 (Or.inr h2)
    · refine zq_xw_write hd hw hsz (fun h => ?_) (fun h => ?_)
      · exact zq_yw_write hd hw hsz (fun _ => ⟨rfl, zq_re_in hI⟩) (fun h' => absurd h' h)
      · refine zq_yw_write hd hw hsz (fun h' => absurd h h') (fun _ => ⟨rfl, zq_re_in ⟨hm, fun j => ?_, fun j => ?_, hq, hv, zq_PI_write hP hsz hw h⟩⟩)
        · by_cases e : j = d
          · rw [e, zq_un_s]; omega
          · rw [zq_un_n e]; exact hsz j
        · by_cases e : j = d * 24 + sz d
          · rw [e, zq_un_s]; exact hw
          · rw [zq_un_n e]; exact hwd j
theorem i_vc_change {k : Nat} {u : SX} {v : SY} (I : i_Rel k u v) (hk : k + 4 ≤ 2048) (v1 : Int32) (v2 : Int32) (v3 : Int32) : wpX_change (fun r u' => wpY_change (fun r' v' => r' = r ∧ i_Rel (k + 4) u' v') v v1 v2 v3) u v1 v2 v3 := by
  refine zq_re_el (R := fun u v => wpX_change (fun r u' => wpY_change (fun r' v' => r' = r ∧ i_Rel (k + 4) u' v') v v1 v2 v3) u v1 v2 v3) I ?_
  intro m sz wd q oc P se ot ow en tr ro st pl hI
  obtain ⟨hm, hsz, hwd, hq, hv, hP⟩ := id hI
  have no1 : v1 < 0 ∨ nI 6 ≤ v1 → wpX_change (fun r u' => wpY_change (fun r' v' => r' = r ∧ i_Rel (k + 4) u' v') ((nI m), (zq_nF sz), (zq_nF wd), (zq_nF q), ro, st, pl) v1 v2 v3) ((nI m), oc, (zq_nF sz), (zq_nF wd), P, (zq_nF q), se, ot, ow, en, tr) v1 v2 v3 := by
    intro h
    unfold wpX_change
    dsimp only
    refine zq_xd_no h (br_t rfl ?_)
    unfold wpY_change
    dsimp only
    refine zq_yd_no h (br_t rfl ⟨rfl, zq_re_in hI⟩)
  rcases pk_ix v1 (n := 6) (by omega) with h1 | h1 | ⟨d, hd, rfl⟩
  · exact no1 (Or.inl h1)
  · exact no1 (Or.inr h1)
  · have hS : zq_nF sz (nI d).toNatClampNeg = nI (sz d) := zq_nF_at d rfl (by omega)
    have h24 := hsz d
    by_cases hp0 : v2 < 0
    · unfold wpX_change
      dsimp only
      refine zq_xd_yes hd (br_f zq_ph_10 (br_t hp0 ?_))
      unfold wpY_change
      dsimp only
      exact zq_yd_yes hd (br_f zq_ph_10 (br_t hp0 ⟨rfl, zq_re_in hI⟩))
    · obtain ⟨p, hp, rfl⟩ := nI_of hp0
      by_cases hps : p < sz d
      · have no3 : v3 < 0 ∨ nI 12 ≤ v3 → wpX_change (fun r u' => wpY_change (fun r' v' => r' = r ∧ i_Rel (k + 4) u' v') ((nI m), (zq_nF sz), (zq_nF wd), (zq_nF q), ro, st, pl) (nI d) (nI p) v3) ((nI m), oc, (zq_nF sz), (zq_nF wd), P, (zq_nF q), se, ot, ow, en, tr) (nI d) (nI p) v3 := by
          intro h
          unfold wpX_change
          dsimp only
          refine zq_xd_yes hd (br_f zq_ph_10 (br_f hp0 (And.intro (vp_in_nI hd (by omega)) ?_)))
          refine pk_le (sz d) p (fun z => absurd z (by omega)) (fun _ => zq_xw_no h (br_t rfl ?_)) hS
          unfold wpY_change
          dsimp only
          refine zq_yd_yes hd (br_f zq_ph_10 (br_f hp0 (And.intro (vp_in_nI hd (by omega)) ?_)))
          refine pk_le (sz d) p (fun z => absurd z (by omega)) (fun _ => ?_) hS
          by_cases h0 : v3 < 0
          · exact br_t h0 ⟨rfl, zq_re_in hI⟩
          · exact br_f h0 (br_f (zq_ph_11 (h.resolve_left h0)) ⟨rfl, zq_re_in hI⟩)
        rcases pk_ix v3 (n := 12) (by omega) with h2 | h2 | ⟨w, hw, rfl⟩
        · exact no3 (Or.inl h2)
        · exact no3 (Or.inr h2)
        · refine zq_xc_change hd hps hw hsz hwd (fun P1 e1 => ?_)
          refine zq_yc_change hd hps hw hsz ⟨rfl, zq_re_in ⟨hm, hsz, fun j => ?_, hq, hv, zq_PI_change hP hsz hwd hw hps e1⟩⟩
          by_cases e : j = d * 24 + p
          · rw [e, zq_un_s]; exact hw
          · rw [zq_un_n e]; exact hwd j
      · unfold wpX_change
        dsimp only
        refine zq_xd_yes hd (br_f zq_ph_10 (br_f hp0 (And.intro (vp_in_nI hd (by omega)) ?_)))
        refine pk_le (sz d) p (fun _ => ?_) (fun z => absurd z hps) hS
        unfold wpY_change
        dsimp only
        refine zq_yd_yes hd (br_f zq_ph_10 (br_f hp0 (And.intro (vp_in_nI hd (by omega)) ?_)))
        exact pk_le (sz d) p (fun _ => ⟨rfl, zq_re_in hI⟩) (fun z => absurd z hps) hS
theorem i_vc_erase {k : Nat} {u : SX} {v : SY} (I : i_Rel k u v) (hk : k + 4 ≤ 2048) (v1 : Int32) : wpX_erase (fun r u' => wpY_erase (fun r' v' => r' = r ∧ i_Rel (k + 4) u' v') v v1) u v1 := by
  refine zq_re_el (R := fun u v => wpX_erase (fun r u' => wpY_erase (fun r' v' => r' = r ∧ i_Rel (k + 4) u' v') v v1) u v1) I ?_
  intro m sz wd q oc P se ot ow en tr ro st pl hI
  obtain ⟨hm, hsz, hwd, hq, hv, hP⟩ := id hI
  have no1 : v1 < 0 ∨ nI 6 ≤ v1 → wpX_erase (fun r u' => wpY_erase (fun r' v' => r' = r ∧ i_Rel (k + 4) u' v') ((nI m), (zq_nF sz), (zq_nF wd), (zq_nF q), ro, st, pl) v1) ((nI m), oc, (zq_nF sz), (zq_nF wd), P, (zq_nF q), se, ot, ow, en, tr) v1 := by
    intro h
    unfold wpX_erase
    dsimp only
    refine zq_xd_no h (br_t rfl ?_)
    unfold wpY_erase
    dsimp only
    refine zq_yd_no h (br_t rfl ⟨rfl, zq_re_in hI⟩)
  rcases pk_ix v1 (n := 6) (by omega) with h1 | h1 | ⟨d, hd, rfl⟩
  · exact no1 (Or.inl h1)
  · exact no1 (Or.inr h1)
  · refine zq_xe_erase hd (fun P' h1 h2 => zq_ye_erase hd ⟨rfl, zq_re_in ⟨hm, fun j => ?_, hwd, hq, hv, zq_PI_erase hP h1 h2⟩⟩)
    by_cases e : j = d
    · rw [e, zq_un_s]; omega
    · rw [zq_un_n e]; exact hsz j
theorem i_vc_length {k : Nat} {u : SX} {v : SY} (I : i_Rel k u v) (hk : k + 4 ≤ 2048) (v1 : Int32) : wpX_length (fun r => wpY_length (fun r' => r' = r ∧ i_Rel (k + 4) u v) v v1) u v1 := by
  refine zq_re_el (R := fun u v => wpX_length (fun r => wpY_length (fun r' => r' = r ∧ i_Rel (k + 4) u v) v v1) u v1) I ?_
  intro m sz wd q oc P se ot ow en tr ro st pl hI
  have no1 : v1 < 0 ∨ nI 6 ≤ v1 → wpX_length (fun r => wpY_length (fun r' => r' = r ∧ i_Rel (k + 4) ((nI m), oc, (zq_nF sz), (zq_nF wd), P, (zq_nF q), se, ot, ow, en, tr) ((nI m), (zq_nF sz), (zq_nF wd), (zq_nF q), ro, st, pl)) ((nI m), (zq_nF sz), (zq_nF wd), (zq_nF q), ro, st, pl) v1) ((nI m), oc, (zq_nF sz), (zq_nF wd), P, (zq_nF q), se, ot, ow, en, tr) v1 := by
    intro h
    unfold wpX_length
    dsimp only
    refine zq_xd_no h (br_t rfl ?_)
    unfold wpY_length
    dsimp only
    refine zq_yd_no h (br_t rfl ⟨rfl, zq_re_in hI⟩)
  rcases pk_ix v1 (n := 6) (by omega) with h1 | h1 | ⟨d, hd, rfl⟩
  · exact no1 (Or.inl h1)
  · exact no1 (Or.inr h1)
  · unfold wpX_length
    dsimp only
    refine zq_xd_yes hd (br_f zq_ph_10 (And.intro (vp_in_nI hd (by omega)) ?_))
    unfold wpY_length
    dsimp only
    exact zq_yd_yes hd (br_f zq_ph_10 (And.intro (vp_in_nI hd (by omega)) ⟨rfl, zq_re_in hI⟩))
theorem i_vc_ask {k : Nat} {u : SX} {v : SY} (I : i_Rel k u v) (hk : k + 4 ≤ 2048) (v1 : Int32) : wpX_ask (fun r u' => wpY_ask (fun r' v' => r' = r ∧ i_Rel (k + 4) u' v') v v1) u v1 := by
  refine zq_re_el (R := fun u v => wpX_ask (fun r u' => wpY_ask (fun r' v' => r' = r ∧ i_Rel (k + 4) u' v') v v1) u v1) I ?_
  intro m sz wd q oc P se ot ow en tr ro st pl hI
  obtain ⟨hm, hsz, hwd, hq, hv, hP⟩ := id hI
  refine zq_xk_ask hm hq hv (fun hF se' ot' ow' => ?_) (fun hm' h0 h1 se' ot' ow' => ?_) (fun hm' t e ht se' ot' ow' => ?_)
  · refine zq_yk_ask hm hq hv (fun _ pl' => ⟨rfl, zq_re_in hI⟩) (fun h1 h2 _ => absurd hF (by omega)) (fun h1 t _ ht => absurd hF ?_)
    have : zq_hdq q m ≠ 0 := by rcases ht with ht | ht <;> omega
    omega
  · refine zq_yk_ask hm hq hv (fun hF => absurd hF (by omega)) (fun _ _ _ pl' => ⟨rfl, zq_re_in hI⟩) (fun _ t e ht => absurd ⟨t, e, ht⟩ h1)
  · have hne : zq_hdq q m ≠ 0 := by rcases ht with ht | ht <;> omega
    have ht24 : t < 24 := by rcases ht with ht | ht <;> omega
    refine zq_yk_ask hm hq hv (fun hF => absurd hF (by omega)) (fun _ _ h1 => absurd ⟨t, e, ht⟩ h1) (fun _ t' e' ht' pl' => ⟨rfl, ?_⟩)
    have ht24' : t' < 24 := by rcases ht' with ht' | ht' <;> omega
    have et : t' = t := zq_ph_nI (by omega) (by omega) (e'.symm.trans e)
    subst et
    refine zq_re_in ⟨by omega, hsz, hwd, fun j => ?_, ?_, hP⟩
    · by_cases ej : j = m
      · rw [ej, zq_un_s]; exact ht24
      · rw [zq_un_n ej]; exact hq j
    · cases hL : zq_du q m with
      | nil =>
        unfold zq_hdq at hne
        rw [hL] at hne
        exact absurd rfl hne
      | cons c r =>
        unfold zq_hdq at ht
        rw [hL] at ht
        exact zq_Va_more hv hL ht
theorem i_vc_unask {k : Nat} {u : SX} {v : SY} (I : i_Rel k u v) (hk : k + 4 ≤ 2048) : wpX_unask (fun r u' => wpY_unask (fun r' v' => r' = r ∧ i_Rel (k + 4) u' v') v) u := by
  refine zq_re_el (R := fun u v => wpX_unask (fun r u' => wpY_unask (fun r' v' => r' = r ∧ i_Rel (k + 4) u' v') v) u) I ?_
  intro m sz wd q oc P se ot ow en tr ro st pl hI
  obtain ⟨hm, hsz, hwd, hq, hv, hP⟩ := id hI
  refine pk_eq m 0 (fun h => ?_) (fun h => ?_)
  · exact pk_eq m 0 (fun _ => ⟨rfl, zq_re_in hI⟩) (fun z => absurd h z)
  · refine nm_r (zq_ph_sub1 (by omega)) (And.intro (vp_in_nI (by omega) (by omega)) ?_)
    refine pk_eq m 0 (fun z => absurd z h) (fun _ => nm_r (zq_ph_sub1 (by omega)) (And.intro (vp_in_nI (by omega) (by omega)) ⟨rfl, zq_re_in ⟨by omega, hsz, hwd, hq, zq_Va_less hv (by omega), hP⟩⟩))
theorem i_vc_complete {k : Nat} {u : SX} {v : SY} (I : i_Rel k u v) (hk : k + 4 ≤ 2048) : wpX_complete (fun r u' => wpY_complete (fun r' v' => r' = r ∧ i_Rel (k + 4) u' v') v) u := by
  refine zq_re_el (R := fun u v => wpX_complete (fun r u' => wpY_complete (fun r' v' => r' = r ∧ i_Rel (k + 4) u' v') v) u) I ?_
  intro m sz wd q oc P se ot ow en tr ro st pl hI
  obtain ⟨hm, hsz, hwd, hq, hv, hP⟩ := id hI
  exact zq_xr_complete hm hq (fun se' ot' ow' _ => zq_yu_complete hm hq hv (fun pl' => ⟨rfl, zq_re_in hI⟩))
theorem i_vc_holds {k : Nat} {u : SX} {v : SY} (I : i_Rel k u v) (hk : k + 4 ≤ 2048) (v1 : Int32) : wpX_holds (fun r u' => wpY_holds (fun r' v' => r' = r ∧ i_Rel (k + 4) u' v') v v1) u v1 := by
  refine zq_re_el (R := fun u v => wpX_holds (fun r u' => wpY_holds (fun r' v' => r' = r ∧ i_Rel (k + 4) u' v') v v1) u v1) I ?_
  intro m sz wd q oc P se ot ow en tr ro st pl hI
  have no1 : v1 < 0 ∨ nI 6 ≤ v1 → wpX_holds (fun r u' => wpY_holds (fun r' v' => r' = r ∧ i_Rel (k + 4) u' v') ((nI m), (zq_nF sz), (zq_nF wd), (zq_nF q), ro, st, pl) v1) ((nI m), oc, (zq_nF sz), (zq_nF wd), P, (zq_nF q), se, ot, ow, en, tr) v1 := by
    intro h
    unfold wpX_holds
    dsimp only
    refine zq_xd_no h (br_t rfl ?_)
    unfold wpY_holds
    dsimp only
    refine zq_yd_no h (br_t rfl ⟨rfl, zq_re_in hI⟩)
  rcases pk_ix v1 (n := 6) (by omega) with h1 | h1 | ⟨d, hd, rfl⟩
  · exact no1 (Or.inl h1)
  · exact no1 (Or.inr h1)
  · exact zq_xh_holds hI hd (fun oc' se' ot' ow' en' tr' => zq_yh_holds hI hd (fun ro' st' pl' => ⟨rfl, zq_re_in hI⟩))
theorem i_vc_matching {k : Nat} {u : SX} {v : SY} (I : i_Rel k u v) (hk : k + 4 ≤ 2048) : wpX_matching (fun r u' => wpY_matching (fun r' v' => r' = r ∧ i_Rel (k + 4) u' v') v) u := by
  refine zq_re_el (R := fun u v => wpX_matching (fun r u' => wpY_matching (fun r' v' => r' = r ∧ i_Rel (k + 4) u' v') v) u) I ?_
  intro m sz wd q oc P se ot ow en tr ro st pl hI
  refine ⟨7, zq_xm_loop hI (fun oc' se' ot' ow' en' tr' => ?_) 6 0 7 (by omega) (by omega) oc se ot ow en tr⟩
  exact ⟨7, zq_ym_loop hI (fun ro' st' pl' => ⟨rfl, zq_re_in hI⟩) 6 0 7 (by omega) (by omega) ro st pl⟩
theorem i_vc_spans {k : Nat} {u : SX} {v : SY} (I : i_Rel k u v) (hk : k + 4 ≤ 2048) (v1 : Int32) (v2 : Int32) : wpX_spans (fun r u' => wpY_spans (fun r' v' => r' = r ∧ i_Rel (k + 4) u' v') v v1 v2) u v1 v2 := by
  refine zq_re_el (R := fun u v => wpX_spans (fun r u' => wpY_spans (fun r' v' => r' = r ∧ i_Rel (k + 4) u' v') v v1 v2) u v1 v2) I ?_
  intro m sz wd q oc P se ot ow en tr ro st pl hI
  obtain ⟨hm, hsz, hwd, hq, hv, hP⟩ := id hI
  have no1 : v2 < 0 ∨ nI 6 ≤ v2 → wpX_spans (fun r u' => wpY_spans (fun r' v' => r' = r ∧ i_Rel (k + 4) u' v') ((nI m), (zq_nF sz), (zq_nF wd), (zq_nF q), ro, st, pl) v1 v2) ((nI m), oc, (zq_nF sz), (zq_nF wd), P, (zq_nF q), se, ot, ow, en, tr) v1 v2 := by
    intro h
    unfold wpX_spans
    dsimp only
    refine zq_xs_spanOf_no h (br_f zq_ph_n1 ?_)
    unfold wpY_spans
    dsimp only
    refine zq_ys_find_no h (br_f zq_ph_n1 ⟨1, zq_yp_neg zq_ph_n1lt ⟨rfl, zq_re_in hI⟩⟩)
  rcases pk_ix v2 (n := 6) (by omega) with h1 | h1 | ⟨d, hd, rfl⟩
  · exact no1 (Or.inl h1)
  · exact no1 (Or.inr h1)
  · unfold wpX_spans
    dsimp only
    refine zq_xs_spanOf hI hd (fun oc' se' ot' ow' en' tr' hG => ?_)
    rcases zq_spR_cases (p := v1) hv with e | ⟨j, hj, hqj, e⟩
    · rw [e]
      refine br_f zq_ph_n1 ?_
      unfold wpY_spans
      dsimp only
      refine zq_ys_find hI hd (fun ro' st' pl' _ => ?_)
      rw [e]
      exact br_f zq_ph_n1 ⟨1, zq_yp_neg zq_ph_n1lt ⟨rfl, zq_re_in hI⟩⟩
    · have h0 : (0 : Int32) ≤ nI j := nI_pos' (by omega)
      rw [e] at hG ⊢
      have hA := (hG h0 j (by omega) hj).1 hqj
      refine br_t h0 ⟨25, zq_xp_loop (by omega) hA ?_ 24 0 25 (by omega) (by omega)⟩
      unfold wpY_spans
      dsimp only
      refine zq_ys_find hI hd (fun ro' st' pl' hG' => ?_)
      rw [e] at hG' ⊢
      have hA' := (hG' h0 j (by omega) hj).1 hqj
      have h := zq_yp_loop (m := m) (sz := sz) (wd := wd) (q := q) (st := st') (pl := pl') (post := fun r' v' => r' = zq_sb (zq_Ev sz wd q m d 0 j) 24 ∧ i_Rel (k + 4) ((nI m), oc', (zq_nF sz), (zq_nF wd), P, (zq_nF q), se', ot', ow', en', tr') v') (by omega) hA' ⟨rfl, zq_re_in hI⟩ 576 0 577 (by omega) (by omega)
      rw [zq_sc_0] at h
      exact br_t h0 ⟨577, h⟩
theorem i_vc_begins {k : Nat} {u : SX} {v : SY} (I : i_Rel k u v) (hk : k + 4 ≤ 2048) (v1 : Int32) (v2 : Int32) (v3 : Int32) : wpX_begins (fun r u' => wpY_begins (fun r' v' => r' = r ∧ i_Rel (k + 4) u' v') v v1 v2 v3) u v1 v2 v3 := by
  refine zq_re_el (R := fun u v => wpX_begins (fun r u' => wpY_begins (fun r' v' => r' = r ∧ i_Rel (k + 4) u' v') v v1 v2 v3) u v1 v2 v3) I ?_
  intro m sz wd q oc P se ot ow en tr ro st pl hI
  obtain ⟨hm, hsz, hwd, hq, hv, hP⟩ := id hI
  have no1 : v2 < 0 ∨ nI 6 ≤ v2 → wpX_begins (fun r u' => wpY_begins (fun r' v' => r' = r ∧ i_Rel (k + 4) u' v') ((nI m), (zq_nF sz), (zq_nF wd), (zq_nF q), ro, st, pl) v1 v2 v3) ((nI m), oc, (zq_nF sz), (zq_nF wd), P, (zq_nF q), se, ot, ow, en, tr) v1 v2 v3 := by
    intro h
    unfold wpX_begins
    dsimp only
    refine zq_xs_spanOf_no h (br_f zq_ph_n1 ?_)
    unfold wpY_begins
    dsimp only
    refine zq_ys_find_no h ⟨1, zq_yb_neg zq_ph_n1lt ⟨rfl, zq_re_in hI⟩⟩
  rcases pk_ix v2 (n := 6) (by omega) with h1 | h1 | ⟨d, hd, rfl⟩
  · exact no1 (Or.inl h1)
  · exact no1 (Or.inr h1)
  · unfold wpX_begins
    dsimp only
    refine zq_xs_spanOf hI hd (fun oc' se' ot' ow' en' tr' hG => ?_)
    rcases zq_spR_cases (p := v1) hv with e | ⟨j, hj, hqj, e⟩
    · rw [e]
      refine br_f zq_ph_n1 ?_
      unfold wpY_begins
      dsimp only
      refine zq_ys_find hI hd (fun ro' st' pl' _ => ?_)
      rw [e]
      exact ⟨1, zq_yb_neg zq_ph_n1lt ⟨rfl, zq_re_in hI⟩⟩
    · have h0 : (0 : Int32) ≤ nI j := nI_pos' (by omega)
      rw [e] at hG ⊢
      have hA := (hG h0 j (by omega) hj).1 hqj
      obtain ⟨r, bX, bY⟩ := zq_bg_both (zq_Ev sz wd q m d 0 j) v3
      refine br_t h0 (bX j m sz wd q oc' P se' ot' ow' en' tr' _ (by omega) hA ?_)
      unfold wpY_begins
      dsimp only
      refine zq_ys_find hI hd (fun ro' st' pl' hG' => ?_)
      rw [e] at hG' ⊢
      have hA' := (hG' h0 j (by omega) hj).1 hqj
      exact bY j m sz wd q ro' st' pl' _ (by omega) hA' ⟨rfl, zq_re_in hI⟩
theorem i_vc_ends {k : Nat} {u : SX} {v : SY} (I : i_Rel k u v) (hk : k + 4 ≤ 2048) (v1 : Int32) (v2 : Int32) (v3 : Int32) : wpX_ends (fun r u' => wpY_ends (fun r' v' => r' = r ∧ i_Rel (k + 4) u' v') v v1 v2 v3) u v1 v2 v3 := by
  refine zq_re_el (R := fun u v => wpX_ends (fun r u' => wpY_ends (fun r' v' => r' = r ∧ i_Rel (k + 4) u' v') v v1 v2 v3) u v1 v2 v3) I ?_
  intro m sz wd q oc P se ot ow en tr ro st pl hI
  obtain ⟨hm, hsz, hwd, hq, hv, hP⟩ := id hI
  have no1 : v2 < 0 ∨ nI 6 ≤ v2 → wpX_ends (fun r u' => wpY_ends (fun r' v' => r' = r ∧ i_Rel (k + 4) u' v') ((nI m), (zq_nF sz), (zq_nF wd), (zq_nF q), ro, st, pl) v1 v2 v3) ((nI m), oc, (zq_nF sz), (zq_nF wd), P, (zq_nF q), se, ot, ow, en, tr) v1 v2 v3 := by
    intro h
    unfold wpX_ends
    dsimp only
    refine zq_xs_spanOf_no h (br_t zq_ph_n1lt ?_)
    unfold wpY_ends
    dsimp only
    refine zq_ys_find_no h ⟨1, zq_ye_r zq_ph_n1lt ⟨rfl, zq_re_in hI⟩⟩
  rcases pk_ix v2 (n := 6) (by omega) with h1 | h1 | ⟨d, hd, rfl⟩
  · exact no1 (Or.inl h1)
  · exact no1 (Or.inr h1)
  · unfold wpX_ends
    dsimp only
    refine zq_xs_spanOf hI hd (fun oc' se' ot' ow' en' tr' hG => ?_)
    rcases zq_spR_cases (p := v1) hv with e | ⟨j, hj, hqj, e⟩
    · rw [e]
      refine br_t zq_ph_n1lt ?_
      unfold wpY_ends
      dsimp only
      refine zq_ys_find hI hd (fun ro' st' pl' _ => ?_)
      rw [e]
      exact ⟨1, zq_ye_r zq_ph_n1lt ⟨rfl, zq_re_in hI⟩⟩
    · have h0 : (0 : Int32) ≤ nI j := nI_pos' (by omega)
      rw [e] at hG ⊢
      have hA := (hG h0 j (by omega) hj).1 hqj
      have out : v3 < 0 ∨ nI 24 ≤ v3 → wpY_ends (fun r' v' => r' = -1 ∧ i_Rel (k + 4) ((nI m), oc', (zq_nF sz), (zq_nF wd), P, (zq_nF q), se', ot', ow', en', tr') v') ((nI m), (zq_nF sz), (zq_nF wd), (zq_nF q), ro, st, pl) v1 (nI d) v3 := by
        intro h
        unfold wpY_ends
        dsimp only
        refine zq_ys_find hI hd (fun ro' st' pl' hG' => ?_)
        rw [e] at hG' ⊢
        exact ⟨1, zq_ye_b (by omega) h ⟨rfl, zq_re_in hI⟩⟩
      refine br_f (nI_pos (by omega)) ?_
      rcases pk_ix v3 (n := 24) (by omega) with h3 | h3 | ⟨b, hb, rfl⟩
      · exact br_t h3 (out (Or.inl h3))
      · refine br_f (fun z => absurd (Int32.lt_of_le_of_lt h3 z) (show ¬ nI 24 < 0 from nI_pos (by omega))) (br_f (Int32.not_lt.mpr h3) (out (Or.inr h3)))
      · have hi := zq_ph_mul j b
        refine br_f (nI_pos (by omega)) (br_t (show nI b < nI 24 from nI_lt hb (by omega)) (And.intro (pk_in _ _ (by omega) hi) (nm_r (e' := zq_Ev sz wd q m d 0 j b) ?_ ⟨25, zq_xe_loop 24 0 25 (by omega) (by omega) ?_⟩)))
        · rw [pk_cl _ hi (by omega)]
          exact hA b hb
        · unfold wpY_ends
          dsimp only
          refine zq_ys_find hI hd (fun ro' st' pl' hG' => ?_)
          rw [e] at hG' ⊢
          have hA' := (hG' h0 j (by omega) hj).1 hqj b hb
          exact ⟨25, zq_yeloop (by omega) hb hA' 24 0 25 (by omega) (by omega) ⟨rfl, zq_re_in hI⟩⟩
theorem i_vc_having {k : Nat} {u : SX} {v : SY} (I : i_Rel k u v) (hk : k + 4 ≤ 2048) (v1 : Int32) : wpX_having (fun r => wpY_having (fun r' => r' = r ∧ i_Rel (k + 4) u v) v v1) u v1 := by
  refine zq_re_el (R := fun u v => wpX_having (fun r => wpY_having (fun r' => r' = r ∧ i_Rel (k + 4) u v) v v1) u v1) I ?_
  intro m sz wd q oc P se ot ow en tr ro st pl hI
  obtain ⟨hm, hsz, hwd, hq, hv, hP⟩ := id hI
  by_cases h0 : v1 < 0
  · refine ⟨1, br_f (by decide) (zq_xw_no (Or.inl h0) (br_t rfl ?_))⟩
    exact ⟨1, br_f (by decide) (br_t h0 ⟨rfl, zq_re_in hI⟩)⟩
  · obtain ⟨w, hw, rfl⟩ := nI_of h0
    by_cases h12 : w < 12
    · refine ⟨7, zq_xv_loop h12 hP hsz ?_ 6 0 7 (by omega) (by omega)⟩
      exact ⟨145, zq_yv_loop hw hsz hwd (zq_Ms_in h12 hP) ⟨rfl, zq_re_in hI⟩ 144 0 145 (by omega) (by omega)⟩
    · refine ⟨1, br_f (by decide) (zq_xw_no (Or.inr (nI_le (by omega) hw)) (br_t rfl ?_))⟩
      exact ⟨145, zq_yv_loop hw hsz hwd (zq_Ms_out (by omega) hwd) ⟨by decide, zq_re_in hI⟩ 144 0 145 (by omega) (by omega)⟩
theorem i_vc_frequency {k : Nat} {u : SX} {v : SY} (I : i_Rel k u v) (hk : k + 4 ≤ 2048) (v1 : Int32) : wpX_frequency (fun r => wpY_frequency (fun r' => r' = r ∧ i_Rel (k + 4) u v) v v1) u v1 := by
  refine zq_re_el (R := fun u v => wpX_frequency (fun r => wpY_frequency (fun r' => r' = r ∧ i_Rel (k + 4) u v) v v1) u v1) I ?_
  intro m sz wd q oc P se ot ow en tr ro st pl hI
  obtain ⟨hm, hsz, hwd, hq, hv, hP⟩ := id hI
  by_cases h0 : v1 < 0
  · refine ⟨1, br_f (by decide) (zq_xw_no (Or.inl h0) (br_t rfl ?_))⟩
    exact ⟨1, br_f (by decide) (br_t h0 ⟨rfl, zq_re_in hI⟩)⟩
  · obtain ⟨w, hw, rfl⟩ := nI_of h0
    have c0 : ∀ M : Nat → Int32, zq_sc M 0 = 0 := zq_sc_0
    by_cases h12 : w < 12
    · refine ⟨7, zq_xq_loop h12 ?_ 6 0 7 (by omega) (by omega)⟩
      have h := zq_yq_loop (m := m) (q := q) (ro := ro) (st := st) (pl := pl) (post := fun r' => r' = zq_sb (fun d => P (d * 12 + w)) 6 ∧ i_Rel (k + 4) ((nI m), oc, (zq_nF sz), (zq_nF wd), P, (zq_nF q), se, ot, ow, en, tr) ((nI m), (zq_nF sz), (zq_nF wd), (zq_nF q), ro, st, pl)) hw hsz hwd (zq_Ms_in h12 hP) ⟨rfl, zq_re_in hI⟩ 144 0 145 (by omega) (by omega)
      rw [c0] at h
      exact ⟨145, h⟩
    · refine ⟨1, br_f (by decide) (zq_xw_no (Or.inr (nI_le (by omega) hw)) (br_t rfl ?_))⟩
      have h := zq_yq_loop (m := m) (q := q) (ro := ro) (st := st) (pl := pl) (post := fun r' => r' = 0 ∧ i_Rel (k + 4) ((nI m), oc, (zq_nF sz), (zq_nF wd), P, (zq_nF q), se, ot, ow, en, tr) ((nI m), (zq_nF sz), (zq_nF wd), (zq_nF q), ro, st, pl)) hw hsz hwd (zq_Ms_out (by omega) hwd) ⟨by decide, zq_re_in hI⟩ 144 0 145 (by omega) (by omega)
      rw [c0] at h
      exact ⟨145, h⟩
theorem i_vc_hasTokens {k : Nat} {u : SX} {v : SY} (I : i_Rel k u v) (hk : k + 4 ≤ 2048) : wpX_hasTokens (fun r => wpY_hasTokens (fun r' => r' = r ∧ i_Rel (k + 4) u v) v) u := by
  refine zq_re_el (R := fun u v => wpX_hasTokens (fun r => wpY_hasTokens (fun r' => r' = r ∧ i_Rel (k + 4) u v) v) u) I ?_
  intro m sz wd q oc P se ot ow en tr ro st pl hI
  obtain ⟨hm, hsz, hwd, hq, hv, hP⟩ := id hI
  refine ⟨m + 1, zq_xt_loop hm hq ?_ m 0 (m + 1) (by omega) (by omega)⟩
  exact ⟨m + 1, zq_yt_hloop hm hq ⟨rfl, zq_re_in hI⟩ m 0 (m + 1) (by omega) (by omega)⟩
end
