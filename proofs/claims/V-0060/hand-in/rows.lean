section
/-! rows pasted from kit/rows (PURE-ROWS and BITS), a starting text -/
theorem pk_us {f : Nat → Int32} {k : Nat} {x : Int32} : upd f k x k = x := if_pos rfl
theorem pk_un {f : Nat → Int32} {k j : Nat} {x : Int32} (h : j ≠ k) : upd f k x j = f j := if_neg h
theorem pk_sub {a b : Nat} (h : b ≤ a) : nI a - nI b = nI (a - b) := by
  obtain ⟨c, rfl⟩ : ∃ c, a = c + b := ⟨a - b, by omega⟩
  rw [← nI_add, Int32.add_sub_cancel, Nat.add_sub_cancel]
theorem pk_m1 (n : Nat) : nI (n + 1) + (-1) = nI n := by
  rw [← nI_1, Int32.add_assoc, show (1 : Int32) + (-1) = 0 from rfl, Int32.add_zero]
theorem pk_mul (a b : Nat) : nI a * nI b = nI (a * b) := (Int32.ofNat_mul a b).symm
theorem pk_sub_toInt {a b : Nat} (ha : a < 2 ^ 30) (hb : b < 2 ^ 30) : (nI a - nI b).toInt = (a : Int) - b := by
  rw [Int32.toInt_sub, nI_toInt (by omega), nI_toInt (by omega)]
  exact Int.bmod_eq_of_le (by omega) (by omega)
theorem pk_sneg {a b : Nat} (hb : b < 2 ^ 30) (h : a < b) : nI a - nI b < 0 := by
  rw [Int32.lt_iff_toInt_lt, pk_sub_toInt (by omega) hb, show (0 : Int32).toInt = 0 from by decide]
  omega
theorem pk_ix (x : Int32) {n : Nat} (hn : n < 2 ^ 31) : x < 0 ∨ nI n ≤ x ∨ ∃ j : Nat, j < n ∧ x = nI j := by
  by_cases h : x < 0
  · exact Or.inl h
  · obtain ⟨j, hj, rfl⟩ := nI_of h
    by_cases h2 : j < n
    · exact Or.inr (Or.inr ⟨j, h2, rfl⟩)
    · exact Or.inr (Or.inl (nI_le (by omega) hj))
theorem pk_le {x y : Int32} {A B : Prop} (a b : Nat) (f : a ≤ b → A) (g : b < a → B) (hx : x = nI a := by rfl) (hy : y = nI b := by rfl) (ha : a < 2 ^ 31 := by omega) (hb : b < 2 ^ 31 := by omega) : (x ≤ y → A) ∧ (¬ x ≤ y → B) := by
  subst hx hy
  rw [nI_leI ha hb]
  exact ⟨f, fun z => g (by omega)⟩
theorem pk_lt {x y : Int32} {A B : Prop} (a b : Nat) (f : a < b → A) (g : b ≤ a → B) (hx : x = nI a := by rfl) (hy : y = nI b := by rfl) (ha : a < 2 ^ 31 := by omega) (hb : b < 2 ^ 31 := by omega) : (x < y → A) ∧ (¬ x < y → B) := by
  subst hx hy
  rw [nI_ltI ha hb]
  exact ⟨f, fun z => g (by omega)⟩
theorem pk_eq {x y : Int32} {A B : Prop} (a b : Nat) (f : a = b → A) (g : a ≠ b → B) (hx : x = nI a := by rfl) (hy : y = nI b := by rfl) (ha : a < 2 ^ 31 := by omega) (hb : b < 2 ^ 31 := by omega) : (x = y → A) ∧ (¬ x = y → B) := by
  subst hx hy
  rw [nI_eq ha hb]
  exact ⟨f, g⟩
theorem pk_in {x : Int32} (n N : Nat) (h : n < N) (hx : x = nI n := by rfl) (hN : N < 2 ^ 31 := by omega) : vp_in x N := by
  subst hx
  exact vp_in_nI h hN
theorem pk_cl {x : Int32} (n : Nat) (hx : x = nI n := by rfl) (h : n < 2 ^ 31 := by omega) : x.toNatClampNeg = n := by
  subst hx
  exact nI_clamp h
theorem pk_tn {n : Nat} (h : n < 2 ^ 32) : (nI n).toBitVec.toNat = n := Nat.mod_eq_of_lt h
theorem pk_and (x : Int32) {m : Int32} (k : Nat) (hm : m.toBitVec.toNat = 2 ^ k - 1) : x &&& m = nI (x.toBitVec.toNat % 2 ^ k) := by
  apply Int32.toBitVec_inj.mp
  apply BitVec.eq_of_toNat_eq
  rw [Int32.toBitVec_and, BitVec.toNat_and, hm, Nat.and_two_pow_sub_one_eq_mod]
  show _ = (BitVec.ofNat 32 _).toNat
  rw [BitVec.toNat_ofNat]
  exact (Nat.mod_eq_of_lt (Nat.lt_of_le_of_lt (Nat.mod_le _ _) x.toBitVec.isLt)).symm
theorem pk_andN {n : Nat} (h : n < 2 ^ 32) {m : Int32} (k : Nat) (hm : m.toBitVec.toNat = 2 ^ k - 1) : nI n &&& m = nI (n % 2 ^ k) := by
  rw [pk_and _ k hm, pk_tn h]
theorem pk_shl (a s : Int32) (k : Nat) (hs : (s.toBitVec.smod 32).toNat = k) : (a <<< s).toBitVec.toNat = a.toBitVec.toNat * 2 ^ k % 2 ^ 32 := by
  show (a.toBitVec <<< (s.toBitVec.smod 32).toNat).toNat = _
  rw [hs, BitVec.toNat_shiftLeft, Nat.shiftLeft_eq]
theorem pk_shlN {n : Nat} (s : Int32) (k : Nat) (hs : (s.toBitVec.smod 32).toNat = k) (h : n * 2 ^ k < 2 ^ 32) : nI n <<< s = nI (n * 2 ^ k) := by
  apply Int32.toBitVec_inj.mp
  apply BitVec.eq_of_toNat_eq
  have hn : n < 2 ^ 32 := Nat.lt_of_le_of_lt (Nat.le_mul_of_pos_right n (Nat.two_pow_pos k)) h
  rw [pk_shl _ _ k hs, pk_tn hn, pk_tn h, Nat.mod_eq_of_lt h]
theorem pk_shr (a s : Int32) (k : Nat) (hs : (s.toBitVec.smod 32).toNat = k) : (a >>> s).toInt = a.toInt >>> k := by
  show (a.toBitVec.sshiftRight (s.toBitVec.smod 32).toNat).toInt = _
  rw [hs, BitVec.toInt_sshiftRight]
  rfl
theorem pk_shrN {n : Nat} (h : n < 2 ^ 31) (s : Int32) (k : Nat) (hs : (s.toBitVec.smod 32).toNat = k) : nI n >>> s = nI (n / 2 ^ k) := by
  apply Int32.toInt_inj.mp
  have h2 : n / 2 ^ k ≤ n := Nat.div_le_self _ _
  rw [pk_shr _ _ k hs, nI_toInt h, nI_toInt (by omega), Int.shiftRight_eq_div_pow]
  rfl
theorem pk_loop {σ : Type} (W : Nat → Nat → σ → Prop) (I : Nat → σ → Prop) (e i0 : Nat) (s : σ) (hi : i0 ≤ e) (h0 : I i0 s) (hx : ∀ n s, I e s → W (n + 1) e s)
    (hs : ∀ n i s, i < e → I i s → (∀ s', I (i + 1) s' → W n (i + 1) s') → W (n + 1) i s) : ∃ n, W n i0 s :=
  ⟨e + 1, loop_i W I e hx hs (e + 1) i0 s hi (by omega) h0⟩
theorem pk_least (P : Nat → Prop) (h : ∃ k, P k) : ∃ k, P k ∧ ∀ j, j < k → ¬ P j := by
  obtain ⟨k, hk⟩ := h
  induction k using Nat.strongRecOn with
  | ind k ih =>
    by_cases e : ∃ j, j < k ∧ P j
    · obtain ⟨j, hj, pj⟩ := e
      exact ih j hj pj
    · exact ⟨k, hk, fun j hj pj => e ⟨j, hj, pj⟩⟩
theorem ek_if {c d A B : Prop} (e : c ↔ d) (f : d → A) (g : ¬ d → B) : (c → A) ∧ (¬ c → B) :=
  ⟨fun z => f (e.mp z), fun z => g (fun y => z (e.mpr y))⟩
theorem sb_shr0 (x : Int32) : x >>> ((0 : Int32) &&& 31) = x := by
  rw [show ((0 : Int32) &&& 31) = 0 by decide]
  simp
theorem sb_shl0 (x : Int32) : x <<< ((0 : Int32) &&& 31) = x := by
  rw [show ((0 : Int32) &&& 31) = 0 by decide]
  simp
theorem sb_cl0 : (0 : Int32).toNatClampNeg = 0 := by decide
def bt (x : Int32) (i : Nat) : Bool := x.toBitVec.getLsbD i
theorem b_ext {x y : Int32} (h : ∀ i, i < 32 → bt x i = bt y i) : x = y := Int32.toBitVec_inj.mp (BitVec.eq_of_getLsbD_eq (fun i hi => h i hi))
theorem b_or (x y : Int32) (i : Nat) : bt (x ||| y) i = (bt x i || bt y i) := by unfold bt; rw [Int32.toBitVec_or, BitVec.getLsbD_or]
theorem b_and (x y : Int32) (i : Nat) : bt (x &&& y) i = (bt x i && bt y i) := by unfold bt; rw [Int32.toBitVec_and, BitVec.getLsbD_and]
theorem b_xor (x y : Int32) (i : Nat) : bt (x ^^^ y) i = (bt x i ^^ bt y i) := by unfold bt; rw [Int32.toBitVec_xor, BitVec.getLsbD_xor]
theorem b_big {x : Int32} {i : Nat} (h : 32 ≤ i) : bt x i = false := BitVec.getLsbD_of_ge _ _ h
theorem b_255 (i : Nat) : bt 255 i = decide (i < 8) := by
  rcases Nat.lt_or_ge i 32 with h | h
  · exact (by decide +kernel : ∀ i, i < 32 → bt 255 i = decide (i < 8)) i h
  · rw [b_big h, decide_eq_false (by omega)]
theorem b_65535 (i : Nat) : bt 65535 i = decide (i < 16) := by
  rcases Nat.lt_or_ge i 32 with h | h
  · exact (by decide +kernel : ∀ i, i < 32 → bt 65535 i = decide (i < 16)) i h
  · rw [b_big h, decide_eq_false (by omega)]
theorem b_m1 : ∀ i, i < 32 → bt (-1) i = true := by decide +kernel
theorem b_0 (i : Nat) : bt 0 i = false := BitVec.getLsbD_zero
theorem s_l : ∀ n, n < 32 → ((nI n &&& 31).toBitVec.smod 32).toNat = n := by decide +kernel
theorem s_u : ∀ n, n < 32 → (((nI n).toUInt32 &&& Int32.toUInt32 31).toBitVec % 32).toNat = n := by decide +kernel
theorem b_shl (n : Nat) (hn : n < 32) (x : Int32) {i : Nat} (hi : i < 32) : bt (x <<< (nI n &&& 31)) i = (decide (n ≤ i) && bt x (i - n)) := by
  unfold bt
  rw [Int32.toBitVec_shiftLeft]
  show (x.toBitVec <<< ((nI n &&& 31).toBitVec.smod 32).toNat).getLsbD i = _
  rw [s_l n hn, BitVec.getLsbD_shiftLeft]
  rcases Nat.lt_or_ge i n with h | h
  · simp [h, Nat.not_le.mpr h]
  · simp [hi, h, Nat.not_lt.mpr h]
theorem b_ushr (n : Nat) (hn : n < 32) (x : Int32) (i : Nat) : bt ((x.toUInt32 >>> ((nI n).toUInt32 &&& Int32.toUInt32 31)).toInt32) i = bt x (n + i) := by
  show (x.toUInt32 >>> ((nI n).toUInt32 &&& Int32.toUInt32 31)).toBitVec.getLsbD i = x.toUInt32.toBitVec.getLsbD (n + i)
  rw [UInt32.toBitVec_shiftRight]
  show (x.toUInt32.toBitVec >>> (((nI n).toUInt32 &&& Int32.toUInt32 31).toBitVec % 32).toNat).getLsbD i = _
  rw [s_u n hn, BitVec.getLsbD_ushiftRight]
theorem b_sshr (n : Nat) (hn : n < 32) (x : Int32) {i : Nat} (hi : i < 32) : bt (x >>> (nI n &&& 31)) i = if n + i < 32 then bt x (n + i) else bt x 31 := by
  unfold bt
  rw [Int32.toBitVec_shiftRight]
  show (x.toBitVec.sshiftRight ((nI n &&& 31).toBitVec.smod 32).toNat).getLsbD i = _
  rw [s_l n hn, BitVec.getLsbD_sshiftRight, BitVec.msb_eq_getLsbD_last]
  simp [hi]
end
section
/-! numbers, cells, bits -/
def vs_I (f : Nat → Nat) : Nat → Int32 := fun i => nI (f i)
def vs_u {α : Type} (f : Nat → α) (k : Nat) (x : α) : Nat → α := fun j => if j = k then x else f j
theorem vs_us {α : Type} {f : Nat → α} {k : Nat} {x : α} : vs_u f k x k = x := if_pos rfl
theorem vs_un {α : Type} {f : Nat → α} {k j : Nat} {x : α} (h : j ≠ k) : vs_u f k x j = f j := if_neg h
theorem vs_upd (f : Nat → Nat) (k x : Nat) : upd (vs_I f) k (nI x) = vs_I (vs_u f k x) := by
  funext j
  show (if j = k then nI x else nI (f j)) = nI (if j = k then x else f j)
  split <;> rfl
theorem vs_updA (f : Nat → Int32) (k : Nat) (x : Int32) : upd f k x = vs_u f k x := rfl
theorem vs_I0 : (fun _ => 0 : Nat → Int32) = vs_I (fun _ => 0) := rfl
theorem vs_Ia (f : Nat → Nat) (k : Nat) : vs_I f k = nI (f k) := rfl
/-- a read at a cell -/
theorem vs_rd {m : Nat} (f : Nat → Int32) (hm : m < 2 ^ 31) : f (nI m).toNatClampNeg = f m := by rw [nI_clamp hm]
/-- a store at a cell of numbers -/
theorem vs_w {m : Nat} (f : Nat → Nat) (x : Nat) (hm : m < 2 ^ 31) : upd (vs_I f) (nI m).toNatClampNeg (nI x) = vs_I (vs_u f m x) := by
  rw [nI_clamp hm, vs_upd]
theorem vs_w0 {m : Nat} (f : Nat → Nat) (hm : m < 2 ^ 31) : upd (vs_I f) (nI m).toNatClampNeg 0 = vs_I (vs_u f m 0) := vs_w f 0 hm
theorem vs_wA {m : Nat} (f : Nat → Int32) (x : Int32) (hm : m < 2 ^ 31) : upd f (nI m).toNatClampNeg x = vs_u f m x := by
  rw [nI_clamp hm]; rfl
theorem vs_in5 {m : Nat} (hm : m < 5) : vp_in (nI m) 5 := vp_in_nI hm (by omega)
theorem vs_i5 (m j : Nat) : nI m * 5 + nI j = nI (m * 5 + j) := by
  rw [show (5 : Int32) = nI 5 from rfl, pk_mul, nI_add]
theorem vs_i4 (m j : Nat) : nI m * 4 + nI j = nI (m * 4 + j) := by
  rw [show (4 : Int32) = nI 4 from rfl, pk_mul, nI_add]
theorem vs_i8 (m j : Nat) : nI m * 8 + nI j = nI (m * 8 + j) := by
  rw [show (8 : Int32) = nI 8 from rfl, pk_mul, nI_add]
theorem vs_i48 (m j : Nat) : nI m * 48 + nI j = nI (m * 48 + j) := by
  rw [show (48 : Int32) = nI 48 from rfl, pk_mul, nI_add]
theorem vs_m4 (m : Nat) : nI m * 4 = nI (m * 4) := pk_mul m 4
theorem vs_sub1 {k : Nat} (h : 1 ≤ k) : nI k - 1 = nI (k - 1) := pk_sub h
theorem vs_slot (m : Nat) {k : Nat} (h : 1 ≤ k) (hk : k < 2 ^ 31) : nI m * 8 + ((nI k - 1) &&& 7) = nI (m * 8 + (k - 1) % 8) := by
  rw [vs_sub1 h, pk_andN (by omega) (m := 7) 3 (by decide), vs_i8]
/-- bits -/
theorem vs_hv (x : Int32) {j : Nat} (hj : j < 32) : (x >>> (nI j &&& 31)) &&& 1 = if bt x j = true then 1 else 0 := by
  apply b_ext
  intro i hi
  rw [b_and, b_sshr j hj x hi]
  have h1 : ∀ i, i < 32 → bt 1 i = decide (i = 0) := by decide +kernel
  rw [h1 i hi]
  by_cases h : i = 0
  · subst h
    simp only [Nat.add_zero, hj, if_true, decide_true, Bool.and_true]
    cases hb : bt x j
    · simp [b_0]
    · simp [h1 0 (by omega)]
  · have e : decide (i = 0) = false := decide_eq_false h
    rw [e, Bool.and_false]
    cases hb : bt x j
    · simp [b_0]
    · simp [h1 i hi, h]
theorem vs_h0 {x : Int32} {j : Nat} (hj : j < 32) : ((x >>> (nI j &&& 31)) &&& 1) = 0 ↔ bt x j = false := by
  rw [vs_hv x hj]
  cases bt x j
  · simp
  · simp
theorem vs_h1 {x : Int32} {j : Nat} (hj : j < 32) : ((x >>> (nI j &&& 31)) &&& 1) = 1 ↔ bt x j = true := by
  rw [vs_hv x hj]
  cases bt x j
  · simp
  · simp
theorem vs_b1 {j : Nat} (hj : j < 32) (i : Nat) : bt ((1 : Int32) <<< (nI j &&& 31)) i = decide (i = j) := by
  rcases Nat.lt_or_ge i 32 with h | h
  · rw [b_shl j hj 1 h]
    have h1 : ∀ i, i < 32 → bt 1 i = decide (i = 0) := by decide +kernel
    rw [h1 (i - j) (by omega)]
    by_cases e : i = j
    · subst e; simp
    · rw [decide_eq_false e]
      by_cases e2 : j ≤ i
      · rw [decide_eq_false (show ¬ i - j = 0 by omega), Bool.and_false]
      · rw [decide_eq_false e2, Bool.false_and]
  · rw [b_big h, decide_eq_false (by omega)]
theorem vs_bor (x : Int32) {j : Nat} (hj : j < 32) (i : Nat) : bt (x ||| ((1 : Int32) <<< (nI j &&& 31))) i = (bt x i || decide (i = j)) := by
  rw [b_or, vs_b1 hj]
theorem vs_bnot (x y : Int32) (i : Nat) : bt (x &&& (y ^^^ (-1))) i = (bt x i && !bt y i) := by
  rw [b_and, b_xor]
  rcases Nat.lt_or_ge i 32 with h | h
  · rw [b_m1 i h]; cases bt y i <;> rfl
  · rw [b_big h]; rfl
theorem vs_bdel (x : Int32) {j : Nat} (hj : j < 32) (i : Nat) : bt (x &&& (((1 : Int32) <<< (nI j &&& 31)) ^^^ (-1))) i = (bt x i && !decide (i = j)) := by
  rw [vs_bnot, vs_b1 hj]
theorem vs_all : ∀ n, n < 6 → ∀ i, i < 32 → bt (((1 : Int32) <<< (nI n &&& 31)) - 1) i = decide (i < n) := by decide +kernel
theorem vs_n0 {x : Int32} : x = 0 ↔ ∀ i, i < 32 → bt x i = false :=
  ⟨fun h i _ => by rw [h, b_0], fun h => b_ext (fun i hi => by rw [h i hi, b_0])⟩
theorem vs_n0' {x : Int32} (h : ¬ x = 0) : ∃ i, i < 32 ∧ bt x i = true := by
  apply Classical.byContradiction
  intro c
  apply h
  rw [vs_n0]
  intro i hi
  cases e : bt x i
  · rfl
  · exact (c ⟨i, hi, e⟩).elim
theorem vs_bf {b : Bool} (h : ¬ b = true) : b = false := by cases b; rfl; exact (h rfl).elim
theorem vs_bt {b : Bool} (h : ¬ b = false) : b = true := by cases b; exact (h rfl).elim; rfl
end
section
/-! small walks of X -/
variable {n w sn st fc : Nat} {md ins l1 l2 l3 l4 mk nw tp su jo am acu b1 b2 b3 o1 o2 xr xb xm xc xp xq xa va ho re pm aq : Nat → Int32} {lv lc vw ct dl pr ac hx bn oc att hd sd wt mv mn fm fs fv ow li be pc : Nat → Nat}
def vs_bad (n : Nat) (p : Int32) : Prop := p < 0 ∨ nI n ≤ p
theorem vs_arg (n : Nat) (hn : n ≤ 5) (p : Int32) : vs_bad n p ∨ ∃ m, m < n ∧ p = nI m := by
  rcases pk_ix p (n := n) (by omega) with h | h | h
  · exact Or.inl (Or.inl h)
  · exact Or.inl (Or.inr h)
  · exact Or.inr h
theorem xw_bad0 {post : Int32 → Prop} {m : Nat} (hm : m < n) (hn : n ≤ 5) (h : post 0) : wpX_bad post ((nI n), (nI w), (nI sn), (nI st), md, ins, (vs_I lv), (vs_I lc), l1, l2, l3, l4, (vs_I vw), mk, nw, (vs_I ct), (vs_I dl), tp, su, jo, (vs_I pr), (vs_I ac), am, acu, (vs_I hx), (vs_I bn), b1, b2, b3, (vs_I oc), o1, o2, (vs_I att), xr, xb, xm, xc, xp, xq, xa) (nI m) :=
  br_f (nI_pos (by omega)) (br_t (nI_lt hm (by omega)) h)
theorem xw_bad1 {post : Int32 → Prop} {p : Int32} (hb : vs_bad n p) (h : post 1) : wpX_bad post ((nI n), (nI w), (nI sn), (nI st), md, ins, (vs_I lv), (vs_I lc), l1, l2, l3, l4, (vs_I vw), mk, nw, (vs_I ct), (vs_I dl), tp, su, jo, (vs_I pr), (vs_I ac), am, acu, (vs_I hx), (vs_I bn), b1, b2, b3, (vs_I oc), o1, o2, (vs_I att), xr, xb, xm, xc, xp, xq, xa) p := by
  by_cases h0 : p < 0
  · exact br_t h0 h
  · rcases hb with hb | hb
    · exact (h0 hb).elim
    · exact br_f h0 (br_f (Int32.not_lt.mpr hb) h)
theorem xw_iv1 {post : Int32 → Prop} {m : Nat} (hm : m < 5) (hv : md m = 2 ∨ md m = 3) (h : post 1) : wpX_inView post ((nI n), (nI w), (nI sn), (nI st), md, ins, (vs_I lv), (vs_I lc), l1, l2, l3, l4, (vs_I vw), mk, nw, (vs_I ct), (vs_I dl), tp, su, jo, (vs_I pr), (vs_I ac), am, acu, (vs_I hx), (vs_I bn), b1, b2, b3, (vs_I oc), o1, o2, (vs_I att), xr, xb, xm, xc, xp, xq, xa) (nI m) := by
  unfold wpX_inView
  rw [nI_clamp (show m < 2 ^ 31 by omega)]
  by_cases h2 : md m = 2
  · exact ⟨vs_in5 hm, br_t h2 h⟩
  · exact ⟨vs_in5 hm, br_f h2 ⟨vs_in5 hm, br_t (hv.resolve_left h2) h⟩⟩
theorem xw_iv0 {post : Int32 → Prop} {m : Nat} (hm : m < 5) (hv : ¬ (md m = 2 ∨ md m = 3)) (h : post 0) : wpX_inView post ((nI n), (nI w), (nI sn), (nI st), md, ins, (vs_I lv), (vs_I lc), l1, l2, l3, l4, (vs_I vw), mk, nw, (vs_I ct), (vs_I dl), tp, su, jo, (vs_I pr), (vs_I ac), am, acu, (vs_I hx), (vs_I bn), b1, b2, b3, (vs_I oc), o1, o2, (vs_I att), xr, xb, xm, xc, xp, xq, xa) (nI m) := by
  unfold wpX_inView
  rw [nI_clamp (show m < 2 ^ 31 by omega)]
  exact ⟨vs_in5 hm, br_f (fun z => hv (Or.inl z)) ⟨vs_in5 hm, br_f (fun z => hv (Or.inr z)) h⟩⟩
theorem xw_has0 {post : Int32 → Prop} {s : Int32} {j : Nat} (hj : j < 32) (hb : bt s j = false) (h : post 0) : wpX_has post ((nI n), (nI w), (nI sn), (nI st), md, ins, (vs_I lv), (vs_I lc), l1, l2, l3, l4, (vs_I vw), mk, nw, (vs_I ct), (vs_I dl), tp, su, jo, (vs_I pr), (vs_I ac), am, acu, (vs_I hx), (vs_I bn), b1, b2, b3, (vs_I oc), o1, o2, (vs_I att), xr, xb, xm, xc, xp, xq, xa) s (nI j) :=
  br_t ((vs_h0 hj).mpr hb) h
theorem xw_has1 {post : Int32 → Prop} {s : Int32} {j : Nat} (hj : j < 32) (hb : bt s j = true) (h : post 1) : wpX_has post ((nI n), (nI w), (nI sn), (nI st), md, ins, (vs_I lv), (vs_I lc), l1, l2, l3, l4, (vs_I vw), mk, nw, (vs_I ct), (vs_I dl), tp, su, jo, (vs_I pr), (vs_I ac), am, acu, (vs_I hx), (vs_I bn), b1, b2, b3, (vs_I oc), o1, o2, (vs_I att), xr, xb, xm, xc, xp, xq, xa) s (nI j) :=
  br_f (fun z => by rw [(vs_h0 hj).mp z] at hb; cases hb) h
theorem xw_least_l {post : Int32 → Prop} {s : Int32} {q : Nat} (hn : n ≤ 5) (hq : q < n) (hb : bt s q = true) (hl : ∀ j, j < q → bt s j = false) (h : post (nI q)) :
    ∀ d j : Nat, j + d = q → wX_least_2 post s (nI n) (nI w) (nI sn) (nI st) md ins (vs_I lv) (vs_I lc) l1 l2 l3 l4 (vs_I vw) mk nw (vs_I ct) (vs_I dl) tp su jo (vs_I pr) (vs_I ac) am acu (vs_I hx) (vs_I bn) b1 b2 b3 (vs_I oc) o1 o2 (vs_I att) xr xb xm xc xp xq xa (d + 1) (nI j) := by
  intro d
  induction d with
  | zero =>
    intro j hj
    have e : j = q := by omega
    subst e
    exact br_f (nI_ge hq (by omega)) (xw_has1 (by omega) hb (br_f (by decide) h))
  | succ d ih =>
    intro j hj
    exact br_f (nI_ge (by omega) (by omega)) (xw_has0 (by omega) (hl j (by omega)) (br_t rfl (nm_r (nI_1 j) (ih (j + 1) (by omega)))))
theorem xw_leastQ {post : Int32 → Prop} {s : Int32} {q : Nat} (hn : n ≤ 5) (hq : q < n) (hb : bt s q = true) (hl : ∀ j, j < q → bt s j = false) (h : post (nI q)) :
    wpX_least post ((nI n), (nI w), (nI sn), (nI st), md, ins, (vs_I lv), (vs_I lc), l1, l2, l3, l4, (vs_I vw), mk, nw, (vs_I ct), (vs_I dl), tp, su, jo, (vs_I pr), (vs_I ac), am, acu, (vs_I hx), (vs_I bn), b1, b2, b3, (vs_I oc), o1, o2, (vs_I att), xr, xb, xm, xc, xp, xq, xa) s := ⟨q + 1, xw_least_l hn hq hb hl h q 0 (by omega)⟩
theorem xw_least_n {post : Int32 → Prop} {s : Int32} (hn : n ≤ 5) (hl : ∀ j, j < n → bt s j = false) (h : post (-1)) :
    ∀ d j : Nat, j + d = n → wX_least_2 post s (nI n) (nI w) (nI sn) (nI st) md ins (vs_I lv) (vs_I lc) l1 l2 l3 l4 (vs_I vw) mk nw (vs_I ct) (vs_I dl) tp su jo (vs_I pr) (vs_I ac) am acu (vs_I hx) (vs_I bn) b1 b2 b3 (vs_I oc) o1 o2 (vs_I att) xr xb xm xc xp xq xa (d + 1) (nI j) := by
  intro d
  induction d with
  | zero =>
    intro j hj
    exact br_t (nI_le (by omega) (by omega)) h
  | succ d ih =>
    intro j hj
    exact br_f (nI_ge (by omega) (by omega)) (xw_has0 (by omega) (hl j (by omega)) (br_t rfl (nm_r (nI_1 j) (ih (j + 1) (by omega)))))
theorem xw_leastN {post : Int32 → Prop} {s : Int32} (hn : n ≤ 5) (hl : ∀ j, j < n → bt s j = false) (h : post (-1)) :
    wpX_least post ((nI n), (nI w), (nI sn), (nI st), md, ins, (vs_I lv), (vs_I lc), l1, l2, l3, l4, (vs_I vw), mk, nw, (vs_I ct), (vs_I dl), tp, su, jo, (vs_I pr), (vs_I ac), am, acu, (vs_I hx), (vs_I bn), b1, b2, b3, (vs_I oc), o1, o2, (vs_I att), xr, xb, xm, xc, xp, xq, xa) s := ⟨n + 1, xw_least_n hn hl h n 0 (by omega)⟩
theorem vs_lst (n : Nat) (s : Int32) : (∃ q, q < n ∧ bt s q = true ∧ ∀ j, j < q → bt s j = false) ∨ ∀ j, j < n → bt s j = false := by
  induction n with
  | zero => exact Or.inr (fun j h => by omega)
  | succ n ih =>
    rcases ih with ⟨q, h1, h2, h3⟩ | h
    · exact Or.inl ⟨q, by omega, h2, h3⟩
    · cases e : bt s n
      · refine Or.inr (fun j hj => ?_)
        by_cases e2 : j = n
        · rw [e2, e]
        · exact h j (by omega)
      · exact Or.inl ⟨n, by omega, e, h⟩
/-- how many of the first j members are in s -/
def vs_sz (s : Int32) : Nat → Nat
  | 0 => 0
  | j + 1 => vs_sz s j + (if bt s j = true then 1 else 0)
theorem vs_sz_le (s : Int32) : ∀ j, vs_sz s j ≤ j := by
  intro j
  induction j with
  | zero => exact Nat.le_refl _
  | succ j ih => show vs_sz s j + (if bt s j = true then 1 else 0) ≤ j + 1; split <;> omega
theorem xw_size_l {post : Int32 → Prop} {s : Int32} (hn : n ≤ 5) (h : post (nI (vs_sz s n))) :
    ∀ d j : Nat, j + d = n → wX_size_4 post s (nI n) (nI w) (nI sn) (nI st) md ins (vs_I lv) (vs_I lc) l1 l2 l3 l4 (vs_I vw) mk nw (vs_I ct) (vs_I dl) tp su jo (vs_I pr) (vs_I ac) am acu (vs_I hx) (vs_I bn) b1 b2 b3 (vs_I oc) o1 o2 (vs_I att) xr xb xm xc xp xq xa (d + 1) (nI (vs_sz s j)) (nI j) := by
  intro d
  induction d with
  | zero =>
    intro j hj
    have e : j = n := by omega
    subst e
    exact br_t (nI_le (by omega) (by omega)) h
  | succ d ih =>
    intro j hj
    refine br_f (nI_ge (by omega) (by omega)) (nm_r (e' := nI (vs_sz s (j + 1))) ?_ (nm_r (nI_1 j) (ih (j + 1) (by omega))))
    rw [vs_hv s (by omega)]
    show _ = nI (vs_sz s j + (if bt s j = true then 1 else 0))
    rw [← nI_add]
    split <;> rfl
theorem xw_size {post : Int32 → Prop} {s : Int32} (hn : n ≤ 5) (h : post (nI (vs_sz s n))) : wpX_size post ((nI n), (nI w), (nI sn), (nI st), md, ins, (vs_I lv), (vs_I lc), l1, l2, l3, l4, (vs_I vw), mk, nw, (vs_I ct), (vs_I dl), tp, su, jo, (vs_I pr), (vs_I ac), am, acu, (vs_I hx), (vs_I bn), b1, b2, b3, (vs_I oc), o1, o2, (vs_I att), xr, xb, xm, xc, xp, xq, xa) s :=
  ⟨n + 1, xw_size_l hn h n 0 (by omega)⟩
theorem xw_maj1 {post : Int32 → Prop} {s t : Int32} (hn : n ≤ 5) (hj : vs_sz t n < 2 * vs_sz s n) (h : post 1) : wpX_majority post ((nI n), (nI w), (nI sn), (nI st), md, ins, (vs_I lv), (vs_I lc), l1, l2, l3, l4, (vs_I vw), mk, nw, (vs_I ct), (vs_I dl), tp, su, jo, (vs_I pr), (vs_I ac), am, acu, (vs_I hx), (vs_I bn), b1, b2, b3, (vs_I oc), o1, o2, (vs_I att), xr, xb, xm, xc, xp, xq, xa) s t := by
  have a := vs_sz_le s n
  have b := vs_sz_le t n
  refine xw_size hn (xw_size hn (br_f ?_ h))
  rw [show (2 : Int32) = nI 2 from rfl, pk_mul, nI_leI (by omega) (by omega)]
  omega
theorem xw_maj0 {post : Int32 → Prop} {s t : Int32} (hn : n ≤ 5) (hj : ¬ vs_sz t n < 2 * vs_sz s n) (h : post 0) : wpX_majority post ((nI n), (nI w), (nI sn), (nI st), md, ins, (vs_I lv), (vs_I lc), l1, l2, l3, l4, (vs_I vw), mk, nw, (vs_I ct), (vs_I dl), tp, su, jo, (vs_I pr), (vs_I ac), am, acu, (vs_I hx), (vs_I bn), b1, b2, b3, (vs_I oc), o1, o2, (vs_I att), xr, xb, xm, xc, xp, xq, xa) s t := by
  have a := vs_sz_le s n
  have b := vs_sz_le t n
  refine xw_size hn (xw_size hn (br_t ?_ h))
  rw [show (2 : Int32) = nI 2 from rfl, pk_mul, nI_leI (by omega) (by omega)]
  omega
/-- STABLE -/
def vs_stb (s : Int32) (h : Nat → Nat) (d : Nat) : Nat → Nat
  | 0 => d
  | j + 1 => if bt s j = true ∧ h j < vs_stb s h d j then h j else vs_stb s h d j
theorem vs_stb_le (s : Int32) (h : Nat → Nat) (d : Nat) : ∀ j, vs_stb s h d j ≤ d := by
  intro j
  induction j with
  | zero => exact Nat.le_refl _
  | succ j ih => show (if bt s j = true ∧ h j < vs_stb s h d j then h j else vs_stb s h d j) ≤ d; split <;> omega
theorem vs_stb_b {s : Int32} {h : Nat → Nat} {d : Nat} : ∀ {j i : Nat}, i < j → bt s i = true → vs_stb s h d j ≤ h i := by
  intro j
  induction j with
  | zero => intro i hi; omega
  | succ j ih =>
    intro i hi hb
    show (if bt s j = true ∧ h j < vs_stb s h d j then h j else vs_stb s h d j) ≤ h i
    by_cases e : i = j
    · subst e
      by_cases c : h i < vs_stb s h d i
      · rw [if_pos ⟨hb, c⟩]; exact Nat.le_refl _
      · rw [if_neg (fun z => c z.2)]; omega
    · have := ih (i := i) (by omega) hb
      split
      · rename_i c; omega
      · exact this
theorem vs_stb_c {s : Int32} {h h' : Nat → Nat} {d : Nat} : ∀ {j : Nat}, (∀ i, i < j → bt s i = true → h i = h' i) → vs_stb s h d j = vs_stb s h' d j := by
  intro j
  induction j with
  | zero => intro _; rfl
  | succ j ih =>
    intro H
    have e := ih (fun i hi => H i (by omega))
    show (if bt s j = true ∧ h j < vs_stb s h d j then h j else vs_stb s h d j) = (if bt s j = true ∧ h' j < vs_stb s h' d j then h' j else vs_stb s h' d j)
    rw [e]
    by_cases c : bt s j = true
    · rw [H j (by omega) c]
    · rw [if_neg (fun z => c z.1), if_neg (fun z => c z.1)]
theorem xw_stable_l {post : Int32 → Prop} {m : Nat} (hn : n ≤ 5) (hm : m < 5) (hh : ∀ i, hx i ≤ 48) (hd : dl m ≤ 48) (h : post (nI (vs_stb (mk m) (fun j => hx (m * 5 + j)) (dl m) n))) :
    ∀ d j : Nat, j + d = n → wX_stable_9 post (nI m) (nI n) (nI w) (nI sn) (nI st) md ins (vs_I lv) (vs_I lc) l1 l2 l3 l4 (vs_I vw) mk nw (vs_I ct) (vs_I dl) tp su jo (vs_I pr) (vs_I ac) am acu (vs_I hx) (vs_I bn) b1 b2 b3 (vs_I oc) o1 o2 (vs_I att) xr xb xm xc xp xq xa (d + 1) (nI (vs_stb (mk m) (fun j => hx (m * 5 + j)) (dl m) j)) (nI j) := by
  intro d
  induction d with
  | zero =>
    intro j hj
    have e : j = n := by omega
    subst e
    exact br_t (nI_le (by omega) (by omega)) h
  | succ d ih =>
    intro j hj
    refine br_f (nI_ge (by omega) (by omega)) ⟨vs_in5 hm, ?_⟩
    have ihj := ih (j + 1) (by omega)
    have es : vs_stb (mk m) (fun j => hx (m * 5 + j)) (dl m) (j + 1) = (if bt (mk m) j = true ∧ hx (m * 5 + j) < vs_stb (mk m) (fun j => hx (m * 5 + j)) (dl m) j then hx (m * 5 + j) else vs_stb (mk m) (fun j => hx (m * 5 + j)) (dl m) j) := rfl
    have hle := vs_stb_le (mk m) (fun j => hx (m * 5 + j)) (dl m) j
    rw [es] at ihj
    rw [nI_clamp (show m < 2 ^ 31 by omega)]
    cases hb : bt (mk m) j
    · rw [if_neg (by rw [hb]; intro z; cases z.1)] at ihj
      exact xw_has0 (by omega) hb (br_t rfl (nm_r (nI_1 j) ihj))
    · refine xw_has1 (by omega) hb (br_f (by decide) ?_)
      rw [vs_i5, nI_clamp (show m * 5 + j < 2 ^ 31 by omega)]
      have hi := hh (m * 5 + j)
      by_cases c : hx (m * 5 + j) < vs_stb (mk m) (fun j => hx (m * 5 + j)) (dl m) j
      · rw [if_pos ⟨hb, c⟩] at ihj
        exact ⟨vp_in_nI (by omega) (by omega), br_f (nI_ge c (by omega)) ⟨vp_in_nI (by omega) (by omega), nm_e (nm_r (nI_1 j) ihj)⟩⟩
      · rw [if_neg (fun z => c z.2)] at ihj
        exact ⟨vp_in_nI (by omega) (by omega), br_t (nI_le (by omega) (by omega)) (nm_r (nI_1 j) ihj)⟩
theorem xw_stable {post : Int32 → Prop} {m : Nat} (hn : n ≤ 5) (hm : m < 5) (hh : ∀ i, hx i ≤ 48) (hd : dl m ≤ 48) (h : post (nI (vs_stb (mk m) (fun j => hx (m * 5 + j)) (dl m) n))) :
    wpX_stable post ((nI n), (nI w), (nI sn), (nI st), md, ins, (vs_I lv), (vs_I lc), l1, l2, l3, l4, (vs_I vw), mk, nw, (vs_I ct), (vs_I dl), tp, su, jo, (vs_I pr), (vs_I ac), am, acu, (vs_I hx), (vs_I bn), b1, b2, b3, (vs_I oc), o1, o2, (vs_I att), xr, xb, xm, xc, xp, xq, xa) (nI m) := by
  refine ⟨vs_in5 hm, nm_r (e' := nI (dl m)) (by rw [nI_clamp (show m < 2 ^ 31 by omega)]; rfl) ⟨n + 1, ?_⟩⟩
  exact xw_stable_l hn hm hh hd h n 0 (by omega)
end
section
/-! pure pictures: places of messages, counts, rings, heard, deliveries -/
def vs_fi (mv mn : Nat → Nat) (v k : Nat) : Nat → Nat → Nat
  | 0, i => i
  | d + 1, i => if mv i = v ∧ mn i = k then i else vs_fi mv mn v k d (i + 1)
/-- the place of the message numbered k in view v; 48: none -/
def vs_ix (mv mn : Nat → Nat) (v k : Nat) : Nat := vs_fi mv mn v k 48 0
theorem vs_fi_no {mv mn : Nat → Nat} {v k : Nat} : ∀ d i, (∀ t, i ≤ t → t < i + d → ¬ (mv t = v ∧ mn t = k)) → vs_fi mv mn v k d i = i + d := by
  intro d
  induction d with
  | zero => intro i _; rfl
  | succ d ih =>
    intro i h
    show (if mv i = v ∧ mn i = k then i else vs_fi mv mn v k d (i + 1)) = i + (d + 1)
    rw [if_neg (h i (by omega) (by omega)), ih (i + 1) (fun t a b => h t (by omega) (by omega))]
    omega
theorem vs_fi_yes {mv mn : Nat → Nat} {v k t : Nat} (ht : mv t = v ∧ mn t = k) : ∀ d i, i ≤ t → t < i + d → (∀ t', i ≤ t' → t' < t → ¬ (mv t' = v ∧ mn t' = k)) → vs_fi mv mn v k d i = t := by
  intro d
  induction d with
  | zero => intro i a b; omega
  | succ d ih =>
    intro i a b h
    show (if mv i = v ∧ mn i = k then i else vs_fi mv mn v k d (i + 1)) = t
    by_cases e : i = t
    · subst e; rw [if_pos ht]
    · rw [if_neg (h i (by omega) (by omega))]
      exact ih (i + 1) (by omega) (by omega) (fun t' x y => h t' (by omega) y)
theorem vs_fi_sp {mv mn : Nat → Nat} {v k : Nat} : ∀ d i, vs_fi mv mn v k d i = i + d ∨ (vs_fi mv mn v k d i < i + d ∧ mv (vs_fi mv mn v k d i) = v ∧ mn (vs_fi mv mn v k d i) = k) := by
  intro d
  induction d with
  | zero => intro i; exact Or.inl rfl
  | succ d ih =>
    intro i
    by_cases c : mv i = v ∧ mn i = k
    · have e : vs_fi mv mn v k (d + 1) i = i := if_pos c
      rw [e]
      exact Or.inr ⟨by omega, c⟩
    · have e : vs_fi mv mn v k (d + 1) i = vs_fi mv mn v k d (i + 1) := if_neg c
      rw [e]
      rcases ih (i + 1) with h | h
      · exact Or.inl (by omega)
      · exact Or.inr ⟨by omega, h.2⟩
theorem vs_ix_sp {mv mn : Nat → Nat} {v k : Nat} (h : vs_ix mv mn v k < 48) : mv (vs_ix mv mn v k) = v ∧ mn (vs_ix mv mn v k) = k := by
  rcases vs_fi_sp (mv := mv) (mn := mn) (v := v) (k := k) 48 0 with e | e
  · have : vs_ix mv mn v k = 48 := by unfold vs_ix; omega
    omega
  · exact e.2
theorem vs_ix_le (mv mn : Nat → Nat) (v k : Nat) : vs_ix mv mn v k ≤ 48 := by
  rcases vs_fi_sp (mv := mv) (mn := mn) (v := v) (k := k) 48 0 with e | e
  · unfold vs_ix; omega
  · unfold vs_ix; omega
theorem vs_ix_of {mv mn : Nat → Nat} {v k i : Nat} (hi : i < 48) (h : mv i = v ∧ mn i = k) : vs_ix mv mn v k < 48 := by
  apply Classical.byContradiction
  intro c
  have le := vs_ix_le mv mn v k
  have h2 : vs_ix mv mn v k = 48 := by omega
  obtain ⟨t, ⟨ht, hx⟩, hl⟩ := pk_least (fun t => t < 48 ∧ mv t = v ∧ mn t = k) ⟨i, hi, h⟩
  have := vs_fi_yes hx 48 0 (by omega) (by omega) (fun t' _ b z => hl t' b ⟨by omega, z⟩)
  unfold vs_ix at h2
  omega
/-- how many of the first d have P -/
def vs_cn (P : Nat → Bool) : Nat → Nat
  | 0 => 0
  | d + 1 => vs_cn P d + (if P d = true then 1 else 0)
theorem vs_cn_le (P : Nat → Bool) : ∀ d, vs_cn P d ≤ d := by
  intro d
  induction d with
  | zero => exact Nat.le_refl _
  | succ d ih => show vs_cn P d + (if P d = true then 1 else 0) ≤ d + 1; split <;> omega
theorem vs_cn_c {P Q : Nat → Bool} : ∀ {d}, (∀ i, i < d → P i = Q i) → vs_cn P d = vs_cn Q d := by
  intro d
  induction d with
  | zero => intro _; rfl
  | succ d ih =>
    intro h
    show vs_cn P d + (if P d = true then 1 else 0) = vs_cn Q d + (if Q d = true then 1 else 0)
    rw [ih (fun i hi => h i (by omega)), h d (by omega)]
theorem vs_cn_put {P Q : Nat → Bool} {i : Nat} (h0 : P i = false) (h1 : Q i = true) (ho : ∀ j, j ≠ i → Q j = P j) : ∀ {d}, i < d → vs_cn Q d = vs_cn P d + 1 := by
  intro d
  induction d with
  | zero => intro h; omega
  | succ d ih =>
    intro h
    show vs_cn Q d + (if Q d = true then 1 else 0) = vs_cn P d + (if P d = true then 1 else 0) + 1
    by_cases e : i = d
    · subst e
      rw [h0, h1, vs_cn_c (fun j hj => ho j (by omega))]
      simp
    · rw [ih (by omega), ho d (by omega)]
      omega
/-- how many numbers view v has -/
def vs_N (mv : Nat → Nat) (v : Nat) : Nat := vs_cn (fun i => decide (mv i = v)) 48
theorem vs_N_le (mv : Nat → Nat) (v : Nat) : vs_N mv v ≤ 48 := vs_cn_le _ _
theorem vs_N_put {mv : Nat → Nat} {i v : Nat} (hi : i < 48) (h0 : mv i = 0) (hv : v ≠ 0) : vs_N (vs_u mv i v) v = vs_N mv v + 1 := by
  refine vs_cn_put (i := i) ?_ ?_ ?_ hi
  · exact decide_eq_false (by omega)
  · exact decide_eq_true vs_us
  · intro j hj
    show decide (vs_u mv i v j = v) = decide (mv j = v)
    rw [vs_un hj]
theorem vs_N_other {mv : Nat → Nat} {i v v' : Nat} (h0 : mv i = 0) (hv : v' ≠ v) (h' : v' ≠ 0) : vs_N (vs_u mv i v) v' = vs_N mv v' := by
  refine vs_cn_c (fun j _ => ?_)
  show decide (vs_u mv i v j = v') = decide (mv j = v')
  by_cases e : j = i
  · subst e
    rw [vs_us, decide_eq_false (by omega), decide_eq_false (by omega)]
  · rw [vs_un e]
/-- the ring of one member: hm what it has, ix the places -/
def vs_RB (hm : Nat → Bool) (ix : Nat → Nat) (va : Nat → Int32) (sd bn : Nat → Nat) (b1 b2 b3 : Nat → Int32) (m : Nat) : Prop :=
  (∀ s, s < 8 → bn (m * 8 + s) ≠ 0 → hm (bn (m * 8 + s)) = true ∧ (bn (m * 8 + s) - 1) % 8 = s ∧ b1 (m * 8 + s) = nI (ix (bn (m * 8 + s)) + 1) ∧ b2 (m * 8 + s) = va (ix (bn (m * 8 + s))) ∧ b3 (m * 8 + s) = nI (sd (ix (bn (m * 8 + s)))))
  ∧ (∀ k, hm k = true → 1 ≤ k ∧ k ≤ bn (m * 8 + (k - 1) % 8))
theorem vs_RB_in {hm : Nat → Bool} {ix : Nat → Nat} {va : Nat → Int32} {sd bn : Nat → Nat} {b1 b2 b3 : Nat → Int32} {m k : Nat} (R : vs_RB hm ix va sd bn b1 b2 b3 m) (hk : 1 ≤ k) (h : bn (m * 8 + (k - 1) % 8) = k) :
    hm k = true ∧ b1 (m * 8 + (k - 1) % 8) = nI (ix k + 1) ∧ b2 (m * 8 + (k - 1) % 8) = va (ix k) ∧ b3 (m * 8 + (k - 1) % 8) = nI (sd (ix k)) := by
  have a := R.1 ((k - 1) % 8) (by omega) (by rw [h]; omega)
  rw [h] at a
  exact ⟨a.1, a.2.2.1, a.2.2.2.1, a.2.2.2.2⟩
theorem vs_RB_has {hm : Nat → Bool} {ix : Nat → Nat} {va : Nat → Int32} {sd bn : Nat → Nat} {b1 b2 b3 : Nat → Int32} {m k : Nat} (R : vs_RB hm ix va sd bn b1 b2 b3 m) (h : hm k = true) (hb : ∀ k', hm k' = true → k' < k + 8) :
    bn (m * 8 + (k - 1) % 8) = k := by
  have a := R.2 k h
  have b := R.1 ((k - 1) % 8) (by omega) (by omega)
  have c := hb _ b.1
  have d := b.2.1
  omega
theorem vs_RB_put {hm hm' : Nat → Bool} {ix : Nat → Nat} {va : Nat → Int32} {sd bn : Nat → Nat} {b1 b2 b3 : Nat → Int32} {m k : Nat} (R : vs_RB hm ix va sd bn b1 b2 b3 m) (hk : 1 ≤ k)
    (hb : ∀ k', hm k' = true → k' < k + 8) (e : ∀ k', hm' k' = (hm k' || decide (k' = k))) :
    vs_RB hm' ix va sd (vs_u bn (m * 8 + (k - 1) % 8) k) (vs_u b1 (m * 8 + (k - 1) % 8) (nI (ix k + 1))) (vs_u b2 (m * 8 + (k - 1) % 8) (va (ix k))) (vs_u b3 (m * 8 + (k - 1) % 8) (nI (sd (ix k)))) m := by
  constructor
  · intro s hs h
    by_cases c : s = (k - 1) % 8
    · subst c
      rw [vs_us, vs_us, vs_us, vs_us]
      exact ⟨by rw [e]; simp, rfl, rfl, rfl, rfl⟩
    · have c' : m * 8 + s ≠ m * 8 + (k - 1) % 8 := by omega
      rw [vs_un c'] at h ⊢
      rw [vs_un c', vs_un c', vs_un c']
      have a := R.1 s hs h
      exact ⟨by rw [e, a.1]; rfl, a.2⟩
  · intro k' h
    rw [e] at h
    by_cases c : (k' - 1) % 8 = (k - 1) % 8
    · rw [c, vs_us]
      by_cases d : k' = k
      · omega
      · have h2 : hm k' = true := by simpa [d] using h
        have := hb k' h2
        have := (R.2 k' h2).1
        omega
    · rw [vs_un (by omega)]
      by_cases d : k' = k
      · omega
      · have h2 : hm k' = true := by simpa [d] using h
        exact R.2 k' h2
theorem vs_RB_other {hm : Nat → Bool} {ix : Nat → Nat} {va : Nat → Int32} {sd bn : Nat → Nat} {b1 b2 b3 : Nat → Int32} {m m' s x : Nat} {y1 y2 y3 : Int32} (R : vs_RB hm ix va sd bn b1 b2 b3 m') (hs : s < 8) (hne : m' ≠ m) :
    vs_RB hm ix va sd (vs_u bn (m * 8 + s) x) (vs_u b1 (m * 8 + s) y1) (vs_u b2 (m * 8 + s) y2) (vs_u b3 (m * 8 + s) y3) m' := by
  have g : ∀ t, t < 8 → m' * 8 + t ≠ m * 8 + s := fun t ht => by omega
  constructor
  · intro t ht h
    rw [vs_un (g t ht)] at h ⊢
    rw [vs_un (g t ht), vs_un (g t ht), vs_un (g t ht)]
    exact R.1 t ht h
  · intro k h
    rw [vs_un (g _ (by omega))]
    exact R.2 k h
/-- KNOWN is raised to c in the row of m, for the first j members -/
def vs_rs (h : Nat → Nat) (s : Int32) (m c j : Nat) : Nat → Nat :=
  fun i => if i / 5 = m ∧ i % 5 < j ∧ i % 5 ≠ m ∧ bt s (i % 5) = true then (if h i < c then c else h i) else h i
theorem vs_rs_0 (h : Nat → Nat) (s : Int32) (m c : Nat) : vs_rs h s m c 0 = h := by
  funext i
  exact if_neg (fun z => by omega)
theorem vs_rs_t {h : Nat → Nat} {s : Int32} {m c j : Nat} (hj : j < 5) (hm : j ≠ m) (hb : bt s j = true) (hc : h (m * 5 + j) < c) : vs_rs h s m c (j + 1) = vs_u (vs_rs h s m c j) (m * 5 + j) c := by
  funext i
  by_cases e : i = m * 5 + j
  · subst e
    rw [vs_us]
    have e1 : (m * 5 + j) / 5 = m := by omega
    have e2 : (m * 5 + j) % 5 = j := by omega
    show (if (m * 5 + j) / 5 = m ∧ (m * 5 + j) % 5 < j + 1 ∧ (m * 5 + j) % 5 ≠ m ∧ bt s ((m * 5 + j) % 5) = true then (if h (m * 5 + j) < c then c else h (m * 5 + j)) else h (m * 5 + j)) = c
    rw [e1, e2, if_pos ⟨rfl, by omega, hm, hb⟩, if_pos hc]
  · rw [vs_un e]
    show (if i / 5 = m ∧ i % 5 < j + 1 ∧ i % 5 ≠ m ∧ bt s (i % 5) = true then _ else _) = (if i / 5 = m ∧ i % 5 < j ∧ i % 5 ≠ m ∧ bt s (i % 5) = true then _ else _)
    by_cases d : i / 5 = m ∧ i % 5 < j ∧ i % 5 ≠ m ∧ bt s (i % 5) = true
    · rw [if_pos d, if_pos ⟨d.1, by omega, d.2.2⟩]
    · rw [if_neg d, if_neg (fun z => d ⟨z.1, by omega, z.2.2⟩)]
theorem vs_rs_f {h : Nat → Nat} {s : Int32} {m c j : Nat} (hj : j < 5) (hn : j = m ∨ bt s j = false ∨ ¬ h (m * 5 + j) < c) : vs_rs h s m c (j + 1) = vs_rs h s m c j := by
  funext i
  show (if i / 5 = m ∧ i % 5 < j + 1 ∧ i % 5 ≠ m ∧ bt s (i % 5) = true then _ else _) = (if i / 5 = m ∧ i % 5 < j ∧ i % 5 ≠ m ∧ bt s (i % 5) = true then _ else _)
  by_cases d : i / 5 = m ∧ i % 5 < j ∧ i % 5 ≠ m ∧ bt s (i % 5) = true
  · rw [if_pos d, if_pos ⟨d.1, by omega, d.2.2⟩]
  · rw [if_neg d]
    by_cases d2 : i / 5 = m ∧ i % 5 < j + 1 ∧ i % 5 ≠ m ∧ bt s (i % 5) = true
    · rw [if_pos d2]
      have e : i % 5 = j := by
        apply Classical.byContradiction
        intro z
        exact d ⟨d2.1, by omega, d2.2.2⟩
      have e2 : i = m * 5 + j := by omega
      rcases hn with hn | hn | hn
      · omega
      · rw [e, hn] at d2; cases d2.2.2.2
      · rw [← e2] at hn; rw [if_neg hn]
    · rw [if_neg d2]
theorem vs_rs_lo {h : Nat → Nat} {s : Int32} {m c j : Nat} (hj : j < 5) : vs_rs h s m c j (m * 5 + j) = h (m * 5 + j) := by
  have e2 : (m * 5 + j) % 5 = j := by omega
  exact if_neg (fun z => by omega)
theorem vs_rs_le {h : Nat → Nat} {s : Int32} {m c j b : Nat} (hh : ∀ i, h i ≤ b) (hc : c ≤ b) (i : Nat) : vs_rs h s m c j i ≤ b := by
  have := hh i
  unfold vs_rs
  split
  · split <;> omega
  · exact this
/-- top -/
def vs_tp (tp : Nat → Int32) (m k : Nat) : Nat → Int32 := if nI k ≤ tp m then tp else vs_u tp m (nI k)
/-- deliveries in order: hm what is there, r at most, d so far -/
def vs_dn (hm : Nat → Bool) : Nat → Nat → Nat
  | 0, d => d
  | r + 1, d => if hm (d + 1) = true then vs_dn hm r (d + 1) else d
def vs_dg (hm : Nat → Bool) (e : Nat → Nat × Nat) : Nat → Nat → List (Nat × Nat) → List (Nat × Nat)
  | 0, _, l => l
  | r + 1, d, l => if hm (d + 1) = true then vs_dg hm e r (d + 1) (l ++ [e (d + 1)]) else l
/-- X's log arrays hold lg -/
def vs_XL (n : Nat) (lg : Nat → List (Nat × Nat)) (va : Nat → Int32) (sd lc : Nat → Nat) (l1 l2 l3 l4 : Nat → Int32) : Prop :=
  ∀ m, m < n → lc m = (lg m).length ∧ (lg m).length ≤ 48 ∧ ∀ p i v, (lg m)[p]? = some (i, v) → l1 (m * 48 + p) = nI (i + 1) ∧ l2 (m * 48 + p) = va i ∧ l3 (m * 48 + p) = nI (sd i) ∧ l4 (m * 48 + p) = nI v
theorem vs_XL_ap {n : Nat} {lg : Nat → List (Nat × Nat)} {va : Nat → Int32} {sd lc : Nat → Nat} {l1 l2 l3 l4 : Nat → Int32} (R : vs_XL n lg va sd lc l1 l2 l3 l4) {m i v : Nat} (hm : m < n) (hl : (lg m).length < 48) :
    vs_XL n (vs_u lg m (lg m ++ [(i, v)])) va sd (vs_u lc m (lc m + 1)) (vs_u l1 (m * 48 + lc m) (nI (i + 1))) (vs_u l2 (m * 48 + lc m) (va i)) (vs_u l3 (m * 48 + lc m) (nI (sd i))) (vs_u l4 (m * 48 + lc m) (nI v)) := by
  intro m' hm'
  have R0 := R m hm
  by_cases e : m' = m
  · subst e
    rw [vs_us, vs_us]
    refine ⟨by rw [List.length_append, R0.1]; rfl, by rw [List.length_append]; exact hl, ?_⟩
    intro p i' v' h
    rw [R0.1]
    by_cases c : p < (lg m').length
    · rw [List.getElem?_append_left c] at h
      have a := R0.2.2 p i' v' h
      have g : m' * 48 + p ≠ m' * 48 + (lg m').length := by omega
      rw [vs_un g, vs_un g, vs_un g, vs_un g]
      exact a
    · rw [List.getElem?_append_right (by omega)] at h
      have c2 : p = (lg m').length := by
        apply Classical.byContradiction
        intro z
        rw [List.getElem?_eq_none (by simp; omega)] at h
        cases h
      subst c2
      rw [Nat.sub_self] at h
      cases h
      rw [vs_us, vs_us, vs_us, vs_us]
      exact ⟨rfl, rfl, rfl, rfl⟩
  · rw [vs_un e, vs_un e]
    have a := R m' hm'
    refine ⟨a.1, a.2.1, ?_⟩
    intro p i' v' h
    have hp : p < (lg m').length := by
      apply Classical.byContradiction
      intro z
      rw [List.getElem?_eq_none (by omega)] at h
      cases h
    have g : m' * 48 + p ≠ m * 48 + lc m := by have := a.2.1; have := R0.1; omega
    rw [vs_un g, vs_un g, vs_un g, vs_un g]
    exact a.2.2 p i' v' h
end
section
/-! X: ring, heard, obtain, append, deliver -/
variable {n w sn st fc : Nat} {md ins l1 l2 l3 l4 mk nw tp su jo am acu b1 b2 b3 o1 o2 xr xb xm xc xp xq xa va ho re pm aq : Nat → Int32} {lv lc vw ct dl pr ac hx bn oc att hd sd wt mv mn fm fs fv ow li be pc : Nat → Nat}
theorem vs_cmp {k w h : Nat} (hk : k ≤ 48) (hw : w ≤ 8) (hh : h ≤ 48) : nI k - nI w ≤ nI h ↔ k - w ≤ h := by
  rw [Int32.le_iff_toInt_le, pk_sub_toInt (by omega) (by omega), nI_toInt (by omega)]
  omega
theorem vs_ui {α : Type} (f : Nat → α) (k : Nat) : vs_u f k (f k) = f := by
  funext j
  by_cases e : j = k
  · subst e; exact vs_us
  · exact vs_un e
theorem vs_uu {α : Type} (f : Nat → α) (k : Nat) (x y : α) : vs_u (vs_u f k x) k y = vs_u f k y := by
  funext j
  by_cases e : j = k
  · subst e; rw [vs_us, vs_us]
  · rw [vs_un e, vs_un e, vs_un e]
theorem xw_slot {post : Int32 → Prop} {m k : Nat} (hk : 1 ≤ k) (hk2 : k < 2 ^ 31) (h : post (nI (m * 8 + (k - 1) % 8))) : wpX_slot post ((nI n), (nI w), (nI sn), (nI st), md, ins, (vs_I lv), (vs_I lc), l1, l2, l3, l4, (vs_I vw), mk, nw, (vs_I ct), (vs_I dl), tp, su, jo, (vs_I pr), (vs_I ac), am, acu, (vs_I hx), (vs_I bn), b1, b2, b3, (vs_I oc), o1, o2, (vs_I att), xr, xb, xm, xc, xp, xq, xa) (nI m) (nI k) := by
  show post (nI m * 8 + ((nI k - 1) &&& 7))
  rw [vs_slot m hk hk2]
  exact h
theorem xw_ring1 {post : Int32 → Prop} {m k : Nat} (hm : m < 5) (hk : 1 ≤ k) (hk2 : k ≤ 48) (e : bn (m * 8 + (k - 1) % 8) = k) (h : post 1) : wpX_inRing post ((nI n), (nI w), (nI sn), (nI st), md, ins, (vs_I lv), (vs_I lc), l1, l2, l3, l4, (vs_I vw), mk, nw, (vs_I ct), (vs_I dl), tp, su, jo, (vs_I pr), (vs_I ac), am, acu, (vs_I hx), (vs_I bn), b1, b2, b3, (vs_I oc), o1, o2, (vs_I att), xr, xb, xm, xc, xp, xq, xa) (nI m) (nI k) := by
  unfold wpX_inRing
  refine xw_slot hk (by omega) ⟨vp_in_nI (by omega) (by omega), br_t ?_ h⟩
  rw [nI_clamp (by omega)]
  show nI (bn (m * 8 + (k - 1) % 8)) = nI k
  rw [e]
theorem xw_ring0 {post : Int32 → Prop} {m k : Nat} (hm : m < 5) (hk : 1 ≤ k) (hk2 : k ≤ 48) (hb : ∀ i, bn i ≤ 48) (e : bn (m * 8 + (k - 1) % 8) ≠ k) (h : post 0) : wpX_inRing post ((nI n), (nI w), (nI sn), (nI st), md, ins, (vs_I lv), (vs_I lc), l1, l2, l3, l4, (vs_I vw), mk, nw, (vs_I ct), (vs_I dl), tp, su, jo, (vs_I pr), (vs_I ac), am, acu, (vs_I hx), (vs_I bn), b1, b2, b3, (vs_I oc), o1, o2, (vs_I att), xr, xb, xm, xc, xp, xq, xa) (nI m) (nI k) := by
  unfold wpX_inRing
  refine xw_slot hk (by omega) ⟨vp_in_nI (by omega) (by omega), br_f ?_ h⟩
  rw [nI_clamp (by omega)]
  show ¬ nI (bn (m * 8 + (k - 1) % 8)) = nI k
  have := hb (m * 8 + (k - 1) % 8)
  rw [nI_eq (by omega) (by omega)]
  exact e
theorem xw_holds1 {post : Int32 → Prop} {m k : Nat} (hm : m < 5) (hk : 1 ≤ k) (hk2 : k ≤ 48) (hd : dl m ≤ 48) (e : k ≤ dl m ∨ bn (m * 8 + (k - 1) % 8) = k) (h : post 1) : wpX_holds post ((nI n), (nI w), (nI sn), (nI st), md, ins, (vs_I lv), (vs_I lc), l1, l2, l3, l4, (vs_I vw), mk, nw, (vs_I ct), (vs_I dl), tp, su, jo, (vs_I pr), (vs_I ac), am, acu, (vs_I hx), (vs_I bn), b1, b2, b3, (vs_I oc), o1, o2, (vs_I att), xr, xb, xm, xc, xp, xq, xa) (nI m) (nI k) := by
  unfold wpX_holds
  rw [nI_clamp (show m < 2 ^ 31 by omega)]
  refine ⟨vs_in5 hm, ?_⟩
  by_cases c : k ≤ dl m
  · exact br_t (nI_le c (by omega)) h
  · exact br_f (nI_ge (by omega) (by omega)) (xw_ring1 hm hk hk2 (e.resolve_left c) (br_f (by decide) h))
theorem xw_holds0 {post : Int32 → Prop} {m k : Nat} (hm : m < 5) (hk : 1 ≤ k) (hk2 : k ≤ 48) (hb : ∀ i, bn i ≤ 48) (e : ¬ k ≤ dl m) (e2 : bn (m * 8 + (k - 1) % 8) ≠ k) (h : post 0) : wpX_holds post ((nI n), (nI w), (nI sn), (nI st), md, ins, (vs_I lv), (vs_I lc), l1, l2, l3, l4, (vs_I vw), mk, nw, (vs_I ct), (vs_I dl), tp, su, jo, (vs_I pr), (vs_I ac), am, acu, (vs_I hx), (vs_I bn), b1, b2, b3, (vs_I oc), o1, o2, (vs_I att), xr, xb, xm, xc, xp, xq, xa) (nI m) (nI k) := by
  unfold wpX_holds
  rw [nI_clamp (show m < 2 ^ 31 by omega)]
  exact ⟨vs_in5 hm, br_f (nI_ge (by omega) (by omega)) (xw_ring0 hm hk hk2 hb e2 (br_t rfl h))⟩
theorem xw_raise1 {post : SX → Prop} {m j c : Nat} {p : Int32} (hm : m < 5) (hj : j < 5) (e : p = nI c) (hc : hx (m * 5 + j) < c) (hc2 : c ≤ 48) (h : post ((nI n), (nI w), (nI sn), (nI st), md, ins, (vs_I lv), (vs_I lc), l1, l2, l3, l4, (vs_I vw), mk, nw, (vs_I ct), (vs_I dl), tp, su, jo, (vs_I pr), (vs_I ac), am, acu, (vs_I (vs_u hx (m * 5 + j) c)), (vs_I bn), b1, b2, b3, (vs_I oc), o1, o2, (vs_I att), xr, xb, xm, xc, xp, xq, xa)) : wpX_raiseKnown post ((nI n), (nI w), (nI sn), (nI st), md, ins, (vs_I lv), (vs_I lc), l1, l2, l3, l4, (vs_I vw), mk, nw, (vs_I ct), (vs_I dl), tp, su, jo, (vs_I pr), (vs_I ac), am, acu, (vs_I hx), (vs_I bn), b1, b2, b3, (vs_I oc), o1, o2, (vs_I att), xr, xb, xm, xc, xp, xq, xa) (nI m) (nI j) p := by
  subst e
  refine nm_r (vs_i5 m j) ⟨vp_in_nI (by omega) (by omega), br_f ?_ ⟨vp_in_nI (by omega) (by omega), nm_r (vs_w hx c (by omega)) h⟩⟩
  rw [nI_clamp (by omega)]
  exact nI_ge hc (by omega)
theorem xw_raise0 {post : SX → Prop} {m j : Nat} {p : Int32} (hm : m < 5) (hj : j < 5) (hc : p ≤ nI (hx (m * 5 + j))) (h : post ((nI n), (nI w), (nI sn), (nI st), md, ins, (vs_I lv), (vs_I lc), l1, l2, l3, l4, (vs_I vw), mk, nw, (vs_I ct), (vs_I dl), tp, su, jo, (vs_I pr), (vs_I ac), am, acu, (vs_I hx), (vs_I bn), b1, b2, b3, (vs_I oc), o1, o2, (vs_I att), xr, xb, xm, xc, xp, xq, xa)) : wpX_raiseKnown post ((nI n), (nI w), (nI sn), (nI st), md, ins, (vs_I lv), (vs_I lc), l1, l2, l3, l4, (vs_I vw), mk, nw, (vs_I ct), (vs_I dl), tp, su, jo, (vs_I pr), (vs_I ac), am, acu, (vs_I hx), (vs_I bn), b1, b2, b3, (vs_I oc), o1, o2, (vs_I att), xr, xb, xm, xc, xp, xq, xa) (nI m) (nI j) p := by
  refine nm_r (vs_i5 m j) ⟨vp_in_nI (by omega) (by omega), br_t ?_ h⟩
  rw [nI_clamp (by omega)]
  exact hc
theorem xw_ob_l {post : SX → Prop} {m k : Nat} (hm : m < 5) (hn : n ≤ 5) (hw : w ≤ 8) (hk : k ≤ 48) (hh : ∀ i, hx i ≤ 48) (h : post ((nI n), (nI w), (nI sn), (nI st), md, ins, (vs_I lv), (vs_I lc), l1, l2, l3, l4, (vs_I vw), mk, nw, (vs_I ct), (vs_I dl), tp, su, jo, (vs_I pr), (vs_I ac), am, acu, (vs_I (vs_rs hx (mk m) m (k - w) n)), (vs_I bn), b1, b2, b3, (vs_I oc), o1, o2, (vs_I att), xr, xb, xm, xc, xp, xq, xa)) :
    ∀ d j : Nat, j + d = n → wX_obtain_72 post (nI m) (nI k) (d + 1) (nI j) (nI n) (nI w) (nI sn) (nI st) md ins (vs_I lv) (vs_I lc) l1 l2 l3 l4 (vs_I vw) mk nw (vs_I ct) (vs_I dl) tp su jo (vs_I pr) (vs_I ac) am acu (vs_I (vs_rs hx (mk m) m (k - w) j)) (vs_I bn) b1 b2 b3 (vs_I oc) o1 o2 (vs_I att) xr xb xm xc xp xq xa := by
  intro d
  induction d with
  | zero =>
    intro j hj
    have e : j = n := by omega
    subst e
    exact br_t (nI_le (by omega) (by omega)) h
  | succ d ih =>
    intro j hj
    have ihj := ih (j + 1) (by omega)
    refine br_f (nI_ge (by omega) (by omega)) ?_
    by_cases c : j = m
    · rw [vs_rs_f (by omega) (Or.inl c)] at ihj
      exact br_t (by rw [c]) (nm_r (nI_1 j) ihj)
    · refine br_f (fun z => c ((nI_eq (by omega) (by omega)).mp z)) ⟨vs_in5 hm, ?_⟩
      rw [nI_clamp (show m < 2 ^ 31 by omega)]
      cases hb : bt (mk m) j
      · rw [vs_rs_f (by omega) (Or.inr (Or.inl hb))] at ihj
        exact xw_has0 (by omega) hb (br_t rfl (nm_r (nI_1 j) ihj))
      · refine xw_has1 (by omega) hb (br_f (by decide) ?_)
        have hi := hh (m * 5 + j)
        by_cases c2 : hx (m * 5 + j) < k - w
        · rw [vs_rs_t (by omega) c hb c2] at ihj
          exact xw_raise1 hm (by omega) (pk_sub (by omega)) (by rw [vs_rs_lo (by omega)]; exact c2) (by omega) (nm_r (nI_1 j) ihj)
        · rw [vs_rs_f (by omega) (Or.inr (Or.inr c2))] at ihj
          refine xw_raise0 hm (by omega) ?_ (nm_r (nI_1 j) ihj)
          rw [vs_rs_lo (by omega), vs_cmp hk hw hi]
          omega
theorem xw_obtain1 {post : SX → Prop} {m k : Nat} {y1 y2 y3 : Int32} (hm : m < 5) (hn : n ≤ 5) (hw : w ≤ 8) (hk : 1 ≤ k) (hk2 : k ≤ 48) (hbn : ∀ i, bn i ≤ 48) (hh : ∀ i, hx i ≤ 48) (h1 : ¬ k ≤ dl m) (h2 : bn (m * 8 + (k - 1) % 8) ≠ k)
    (h : post ((nI n), (nI w), (nI sn), (nI st), md, ins, (vs_I lv), (vs_I lc), l1, l2, l3, l4, (vs_I vw), mk, nw, (vs_I ct), (vs_I dl), (vs_tp tp m k), su, jo, (vs_I pr), (vs_I ac), am, acu, (vs_I (vs_rs hx (mk m) m (k - w) n)), (vs_I (vs_u bn (m * 8 + (k - 1) % 8) k)), (vs_u b1 (m * 8 + (k - 1) % 8) y1), (vs_u b2 (m * 8 + (k - 1) % 8) y2), (vs_u b3 (m * 8 + (k - 1) % 8) y3), (vs_I oc), o1, o2, (vs_I att), xr, xb, xm, xc, xp, xq, xa)) :
    wpX_obtain post ((nI n), (nI w), (nI sn), (nI st), md, ins, (vs_I lv), (vs_I lc), l1, l2, l3, l4, (vs_I vw), mk, nw, (vs_I ct), (vs_I dl), tp, su, jo, (vs_I pr), (vs_I ac), am, acu, (vs_I hx), (vs_I bn), b1, b2, b3, (vs_I oc), o1, o2, (vs_I att), xr, xb, xm, xc, xp, xq, xa) (nI m) (nI k) y1 y2 y3 := by
  unfold wpX_obtain
  refine xw_holds0 hm hk hk2 hbn h1 h2 (br_t rfl (xw_slot hk (by omega) ?_))
  refine ⟨vp_in_nI (by omega) (by omega), nm_r (vs_w bn k (by omega)) ⟨vp_in_nI (by omega) (by omega), nm_r (vs_wA b1 y1 (by omega)) ⟨vp_in_nI (by omega) (by omega), nm_r (vs_wA b2 y2 (by omega)) ⟨vp_in_nI (by omega) (by omega), nm_r (vs_wA b3 y3 (by omega)) ⟨vs_in5 hm, ?_⟩⟩⟩⟩⟩
  rw [nI_clamp (show m < 2 ^ 31 by omega)]
  by_cases c : nI k ≤ tp m
  · have e : vs_tp tp m k = tp := if_pos c
    rw [e] at h
    refine br_t c ⟨n + 1, ?_⟩
    have := xw_ob_l (d := n) (j := 0) hm hn hw hk2 hh h (by omega)
    rw [vs_rs_0] at this
    exact this
  · have e : vs_tp tp m k = vs_u tp m (nI k) := if_neg c
    rw [e] at h
    refine br_f c ⟨vs_in5 hm, nm_r (vs_updA _ _ _) ⟨n + 1, ?_⟩⟩
    have := xw_ob_l (d := n) (j := 0) hm hn hw hk2 hh h (by omega)
    rw [vs_rs_0] at this
    exact this
theorem xw_obtain0 {post : SX → Prop} {m k : Nat} {y1 y2 y3 : Int32} (hm : m < 5) (hk : 1 ≤ k) (hk2 : k ≤ 48) (hd : dl m ≤ 48) (e : k ≤ dl m ∨ bn (m * 8 + (k - 1) % 8) = k) (h : post ((nI n), (nI w), (nI sn), (nI st), md, ins, (vs_I lv), (vs_I lc), l1, l2, l3, l4, (vs_I vw), mk, nw, (vs_I ct), (vs_I dl), tp, su, jo, (vs_I pr), (vs_I ac), am, acu, (vs_I hx), (vs_I bn), b1, b2, b3, (vs_I oc), o1, o2, (vs_I att), xr, xb, xm, xc, xp, xq, xa)) :
    wpX_obtain post ((nI n), (nI w), (nI sn), (nI st), md, ins, (vs_I lv), (vs_I lc), l1, l2, l3, l4, (vs_I vw), mk, nw, (vs_I ct), (vs_I dl), tp, su, jo, (vs_I pr), (vs_I ac), am, acu, (vs_I hx), (vs_I bn), b1, b2, b3, (vs_I oc), o1, o2, (vs_I att), xr, xb, xm, xc, xp, xq, xa) (nI m) (nI k) y1 y2 y3 := by
  unfold wpX_obtain
  exact xw_holds1 hm hk hk2 hd e (br_f (by decide) h)
theorem xw_append {post : SX → Prop} {m : Nat} {y1 y2 y3 : Int32} (hm : m < 5) (hl : lc m < 48)
    (h : post ((nI n), (nI w), (nI sn), (nI st), md, ins, (vs_I lv), (vs_I (vs_u lc m (lc m + 1))), (vs_u l1 (m * 48 + lc m) y1), (vs_u l2 (m * 48 + lc m) y2), (vs_u l3 (m * 48 + lc m) y3), (vs_u l4 (m * 48 + lc m) (nI (vw m))), (vs_I vw), mk, nw, (vs_I ct), (vs_I dl), tp, su, jo, (vs_I pr), (vs_I ac), am, acu, (vs_I hx), (vs_I bn), b1, b2, b3, (vs_I oc), o1, o2, (vs_I att), xr, xb, xm, xc, xp, xq, xa)) :
    wpX_append post ((nI n), (nI w), (nI sn), (nI st), md, ins, (vs_I lv), (vs_I lc), l1, l2, l3, l4, (vs_I vw), mk, nw, (vs_I ct), (vs_I dl), tp, su, jo, (vs_I pr), (vs_I ac), am, acu, (vs_I hx), (vs_I bn), b1, b2, b3, (vs_I oc), o1, o2, (vs_I att), xr, xb, xm, xc, xp, xq, xa) (nI m) y1 y2 y3 := by
  unfold wpX_append
  have e := nI_clamp (show m < 2 ^ 31 by omega)
  simp only [e, vs_Ia, vs_i48]
  have hb : m * 48 + lc m < 240 := by omega
  exact ⟨vs_in5 hm, br_t (nI_lt (b := 48) hl (by decide)) ⟨vs_in5 hm, nm_e ⟨vp_in_nI hb (by omega), nm_r (vs_wA l1 y1 (by omega)) ⟨vp_in_nI hb (by omega), nm_r (vs_wA l2 y2 (by omega)) ⟨vp_in_nI hb (by omega), nm_r (vs_wA l3 y3 (by omega)) ⟨vs_in5 hm, vp_in_nI hb (by omega), nm_r (vs_wA l4 _ (by omega)) ⟨vs_in5 hm, vs_in5 hm, nm_r (by rw [nI_1, vs_upd]) h⟩⟩⟩⟩⟩⟩⟩
end
section
/-! X: deliverUpTo, fetch -/
variable {n w sn st fc : Nat} {md ins l1 l2 l3 l4 mk nw tp su jo am acu b1 b2 b3 o1 o2 xr xb xm xc xp xq xa va ho re pm aq : Nat → Int32} {lv lc vw ct dl pr ac hx bn oc att hd sd wt mv mn fm fs fv ow li be pc : Nat → Nat}
theorem xw_du_l {post : SX → Prop} {m L B : Nat} {Hm : Nat → Bool} {ix : Nat → Nat} (hm : m < n) (hn : n ≤ 5) (hL : L ≤ 48) (R : vs_RB Hm ix va sd bn b1 b2 b3 m) (hb : ∀ i, bn i ≤ 48) (h8 : ∀ k, Hm k = true → k ≤ dl m + 8) (hB : ∀ k, Hm k = true → k ≤ B) :
    ∀ (r d : Nat) (lg : Nat → List (Nat × Nat)) (lc : Nat → Nat) (l1 l2 l3 l4 : Nat → Int32), d + r = L → dl m ≤ d → vs_XL n lg va sd lc l1 l2 l3 l4 → (lg m).length + (B - d) ≤ 48 →
    (∀ (lc' : Nat → Nat) (l1' l2' l3' l4' : Nat → Int32), vs_XL n (vs_u lg m (vs_dg Hm (fun k => (ix k, vw m)) r d (lg m))) va sd lc' l1' l2' l3' l4' →
      post ((nI n), (nI w), (nI sn), (nI st), md, ins, (vs_I lv), (vs_I lc'), l1', l2', l3', l4', (vs_I vw), mk, nw, (vs_I ct), (vs_I (vs_u dl m (vs_dn Hm r d))), tp, su, jo, (vs_I pr), (vs_I ac), am, acu, (vs_I (vs_u hx (m * 5 + m) (vs_dn Hm r d))), (vs_I bn), b1, b2, b3, (vs_I oc), o1, o2, (vs_I att), xr, xb, xm, xc, xp, xq, xa)) →
    wX_deliverUpTo_9 post (nI m) (nI L) (r + 1) (nI (d + 1)) (nI n) (nI w) (nI sn) (nI st) md ins (vs_I lv) (vs_I lc) l1 l2 l3 l4 (vs_I vw) mk nw (vs_I ct) (vs_I (vs_u dl m d)) tp su jo (vs_I pr) (vs_I ac) am acu (vs_I (vs_u hx (m * 5 + m) d)) (vs_I bn) b1 b2 b3 (vs_I oc) o1 o2 (vs_I att) xr xb xm xc xp xq xa := by
  intro r
  induction r with
  | zero =>
    intro d lg lc l1 l2 l3 l4 e hd hX hl h
    refine br_t (nI_lt (by omega) (by omega)) (h lc l1 l2 l3 l4 ?_)
    show vs_XL n (vs_u lg m (lg m)) va sd lc l1 l2 l3 l4
    rw [vs_ui]
    exact hX
  | succ r ih =>
    intro d lg lc l1 l2 l3 l4 e hd hX hl h
    have en : vs_dn Hm (r + 1) d = if Hm (d + 1) = true then vs_dn Hm r (d + 1) else d := rfl
    have eg : vs_dg Hm (fun k => (ix k, vw m)) (r + 1) d (lg m) = if Hm (d + 1) = true then vs_dg Hm (fun k => (ix k, vw m)) r (d + 1) (lg m ++ [(ix (d + 1), vw m)]) else lg m := rfl
    rw [en, eg] at h
    refine br_f (nI_nlt (by omega) (by omega)) (br_f (nI_nlt (a := 48) (by omega) (by omega)) ?_)
    cases c : Hm (d + 1)
    · rw [if_neg (by rw [c]; decide), if_neg (by rw [c]; decide), vs_ui] at h
      refine xw_ring0 (by omega) (by omega) (by omega) hb ?_ (br_t rfl (h lc l1 l2 l3 l4 hX))
      intro z
      have := (vs_RB_in R (by omega) z).1
      rw [c] at this
      cases this
    · rw [if_pos c, if_pos c] at h
      have hr := vs_RB_has R c (fun k' h' => by have := h8 k' h'; omega)
      have hc := vs_RB_in R (by omega) hr
      refine xw_ring1 (by omega) (by omega) (by omega) hr (br_f (by decide) (xw_slot (by omega) (by omega) ?_))
      rw [nI_clamp (show m * 8 + (d + 1 - 1) % 8 < 2 ^ 31 by omega), hc.2.1, hc.2.2.1, hc.2.2.2]
      have hB1 := hB _ c
      have hlm := (hX m hm).1
      refine ⟨vp_in_nI (by omega) (by omega), vp_in_nI (by omega) (by omega), vp_in_nI (by omega) (by omega), xw_append (by omega) (by omega) ?_⟩
      refine ⟨vs_in5 (by omega), nm_r (e' := vs_I (vs_u dl m (d + 1))) ?_ ⟨?_, nm_r (e' := vs_I (vs_u hx (m * 5 + m) (d + 1))) ?_ (nm_r (nI_1 _) ?_)⟩⟩
      · rw [vs_w _ _ (by omega), vs_uu]
      · rw [vs_i5]; exact vp_in_nI (by omega) (by omega)
      · rw [vs_i5, vs_w _ _ (by omega), vs_uu]
      · refine ih (d + 1) (vs_u lg m (lg m ++ [(ix (d + 1), vw m)])) _ _ _ _ _ (by omega) (by omega) (vs_XL_ap hX hm (by omega)) ?_ ?_
        · rw [vs_us, List.length_append]; show (lg m).length + 1 + _ ≤ 48; omega
        · rw [vs_us, vs_uu]
          exact h
/-- deliverUpTo: deliver in order up to L -/
theorem xw_du {post : SX → Prop} {m L B : Nat} {Hm : Nat → Bool} {ix : Nat → Nat} {lg : Nat → List (Nat × Nat)} (hm : m < n) (hn : n ≤ 5) (hL : L ≤ 48) (R : vs_RB Hm ix va sd bn b1 b2 b3 m) (hb : ∀ i, bn i ≤ 48) (h8 : ∀ k, Hm k = true → k ≤ dl m + 8) (hB : ∀ k, Hm k = true → k ≤ B)
    (hd : dl m ≤ L) (hX : vs_XL n lg va sd lc l1 l2 l3 l4) (hl : (lg m).length + (B - dl m) ≤ 48) (ho : hx (m * 5 + m) = dl m)
    (h : ∀ (lc' : Nat → Nat) (l1' l2' l3' l4' : Nat → Int32), vs_XL n (vs_u lg m (vs_dg Hm (fun k => (ix k, vw m)) (L - dl m) (dl m) (lg m))) va sd lc' l1' l2' l3' l4' →
      post ((nI n), (nI w), (nI sn), (nI st), md, ins, (vs_I lv), (vs_I lc'), l1', l2', l3', l4', (vs_I vw), mk, nw, (vs_I ct), (vs_I (vs_u dl m (vs_dn Hm (L - dl m) (dl m)))), tp, su, jo, (vs_I pr), (vs_I ac), am, acu, (vs_I (vs_u hx (m * 5 + m) (vs_dn Hm (L - dl m) (dl m)))), (vs_I bn), b1, b2, b3, (vs_I oc), o1, o2, (vs_I att), xr, xb, xm, xc, xp, xq, xa)) :
    wpX_deliverUpTo post ((nI n), (nI w), (nI sn), (nI st), md, ins, (vs_I lv), (vs_I lc), l1, l2, l3, l4, (vs_I vw), mk, nw, (vs_I ct), (vs_I dl), tp, su, jo, (vs_I pr), (vs_I ac), am, acu, (vs_I hx), (vs_I bn), b1, b2, b3, (vs_I oc), o1, o2, (vs_I att), xr, xb, xm, xc, xp, xq, xa) (nI m) (nI L) := by
  refine ⟨vs_in5 (by omega), nm_r (e' := nI (dl m + 1)) (by rw [nI_clamp (by omega), vs_Ia, nI_1]) ⟨L - dl m + 1, ?_⟩⟩
  have := xw_du_l hm hn hL R hb h8 hB (L - dl m) (dl m) lg lc l1 l2 l3 l4 (by omega) (by omega) hX hl h
  rw [vs_ui, ← ho, vs_ui, ho] at this
  exact this
/-- fetch: which numbers are obtained -/
def vs_gk (L : Int32) (H : Nat → Nat → Bool) (m p k : Nat) : Bool := decide (nI k ≤ L) && (H p k && !H m k)
def vs_Hk (H : Nat → Nat → Bool) (m : Nat) (g : Nat → Bool) (k : Nat) : Nat → Nat → Bool := fun a b => H a b || (decide (a = m) && (decide (b < k) && g b))
def vs_tpk (tp : Nat → Int32) (m : Nat) (g : Nat → Bool) : Nat → (Nat → Int32)
  | 0 => tp
  | k + 1 => if g k = true then vs_tp (vs_tpk tp m g k) m k else vs_tpk tp m g k
def vs_rsk (h : Nat → Nat) (s : Int32) (m w n : Nat) (g : Nat → Bool) : Nat → (Nat → Nat)
  | 0 => h
  | k + 1 => if g k = true then vs_rs (vs_rsk h s m w n g k) s m (k - w) n else vs_rsk h s m w n g k
theorem vs_k_const {α : Type} {f : Nat → α} {g : Nat → Bool} (hf : ∀ k, g k = false → f (k + 1) = f k) {k : Nat} : ∀ d, (∀ b, k ≤ b → b < k + d → g b = false) → f (k + d) = f k := by
  intro d
  induction d with
  | zero => intro _; rfl
  | succ d ih =>
    intro h
    rw [← ih (fun b x y => h b x (by omega))]
    exact hf (k + d) (h (k + d) (by omega) (by omega))
theorem vs_tpk_f {tp : Nat → Int32} {m : Nat} {g : Nat → Bool} (k : Nat) (h : g k = false) : vs_tpk tp m g (k + 1) = vs_tpk tp m g k := if_neg (by rw [h]; decide)
theorem vs_rsk_f {h : Nat → Nat} {s : Int32} {m w n : Nat} {g : Nat → Bool} (k : Nat) (e : g k = false) : vs_rsk h s m w n g (k + 1) = vs_rsk h s m w n g k := if_neg (by rw [e]; decide)
theorem vs_tpk_t {tp : Nat → Int32} {m : Nat} {g : Nat → Bool} (k : Nat) (h : g k = true) : vs_tpk tp m g (k + 1) = vs_tp (vs_tpk tp m g k) m k := if_pos h
theorem vs_rsk_t {h : Nat → Nat} {s : Int32} {m w n : Nat} {g : Nat → Bool} (k : Nat) (e : g k = true) : vs_rsk h s m w n g (k + 1) = vs_rs (vs_rsk h s m w n g k) s m (k - w) n := if_pos e
theorem vs_cn_f {g : Nat → Bool} (k : Nat) (e : g k = false) : vs_cn g (k + 1) = vs_cn g k := by
  show vs_cn g k + (if g k = true then 1 else 0) = _
  rw [e]; rfl
theorem vs_cn_t {g : Nat → Bool} (k : Nat) (e : g k = true) : vs_cn g (k + 1) = vs_cn g k + 1 := by
  show vs_cn g k + (if g k = true then 1 else 0) = _
  rw [e]; rfl
theorem vs_Hk_f {H : Nat → Nat → Bool} {m : Nat} {g : Nat → Bool} (k : Nat) (e : g k = false) : vs_Hk H m g (k + 1) = vs_Hk H m g k := by
  funext a b
  show (H a b || (decide (a = m) && (decide (b < k + 1) && g b))) = (H a b || (decide (a = m) && (decide (b < k) && g b)))
  by_cases c : b = k
  · subst c; rw [e]; simp
  · rw [show decide (b < k + 1) = decide (b < k) by apply decide_eq_decide.mpr; omega]
theorem vs_Hk_t {H : Nat → Nat → Bool} {m : Nat} {g : Nat → Bool} (k : Nat) (e : g k = true) (b : Nat) : vs_Hk H m g (k + 1) m b = (vs_Hk H m g k m b || decide (b = k)) := by
  show (H m b || (decide (m = m) && (decide (b < k + 1) && g b))) = (H m b || (decide (m = m) && (decide (b < k) && g b)) || decide (b = k))
  by_cases c : b = k
  · subst c; rw [e]; simp
  · rw [show decide (b < k + 1) = decide (b < k) by apply decide_eq_decide.mpr; omega, decide_eq_false c, Bool.or_false]
theorem vs_Hk_o {H : Nat → Nat → Bool} {m a : Nat} {g : Nat → Bool} (k : Nat) (e : a ≠ m) : vs_Hk H m g k a = H a := by
  funext b
  show (H a b || (decide (a = m) && (decide (b < k) && g b))) = H a b
  rw [decide_eq_false e, Bool.false_and, Bool.or_false]
theorem vs_Hk_m {H : Nat → Nat → Bool} {m : Nat} {g : Nat → Bool} (k b : Nat) (e : k ≤ b) : vs_Hk H m g k m b = H m b := by
  show (H m b || (decide (m = m) && (decide (b < k) && g b))) = H m b
  rw [decide_eq_false (show ¬ b < k by omega), Bool.false_and, Bool.and_false, Bool.or_false]
theorem vs_rsk_le {h : Nat → Nat} {s : Int32} {m w n : Nat} {g : Nat → Bool} (hh : ∀ i, h i ≤ 48) : ∀ k, k ≤ 49 → ∀ i, vs_rsk h s m w n g k i ≤ 48 := by
  intro k
  induction k with
  | zero => intro _; exact hh
  | succ k ih =>
    intro hk i
    cases e : g k
    · rw [vs_rsk_f k e]; exact ih (by omega) i
    · rw [vs_rsk_t k e]; exact vs_rs_le (ih (by omega)) (by omega) i
/-- all rings -/
def vs_RA (n : Nat) (H : Nat → Nat → Bool) (vw mv mn : Nat → Nat) (va : Nat → Int32) (sd bn : Nat → Nat) (b1 b2 b3 : Nat → Int32) : Prop :=
  (∀ i, bn i ≤ 48) ∧ ∀ j, j < n → vw j ≠ 0 → vs_RB (H j) (vs_ix mv mn (vw j)) va sd bn b1 b2 b3 j
theorem vs_RA_put {n : Nat} {H H' : Nat → Nat → Bool} {vw mv mn : Nat → Nat} {va : Nat → Int32} {sd bn : Nat → Nat} {b1 b2 b3 : Nat → Int32} {m k : Nat} (R : vs_RA n H vw mv mn va sd bn b1 b2 b3) (hm : m < n) (hv : vw m ≠ 0) (hk : 1 ≤ k) (hk2 : k ≤ 48)
    (hb : ∀ k', H m k' = true → k' < k + 8) (e : ∀ k', H' m k' = (H m k' || decide (k' = k))) (eo : ∀ a, a ≠ m → H' a = H a) :
    vs_RA n H' vw mv mn va sd (vs_u bn (m * 8 + (k - 1) % 8) k) (vs_u b1 (m * 8 + (k - 1) % 8) (nI (vs_ix mv mn (vw m) k + 1))) (vs_u b2 (m * 8 + (k - 1) % 8) (va (vs_ix mv mn (vw m) k))) (vs_u b3 (m * 8 + (k - 1) % 8) (nI (sd (vs_ix mv mn (vw m) k)))) := by
  constructor
  · intro i
    by_cases c : i = m * 8 + (k - 1) % 8
    · rw [c, vs_us]; exact hk2
    · rw [vs_un c]; exact R.1 i
  · intro j hj hvj
    by_cases c : j = m
    · subst c
      exact vs_RB_put (R.2 j hj hvj) hk hb e
    · rw [eo j c]
      exact vs_RB_other (R.2 j hj hvj) (by omega) c
theorem vs_nIlt {L : Int32} {k k' : Nat} (h : L < nI k) (hk : k ≤ k') (hk2 : k' < 2 ^ 31) : L < nI k' := by
  rw [Int32.lt_iff_toInt_lt] at h ⊢
  rw [nI_toInt (by omega)] at h ⊢
  omega
theorem xw_fetch_l {post : Int32 → SX → Prop} {m p : Nat} {L : Int32} {H : Nat → Nat → Bool} {g : Nat → Bool} (hm : m < n) (hp : p < n) (hn : n ≤ 5) (hw : w ≤ 8) (hvm : vw m ≠ 0) (hvp : vw p = vw m)
    (hg : ∀ k, g k = vs_gk L H m p k) (h8 : ∀ k, (H m k = true ∨ H p k = true) → k ≤ dl m + 8) (h48 : ∀ k, H p k = true → k ≤ 48) (hh : ∀ i, hx i ≤ 48)
    (h : ∀ (bn' : Nat → Nat) (b1' b2' b3' : Nat → Int32), vs_RA n (vs_Hk H m g 49) vw mv mn va sd bn' b1' b2' b3' →
      post (nI (vs_cn g 49)) ((nI n), (nI w), (nI sn), (nI st), md, ins, (vs_I lv), (vs_I lc), l1, l2, l3, l4, (vs_I vw), mk, nw, (vs_I ct), (vs_I dl), (vs_tpk tp m g 49), su, jo, (vs_I pr), (vs_I ac), am, acu, (vs_I (vs_rsk hx (mk m) m w n g 49)), (vs_I bn'), b1', b2', b3', (vs_I oc), o1, o2, (vs_I att), xr, xb, xm, xc, xp, xq, xa)) :
    ∀ (d k : Nat) (bn : Nat → Nat) (b1 b2 b3 : Nat → Int32), k + d = 49 → dl m < k → vs_RA n (vs_Hk H m g k) vw mv mn va sd bn b1 b2 b3 →
    wX_fetch_13 post (nI m) (nI p) L (d + 1) (nI (vs_cn g k)) (nI k) (nI n) (nI w) (nI sn) (nI st) md ins (vs_I lv) (vs_I lc) l1 l2 l3 l4 (vs_I vw) mk nw (vs_I ct) (vs_I dl) (vs_tpk tp m g k) su jo (vs_I pr) (vs_I ac) am acu (vs_I (vs_rsk hx (mk m) m w n g k)) (vs_I bn) b1 b2 b3 (vs_I oc) o1 o2 (vs_I att) xr xb xm xc xp xq xa := by
  intro d
  induction d with
  | zero =>
    intro k bn b1 b2 b3 e hk R
    have e : k = 49 := by omega
    subst e
    by_cases c : L < nI 49
    · exact br_t c (h bn b1 b2 b3 R)
    · exact br_f c (br_t (nI_lt (a := 48) (by omega) (by omega)) (h bn b1 b2 b3 R))
  | succ d ih =>
    intro k bn b1 b2 b3 e hk R
    by_cases c : L < nI k
    · have hz : ∀ b, k ≤ b → b < k + (d + 1) → g b = false := by
        intro b x y
        rw [hg]
        show (decide (nI b ≤ L) && (H p b && !H m b)) = false
        rw [decide_eq_false, Bool.false_and]
        exact Int32.not_le.mpr (vs_nIlt c x (by omega))
      have e1 := vs_k_const (f := vs_tpk tp m g) (fun k => vs_tpk_f k) (d + 1) hz
      have e2 := vs_k_const (f := vs_rsk hx (mk m) m w n g) (fun k => vs_rsk_f k) (d + 1) hz
      have e3 := vs_k_const (f := vs_cn g) (fun k => vs_cn_f k) (d + 1) hz
      have e4 := vs_k_const (f := vs_Hk H m g) (fun k => vs_Hk_f k) (d + 1) hz
      rw [e] at e1 e2 e3 e4
      rw [e1, e2, e3, e4] at h
      exact br_t c (h bn b1 b2 b3 R)
    · refine br_f c (br_f (nI_nlt (a := 48) (by omega) (by omega)) ?_)
      have hle : nI k ≤ L := Int32.not_lt.mp c
      have hgk : g k = (H p k && !H m k) := by
        rw [hg]
        show (decide (nI k ≤ L) && (H p k && !H m k)) = _
        rw [decide_eq_true hle, Bool.true_and]
      have Rm := R.2 m hm hvm
      have Rp := R.2 p hp (by omega)
      have hbm : ∀ k', vs_Hk H m g k m k' = true → k' < k + 8 := by
        intro k' hk'
        have hk2 : (H m k' || (decide (m = m) && (decide (k' < k) && g k'))) = true := hk'
        cases c2 : H m k'
        · rw [c2] at hk2
          have : k' < k := by
            apply Classical.byContradiction
            intro z
            rw [decide_eq_false z] at hk2
            simp at hk2
          omega
        · have := h8 k' (Or.inl c2); omega
      have hbp : ∀ k', vs_Hk H m g k p k' = true → k' < k + 8 := by
        intro k' hk'
        by_cases c2 : p = m
        · rw [c2] at hk'; exact hbm k' hk'
        · rw [vs_Hk_o k c2] at hk'
          have := h8 k' (Or.inr hk'); omega
      cases cm : H m k
      · have hx0 : bn (m * 8 + (k - 1) % 8) ≠ k := by
          intro z
          have := (vs_RB_in Rm (by omega) z).1
          rw [vs_Hk_m k k (by omega), cm] at this
          cases this
        refine xw_holds0 (by omega) (by omega) (by omega) R.1 (by omega) hx0 (br_t rfl ?_)
        cases cp : H p k
        · have gf : g k = false := by rw [hgk, cp]; rfl
          have hp0 : bn (p * 8 + (k - 1) % 8) ≠ k := by
            intro z
            have t := (vs_RB_in Rp (by omega) z).1
            by_cases c2 : p = m
            · rw [c2, vs_Hk_m k k (by omega), cm] at t; cases t
            · rw [vs_Hk_o k c2, cp] at t; cases t
          have ihk := ih (k + 1) bn b1 b2 b3 (by omega) (by omega) (by rw [vs_Hk_f k gf]; exact R)
          rw [vs_tpk_f k gf, vs_rsk_f k gf, vs_cn_f k gf] at ihk
          exact xw_ring0 (by omega) (by omega) (by omega) R.1 hp0 (br_t rfl (nm_r (nI_1 k) ihk))
        · have gt : g k = true := by rw [hgk, cp, cm]; rfl
          have hpm : p ≠ m := by intro z; rw [z, cm] at cp; cases cp
          have t := vs_Hk_o (H := H) (g := g) k hpm
          have hr : bn (p * 8 + (k - 1) % 8) = k := vs_RB_has Rp (by rw [t]; exact cp) hbp
          have hc := vs_RB_in Rp (by omega) hr
          have ihk := ih (k + 1) _ _ _ _ (by omega) (by omega) (vs_RA_put R hm hvm (k := k) (by omega) (by omega) hbm (fun k' => vs_Hk_t k gt k') (fun a ha => by rw [vs_Hk_o _ ha, vs_Hk_o _ ha]))
          rw [vs_tpk_t k gt, vs_rsk_t k gt, vs_cn_t k gt] at ihk
          refine xw_ring1 (by omega) (by omega) (by omega) hr (br_f (by decide) (xw_slot (by omega) (by omega) ?_))
          rw [nI_clamp (show p * 8 + (k - 1) % 8 < 2 ^ 31 by omega), hc.2.1, hc.2.2.1, hc.2.2.2, hvp]
          exact ⟨vp_in_nI (by omega) (by omega), vp_in_nI (by omega) (by omega), vp_in_nI (by omega) (by omega), xw_obtain1 (by omega) hn hw (by omega) (by omega) R.1 (vs_rsk_le hh k (by omega)) (by omega) hx0 (nm_r (nI_1 _) (nm_r (nI_1 k) ihk))⟩
      · have gf : g k = false := by rw [hgk, cm]; cases H p k <;> rfl
        have hr : bn (m * 8 + (k - 1) % 8) = k := vs_RB_has Rm (by rw [vs_Hk_m k k (by omega)]; exact cm) hbm
        have ihk := ih (k + 1) bn b1 b2 b3 (by omega) (by omega) (by rw [vs_Hk_f k gf]; exact R)
        rw [vs_tpk_f k gf, vs_rsk_f k gf, vs_cn_f k gf] at ihk
        exact xw_holds1 (by omega) (by omega) (by omega) (by omega) (Or.inr hr) (br_f (by decide) (nm_r (nI_1 k) ihk))
/-- fetch: m obtains from p what it lacks, up to L -/
theorem xw_fetch {post : Int32 → SX → Prop} {m p : Nat} {L : Int32} {H : Nat → Nat → Bool} {g : Nat → Bool} (hm : m < n) (hp : p < n) (hn : n ≤ 5) (hw : w ≤ 8) (hvm : vw m ≠ 0) (hvp : vw p = vw m)
    (hg : ∀ k, g k = vs_gk L H m p k) (h8 : ∀ k, (H m k = true ∨ H p k = true) → k ≤ dl m + 8) (h48 : ∀ k, H p k = true → 1 ≤ k ∧ k ≤ 48) (hh : ∀ i, hx i ≤ 48) (hd : dl m ≤ 48) (hH : ∀ k, 1 ≤ k → k ≤ dl m → H m k = true)
    (R : vs_RA n H vw mv mn va sd bn b1 b2 b3)
    (h : ∀ (bn' : Nat → Nat) (b1' b2' b3' : Nat → Int32), vs_RA n (vs_Hk H m g 49) vw mv mn va sd bn' b1' b2' b3' →
      post (nI (vs_cn g 49)) ((nI n), (nI w), (nI sn), (nI st), md, ins, (vs_I lv), (vs_I lc), l1, l2, l3, l4, (vs_I vw), mk, nw, (vs_I ct), (vs_I dl), (vs_tpk tp m g 49), su, jo, (vs_I pr), (vs_I ac), am, acu, (vs_I (vs_rsk hx (mk m) m w n g 49)), (vs_I bn'), b1', b2', b3', (vs_I oc), o1, o2, (vs_I att), xr, xb, xm, xc, xp, xq, xa)) :
    wpX_fetch post ((nI n), (nI w), (nI sn), (nI st), md, ins, (vs_I lv), (vs_I lc), l1, l2, l3, l4, (vs_I vw), mk, nw, (vs_I ct), (vs_I dl), tp, su, jo, (vs_I pr), (vs_I ac), am, acu, (vs_I hx), (vs_I bn), b1, b2, b3, (vs_I oc), o1, o2, (vs_I att), xr, xb, xm, xc, xp, xq, xa) (nI m) (nI p) L := by
  refine ⟨vs_in5 (by omega), nm_r (e' := nI (dl m + 1)) (by rw [nI_clamp (by omega), vs_Ia, nI_1]) ⟨48 - dl m + 1, ?_⟩⟩
  have hz : ∀ b, 0 ≤ b → b < 0 + (dl m + 1) → g b = false := by
    intro b _ y
    rw [hg]
    show (decide (nI b ≤ L) && (H p b && !H m b)) = false
    by_cases c : b = 0
    · cases e : H p b
      · simp
      · have := (h48 b e).1; omega
    · rw [hH b (by omega) (by omega)]; simp
  have e1 := vs_k_const (f := vs_tpk tp m g) (fun k => vs_tpk_f k) (dl m + 1) hz
  have e2 := vs_k_const (f := vs_rsk hx (mk m) m w n g) (fun k => vs_rsk_f k) (dl m + 1) hz
  have e3 := vs_k_const (f := vs_cn g) (fun k => vs_cn_f k) (dl m + 1) hz
  have e4 := vs_k_const (f := vs_Hk H m g) (fun k => vs_Hk_f k) (dl m + 1) hz
  have e5 : vs_Hk H m g 0 = H := by
    funext a b
    show (H a b || (decide (a = m) && (decide (b < 0) && g b))) = H a b
    simp
  rw [Nat.zero_add] at e1 e2 e3 e4
  have := xw_fetch_l hm hp hn hw hvm hvp hg h8 (fun k hk => (h48 k hk).2) hh h (48 - dl m) (dl m + 1) bn b1 b2 b3 (by omega) (by omega) (by rw [e4, e5]; exact R)
  rw [e1, e2, e3] at this
  exact this
end
section
/-! X: endAttempt, forget, enter, promise, accept, refusal, decided, obtainedPrefix, dropOldest, unstableCount -/
variable {n w sn st fc : Nat} {md ins l1 l2 l3 l4 mk nw tp su jo am acu b1 b2 b3 o1 o2 xr xb xm xc xp xq xa va ho re pm aq : Nat → Int32} {lv lc vw ct dl pr ac hx bn oc att hd sd wt mv mn fm fs fv ow li be pc : Nat → Nat}
theorem xw_ea {post : SX → Prop} {m : Nat} (hm : m < 5) (h : post ((nI n), (nI w), (nI sn), (nI st), md, ins, (vs_I lv), (vs_I lc), l1, l2, l3, l4, (vs_I vw), mk, nw, (vs_I ct), (vs_I dl), tp, su, jo, (vs_I pr), (vs_I ac), am, acu, (vs_I hx), (vs_I bn), b1, b2, b3, (vs_I oc), o1, o2, (vs_I (vs_u att m 0)), (vs_u xr m 0), (vs_u xb m 0), (vs_u xm m 0), (vs_u xc m 0), (vs_u xp m 0), (vs_u xq m 0), (vs_u xa m 0))) :
    wpX_endAttempt post ((nI n), (nI w), (nI sn), (nI st), md, ins, (vs_I lv), (vs_I lc), l1, l2, l3, l4, (vs_I vw), mk, nw, (vs_I ct), (vs_I dl), tp, su, jo, (vs_I pr), (vs_I ac), am, acu, (vs_I hx), (vs_I bn), b1, b2, b3, (vs_I oc), o1, o2, (vs_I att), xr, xb, xm, xc, xp, xq, xa) (nI m) := by
  have hi := vs_in5 hm
  have hm' : m < 2 ^ 31 := by omega
  exact ⟨hi, nm_r (vs_w0 att hm') ⟨hi, nm_r (vs_wA xr 0 hm') ⟨hi, nm_r (vs_wA xb 0 hm') ⟨hi, nm_r (vs_wA xm 0 hm') ⟨hi, nm_r (vs_wA xc 0 hm') ⟨hi, nm_r (vs_wA xp 0 hm') ⟨hi, nm_r (vs_wA xq 0 hm') ⟨hi, nm_r (vs_wA xa 0 hm') h⟩⟩⟩⟩⟩⟩⟩⟩
/-- a row of b cells is cleared, the first j of it -/
def vs_zr (f : Nat → Nat) (b m j : Nat) : Nat → Nat := fun i => if i / b = m ∧ i % b < j then 0 else f i
theorem vs_zr_0 (f : Nat → Nat) (b m : Nat) : vs_zr f b m 0 = f := by
  funext i
  exact if_neg (fun z => by omega)
theorem vs_zr_s {f : Nat → Nat} {b m j : Nat} (hb : j < b) : vs_zr f b m (j + 1) = vs_u (vs_zr f b m j) (m * b + j) 0 := by
  funext i
  have hdm := Nat.div_add_mod i b
  by_cases e : i = m * b + j
  · rw [e, vs_us]
    have e1 : (m * b + j) / b = m := by
      rw [Nat.mul_comm, Nat.mul_add_div (by omega), Nat.div_eq_of_lt hb, Nat.add_zero]
    have e2 : (m * b + j) % b = j := by
      rw [Nat.mul_comm, Nat.mul_add_mod, Nat.mod_eq_of_lt hb]
    exact if_pos ⟨e1, by omega⟩
  · rw [vs_un e]
    show (if i / b = m ∧ i % b < j + 1 then 0 else f i) = (if i / b = m ∧ i % b < j then 0 else f i)
    by_cases d : i / b = m ∧ i % b < j
    · rw [if_pos d, if_pos ⟨d.1, by omega⟩]
    · rw [if_neg d, if_neg]
      intro z
      apply e
      have : i % b = j := by
        apply Classical.byContradiction
        intro y
        exact d ⟨z.1, by omega⟩
      rw [← this, ← z.1, Nat.mul_comm]
      exact hdm.symm
theorem xw_fg2 {post : SX → Prop} {m : Nat} (hm : m < 5) (h : post ((nI n), (nI w), (nI sn), (nI st), md, ins, (vs_I lv), (vs_I lc), l1, l2, l3, l4, (vs_I vw), mk, nw, (vs_I ct), (vs_I dl), tp, su, jo, (vs_I pr), (vs_I ac), am, acu, (vs_I hx), (vs_I (vs_zr bn 8 m 8)), b1, b2, b3, (vs_I oc), o1, o2, (vs_I (vs_u att m 0)), (vs_u xr m 0), (vs_u xb m 0), (vs_u xm m 0), (vs_u xc m 0), (vs_u xp m 0), (vs_u xq m 0), (vs_u xa m 0))) :
    ∀ d j : Nat, j + d = 8 → wX_forget_117 post (nI m) (nI n) (nI w) (nI sn) (nI st) (d + 1) (nI j) md ins (vs_I lv) (vs_I lc) l1 l2 l3 l4 (vs_I vw) mk nw (vs_I ct) (vs_I dl) tp su jo (vs_I pr) (vs_I ac) am acu (vs_I hx) (vs_I (vs_zr bn 8 m j)) b1 b2 b3 (vs_I oc) o1 o2 (vs_I att) xr xb xm xc xp xq xa := by
  intro d
  induction d with
  | zero =>
    intro j hj
    have e : j = 8 := by omega
    subst e
    exact br_t (nI_le (a := 8) (by omega) (by omega)) (xw_ea hm h)
  | succ d ih =>
    intro j hj
    have ihj := ih (j + 1) (by omega)
    rw [vs_zr_s (by omega)] at ihj
    refine br_f (nI_ge (b := 8) (by omega) (by omega)) ⟨?_, nm_r ?_ (nm_r (nI_1 j) ihj)⟩
    · rw [vs_i8]; exact vp_in_nI (by omega) (by omega)
    · rw [vs_i8, vs_w0 _ (by omega)]
theorem xw_fg1 {post : SX → Prop} {m : Nat} (hm : m < 5) (h : post ((nI n), (nI w), (nI sn), (nI st), md, ins, (vs_I lv), (vs_I lc), l1, l2, l3, l4, (vs_I vw), mk, nw, (vs_I ct), (vs_I dl), tp, su, jo, (vs_I pr), (vs_I ac), am, acu, (vs_I (vs_zr hx 5 m 5)), (vs_I (vs_zr bn 8 m 8)), b1, b2, b3, (vs_I oc), o1, o2, (vs_I (vs_u att m 0)), (vs_u xr m 0), (vs_u xb m 0), (vs_u xm m 0), (vs_u xc m 0), (vs_u xp m 0), (vs_u xq m 0), (vs_u xa m 0))) :
    ∀ d j : Nat, j + d = 5 → wX_forget_93 post (nI m) (nI n) (nI w) (nI sn) (nI st) (d + 1) (nI j) md ins (vs_I lv) (vs_I lc) l1 l2 l3 l4 (vs_I vw) mk nw (vs_I ct) (vs_I dl) tp su jo (vs_I pr) (vs_I ac) am acu (vs_I (vs_zr hx 5 m j)) (vs_I bn) b1 b2 b3 (vs_I oc) o1 o2 (vs_I att) xr xb xm xc xp xq xa := by
  intro d
  induction d with
  | zero =>
    intro j hj
    have e : j = 5 := by omega
    subst e
    refine br_t (nI_le (a := 5) (by omega) (by omega)) ⟨8 + 1, ?_⟩
    have := xw_fg2 hm h 8 0 (by omega)
    rw [vs_zr_0] at this
    exact this
  | succ d ih =>
    intro j hj
    have ihj := ih (j + 1) (by omega)
    rw [vs_zr_s (by omega)] at ihj
    refine br_f (nI_ge (b := 5) (by omega) (by omega)) ⟨?_, nm_r ?_ (nm_r (nI_1 j) ihj)⟩
    · rw [vs_i5]; exact vp_in_nI (by omega) (by omega)
    · rw [vs_i5, vs_w0 _ (by omega)]
theorem xw_forget {post : SX → Prop} {m : Nat} (hm : m < 5) (h : post ((nI n), (nI w), (nI sn), (nI st), md, ins, (vs_I lv), (vs_I lc), l1, l2, l3, l4, (vs_I (vs_u vw m 0)), (vs_u mk m 0), (vs_u nw m 0), (vs_I (vs_u ct m 0)), (vs_I (vs_u dl m 0)), (vs_u tp m 0), (vs_u su m 0), (vs_u jo m 0), (vs_I (vs_u pr m 0)), (vs_I (vs_u ac m 0)), (vs_u am m 0), (vs_u acu m 0), (vs_I (vs_zr hx 5 m 5)), (vs_I (vs_zr bn 8 m 8)), b1, b2, b3, (vs_I (vs_u oc m 0)), o1, o2, (vs_I (vs_u att m 0)), (vs_u xr m 0), (vs_u xb m 0), (vs_u xm m 0), (vs_u xc m 0), (vs_u xp m 0), (vs_u xq m 0), (vs_u xa m 0))) :
    wpX_forget post ((nI n), (nI w), (nI sn), (nI st), md, ins, (vs_I lv), (vs_I lc), l1, l2, l3, l4, (vs_I vw), mk, nw, (vs_I ct), (vs_I dl), tp, su, jo, (vs_I pr), (vs_I ac), am, acu, (vs_I hx), (vs_I bn), b1, b2, b3, (vs_I oc), o1, o2, (vs_I att), xr, xb, xm, xc, xp, xq, xa) (nI m) := by
  have hi := vs_in5 hm
  have hm' : m < 2 ^ 31 := by omega
  refine ⟨hi, nm_r (vs_w0 vw hm') ⟨hi, nm_r (vs_wA mk 0 hm') ⟨hi, nm_r (vs_wA nw 0 hm') ⟨hi, nm_r (vs_w0 ct hm') ⟨hi, nm_r (vs_w0 dl hm') ⟨hi, nm_r (vs_wA tp 0 hm') ⟨hi, nm_r (vs_wA su 0 hm') ⟨hi, nm_r (vs_wA jo 0 hm') ⟨hi, nm_r (vs_w0 pr hm') ⟨hi, nm_r (vs_w0 ac hm') ⟨hi, nm_r (vs_wA am 0 hm') ⟨hi, nm_r (vs_wA acu 0 hm') ⟨hi, nm_r (vs_w0 oc hm') ⟨5 + 1, ?_⟩⟩⟩⟩⟩⟩⟩⟩⟩⟩⟩⟩⟩⟩
  have := xw_fg1 hm h 5 0 (by omega)
  rw [vs_zr_0] at this
  exact this
theorem xw_enter {post : SX → Prop} {m v c : Nat} {s f : Int32} (hm : m < 5) (hv : lv m < v) (hv2 : v ≤ 16)
    (h : post ((nI n), (nI w), (nI sn), (nI st), (vs_u md m 2), (vs_u ins m (ins m ||| ((1 : Int32) <<< (nI (v - 1) &&& 31)))), (vs_I (vs_u lv m v)), (vs_I lc), l1, l2, l3, l4, (vs_I (vs_u vw m v)), (vs_u mk m s), (vs_u nw m f), (vs_I (vs_u ct m c)), (vs_I (vs_u dl m 0)), (vs_u tp m 0), (vs_u su m 0), (vs_u jo m 0), (vs_I (vs_u pr m 0)), (vs_I (vs_u ac m 0)), (vs_u am m 0), (vs_u acu m 0), (vs_I (vs_zr hx 5 m 5)), (vs_I (vs_zr bn 8 m 8)), b1, b2, b3, (vs_I (vs_u oc m 0)), o1, o2, (vs_I (vs_u att m 0)), (vs_u xr m 0), (vs_u xb m 0), (vs_u xm m 0), (vs_u xc m 0), (vs_u xp m 0), (vs_u xq m 0), (vs_u xa m 0))) :
    wpX_enter post ((nI n), (nI w), (nI sn), (nI st), md, ins, (vs_I lv), (vs_I lc), l1, l2, l3, l4, (vs_I vw), mk, nw, (vs_I ct), (vs_I dl), tp, su, jo, (vs_I pr), (vs_I ac), am, acu, (vs_I hx), (vs_I bn), b1, b2, b3, (vs_I oc), o1, o2, (vs_I att), xr, xb, xm, xc, xp, xq, xa) (nI m) (nI v) s f (nI c) := by
  have hi := vs_in5 hm
  have hm' : m < 2 ^ 31 := by omega
  refine xw_forget hm ?_
  refine ⟨hi, nm_r (vs_wA md 2 hm') ⟨hi, nm_r ((vs_w _ v hm').trans (congrArg vs_I (vs_uu vw m 0 v))) ⟨hi, nm_r ((vs_wA _ s hm').trans (vs_uu mk m 0 s)) ⟨hi, nm_r ((vs_wA _ f hm').trans (vs_uu nw m 0 f)) ⟨hi, nm_r ((vs_w _ c hm').trans (congrArg vs_I (vs_uu ct m 0 c))) ⟨hi, hi, nm_r (e' := vs_u ins m (ins m ||| ((1 : Int32) <<< (nI (v - 1) &&& 31)))) ?_ ⟨hi, br_f ?_ ⟨hi, nm_r (vs_w lv v hm') h⟩⟩⟩⟩⟩⟩⟩⟩
  · rw [vs_sub1 (by omega), nI_clamp hm']; rfl
  · rw [nI_clamp hm']; exact nI_ge hv (by omega)
theorem xw_promise {post : SX → Prop} {m a : Nat} (hm : m < 5) (h : post ((nI n), (nI w), (nI sn), (nI st), (vs_u md m 3), ins, (vs_I lv), (vs_I lc), l1, l2, l3, l4, (vs_I vw), mk, nw, (vs_I ct), (vs_I dl), tp, su, jo, (vs_I (vs_u pr m a)), (vs_I ac), am, acu, (vs_I hx), (vs_I bn), b1, b2, b3, (vs_I oc), o1, o2, (vs_I (vs_u att m 0)), (vs_u xr m 0), (vs_u xb m 0), (vs_u xm m 0), (vs_u xc m 0), (vs_u xp m 0), (vs_u xq m 0), (vs_u xa m 0))) :
    wpX_promise post ((nI n), (nI w), (nI sn), (nI st), md, ins, (vs_I lv), (vs_I lc), l1, l2, l3, l4, (vs_I vw), mk, nw, (vs_I ct), (vs_I dl), tp, su, jo, (vs_I pr), (vs_I ac), am, acu, (vs_I hx), (vs_I bn), b1, b2, b3, (vs_I oc), o1, o2, (vs_I att), xr, xb, xm, xc, xp, xq, xa) (nI m) (nI a) := by
  have hi := vs_in5 hm
  have hm' : m < 2 ^ 31 := by omega
  exact ⟨hi, nm_r (vs_wA md 3 hm') ⟨hi, nm_r (vs_w pr a hm') (xw_ea hm h)⟩⟩
theorem xw_accept {post : SX → Prop} {c m : Nat} (hc : c < 5) (hm : m < 5) (h : post ((nI n), (nI w), (nI sn), (nI st), md, ins, (vs_I lv), (vs_I lc), l1, l2, l3, l4, (vs_I vw), mk, nw, (vs_I ct), (vs_I dl), tp, su, jo, (vs_I pr), (vs_I (vs_u ac m (att c))), (vs_u am m (xp c)), (vs_u acu m (xq c)), (vs_I hx), (vs_I bn), b1, b2, b3, (vs_I oc), o1, o2, (vs_I att), xr, xb, xm, xc, xp, xq, (vs_u xa c (xa c ||| ((1 : Int32) <<< (nI m &&& 31)))))) :
    wpX_accept post ((nI n), (nI w), (nI sn), (nI st), md, ins, (vs_I lv), (vs_I lc), l1, l2, l3, l4, (vs_I vw), mk, nw, (vs_I ct), (vs_I dl), tp, su, jo, (vs_I pr), (vs_I ac), am, acu, (vs_I hx), (vs_I bn), b1, b2, b3, (vs_I oc), o1, o2, (vs_I att), xr, xb, xm, xc, xp, xq, xa) (nI c) (nI m) := by
  have hi := vs_in5 hm
  have hj := vs_in5 hc
  have hm' : m < 2 ^ 31 := by omega
  have hc' : c < 2 ^ 31 := by omega
  refine ⟨hj, hi, nm_r (e' := vs_I (vs_u ac m (att c))) ?_ ⟨hj, hi, nm_r (e' := vs_u am m (xp c)) ?_ ⟨hj, hi, nm_r (e' := vs_u acu m (xq c)) ?_ ⟨hj, hj, nm_r ?_ h⟩⟩⟩⟩
  · rw [nI_clamp hc', vs_Ia, vs_w _ _ hm']
  · rw [nI_clamp hc', vs_wA _ _ hm']
  · rw [nI_clamp hc', vs_wA _ _ hm']
  · rw [nI_clamp hc']; rfl
theorem xw_op_l {post : Int32 → Prop} {m : Nat} {Hm : Nat → Bool} {ix : Nat → Nat} (hm : m < 5) (R : vs_RB Hm ix va sd bn b1 b2 b3 m) (hb : ∀ i, bn i ≤ 48) (h8 : ∀ k, Hm k = true → k ≤ dl m + 8) :
    ∀ r d : Nat, d + r = 48 → dl m ≤ d → post (nI (vs_dn Hm r d)) → wX_obtainedPrefix_16 post (nI m) (nI n) (nI w) (nI sn) (nI st) md ins (vs_I lv) (vs_I lc) l1 l2 l3 l4 (vs_I vw) mk nw (vs_I ct) (vs_I dl) tp su jo (vs_I pr) (vs_I ac) am acu (vs_I hx) (vs_I bn) b1 b2 b3 (vs_I oc) o1 o2 (vs_I att) xr xb xm xc xp xq xa (r + 1) (nI d) (nI (d + 1)) := by
  intro r
  induction r with
  | zero =>
    intro d e hd h
    exact br_t (nI_lt (a := 48) (by omega) (by omega)) h
  | succ r ih =>
    intro d e hd h
    have en : vs_dn Hm (r + 1) d = if Hm (d + 1) = true then vs_dn Hm r (d + 1) else d := rfl
    rw [en] at h
    refine br_f (nI_nlt (a := 48) (by omega) (by omega)) ?_
    cases c : Hm (d + 1)
    · rw [if_neg (by rw [c]; decide)] at h
      refine xw_ring0 (by omega) (by omega) (by omega) hb ?_ (br_t rfl h)
      intro z
      have := (vs_RB_in R (by omega) z).1
      rw [c] at this
      cases this
    · rw [if_pos c] at h
      have hr := vs_RB_has R c (fun k' h' => by have := h8 k' h'; omega)
      exact xw_ring1 (by omega) (by omega) (by omega) hr (br_f (by decide) (nm_r (nI_1 _) (ih (d + 1) (by omega) (by omega) h)))
theorem xw_op {post : Int32 → Prop} {m : Nat} {Hm : Nat → Bool} {ix : Nat → Nat} (hm : m < 5) (R : vs_RB Hm ix va sd bn b1 b2 b3 m) (hb : ∀ i, bn i ≤ 48) (h8 : ∀ k, Hm k = true → k ≤ dl m + 8) (hd : dl m ≤ 48)
    (h : post (nI (vs_dn Hm (48 - dl m) (dl m)))) : wpX_obtainedPrefix post ((nI n), (nI w), (nI sn), (nI st), md, ins, (vs_I lv), (vs_I lc), l1, l2, l3, l4, (vs_I vw), mk, nw, (vs_I ct), (vs_I dl), tp, su, jo, (vs_I pr), (vs_I ac), am, acu, (vs_I hx), (vs_I bn), b1, b2, b3, (vs_I oc), o1, o2, (vs_I att), xr, xb, xm, xc, xp, xq, xa) (nI m) := by
  have hm' : m < 2 ^ 31 := by omega
  exact ⟨vs_in5 hm, nm_r (e' := nI (dl m)) (by rw [nI_clamp hm', vs_Ia]) ⟨vs_in5 hm, nm_r (e' := nI (dl m + 1)) (by rw [nI_clamp hm', vs_Ia, nI_1]) ⟨48 - dl m + 1, xw_op_l hm R hb h8 (48 - dl m) (dl m) (by omega) (by omega) h⟩⟩⟩
theorem xw_uc_l {post : Int32 → Prop} {m L : Nat} (hm : m < 5) (hb : ∀ i, bn i ≤ 48) (hL : L ≤ 48) (h : post (nI (vs_cn (fun s => decide (L < bn (m * 8 + s))) 8))) :
    ∀ d s : Nat, s + d = 8 → wX_unstableCount_11 post (nI m) (nI L) (nI n) (nI w) (nI sn) (nI st) md ins (vs_I lv) (vs_I lc) l1 l2 l3 l4 (vs_I vw) mk nw (vs_I ct) (vs_I dl) tp su jo (vs_I pr) (vs_I ac) am acu (vs_I hx) (vs_I bn) b1 b2 b3 (vs_I oc) o1 o2 (vs_I att) xr xb xm xc xp xq xa (d + 1) (nI (vs_cn (fun s => decide (L < bn (m * 8 + s))) s)) (nI s) := by
  intro d
  induction d with
  | zero =>
    intro s hs
    have e : s = 8 := by omega
    subst e
    exact br_t (nI_le (a := 8) (by omega) (by omega)) h
  | succ d ih =>
    intro s hs
    have ihs := ih (s + 1) (by omega)
    have hbs := hb (m * 8 + s)
    refine br_f (nI_ge (b := 8) (by omega) (by omega)) ?_
    rw [vs_i8, nI_clamp (by omega), vs_Ia]
    refine ⟨vp_in_nI (by omega) (by omega), ?_⟩
    by_cases c : L < bn (m * 8 + s)
    · rw [vs_cn_t s (decide_eq_true c)] at ihs
      exact br_f (nI_ge c (by omega)) (nm_r (nI_1 _) (nm_r (nI_1 s) ihs))
    · rw [vs_cn_f s (decide_eq_false c)] at ihs
      exact br_t (nI_le (by omega) (by omega)) (nm_r (nI_1 s) ihs)
theorem xw_uc {post : Int32 → Prop} {m : Nat} (hn : n ≤ 5) (hm : m < 5) (hb : ∀ i, bn i ≤ 48) (hh : ∀ i, hx i ≤ 48) (hd : dl m ≤ 48)
    (h : post (nI (vs_cn (fun s => decide (vs_stb (mk m) (fun j => hx (m * 5 + j)) (dl m) n < bn (m * 8 + s))) 8))) : wpX_unstableCount post ((nI n), (nI w), (nI sn), (nI st), md, ins, (vs_I lv), (vs_I lc), l1, l2, l3, l4, (vs_I vw), mk, nw, (vs_I ct), (vs_I dl), tp, su, jo, (vs_I pr), (vs_I ac), am, acu, (vs_I hx), (vs_I bn), b1, b2, b3, (vs_I oc), o1, o2, (vs_I att), xr, xb, xm, xc, xp, xq, xa) (nI m) := by
  have := vs_stb_le (mk m) (fun j => hx (m * 5 + j)) (dl m) n
  exact xw_stable hn hm hh hd ⟨8 + 1, xw_uc_l hm hb (by omega) h 8 0 (by omega)⟩
theorem xw_drop {post : SX → Prop} {m : Nat} (hm : m < 5) (hoc : 1 ≤ oc m)
    (h : ∀ o1' o2' : Nat → Int32, (∀ p, p < 3 → o1' (m * 4 + p) = o1 (m * 4 + p + 1) ∧ o2' (m * 4 + p) = o2 (m * 4 + p + 1)) → (∀ i, i / 4 ≠ m → o1' i = o1 i ∧ o2' i = o2 i) → post ((nI n), (nI w), (nI sn), (nI st), md, ins, (vs_I lv), (vs_I lc), l1, l2, l3, l4, (vs_I vw), mk, nw, (vs_I ct), (vs_I dl), tp, su, jo, (vs_I pr), (vs_I ac), am, acu, (vs_I hx), (vs_I bn), b1, b2, b3, (vs_I (vs_u oc m (oc m - 1))), o1', o2', (vs_I att), xr, xb, xm, xc, xp, xq, xa)) :
    wpX_dropOldest post ((nI n), (nI w), (nI sn), (nI st), md, ins, (vs_I lv), (vs_I lc), l1, l2, l3, l4, (vs_I vw), mk, nw, (vs_I ct), (vs_I dl), tp, su, jo, (vs_I pr), (vs_I ac), am, acu, (vs_I hx), (vs_I bn), b1, b2, b3, (vs_I oc), o1, o2, (vs_I att), xr, xb, xm, xc, xp, xq, xa) (nI m) := by
  have hm' : m < 2 ^ 31 := by omega
  refine nm_r (vs_m4 m) ⟨4, ?_⟩
  have ix : ∀ (a : Nat → Int32) (i : Nat), 1 ≤ i → i < 4 → vp_in (nI (m * 4) + nI i) 20 ∧ vp_in (nI (m * 4) + nI i - 1) 20 ∧ upd a (nI (m * 4) + nI i - 1).toNatClampNeg (a (nI (m * 4) + nI i).toNatClampNeg) = vs_u a (m * 4 + i - 1) (a (m * 4 + i)) := by
    intro a i h1 h4
    rw [nI_add, vs_sub1 (by omega), nI_clamp (by omega), nI_clamp (by omega)]
    exact ⟨vp_in_nI (by omega) (by omega), vp_in_nI (by omega) (by omega), rfl⟩
  have st : ∀ (a b : Nat → Int32) (f i : Nat), 1 ≤ i → i < 4 → wX_dropOldest_6 post (nI m) (nI (m * 4)) (nI n) (nI w) (nI sn) (nI st) f (nI (i + 1)) md ins (vs_I lv) (vs_I lc) l1 l2 l3 l4 (vs_I vw) mk nw (vs_I ct) (vs_I dl) tp su jo (vs_I pr) (vs_I ac) am acu (vs_I hx) (vs_I bn) b1 b2 b3 (vs_I oc) (vs_u a (m * 4 + i - 1) (a (m * 4 + i))) (vs_u b (m * 4 + i - 1) (b (m * 4 + i))) (vs_I att) xr xb xm xc xp xq xa →
      wX_dropOldest_6 post (nI m) (nI (m * 4)) (nI n) (nI w) (nI sn) (nI st) (f + 1) (nI i) md ins (vs_I lv) (vs_I lc) l1 l2 l3 l4 (vs_I vw) mk nw (vs_I ct) (vs_I dl) tp su jo (vs_I pr) (vs_I ac) am acu (vs_I hx) (vs_I bn) b1 b2 b3 (vs_I oc) a b (vs_I att) xr xb xm xc xp xq xa := by
    intro a b f i h1 h4 k
    exact br_f (nI_ge (b := 4) h4 (by omega)) ⟨(ix a i h1 h4).1, (ix a i h1 h4).2.1, nm_r (ix a i h1 h4).2.2 ⟨(ix a i h1 h4).1, (ix a i h1 h4).2.1, nm_r (ix b i h1 h4).2.2 (nm_r (nI_1 i) k)⟩⟩
  refine st _ _ _ 1 (by omega) (by omega) (st _ _ _ 2 (by omega) (by omega) (st _ _ _ 3 (by omega) (by omega) ?_))
  refine br_t (nI_le (a := 4) (by omega) (by omega)) ⟨vs_in5 hm, vs_in5 hm, nm_r (e' := vs_I (vs_u oc m (oc m - 1))) ?_ (h _ _ ?_ ?_)⟩
  · rw [nI_clamp hm', vs_Ia, vs_sub1 hoc, vs_upd]
  · intro p hp
    have c : p = 0 ∨ p = 1 ∨ p = 2 := by omega
    rcases c with c | c | c <;> subst c <;> simp [vs_u]
  · intro i hi
    have g1 : i ≠ m * 4 + 1 - 1 := by omega
    have g2 : i ≠ m * 4 + 2 - 1 := by omega
    have g3 : i ≠ m * 4 + 3 - 1 := by omega
    rw [vs_un g3, vs_un g2, vs_un g1, vs_un g3, vs_un g2, vs_un g1]
    exact ⟨rfl, rfl⟩
end
section
/-! small walks of Y -/
variable {n w sn st fc : Nat} {md ins l1 l2 l3 l4 mk nw tp su jo am acu b1 b2 b3 o1 o2 xr xb xm xc xp xq xa va ho re pm aq : Nat → Int32} {lv lc vw ct dl pr ac hx bn oc att hd sd wt mv mn fm fs fv ow li be pc : Nat → Nat}
theorem yw_bad0 {post : Int32 → Prop} {m : Nat} (hm : m < n) (hn : n ≤ 5) (h : post 0) : wpY_bad post ((nI n), (nI w), (nI sn), (nI fc), (nI st), md, ins, (vs_I vw), mk, nw, (vs_I ct), tp, (vs_I hd), su, jo, (vs_I pr), (vs_I ac), va, (vs_I sd), (vs_I wt), (vs_I mv), (vs_I mn), ho, (vs_I fm), (vs_I fs), (vs_I fv), (vs_I ow), (vs_I li), re, (vs_I be), pm, (vs_I pc), aq) (nI m) :=
  br_f (nI_pos (by omega)) (br_t (nI_lt hm (by omega)) h)
theorem yw_bad1 {post : Int32 → Prop} {p : Int32} (hb : vs_bad n p) (h : post 1) : wpY_bad post ((nI n), (nI w), (nI sn), (nI fc), (nI st), md, ins, (vs_I vw), mk, nw, (vs_I ct), tp, (vs_I hd), su, jo, (vs_I pr), (vs_I ac), va, (vs_I sd), (vs_I wt), (vs_I mv), (vs_I mn), ho, (vs_I fm), (vs_I fs), (vs_I fv), (vs_I ow), (vs_I li), re, (vs_I be), pm, (vs_I pc), aq) p := by
  by_cases h0 : p < 0
  · exact br_t h0 h
  · rcases hb with hb | hb
    · exact (h0 hb).elim
    · exact br_f h0 (br_f (Int32.not_lt.mpr hb) h)
theorem yw_iv1 {post : Int32 → Prop} {m : Nat} (hm : m < 5) (hv : md m = 2 ∨ md m = 3) (h : post 1) : wpY_inView post ((nI n), (nI w), (nI sn), (nI fc), (nI st), md, ins, (vs_I vw), mk, nw, (vs_I ct), tp, (vs_I hd), su, jo, (vs_I pr), (vs_I ac), va, (vs_I sd), (vs_I wt), (vs_I mv), (vs_I mn), ho, (vs_I fm), (vs_I fs), (vs_I fv), (vs_I ow), (vs_I li), re, (vs_I be), pm, (vs_I pc), aq) (nI m) := by
  unfold wpY_inView
  rw [nI_clamp (show m < 2 ^ 31 by omega)]
  by_cases h2 : md m = 2
  · exact ⟨vs_in5 hm, br_t h2 h⟩
  · exact ⟨vs_in5 hm, br_f h2 ⟨vs_in5 hm, br_t (hv.resolve_left h2) h⟩⟩
theorem yw_iv0 {post : Int32 → Prop} {m : Nat} (hm : m < 5) (hv : ¬ (md m = 2 ∨ md m = 3)) (h : post 0) : wpY_inView post ((nI n), (nI w), (nI sn), (nI fc), (nI st), md, ins, (vs_I vw), mk, nw, (vs_I ct), tp, (vs_I hd), su, jo, (vs_I pr), (vs_I ac), va, (vs_I sd), (vs_I wt), (vs_I mv), (vs_I mn), ho, (vs_I fm), (vs_I fs), (vs_I fv), (vs_I ow), (vs_I li), re, (vs_I be), pm, (vs_I pc), aq) (nI m) := by
  unfold wpY_inView
  rw [nI_clamp (show m < 2 ^ 31 by omega)]
  exact ⟨vs_in5 hm, br_f (fun z => hv (Or.inl z)) ⟨vs_in5 hm, br_f (fun z => hv (Or.inr z)) h⟩⟩
theorem yw_has0 {post : Int32 → Prop} {s : Int32} {j : Nat} (hj : j < 32) (hb : bt s j = false) (h : post 0) : wpY_has post ((nI n), (nI w), (nI sn), (nI fc), (nI st), md, ins, (vs_I vw), mk, nw, (vs_I ct), tp, (vs_I hd), su, jo, (vs_I pr), (vs_I ac), va, (vs_I sd), (vs_I wt), (vs_I mv), (vs_I mn), ho, (vs_I fm), (vs_I fs), (vs_I fv), (vs_I ow), (vs_I li), re, (vs_I be), pm, (vs_I pc), aq) s (nI j) :=
  br_f (fun z => by rw [(vs_h1 hj).mp z] at hb; cases hb) h
theorem yw_has1 {post : Int32 → Prop} {s : Int32} {j : Nat} (hj : j < 32) (hb : bt s j = true) (h : post 1) : wpY_has post ((nI n), (nI w), (nI sn), (nI fc), (nI st), md, ins, (vs_I vw), mk, nw, (vs_I ct), tp, (vs_I hd), su, jo, (vs_I pr), (vs_I ac), va, (vs_I sd), (vs_I wt), (vs_I mv), (vs_I mn), ho, (vs_I fm), (vs_I fs), (vs_I fv), (vs_I ow), (vs_I li), re, (vs_I be), pm, (vs_I pc), aq) s (nI j) :=
  br_t ((vs_h1 hj).mpr hb) h
theorem yw_least_l {post : Int32 → Prop} {s : Int32} {q : Nat} (hq : q < 5) (hb : bt s q = true) (hl : ∀ j, j < q → bt s j = false) (h : post (nI q)) :
    ∀ d j : Nat, j + d = q → wY_least_2 post s (nI n) (nI w) (nI sn) (nI fc) (nI st) md ins (vs_I vw) mk nw (vs_I ct) tp (vs_I hd) su jo (vs_I pr) (vs_I ac) va (vs_I sd) (vs_I wt) (vs_I mv) (vs_I mn) ho (vs_I fm) (vs_I fs) (vs_I fv) (vs_I ow) (vs_I li) re (vs_I be) pm (vs_I pc) aq (d + 1) (nI j) := by
  intro d
  induction d with
  | zero =>
    intro j hj
    have e : j = q := by omega
    subst e
    exact br_f (nI_ge (b := 5) hq (by omega)) (yw_has1 (by omega) hb (br_f (by decide) h))
  | succ d ih =>
    intro j hj
    exact br_f (nI_ge (b := 5) (by omega) (by omega)) (yw_has0 (by omega) (hl j (by omega)) (br_t rfl (nm_r (nI_1 j) (ih (j + 1) (by omega)))))
theorem yw_leastQ {post : Int32 → Prop} {s : Int32} {q : Nat} (hq : q < 5) (hb : bt s q = true) (hl : ∀ j, j < q → bt s j = false) (h : post (nI q)) :
    wpY_least post ((nI n), (nI w), (nI sn), (nI fc), (nI st), md, ins, (vs_I vw), mk, nw, (vs_I ct), tp, (vs_I hd), su, jo, (vs_I pr), (vs_I ac), va, (vs_I sd), (vs_I wt), (vs_I mv), (vs_I mn), ho, (vs_I fm), (vs_I fs), (vs_I fv), (vs_I ow), (vs_I li), re, (vs_I be), pm, (vs_I pc), aq) s := ⟨q + 1, yw_least_l hq hb hl h q 0 (by omega)⟩
theorem yw_least_n {post : Int32 → Prop} {s : Int32} (hl : ∀ j, j < 5 → bt s j = false) (h : post (-1)) :
    ∀ d j : Nat, j + d = 5 → wY_least_2 post s (nI n) (nI w) (nI sn) (nI fc) (nI st) md ins (vs_I vw) mk nw (vs_I ct) tp (vs_I hd) su jo (vs_I pr) (vs_I ac) va (vs_I sd) (vs_I wt) (vs_I mv) (vs_I mn) ho (vs_I fm) (vs_I fs) (vs_I fv) (vs_I ow) (vs_I li) re (vs_I be) pm (vs_I pc) aq (d + 1) (nI j) := by
  intro d
  induction d with
  | zero =>
    intro j hj
    exact br_t (nI_le (a := 5) (by omega) (by omega)) h
  | succ d ih =>
    intro j hj
    exact br_f (nI_ge (b := 5) (by omega) (by omega)) (yw_has0 (by omega) (hl j (by omega)) (br_t rfl (nm_r (nI_1 j) (ih (j + 1) (by omega)))))
theorem yw_leastN {post : Int32 → Prop} {s : Int32} (hl : ∀ j, j < 5 → bt s j = false) (h : post (-1)) :
    wpY_least post ((nI n), (nI w), (nI sn), (nI fc), (nI st), md, ins, (vs_I vw), mk, nw, (vs_I ct), tp, (vs_I hd), su, jo, (vs_I pr), (vs_I ac), va, (vs_I sd), (vs_I wt), (vs_I mv), (vs_I mn), ho, (vs_I fm), (vs_I fs), (vs_I fv), (vs_I ow), (vs_I li), re, (vs_I be), pm, (vs_I pc), aq) s := ⟨5 + 1, yw_least_n hl h 5 0 (by omega)⟩
theorem yw_size_l {post : Int32 → Prop} {s : Int32} (h : post (nI (vs_sz s 5))) :
    ∀ d j : Nat, j + d = 5 → wY_size_4 post s (nI n) (nI w) (nI sn) (nI fc) (nI st) md ins (vs_I vw) mk nw (vs_I ct) tp (vs_I hd) su jo (vs_I pr) (vs_I ac) va (vs_I sd) (vs_I wt) (vs_I mv) (vs_I mn) ho (vs_I fm) (vs_I fs) (vs_I fv) (vs_I ow) (vs_I li) re (vs_I be) pm (vs_I pc) aq (d + 1) (nI (vs_sz s j)) (nI j) := by
  intro d
  induction d with
  | zero =>
    intro j hj
    have e : j = 5 := by omega
    subst e
    exact br_t (nI_le (a := 5) (by omega) (by omega)) h
  | succ d ih =>
    intro j hj
    have ihj := ih (j + 1) (by omega)
    have e : vs_sz s (j + 1) = vs_sz s j + (if bt s j = true then 1 else 0) := rfl
    rw [e] at ihj
    refine br_f (nI_ge (b := 5) (by omega) (by omega)) ?_
    cases c : bt s j
    · rw [c, if_neg (by decide), Nat.add_zero] at ihj
      exact yw_has0 (by omega) c (br_t rfl (nm_r (nI_1 j) ihj))
    · rw [c, if_pos rfl] at ihj
      exact yw_has1 (by omega) c (br_f (by decide) (nm_r (nI_1 _) (nm_r (nI_1 j) ihj)))
theorem yw_size {post : Int32 → Prop} {s : Int32} (h : post (nI (vs_sz s 5))) : wpY_size post ((nI n), (nI w), (nI sn), (nI fc), (nI st), md, ins, (vs_I vw), mk, nw, (vs_I ct), tp, (vs_I hd), su, jo, (vs_I pr), (vs_I ac), va, (vs_I sd), (vs_I wt), (vs_I mv), (vs_I mn), ho, (vs_I fm), (vs_I fs), (vs_I fv), (vs_I ow), (vs_I li), re, (vs_I be), pm, (vs_I pc), aq) s :=
  ⟨5 + 1, yw_size_l h 5 0 (by omega)⟩
theorem vs_sz_n {s : Int32} {n : Nat} (hb : ∀ j, bt s j = true → j < n) : ∀ d, vs_sz s (n + d) = vs_sz s n := by
  intro d
  induction d with
  | zero => rfl
  | succ d ih =>
    show vs_sz s (n + d) + (if bt s (n + d) = true then 1 else 0) = _
    rw [ih, if_neg (fun z => by have := hb _ z; omega), Nat.add_zero]
theorem vs_sz5 {s : Int32} {n : Nat} (hn : n ≤ 5) (hb : ∀ j, bt s j = true → j < n) : vs_sz s 5 = vs_sz s n := by
  have := vs_sz_n hb (5 - n)
  rw [show n + (5 - n) = 5 by omega] at this
  exact this
theorem yw_maj1 {post : Int32 → Prop} {s t : Int32} (hj : vs_sz t 5 < 2 * vs_sz s 5) (h : post 1) : wpY_major post ((nI n), (nI w), (nI sn), (nI fc), (nI st), md, ins, (vs_I vw), mk, nw, (vs_I ct), tp, (vs_I hd), su, jo, (vs_I pr), (vs_I ac), va, (vs_I sd), (vs_I wt), (vs_I mv), (vs_I mn), ho, (vs_I fm), (vs_I fs), (vs_I fv), (vs_I ow), (vs_I li), re, (vs_I be), pm, (vs_I pc), aq) s t := by
  have a := vs_sz_le s 5
  have b := vs_sz_le t 5
  refine yw_size (yw_size (br_f ?_ h))
  rw [show (2 : Int32) = nI 2 from rfl, pk_mul, nI_leI (by omega) (by omega)]
  omega
theorem yw_maj0 {post : Int32 → Prop} {s t : Int32} (hj : ¬ vs_sz t 5 < 2 * vs_sz s 5) (h : post 0) : wpY_major post ((nI n), (nI w), (nI sn), (nI fc), (nI st), md, ins, (vs_I vw), mk, nw, (vs_I ct), tp, (vs_I hd), su, jo, (vs_I pr), (vs_I ac), va, (vs_I sd), (vs_I wt), (vs_I mv), (vs_I mn), ho, (vs_I fm), (vs_I fs), (vs_I fv), (vs_I ow), (vs_I li), re, (vs_I be), pm, (vs_I pc), aq) s t := by
  have a := vs_sz_le s 5
  have b := vs_sz_le t 5
  refine yw_size (yw_size (br_t ?_ h))
  rw [show (2 : Int32) = nI 2 from rfl, pk_mul, nI_leI (by omega) (by omega)]
  omega
/-- the greatest view installed -/
theorem yw_lastView_l {post : Int32 → Prop} {m l : Nat} (hm : m < 5) (hl : l ≤ 16) (hb : ∀ v, bt (ins m) v = true → v < l) (h1 : l = 0 ∨ bt (ins m) (l - 1) = true) (h : post (nI l)) :
    ∀ d v x : Nat, v + d = 17 → 1 ≤ v → (v ≤ l ∨ x = l) → wY_lastView_4 post (nI m) (nI n) (nI w) (nI sn) (nI fc) (nI st) md ins (vs_I vw) mk nw (vs_I ct) tp (vs_I hd) su jo (vs_I pr) (vs_I ac) va (vs_I sd) (vs_I wt) (vs_I mv) (vs_I mn) ho (vs_I fm) (vs_I fs) (vs_I fv) (vs_I ow) (vs_I li) re (vs_I be) pm (vs_I pc) aq (d + 1) (nI x) (nI v) := by
  intro d
  induction d with
  | zero =>
    intro v x e h1 hx
    have : x = l := by omega
    subst this
    exact br_t (nI_lt (a := 16) (by omega) (by omega)) h
  | succ d ih =>
    intro v x e hv hx
    refine br_f (nI_nlt (a := 16) (by omega) (by omega)) ⟨vs_in5 hm, ?_⟩
    rw [nI_clamp (show m < 2 ^ 31 by omega), vs_sub1 hv]
    cases c : bt (ins m) (v - 1)
    · refine yw_has0 (by omega) c (br_t rfl (nm_r (nI_1 v) (ih (v + 1) x (by omega) (by omega) ?_)))
      rcases hx with hx | hx
      · rcases h1 with h1 | h1
        · omega
        · by_cases z : v = l
          · rw [z, h1] at c; cases c
          · exact Or.inl (by omega)
      · exact Or.inr hx
    · have := hb _ c
      refine yw_has1 (by omega) c (br_f (by decide) (nm_r (nI_1 v) (ih (v + 1) v (by omega) (by omega) ?_)))
      by_cases z : v = l
      · exact Or.inr z
      · exact Or.inl (by omega)
theorem yw_lastView {post : Int32 → Prop} {m l : Nat} (hm : m < 5) (hl : l ≤ 16) (hb : ∀ v, bt (ins m) v = true → v < l) (h1 : l = 0 ∨ bt (ins m) (l - 1) = true) (h : post (nI l)) :
    wpY_lastView post ((nI n), (nI w), (nI sn), (nI fc), (nI st), md, ins, (vs_I vw), mk, nw, (vs_I ct), tp, (vs_I hd), su, jo, (vs_I pr), (vs_I ac), va, (vs_I sd), (vs_I wt), (vs_I mv), (vs_I mn), ho, (vs_I fm), (vs_I fs), (vs_I fv), (vs_I ow), (vs_I li), re, (vs_I be), pm, (vs_I pc), aq) (nI m) := ⟨16 + 1, yw_lastView_l hm hl hb h1 h 16 1 0 (by omega) (by omega) (by omega)⟩
/-- the log of a member out of the facts -/
def vs_lgY (fm fs fv : Nat → Nat) : Nat → Nat → List (Nat × Nat)
  | 0, _ => []
  | f + 1, m => if fm f = m then vs_lgY fm fs fv f m ++ [(fs f, fv f)] else vs_lgY fm fs fv f m
def vs_D (l : List (Nat × Nat)) (v : Nat) : Nat := l.countP (fun e => decide (e.2 = v))
theorem vs_D_ap (l : List (Nat × Nat)) (i v v' : Nat) : vs_D (l ++ [(i, v)]) v' = vs_D l v' + (if v = v' then 1 else 0) := by
  unfold vs_D
  rw [List.countP_append]
  by_cases c : v = v'
  · simp [c]
  · simp [c]
theorem vs_D_le (l : List (Nat × Nat)) (v : Nat) : vs_D l v ≤ l.length := List.countP_le_length
theorem vs_lgY_len (fm fs fv : Nat → Nat) (m : Nat) : ∀ f, (vs_lgY fm fs fv f m).length ≤ f := by
  intro f
  induction f with
  | zero => exact Nat.le_refl _
  | succ f ih =>
    show (if fm f = m then vs_lgY fm fs fv f m ++ [(fs f, fv f)] else vs_lgY fm fs fv f m).length ≤ f + 1
    split
    · rw [List.length_append]; show _ + 1 ≤ _; omega
    · omega
theorem yw_delivered_l {post : Int32 → Prop} {m : Nat} (hm : m < 5) (hfc : fc ≤ 240) (hb : ∀ f, fm f ≤ 48 ∧ fv f ≤ 48) (hv : vw m ≤ 48) (h : post (nI (vs_D (vs_lgY fm fs fv fc m) (vw m)))) :
    ∀ d f : Nat, f + d = fc → wY_delivered_4 post (nI m) (nI n) (nI w) (nI sn) (nI fc) (nI st) md ins (vs_I vw) mk nw (vs_I ct) tp (vs_I hd) su jo (vs_I pr) (vs_I ac) va (vs_I sd) (vs_I wt) (vs_I mv) (vs_I mn) ho (vs_I fm) (vs_I fs) (vs_I fv) (vs_I ow) (vs_I li) re (vs_I be) pm (vs_I pc) aq (d + 1) (nI (vs_D (vs_lgY fm fs fv f m) (vw m))) (nI f) := by
  intro d
  induction d with
  | zero =>
    intro f hf
    have e : f = fc := by omega
    subst e
    exact br_t (nI_le (by omega) (by omega)) h
  | succ d ih =>
    intro f hf
    have ihf := ih (f + 1) (by omega)
    have e : vs_lgY fm fs fv (f + 1) m = if fm f = m then vs_lgY fm fs fv f m ++ [(fs f, fv f)] else vs_lgY fm fs fv f m := rfl
    rw [e] at ihf
    refine br_f (nI_ge (by omega) (by omega)) ?_
    rw [nI_clamp (show f < 2 ^ 31 by omega), nI_clamp (show m < 2 ^ 31 by omega)]
    simp only [vs_Ia]
    have hbf := hb f
    refine ⟨vp_in_nI (by omega) (by omega), ?_⟩
    by_cases c : fm f = m
    · rw [if_pos c, vs_D_ap] at ihf
      refine br_t (by rw [c]) ⟨vp_in_nI (by omega) (by omega), vs_in5 hm, ?_⟩
      by_cases c2 : fv f = vw m
      · rw [if_pos c2] at ihf
        exact br_t (by rw [c2]) (nm_r (nI_1 _) (nm_r (nI_1 f) ihf))
      · rw [if_neg c2] at ihf
        exact br_f (fun z => c2 ((nI_eq (by omega) (by omega)).mp z)) (nm_r (nI_1 f) ihf)
    · rw [if_neg c] at ihf
      exact br_f (fun z => c ((nI_eq (by omega) (by omega)).mp z)) (nm_r (nI_1 f) ihf)
theorem yw_delivered {post : Int32 → Prop} {m : Nat} (hm : m < 5) (hfc : fc ≤ 240) (hb : ∀ f, fm f ≤ 48 ∧ fv f ≤ 48) (hv : vw m ≤ 48) (h : post (nI (vs_D (vs_lgY fm fs fv fc m) (vw m)))) :
    wpY_delivered post ((nI n), (nI w), (nI sn), (nI fc), (nI st), md, ins, (vs_I vw), mk, nw, (vs_I ct), tp, (vs_I hd), su, jo, (vs_I pr), (vs_I ac), va, (vs_I sd), (vs_I wt), (vs_I mv), (vs_I mn), ho, (vs_I fm), (vs_I fs), (vs_I fv), (vs_I ow), (vs_I li), re, (vs_I be), pm, (vs_I pc), aq) (nI m) := ⟨fc + 1, yw_delivered_l hm hfc hb hv h fc 0 (by omega)⟩
/-- what the facts give: the logs -/
def vs_YL (n : Nat) (lg : Nat → List (Nat × Nat)) (fc : Nat) (fm fs fv : Nat → Nat) : Prop :=
  (∀ m, m < n → vs_lgY fm fs fv fc m = lg m) ∧ (∀ f, f < fc → fm f < n) ∧ (∀ f, fm f ≤ 48 ∧ fv f ≤ 48 ∧ fs f ≤ 48) ∧ fc ≤ 240
theorem yw_del {post : Int32 → Prop} {m d : Nat} {lg : Nat → List (Nat × Nat)} (hm : m < n) (hn : n ≤ 5) (L : vs_YL n lg fc fm fs fv) (hv : vw m ≤ 48) (e : vs_D (lg m) (vw m) = d) (h : post (nI d)) : wpY_delivered post ((nI n), (nI w), (nI sn), (nI fc), (nI st), md, ins, (vs_I vw), mk, nw, (vs_I ct), tp, (vs_I hd), su, jo, (vs_I pr), (vs_I ac), va, (vs_I sd), (vs_I wt), (vs_I mv), (vs_I mn), ho, (vs_I fm), (vs_I fs), (vs_I fv), (vs_I ow), (vs_I li), re, (vs_I be), pm, (vs_I pc), aq) (nI m) :=
  yw_delivered (by omega) L.2.2.2 (fun f => ⟨(L.2.2.1 f).1, (L.2.2.1 f).2.1⟩) hv (by rw [L.1 m hm, e]; exact h)
theorem yw_knows {post : Int32 → Prop} {m j d : Nat} {lg : Nat → List (Nat × Nat)} (hm : m < n) (hj : j < n) (hn : n ≤ 5) (L : vs_YL n lg fc fm fs fv) (hv : vw m ≤ 48) (e : vs_D (lg m) (vw m) = d) (h : post (nI (if j = m then d else hd (m * 5 + j)))) : wpY_knows post ((nI n), (nI w), (nI sn), (nI fc), (nI st), md, ins, (vs_I vw), mk, nw, (vs_I ct), tp, (vs_I hd), su, jo, (vs_I pr), (vs_I ac), va, (vs_I sd), (vs_I wt), (vs_I mv), (vs_I mn), ho, (vs_I fm), (vs_I fs), (vs_I fv), (vs_I ow), (vs_I li), re, (vs_I be), pm, (vs_I pc), aq) (nI m) (nI j) := by
  by_cases c : j = m
  · rw [if_pos c] at h
    exact br_t (by rw [c]) (yw_del hm hn L hv e h)
  · rw [if_neg c] at h
    refine br_f (fun z => c ((nI_eq (by omega) (by omega)).mp z)) ?_
    rw [vs_i5, nI_clamp (by omega)]
    exact ⟨vp_in_nI (by omega) (by omega), h⟩
theorem yw_stable_l {post : Int32 → Prop} {m dd : Nat} {lg : Nat → List (Nat × Nat)} (hm : m < n) (hn : n ≤ 5) (L : vs_YL n lg fc fm fs fv) (hv : vw m ≤ 48) (e : vs_D (lg m) (vw m) = dd) (hd48 : dd ≤ 48) (hh : ∀ i, hd i ≤ 48)
    (h : post (nI (vs_stb (mk m) (fun j => if j = m then dd else hd (m * 5 + j)) dd n))) :
    ∀ d j : Nat, j + d = n → wY_stable_8 post (nI m) (nI n) (nI w) (nI sn) (nI fc) (nI st) md ins (vs_I vw) mk nw (vs_I ct) tp (vs_I hd) su jo (vs_I pr) (vs_I ac) va (vs_I sd) (vs_I wt) (vs_I mv) (vs_I mn) ho (vs_I fm) (vs_I fs) (vs_I fv) (vs_I ow) (vs_I li) re (vs_I be) pm (vs_I pc) aq (d + 1) (nI (vs_stb (mk m) (fun j => if j = m then dd else hd (m * 5 + j)) dd j)) (nI j) := by
  intro d
  induction d with
  | zero =>
    intro j hj
    have e : j = n := by omega
    subst e
    exact br_t (nI_le (by omega) (by omega)) h
  | succ d ih =>
    intro j hj
    refine br_f (nI_ge (by omega) (by omega)) (yw_knows hm (by omega) hn L hv e ⟨vs_in5 (by omega), ?_⟩)
    have ihj := ih (j + 1) (by omega)
    have es : vs_stb (mk m) (fun j => if j = m then dd else hd (m * 5 + j)) dd (j + 1) = (if bt (mk m) j = true ∧ (if j = m then dd else hd (m * 5 + j)) < vs_stb (mk m) (fun j => if j = m then dd else hd (m * 5 + j)) dd j then (if j = m then dd else hd (m * 5 + j)) else vs_stb (mk m) (fun j => if j = m then dd else hd (m * 5 + j)) dd j) := rfl
    have hle := vs_stb_le (mk m) (fun j => if j = m then dd else hd (m * 5 + j)) dd j
    have hk : (if j = m then dd else hd (m * 5 + j)) ≤ 48 := by
      have := hh (m * 5 + j)
      split <;> omega
    rw [es] at ihj
    rw [nI_clamp (show m < 2 ^ 31 by omega)]
    cases hb : bt (mk m) j
    · rw [if_neg (by rw [hb]; intro z; cases z.1)] at ihj
      exact yw_has0 (by omega) hb (br_t rfl (nm_r (nI_1 j) ihj))
    · refine yw_has1 (by omega) hb (br_f (by decide) ?_)
      by_cases c : (if j = m then dd else hd (m * 5 + j)) < vs_stb (mk m) (fun j => if j = m then dd else hd (m * 5 + j)) dd j
      · rw [if_pos ⟨hb, c⟩] at ihj
        exact br_f (nI_ge c (by omega)) (nm_r (nI_1 j) ihj)
      · rw [if_neg (fun z => c z.2)] at ihj
        exact br_t (nI_le (by omega) (by omega)) (nm_r (nI_1 j) ihj)
theorem yw_stable {post : Int32 → Prop} {m dd : Nat} {lg : Nat → List (Nat × Nat)} (hm : m < n) (hn : n ≤ 5) (L : vs_YL n lg fc fm fs fv) (hv : vw m ≤ 48) (e : vs_D (lg m) (vw m) = dd) (hd48 : dd ≤ 48) (hh : ∀ i, hd i ≤ 48)
    (h : post (nI (vs_stb (mk m) (fun j => if j = m then dd else hd (m * 5 + j)) dd n))) : wpY_stable post ((nI n), (nI w), (nI sn), (nI fc), (nI st), md, ins, (vs_I vw), mk, nw, (vs_I ct), tp, (vs_I hd), su, jo, (vs_I pr), (vs_I ac), va, (vs_I sd), (vs_I wt), (vs_I mv), (vs_I mn), ho, (vs_I fm), (vs_I fs), (vs_I fv), (vs_I ow), (vs_I li), re, (vs_I be), pm, (vs_I pc), aq) (nI m) :=
  yw_del hm hn L hv e ⟨n + 1, yw_stable_l hm hn L hv e hd48 hh h n 0 (by omega)⟩
end
section
/-! Y: find, got, obtain, append, deliverAll -/
variable {n w sn st fc : Nat} {md ins l1 l2 l3 l4 mk nw tp su jo am acu b1 b2 b3 o1 o2 xr xb xm xc xp xq xa va ho re pm aq : Nat → Int32} {lv lc vw ct dl pr ac hx bn oc att hd sd wt mv mn fm fs fv ow li be pc : Nat → Nat}
theorem vs_fi_min {mv mn : Nat → Nat} {v k t : Nat} : ∀ d i, i ≤ t → t < vs_fi mv mn v k d i → ¬ (mv t = v ∧ mn t = k) := by
  intro d
  induction d with
  | zero => intro i a b; have : vs_fi mv mn v k 0 i = i := rfl; omega
  | succ d ih =>
    intro i a b
    by_cases c : mv i = v ∧ mn i = k
    · have e : vs_fi mv mn v k (d + 1) i = i := if_pos c
      omega
    · have e : vs_fi mv mn v k (d + 1) i = vs_fi mv mn v k d (i + 1) := if_neg c
      rw [e] at b
      by_cases z : t = i
      · rw [z]; exact c
      · exact ih (i + 1) (by omega) b
theorem vs_ix_min {mv mn : Nat → Nat} {v k t : Nat} (h : t < vs_ix mv mn v k) : ¬ (mv t = v ∧ mn t = k) := vs_fi_min 48 0 (by omega) h
/-- the holders give H -/
def vs_YH (n sn : Nat) (vw mv mn : Nat → Nat) (ho : Nat → Int32) (H : Nat → Nat → Bool) : Prop :=
  (∀ i, mv i ≠ 0 → i < sn) ∧ (∀ i, mv i ≤ 48 ∧ mn i ≤ 48) ∧ sn ≤ 48 ∧ (∀ m, m < n → vw m ≤ 48) ∧
  (∀ m, m < n → vw m ≠ 0 → ∀ k, H m k = (decide (vs_ix mv mn (vw m) k < 48) && bt (ho (vs_ix mv mn (vw m) k)) m))
theorem yw_find_s {post : Int32 → Prop} {v k i f : Nat} (hs : sn ≤ 48) (hb : ∀ i, mv i ≤ 48 ∧ mn i ≤ 48) (hv : v ≤ 48) (hk : k < 2 ^ 31) (hi : i < sn) (hno : ¬ (mv i = v ∧ mn i = k)) (h : wY_find_2 post (nI v) (nI k) (nI n) (nI w) (nI sn) (nI fc) (nI st) md ins (vs_I vw) mk nw (vs_I ct) tp (vs_I hd) su jo (vs_I pr) (vs_I ac) va (vs_I sd) (vs_I wt) (vs_I mv) (vs_I mn) ho (vs_I fm) (vs_I fs) (vs_I fv) (vs_I ow) (vs_I li) re (vs_I be) pm (vs_I pc) aq f (nI (i + 1))) :
    wY_find_2 post (nI v) (nI k) (nI n) (nI w) (nI sn) (nI fc) (nI st) md ins (vs_I vw) mk nw (vs_I ct) tp (vs_I hd) su jo (vs_I pr) (vs_I ac) va (vs_I sd) (vs_I wt) (vs_I mv) (vs_I mn) ho (vs_I fm) (vs_I fs) (vs_I fv) (vs_I ow) (vs_I li) re (vs_I be) pm (vs_I pc) aq (f + 1) (nI i) := by
  refine br_f (nI_ge hi (by omega)) ?_
  rw [nI_clamp (show i < 2 ^ 31 by omega)]
  simp only [vs_Ia]
  have hbi := hb i
  refine ⟨vp_in_nI (by omega) (by omega), ?_⟩
  by_cases c : mv i = v
  · refine br_t (by rw [c]) ⟨vp_in_nI (by omega) (by omega), br_f (fun z => hno ⟨c, (nI_eq (by omega) (by omega)).mp z⟩) (nm_r (nI_1 i) h)⟩
  · exact br_f (fun z => c ((nI_eq (by omega) (by omega)).mp z)) (nm_r (nI_1 i) h)
theorem yw_find1 {post : Int32 → Prop} {v k : Nat} (hs : sn ≤ 48) (hb : ∀ i, mv i ≤ 48 ∧ mn i ≤ 48) (hv : v ≤ 48) (hk : k < 2 ^ 31) (hx : vs_ix mv mn v k < sn) (h : post (nI (vs_ix mv mn v k))) : wpY_find post ((nI n), (nI w), (nI sn), (nI fc), (nI st), md, ins, (vs_I vw), mk, nw, (vs_I ct), tp, (vs_I hd), su, jo, (vs_I pr), (vs_I ac), va, (vs_I sd), (vs_I wt), (vs_I mv), (vs_I mn), ho, (vs_I fm), (vs_I fs), (vs_I fv), (vs_I ow), (vs_I li), re, (vs_I be), pm, (vs_I pc), aq) (nI v) (nI k) := by
  have key : ∀ d i : Nat, i + d = vs_ix mv mn v k → wY_find_2 post (nI v) (nI k) (nI n) (nI w) (nI sn) (nI fc) (nI st) md ins (vs_I vw) mk nw (vs_I ct) tp (vs_I hd) su jo (vs_I pr) (vs_I ac) va (vs_I sd) (vs_I wt) (vs_I mv) (vs_I mn) ho (vs_I fm) (vs_I fs) (vs_I fv) (vs_I ow) (vs_I li) re (vs_I be) pm (vs_I pc) aq (d + 1) (nI i) := by
    intro d
    induction d with
    | zero =>
      intro i hi
      have e : i = vs_ix mv mn v k := by omega
      have sp := vs_ix_sp (show vs_ix mv mn v k < 48 by omega)
      rw [← e] at sp h hx
      refine br_f (nI_ge hx (by omega)) ?_
      rw [nI_clamp (show i < 2 ^ 31 by omega)]
      simp only [vs_Ia]
      exact ⟨vp_in_nI (by omega) (by omega), br_t (by rw [sp.1]) ⟨vp_in_nI (by omega) (by omega), br_t (by rw [sp.2]) h⟩⟩
    | succ d ih =>
      intro i hi
      exact yw_find_s hs hb hv hk (by omega) (vs_ix_min (by omega)) (ih (i + 1) (by omega))
  exact ⟨vs_ix mv mn v k + 1, key _ 0 (by omega)⟩
theorem yw_find0 {post : Int32 → Prop} {v k : Nat} (hs : sn ≤ 48) (hb : ∀ i, mv i ≤ 48 ∧ mn i ≤ 48) (hv : v ≤ 48) (hk : k < 2 ^ 31) (hx : ¬ vs_ix mv mn v k < 48) (h : post (-1)) : wpY_find post ((nI n), (nI w), (nI sn), (nI fc), (nI st), md, ins, (vs_I vw), mk, nw, (vs_I ct), tp, (vs_I hd), su, jo, (vs_I pr), (vs_I ac), va, (vs_I sd), (vs_I wt), (vs_I mv), (vs_I mn), ho, (vs_I fm), (vs_I fs), (vs_I fv), (vs_I ow), (vs_I li), re, (vs_I be), pm, (vs_I pc), aq) (nI v) (nI k) := by
  have key : ∀ d i : Nat, i + d = sn → wY_find_2 post (nI v) (nI k) (nI n) (nI w) (nI sn) (nI fc) (nI st) md ins (vs_I vw) mk nw (vs_I ct) tp (vs_I hd) su jo (vs_I pr) (vs_I ac) va (vs_I sd) (vs_I wt) (vs_I mv) (vs_I mn) ho (vs_I fm) (vs_I fs) (vs_I fv) (vs_I ow) (vs_I li) re (vs_I be) pm (vs_I pc) aq (d + 1) (nI i) := by
    intro d
    induction d with
    | zero =>
      intro i hi
      exact br_t (nI_le (by omega) (by omega)) h
    | succ d ih =>
      intro i hi
      exact yw_find_s hs hb hv hk (by omega) (fun z => hx (vs_ix_of (show i < 48 by omega) z)) (ih (i + 1) (by omega))
  exact ⟨sn + 1, key _ 0 (by omega)⟩
theorem vs_ix_sn {n sn : Nat} {vw mv mn : Nat → Nat} {ho : Nat → Int32} {H : Nat → Nat → Bool} (Q : vs_YH n sn vw mv mn ho H) {v k : Nat} (hv : v ≠ 0) (h : vs_ix mv mn v k < 48) : vs_ix mv mn v k < sn :=
  Q.1 _ (by rw [(vs_ix_sp h).1]; exact hv)
theorem yw_got1 {post : Int32 → Prop} {m k : Nat} {H : Nat → Nat → Bool} (Q : vs_YH n sn vw mv mn ho H) (hm : m < n) (hn : n ≤ 5) (hv : vw m ≠ 0) (hk : k < 2 ^ 31) (c : H m k = true) (h : post 1) : wpY_got post ((nI n), (nI w), (nI sn), (nI fc), (nI st), md, ins, (vs_I vw), mk, nw, (vs_I ct), tp, (vs_I hd), su, jo, (vs_I pr), (vs_I ac), va, (vs_I sd), (vs_I wt), (vs_I mv), (vs_I mn), ho, (vs_I fm), (vs_I fs), (vs_I fv), (vs_I ow), (vs_I li), re, (vs_I be), pm, (vs_I pc), aq) (nI m) (nI k) := by
  have e := Q.2.2.2.2 m hm hv k
  rw [c] at e
  have e' := e.symm
  rw [Bool.and_eq_true, decide_eq_true_eq] at e'
  have hs := vs_ix_sn Q hv e'.1
  have := Q.2.2.1
  unfold wpY_got
  simp only [nI_clamp (show m < 2 ^ 31 by omega), vs_Ia]
  refine ⟨vs_in5 (by omega), yw_find1 Q.2.2.1 Q.2.1 (Q.2.2.2.1 m hm) hk hs (br_f (nI_pos (by omega)) ⟨vp_in_nI (by omega) (by omega), ?_⟩)⟩
  rw [nI_clamp (by omega)]
  exact yw_has1 (by omega) e'.2 (br_f (by decide) h)
theorem yw_got0 {post : Int32 → Prop} {m k : Nat} {H : Nat → Nat → Bool} (Q : vs_YH n sn vw mv mn ho H) (hm : m < n) (hn : n ≤ 5) (hv : vw m ≠ 0) (hk : k < 2 ^ 31) (c : H m k = false) (h : post 0) : wpY_got post ((nI n), (nI w), (nI sn), (nI fc), (nI st), md, ins, (vs_I vw), mk, nw, (vs_I ct), tp, (vs_I hd), su, jo, (vs_I pr), (vs_I ac), va, (vs_I sd), (vs_I wt), (vs_I mv), (vs_I mn), ho, (vs_I fm), (vs_I fs), (vs_I fv), (vs_I ow), (vs_I li), re, (vs_I be), pm, (vs_I pc), aq) (nI m) (nI k) := by
  have e := Q.2.2.2.2 m hm hv k
  rw [c] at e
  have := Q.2.2.1
  unfold wpY_got
  simp only [nI_clamp (show m < 2 ^ 31 by omega), vs_Ia]
  refine ⟨vs_in5 (by omega), ?_⟩
  by_cases hx : vs_ix mv mn (vw m) k < 48
  · rw [decide_eq_true hx, Bool.true_and] at e
    have hs := vs_ix_sn Q hv hx
    refine yw_find1 Q.2.2.1 Q.2.1 (Q.2.2.2.1 m hm) hk hs (br_f (nI_pos (by omega)) ⟨vp_in_nI (by omega) (by omega), ?_⟩)
    rw [nI_clamp (by omega)]
    exact yw_has0 (by omega) e.symm (br_t rfl h)
  · exact yw_find0 Q.2.2.1 Q.2.1 (Q.2.2.2.1 m hm) hk hx (br_t (by decide) h)
theorem yw_ob_l {post : SY → Prop} {m k : Nat} (hm : m < 5) (hn : n ≤ 5) (hw : w ≤ 8) (hk : k ≤ 48) (hh : ∀ i, hd i ≤ 48) (h : post ((nI n), (nI w), (nI sn), (nI fc), (nI st), md, ins, (vs_I vw), mk, nw, (vs_I ct), tp, (vs_I (vs_rs hd (mk m) m (k - w) n)), su, jo, (vs_I pr), (vs_I ac), va, (vs_I sd), (vs_I wt), (vs_I mv), (vs_I mn), ho, (vs_I fm), (vs_I fs), (vs_I fv), (vs_I ow), (vs_I li), re, (vs_I be), pm, (vs_I pc), aq)) :
    ∀ d j : Nat, j + d = n → wY_obtain_63 post (nI m) (nI k) (nI n) (nI w) (nI sn) (nI fc) (nI st) (d + 1) (nI j) md ins (vs_I vw) mk nw (vs_I ct) tp (vs_I (vs_rs hd (mk m) m (k - w) j)) su jo (vs_I pr) (vs_I ac) va (vs_I sd) (vs_I wt) (vs_I mv) (vs_I mn) ho (vs_I fm) (vs_I fs) (vs_I fv) (vs_I ow) (vs_I li) re (vs_I be) pm (vs_I pc) aq := by
  intro d
  induction d with
  | zero =>
    intro j hj
    have e : j = n := by omega
    subst e
    exact br_t (nI_le (by omega) (by omega)) h
  | succ d ih =>
    intro j hj
    have ihj := ih (j + 1) (by omega)
    refine br_f (nI_ge (by omega) (by omega)) ?_
    by_cases c : j = m
    · rw [vs_rs_f (by omega) (Or.inl c)] at ihj
      exact br_t (by rw [c]) (nm_r (nI_1 j) ihj)
    · refine br_f (fun z => c ((nI_eq (by omega) (by omega)).mp z)) ⟨vs_in5 hm, ?_⟩
      rw [nI_clamp (show m < 2 ^ 31 by omega)]
      cases hb : bt (mk m) j
      · rw [vs_rs_f (by omega) (Or.inr (Or.inl hb))] at ihj
        exact yw_has0 (by omega) hb (br_t rfl (nm_r (nI_1 j) ihj))
      · refine yw_has1 (by omega) hb (br_f (by decide) ?_)
        have hi := hh (m * 5 + j)
        rw [vs_i5, nI_clamp (show m * 5 + j < 2 ^ 31 by omega), vs_Ia, vs_rs_lo (by omega)]
        by_cases c2 : hd (m * 5 + j) < k - w
        · rw [vs_rs_t (by omega) c hb c2] at ihj
          refine ⟨vp_in_nI (by omega) (by omega), br_f (fun z => ?_) ⟨vp_in_nI (by omega) (by omega), nm_r (e' := vs_I (vs_u (vs_rs hd (mk m) m (k - w) j) (m * 5 + j) (k - w))) ?_ (nm_r (nI_1 j) ihj)⟩⟩
          · rw [vs_cmp hk hw hi] at z; omega
          · rw [pk_sub (by omega), vs_upd]
        · rw [vs_rs_f (by omega) (Or.inr (Or.inr c2))] at ihj
          exact ⟨vp_in_nI (by omega) (by omega), br_t (by rw [vs_cmp hk hw hi]; omega) (nm_r (nI_1 j) ihj)⟩
theorem yw_obtain1 {post : SY → Prop} {m k : Nat} {H : Nat → Nat → Bool} (Q : vs_YH n sn vw mv mn ho H) (hm : m < n) (hn : n ≤ 5) (hw : w ≤ 8) (hv : vw m ≠ 0) (hk : k ≤ 48) (hh : ∀ i, hd i ≤ 48) (hx : vs_ix mv mn (vw m) k < 48) (c : H m k = false)
    (h : post ((nI n), (nI w), (nI sn), (nI fc), (nI st), md, ins, (vs_I vw), mk, nw, (vs_I ct), (vs_tp tp m k), (vs_I (vs_rs hd (mk m) m (k - w) n)), su, jo, (vs_I pr), (vs_I ac), va, (vs_I sd), (vs_I wt), (vs_I mv), (vs_I mn), (vs_u ho (vs_ix mv mn (vw m) k) (ho (vs_ix mv mn (vw m) k) ||| ((1 : Int32) <<< (nI m &&& 31)))), (vs_I fm), (vs_I fs), (vs_I fv), (vs_I ow), (vs_I li), re, (vs_I be), pm, (vs_I pc), aq)) :
    wpY_obtain post ((nI n), (nI w), (nI sn), (nI fc), (nI st), md, ins, (vs_I vw), mk, nw, (vs_I ct), tp, (vs_I hd), su, jo, (vs_I pr), (vs_I ac), va, (vs_I sd), (vs_I wt), (vs_I mv), (vs_I mn), ho, (vs_I fm), (vs_I fs), (vs_I fv), (vs_I ow), (vs_I li), re, (vs_I be), pm, (vs_I pc), aq) (nI m) (nI k) := by
  have e := Q.2.2.2.2 m hm hv k
  rw [c, decide_eq_true hx, Bool.true_and] at e
  have hs := vs_ix_sn Q hv hx
  have := Q.2.2.1
  unfold wpY_obtain
  rw [nI_clamp (show m < 2 ^ 31 by omega)]
  simp only [vs_Ia]
  refine ⟨vs_in5 (by omega), yw_find1 Q.2.2.1 Q.2.1 (Q.2.2.2.1 m hm) (by omega) hs (br_f (nI_pos (by omega)) ⟨vp_in_nI (by omega) (by omega), ?_⟩)⟩
  rw [nI_clamp (show vs_ix mv mn (vw m) k < 2 ^ 31 by omega)]
  refine yw_has0 (by omega) e.symm (br_t rfl ⟨vp_in_nI (by omega) (by omega), vp_in_nI (by omega) (by omega), nm_r (vs_updA _ _ _) ⟨vs_in5 (by omega), ?_⟩⟩)
  by_cases c : nI k ≤ tp m
  · have e : vs_tp tp m k = tp := if_pos c
    rw [e] at h
    refine br_t c ⟨n + 1, ?_⟩
    have := yw_ob_l (d := n) (j := 0) (by omega) hn hw hk hh h (by omega)
    rw [vs_rs_0] at this
    exact this
  · have e : vs_tp tp m k = vs_u tp m (nI k) := if_neg c
    rw [e] at h
    refine br_f c ⟨vs_in5 (by omega), nm_r (vs_updA _ _ _) ⟨n + 1, ?_⟩⟩
    have := yw_ob_l (d := n) (j := 0) (by omega) hn hw hk hh h (by omega)
    rw [vs_rs_0] at this
    exact this
theorem yw_obtain0 {post : SY → Prop} {m k : Nat} {H : Nat → Nat → Bool} (Q : vs_YH n sn vw mv mn ho H) (hm : m < n) (hn : n ≤ 5) (hv : vw m ≠ 0) (hk : k ≤ 48) (c : H m k = true) (h : post ((nI n), (nI w), (nI sn), (nI fc), (nI st), md, ins, (vs_I vw), mk, nw, (vs_I ct), tp, (vs_I hd), su, jo, (vs_I pr), (vs_I ac), va, (vs_I sd), (vs_I wt), (vs_I mv), (vs_I mn), ho, (vs_I fm), (vs_I fs), (vs_I fv), (vs_I ow), (vs_I li), re, (vs_I be), pm, (vs_I pc), aq)) :
    wpY_obtain post ((nI n), (nI w), (nI sn), (nI fc), (nI st), md, ins, (vs_I vw), mk, nw, (vs_I ct), tp, (vs_I hd), su, jo, (vs_I pr), (vs_I ac), va, (vs_I sd), (vs_I wt), (vs_I mv), (vs_I mn), ho, (vs_I fm), (vs_I fs), (vs_I fv), (vs_I ow), (vs_I li), re, (vs_I be), pm, (vs_I pc), aq) (nI m) (nI k) := by
  have e := Q.2.2.2.2 m hm hv k
  rw [c] at e
  have e' := e.symm
  rw [Bool.and_eq_true, decide_eq_true_eq] at e'
  have hs := vs_ix_sn Q hv e'.1
  have := Q.2.2.1
  unfold wpY_obtain
  rw [nI_clamp (show m < 2 ^ 31 by omega)]
  simp only [vs_Ia]
  refine ⟨vs_in5 (by omega), yw_find1 Q.2.2.1 Q.2.1 (Q.2.2.2.1 m hm) (by omega) hs (br_f (nI_pos (by omega)) ⟨vp_in_nI (by omega) (by omega), ?_⟩)⟩
  rw [nI_clamp (show vs_ix mv mn (vw m) k < 2 ^ 31 by omega)]
  exact yw_has1 (by omega) e'.2 (br_f (by decide) h)
theorem vs_YH_put {n sn : Nat} {vw mv mn : Nat → Nat} {ho : Nat → Int32} {H H' : Nat → Nat → Bool} {m k : Nat} (Q : vs_YH n sn vw mv mn ho H) (hn : n ≤ 5) (hm : m < n) (hv : vw m ≠ 0) (hx : vs_ix mv mn (vw m) k < 48)
    (e : ∀ k', H' m k' = (H m k' || decide (k' = k))) (eo : ∀ a, a ≠ m → H' a = H a) :
    vs_YH n sn vw mv mn (vs_u ho (vs_ix mv mn (vw m) k) (ho (vs_ix mv mn (vw m) k) ||| ((1 : Int32) <<< (nI m &&& 31)))) H' := by
  refine ⟨Q.1, Q.2.1, Q.2.2.1, Q.2.2.2.1, ?_⟩
  intro a ha hva k'
  have q := Q.2.2.2.2 a ha hva k'
  by_cases c : vs_ix mv mn (vw a) k' = vs_ix mv mn (vw m) k
  · have s1 := vs_ix_sp hx
    have s2 := vs_ix_sp (mv := mv) (mn := mn) (v := vw a) (k := k') (by omega)
    rw [c] at s2
    have ek : k' = k := by omega
    have ev : vw a = vw m := by omega
    rw [c, vs_us, vs_bor _ (by omega)]
    rw [c] at q
    by_cases d : a = m
    · subst d
      rw [e, q, decide_eq_true hx, decide_eq_true ek, decide_eq_true (show a = a from rfl)]
      simp
    · rw [eo a d, q, decide_eq_true hx, decide_eq_false d, Bool.or_false]
  · rw [vs_un c]
    by_cases d : a = m
    · subst d
      rw [e, q, decide_eq_false (show ¬ k' = k by intro z; rw [z] at c; exact c rfl), Bool.or_false]
    · rw [eo a d, q]
theorem vs_lgY_c {fm fs fv fm' fs' fv' : Nat → Nat} {m : Nat} : ∀ {f}, (∀ t, t < f → fm' t = fm t ∧ fs' t = fs t ∧ fv' t = fv t) → vs_lgY fm' fs' fv' f m = vs_lgY fm fs fv f m := by
  intro f
  induction f with
  | zero => intro _; rfl
  | succ f ih =>
    intro h
    have a := h f (by omega)
    show (if fm' f = m then vs_lgY fm' fs' fv' f m ++ [(fs' f, fv' f)] else vs_lgY fm' fs' fv' f m) = (if fm f = m then vs_lgY fm fs fv f m ++ [(fs f, fv f)] else vs_lgY fm fs fv f m)
    rw [ih (fun t ht => h t (by omega)), a.1, a.2.1, a.2.2]
def vs_sum (f : Nat → Nat) : Nat → Nat
  | 0 => 0
  | j + 1 => vs_sum f j + f j
theorem vs_sum_c {f g : Nat → Nat} : ∀ {j}, (∀ i, i < j → f i = g i) → vs_sum f j = vs_sum g j := by
  intro j
  induction j with
  | zero => intro _; rfl
  | succ j ih =>
    intro h
    show vs_sum f j + f j = vs_sum g j + g j
    rw [ih (fun i hi => h i (by omega)), h j (by omega)]
theorem vs_sum_1 {f g : Nat → Nat} {m : Nat} (hm : g m = f m + 1) (ho : ∀ i, i ≠ m → g i = f i) : ∀ {j}, m < j → vs_sum g j = vs_sum f j + 1 := by
  intro j
  induction j with
  | zero => intro h; omega
  | succ j ih =>
    intro h
    show vs_sum g j + g j = vs_sum f j + f j + 1
    by_cases c : m = j
    · subst c
      rw [hm, vs_sum_c (fun i hi => ho i (by omega))]
      omega
    · rw [ih (by omega), ho j (by omega)]
      omega
theorem vs_sum_le {f : Nat → Nat} {b : Nat} : ∀ {j}, (∀ i, i < j → f i ≤ b) → vs_sum f j ≤ j * b := by
  intro j
  induction j with
  | zero => intro _; show 0 ≤ 0 * b; omega
  | succ j ih =>
    intro h
    have a := ih (fun i hi => h i (by omega))
    have c := h j (by omega)
    show vs_sum f j + f j ≤ (j + 1) * b
    rw [Nat.succ_mul]
    omega
theorem vs_sum_lt {f : Nat → Nat} {b m : Nat} (hm : f m < b) : ∀ {j}, m < j → (∀ i, i < j → f i ≤ b) → vs_sum f j < j * b := by
  intro j
  induction j with
  | zero => intro h; omega
  | succ j ih =>
    intro h hl
    show vs_sum f j + f j < (j + 1) * b
    rw [Nat.succ_mul]
    by_cases c : m = j
    · subst c
      have := vs_sum_le (f := f) (b := b) (j := m) (fun i hi => hl i (by omega))
      omega
    · have := ih (by omega) (fun i hi => hl i (by omega))
      have := hl j (by omega)
      omega
theorem vs_lgY_sum {fm fs fv : Nat → Nat} {n : Nat} : ∀ {f}, (∀ t, t < f → fm t < n) → f = vs_sum (fun m => (vs_lgY fm fs fv f m).length) n := by
  intro f
  induction f with
  | zero =>
    intro _
    have : ∀ j, vs_sum (fun m => (vs_lgY fm fs fv 0 m).length) j = 0 := by
      intro j
      induction j with
      | zero => rfl
      | succ j ih => show vs_sum _ j + 0 = 0; rw [ih]
    rw [this]
  | succ f ih =>
    intro h
    have a := ih (fun t ht => h t (by omega))
    have b := h f (by omega)
    rw [vs_sum_1 (f := fun m => (vs_lgY fm fs fv f m).length) (m := fm f) ?_ ?_ b]
    · omega
    · show (if fm f = fm f then vs_lgY fm fs fv f (fm f) ++ [(fs f, fv f)] else vs_lgY fm fs fv f (fm f)).length = _
      rw [if_pos rfl, List.length_append]; rfl
    · intro i hi
      show (if fm f = i then vs_lgY fm fs fv f i ++ [(fs f, fv f)] else vs_lgY fm fs fv f i).length = _
      rw [if_neg (by omega)]
theorem vs_YL_lt {n m : Nat} {lg : Nat → List (Nat × Nat)} {fc : Nat} {fm fs fv : Nat → Nat} (L : vs_YL n lg fc fm fs fv) (hn : n ≤ 5) (hm : m < n) (hl : (lg m).length < 48) (hA : ∀ m, m < n → (lg m).length ≤ 48) : fc < 240 := by
  have a := vs_lgY_sum (fm := fm) (fs := fs) (fv := fv) (n := n) (f := fc) L.2.1
  have b := vs_sum_lt (f := fun m => (vs_lgY fm fs fv fc m).length) (b := 48) (m := m) (by show (vs_lgY fm fs fv fc m).length < 48; rw [L.1 m hm]; exact hl) hm (fun i hi => by show (vs_lgY fm fs fv fc i).length ≤ 48; rw [L.1 i hi]; exact hA i hi)
  omega
theorem vs_YL_ap {n m i v : Nat} {lg : Nat → List (Nat × Nat)} {fc : Nat} {fm fs fv : Nat → Nat} (L : vs_YL n lg fc fm fs fv) (hn : n ≤ 5) (hm : m < n) (hf : fc < 240) (hi : i ≤ 48) (hv : v ≤ 48) :
    vs_YL n (vs_u lg m (lg m ++ [(i, v)])) (fc + 1) (vs_u fm fc m) (vs_u fs fc i) (vs_u fv fc v) := by
  refine ⟨?_, ?_, ?_, by omega⟩
  · intro a ha
    have e : vs_lgY (vs_u fm fc m) (vs_u fs fc i) (vs_u fv fc v) fc a = lg a := by
      rw [vs_lgY_c (fm := fm) (fs := fs) (fv := fv), L.1 a ha]
      intro t ht
      exact ⟨vs_un (by omega), vs_un (by omega), vs_un (by omega)⟩
    show (if vs_u fm fc m fc = a then vs_lgY (vs_u fm fc m) (vs_u fs fc i) (vs_u fv fc v) fc a ++ [(vs_u fs fc i fc, vs_u fv fc v fc)] else vs_lgY (vs_u fm fc m) (vs_u fs fc i) (vs_u fv fc v) fc a) = _
    rw [e, vs_us, vs_us, vs_us]
    by_cases c : m = a
    · subst c; rw [if_pos rfl, vs_us]
    · rw [if_neg c, vs_un (by omega)]
  · intro f h
    by_cases c : f = fc
    · rw [c, vs_us]; exact hm
    · rw [vs_un c]; exact L.2.1 f (by omega)
  · intro f
    by_cases c : f = fc
    · rw [c, vs_us, vs_us, vs_us]; exact ⟨by omega, hv, hi⟩
    · rw [vs_un c, vs_un c, vs_un c]; exact L.2.2.1 f
theorem yw_append {post : SY → Prop} {m k : Nat} {H : Nat → Nat → Bool} (Q : vs_YH n sn vw mv mn ho H) (hm : m < n) (hn : n ≤ 5) (hv : vw m ≠ 0) (hk : k ≤ 48) (hx : vs_ix mv mn (vw m) k < 48) (hf : fc < 240)
    (h : post ((nI n), (nI w), (nI sn), (nI (fc + 1)), (nI st), md, ins, (vs_I vw), mk, nw, (vs_I ct), tp, (vs_I hd), su, jo, (vs_I pr), (vs_I ac), va, (vs_I sd), (vs_I wt), (vs_I mv), (vs_I mn), ho, (vs_I (vs_u fm fc m)), (vs_I (vs_u fs fc (vs_ix mv mn (vw m) k))), (vs_I (vs_u fv fc (vw m))), (vs_I ow), (vs_I li), re, (vs_I be), pm, (vs_I pc), aq)) : wpY_append post ((nI n), (nI w), (nI sn), (nI fc), (nI st), md, ins, (vs_I vw), mk, nw, (vs_I ct), tp, (vs_I hd), su, jo, (vs_I pr), (vs_I ac), va, (vs_I sd), (vs_I wt), (vs_I mv), (vs_I mn), ho, (vs_I fm), (vs_I fs), (vs_I fv), (vs_I ow), (vs_I li), re, (vs_I be), pm, (vs_I pc), aq) (nI m) (nI k) := by
  have hs := vs_ix_sn Q hv hx
  have := Q.2.2.1
  unfold wpY_append
  simp only [nI_clamp (show m < 2 ^ 31 by omega), nI_clamp (show fc < 2 ^ 31 by omega), vs_Ia]
  have hi := pk_in (x := nI fc) fc 240 hf
  exact ⟨vs_in5 (by omega), yw_find1 Q.2.2.1 Q.2.1 (Q.2.2.2.1 m hm) (by omega) hs (br_f (nI_pos (by omega)) (br_t (nI_lt (b := 240) hf (by omega)) ⟨hi, nm_r (vs_upd _ _ _) ⟨hi, nm_r (vs_upd _ _ _) ⟨vs_in5 (by omega), hi, nm_r (vs_upd _ _ _) (nm_r (nI_1 fc) h)⟩⟩⟩))⟩
end
section
/-! Y: deliverAll, outbox, attempts -/
variable {n w sn st fc : Nat} {md ins l1 l2 l3 l4 mk nw tp su jo am acu b1 b2 b3 o1 o2 xr xb xm xc xp xq xa va ho re pm aq : Nat → Int32} {lv lc vw ct dl pr ac hx bn oc att hd sd wt mv mn fm fs fv ow li be pc : Nat → Nat}
theorem vs_dg_len {Hm : Nat → Bool} {e : Nat → Nat × Nat} {B : Nat} (hB : ∀ k, Hm k = true → k ≤ B) : ∀ (r d : Nat) (l : List (Nat × Nat)), (vs_dg Hm e r d l).length ≤ l.length + (B - d) := by
  intro r
  induction r with
  | zero => intro d l; exact Nat.le_add_right _ _
  | succ r ih =>
    intro d l
    show (if Hm (d + 1) = true then vs_dg Hm e r (d + 1) (l ++ [e (d + 1)]) else l).length ≤ _
    split
    · rename_i c
      have a := ih (d + 1) (l ++ [e (d + 1)])
      have b := hB _ c
      rw [List.length_append] at a
      have : [e (d + 1)].length = 1 := rfl
      omega
    · omega
theorem vs_dg_stop {Hm : Nat → Bool} {e : Nat → Nat × Nat} {d : Nat} (c : Hm (d + 1) = false) (r : Nat) (l : List (Nat × Nat)) : vs_dg Hm e r d l = l := by
  cases r with
  | zero => rfl
  | succ r => exact if_neg (by rw [c]; decide)
theorem vs_dn_stop {Hm : Nat → Bool} {d : Nat} (c : Hm (d + 1) = false) (r : Nat) : vs_dn Hm r d = d := by
  cases r with
  | zero => rfl
  | succ r => exact if_neg (by rw [c]; decide)
theorem yw_da_n {post : SY → Prop} {J : Int32 → Int32 → Int32 → Int32 → Int32 → Int32 → (Nat → Int32) → (Nat → Int32) → (Nat → Int32) → (Nat → Int32) → (Nat → Int32) → (Nat → Int32) → (Nat → Int32) → (Nat → Int32) → (Nat → Int32) → (Nat → Int32) → (Nat → Int32) → (Nat → Int32) → (Nat → Int32) → (Nat → Int32) → (Nat → Int32) → (Nat → Int32) → (Nat → Int32) → (Nat → Int32) → (Nat → Int32) → (Nat → Int32) → (Nat → Int32) → (Nat → Int32) → (Nat → Int32) → (Nat → Int32) → (Nat → Int32) → (Nat → Int32) → (Nat → Int32) → (Nat → Int32) → Prop}
    {m B : Nat} {H : Nat → Nat → Bool} (Q : vs_YH n sn vw mv mn ho H) (hm : m < n) (hn : n ≤ 5) (hmd : md m = 2) (hv : vw m ≠ 0) (hB : ∀ k, H m k = true → k ≤ B) (hB2 : B ≤ 48) :
    ∀ (r d : Nat) (lg : Nat → List (Nat × Nat)) (fc : Nat) (fm fs fv : Nat → Nat), r ≤ 48 → d ≤ 48 → vs_YL n lg fc fm fs fv → vs_D (lg m) (vw m) = d → (lg m).length + (B - d) ≤ 48 → (∀ a, a < n → (lg a).length ≤ 48) →
    (∀ (fc' : Nat) (fm' fs' fv' : Nat → Nat), vs_YL n (vs_u lg m (vs_dg (H m) (fun k => (vs_ix mv mn (vw m) k, vw m)) r d (lg m))) fc' fm' fs' fv' → J (nI (m + 1)) (nI n) (nI w) (nI sn) (nI fc') (nI st) md ins (vs_I vw) mk nw (vs_I ct) tp (vs_I hd) su jo (vs_I pr) (vs_I ac) va (vs_I sd) (vs_I wt) (vs_I mv) (vs_I mn) ho (vs_I fm') (vs_I fs') (vs_I fv') (vs_I ow) (vs_I li) re (vs_I be) pm (vs_I pc) aq) →
    wY_deliverAll_12 post J (nI m) (r + 1) (nI (48 - r)) (nI n) (nI w) (nI sn) (nI fc) (nI st) md ins (vs_I vw) mk nw (vs_I ct) tp (vs_I hd) su jo (vs_I pr) (vs_I ac) va (vs_I sd) (vs_I wt) (vs_I mv) (vs_I mn) ho (vs_I fm) (vs_I fs) (vs_I fv) (vs_I ow) (vs_I li) re (vs_I be) pm (vs_I pc) aq := by
  intro r
  induction r with
  | zero =>
    intro d lg fc fm fs fv _ _ L _ _ _ h
    refine br_t (nI_le (a := 48) (by omega) (by omega)) (nm_r (nI_1 m) (h fc fm fs fv ?_))
    show vs_YL n (vs_u lg m (lg m)) fc fm fs fv
    rw [vs_ui]
    exact L
  | succ r ih =>
    intro d lg fc fm fs fv hr hd48 L hD hl hA h
    have eg : vs_dg (H m) (fun k => (vs_ix mv mn (vw m) k, vw m)) (r + 1) d (lg m) = if H m (d + 1) = true then vs_dg (H m) (fun k => (vs_ix mv mn (vw m) k, vw m)) r (d + 1) (lg m ++ [(vs_ix mv mn (vw m) (d + 1), vw m)]) else lg m := rfl
    rw [eg] at h
    have e1 : 48 - r = 48 - (r + 1) + 1 := by omega
    refine br_f (nI_ge (b := 48) (by omega) (by omega)) (yw_del hm hn L (Q.2.2.2.1 m hm) hD (nm_r (nI_1 d) ⟨vs_in5 (by omega), ?_⟩))
    rw [nI_clamp (show m < 2 ^ 31 by omega)]
    refine br_t hmd ?_
    cases c : H m (d + 1)
    · rw [if_neg (by rw [c]; decide)] at h
      refine yw_got0 Q hm hn hv (by omega) c (br_t rfl (nm_r (e' := nI (48 - r)) (by rw [nI_1, e1]) ?_))
      refine ih d lg fc fm fs fv (by omega) hd48 L hD hl hA ?_
      rw [vs_dg_stop c]
      exact h
    · rw [if_pos c] at h
      have hB1 := hB _ c
      have hx : vs_ix mv mn (vw m) (d + 1) < 48 := by
        have e := Q.2.2.2.2 m hm hv (d + 1)
        rw [c] at e
        have e' := e.symm
        rw [Bool.and_eq_true, decide_eq_true_eq] at e'
        exact e'.1
      have hf := vs_YL_lt L hn hm (by omega) hA
      have hvm := Q.2.2.2.1 m hm
      refine yw_got1 Q hm hn hv (by omega) c (br_f (by decide) (yw_append Q hm hn hv (by omega) hx hf (nm_r (e' := nI (48 - r)) (by rw [nI_1, e1]) ?_)))
      refine ih (d + 1) (vs_u lg m (lg m ++ [(vs_ix mv mn (vw m) (d + 1), vw m)])) _ _ _ _ (by omega) (by omega) (vs_YL_ap L hn hm hf (by omega) hvm) ?_ ?_ ?_ ?_
      · rw [vs_us, vs_D_ap, if_pos rfl, hD]
      · rw [vs_us, List.length_append]; show (lg m).length + 1 + _ ≤ 48; omega
      · intro a ha
        by_cases z : a = m
        · rw [z, vs_us, List.length_append]; show (lg m).length + 1 ≤ 48; omega
        · rw [vs_un z]; exact hA a ha
      · rw [vs_us, vs_uu]
        exact h
theorem yw_da_o {post : SY → Prop} {J : Int32 → Int32 → Int32 → Int32 → Int32 → Int32 → (Nat → Int32) → (Nat → Int32) → (Nat → Int32) → (Nat → Int32) → (Nat → Int32) → (Nat → Int32) → (Nat → Int32) → (Nat → Int32) → (Nat → Int32) → (Nat → Int32) → (Nat → Int32) → (Nat → Int32) → (Nat → Int32) → (Nat → Int32) → (Nat → Int32) → (Nat → Int32) → (Nat → Int32) → (Nat → Int32) → (Nat → Int32) → (Nat → Int32) → (Nat → Int32) → (Nat → Int32) → (Nat → Int32) → (Nat → Int32) → (Nat → Int32) → (Nat → Int32) → (Nat → Int32) → (Nat → Int32) → Prop}
    {m : Nat} {lg : Nat → List (Nat × Nat)} (hm : m < n) (hn : n ≤ 5) (hmd : ¬ md m = 2) (hv : vw m ≤ 48) (L : vs_YL n lg fc fm fs fv) (h : J (nI (m + 1)) (nI n) (nI w) (nI sn) (nI fc) (nI st) md ins (vs_I vw) mk nw (vs_I ct) tp (vs_I hd) su jo (vs_I pr) (vs_I ac) va (vs_I sd) (vs_I wt) (vs_I mv) (vs_I mn) ho (vs_I fm) (vs_I fs) (vs_I fv) (vs_I ow) (vs_I li) re (vs_I be) pm (vs_I pc) aq) :
    ∀ (r : Nat), r ≤ 48 → wY_deliverAll_12 post J (nI m) (r + 1) (nI (48 - r)) (nI n) (nI w) (nI sn) (nI fc) (nI st) md ins (vs_I vw) mk nw (vs_I ct) tp (vs_I hd) su jo (vs_I pr) (vs_I ac) va (vs_I sd) (vs_I wt) (vs_I mv) (vs_I mn) ho (vs_I fm) (vs_I fs) (vs_I fv) (vs_I ow) (vs_I li) re (vs_I be) pm (vs_I pc) aq := by
  intro r
  induction r with
  | zero =>
    intro _
    exact br_t (nI_le (a := 48) (by omega) (by omega)) (nm_r (nI_1 m) h)
  | succ r ih =>
    intro hr
    have e1 : 48 - r = 48 - (r + 1) + 1 := by omega
    refine br_f (nI_ge (b := 48) (by omega) (by omega)) (yw_del hm hn L hv rfl (nm_r (nI_1 _) ⟨vs_in5 (by omega), ?_⟩))
    rw [nI_clamp (show m < 2 ^ 31 by omega)]
    exact br_f hmd (nm_r (e' := nI (48 - r)) (by rw [nI_1, e1]) (ih (by omega)))
/-- the logs when the first j members have delivered -/
def vs_dA (md : Nat → Int32) (H : Nat → Nat → Bool) (vw mv mn dl : Nat → Nat) (lg : Nat → List (Nat × Nat)) (j : Nat) : Nat → List (Nat × Nat) :=
  fun m => if m < j ∧ md m = 2 then vs_dg (H m) (fun k => (vs_ix mv mn (vw m) k, vw m)) 48 (dl m) (lg m) else lg m
theorem yw_dA {post : SY → Prop} {H : Nat → Nat → Bool} {lg : Nat → List (Nat × Nat)} {dl B : Nat → Nat} (Q : vs_YH n sn vw mv mn ho H) (hn : n ≤ 5)
    (hP : ∀ m, m < n → md m = 2 → vw m ≠ 0 ∧ vs_D (lg m) (vw m) = dl m ∧ dl m ≤ 48 ∧ (lg m).length + (B m - dl m) ≤ 48 ∧ B m ≤ 48 ∧ ∀ k, H m k = true → k ≤ B m) (hA : ∀ a, a < n → (lg a).length ≤ 48) (L : vs_YL n lg fc fm fs fv)
    (h : ∀ (fc' : Nat) (fm' fs' fv' : Nat → Nat), vs_YL n (vs_dA md H vw mv mn dl lg n) fc' fm' fs' fv' → post ((nI n), (nI w), (nI sn), (nI fc'), (nI st), md, ins, (vs_I vw), mk, nw, (vs_I ct), tp, (vs_I hd), su, jo, (vs_I pr), (vs_I ac), va, (vs_I sd), (vs_I wt), (vs_I mv), (vs_I mn), ho, (vs_I fm'), (vs_I fs'), (vs_I fv'), (vs_I ow), (vs_I li), re, (vs_I be), pm, (vs_I pc), aq)) :
    wpY_deliverAll post ((nI n), (nI w), (nI sn), (nI fc), (nI st), md, ins, (vs_I vw), mk, nw, (vs_I ct), tp, (vs_I hd), su, jo, (vs_I pr), (vs_I ac), va, (vs_I sd), (vs_I wt), (vs_I mv), (vs_I mn), ho, (vs_I fm), (vs_I fs), (vs_I fv), (vs_I ow), (vs_I li), re, (vs_I be), pm, (vs_I pc), aq) := by
  have key : ∀ (d j fc : Nat) (fm fs fv : Nat → Nat), j + d = n → vs_YL n (vs_dA md H vw mv mn dl lg j) fc fm fs fv → wY_deliverAll_2 post (d + 1) (nI j) (nI n) (nI w) (nI sn) (nI fc) (nI st) md ins (vs_I vw) mk nw (vs_I ct) tp (vs_I hd) su jo (vs_I pr) (vs_I ac) va (vs_I sd) (vs_I wt) (vs_I mv) (vs_I mn) ho (vs_I fm) (vs_I fs) (vs_I fv) (vs_I ow) (vs_I li) re (vs_I be) pm (vs_I pc) aq := by
    intro d
    induction d with
    | zero =>
      intro j fc fm fs fv e L
      have e : j = n := by omega
      subst e
      exact br_t (nI_le (by omega) (by omega)) (h fc fm fs fv L)
    | succ d ih =>
      intro j fc fm fs fv e L
      refine br_f (nI_ge (by omega) (by omega)) ⟨48 + 1, ?_⟩
      have ej : vs_dA md H vw mv mn dl lg j j = lg j := if_neg (fun z => by omega)
      by_cases c : md j = 2
      · have p := hP j (by omega) c
        have es : vs_dA md H vw mv mn dl lg (j + 1) = vs_u (vs_dA md H vw mv mn dl lg j) j (vs_dg (H j) (fun k => (vs_ix mv mn (vw j) k, vw j)) 48 (dl j) (lg j)) := by
          funext a
          by_cases z : a = j
          · rw [z, vs_us]; exact if_pos ⟨by omega, c⟩
          · rw [vs_un z]
            show (if a < j + 1 ∧ md a = 2 then _ else _) = (if a < j ∧ md a = 2 then _ else _)
            by_cases y : a < j ∧ md a = 2
            · rw [if_pos y, if_pos ⟨by omega, y.2⟩]
            · rw [if_neg y, if_neg (fun x => y ⟨by omega, x.2⟩)]
        refine yw_da_n (B := B j) Q (by omega) hn c p.1 p.2.2.2.2.2 p.2.2.2.2.1 48 (dl j) (vs_dA md H vw mv mn dl lg j) fc fm fs fv (by omega) p.2.2.1 L (by rw [ej]; exact p.2.1) (by rw [ej]; exact p.2.2.2.1) ?_ ?_
        · intro a ha
          show (if a < j ∧ md a = 2 then vs_dg (H a) (fun k => (vs_ix mv mn (vw a) k, vw a)) 48 (dl a) (lg a) else lg a).length ≤ 48
          split
          · rename_i y
            have pa := hP a ha y.2
            have := vs_dg_len (e := fun k => (vs_ix mv mn (vw a) k, vw a)) pa.2.2.2.2.2 48 (dl a) (lg a)
            omega
          · exact hA a ha
        · intro fc' fm' fs' fv' L'
          rw [ej, ← es] at L'
          exact ih (j + 1) fc' fm' fs' fv' (by omega) L'
      · have es : vs_dA md H vw mv mn dl lg (j + 1) = vs_dA md H vw mv mn dl lg j := by
          funext a
          show (if a < j + 1 ∧ md a = 2 then _ else _) = (if a < j ∧ md a = 2 then _ else _)
          by_cases y : a < j ∧ md a = 2
          · rw [if_pos y, if_pos ⟨by omega, y.2⟩]
          · rw [if_neg y, if_neg]
            intro x
            by_cases z : a = j
            · rw [z] at x; exact c x.2
            · exact y ⟨by omega, x.2⟩
        exact yw_da_o (by omega) hn c (Q.2.2.2.1 j (by omega)) L (ih (j + 1) fc fm fs fv (by omega) (by rw [es]; exact L)) 48 (by omega)
  refine ⟨n + 1, key n 0 fc fm fs fv (by omega) ?_⟩
  have e0 : vs_dA md H vw mv mn dl lg 0 = lg := by
    funext a
    exact if_neg (fun z => by omega)
  rw [e0]
  exact L
/-- the outbox of a member -/
def vs_ob (wt sd : Nat → Nat) : Nat → Nat → List Nat
  | 0, _ => []
  | i + 1, m => if wt i ≠ 0 ∧ sd i = m then vs_ob wt sd i m ++ [i] else vs_ob wt sd i m
theorem vs_ob_len (wt sd : Nat → Nat) (m : Nat) : ∀ i, (vs_ob wt sd i m).length ≤ i := by
  intro i
  induction i with
  | zero => exact Nat.le_refl _
  | succ i ih =>
    show (if wt i ≠ 0 ∧ sd i = m then vs_ob wt sd i m ++ [i] else vs_ob wt sd i m).length ≤ i + 1
    split
    · rw [List.length_append]; show _ + 1 ≤ _; omega
    · omega
theorem vs_ob_pre {wt sd : Nat → Nat} {m k x i : Nat} (h : (vs_ob wt sd i m)[k]? = some x) : ∀ d, (vs_ob wt sd (i + d) m)[k]? = some x := by
  intro d
  induction d with
  | zero => exact h
  | succ d ih =>
    show (if wt (i + d) ≠ 0 ∧ sd (i + d) = m then vs_ob wt sd (i + d) m ++ [i + d] else vs_ob wt sd (i + d) m)[k]? = some x
    split
    · rw [List.getElem?_append_left]
      · exact ih
      · apply Classical.byContradiction
        intro z
        rw [List.getElem?_eq_none (by omega)] at ih
        cases ih
    · exact ih
theorem yw_outboxAt {post : Int32 → Prop} {m k : Nat} (hm : m < 5) (hsn : sn ≤ 48) (hk : k < 2 ^ 31) (hb : ∀ i, wt i ≤ 48 ∧ sd i ≤ 48)
    (h1 : ∀ i, (vs_ob wt sd sn m)[k]? = some i → post (nI i)) (h0 : (vs_ob wt sd sn m).length ≤ k → post (-1)) : wpY_outboxAt post ((nI n), (nI w), (nI sn), (nI fc), (nI st), md, ins, (vs_I vw), mk, nw, (vs_I ct), tp, (vs_I hd), su, jo, (vs_I pr), (vs_I ac), va, (vs_I sd), (vs_I wt), (vs_I mv), (vs_I mn), ho, (vs_I fm), (vs_I fs), (vs_I fv), (vs_I ow), (vs_I li), re, (vs_I be), pm, (vs_I pc), aq) (nI m) (nI k) := by
  have key : ∀ d i : Nat, i + d = sn → (vs_ob wt sd i m).length ≤ k → wY_outboxAt_5 post (nI m) (nI k) (nI n) (nI w) (nI sn) (nI fc) (nI st) md ins (vs_I vw) mk nw (vs_I ct) tp (vs_I hd) su jo (vs_I pr) (vs_I ac) va (vs_I sd) (vs_I wt) (vs_I mv) (vs_I mn) ho (vs_I fm) (vs_I fs) (vs_I fv) (vs_I ow) (vs_I li) re (vs_I be) pm (vs_I pc) aq (d + 1) (nI (vs_ob wt sd i m).length) (nI i) := by
    intro d
    induction d with
    | zero =>
      intro i e hl
      have e : i = sn := by omega
      subst e
      exact br_t (nI_le (by omega) (by omega)) (h0 hl)
    | succ d ih =>
      intro i e hl
      have ihi := ih (i + 1) (by omega)
      have eo : vs_ob wt sd (i + 1) m = if wt i ≠ 0 ∧ sd i = m then vs_ob wt sd i m ++ [i] else vs_ob wt sd i m := rfl
      have hle := vs_ob_len wt sd m i
      have hbi := hb i
      rw [eo] at ihi
      refine br_f (nI_ge (by omega) (by omega)) ?_
      rw [nI_clamp (show i < 2 ^ 31 by omega)]
      simp only [vs_Ia]
      refine ⟨vp_in_nI (by omega) (by omega), ?_⟩
      by_cases c1 : wt i = 0
      · rw [if_neg (fun z => z.1 c1)] at ihi
        exact br_t (by rw [c1]; rfl) (nm_r (nI_1 i) (ihi hl))
      · refine br_f (nI_ne0 (by omega) (by omega)) ⟨vp_in_nI (by omega) (by omega), ?_⟩
        by_cases c2 : sd i = m
        · rw [if_pos ⟨c1, c2⟩, List.length_append] at ihi
          refine br_t (by rw [c2]) ?_
          by_cases c3 : (vs_ob wt sd i m).length = k
          · refine br_t (by rw [c3]) (h1 i ?_)
            have := vs_ob_pre (wt := wt) (sd := sd) (m := m) (k := k) (x := i) (i := i + 1) (by rw [eo, if_pos ⟨c1, c2⟩, List.getElem?_append_right (by omega), c3, Nat.sub_self]; rfl) d
            rw [show i + 1 + d = sn by omega] at this
            exact this
          · refine br_f (fun z => c3 ((nI_eq (by omega) (by omega)).mp z)) (nm_r (nI_1 _) (nm_r (nI_1 i) (ihi ?_)))
            show (vs_ob wt sd i m).length + 1 ≤ k
            omega
        · rw [if_neg (fun z => c2 z.2)] at ihi
          exact br_f (fun z => c2 ((nI_eq (by omega) (by omega)).mp z)) (nm_r (nI_1 i) (ihi hl))
  exact ⟨sn + 1, key sn 0 (by omega) (Nat.zero_le _)⟩
/-- the live attempts -/
def vs_YA (n st : Nat) (ow li att : Nat → Nat) : Prop :=
  (∀ m, m < n → att m ≤ st ∧ ∀ a, 1 ≤ a → a ≤ st → ((li a ≠ 0 ∧ ow a = m) ↔ att m = a)) ∧ (∀ a, ow a ≤ 48 ∧ li a ≤ 48) ∧ st ≤ 60
theorem yw_attemptOf {post : Int32 → Prop} {m : Nat} (hm : m < n) (hn : n ≤ 5) (A : vs_YA n st ow li att) (h : post (nI (att m))) : wpY_attemptOf post ((nI n), (nI w), (nI sn), (nI fc), (nI st), md, ins, (vs_I vw), mk, nw, (vs_I ct), tp, (vs_I hd), su, jo, (vs_I pr), (vs_I ac), va, (vs_I sd), (vs_I wt), (vs_I mv), (vs_I mn), ho, (vs_I fm), (vs_I fs), (vs_I fv), (vs_I ow), (vs_I li), re, (vs_I be), pm, (vs_I pc), aq) (nI m) := by
  have Am := A.1 m hm
  have hst := A.2.2
  have key : ∀ d a : Nat, a + d = st + 1 → 1 ≤ a → (att m = 0 ∨ a ≤ att m) → wY_attemptOf_2 post (nI m) (nI n) (nI w) (nI sn) (nI fc) (nI st) md ins (vs_I vw) mk nw (vs_I ct) tp (vs_I hd) su jo (vs_I pr) (vs_I ac) va (vs_I sd) (vs_I wt) (vs_I mv) (vs_I mn) ho (vs_I fm) (vs_I fs) (vs_I fv) (vs_I ow) (vs_I li) re (vs_I be) pm (vs_I pc) aq (d + 1) (nI a) := by
    intro d
    induction d with
    | zero =>
      intro a e h1 ha
      have : att m = 0 := by omega
      rw [this] at h
      exact br_t (nI_lt (by omega) (by omega)) h
    | succ d ih =>
      intro a e h1 ha
      have iff := Am.2 a h1 (by omega)
      have hb := A.2.1 a
      refine br_f (nI_nlt (by omega) (by omega)) ?_
      rw [nI_clamp (show a < 2 ^ 31 by omega)]
      simp only [vs_Ia]
      refine ⟨vp_in_nI (by omega) (by omega), ?_⟩
      by_cases c1 : li a = 0
      · refine br_t (by rw [c1]; rfl) (nm_r (nI_1 a) (ih (a + 1) (by omega) (by omega) ?_))
        have : att m ≠ a := fun z => (iff.mpr z).1 c1
        omega
      · refine br_f (nI_ne0 (by omega) (by omega)) ⟨vp_in_nI (by omega) (by omega), ?_⟩
        by_cases c2 : ow a = m
        · rw [iff.mp ⟨c1, c2⟩] at h
          exact br_t (by rw [c2]) h
        · refine br_f (fun z => c2 ((nI_eq (by omega) (by omega)).mp z)) (nm_r (nI_1 a) (ih (a + 1) (by omega) (by omega) ?_))
          have : att m ≠ a := fun z => c2 (iff.mpr z).2
          omega
  exact ⟨st + 1, key st 1 (by omega) (by omega) (by omega)⟩
def vs_le (li ow : Nat → Nat) (m j : Nat) : Nat → Nat := fun a => if 1 ≤ a ∧ a < j ∧ ow a = m then 0 else li a
theorem yw_ea {post : SY → Prop} {m : Nat} (hm : m < n) (hn : n ≤ 5) (A : vs_YA n st ow li att) (h : post ((nI n), (nI w), (nI sn), (nI fc), (nI st), md, ins, (vs_I vw), mk, nw, (vs_I ct), tp, (vs_I hd), su, jo, (vs_I pr), (vs_I ac), va, (vs_I sd), (vs_I wt), (vs_I mv), (vs_I mn), ho, (vs_I fm), (vs_I fs), (vs_I fv), (vs_I ow), (vs_I (vs_le li ow m (st + 1))), re, (vs_I be), pm, (vs_I pc), aq)) : wpY_endAttempt post ((nI n), (nI w), (nI sn), (nI fc), (nI st), md, ins, (vs_I vw), mk, nw, (vs_I ct), tp, (vs_I hd), su, jo, (vs_I pr), (vs_I ac), va, (vs_I sd), (vs_I wt), (vs_I mv), (vs_I mn), ho, (vs_I fm), (vs_I fs), (vs_I fv), (vs_I ow), (vs_I li), re, (vs_I be), pm, (vs_I pc), aq) (nI m) := by
  have hst := A.2.2
  have key : ∀ d a : Nat, a + d = st + 1 → 1 ≤ a → wY_endAttempt_2 post (nI m) (nI n) (nI w) (nI sn) (nI fc) (nI st) (d + 1) (nI a) md ins (vs_I vw) mk nw (vs_I ct) tp (vs_I hd) su jo (vs_I pr) (vs_I ac) va (vs_I sd) (vs_I wt) (vs_I mv) (vs_I mn) ho (vs_I fm) (vs_I fs) (vs_I fv) (vs_I ow) (vs_I (vs_le li ow m a)) re (vs_I be) pm (vs_I pc) aq := by
    intro d
    induction d with
    | zero =>
      intro a e h1
      have e : a = st + 1 := by omega
      subst e
      exact br_t (nI_lt (by omega) (by omega)) h
    | succ d ih =>
      intro a e h1
      have iha := ih (a + 1) (by omega) (by omega)
      have hb := A.2.1 a
      refine br_f (nI_nlt (by omega) (by omega)) ?_
      rw [nI_clamp (show a < 2 ^ 31 by omega), vs_Ia]
      refine ⟨vp_in_nI (by omega) (by omega), ?_⟩
      by_cases c : ow a = m
      · have es : vs_le li ow m (a + 1) = vs_u (vs_le li ow m a) a 0 := by
          funext b
          by_cases z : b = a
          · rw [z, vs_us]; exact if_pos ⟨h1, by omega, c⟩
          · rw [vs_un z]
            show (if 1 ≤ b ∧ b < a + 1 ∧ ow b = m then _ else _) = (if 1 ≤ b ∧ b < a ∧ ow b = m then _ else _)
            by_cases y : 1 ≤ b ∧ b < a ∧ ow b = m
            · rw [if_pos y, if_pos ⟨y.1, by omega, y.2.2⟩]
            · rw [if_neg y, if_neg (fun x => y ⟨x.1, by omega, x.2.2⟩)]
        rw [es] at iha
        exact br_t (by rw [c]) ⟨vp_in_nI (by omega) (by omega), nm_r (vs_upd _ a 0) (nm_r (nI_1 a) iha)⟩
      · have es : vs_le li ow m (a + 1) = vs_le li ow m a := by
          funext b
          show (if 1 ≤ b ∧ b < a + 1 ∧ ow b = m then _ else _) = (if 1 ≤ b ∧ b < a ∧ ow b = m then _ else _)
          by_cases y : 1 ≤ b ∧ b < a ∧ ow b = m
          · rw [if_pos y, if_pos ⟨y.1, by omega, y.2.2⟩]
          · rw [if_neg y, if_neg]
            intro x
            by_cases z : b = a
            · rw [z] at x; exact c x.2.2
            · exact y ⟨x.1, by omega, x.2.2⟩
        rw [es] at iha
        exact br_f (fun z => c ((nI_eq (by omega) (by omega)).mp z)) (nm_r (nI_1 a) iha)
  have e0 : vs_le li ow m 1 = li := by
    funext b
    exact if_neg (fun z => by omega)
  have := key st 1 (by omega) (by omega)
  rw [e0] at this
  exact ⟨st + 1, this⟩
end
section
/-! Y: forget, enter, decided -/
variable {n w sn st fc : Nat} {md ins l1 l2 l3 l4 mk nw tp su jo am acu b1 b2 b3 o1 o2 xr xb xm xc xp xq xa va ho re pm aq : Nat → Int32} {lv lc vw ct dl pr ac hx bn oc att hd sd wt mv mn fm fs fv ow li be pc : Nat → Nat}
def vs_hz (ho : Nat → Int32) (m j : Nat) : Nat → Int32 := fun i => if i < j then ho i &&& (((1 : Int32) <<< (nI m &&& 31)) ^^^ (-1)) else ho i
def vs_wz (wt sd : Nat → Nat) (m j : Nat) : Nat → Nat := fun i => if i < j ∧ sd i = m then 0 else wt i
theorem vs_hz_s (ho : Nat → Int32) (m j : Nat) : vs_hz ho m (j + 1) = vs_u (vs_hz ho m j) j (vs_hz ho m j j &&& (((1 : Int32) <<< (nI m &&& 31)) ^^^ (-1))) := by
  funext i
  have e0 : vs_hz ho m j j = ho j := if_neg (by omega)
  rw [e0]
  by_cases c : i = j
  · rw [c, vs_us]; exact if_pos (by omega)
  · rw [vs_un c]
    show (if i < j + 1 then _ else _) = (if i < j then _ else _)
    by_cases d : i < j
    · rw [if_pos d, if_pos (by omega)]
    · rw [if_neg d, if_neg (by omega)]
theorem vs_wz_t {wt sd : Nat → Nat} {m j : Nat} (c : sd j = m) : vs_wz wt sd m (j + 1) = vs_u (vs_wz wt sd m j) j 0 := by
  funext i
  by_cases z : i = j
  · rw [z, vs_us]; exact if_pos ⟨by omega, c⟩
  · rw [vs_un z]
    show (if i < j + 1 ∧ sd i = m then _ else _) = (if i < j ∧ sd i = m then _ else _)
    by_cases d : i < j ∧ sd i = m
    · rw [if_pos d, if_pos ⟨by omega, d.2⟩]
    · rw [if_neg d, if_neg (fun x => d ⟨by omega, x.2⟩)]
theorem vs_wz_f {wt sd : Nat → Nat} {m j : Nat} (c : ¬ sd j = m) : vs_wz wt sd m (j + 1) = vs_wz wt sd m j := by
  funext i
  show (if i < j + 1 ∧ sd i = m then _ else _) = (if i < j ∧ sd i = m then _ else _)
  by_cases d : i < j ∧ sd i = m
  · rw [if_pos d, if_pos ⟨by omega, d.2⟩]
  · rw [if_neg d, if_neg]
    intro x
    by_cases z : i = j
    · rw [z] at x; exact c x.2
    · exact d ⟨by omega, x.2⟩
theorem yw_fg2 {post : SY → Prop} {m : Nat} (hm : m < 5) (hs : sn ≤ 48) (hsd : ∀ i, sd i ≤ 48) (h : post ((nI n), (nI w), (nI sn), (nI fc), (nI st), md, ins, (vs_I vw), mk, nw, (vs_I ct), tp, (vs_I hd), su, jo, (vs_I pr), (vs_I ac), va, (vs_I sd), (vs_I (vs_wz wt sd m sn)), (vs_I mv), (vs_I mn), (vs_hz ho m sn), (vs_I fm), (vs_I fs), (vs_I fv), (vs_I ow), (vs_I li), re, (vs_I be), pm, (vs_I pc), aq)) :
    ∀ d i : Nat, i + d = sn → wY_forget_94 post (nI m) (nI n) (nI w) (nI sn) (nI fc) (nI st) (d + 1) (nI i) md ins (vs_I vw) mk nw (vs_I ct) tp (vs_I hd) su jo (vs_I pr) (vs_I ac) va (vs_I sd) (vs_I (vs_wz wt sd m i)) (vs_I mv) (vs_I mn) (vs_hz ho m i) (vs_I fm) (vs_I fs) (vs_I fv) (vs_I ow) (vs_I li) re (vs_I be) pm (vs_I pc) aq := by
  intro d
  induction d with
  | zero =>
    intro i e
    have e : i = sn := by omega
    subst e
    exact br_t (nI_le (by omega) (by omega)) h
  | succ d ih =>
    intro i e
    have ihi := ih (i + 1) (by omega)
    have hi := pk_in (x := nI i) i 48 (by omega)
    have hsi := hsd i
    refine br_f (nI_ge (by omega) (by omega)) ?_
    rw [nI_clamp (show i < 2 ^ 31 by omega)]
    simp only [vs_Ia]
    rw [vs_hz_s] at ihi
    refine ⟨hi, hi, nm_r (vs_updA _ _ _) ⟨hi, ?_⟩⟩
    by_cases c : sd i = m
    · rw [vs_wz_t c] at ihi
      exact br_t (by rw [c]) ⟨hi, nm_r (vs_upd _ i 0) (nm_r (nI_1 i) ihi)⟩
    · rw [vs_wz_f c] at ihi
      exact br_f (fun z => c ((nI_eq (by omega) (by omega)).mp z)) (nm_r (nI_1 i) ihi)
theorem yw_fg1 {post : SY → Prop} {m : Nat} (hm : m < 5) (hs : sn ≤ 48) (hsd : ∀ i, sd i ≤ 48) (h : post ((nI n), (nI w), (nI sn), (nI fc), (nI st), md, ins, (vs_I vw), mk, nw, (vs_I ct), tp, (vs_I (vs_zr hd 5 m 5)), su, jo, (vs_I pr), (vs_I ac), va, (vs_I sd), (vs_I (vs_wz wt sd m sn)), (vs_I mv), (vs_I mn), (vs_hz ho m sn), (vs_I fm), (vs_I fs), (vs_I fv), (vs_I ow), (vs_I li), re, (vs_I be), pm, (vs_I pc), aq)) :
    ∀ d j : Nat, j + d = 5 → wY_forget_70 post (nI m) (nI n) (nI w) (nI sn) (nI fc) (nI st) (d + 1) (nI j) md ins (vs_I vw) mk nw (vs_I ct) tp (vs_I (vs_zr hd 5 m j)) su jo (vs_I pr) (vs_I ac) va (vs_I sd) (vs_I wt) (vs_I mv) (vs_I mn) ho (vs_I fm) (vs_I fs) (vs_I fv) (vs_I ow) (vs_I li) re (vs_I be) pm (vs_I pc) aq := by
  intro d
  induction d with
  | zero =>
    intro j e
    have e : j = 5 := by omega
    subst e
    refine br_t (nI_le (a := 5) (by omega) (by omega)) ⟨sn + 1, ?_⟩
    have := yw_fg2 hm hs hsd h sn 0 (by omega)
    have e1 : vs_hz ho m 0 = ho := by funext i; exact if_neg (by omega)
    have e2 : vs_wz wt sd m 0 = wt := by funext i; exact if_neg (fun z => by omega)
    rw [e1, e2] at this
    exact this
  | succ d ih =>
    intro j e
    have ihj := ih (j + 1) (by omega)
    rw [vs_zr_s (by omega)] at ihj
    refine br_f (nI_ge (b := 5) (by omega) (by omega)) ⟨?_, nm_r ?_ (nm_r (nI_1 j) ihj)⟩
    · rw [vs_i5]; exact vp_in_nI (by omega) (by omega)
    · rw [vs_i5, vs_w0 _ (by omega)]
theorem yw_forget {post : SY → Prop} {m : Nat} (hm : m < n) (hn : n ≤ 5) (A : vs_YA n st ow li att) (hs : sn ≤ 48) (hsd : ∀ i, sd i ≤ 48)
    (h : post ((nI n), (nI w), (nI sn), (nI fc), (nI st), md, ins, (vs_I (vs_u vw m 0)), (vs_u mk m 0), (vs_u nw m 0), (vs_I (vs_u ct m 0)), (vs_u tp m 0), (vs_I (vs_zr hd 5 m 5)), (vs_u su m 0), (vs_u jo m 0), (vs_I (vs_u pr m 0)), (vs_I (vs_u ac m 0)), va, (vs_I sd), (vs_I (vs_wz wt sd m sn)), (vs_I mv), (vs_I mn), (vs_hz ho m sn), (vs_I fm), (vs_I fs), (vs_I fv), (vs_I ow), (vs_I (vs_le li ow m (st + 1))), re, (vs_I be), pm, (vs_I pc), aq)) :
    wpY_forget post ((nI n), (nI w), (nI sn), (nI fc), (nI st), md, ins, (vs_I vw), mk, nw, (vs_I ct), tp, (vs_I hd), su, jo, (vs_I pr), (vs_I ac), va, (vs_I sd), (vs_I wt), (vs_I mv), (vs_I mn), ho, (vs_I fm), (vs_I fs), (vs_I fv), (vs_I ow), (vs_I li), re, (vs_I be), pm, (vs_I pc), aq) (nI m) := by
  have hi := vs_in5 (show m < 5 by omega)
  have hm' : m < 2 ^ 31 := by omega
  refine yw_ea hm hn A ?_
  refine ⟨hi, nm_r (vs_w0 vw hm') ⟨hi, nm_r (vs_wA mk 0 hm') ⟨hi, nm_r (vs_wA nw 0 hm') ⟨hi, nm_r (vs_w0 ct hm') ⟨hi, nm_r (vs_wA tp 0 hm') ⟨hi, nm_r (vs_wA su 0 hm') ⟨hi, nm_r (vs_wA jo 0 hm') ⟨hi, nm_r (vs_w0 pr hm') ⟨hi, nm_r (vs_w0 ac hm') ⟨5 + 1, ?_⟩⟩⟩⟩⟩⟩⟩⟩⟩⟩
  have := yw_fg1 (show m < 5 by omega) hs hsd h 5 0 (by omega)
  rw [vs_zr_0] at this
  exact this
theorem yw_enter {post : SY → Prop} {m v c : Nat} {s f : Int32} (hm : m < n) (hn : n ≤ 5) (A : vs_YA n st ow li att) (hs : sn ≤ 48) (hsd : ∀ i, sd i ≤ 48) (hv : 1 ≤ v)
    (h : post ((nI n), (nI w), (nI sn), (nI fc), (nI st), (vs_u md m 2), (vs_u ins m (ins m ||| ((1 : Int32) <<< (nI (v - 1) &&& 31)))), (vs_I (vs_u vw m v)), (vs_u mk m s), (vs_u nw m f), (vs_I (vs_u ct m c)), (vs_u tp m 0), (vs_I (vs_zr hd 5 m 5)), (vs_u su m 0), (vs_u jo m 0), (vs_I (vs_u pr m 0)), (vs_I (vs_u ac m 0)), va, (vs_I sd), (vs_I (vs_wz wt sd m sn)), (vs_I mv), (vs_I mn), (vs_hz ho m sn), (vs_I fm), (vs_I fs), (vs_I fv), (vs_I ow), (vs_I (vs_le li ow m (st + 1))), re, (vs_I be), pm, (vs_I pc), aq)) :
    wpY_enter post ((nI n), (nI w), (nI sn), (nI fc), (nI st), md, ins, (vs_I vw), mk, nw, (vs_I ct), tp, (vs_I hd), su, jo, (vs_I pr), (vs_I ac), va, (vs_I sd), (vs_I wt), (vs_I mv), (vs_I mn), ho, (vs_I fm), (vs_I fs), (vs_I fv), (vs_I ow), (vs_I li), re, (vs_I be), pm, (vs_I pc), aq) (nI m) (nI v) s f (nI c) := by
  have hi := vs_in5 (show m < 5 by omega)
  have hm' : m < 2 ^ 31 := by omega
  refine yw_forget hm hn A hs hsd ?_
  refine ⟨hi, nm_r (vs_wA md 2 hm') ⟨hi, nm_r ((vs_w _ v hm').trans (congrArg vs_I (vs_uu vw m 0 v))) ⟨hi, nm_r ((vs_wA _ s hm').trans (vs_uu mk m 0 s)) ⟨hi, nm_r ((vs_wA _ f hm').trans (vs_uu nw m 0 f)) ⟨hi, nm_r ((vs_w _ c hm').trans (congrArg vs_I (vs_uu ct m 0 c))) ⟨hi, hi, nm_r (e' := vs_u ins m (ins m ||| ((1 : Int32) <<< (nI (v - 1) &&& 31)))) ?_ h⟩⟩⟩⟩⟩⟩
  rw [vs_sub1 (by omega), nI_clamp hm']; rfl
theorem yw_dec1 {post : Int32 → Prop} {m : Nat} (hm : m < n) (hn : n ≤ 5) (A : vs_YA n st ow li att) (hp : ¬ pm (att m) = 0) (hj : vs_sz (mk m) 5 < 2 * vs_sz (aq (att m)) 5) (h : post 1) : wpY_decided post ((nI n), (nI w), (nI sn), (nI fc), (nI st), md, ins, (vs_I vw), mk, nw, (vs_I ct), tp, (vs_I hd), su, jo, (vs_I pr), (vs_I ac), va, (vs_I sd), (vs_I wt), (vs_I mv), (vs_I mn), ho, (vs_I fm), (vs_I fs), (vs_I fv), (vs_I ow), (vs_I li), re, (vs_I be), pm, (vs_I pc), aq) (nI m) := by
  have := (A.1 m hm).1
  have := A.2.2
  refine yw_attemptOf hm hn A ?_
  rw [nI_clamp (show att m < 2 ^ 31 by omega), nI_clamp (show m < 2 ^ 31 by omega)]
  exact ⟨vp_in_nI (by omega) (by omega), br_f hp ⟨vp_in_nI (by omega) (by omega), vs_in5 (by omega), yw_maj1 hj (br_f (by decide) h)⟩⟩
theorem yw_dec0 {post : Int32 → Prop} {m : Nat} (hm : m < n) (hn : n ≤ 5) (A : vs_YA n st ow li att) (hp : ¬ (¬ pm (att m) = 0 ∧ vs_sz (mk m) 5 < 2 * vs_sz (aq (att m)) 5)) (h : post 0) : wpY_decided post ((nI n), (nI w), (nI sn), (nI fc), (nI st), md, ins, (vs_I vw), mk, nw, (vs_I ct), tp, (vs_I hd), su, jo, (vs_I pr), (vs_I ac), va, (vs_I sd), (vs_I wt), (vs_I mv), (vs_I mn), ho, (vs_I fm), (vs_I fs), (vs_I fv), (vs_I ow), (vs_I li), re, (vs_I be), pm, (vs_I pc), aq) (nI m) := by
  have := (A.1 m hm).1
  have := A.2.2
  refine yw_attemptOf hm hn A ?_
  rw [nI_clamp (show att m < 2 ^ 31 by omega), nI_clamp (show m < 2 ^ 31 by omega)]
  refine ⟨vp_in_nI (by omega) (by omega), ?_⟩
  by_cases c : pm (att m) = 0
  · exact br_t c h
  · exact br_f c ⟨vp_in_nI (by omega) (by omega), vs_in5 (by omega), yw_maj0 (fun z => hp ⟨c, z⟩) (br_t rfl h)⟩
end
section
/-! the invariant, in groups -/
def vs_gM (n : Nat) (md : Nat → Int32) (vw : Nat → Nat) : Prop :=
  ∀ m, m < n → (md m = 0 ∨ md m = 1 ∨ md m = 2 ∨ md m = 3) ∧ ((md m = 2 ∨ md m = 3) ↔ vw m ≠ 0)
def vs_gI (n : Nat) (ins : Nat → Int32) (lv : Nat → Nat) : Prop :=
  ∀ m, m < n → 1 ≤ lv m ∧ lv m ≤ 16 ∧ (∀ v, bt (ins m) v = true → v < lv m) ∧ bt (ins m) (lv m - 1) = true
def vs_gV (n : Nat) (vw lv : Nat → Nat) (mk nw VM : Nat → Int32) : Prop :=
  (∀ m, m < n → vw m ≠ 0 → vw m = lv m ∧ mk m = VM (vw m) ∧ nw m = VM (vw m) &&& (VM (vw m - 1) ^^^ (-1)) ∧ bt (VM (vw m)) m = true) ∧ (∀ v j, bt (VM v) j = true → j < n)
def vs_gJ (n : Nat) (vw : Nat → Nat) (jo VM : Nat → Int32) : Prop :=
  ∀ m, m < n → vw m ≠ 0 → ∀ j, bt (jo m) j = true → j < n ∧ bt (VM (vw m)) j = false
def vs_gS (n : Nat) (vw : Nat → Nat) (su : Nat → Int32) : Prop := ∀ m, m < n → vw m ≠ 0 → bt (su m) m = false
def vs_gT (n sn : Nat) (mv mn wt sd : Nat → Nat) : Prop :=
  (∀ i, mv i ≠ 0 → i < sn ∧ 1 ≤ mn i ∧ mn i ≤ vs_N mv (mv i) ∧ wt i = 0) ∧ (∀ v k, v ≠ 0 → 1 ≤ k → k ≤ vs_N mv v → ∃ i, mv i = v ∧ mn i = k)
  ∧ (∀ i i', mv i ≠ 0 → mv i = mv i' → mn i = mn i' → i = i') ∧ (∀ i, sn ≤ i → wt i = 0) ∧ (∀ i, wt i ≤ 48 ∧ sd i ≤ 48) ∧ sn ≤ 48 ∧ (∀ i, mv i ≤ 48 ∧ mn i ≤ 48)
def vs_gE (mv : Nat → Nat) (ho : Nat → Int32) : Prop := ∀ i, mv i = 0 → ∀ j, bt (ho i) j = false
def vs_gL (n : Nat) (lv mv mn : Nat → Nat) (lg : Nat → List (Nat × Nat)) : Prop :=
  ∀ m, m < n → (∀ i v, (i, v) ∈ lg m → v ≠ 0 ∧ mv i = v ∧ mn i ≤ vs_D (lg m) v ∧ v ≤ lv m) ∧ ((lg m).map Prod.fst).Nodup ∧ (∀ v, v ≠ 0 → vs_D (lg m) v ≤ vs_N mv v)
def vs_gD (n : Nat) (vw dl : Nat → Nat) (lg : Nat → List (Nat × Nat)) : Prop :=
  ∀ m, m < n → (vw m ≠ 0 → vs_D (lg m) (vw m) = dl m) ∧ (vw m = 0 → dl m = 0)
def vs_gH (n : Nat) (vw dl mv : Nat → Nat) (H : Nat → Nat → Bool) : Prop :=
  ∀ m, m < n → (∀ k, H m k = true → vw m ≠ 0 ∧ 1 ≤ k ∧ k ≤ vs_N mv (vw m)) ∧ (vw m ≠ 0 → ∀ k, 1 ≤ k → k ≤ dl m → H m k = true)
def vs_gN (n : Nat) (md : Nat → Int32) (dl : Nat → Nat) (H : Nat → Nat → Bool) : Prop := ∀ m, m < n → md m = 2 → H m (dl m + 1) = false
def vs_gO (n w : Nat) (lv vw dl mv : Nat → Nat) (lg : Nat → List (Nat × Nat)) (VM : Nat → Int32) : Prop :=
  (∀ v j, v ≠ 0 → bt (VM v) j = true → vs_N mv v ≤ vs_D (lg j) v + w)
  ∧ (∀ v q, v ≠ 0 → bt (VM v) q = true → (∀ j, j < q → bt (VM v) j = false) → (vw q = v → vs_N mv v = dl q) ∧ (lv q < v → vs_N mv v = 0))
  ∧ (∀ v, v ≠ 0 → (∀ m, m < n → lv m < v) → vs_N mv v = 0)
def vs_gK (n : Nat) (vw hd : Nat → Nat) (lg : Nat → List (Nat × Nat)) (VM : Nat → Int32) : Prop :=
  ∀ m, m < n → vw m ≠ 0 → ∀ j, j ≠ m → bt (VM (vw m)) j = true → hd (m * 5 + j) ≤ vs_D (lg j) (vw m)
/-- attempts -/
def vs_gA (n st : Nat) (md re : Nat → Int32) (vw pr att av : Nat → Nat) : Prop :=
  ∀ m, m < n → att m ≤ st ∧ (att m ≠ 0 → vw m ≠ 0 ∧ vw m = av (att m) ∧ pr m = att m ∧ md m = 3 ∧ bt (re (att m)) m = true)
def vs_gR (n st : Nat) (md re VM : Nat → Int32) (vw lv pr av : Nat → Nat) : Prop :=
  ∀ a, 1 ≤ a → a ≤ st → 1 ≤ av a ∧ av a ≤ 15 ∧ (∃ m, bt (re a) m = true) ∧ ∀ m, bt (re a) m = true → m < n ∧ bt (VM (av a)) m = true ∧ av a ≤ lv m ∧ (vw m = av a → a ≤ pr m ∧ md m = 3)
def vs_gQ (n st : Nat) (pm aq VM : Nat → Int32) (vw lv ac av : Nat → Nat) : Prop :=
  ∀ a, 1 ≤ a → a ≤ st → ∀ m, bt (aq a) m = true → m < n ∧ bt (VM (av a)) m = true ∧ pm a ≠ 0 ∧ av a ≤ lv m ∧ (vw m = av a → a ≤ ac m)
def vs_gB (n st : Nat) (pm : Nat → Int32) (vw pr ac av : Nat → Nat) : Prop :=
  ∀ m, m < n → ac m ≤ pr m ∧ pr m ≤ st ∧ (ac m ≠ 0 → vw m ≠ 0 ∧ av (ac m) = vw m ∧ pm (ac m) ≠ 0)
def vs_g2 (st : Nat) (re aq : Nat → Int32) (be av : Nat → Nat) : Prop :=
  ∀ a b m, 1 ≤ b → b < a → a ≤ st → av b = av a → bt (re a) m = true → bt (aq b) m = true → b ≤ be a
def vs_g3 (st : Nat) (pm : Nat → Int32) (be pc av : Nat → Nat) : Prop :=
  ∀ a, 1 ≤ a → a ≤ st → (be a ≠ 0 → be a < a ∧ av (be a) = av a ∧ pm (be a) ≠ 0) ∧ (pm a ≠ 0 → be a ≠ 0 → pm a = pm (be a) ∧ pc a = pc (be a))
def vs_g4 (n st : Nat) (re pm VM : Nat → Int32) (av : Nat → Nat) : Prop :=
  ∀ a, 1 ≤ a → a ≤ st → pm a ≠ 0 → vs_sz (VM (av a)) n < 2 * vs_sz (re a) n
def vs_g5 (n st : Nat) (pm aq VM : Nat → Int32) (pc av VC : Nat → Nat) : Prop :=
  ∀ a, 1 ≤ a → a ≤ st → pm a ≠ 0 → vs_sz (VM (av a)) n < 2 * vs_sz (aq a) n → VM (av a + 1) = pm a ∧ VC (av a + 1) = pc a
def vs_g6 (n st : Nat) (pm aq VM : Nat → Int32) (lv av : Nat → Nat) : Prop :=
  ∀ m, m < n → ∀ x, 1 ≤ x → x < lv m → ∃ a, 1 ≤ a ∧ a ≤ st ∧ av a = x ∧ pm a ≠ 0 ∧ vs_sz (VM x) n < 2 * vs_sz (aq a) n
def vs_g7 (n : Nat) (pm : Nat → Int32) : Prop := ∀ a j, bt (pm a) j = true → j < n
def vs_g8 (st : Nat) (re pm aq : Nat → Int32) (be pc : Nat → Nat) : Prop :=
  (∀ a, (a = 0 ∨ st < a) → re a = 0 ∧ be a = 0 ∧ pm a = 0 ∧ pc a = 0 ∧ aq a = 0) ∧ (∀ a, be a ≤ 60 ∧ pc a ≤ 48)
def vs_gC1 (st : Nat) (pm : Nat → Int32) (mv pc av : Nat → Nat) : Prop := ∀ a, 1 ≤ a → a ≤ st → pm a ≠ 0 → pc a ≤ vs_N mv (av a)
def vs_gC2 (n : Nat) (H : Nat → Nat → Bool) (pm : Nat → Int32) (att be pc ac : Nat → Nat) : Prop :=
  ∀ m, m < n → (ac m ≠ 0 → ∀ k, 1 ≤ k → k ≤ pc (ac m) → H m k = true) ∧ (att m ≠ 0 → pm (att m) ≠ 0 → ∀ k, 1 ≤ k → k ≤ pc (att m) → H m k = true) ∧ (att m ≠ 0 → be (att m) ≠ 0 → ∀ k, 1 ≤ k → k ≤ pc (be (att m)) → H m k = true)
def vs_gC3 (n st : Nat) (md pm : Nat → Int32) (vw dl pc av : Nat → Nat) : Prop :=
  ∀ a m, 1 ≤ a → a ≤ st → m < n → pm a ≠ 0 → bt (pm a) m = true → vw m = av a → md m = 3 ∧ dl m ≤ pc a
def vs_gC4 (n : Nat) (H : Nat → Nat → Bool) (re : Nat → Int32) (vw dl att av : Nat → Nat) : Prop :=
  ∀ c m, c < n → m < n → att c ≠ 0 → bt (re (att c)) m = true → vw m = av (att c) → ∀ k, 1 ≤ k → k ≤ dl m → H c k = true
/-- where the messages of this view and of the last one stand in a log -/
def vs_gF (n : Nat) (vw ct dl mv mn VC : Nat → Nat) (VM : Nat → Int32) (lg : Nat → List (Nat × Nat)) : Prop :=
  ∀ m, m < n → ct m ≤ 48 ∧ (vw m ≠ 0 → dl m ≤ (lg m).length ∧ (∀ k, k < dl m → (lg m)[(lg m).length - dl m + k]? = some (vs_ix mv mn (vw m) (k + 1), vw m))
    ∧ (2 ≤ vw m → bt (VM (vw m - 1)) m = true → ct m = VC (vw m) ∧ dl m + ct m ≤ (lg m).length ∧ ∀ k, k < ct m → (lg m)[(lg m).length - dl m - ct m + k]? = some (vs_ix mv mn (vw m - 1) (k + 1), vw m - 1)))
/-- who is proposed and was of the view has been in it -/
def vs_gC5 (st : Nat) (pm VM : Nat → Int32) (lv av : Nat → Nat) : Prop := ∀ a m, 1 ≤ a → a ≤ st → pm a ≠ 0 → bt (pm a) m = true → bt (VM (av a)) m = true → av a ≤ lv m
def vs_Inv (n : Nat) (w : Nat) (sn : Nat) (st : Nat) (md : Nat → Int32) (ins : Nat → Int32) (lv : Nat → Nat) (vw : Nat → Nat) (mk : Nat → Int32) (nw : Nat → Int32) (jo : Nat → Int32) (su : Nat → Int32) (ct : Nat → Nat) (dl : Nat → Nat) (pr : Nat → Nat) (ac : Nat → Nat) (hd : Nat → Nat) (mv : Nat → Nat) (mn : Nat → Nat) (wt : Nat → Nat) (sd : Nat → Nat) (ho : Nat → Int32) (lg : Nat → List (Nat × Nat)) (H : Nat → Nat → Bool) (att : Nat → Nat) (re : Nat → Int32) (be : Nat → Nat) (pm : Nat → Int32) (pc : Nat → Nat) (aq : Nat → Int32) (av : Nat → Nat) (VM : Nat → Int32) (VC : Nat → Nat) : Prop :=
  (3 ≤ n ∧ n ≤ 5 ∧ 1 ≤ w ∧ w ≤ 8 ∧ st ≤ 60) ∧ vs_gM n md vw ∧ vs_gI n ins lv ∧ vs_gV n vw lv mk nw VM ∧ vs_gJ n vw jo VM ∧ vs_gS n vw su ∧ vs_gT n sn mv mn wt sd ∧ vs_gE mv ho ∧ vs_gL n lv mv mn lg
  ∧ vs_gD n vw dl lg ∧ vs_gH n vw dl mv H ∧ vs_gN n md dl H ∧ vs_gO n w lv vw dl mv lg VM ∧ vs_gK n vw hd lg VM
  ∧ vs_gA n st md re vw pr att av ∧ vs_gR n st md re VM vw lv pr av ∧ vs_gQ n st pm aq VM vw lv ac av ∧ vs_gB n st pm vw pr ac av
  ∧ vs_g2 st re aq be av ∧ vs_g3 st pm be pc av ∧ vs_g4 n st re pm VM av ∧ vs_g5 n st pm aq VM pc av VC ∧ vs_g6 n st pm aq VM lv av ∧ vs_g7 n pm ∧ vs_g8 st re pm aq be pc
  ∧ vs_gC1 st pm mv pc av ∧ vs_gC2 n H pm att be pc ac ∧ vs_gC3 n st md pm vw dl pc av ∧ vs_gC4 n H re vw dl att av ∧ vs_gF n vw ct dl mv mn VC VM lg ∧ vs_gC5 st pm VM lv av
/-- how X holds it -/
def vs_XA (n : Nat) (re pm aq : Nat → Int32) (att be pc ac : Nat → Nat) (xr xb xm xc xp xq xa am acu : Nat → Int32) : Prop :=
  ∀ m, m < n → xr m = re (att m) ∧ xb m = nI (be (att m)) ∧ xm m = pm (be (att m)) ∧ xc m = nI (pc (be (att m))) ∧ xp m = pm (att m) ∧ xq m = nI (pc (att m)) ∧ xa m = aq (att m) ∧ am m = pm (ac m) ∧ acu m = nI (pc (ac m))
def vs_XH (n : Nat) (dl hx hd : Nat → Nat) : Prop :=
  (∀ i, hx i ≤ 48) ∧ (∀ i, hd i ≤ 48) ∧ ∀ m, m < n → hx (m * 5 + m) = dl m ∧ ∀ j, j < n → j ≠ m → hx (m * 5 + j) = hd (m * 5 + j)
def vs_XO (n sn : Nat) (va : Nat → Int32) (wt sd oc : Nat → Nat) (o1 o2 : Nat → Int32) : Prop :=
  ∀ m, m < n → oc m = (vs_ob wt sd sn m).length ∧ oc m ≤ 4 ∧ ∀ p i, (vs_ob wt sd sn m)[p]? = some i → o1 (m * 4 + p) = nI (i + 1) ∧ o2 (m * 4 + p) = va i
def vs_RX (n : Nat) (sn : Nat) (lg : Nat → List (Nat × Nat)) (H : Nat → Nat → Bool) (vw : Nat → Nat) (mv : Nat → Nat) (mn : Nat → Nat) (va : Nat → Int32) (sd : Nat → Nat) (wt : Nat → Nat) (dl : Nat → Nat) (hd : Nat → Nat) (hx : Nat → Nat) (lc : Nat → Nat) (l1 : Nat → Int32) (l2 : Nat → Int32) (l3 : Nat → Int32) (l4 : Nat → Int32) (bn : Nat → Nat) (b1 : Nat → Int32) (b2 : Nat → Int32) (b3 : Nat → Int32) (oc : Nat → Nat) (o1 : Nat → Int32) (o2 : Nat → Int32) (att : Nat → Nat) (re : Nat → Int32) (be : Nat → Nat) (pm : Nat → Int32) (pc : Nat → Nat) (aq : Nat → Int32) (ac : Nat → Nat) (xr : Nat → Int32) (xb : Nat → Int32) (xm : Nat → Int32) (xc : Nat → Int32) (xp : Nat → Int32) (xq : Nat → Int32) (xa : Nat → Int32) (am : Nat → Int32) (acu : Nat → Int32) : Prop :=
  vs_XL n lg va sd lc l1 l2 l3 l4 ∧ vs_RA n H vw mv mn va sd bn b1 b2 b3 ∧ vs_XH n dl hx hd ∧ vs_XO n sn va wt sd oc o1 o2 ∧ vs_XA n re pm aq att be pc ac xr xb xm xc xp xq xa am acu
/-- a coordinator with a proposal has accepted it -/
def vs_gC6 (n : Nat) (pm aq : Nat → Int32) (att : Nat → Nat) : Prop := ∀ m, m < n → att m ≠ 0 → pm (att m) ≠ 0 → bt (aq (att m)) m = true
/-- who has number k knows that the others have delivered k - w -/
def vs_gC7 (n w : Nat) (vw hd : Nat → Nat) (mk : Nat → Int32) (H : Nat → Nat → Bool) : Prop := ∀ m, m < n → vw m ≠ 0 → ∀ k, H m k = true → ∀ j, j < n → j ≠ m → bt (mk m) j = true → k ≤ hd (m * 5 + j) + w
/-- how Y holds it -/
def vs_RY (n : Nat) (sn : Nat) (st : Nat) (vw : Nat → Nat) (mv : Nat → Nat) (mn : Nat → Nat) (ho : Nat → Int32) (H : Nat → Nat → Bool) (lg : Nat → List (Nat × Nat)) (fc : Nat) (fm : Nat → Nat) (fs : Nat → Nat) (fv : Nat → Nat) (ow : Nat → Nat) (li : Nat → Nat) (att : Nat → Nat) (pm : Nat → Int32) (aq : Nat → Int32) (w : Nat) (mk : Nat → Int32) (hd : Nat → Nat) : Prop := vs_YH n sn vw mv mn ho H ∧ vs_YL n lg fc fm fs fv ∧ vs_YA n st ow li att ∧ vs_gC6 n pm aq att ∧ vs_gC7 n w vw hd mk H
/-- the relation at the head of a turn -/
def i_Rel (_ : Nat) (u : SX) (v : SY) : Prop := ∃ n : Nat, ∃ w : Nat, ∃ sn : Nat, ∃ st : Nat, ∃ md : Nat → Int32, ∃ ins : Nat → Int32, ∃ lv : Nat → Nat, ∃ lc : Nat → Nat, ∃ l1 : Nat → Int32, ∃ l2 : Nat → Int32, ∃ l3 : Nat → Int32, ∃ l4 : Nat → Int32, ∃ vw : Nat → Nat, ∃ mk : Nat → Int32, ∃ nw : Nat → Int32, ∃ ct : Nat → Nat, ∃ dl : Nat → Nat, ∃ tp : Nat → Int32, ∃ su : Nat → Int32, ∃ jo : Nat → Int32, ∃ pr : Nat → Nat, ∃ ac : Nat → Nat, ∃ am : Nat → Int32, ∃ acu : Nat → Int32, ∃ hx : Nat → Nat, ∃ bn : Nat → Nat, ∃ b1 : Nat → Int32, ∃ b2 : Nat → Int32, ∃ b3 : Nat → Int32, ∃ oc : Nat → Nat, ∃ o1 : Nat → Int32, ∃ o2 : Nat → Int32, ∃ att : Nat → Nat, ∃ xr : Nat → Int32, ∃ xb : Nat → Int32, ∃ xm : Nat → Int32, ∃ xc : Nat → Int32, ∃ xp : Nat → Int32, ∃ xq : Nat → Int32, ∃ xa : Nat → Int32, ∃ fc : Nat, ∃ hd : Nat → Nat, ∃ va : Nat → Int32, ∃ sd : Nat → Nat, ∃ wt : Nat → Nat, ∃ mv : Nat → Nat, ∃ mn : Nat → Nat, ∃ ho : Nat → Int32, ∃ fm : Nat → Nat, ∃ fs : Nat → Nat, ∃ fv : Nat → Nat, ∃ ow : Nat → Nat, ∃ li : Nat → Nat, ∃ re : Nat → Int32, ∃ be : Nat → Nat, ∃ pm : Nat → Int32, ∃ pc : Nat → Nat, ∃ aq : Nat → Int32, ∃ lg : Nat → List (Nat × Nat), ∃ H : Nat → Nat → Bool, ∃ av : Nat → Nat, ∃ VM : Nat → Int32, ∃ VC : Nat → Nat, u = ((nI n), (nI w), (nI sn), (nI st), md, ins, (vs_I lv), (vs_I lc), l1, l2, l3, l4, (vs_I vw), mk, nw, (vs_I ct), (vs_I dl), tp, su, jo, (vs_I pr), (vs_I ac), am, acu, (vs_I hx), (vs_I bn), b1, b2, b3, (vs_I oc), o1, o2, (vs_I att), xr, xb, xm, xc, xp, xq, xa) ∧ v = ((nI n), (nI w), (nI sn), (nI fc), (nI st), md, ins, (vs_I vw), mk, nw, (vs_I ct), tp, (vs_I hd), su, jo, (vs_I pr), (vs_I ac), va, (vs_I sd), (vs_I wt), (vs_I mv), (vs_I mn), ho, (vs_I fm), (vs_I fs), (vs_I fv), (vs_I ow), (vs_I li), re, (vs_I be), pm, (vs_I pc), aq) ∧ vs_Inv n w sn st md ins lv vw mk nw jo su ct dl pr ac hd mv mn wt sd ho lg H att re be pm pc aq av VM VC ∧ vs_RX n sn lg H vw mv mn va sd wt dl hd hx lc l1 l2 l3 l4 bn b1 b2 b3 oc o1 o2 att re be pm pc aq ac xr xb xm xc xp xq xa am acu ∧ vs_RY n sn st vw mv mn ho H lg fc fm fs fv ow li att pm aq w mk hd
theorem i_up {k : Nat} {u : SX} {v : SY} (h : i_Rel k u v) : i_Rel (k + 4) u v := h
theorem zz_el {P : SX → SY → Prop} {k : Nat} {u : SX} {v : SY} (zg : ∀ (n : Nat) (w : Nat) (sn : Nat) (st : Nat) (md : Nat → Int32) (ins : Nat → Int32) (lv : Nat → Nat) (lc : Nat → Nat) (l1 : Nat → Int32) (l2 : Nat → Int32) (l3 : Nat → Int32) (l4 : Nat → Int32) (vw : Nat → Nat) (mk : Nat → Int32) (nw : Nat → Int32) (ct : Nat → Nat) (dl : Nat → Nat) (tp : Nat → Int32) (su : Nat → Int32) (jo : Nat → Int32) (pr : Nat → Nat) (ac : Nat → Nat) (am : Nat → Int32) (acu : Nat → Int32) (hx : Nat → Nat) (bn : Nat → Nat) (b1 : Nat → Int32) (b2 : Nat → Int32) (b3 : Nat → Int32) (oc : Nat → Nat) (o1 : Nat → Int32) (o2 : Nat → Int32) (att : Nat → Nat) (xr : Nat → Int32) (xb : Nat → Int32) (xm : Nat → Int32) (xc : Nat → Int32) (xp : Nat → Int32) (xq : Nat → Int32) (xa : Nat → Int32) (fc : Nat) (hd : Nat → Nat) (va : Nat → Int32) (sd : Nat → Nat) (wt : Nat → Nat) (mv : Nat → Nat) (mn : Nat → Nat) (ho : Nat → Int32) (fm : Nat → Nat) (fs : Nat → Nat) (fv : Nat → Nat) (ow : Nat → Nat) (li : Nat → Nat) (re : Nat → Int32) (be : Nat → Nat) (pm : Nat → Int32) (pc : Nat → Nat) (aq : Nat → Int32) (lg : Nat → List (Nat × Nat)) (H : Nat → Nat → Bool) (av : Nat → Nat) (VM : Nat → Int32) (VC : Nat → Nat), vs_Inv n w sn st md ins lv vw mk nw jo su ct dl pr ac hd mv mn wt sd ho lg H att re be pm pc aq av VM VC → vs_RX n sn lg H vw mv mn va sd wt dl hd hx lc l1 l2 l3 l4 bn b1 b2 b3 oc o1 o2 att re be pm pc aq ac xr xb xm xc xp xq xa am acu → vs_RY n sn st vw mv mn ho H lg fc fm fs fv ow li att pm aq w mk hd → P ((nI n), (nI w), (nI sn), (nI st), md, ins, (vs_I lv), (vs_I lc), l1, l2, l3, l4, (vs_I vw), mk, nw, (vs_I ct), (vs_I dl), tp, su, jo, (vs_I pr), (vs_I ac), am, acu, (vs_I hx), (vs_I bn), b1, b2, b3, (vs_I oc), o1, o2, (vs_I att), xr, xb, xm, xc, xp, xq, xa) ((nI n), (nI w), (nI sn), (nI fc), (nI st), md, ins, (vs_I vw), mk, nw, (vs_I ct), tp, (vs_I hd), su, jo, (vs_I pr), (vs_I ac), va, (vs_I sd), (vs_I wt), (vs_I mv), (vs_I mn), ho, (vs_I fm), (vs_I fs), (vs_I fv), (vs_I ow), (vs_I li), re, (vs_I be), pm, (vs_I pc), aq)) (zh0 : i_Rel k u v) : P u v :=
  have zf : ∀ (n : Nat) (w : Nat) (sn : Nat) (st : Nat) (md : Nat → Int32) (ins : Nat → Int32) (lv : Nat → Nat) (lc : Nat → Nat) (l1 : Nat → Int32) (l2 : Nat → Int32) (l3 : Nat → Int32) (l4 : Nat → Int32) (vw : Nat → Nat) (mk : Nat → Int32) (nw : Nat → Int32) (ct : Nat → Nat) (dl : Nat → Nat) (tp : Nat → Int32) (su : Nat → Int32) (jo : Nat → Int32) (pr : Nat → Nat) (ac : Nat → Nat) (am : Nat → Int32) (acu : Nat → Int32) (hx : Nat → Nat) (bn : Nat → Nat) (b1 : Nat → Int32) (b2 : Nat → Int32) (b3 : Nat → Int32) (oc : Nat → Nat) (o1 : Nat → Int32) (o2 : Nat → Int32) (att : Nat → Nat) (xr : Nat → Int32) (xb : Nat → Int32) (xm : Nat → Int32) (xc : Nat → Int32) (xp : Nat → Int32) (xq : Nat → Int32) (xa : Nat → Int32) (fc : Nat) (hd : Nat → Nat) (va : Nat → Int32) (sd : Nat → Nat) (wt : Nat → Nat) (mv : Nat → Nat) (mn : Nat → Nat) (ho : Nat → Int32) (fm : Nat → Nat) (fs : Nat → Nat) (fv : Nat → Nat) (ow : Nat → Nat) (li : Nat → Nat) (re : Nat → Int32) (be : Nat → Nat) (pm : Nat → Int32) (pc : Nat → Nat) (aq : Nat → Int32) (lg : Nat → List (Nat × Nat)) (H : Nat → Nat → Bool) (av : Nat → Nat) (VM : Nat → Int32) (VC : Nat → Nat), (u = ((nI n), (nI w), (nI sn), (nI st), md, ins, (vs_I lv), (vs_I lc), l1, l2, l3, l4, (vs_I vw), mk, nw, (vs_I ct), (vs_I dl), tp, su, jo, (vs_I pr), (vs_I ac), am, acu, (vs_I hx), (vs_I bn), b1, b2, b3, (vs_I oc), o1, o2, (vs_I att), xr, xb, xm, xc, xp, xq, xa) ∧ v = ((nI n), (nI w), (nI sn), (nI fc), (nI st), md, ins, (vs_I vw), mk, nw, (vs_I ct), tp, (vs_I hd), su, jo, (vs_I pr), (vs_I ac), va, (vs_I sd), (vs_I wt), (vs_I mv), (vs_I mn), ho, (vs_I fm), (vs_I fs), (vs_I fv), (vs_I ow), (vs_I li), re, (vs_I be), pm, (vs_I pc), aq) ∧ vs_Inv n w sn st md ins lv vw mk nw jo su ct dl pr ac hd mv mn wt sd ho lg H att re be pm pc aq av VM VC ∧ vs_RX n sn lg H vw mv mn va sd wt dl hd hx lc l1 l2 l3 l4 bn b1 b2 b3 oc o1 o2 att re be pm pc aq ac xr xb xm xc xp xq xa am acu ∧ vs_RY n sn st vw mv mn ho H lg fc fm fs fv ow li att pm aq w mk hd) → P u v := by
    intro n w sn st md ins lv lc l1 l2 l3 l4 vw mk nw ct dl tp su jo pr ac am acu hx bn b1 b2 b3 oc o1 o2 att xr xb xm xc xp xq xa fc hd va sd wt mv mn ho fm fs fv ow li re be pm pc aq lg H av VM VC zk
    obtain ⟨e1, e2, a, b, c⟩ := zk
    rw [e1, e2]
    exact zg n w sn st md ins lv lc l1 l2 l3 l4 vw mk nw ct dl tp su jo pr ac am acu hx bn b1 b2 b3 oc o1 o2 att xr xb xm xc xp xq xa fc hd va sd wt mv mn ho fm fs fv ow li re be pm pc aq lg H av VM VC a b c
  Exists.elim zh0 (fun n (zh1 : _) => Exists.elim zh1 (fun w (zh2 : _) => Exists.elim zh2 (fun sn (zh3 : _) => Exists.elim zh3 (fun st (zh4 : _) => Exists.elim zh4 (fun md (zh5 : _) => Exists.elim zh5 (fun ins (zh6 : _) => Exists.elim zh6 (fun lv (zh7 : _) => Exists.elim zh7 (fun lc (zh8 : _) => Exists.elim zh8 (fun l1 (zh9 : _) => Exists.elim zh9 (fun l2 (zh10 : _) => Exists.elim zh10 (fun l3 (zh11 : _) => Exists.elim zh11 (fun l4 (zh12 : _) => Exists.elim zh12 (fun vw (zh13 : _) => Exists.elim zh13 (fun mk (zh14 : _) => Exists.elim zh14 (fun nw (zh15 : _) => Exists.elim zh15 (fun ct (zh16 : _) => Exists.elim zh16 (fun dl (zh17 : _) => Exists.elim zh17 (fun tp (zh18 : _) => Exists.elim zh18 (fun su (zh19 : _) => Exists.elim zh19 (fun jo (zh20 : _) => Exists.elim zh20 (fun pr (zh21 : _) => Exists.elim zh21 (fun ac (zh22 : _) => Exists.elim zh22 (fun am (zh23 : _) => Exists.elim zh23 (fun acu (zh24 : _) => Exists.elim zh24 (fun hx (zh25 : _) => Exists.elim zh25 (fun bn (zh26 : _) => Exists.elim zh26 (fun b1 (zh27 : _) => Exists.elim zh27 (fun b2 (zh28 : _) => Exists.elim zh28 (fun b3 (zh29 : _) => Exists.elim zh29 (fun oc (zh30 : _) => Exists.elim zh30 (fun o1 (zh31 : _) => Exists.elim zh31 (fun o2 (zh32 : _) => Exists.elim zh32 (fun att (zh33 : _) => Exists.elim zh33 (fun xr (zh34 : _) => Exists.elim zh34 (fun xb (zh35 : _) => Exists.elim zh35 (fun xm (zh36 : _) => Exists.elim zh36 (fun xc (zh37 : _) => Exists.elim zh37 (fun xp (zh38 : _) => Exists.elim zh38 (fun xq (zh39 : _) => Exists.elim zh39 (fun xa (zh40 : _) => Exists.elim zh40 (fun fc (zh41 : _) => Exists.elim zh41 (fun hd (zh42 : _) => Exists.elim zh42 (fun va (zh43 : _) => Exists.elim zh43 (fun sd (zh44 : _) => Exists.elim zh44 (fun wt (zh45 : _) => Exists.elim zh45 (fun mv (zh46 : _) => Exists.elim zh46 (fun mn (zh47 : _) => Exists.elim zh47 (fun ho (zh48 : _) => Exists.elim zh48 (fun fm (zh49 : _) => Exists.elim zh49 (fun fs (zh50 : _) => Exists.elim zh50 (fun fv (zh51 : _) => Exists.elim zh51 (fun ow (zh52 : _) => Exists.elim zh52 (fun li (zh53 : _) => Exists.elim zh53 (fun re (zh54 : _) => Exists.elim zh54 (fun be (zh55 : _) => Exists.elim zh55 (fun pm (zh56 : _) => Exists.elim zh56 (fun pc (zh57 : _) => Exists.elim zh57 (fun aq (zh58 : _) => Exists.elim zh58 (fun lg (zh59 : _) => Exists.elim zh59 (fun H (zh60 : _) => Exists.elim zh60 (fun av (zh61 : _) => Exists.elim zh61 (fun VM (zh62 : _) => Exists.elim zh62 (fun VC (zh63 : _) => zf n w sn st md ins lv lc l1 l2 l3 l4 vw mk nw ct dl tp su jo pr ac am acu hx bn b1 b2 b3 oc o1 o2 att xr xb xm xc xp xq xa fc hd va sd wt mv mn ho fm fs fv ow li re be pm pc aq lg H av VM VC zh63)))))))))))))))))))))))))))))))))))))))))))))))))))))))))))))))
variable {n w sn st fc : Nat} {md ins l1 l2 l3 l4 mk nw tp su jo am acu b1 b2 b3 o1 o2 xr xb xm xc xp xq xa va ho re pm aq VM : Nat → Int32} {lv lc vw ct dl pr ac hx bn oc att hd sd wt mv mn fm fs fv ow li be pc av VC : Nat → Nat} {lg : Nat → List (Nat × Nat)} {H : Nat → Nat → Bool}
theorem zz_in {k : Nat} (a : vs_Inv n w sn st md ins lv vw mk nw jo su ct dl pr ac hd mv mn wt sd ho lg H att re be pm pc aq av VM VC) (b : vs_RX n sn lg H vw mv mn va sd wt dl hd hx lc l1 l2 l3 l4 bn b1 b2 b3 oc o1 o2 att re be pm pc aq ac xr xb xm xc xp xq xa am acu) (c : vs_RY n sn st vw mv mn ho H lg fc fm fs fv ow li att pm aq w mk hd) : i_Rel k ((nI n), (nI w), (nI sn), (nI st), md, ins, (vs_I lv), (vs_I lc), l1, l2, l3, l4, (vs_I vw), mk, nw, (vs_I ct), (vs_I dl), tp, su, jo, (vs_I pr), (vs_I ac), am, acu, (vs_I hx), (vs_I bn), b1, b2, b3, (vs_I oc), o1, o2, (vs_I att), xr, xb, xm, xc, xp, xq, xa) ((nI n), (nI w), (nI sn), (nI fc), (nI st), md, ins, (vs_I vw), mk, nw, (vs_I ct), tp, (vs_I hd), su, jo, (vs_I pr), (vs_I ac), va, (vs_I sd), (vs_I wt), (vs_I mv), (vs_I mn), ho, (vs_I fm), (vs_I fs), (vs_I fv), (vs_I ow), (vs_I li), re, (vs_I be), pm, (vs_I pc), aq) :=
  ⟨n, w, sn, st, md, ins, lv, lc, l1, l2, l3, l4, vw, mk, nw, ct, dl, tp, su, jo, pr, ac, am, acu, hx, bn, b1, b2, b3, oc, o1, o2, att, xr, xb, xm, xc, xp, xq, xa, fc, hd, va, sd, wt, mv, mn, ho, fm, fs, fv, ow, li, re, be, pm, pc, aq, lg, H, av, VM, VC, rfl, rfl, a, b, c⟩
end
section
/-! the easy calls -/
theorem i_vc_sends {k : Nat} {u : SX} {v : SY} (I : i_Rel k u v) (hk : k + 4 ≤ 2050) : wpX_sends (fun r => wpY_sends (fun r' => r' = r ∧ i_Rel (k + 4) u v) v) u := by
  refine zz_el (P := fun u v => wpX_sends (fun r => wpY_sends (fun r' => r' = r ∧ i_Rel (k + 4) u v) v) u) ?_ I
  intro n w sn st md ins lv lc l1 l2 l3 l4 vw mk nw ct dl tp su jo pr ac am acu hx bn b1 b2 b3 oc o1 o2 att xr xb xm xc xp xq xa fc hd va sd wt mv mn ho fm fs fv ow li re be pm pc aq lg H av VM VC hI hX hY
  exact ⟨rfl, zz_in hI hX hY⟩
theorem i_vc_attempts {k : Nat} {u : SX} {v : SY} (I : i_Rel k u v) (hk : k + 4 ≤ 2050) : wpX_attempts (fun r => wpY_attempts (fun r' => r' = r ∧ i_Rel (k + 4) u v) v) u := by
  refine zz_el (P := fun u v => wpX_attempts (fun r => wpY_attempts (fun r' => r' = r ∧ i_Rel (k + 4) u v) v) u) ?_ I
  intro n w sn st md ins lv lc l1 l2 l3 l4 vw mk nw ct dl tp su jo pr ac am acu hx bn b1 b2 b3 oc o1 o2 att xr xb xm xc xp xq xa fc hd va sd wt mv mn ho fm fs fv ow li re be pm pc aq lg H av VM VC hI hX hY
  exact ⟨rfl, zz_in hI hX hY⟩
theorem vs_md3_M {n m : Nat} {md : Nat → Int32} {vw : Nat → Nat} (g : vs_gM n md vw) (hv : vw m ≠ 0) : vs_gM n (vs_u md m 3) vw := by
  intro a ha
  by_cases c : a = m
  · subst c
    rw [vs_us]
    exact ⟨Or.inr (Or.inr (Or.inr rfl)), ⟨fun _ => hv, fun _ => Or.inr rfl⟩⟩
  · rw [vs_un c]; exact g a ha
theorem vs_md3_N {n m : Nat} {md : Nat → Int32} {dl : Nat → Nat} {H : Nat → Nat → Bool} (g : vs_gN n md dl H) : vs_gN n (vs_u md m 3) dl H := by
  intro a ha h
  by_cases c : a = m
  · rw [c, vs_us] at h; exact absurd h (by decide)
  · rw [vs_un c] at h; exact g a ha h
theorem vs_md3_A {n st m : Nat} {md re : Nat → Int32} {vw pr att av : Nat → Nat} (g : vs_gA n st md re vw pr att av) : vs_gA n st (vs_u md m 3) re vw pr att av := by
  intro a ha
  have h := g a ha
  refine ⟨h.1, fun z => ?_⟩
  have h2 := h.2 z
  refine ⟨h2.1, h2.2.1, h2.2.2.1, ?_, h2.2.2.2.2⟩
  by_cases c : a = m
  · rw [c, vs_us]
  · rw [vs_un c]; exact h2.2.2.2.1
theorem vs_md3_R {n st m : Nat} {md re VM : Nat → Int32} {vw lv pr av : Nat → Nat} (g : vs_gR n st md re VM vw lv pr av) : vs_gR n st (vs_u md m 3) re VM vw lv pr av := by
  intro a h1 h2
  have h := g a h1 h2
  refine ⟨h.1, h.2.1, h.2.2.1, fun j hj => ?_⟩
  have t := h.2.2.2 j hj
  refine ⟨t.1, t.2.1, t.2.2.1, fun z => ⟨(t.2.2.2 z).1, ?_⟩⟩
  by_cases c : j = m
  · rw [c, vs_us]
  · rw [vs_un c]; exact (t.2.2.2 z).2
theorem vs_md3_C {n st m : Nat} {md pm : Nat → Int32} {vw dl pc av : Nat → Nat} (g : vs_gC3 n st md pm vw dl pc av) : vs_gC3 n st (vs_u md m 3) pm vw dl pc av := by
  intro a j h1 h2 h3 h4 h5 h6
  have h := g a j h1 h2 h3 h4 h5 h6
  refine ⟨?_, h.2⟩
  by_cases c : j = m
  · rw [c, vs_us]
  · rw [vs_un c]; exact h.1
theorem vs_su_S {n m s : Nat} {vw : Nat → Nat} {su : Nat → Int32} (g : vs_gS n vw su) (hs : s < 32) (hne : s ≠ m) : vs_gS n vw (vs_u su m (su m ||| ((1 : Int32) <<< (nI s &&& 31)))) := by
  intro a ha hv
  by_cases c : a = m
  · subst c
    rw [vs_us, vs_bor _ hs, g a ha hv, decide_eq_false (by omega)]
    rfl
  · rw [vs_un c]; exact g a ha hv
theorem i_vc_suspect {k : Nat} {u : SX} {v : SY} (I : i_Rel k u v) (hk : k + 4 ≤ 2050) (v1 : Int32) (v2 : Int32) : wpX_suspect (fun r u' => wpY_suspect (fun r' v' => r' = r ∧ i_Rel (k + 4) u' v') v v1 v2) u v1 v2 := by
  refine zz_el (P := fun u v => wpX_suspect (fun r u' => wpY_suspect (fun r' v' => r' = r ∧ i_Rel (k + 4) u' v') v v1 v2) u v1 v2) ?_ I
  intro n w sn st md ins lv lc l1 l2 l3 l4 vw mk nw ct dl tp su jo pr ac am acu hx bn b1 b2 b3 oc o1 o2 att xr xb xm xc xp xq xa fc hd va sd wt mv mn ho fm fs fv ow li re be pm pc aq lg H av VM VC hI hX hY
  obtain ⟨⟨hn3, hn5, hw1, hw8, hst⟩, gM, gI, gV, gJ, gS, gT, gE, gL, gD, gH, gN, gO, gK, gA, gR, gQ, gB, g2, g3, g4, g5, g6, g7, g8, gC1, gC2, gC3, gC4, gF, gC5⟩ := hI
  obtain ⟨XL, RA, XH, XO, XA⟩ := hX
  obtain ⟨YH, YL, YA, Y6, Y7⟩ := hY
  unfold wpX_suspect wpY_suspect
  rcases vs_arg n hn5 v1 with hb | ⟨m, hm, rfl⟩
  · exact xw_bad1 hb (br_f (by decide) (yw_bad1 hb (br_f (by decide) ⟨by trivial, (zz_in ⟨⟨hn3, hn5, hw1, hw8, hst⟩, gM, gI, gV, gJ, gS, gT, gE, gL, gD, gH, gN, gO, gK, gA, gR, gQ, gB, g2, g3, g4, g5, g6, g7, g8, gC1, gC2, gC3, gC4, gF, gC5⟩ ⟨XL, RA, XH, XO, XA⟩ ⟨YH, YL, YA, Y6, Y7⟩)⟩)))
  rcases vs_arg n hn5 v2 with hb | ⟨s, hs, rfl⟩
  · exact xw_bad0 hm hn5 (br_t rfl (xw_bad1 hb (br_f (by decide) (yw_bad0 hm hn5 (br_t rfl (yw_bad1 hb (br_f (by decide) ⟨by trivial, (zz_in ⟨⟨hn3, hn5, hw1, hw8, hst⟩, gM, gI, gV, gJ, gS, gT, gE, gL, gD, gH, gN, gO, gK, gA, gR, gQ, gB, g2, g3, g4, g5, g6, g7, g8, gC1, gC2, gC3, gC4, gF, gC5⟩ ⟨XL, RA, XH, XO, XA⟩ ⟨YH, YL, YA, Y6, Y7⟩)⟩)))))))
  simp only [nI_clamp (show m < 2 ^ 31 by omega)]
  have hm5 : m < 5 := by omega
  have hi := vs_in5 hm5
  refine xw_bad0 hm hn5 (br_t rfl (xw_bad0 hs hn5 (br_t rfl ?_)))
  by_cases hv : md m = 2 ∨ md m = 3
  · refine xw_iv1 hm5 hv (br_f (by decide) ?_)
    by_cases c1 : s = m
    · subst c1
      exact br_t rfl (yw_bad0 hm hn5 (br_t rfl (yw_bad0 hs hn5 (br_t rfl (yw_iv1 hm5 hv (br_f (by decide) (br_t rfl ⟨by trivial, (zz_in ⟨⟨hn3, hn5, hw1, hw8, hst⟩, gM, gI, gV, gJ, gS, gT, gE, gL, gD, gH, gN, gO, gK, gA, gR, gQ, gB, g2, g3, g4, g5, g6, g7, g8, gC1, gC2, gC3, gC4, gF, gC5⟩ ⟨XL, RA, XH, XO, XA⟩ ⟨YH, YL, YA, Y6, Y7⟩)⟩)))))))
    · have c1' : ¬ nI s = nI m := fun z => c1 ((nI_eq (by omega) (by omega)).mp z)
      refine br_f c1' ⟨hi, ?_⟩
      cases c2 : bt (mk m) s
      · exact xw_has0 (by omega) c2 (br_t rfl (yw_bad0 hm hn5 (br_t rfl (yw_bad0 hs hn5 (br_t rfl (yw_iv1 hm5 hv (br_f (by decide) (br_f c1' ⟨hi, yw_has0 (by omega) c2 (br_t rfl ⟨by trivial, (zz_in ⟨⟨hn3, hn5, hw1, hw8, hst⟩, gM, gI, gV, gJ, gS, gT, gE, gL, gD, gH, gN, gO, gK, gA, gR, gQ, gB, g2, g3, g4, g5, g6, g7, g8, gC1, gC2, gC3, gC4, gF, gC5⟩ ⟨XL, RA, XH, XO, XA⟩ ⟨YH, YL, YA, Y6, Y7⟩)⟩)⟩))))))))
      · refine xw_has1 (by omega) c2 (br_f (by decide) ⟨hi, ?_⟩)
        cases c3 : bt (su m) s
        · have hvm := ((gM m hm).2).mp hv
          exact xw_has0 (by omega) c3 (br_t rfl ⟨hi, hi, nm_r (vs_updA _ _ _) ⟨hi, nm_r (vs_updA _ _ _) (yw_bad0 hm hn5 (br_t rfl (yw_bad0 hs hn5 (br_t rfl (yw_iv1 hm5 hv (br_f (by decide) (br_f c1' ⟨hi, yw_has1 (by omega) c2 (br_f (by decide) ⟨hi, yw_has0 (by omega) c3 (br_t rfl ⟨hi, hi, nm_r (vs_updA _ _ _) ⟨hi, nm_r (vs_updA _ _ _) ⟨by trivial, (zz_in ⟨⟨hn3, hn5, hw1, hw8, hst⟩, (vs_md3_M gM hvm), gI, gV, gJ, (vs_su_S gS (by omega) c1), gT, gE, gL, gD, gH, (vs_md3_N gN), gO, gK, (vs_md3_A gA), (vs_md3_R gR), gQ, gB, g2, g3, g4, g5, g6, g7, g8, gC1, gC2, (vs_md3_C gC3), gC4, gF, gC5⟩ ⟨XL, RA, XH, XO, XA⟩ ⟨YH, YL, YA, Y6, Y7⟩)⟩⟩⟩)⟩)⟩)))))))⟩⟩)
        · exact xw_has1 (by omega) c3 (br_f (by decide) (yw_bad0 hm hn5 (br_t rfl (yw_bad0 hs hn5 (br_t rfl (yw_iv1 hm5 hv (br_f (by decide) (br_f c1' ⟨hi, yw_has1 (by omega) c2 (br_f (by decide) ⟨hi, yw_has1 (by omega) c3 (br_f (by decide) ⟨by trivial, (zz_in ⟨⟨hn3, hn5, hw1, hw8, hst⟩, gM, gI, gV, gJ, gS, gT, gE, gL, gD, gH, gN, gO, gK, gA, gR, gQ, gB, g2, g3, g4, g5, g6, g7, g8, gC1, gC2, gC3, gC4, gF, gC5⟩ ⟨XL, RA, XH, XO, XA⟩ ⟨YH, YL, YA, Y6, Y7⟩)⟩)⟩)⟩))))))))
  · exact xw_iv0 hm5 hv (br_t rfl (yw_bad0 hm hn5 (br_t rfl (yw_bad0 hs hn5 (br_t rfl (yw_iv0 hm5 hv (br_t rfl ⟨by trivial, (zz_in ⟨⟨hn3, hn5, hw1, hw8, hst⟩, gM, gI, gV, gJ, gS, gT, gE, gL, gD, gH, gN, gO, gK, gA, gR, gQ, gB, g2, g3, g4, g5, g6, g7, g8, gC1, gC2, gC3, gC4, gF, gC5⟩ ⟨XL, RA, XH, XO, XA⟩ ⟨YH, YL, YA, Y6, Y7⟩)⟩)))))))
end
section
/-! restart, join, known, obtained, pending -/
theorem vs_mdo_M {n m : Nat} {md : Nat → Int32} {vw : Nat → Nat} {x : Int32} (g : vs_gM n md vw) (hv : vw m = 0) (hx : x = 0 ∨ x = 1) : vs_gM n (vs_u md m x) vw := by
  intro a ha
  by_cases c : a = m
  · subst c
    rw [vs_us]
    refine ⟨?_, ⟨fun z => ?_, fun z => (z hv).elim⟩⟩
    · rcases hx with h | h
      · exact Or.inl h
      · exact Or.inr (Or.inl h)
    · rcases hx with h | h <;> rw [h] at z <;> rcases z with z | z <;> exact absurd z (by decide)
  · rw [vs_un c]; exact g a ha
theorem vs_mdo_N {n m : Nat} {md : Nat → Int32} {dl : Nat → Nat} {H : Nat → Nat → Bool} {x : Int32} (g : vs_gN n md dl H) (hx : x = 0 ∨ x = 1) : vs_gN n (vs_u md m x) dl H := by
  intro a ha h
  by_cases c : a = m
  · rw [c, vs_us] at h
    rcases hx with y | y <;> rw [y] at h <;> exact absurd h (by decide)
  · rw [vs_un c] at h; exact g a ha h
theorem vs_mdo_A {n st m : Nat} {md re : Nat → Int32} {vw pr att av : Nat → Nat} {x : Int32} (g : vs_gA n st md re vw pr att av) (hv : vw m = 0) : vs_gA n st (vs_u md m x) re vw pr att av := by
  intro a ha
  have h := g a ha
  refine ⟨h.1, fun z => ?_⟩
  have h2 := h.2 z
  refine ⟨h2.1, h2.2.1, h2.2.2.1, ?_, h2.2.2.2.2⟩
  by_cases c : a = m
  · rw [c] at h2; exact (h2.1 hv).elim
  · rw [vs_un c]; exact h2.2.2.2.1
theorem vs_mdo_R {n st m : Nat} {md re VM : Nat → Int32} {vw lv pr av : Nat → Nat} {x : Int32} (g : vs_gR n st md re VM vw lv pr av) (hv : vw m = 0) : vs_gR n st (vs_u md m x) re VM vw lv pr av := by
  intro a h1 h2
  have h := g a h1 h2
  refine ⟨h.1, h.2.1, h.2.2.1, fun j hj => ?_⟩
  have t := h.2.2.2 j hj
  refine ⟨t.1, t.2.1, t.2.2.1, fun z => ⟨(t.2.2.2 z).1, ?_⟩⟩
  by_cases c : j = m
  · rw [c, hv] at z; omega
  · rw [vs_un c]; exact (t.2.2.2 z).2
theorem vs_mdo_C {n st m : Nat} {md pm re VM : Nat → Int32} {vw lv pr dl pc av : Nat → Nat} {x : Int32} (g : vs_gC3 n st md pm vw dl pc av) (gR : vs_gR n st md re VM vw lv pr av) (hv : vw m = 0) : vs_gC3 n st (vs_u md m x) pm vw dl pc av := by
  intro a j h1 h2 h3 h4 h5 h6
  have h := g a j h1 h2 h3 h4 h5 h6
  refine ⟨?_, h.2⟩
  by_cases c : j = m
  · have := (gR a h1 h2).1
    rw [c, hv] at h6; omega
  · rw [vs_un c]; exact h.1
theorem i_vc_restart {k : Nat} {u : SX} {v : SY} (I : i_Rel k u v) (hk : k + 4 ≤ 2050) (v1 : Int32) : wpX_restart (fun r u' => wpY_restart (fun r' v' => r' = r ∧ i_Rel (k + 4) u' v') v v1) u v1 := by
  refine zz_el (P := fun u v => wpX_restart (fun r u' => wpY_restart (fun r' v' => r' = r ∧ i_Rel (k + 4) u' v') v v1) u v1) ?_ I
  intro n w sn st md ins lv lc l1 l2 l3 l4 vw mk nw ct dl tp su jo pr ac am acu hx bn b1 b2 b3 oc o1 o2 att xr xb xm xc xp xq xa fc hd va sd wt mv mn ho fm fs fv ow li re be pm pc aq lg H av VM VC hI hX hY
  obtain ⟨⟨hn3, hn5, hw1, hw8, hst⟩, gM, gI, gV, gJ, gS, gT, gE, gL, gD, gH, gN, gO, gK, gA, gR, gQ, gB, g2, g3, g4, g5, g6, g7, g8, gC1, gC2, gC3, gC4, gF, gC5⟩ := hI
  obtain ⟨XL, RA, XH, XO, XA⟩ := hX
  obtain ⟨YH, YL, YA, Y6, Y7⟩ := hY
  unfold wpX_restart wpY_restart
  rcases vs_arg n hn5 v1 with hb | ⟨m, hm, rfl⟩
  · exact xw_bad1 hb (br_f (by decide) (yw_bad1 hb (br_f (by decide) ⟨by trivial, (zz_in ⟨⟨hn3, hn5, hw1, hw8, hst⟩, gM, gI, gV, gJ, gS, gT, gE, gL, gD, gH, gN, gO, gK, gA, gR, gQ, gB, g2, g3, g4, g5, g6, g7, g8, gC1, gC2, gC3, gC4, gF, gC5⟩ ⟨XL, RA, XH, XO, XA⟩ ⟨YH, YL, YA, Y6, Y7⟩)⟩)))
  simp only [nI_clamp (show m < 2 ^ 31 by omega)]
  have hi := vs_in5 (show m < 5 by omega)
  refine xw_bad0 hm hn5 (br_t rfl ⟨hi, ?_⟩)
  by_cases c : md m = 0
  · have hv : vw m = 0 := by
      apply Classical.byContradiction
      intro z
      rcases ((gM m hm).2).mpr z with y | y <;> rw [c] at y <;> exact absurd y (by decide)
    exact br_t c ⟨hi, nm_r (vs_updA _ _ _) (yw_bad0 hm hn5 (br_t rfl ⟨hi, br_t c ⟨hi, nm_r (vs_updA _ _ _) ⟨by trivial, (zz_in ⟨⟨hn3, hn5, hw1, hw8, hst⟩, (vs_mdo_M gM hv (Or.inr rfl)), gI, gV, gJ, gS, gT, gE, gL, gD, gH, (vs_mdo_N gN (Or.inr rfl)), gO, gK, (vs_mdo_A gA hv), (vs_mdo_R gR hv), gQ, gB, g2, g3, g4, g5, g6, g7, g8, gC1, gC2, (vs_mdo_C gC3 gR hv), gC4, gF, gC5⟩ ⟨XL, RA, XH, XO, XA⟩ ⟨YH, YL, YA, Y6, Y7⟩)⟩⟩⟩))⟩
  · exact br_f c (yw_bad0 hm hn5 (br_t rfl ⟨hi, br_f c ⟨by trivial, (zz_in ⟨⟨hn3, hn5, hw1, hw8, hst⟩, gM, gI, gV, gJ, gS, gT, gE, gL, gD, gH, gN, gO, gK, gA, gR, gQ, gB, g2, g3, g4, g5, g6, g7, g8, gC1, gC2, gC3, gC4, gF, gC5⟩ ⟨XL, RA, XH, XO, XA⟩ ⟨YH, YL, YA, Y6, Y7⟩)⟩⟩))
theorem vs_jo_J {n x c : Nat} {vw lv : Nat → Nat} {jo mk nw VM : Nat → Int32} (g : vs_gJ n vw jo VM) (gV : vs_gV n vw lv mk nw VM) (hn : n ≤ 5) (hx : x < n) (hc : c < n) (hb : bt (mk c) x = false) : vs_gJ n vw (vs_u jo c (jo c ||| ((1 : Int32) <<< (nI x &&& 31)))) VM := by
  intro a ha hv j hj
  by_cases e : a = c
  · subst e
    rw [vs_us, vs_bor _ (by omega)] at hj
    by_cases d : j = x
    · subst d
      rw [(gV.1 a ha hv).2.1] at hb
      exact ⟨hx, hb⟩
    · rw [decide_eq_false d, Bool.or_false] at hj
      exact g a ha hv j hj
  · rw [vs_un e] at hj
    exact g a ha hv j hj
theorem i_vc_join {k : Nat} {u : SX} {v : SY} (I : i_Rel k u v) (hk : k + 4 ≤ 2050) (v1 : Int32) (v2 : Int32) : wpX_join (fun r u' => wpY_join (fun r' v' => r' = r ∧ i_Rel (k + 4) u' v') v v1 v2) u v1 v2 := by
  refine zz_el (P := fun u v => wpX_join (fun r u' => wpY_join (fun r' v' => r' = r ∧ i_Rel (k + 4) u' v') v v1 v2) u v1 v2) ?_ I
  intro n w sn st md ins lv lc l1 l2 l3 l4 vw mk nw ct dl tp su jo pr ac am acu hx bn b1 b2 b3 oc o1 o2 att xr xb xm xc xp xq xa fc hd va sd wt mv mn ho fm fs fv ow li re be pm pc aq lg H av VM VC hI hX hY
  obtain ⟨⟨hn3, hn5, hw1, hw8, hst⟩, gM, gI, gV, gJ, gS, gT, gE, gL, gD, gH, gN, gO, gK, gA, gR, gQ, gB, g2, g3, g4, g5, g6, g7, g8, gC1, gC2, gC3, gC4, gF, gC5⟩ := hI
  obtain ⟨XL, RA, XH, XO, XA⟩ := hX
  obtain ⟨YH, YL, YA, Y6, Y7⟩ := hY
  unfold wpX_join wpY_join
  rcases vs_arg n hn5 v1 with hb | ⟨x, hx', rfl⟩
  · exact xw_bad1 hb (br_f (by decide) (yw_bad1 hb (br_f (by decide) ⟨by trivial, (zz_in ⟨⟨hn3, hn5, hw1, hw8, hst⟩, gM, gI, gV, gJ, gS, gT, gE, gL, gD, gH, gN, gO, gK, gA, gR, gQ, gB, g2, g3, g4, g5, g6, g7, g8, gC1, gC2, gC3, gC4, gF, gC5⟩ ⟨XL, RA, XH, XO, XA⟩ ⟨YH, YL, YA, Y6, Y7⟩)⟩)))
  rcases vs_arg n hn5 v2 with hb | ⟨c, hc, rfl⟩
  · exact xw_bad0 hx' hn5 (br_t rfl (xw_bad1 hb (br_f (by decide) (yw_bad0 hx' hn5 (br_t rfl (yw_bad1 hb (br_f (by decide) ⟨by trivial, (zz_in ⟨⟨hn3, hn5, hw1, hw8, hst⟩, gM, gI, gV, gJ, gS, gT, gE, gL, gD, gH, gN, gO, gK, gA, gR, gQ, gB, g2, g3, g4, g5, g6, g7, g8, gC1, gC2, gC3, gC4, gF, gC5⟩ ⟨XL, RA, XH, XO, XA⟩ ⟨YH, YL, YA, Y6, Y7⟩)⟩)))))))
  simp only [nI_clamp (show x < 2 ^ 31 by omega), nI_clamp (show c < 2 ^ 31 by omega)]
  have hi := vs_in5 (show x < 5 by omega)
  have hj := vs_in5 (show c < 5 by omega)
  refine xw_bad0 hx' hn5 (br_t rfl (xw_bad0 hc hn5 (br_t rfl ⟨hi, ?_⟩)))
  by_cases c1 : md x = 1
  · refine br_t c1 ?_
    by_cases hv : md c = 2 ∨ md c = 3
    · refine xw_iv1 (by omega) hv (br_f (by decide) ⟨hj, ?_⟩)
      cases c2 : bt (mk c) x
      · refine xw_has0 (by omega) c2 (br_t rfl ⟨hj, ?_⟩)
        cases c3 : bt (jo c) x
        · exact xw_has0 (by omega) c3 (br_t rfl ⟨hj, hj, nm_r (vs_updA _ _ _) (yw_bad0 hx' hn5 (br_t rfl (yw_bad0 hc hn5 (br_t rfl ⟨hi, br_t c1 (yw_iv1 (by omega) hv (br_f (by decide) ⟨hj, yw_has0 (by omega) c2 (br_t rfl ⟨hj, yw_has0 (by omega) c3 (br_t rfl ⟨hj, hj, nm_r (vs_updA _ _ _) ⟨by trivial, (zz_in ⟨⟨hn3, hn5, hw1, hw8, hst⟩, gM, gI, gV, (vs_jo_J gJ gV hn5 hx' hc c2), gS, gT, gE, gL, gD, gH, gN, gO, gK, gA, gR, gQ, gB, g2, g3, g4, g5, g6, g7, g8, gC1, gC2, gC3, gC4, gF, gC5⟩ ⟨XL, RA, XH, XO, XA⟩ ⟨YH, YL, YA, Y6, Y7⟩)⟩⟩)⟩)⟩))⟩))))⟩)
        · exact xw_has1 (by omega) c3 (br_f (by decide) (yw_bad0 hx' hn5 (br_t rfl (yw_bad0 hc hn5 (br_t rfl ⟨hi, br_t c1 (yw_iv1 (by omega) hv (br_f (by decide) ⟨hj, yw_has0 (by omega) c2 (br_t rfl ⟨hj, yw_has1 (by omega) c3 (br_f (by decide) ⟨by trivial, (zz_in ⟨⟨hn3, hn5, hw1, hw8, hst⟩, gM, gI, gV, gJ, gS, gT, gE, gL, gD, gH, gN, gO, gK, gA, gR, gQ, gB, g2, g3, g4, g5, g6, g7, g8, gC1, gC2, gC3, gC4, gF, gC5⟩ ⟨XL, RA, XH, XO, XA⟩ ⟨YH, YL, YA, Y6, Y7⟩)⟩)⟩)⟩))⟩)))))
      · exact xw_has1 (by omega) c2 (br_f (by decide) (yw_bad0 hx' hn5 (br_t rfl (yw_bad0 hc hn5 (br_t rfl ⟨hi, br_t c1 (yw_iv1 (by omega) hv (br_f (by decide) ⟨hj, yw_has1 (by omega) c2 (br_f (by decide) ⟨by trivial, (zz_in ⟨⟨hn3, hn5, hw1, hw8, hst⟩, gM, gI, gV, gJ, gS, gT, gE, gL, gD, gH, gN, gO, gK, gA, gR, gQ, gB, g2, g3, g4, g5, g6, g7, g8, gC1, gC2, gC3, gC4, gF, gC5⟩ ⟨XL, RA, XH, XO, XA⟩ ⟨YH, YL, YA, Y6, Y7⟩)⟩)⟩))⟩)))))
    · exact xw_iv0 (by omega) hv (br_t rfl (yw_bad0 hx' hn5 (br_t rfl (yw_bad0 hc hn5 (br_t rfl ⟨hi, br_t c1 (yw_iv0 (by omega) hv (br_t rfl ⟨by trivial, (zz_in ⟨⟨hn3, hn5, hw1, hw8, hst⟩, gM, gI, gV, gJ, gS, gT, gE, gL, gD, gH, gN, gO, gK, gA, gR, gQ, gB, g2, g3, g4, g5, g6, g7, g8, gC1, gC2, gC3, gC4, gF, gC5⟩ ⟨XL, RA, XH, XO, XA⟩ ⟨YH, YL, YA, Y6, Y7⟩)⟩))⟩)))))
  · exact br_f c1 (yw_bad0 hx' hn5 (br_t rfl (yw_bad0 hc hn5 (br_t rfl ⟨hi, br_f c1 ⟨by trivial, (zz_in ⟨⟨hn3, hn5, hw1, hw8, hst⟩, gM, gI, gV, gJ, gS, gT, gE, gL, gD, gH, gN, gO, gK, gA, gR, gQ, gB, g2, g3, g4, g5, g6, g7, g8, gC1, gC2, gC3, gC4, gF, gC5⟩ ⟨XL, RA, XH, XO, XA⟩ ⟨YH, YL, YA, Y6, Y7⟩)⟩⟩))))
/-- bounds -/
theorem vs_dl48 {n : Nat} {vw dl lv mv mn : Nat → Nat} {lg : Nat → List (Nat × Nat)} (gD : vs_gD n vw dl lg) (gL : vs_gL n lv mv mn lg) {m : Nat} (hm : m < n) : dl m ≤ 48 := by
  by_cases c : vw m = 0
  · have := (gD m hm).2 c; omega
  · have a := (gD m hm).1 c
    have b := (gL m hm).2.2 (vw m) c
    have := vs_N_le mv (vw m)
    omega
theorem vs_b8 {n w : Nat} {vw dl lv mv : Nat → Nat} {lg : Nat → List (Nat × Nat)} {H : Nat → Nat → Bool} {mk nw VM : Nat → Int32} (gH : vs_gH n vw dl mv H) (gO : vs_gO n w lv vw dl mv lg VM) (gD : vs_gD n vw dl lg) (gV : vs_gV n vw lv mk nw VM) (hw : w ≤ 8)
    {m p : Nat} (hm : m < n) (hp : p < n) (hv : vw m ≠ 0) (hvp : vw p = vw m) {k : Nat} (h : H p k = true) : k ≤ dl m + 8 := by
  have a := ((gH p hp).1 k h).2.2
  have b := gO.1 (vw m) m hv (gV.1 m hm hv).2.2.2
  have c := (gD m hm).1 hv
  rw [hvp] at a
  omega
theorem vs_h48 {n : Nat} {vw dl mv : Nat → Nat} {H : Nat → Nat → Bool} (gH : vs_gH n vw dl mv H) {p : Nat} (hp : p < n) {k : Nat} (h : H p k = true) : 1 ≤ k ∧ k ≤ 48 := by
  have a := ((gH p hp).1 k h).2
  have := vs_N_le mv (vw p)
  omega
theorem vs_v48 {n : Nat} {ins mk nw VM : Nat → Int32} {vw lv : Nat → Nat} (gI : vs_gI n ins lv) (gV : vs_gV n vw lv mk nw VM) {m : Nat} (hm : m < n) : vw m ≤ 48 := by
  by_cases c : vw m = 0
  · omega
  · have := (gV.1 m hm c).1
    have := (gI m hm).2.1
    omega
theorem vs_holds {n w : Nat} {vw dl lv mv mn sd bn : Nat → Nat} {lg : Nat → List (Nat × Nat)} {H : Nat → Nat → Bool} {mk nw VM va b1 b2 b3 : Nat → Int32} (gH : vs_gH n vw dl mv H) (gO : vs_gO n w lv vw dl mv lg VM) (gD : vs_gD n vw dl lg) (gV : vs_gV n vw lv mk nw VM) (hw : w ≤ 8)
    (RA : vs_RA n H vw mv mn va sd bn b1 b2 b3) {m : Nat} (hm : m < n) (hv : vw m ≠ 0) {k : Nat} (hk : 1 ≤ k) : H m k = true ↔ (k ≤ dl m ∨ bn (m * 8 + (k - 1) % 8) = k) := by
  constructor
  · intro h
    by_cases c : k ≤ dl m
    · exact Or.inl c
    · exact Or.inr (vs_RB_has (RA.2 m hm hv) h (fun k' h' => by have := vs_b8 gH gO gD gV hw hm hm hv rfl h'; omega))
  · intro h
    rcases h with h | h
    · exact (gH m hm).2 hv k hk h
    · exact (vs_RB_in (RA.2 m hm hv) hk h).1
theorem i_vc_obtained {k : Nat} {u : SX} {v : SY} (I : i_Rel k u v) (hk : k + 4 ≤ 2050) (v1 : Int32) (v2 : Int32) : wpX_obtained (fun r => wpY_obtained (fun r' => r' = r ∧ i_Rel (k + 4) u v) v v1 v2) u v1 v2 := by
  refine zz_el (P := fun u v => wpX_obtained (fun r => wpY_obtained (fun r' => r' = r ∧ i_Rel (k + 4) u v) v v1 v2) u v1 v2) ?_ I
  intro n w sn st md ins lv lc l1 l2 l3 l4 vw mk nw ct dl tp su jo pr ac am acu hx bn b1 b2 b3 oc o1 o2 att xr xb xm xc xp xq xa fc hd va sd wt mv mn ho fm fs fv ow li re be pm pc aq lg H av VM VC hI hX hY
  have fin : i_Rel (k + 4) ((nI n), (nI w), (nI sn), (nI st), md, ins, (vs_I lv), (vs_I lc), l1, l2, l3, l4, (vs_I vw), mk, nw, (vs_I ct), (vs_I dl), tp, su, jo, (vs_I pr), (vs_I ac), am, acu, (vs_I hx), (vs_I bn), b1, b2, b3, (vs_I oc), o1, o2, (vs_I att), xr, xb, xm, xc, xp, xq, xa) ((nI n), (nI w), (nI sn), (nI fc), (nI st), md, ins, (vs_I vw), mk, nw, (vs_I ct), tp, (vs_I hd), su, jo, (vs_I pr), (vs_I ac), va, (vs_I sd), (vs_I wt), (vs_I mv), (vs_I mn), ho, (vs_I fm), (vs_I fs), (vs_I fv), (vs_I ow), (vs_I li), re, (vs_I be), pm, (vs_I pc), aq) := zz_in hI hX hY
  obtain ⟨⟨hn3, hn5, hw1, hw8, hst⟩, gM, gI, gV, gJ, gS, gT, gE, gL, gD, gH, gN, gO, gK, gA, gR, gQ, gB, g2, g3, g4, g5, g6, g7, g8, gC1, gC2, gC3, gC4, gF, gC5⟩ := hI
  obtain ⟨XL, RA, XH, XO, XA⟩ := hX
  obtain ⟨YH, YL, YA, Y6, Y7⟩ := hY
  unfold wpX_obtained wpY_obtained
  rcases vs_arg n hn5 v1 with hb | ⟨m, hm, rfl⟩
  · exact xw_bad1 hb (br_f (by decide) (yw_bad1 hb (br_f (by decide) ⟨by trivial, fin⟩)))
  refine xw_bad0 hm hn5 (br_t rfl ?_)
  by_cases c1 : v2 < 1
  · exact br_t c1 (yw_bad0 hm hn5 (br_t rfl (br_t c1 ⟨by trivial, fin⟩)))
  by_cases c2 : v2 ≤ 48
  · have hm5 : m < 5 := by omega
    by_cases hv : md m = 2 ∨ md m = 3
    · obtain ⟨q, hq, rfl⟩ := nI_of2 (x := v2) (M := 48) (n := 48) (by decide) (fun z => c1 (Int32.lt_trans z (by decide))) c2
      have hq1 : 1 ≤ q := by
        apply Classical.byContradiction
        intro z
        exact c1 (nI_lt (b := 1) (by omega) (by decide))
      have hvm := ((gM m hm).2).mp hv
      have iff := vs_holds gH gO gD gV hw8 RA hm hvm hq1
      refine br_f c1 (br_t c2 (xw_iv1 hm5 hv (br_f (by decide) ?_)))
      cases e : H m q
      · rw [e] at iff
        have hno : ¬ (q ≤ dl m ∨ bn (m * 8 + (q - 1) % 8) = q) := fun z => by cases iff.mpr z
        exact xw_holds0 hm5 hq1 hq RA.1 (fun z => hno (Or.inl z)) (fun z => hno (Or.inr z)) (br_t rfl (yw_bad0 hm hn5 (br_t rfl (br_f c1 (br_t c2 (yw_iv1 hm5 hv (br_f (by decide) (yw_got0 YH hm hn5 hvm (by omega) e (br_t rfl ⟨by trivial, fin⟩)))))))))
      · exact xw_holds1 hm5 hq1 hq (vs_dl48 gD gL hm) (iff.mp e) (br_f (by decide) (yw_bad0 hm hn5 (br_t rfl (br_f c1 (br_t c2 (yw_iv1 hm5 hv (br_f (by decide) (yw_got1 YH hm hn5 hvm (by omega) e (br_f (by decide) ⟨by trivial, fin⟩)))))))))
    · exact br_f c1 (br_t c2 (xw_iv0 hm5 hv (br_t rfl (yw_bad0 hm hn5 (br_t rfl (br_f c1 (br_t c2 (yw_iv0 hm5 hv (br_t rfl ⟨by trivial, fin⟩)))))))))
  · exact br_f c1 (br_f c2 (yw_bad0 hm hn5 (br_t rfl (br_f c1 (br_f c2 ⟨by trivial, fin⟩)))))
theorem i_vc_known {k : Nat} {u : SX} {v : SY} (I : i_Rel k u v) (hk : k + 4 ≤ 2050) (v1 : Int32) (v2 : Int32) : wpX_known (fun r => wpY_known (fun r' => r' = r ∧ i_Rel (k + 4) u v) v v1 v2) u v1 v2 := by
  refine zz_el (P := fun u v => wpX_known (fun r => wpY_known (fun r' => r' = r ∧ i_Rel (k + 4) u v) v v1 v2) u v1 v2) ?_ I
  intro n w sn st md ins lv lc l1 l2 l3 l4 vw mk nw ct dl tp su jo pr ac am acu hx bn b1 b2 b3 oc o1 o2 att xr xb xm xc xp xq xa fc hd va sd wt mv mn ho fm fs fv ow li re be pm pc aq lg H av VM VC hI hX hY
  have fin : i_Rel (k + 4) ((nI n), (nI w), (nI sn), (nI st), md, ins, (vs_I lv), (vs_I lc), l1, l2, l3, l4, (vs_I vw), mk, nw, (vs_I ct), (vs_I dl), tp, su, jo, (vs_I pr), (vs_I ac), am, acu, (vs_I hx), (vs_I bn), b1, b2, b3, (vs_I oc), o1, o2, (vs_I att), xr, xb, xm, xc, xp, xq, xa) ((nI n), (nI w), (nI sn), (nI fc), (nI st), md, ins, (vs_I vw), mk, nw, (vs_I ct), tp, (vs_I hd), su, jo, (vs_I pr), (vs_I ac), va, (vs_I sd), (vs_I wt), (vs_I mv), (vs_I mn), ho, (vs_I fm), (vs_I fs), (vs_I fv), (vs_I ow), (vs_I li), re, (vs_I be), pm, (vs_I pc), aq) := zz_in hI hX hY
  obtain ⟨⟨hn3, hn5, hw1, hw8, hst⟩, gM, gI, gV, gJ, gS, gT, gE, gL, gD, gH, gN, gO, gK, gA, gR, gQ, gB, g2, g3, g4, g5, g6, g7, g8, gC1, gC2, gC3, gC4, gF, gC5⟩ := hI
  obtain ⟨XL, RA, XH, XO, XA⟩ := hX
  obtain ⟨YH, YL, YA, Y6, Y7⟩ := hY
  unfold wpX_known wpY_known
  rcases vs_arg n hn5 v1 with hb | ⟨m, hm, rfl⟩
  · exact xw_bad1 hb (br_f (by decide) (yw_bad1 hb (br_f (by decide) ⟨by trivial, fin⟩)))
  rcases vs_arg n hn5 v2 with hb | ⟨j, hj, rfl⟩
  · exact xw_bad0 hm hn5 (br_t rfl (xw_bad1 hb (br_f (by decide) (yw_bad0 hm hn5 (br_t rfl (yw_bad1 hb (br_f (by decide) ⟨by trivial, fin⟩)))))))
  simp only [nI_clamp (show m < 2 ^ 31 by omega), vs_i5, nI_clamp (show m * 5 + j < 2 ^ 31 by omega)]
  have hm5 : m < 5 := by omega
  refine xw_bad0 hm hn5 (br_t rfl (xw_bad0 hj hn5 (br_t rfl ?_)))
  by_cases hv : md m = 2 ∨ md m = 3
  · have hvm := ((gM m hm).2).mp hv
    refine xw_iv1 hm5 hv (br_f (by decide) ⟨vs_in5 hm5, ?_⟩)
    cases e : bt (mk m) j
    · exact xw_has0 (by omega) e (br_t rfl (yw_bad0 hm hn5 (br_t rfl (yw_bad0 hj hn5 (br_t rfl (yw_iv1 hm5 hv (br_f (by decide) ⟨vs_in5 hm5, yw_has0 (by omega) e (br_t rfl ⟨by trivial, fin⟩)⟩)))))))
    · refine xw_has1 (by omega) e (br_f (by decide) ⟨vp_in_nI (by omega) (by omega), yw_bad0 hm hn5 (br_t rfl (yw_bad0 hj hn5 (br_t rfl (yw_iv1 hm5 hv (br_f (by decide) ⟨vs_in5 hm5, yw_has1 (by omega) e (br_f (by decide) (yw_knows hm hj hn5 YL (vs_v48 gI gV hm) ((gD m hm).1 hvm) ⟨?_, fin⟩))⟩)))))⟩)
      have a := XH.2.2 m hm
      rw [vs_Ia]
      by_cases c : j = m
      · rw [if_pos c, c, a.1]
      · rw [if_neg c, a.2 j hj c]
  · exact xw_iv0 hm5 hv (br_t rfl (yw_bad0 hm hn5 (br_t rfl (yw_bad0 hj hn5 (br_t rfl (yw_iv0 hm5 hv (br_t rfl ⟨by trivial, fin⟩)))))))
end
section
/-! pending, log, send -/
variable {n w sn st fc : Nat} {md ins l1 l2 l3 l4 mk nw tp su jo am acu b1 b2 b3 o1 o2 xr xb xm xc xp xq xa va ho re pm aq : Nat → Int32} {lv lc vw ct dl pr ac hx bn oc att hd sd wt mv mn fm fs fv ow li be pc : Nat → Nat}
theorem vs_some_lt {α : Type} {l : List α} {p : Nat} {x : α} (h : l[p]? = some x) : p < l.length := by
  apply Classical.byContradiction
  intro z
  rw [List.getElem?_eq_none (by omega)] at h
  cases h
theorem vs_lt_some {α : Type} {l : List α} {p : Nat} (h : p < l.length) : ∃ x, l[p]? = some x := ⟨l[p], List.getElem?_eq_getElem h⟩
theorem i_vc_pending {k : Nat} {u : SX} {v : SY} (I : i_Rel k u v) (hk : k + 4 ≤ 2050) (v1 : Int32) (v2 : Int32) : wpX_pending (fun r => wpY_pending (fun r' => r' = r ∧ i_Rel (k + 4) u v) v v1 v2) u v1 v2 := by
  refine zz_el (P := fun u v => wpX_pending (fun r => wpY_pending (fun r' => r' = r ∧ i_Rel (k + 4) u v) v v1 v2) u v1 v2) ?_ I
  intro n w sn st md ins lv lc l1 l2 l3 l4 vw mk nw ct dl tp su jo pr ac am acu hx bn b1 b2 b3 oc o1 o2 att xr xb xm xc xp xq xa fc hd va sd wt mv mn ho fm fs fv ow li re be pm pc aq lg H av VM VC hI hX hY
  have fin : i_Rel (k + 4) ((nI n), (nI w), (nI sn), (nI st), md, ins, (vs_I lv), (vs_I lc), l1, l2, l3, l4, (vs_I vw), mk, nw, (vs_I ct), (vs_I dl), tp, su, jo, (vs_I pr), (vs_I ac), am, acu, (vs_I hx), (vs_I bn), b1, b2, b3, (vs_I oc), o1, o2, (vs_I att), xr, xb, xm, xc, xp, xq, xa) ((nI n), (nI w), (nI sn), (nI fc), (nI st), md, ins, (vs_I vw), mk, nw, (vs_I ct), tp, (vs_I hd), su, jo, (vs_I pr), (vs_I ac), va, (vs_I sd), (vs_I wt), (vs_I mv), (vs_I mn), ho, (vs_I fm), (vs_I fs), (vs_I fv), (vs_I ow), (vs_I li), re, (vs_I be), pm, (vs_I pc), aq) := zz_in hI hX hY
  obtain ⟨⟨hn3, hn5, hw1, hw8, hst⟩, gM, gI, gV, gJ, gS, gT, gE, gL, gD, gH, gN, gO, gK, gA, gR, gQ, gB, g2, g3, g4, g5, g6, g7, g8, gC1, gC2, gC3, gC4, gF, gC5⟩ := hI
  obtain ⟨XL, RA, XH, XO, XA⟩ := hX
  obtain ⟨YH, YL, YA, Y6, Y7⟩ := hY
  unfold wpX_pending wpY_pending
  rcases vs_arg n hn5 v1 with hb | ⟨m, hm, rfl⟩
  · exact xw_bad1 hb (br_f (by decide) (yw_bad1 hb (br_f (by decide) ⟨by trivial, fin⟩)))
  have hm5 : m < 5 := by omega
  have Xm := XO m hm
  have hsn : sn ≤ 48 := gT.2.2.2.2.2.1
  refine xw_bad0 hm hn5 (br_t rfl ?_)
  by_cases c : v2 < 0
  · have c' : ¬ 0 ≤ v2 := Int32.not_le.mpr c
    by_cases hv : md m = 2 ∨ md m = 3
    · exact xw_iv1 hm5 hv (br_f (by decide) (br_t c (yw_bad0 hm hn5 (br_t rfl (br_f c' ⟨by trivial, fin⟩)))))
    · exact xw_iv0 hm5 hv (br_t rfl (yw_bad0 hm hn5 (br_t rfl (br_f c' ⟨by trivial, fin⟩))))
  obtain ⟨q, hq, rfl⟩ := nI_of c
  have c' : (0 : Int32) ≤ nI q := nI_pos' hq
  by_cases hv : md m = 2 ∨ md m = 3
  · refine xw_iv1 hm5 hv (br_f (by decide) (br_f c ⟨vs_in5 hm5, ?_⟩))
    rw [nI_clamp (show m < 2 ^ 31 by omega), vs_Ia]
    by_cases c2 : q < oc m
    · rw [vs_i4, nI_clamp (show m * 4 + q < 2 ^ 31 by omega)]
      refine br_t (nI_lt c2 (by omega)) ⟨vp_in_nI (by omega) (by omega), yw_bad0 hm hn5 (br_t rfl (br_t c' (yw_outboxAt hm5 hsn hq (fun i => gT.2.2.2.2.1 i) ?_ ?_)))⟩
      · intro i hi
        have hlt := vs_ob_len wt sd m sn
        exact yw_iv1 hm5 hv (br_f (by decide) (br_t (by
          have : i < 2 ^ 31 := by
            have e := vs_some_lt hi
            have : i < sn := by
              have key : ∀ s, i ∈ vs_ob wt sd s m → i < s := by
                intro s
                induction s with
                | zero => intro z; cases z
                | succ s ih =>
                  intro z
                  have z' : i ∈ (if wt s ≠ 0 ∧ sd s = m then vs_ob wt sd s m ++ [s] else vs_ob wt sd s m) := z
                  split at z'
                  · rcases List.mem_append.mp z' with y | y
                    · have := ih y; omega
                    · have := List.mem_singleton.mp y; omega
                  · have := ih z'; omega
              exact key sn (List.mem_of_getElem? hi)
            omega
          exact nI_pos' this) ⟨by rw [(Xm.2.2 q i hi).1, nI_1], fin⟩))
      · intro hl; omega
    · refine br_f (nI_nlt (by omega) hq) (yw_bad0 hm hn5 (br_t rfl (br_t c' (yw_outboxAt hm5 hsn hq (fun i => gT.2.2.2.2.1 i) ?_ ?_))))
      · intro i hi
        have := vs_some_lt hi
        omega
      · intro _
        exact yw_iv1 hm5 hv (br_f (by decide) (br_f (by decide) ⟨by trivial, fin⟩))
  · refine xw_iv0 hm5 hv (br_t rfl (yw_bad0 hm hn5 (br_t rfl (br_t c' (yw_outboxAt hm5 hsn hq (fun i => gT.2.2.2.2.1 i) ?_ ?_)))))
    · intro i hi
      exact yw_iv0 hm5 hv (br_t rfl ⟨by trivial, fin⟩)
    · intro _
      exact yw_iv0 hm5 hv (br_t rfl ⟨by trivial, fin⟩)
theorem vs_lgY_pre {fm fs fv : Nat → Nat} {m k i : Nat} {x : Nat × Nat} (h : (vs_lgY fm fs fv i m)[k]? = some x) : ∀ d, (vs_lgY fm fs fv (i + d) m)[k]? = some x := by
  intro d
  induction d with
  | zero => exact h
  | succ d ih =>
    show (if fm (i + d) = m then vs_lgY fm fs fv (i + d) m ++ [(fs (i + d), fv (i + d))] else vs_lgY fm fs fv (i + d) m)[k]? = some x
    split
    · rw [List.getElem?_append_left (vs_some_lt ih)]; exact ih
    · exact ih
theorem yw_log_l {post : Int32 → Prop} {m q : Nat} {kd : Int32} (hm : m < 5) (hq : q < 2 ^ 31) (hfc : fc ≤ 240) (hb : ∀ f, fm f ≤ 48 ∧ fv f ≤ 48)
    (h1 : ∀ i v, (vs_lgY fm fs fv fc m)[q]? = some (i, v) → i < 48 ∧ (kd = 0 → post (nI (i + 1))) ∧ (kd = 1 → post (va i)) ∧ (kd = 2 → post (nI (sd i))) ∧ (¬ kd = 0 → ¬ kd = 1 → ¬ kd = 2 → post (nI v))) (h0 : (vs_lgY fm fs fv fc m).length ≤ q → post (-1)) :
    ∀ d f : Nat, f + d = fc → (vs_lgY fm fs fv f m).length ≤ q → wY_log_29 post (nI m) (nI q) kd (nI n) (nI w) (nI sn) (nI fc) (nI st) md ins (vs_I vw) mk nw (vs_I ct) tp (vs_I hd) su jo (vs_I pr) (vs_I ac) va (vs_I sd) (vs_I wt) (vs_I mv) (vs_I mn) ho (vs_I fm) (vs_I fs) (vs_I fv) (vs_I ow) (vs_I li) re (vs_I be) pm (vs_I pc) aq (d + 1) (nI (vs_lgY fm fs fv f m).length) (nI f) := by
  intro d
  induction d with
  | zero =>
    intro f e hl
    have e : f = fc := by omega
    subst e
    exact br_t (nI_le (by omega) (by omega)) (h0 hl)
  | succ d ih =>
    intro f e hl
    have ihf := ih (f + 1) (by omega)
    have eo : vs_lgY fm fs fv (f + 1) m = if fm f = m then vs_lgY fm fs fv f m ++ [(fs f, fv f)] else vs_lgY fm fs fv f m := rfl
    have hle := vs_lgY_len fm fs fv m f
    have hbf := hb f
    rw [eo] at ihf
    refine br_f (nI_ge (by omega) (by omega)) ?_
    simp only [nI_clamp (show f < 2 ^ 31 by omega), vs_Ia]
    refine ⟨vp_in_nI (by omega) (by omega), ?_⟩
    by_cases c2 : fm f = m
    · rw [if_pos c2, List.length_append] at ihf
      refine br_t (by rw [c2]) ?_
      by_cases c3 : (vs_lgY fm fs fv f m).length = q
      · have hx : (vs_lgY fm fs fv fc m)[q]? = some (fs f, fv f) := by
          have := vs_lgY_pre (fm := fm) (fs := fs) (fv := fv) (m := m) (k := q) (x := (fs f, fv f)) (i := f + 1) (by rw [eo, if_pos c2, List.getElem?_append_right (by omega), c3, Nat.sub_self]; rfl) d
          rw [show f + 1 + d = fc by omega] at this
          exact this
        have t := h1 _ _ hx
        refine br_t (by rw [c3]) ⟨vp_in_nI (by omega) (by omega), nm_e ?_⟩
        by_cases k0 : kd = 0
        · exact br_t k0 (by rw [nI_1]; exact t.2.1 k0)
        · refine br_f k0 ?_
          rw [nI_clamp (show fs f < 2 ^ 31 by omega)]
          by_cases k1 : kd = 1
          · exact br_t k1 ⟨vp_in_nI t.1 (by omega), t.2.2.1 k1⟩
          · refine br_f k1 ?_
            by_cases k2 : kd = 2
            · exact br_t k2 ⟨vp_in_nI t.1 (by omega), t.2.2.2.1 k2⟩
            · exact br_f k2 ⟨vp_in_nI (by omega) (by omega), t.2.2.2.2 k0 k1 k2⟩
      · refine br_f (fun z => c3 ((nI_eq (by omega) (by omega)).mp z)) (nm_r (nI_1 _) (nm_r (nI_1 f) (ihf ?_)))
        show (vs_lgY fm fs fv f m).length + 1 ≤ q
        omega
    · rw [if_neg c2] at ihf
      exact br_f (fun z => c2 ((nI_eq (by omega) (by omega)).mp z)) (nm_r (nI_1 f) (ihf hl))
theorem i_vc_log {k : Nat} {u : SX} {v : SY} (I : i_Rel k u v) (hk : k + 4 ≤ 2050) (v1 : Int32) (v2 : Int32) (v3 : Int32) : wpX_log (fun r => wpY_log (fun r' => r' = r ∧ i_Rel (k + 4) u v) v v1 v2 v3) u v1 v2 v3 := by
  refine zz_el (P := fun u v => wpX_log (fun r => wpY_log (fun r' => r' = r ∧ i_Rel (k + 4) u v) v v1 v2 v3) u v1 v2 v3) ?_ I
  intro n w sn st md ins lv lc l1 l2 l3 l4 vw mk nw ct dl tp su jo pr ac am acu hx bn b1 b2 b3 oc o1 o2 att xr xb xm xc xp xq xa fc hd va sd wt mv mn ho fm fs fv ow li re be pm pc aq lg H av VM VC hI hX hY
  have fin : i_Rel (k + 4) ((nI n), (nI w), (nI sn), (nI st), md, ins, (vs_I lv), (vs_I lc), l1, l2, l3, l4, (vs_I vw), mk, nw, (vs_I ct), (vs_I dl), tp, su, jo, (vs_I pr), (vs_I ac), am, acu, (vs_I hx), (vs_I bn), b1, b2, b3, (vs_I oc), o1, o2, (vs_I att), xr, xb, xm, xc, xp, xq, xa) ((nI n), (nI w), (nI sn), (nI fc), (nI st), md, ins, (vs_I vw), mk, nw, (vs_I ct), tp, (vs_I hd), su, jo, (vs_I pr), (vs_I ac), va, (vs_I sd), (vs_I wt), (vs_I mv), (vs_I mn), ho, (vs_I fm), (vs_I fs), (vs_I fv), (vs_I ow), (vs_I li), re, (vs_I be), pm, (vs_I pc), aq) := zz_in hI hX hY
  obtain ⟨⟨hn3, hn5, hw1, hw8, hst⟩, gM, gI, gV, gJ, gS, gT, gE, gL, gD, gH, gN, gO, gK, gA, gR, gQ, gB, g2, g3, g4, g5, g6, g7, g8, gC1, gC2, gC3, gC4, gF, gC5⟩ := hI
  obtain ⟨XL, RA, XH, XO, XA⟩ := hX
  obtain ⟨YH, YL, YA, Y6, Y7⟩ := hY
  unfold wpX_log wpY_log
  rcases vs_arg n hn5 v1 with hb | ⟨m, hm, rfl⟩
  · exact xw_bad1 hb (br_f (by decide) (yw_bad1 hb (br_f (by decide) ⟨by trivial, fin⟩)))
  have hm5 : m < 5 := by omega
  have Xm := XL m hm
  refine xw_bad0 hm hn5 (br_t rfl ?_)
  by_cases c : v2 < 0
  · exact br_t c (yw_bad0 hm hn5 (br_t rfl (br_t c ⟨by trivial, fin⟩)))
  obtain ⟨q, hq, rfl⟩ := nI_of c
  have eL := YL.1 m hm
  have hbf : ∀ f, fm f ≤ 48 ∧ fv f ≤ 48 := fun f => ⟨(YL.2.2.1 f).1, (YL.2.2.1 f).2.1⟩
  have hmem : ∀ i v, (lg m)[q]? = some (i, v) → i < 48 := by
    intro i v h
    have a := (gL m hm).1 i v (List.mem_of_getElem? h)
    have b := gT.1 i (by rw [a.2.1]; exact a.1)
    have := gT.2.2.2.2.2.1
    omega
  have out : (¬ (lg m).length ≤ q → ∀ post : Int32 → Prop, (∀ i v, (lg m)[q]? = some (i, v) → (v3 = 0 → post (nI (i + 1))) ∧ (v3 = 1 → post (va i)) ∧ (v3 = 2 → post (nI (sd i))) ∧ (¬ v3 = 0 → ¬ v3 = 1 → ¬ v3 = 2 → post (nI v))) → wY_log_29 post (nI m) (nI q) v3 (nI n) (nI w) (nI sn) (nI fc) (nI st) md ins (vs_I vw) mk nw (vs_I ct) tp (vs_I hd) su jo (vs_I pr) (vs_I ac) va (vs_I sd) (vs_I wt) (vs_I mv) (vs_I mn) ho (vs_I fm) (vs_I fs) (vs_I fv) (vs_I ow) (vs_I li) re (vs_I be) pm (vs_I pc) aq (fc + 1) (nI 0) (nI 0)) := by
    intro hl post hp
    exact yw_log_l hm5 hq YL.2.2.2 hbf (fun i v h => by rw [eL] at h; exact ⟨hmem i v h, hp i v h⟩) (fun z => by rw [eL] at z; exact (hl z).elim) fc 0 (by omega) (Nat.zero_le _)
  refine br_f c ⟨vs_in5 hm5, ?_⟩
  rw [nI_clamp (show m < 2 ^ 31 by omega), vs_Ia]
  by_cases c2 : q < lc m
  · refine br_t (nI_lt c2 (by omega)) (nm_r (vs_i48 m q) ?_)
    by_cases k0 : v3 < 0
    · exact br_t k0 (yw_bad0 hm hn5 (br_t rfl (br_f c (br_t k0 ⟨by trivial, fin⟩))))
    by_cases k3 : 3 < v3
    · exact br_f k0 (br_t k3 (yw_bad0 hm hn5 (br_t rfl (br_f c (br_f k0 (br_f (Int32.not_le.mpr k3) ⟨by trivial, fin⟩))))))
    have k3' : v3 ≤ 3 := Int32.not_lt.mp k3
    rw [nI_clamp (show m * 48 + q < 2 ^ 31 by omega)]
    obtain ⟨⟨i0, w0⟩, hx0⟩ := vs_lt_some (l := lg m) (p := q) (by omega)
    have X0 := Xm.2.2 q i0 w0 hx0
    have hin : vp_in (nI (m * 48 + q)) 240 := vp_in_nI (by omega) (by omega)
    have Y0 := out (by omega)
    refine br_f k0 (br_f k3 ?_)
    rw [X0.1, X0.2.1, X0.2.2.1, X0.2.2.2]
    have fi : ∀ i v, (lg m)[q]? = some (i, v) → i = i0 ∧ v = w0 := by
      intro i v h
      rw [hx0] at h
      cases h
      exact ⟨rfl, rfl⟩
    by_cases e0 : v3 = 0
    · refine br_t e0 ⟨hin, yw_bad0 hm hn5 (br_t rfl (br_f c (br_f k0 (br_t k3' ⟨fc + 1, Y0 _ ?_⟩))))⟩
      intro i v h
      obtain ⟨rfl, rfl⟩ := fi i v h
      exact ⟨fun _ => ⟨rfl, fin⟩, fun z => absurd (e0.symm.trans z) (by decide), fun z => absurd (e0.symm.trans z) (by decide), fun z => (z e0).elim⟩
    · refine br_f e0 ?_
      by_cases e1 : v3 = 1
      · refine br_t e1 ⟨hin, yw_bad0 hm hn5 (br_t rfl (br_f c (br_f k0 (br_t k3' ⟨fc + 1, Y0 _ ?_⟩))))⟩
        intro i v h
        obtain ⟨rfl, rfl⟩ := fi i v h
        exact ⟨fun z => (e0 z).elim, fun _ => ⟨rfl, fin⟩, fun z => absurd (e1.symm.trans z) (by decide), fun _ z => (z e1).elim⟩
      · refine br_f e1 ?_
        by_cases e2 : v3 = 2
        · refine br_t e2 ⟨hin, yw_bad0 hm hn5 (br_t rfl (br_f c (br_f k0 (br_t k3' ⟨fc + 1, Y0 _ ?_⟩))))⟩
          intro i v h
          obtain ⟨rfl, rfl⟩ := fi i v h
          exact ⟨fun z => (e0 z).elim, fun z => (e1 z).elim, fun _ => ⟨rfl, fin⟩, fun _ _ z => (z e2).elim⟩
        · refine br_f e2 (br_c (fun _ => ⟨hin, yw_bad0 hm hn5 (br_t rfl (br_f c (br_f k0 (br_t k3' ⟨fc + 1, Y0 _ ?_⟩))))⟩) (fun _ => trivial))
          intro i v h
          obtain ⟨rfl, rfl⟩ := fi i v h
          exact ⟨fun z => (e0 z).elim, fun z => (e1 z).elim, fun z => (e2 z).elim, fun _ _ _ => ⟨rfl, fin⟩⟩
  · refine br_f (nI_nlt (by omega) hq) (yw_bad0 hm hn5 (br_t rfl (br_f c ?_)))
    by_cases k0 : v3 < 0
    · exact br_t k0 ⟨by trivial, fin⟩
    by_cases k3 : v3 ≤ 3
    · refine br_f k0 (br_t k3 ⟨fc + 1, ?_⟩)
      exact yw_log_l hm5 hq YL.2.2.2 hbf (fun i v h => by rw [eL] at h; have := vs_some_lt h; omega) (fun z => ⟨rfl, fin⟩) fc 0 (by omega) (Nat.zero_le _)
    · exact br_f k0 (br_f k3 ⟨by trivial, fin⟩)
end
section
/-! send -/
theorem vs_ob_c {wt sd wt' sd' : Nat → Nat} {m : Nat} : ∀ {s}, (∀ i, i < s → wt' i = wt i ∧ sd' i = sd i) → vs_ob wt' sd' s m = vs_ob wt sd s m := by
  intro s
  induction s with
  | zero => intro _; rfl
  | succ s ih =>
    intro h
    have a := h s (by omega)
    show (if wt' s ≠ 0 ∧ sd' s = m then vs_ob wt' sd' s m ++ [s] else vs_ob wt' sd' s m) = (if wt s ≠ 0 ∧ sd s = m then vs_ob wt sd s m ++ [s] else vs_ob wt sd s m)
    rw [ih (fun i hi => h i (by omega)), a.1, a.2]
theorem vs_send_T {n sn m : Nat} {mv mn wt sd : Nat → Nat} (g : vs_gT n sn mv mn wt sd) (hs : sn < 48) (hm : m ≤ 48) : vs_gT n (sn + 1) mv mn (vs_u wt sn 1) (vs_u sd sn m) := by
  obtain ⟨g1, g2, g3, g4, g5, g6, g7⟩ := g
  refine ⟨?_, g2, g3, ?_, ?_, by omega, g7⟩
  · intro i hi
    have a := g1 i hi
    rw [vs_un (by omega)]
    exact ⟨by omega, a.2⟩
  · intro i hi
    rw [vs_un (by omega)]
    exact g4 i (by omega)
  · intro i
    have a := g5 i
    by_cases c : i = sn
    · rw [c, vs_us, vs_us]; omega
    · rw [vs_un c, vs_un c]; exact a
theorem vs_send_YH {n sn : Nat} {vw mv mn : Nat → Nat} {ho : Nat → Int32} {H : Nat → Nat → Bool} (Q : vs_YH n sn vw mv mn ho H) (hs : sn < 48) : vs_YH n (sn + 1) vw mv mn ho H :=
  ⟨fun i hi => by have := Q.1 i hi; omega, Q.2.1, by omega, Q.2.2.2⟩
theorem vs_RB_c {hm : Nat → Bool} {ix ix' : Nat → Nat} {va va' : Nat → Int32} {sd sd' bn : Nat → Nat} {b1 b2 b3 : Nat → Int32} {m : Nat} (R : vs_RB hm ix va sd bn b1 b2 b3 m) (h : ∀ k, hm k = true → ix' k = ix k ∧ va' (ix k) = va (ix k) ∧ sd' (ix k) = sd (ix k)) :
    vs_RB hm ix' va' sd' bn b1 b2 b3 m := by
  refine ⟨fun s hs h0 => ?_, R.2⟩
  have a := R.1 s hs h0
  have b := h _ a.1
  rw [b.1, b.2.1, b.2.2]
  exact a
theorem vs_XL_c {n : Nat} {lg : Nat → List (Nat × Nat)} {va va' : Nat → Int32} {sd sd' lc : Nat → Nat} {l1 l2 l3 l4 : Nat → Int32} (R : vs_XL n lg va sd lc l1 l2 l3 l4) (h : ∀ m, m < n → ∀ i v, (i, v) ∈ lg m → va' i = va i ∧ sd' i = sd i) : vs_XL n lg va' sd' lc l1 l2 l3 l4 := by
  intro m hm
  have a := R m hm
  refine ⟨a.1, a.2.1, fun p i v e => ?_⟩
  have b := h m hm i v (List.mem_of_getElem? e)
  rw [b.1, b.2]
  exact a.2.2 p i v e
theorem vs_send_XL {n sn m : Nat} {lg : Nat → List (Nat × Nat)} {va : Nat → Int32} {sd lc mv mn wt lv : Nat → Nat} {l1 l2 l3 l4 : Nat → Int32} {x : Int32} (R : vs_XL n lg va sd lc l1 l2 l3 l4) (gL : vs_gL n lv mv mn lg) (gT : vs_gT n sn mv mn wt sd) :
    vs_XL n lg (vs_u va sn x) (vs_u sd sn m) lc l1 l2 l3 l4 := by
  refine vs_XL_c R (fun m hm i v h => ?_)
  have a := (gL m hm).1 i v h
  have b := gT.1 i (by rw [a.2.1]; exact a.1)
  exact ⟨vs_un (by omega), vs_un (by omega)⟩
theorem vs_send_RA {n sn m : Nat} {H : Nat → Nat → Bool} {va : Nat → Int32} {vw sd mv mn bn : Nat → Nat} {ho b1 b2 b3 : Nat → Int32} {x : Int32} (R : vs_RA n H vw mv mn va sd bn b1 b2 b3) (Q : vs_YH n sn vw mv mn ho H) :
    vs_RA n H vw mv mn (vs_u va sn x) (vs_u sd sn m) bn b1 b2 b3 := by
  refine ⟨R.1, fun j hj hv => vs_RB_c (R.2 j hj hv) (fun k hk => ?_)⟩
  have e := Q.2.2.2.2 j hj hv k
  rw [hk] at e
  have e' := e.symm
  rw [Bool.and_eq_true, decide_eq_true_eq] at e'
  have := vs_ix_sn Q hv e'.1
  exact ⟨rfl, vs_un (by omega), vs_un (by omega)⟩
theorem vs_send_XO {n sn m : Nat} {va : Nat → Int32} {wt sd oc : Nat → Nat} {o1 o2 : Nat → Int32} {x : Int32} (R : vs_XO n sn va wt sd oc o1 o2) (hm : m < n) (h4 : oc m < 4) :
    vs_XO n (sn + 1) (vs_u va sn x) (vs_u wt sn 1) (vs_u sd sn m) (vs_u oc m (oc m + 1)) (vs_u o1 (m * 4 + oc m) (nI (sn + 1))) (vs_u o2 (m * 4 + oc m) x) := by
  have key : ∀ a, vs_ob (vs_u wt sn 1) (vs_u sd sn m) (sn + 1) a = if a = m then vs_ob wt sd sn a ++ [sn] else vs_ob wt sd sn a := by
    intro a
    show (if vs_u wt sn 1 sn ≠ 0 ∧ vs_u sd sn m sn = a then vs_ob (vs_u wt sn 1) (vs_u sd sn m) sn a ++ [sn] else vs_ob (vs_u wt sn 1) (vs_u sd sn m) sn a) = _
    rw [vs_us, vs_us, vs_ob_c (wt := wt) (sd := sd) (fun i hi => ⟨vs_un (by omega), vs_un (by omega)⟩)]
    by_cases c : a = m
    · rw [if_pos ⟨by decide, c.symm⟩, if_pos c]
    · rw [if_neg (fun z => c z.2.symm), if_neg c]
  have hmem : ∀ a i, i ∈ vs_ob wt sd sn a → i < sn := by
    intro a i
    have k2 : ∀ s, i ∈ vs_ob wt sd s a → i < s := by
      intro s
      induction s with
      | zero => intro z; cases z
      | succ s ih =>
        intro z
        have z' : i ∈ (if wt s ≠ 0 ∧ sd s = a then vs_ob wt sd s a ++ [s] else vs_ob wt sd s a) := z
        split at z'
        · rcases List.mem_append.mp z' with y | y
          · have := ih y; omega
          · have := List.mem_singleton.mp y; omega
        · have := ih z'; omega
    exact k2 sn
  intro a ha
  have Ra := R a ha
  have Rm := R m hm
  rw [key a]
  by_cases c : a = m
  · subst c
    rw [if_pos rfl, vs_us, List.length_append]
    refine ⟨by rw [Ra.1]; rfl, by omega, ?_⟩
    intro p i h
    by_cases d : p < (vs_ob wt sd sn a).length
    · rw [List.getElem?_append_left d] at h
      have t := Ra.2.2 p i h
      rw [vs_un (show a * 4 + p ≠ a * 4 + oc a by omega), vs_un (show a * 4 + p ≠ a * 4 + oc a by omega), vs_un (show i ≠ sn by have := hmem a i (List.mem_of_getElem? h); omega)]
      exact t
    · have hp := vs_some_lt h
      rw [List.length_append] at hp
      have hp' : p < (vs_ob wt sd sn a).length + 1 := hp
      have e : p = (vs_ob wt sd sn a).length := by omega
      rw [List.getElem?_append_right (by omega), e, Nat.sub_self] at h
      cases h
      rw [e, ← Ra.1, vs_us, vs_us, vs_us]
      exact ⟨rfl, rfl⟩
  · rw [if_neg c, vs_un c]
    refine ⟨Ra.1, Ra.2.1, ?_⟩
    intro p i h
    have hp := vs_some_lt h
    have g : a * 4 + p ≠ m * 4 + oc m := by omega
    rw [vs_un g, vs_un g, vs_un (show i ≠ sn by have := hmem a i (List.mem_of_getElem? h); omega)]
    exact Ra.2.2 p i h
theorem i_vc_send {k : Nat} {u : SX} {v : SY} (I : i_Rel k u v) (hk : k + 4 ≤ 2050) (v1 : Int32) (v2 : Int32) : wpX_send (fun r u' => wpY_send (fun r' v' => r' = r ∧ i_Rel (k + 4) u' v') v v1 v2) u v1 v2 := by
  refine zz_el (P := fun u v => wpX_send (fun r u' => wpY_send (fun r' v' => r' = r ∧ i_Rel (k + 4) u' v') v v1 v2) u v1 v2) ?_ I
  intro n w sn st md ins lv lc l1 l2 l3 l4 vw mk nw ct dl tp su jo pr ac am acu hx bn b1 b2 b3 oc o1 o2 att xr xb xm xc xp xq xa fc hd va sd wt mv mn ho fm fs fv ow li re be pm pc aq lg H av VM VC hI hX hY
  have fin : i_Rel (k + 4) ((nI n), (nI w), (nI sn), (nI st), md, ins, (vs_I lv), (vs_I lc), l1, l2, l3, l4, (vs_I vw), mk, nw, (vs_I ct), (vs_I dl), tp, su, jo, (vs_I pr), (vs_I ac), am, acu, (vs_I hx), (vs_I bn), b1, b2, b3, (vs_I oc), o1, o2, (vs_I att), xr, xb, xm, xc, xp, xq, xa) ((nI n), (nI w), (nI sn), (nI fc), (nI st), md, ins, (vs_I vw), mk, nw, (vs_I ct), tp, (vs_I hd), su, jo, (vs_I pr), (vs_I ac), va, (vs_I sd), (vs_I wt), (vs_I mv), (vs_I mn), ho, (vs_I fm), (vs_I fs), (vs_I fv), (vs_I ow), (vs_I li), re, (vs_I be), pm, (vs_I pc), aq) := zz_in hI hX hY
  obtain ⟨⟨hn3, hn5, hw1, hw8, hst⟩, gM, gI, gV, gJ, gS, gT, gE, gL, gD, gH, gN, gO, gK, gA, gR, gQ, gB, g2, g3, g4, g5, g6, g7, g8, gC1, gC2, gC3, gC4, gF, gC5⟩ := hI
  obtain ⟨XL, RA, XH, XO, XA⟩ := hX
  obtain ⟨YH, YL, YA, Y6, Y7⟩ := hY
  unfold wpX_send wpY_send
  rcases vs_arg n hn5 v1 with hb | ⟨m, hm, rfl⟩
  · exact xw_bad1 hb (br_f (by decide) (yw_bad1 hb (br_f (by decide) ⟨by trivial, fin⟩)))
  have hm5 : m < 5 := by omega
  have hi := vs_in5 hm5
  have Xm := XO m hm
  have hsn : sn ≤ 48 := gT.2.2.2.2.2.1
  simp only [nI_clamp (show m < 2 ^ 31 by omega), nI_clamp (show sn < 2 ^ 31 by omega), vs_Ia]
  refine xw_bad0 hm hn5 (br_t rfl ?_)
  by_cases hv : md m = 2 ∨ md m = 3
  · refine xw_iv1 hm5 hv (br_f (by decide) ⟨hi, ?_⟩)
    by_cases c3 : md m = 3
    · exact br_t c3 (yw_bad0 hm hn5 (br_t rfl (yw_iv1 hm5 hv (br_f (by decide) ⟨hi, br_t c3 ⟨by trivial, fin⟩⟩))))
    refine br_f c3 ⟨hi, ?_⟩
    by_cases c4 : oc m < 4
    · refine br_t (nI_lt (b := 4) c4 (by decide)) ?_
      by_cases c5 : sn < 48
      · have cs := nI_lt (b := 48) c5 (by decide)
        have hs := vp_in_nI c5 (by decide)
        have ho20 : vp_in (nI (m * 4 + oc m)) 20 := vp_in_nI (by omega) (by decide)
        refine br_t cs (nm_r (nI_1 sn) ⟨hi, nm_r (vs_i4 m (oc m)) ⟨ho20, nm_r (vs_wA _ _ (by omega)) ⟨ho20, nm_r (vs_wA _ _ (by omega)) ⟨hi, hi, nm_r (e' := vs_I (vs_u oc m (oc m + 1))) (by rw [nI_1, vs_upd]) ?_⟩⟩⟩⟩)
        refine yw_bad0 hm hn5 (br_t rfl (yw_iv1 hm5 hv (br_f (by decide) ⟨hi, br_f c3 (yw_outboxAt (k := 3) hm5 hsn (by decide) (fun i => gT.2.2.2.2.1 i) (fun i h => by have := vs_some_lt h; omega) (fun _ => br_t (by decide) (br_t cs ⟨hs, nm_r (vs_updA _ _ _) ⟨hs, nm_r (vs_upd _ _ _) ⟨hs, nm_r (vs_upd _ _ 1) (nm_r (nI_1 sn) ⟨by trivial, ?_⟩)⟩⟩⟩)))⟩)))
        exact (zz_in ⟨⟨hn3, hn5, hw1, hw8, hst⟩, gM, gI, gV, gJ, gS, (vs_send_T gT c5 (by omega)), gE, gL, gD, gH, gN, gO, gK, gA, gR, gQ, gB, g2, g3, g4, g5, g6, g7, g8, gC1, gC2, gC3, gC4, gF, gC5⟩ ⟨(vs_send_XL XL gL gT), (vs_send_RA RA YH), XH, (vs_send_XO XO hm c4), XA⟩ ⟨(vs_send_YH YH c5), YL, YA, Y6, Y7⟩)
      · have cs : ¬ nI sn < 48 := nI_nlt (b := 48) (by omega) (by omega)
        exact br_f cs (yw_bad0 hm hn5 (br_t rfl (yw_iv1 hm5 hv (br_f (by decide) ⟨hi, br_f c3 (yw_outboxAt (k := 3) hm5 hsn (by decide) (fun i => gT.2.2.2.2.1 i) (fun i h => by have := vs_some_lt h; omega) (fun _ => br_t (by decide) (br_f cs ⟨by trivial, fin⟩)))⟩))))
    · exact br_f (nI_nlt (b := 4) (by omega) (by omega)) (yw_bad0 hm hn5 (br_t rfl (yw_iv1 hm5 hv (br_f (by decide) ⟨hi, br_f c3 (yw_outboxAt (k := 3) hm5 hsn (by decide) (fun i => gT.2.2.2.2.1 i) (fun i h => br_f (nI_pos (by
        have : i < 48 := by
          have key : ∀ s, i ∈ vs_ob wt sd s m → i < s := by
            intro s
            induction s with
            | zero => intro z; cases z
            | succ s ih =>
              intro z
              have z' : i ∈ (if wt s ≠ 0 ∧ sd s = m then vs_ob wt sd s m ++ [s] else vs_ob wt sd s m) := z
              split at z'
              · rcases List.mem_append.mp z' with y | y
                · have := ih y; omega
                · have := List.mem_singleton.mp y; omega
              · have := ih z'; omega
          have := key sn (List.mem_of_getElem? h)
          omega
        omega)) ⟨by trivial, fin⟩) (fun z => by omega))⟩))))
  · exact xw_iv0 hm5 hv (br_t rfl (yw_bad0 hm hn5 (br_t rfl (yw_iv0 hm5 hv (br_t rfl ⟨by trivial, fin⟩)))))
end
section
/-! gossip -/
variable {n w sn st fc : Nat} {md ins l1 l2 l3 l4 mk nw tp su jo am acu b1 b2 b3 o1 o2 xr xb xm xc xp xq xa va ho re pm aq : Nat → Int32} {lv lc vw ct dl pr ac hx bn oc att hd sd wt mv mn fm fs fv ow li be pc : Nat → Nat}
def vs_rg (h : Nat → Nat) (s : Int32) (m : Nat) (c : Nat → Nat) (j : Nat) : Nat → Nat :=
  fun i => if i / 5 = m ∧ i % 5 < j ∧ i % 5 ≠ m ∧ bt s (i % 5) = true then (if h i < c (i % 5) then c (i % 5) else h i) else h i
theorem vs_rg_0 (h : Nat → Nat) (s : Int32) (m : Nat) (c : Nat → Nat) : vs_rg h s m c 0 = h := by
  funext i
  exact if_neg (fun z => by omega)
theorem vs_rg_t {h : Nat → Nat} {s : Int32} {m j : Nat} {c : Nat → Nat} (hj : j < 5) (hm : j ≠ m) (hb : bt s j = true) (hc : h (m * 5 + j) < c j) : vs_rg h s m c (j + 1) = vs_u (vs_rg h s m c j) (m * 5 + j) (c j) := by
  funext i
  by_cases e : i = m * 5 + j
  · subst e
    rw [vs_us]
    have e1 : (m * 5 + j) / 5 = m := by omega
    have e2 : (m * 5 + j) % 5 = j := by omega
    show (if (m * 5 + j) / 5 = m ∧ (m * 5 + j) % 5 < j + 1 ∧ (m * 5 + j) % 5 ≠ m ∧ bt s ((m * 5 + j) % 5) = true then (if h (m * 5 + j) < c ((m * 5 + j) % 5) then c ((m * 5 + j) % 5) else h (m * 5 + j)) else h (m * 5 + j)) = c j
    rw [e1, e2, if_pos ⟨rfl, by omega, hm, hb⟩, if_pos hc]
  · rw [vs_un e]
    show (if i / 5 = m ∧ i % 5 < j + 1 ∧ i % 5 ≠ m ∧ bt s (i % 5) = true then _ else _) = (if i / 5 = m ∧ i % 5 < j ∧ i % 5 ≠ m ∧ bt s (i % 5) = true then _ else _)
    by_cases d : i / 5 = m ∧ i % 5 < j ∧ i % 5 ≠ m ∧ bt s (i % 5) = true
    · rw [if_pos d, if_pos ⟨d.1, by omega, d.2.2⟩]
    · rw [if_neg d, if_neg (fun z => d ⟨z.1, by omega, z.2.2⟩)]
theorem vs_rg_f {h : Nat → Nat} {s : Int32} {m j : Nat} {c : Nat → Nat} (hj : j < 5) (hn : j = m ∨ bt s j = false ∨ ¬ h (m * 5 + j) < c j) : vs_rg h s m c (j + 1) = vs_rg h s m c j := by
  funext i
  show (if i / 5 = m ∧ i % 5 < j + 1 ∧ i % 5 ≠ m ∧ bt s (i % 5) = true then _ else _) = (if i / 5 = m ∧ i % 5 < j ∧ i % 5 ≠ m ∧ bt s (i % 5) = true then _ else _)
  by_cases d : i / 5 = m ∧ i % 5 < j ∧ i % 5 ≠ m ∧ bt s (i % 5) = true
  · rw [if_pos d, if_pos ⟨d.1, by omega, d.2.2⟩]
  · rw [if_neg d]
    by_cases d2 : i / 5 = m ∧ i % 5 < j + 1 ∧ i % 5 ≠ m ∧ bt s (i % 5) = true
    · rw [if_pos d2]
      have e : i % 5 = j := by
        apply Classical.byContradiction
        intro z
        exact d ⟨d2.1, by omega, d2.2.2⟩
      have e2 : i = m * 5 + j := by omega
      rcases hn with hn | hn | hn
      · omega
      · rw [e, hn] at d2; cases d2.2.2.2
      · rw [← e2, ← e] at hn; rw [if_neg hn]
    · rw [if_neg d2]
theorem vs_rg_lo {h : Nat → Nat} {s : Int32} {m j : Nat} {c : Nat → Nat} (hj : j < 5) : vs_rg h s m c j (m * 5 + j) = h (m * 5 + j) := by
  have e2 : (m * 5 + j) % 5 = j := by omega
  exact if_neg (fun z => by omega)
theorem vs_rg_o {h : Nat → Nat} {s : Int32} {m f i j : Nat} {c : Nat → Nat} (hi : i < 5) (hne : f ≠ m) : vs_rg h s m c j (f * 5 + i) = h (f * 5 + i) := by
  have e2 : (f * 5 + i) / 5 = f := by omega
  exact if_neg (fun z => by omega)
def vs_gt (tp : Nat → Int32) (f t : Nat) : Nat → Int32 := if tp f ≤ tp t then tp else vs_u tp t (tp f)
theorem xw_gossip_l {post : Int32 → SX → Prop} {f t : Nat} (hf : f < 5) (ht : t < 5) (hne : f ≠ t) (hn : n ≤ 5) (hh : ∀ i, hx i ≤ 48) (h : post 1 ((nI n), (nI w), (nI sn), (nI st), md, ins, (vs_I lv), (vs_I lc), l1, l2, l3, l4, (vs_I vw), mk, nw, (vs_I ct), (vs_I dl), (vs_gt tp f t), su, jo, (vs_I pr), (vs_I ac), am, acu, (vs_I (vs_rg hx (mk t) t (fun j => hx (f * 5 + j)) n)), (vs_I bn), b1, b2, b3, (vs_I oc), o1, o2, (vs_I att), xr, xb, xm, xc, xp, xq, xa)) :
    ∀ d j : Nat, j + d = n → wX_gossip_77 post (nI f) (nI t) (d + 1) (nI j) (nI n) (nI w) (nI sn) (nI st) md ins (vs_I lv) (vs_I lc) l1 l2 l3 l4 (vs_I vw) mk nw (vs_I ct) (vs_I dl) tp su jo (vs_I pr) (vs_I ac) am acu (vs_I (vs_rg hx (mk t) t (fun j => hx (f * 5 + j)) j)) (vs_I bn) b1 b2 b3 (vs_I oc) o1 o2 (vs_I att) xr xb xm xc xp xq xa := by
  intro d
  induction d with
  | zero =>
    intro j hj
    have e : j = n := by omega
    subst e
    refine br_t (nI_le (by omega) (by omega)) ⟨vs_in5 hf, vs_in5 ht, ?_⟩
    simp only [nI_clamp (show f < 2 ^ 31 by omega), nI_clamp (show t < 2 ^ 31 by omega)]
    by_cases c : tp f ≤ tp t
    · have e : vs_gt tp f t = tp := if_pos c
      rw [e] at h
      exact br_t c h
    · have e : vs_gt tp f t = vs_u tp t (tp f) := if_neg c
      rw [e] at h
      exact br_f c ⟨vs_in5 hf, vs_in5 ht, nm_r (vs_updA _ _ _) h⟩
  | succ d ih =>
    intro j hj
    have ihj := ih (j + 1) (by omega)
    refine br_f (nI_ge (by omega) (by omega)) ?_
    by_cases c : j = t
    · rw [vs_rg_f (by omega) (Or.inl c)] at ihj
      exact br_t (by rw [c]) (nm_r (nI_1 j) ihj)
    · refine br_f (fun z => c ((nI_eq (by omega) (by omega)).mp z)) ⟨vs_in5 ht, ?_⟩
      rw [nI_clamp (show t < 2 ^ 31 by omega)]
      cases hb : bt (mk t) j
      · rw [vs_rg_f (by omega) (Or.inr (Or.inl hb))] at ihj
        exact xw_has0 (by omega) hb (br_t rfl (nm_r (nI_1 j) ihj))
      · refine xw_has1 (by omega) hb (br_f (by decide) ?_)
        rw [vs_i5, nI_clamp (show f * 5 + j < 2 ^ 31 by omega), vs_Ia, vs_rg_o (by omega) hne]
        refine ⟨vp_in_nI (by omega) (by omega), ?_⟩
        have hi := hh (t * 5 + j)
        have hi2 := hh (f * 5 + j)
        by_cases c2 : hx (t * 5 + j) < hx (f * 5 + j)
        · rw [vs_rg_t (by omega) c hb c2] at ihj
          exact xw_raise1 ht (by omega) rfl (by rw [vs_rg_lo (by omega)]; exact c2) hi2 (nm_r (nI_1 j) ihj)
        · rw [vs_rg_f (by omega) (Or.inr (Or.inr c2))] at ihj
          refine xw_raise0 ht (by omega) ?_ (nm_r (nI_1 j) ihj)
          rw [vs_rg_lo (by omega)]
          exact nI_le (by omega) (by omega)
theorem yw_gossip_l {post : Int32 → SY → Prop} {f t dd : Nat} {lg : Nat → List (Nat × Nat)} (hf : f < n) (ht : t < n) (hne : f ≠ t) (hn : n ≤ 5) (L : vs_YL n lg fc fm fs fv) (hv : vw f ≤ 48) (eD : vs_D (lg f) (vw f) = dd) (hdd : dd ≤ 48) (hh : ∀ i, hd i ≤ 48)
    (h : post 1 ((nI n), (nI w), (nI sn), (nI fc), (nI st), md, ins, (vs_I vw), mk, nw, (vs_I ct), (vs_gt tp f t), (vs_I (vs_rg hd (mk t) t (fun j => if j = f then dd else hd (f * 5 + j)) n)), su, jo, (vs_I pr), (vs_I ac), va, (vs_I sd), (vs_I wt), (vs_I mv), (vs_I mn), ho, (vs_I fm), (vs_I fs), (vs_I fv), (vs_I ow), (vs_I li), re, (vs_I be), pm, (vs_I pc), aq)) :
    ∀ d j : Nat, j + d = n → wY_gossip_77 post (nI f) (nI t) (nI n) (nI w) (nI sn) (nI fc) (nI st) (d + 1) (nI j) md ins (vs_I vw) mk nw (vs_I ct) tp (vs_I (vs_rg hd (mk t) t (fun j => if j = f then dd else hd (f * 5 + j)) j)) su jo (vs_I pr) (vs_I ac) va (vs_I sd) (vs_I wt) (vs_I mv) (vs_I mn) ho (vs_I fm) (vs_I fs) (vs_I fv) (vs_I ow) (vs_I li) re (vs_I be) pm (vs_I pc) aq := by
  intro d
  induction d with
  | zero =>
    intro j hj
    have e : j = n := by omega
    subst e
    refine br_t (nI_le (by omega) (by omega)) ⟨vs_in5 (by omega), vs_in5 (by omega), ?_⟩
    simp only [nI_clamp (show f < 2 ^ 31 by omega), nI_clamp (show t < 2 ^ 31 by omega)]
    by_cases c : tp f ≤ tp t
    · have e : vs_gt tp f t = tp := if_pos c
      rw [e] at h
      exact br_t c h
    · have e : vs_gt tp f t = vs_u tp t (tp f) := if_neg c
      rw [e] at h
      exact br_f c ⟨vs_in5 (by omega), vs_in5 (by omega), nm_r (vs_updA _ _ _) h⟩
  | succ d ih =>
    intro j hj
    have ihj := ih (j + 1) (by omega)
    refine br_f (nI_ge (by omega) (by omega)) (yw_knows hf (by omega) hn L hv eD ?_)
    rw [vs_rg_o (by omega) hne]
    by_cases c : j = t
    · rw [vs_rg_f (by omega) (Or.inl c)] at ihj
      exact br_t (by rw [c]) (nm_r (nI_1 j) ihj)
    · refine br_f (fun z => c ((nI_eq (by omega) (by omega)).mp z)) ⟨vs_in5 (by omega), ?_⟩
      rw [nI_clamp (show t < 2 ^ 31 by omega)]
      cases hb : bt (mk t) j
      · rw [vs_rg_f (by omega) (Or.inr (Or.inl hb))] at ihj
        exact yw_has0 (by omega) hb (br_t rfl (nm_r (nI_1 j) ihj))
      · refine yw_has1 (by omega) hb (br_f (by decide) ?_)
        rw [vs_i5, nI_clamp (show t * 5 + j < 2 ^ 31 by omega), vs_Ia, vs_rg_lo (by omega)]
        refine ⟨vp_in_nI (by omega) (by omega), ?_⟩
        have hi := hh (t * 5 + j)
        have hi2 : (if j = f then dd else hd (f * 5 + j)) ≤ 48 := by
          have := hh (f * 5 + j)
          split <;> omega
        by_cases c2 : hd (t * 5 + j) < (if j = f then dd else hd (f * 5 + j))
        · rw [vs_rg_t (c := fun j => if j = f then dd else hd (f * 5 + j)) (by omega) c hb c2] at ihj
          exact br_f (nI_ge c2 (by omega)) ⟨vp_in_nI (by omega) (by omega), nm_r (vs_upd _ _ _) (nm_r (nI_1 j) ihj)⟩
        · rw [vs_rg_f (c := fun j => if j = f then dd else hd (f * 5 + j)) (by omega) (Or.inr (Or.inr c2))] at ihj
          exact br_t (nI_le (by omega) (by omega)) (nm_r (nI_1 j) ihj)
theorem vs_mx {a c b : Nat} (ha : a ≤ b) (hc : c ≤ b) : (if a < c then c else a) ≤ b := by split <;> omega
theorem xw_gossip {post : Int32 → SX → Prop} {f t : Nat} (hf : f < 5) (ht : t < 5) (hne : f ≠ t) (hn : n ≤ 5) (hh : ∀ i, hx i ≤ 48) (h : post 1 ((nI n), (nI w), (nI sn), (nI st), md, ins, (vs_I lv), (vs_I lc), l1, l2, l3, l4, (vs_I vw), mk, nw, (vs_I ct), (vs_I dl), (vs_gt tp f t), su, jo, (vs_I pr), (vs_I ac), am, acu, (vs_I (vs_rg hx (mk t) t (fun j => hx (f * 5 + j)) n)), (vs_I bn), b1, b2, b3, (vs_I oc), o1, o2, (vs_I att), xr, xb, xm, xc, xp, xq, xa)) :
    ∃ n77 : Nat, wX_gossip_77 post (nI f) (nI t) n77 0 (nI n) (nI w) (nI sn) (nI st) md ins (vs_I lv) (vs_I lc) l1 l2 l3 l4 (vs_I vw) mk nw (vs_I ct) (vs_I dl) tp su jo (vs_I pr) (vs_I ac) am acu (vs_I hx) (vs_I bn) b1 b2 b3 (vs_I oc) o1 o2 (vs_I att) xr xb xm xc xp xq xa := by
  have a := xw_gossip_l hf ht hne hn hh h n 0 (by omega)
  rw [vs_rg_0] at a
  exact ⟨n + 1, a⟩
theorem yw_gossip {post : Int32 → SY → Prop} {f t dd : Nat} {lg : Nat → List (Nat × Nat)} (hf : f < n) (ht : t < n) (hne : f ≠ t) (hn : n ≤ 5) (L : vs_YL n lg fc fm fs fv) (hv : vw f ≤ 48) (eD : vs_D (lg f) (vw f) = dd) (hdd : dd ≤ 48) (hh : ∀ i, hd i ≤ 48)
    (h : post 1 ((nI n), (nI w), (nI sn), (nI fc), (nI st), md, ins, (vs_I vw), mk, nw, (vs_I ct), (vs_gt tp f t), (vs_I (vs_rg hd (mk t) t (fun j => if j = f then dd else hd (f * 5 + j)) n)), su, jo, (vs_I pr), (vs_I ac), va, (vs_I sd), (vs_I wt), (vs_I mv), (vs_I mn), ho, (vs_I fm), (vs_I fs), (vs_I fv), (vs_I ow), (vs_I li), re, (vs_I be), pm, (vs_I pc), aq)) : ∃ n77 : Nat, wY_gossip_77 post (nI f) (nI t) (nI n) (nI w) (nI sn) (nI fc) (nI st) n77 0 md ins (vs_I vw) mk nw (vs_I ct) tp (vs_I hd) su jo (vs_I pr) (vs_I ac) va (vs_I sd) (vs_I wt) (vs_I mv) (vs_I mn) ho (vs_I fm) (vs_I fs) (vs_I fv) (vs_I ow) (vs_I li) re (vs_I be) pm (vs_I pc) aq := by
  have a := yw_gossip_l hf ht hne hn L hv eD hdd hh h n 0 (by omega)
  rw [vs_rg_0] at a
  exact ⟨n + 1, a⟩
theorem vs_go_XH {n f t : Nat} {s : Int32} {dl hx hd : Nat → Nat} (R : vs_XH n dl hx hd) (hf : f < n) (ht : t < n) (hn : n ≤ 5) (hd48 : dl f ≤ 48) :
    vs_XH n dl (vs_rg hx s t (fun j => hx (f * 5 + j)) n) (vs_rg hd s t (fun j => if j = f then dl f else hd (f * 5 + j)) n) := by
  obtain ⟨r1, r2, r3⟩ := R
  refine ⟨fun i => ?_, fun i => ?_, fun m hm => ⟨?_, fun j hj hne => ?_⟩⟩
  · have a := r1 i
    have b := r1 (f * 5 + i % 5)
    unfold vs_rg
    split
    · show (if hx i < hx (f * 5 + i % 5) then hx (f * 5 + i % 5) else hx i) ≤ 48
      split <;> omega
    · exact a
  · have a := r2 i
    have b := r2 (f * 5 + i % 5)
    unfold vs_rg
    split
    · show (if hd i < (if i % 5 = f then dl f else hd (f * 5 + i % 5)) then (if i % 5 = f then dl f else hd (f * 5 + i % 5)) else hd i) ≤ 48
      have : (if i % 5 = f then dl f else hd (f * 5 + i % 5)) ≤ 48 := by split <;> omega
      exact vs_mx a this
    · exact a
  · have e2 : (m * 5 + m) % 5 = m := by omega
    have e1 : (m * 5 + m) / 5 = m := by omega
    have e : vs_rg hx s t (fun j => hx (f * 5 + j)) n (m * 5 + m) = hx (m * 5 + m) := if_neg (fun z => by omega)
    rw [e]; exact (r3 m hm).1
  · have e2 : (m * 5 + j) % 5 = j := by omega
    have e1 : (m * 5 + j) / 5 = m := by omega
    show (if (m * 5 + j) / 5 = t ∧ (m * 5 + j) % 5 < n ∧ (m * 5 + j) % 5 ≠ t ∧ bt s ((m * 5 + j) % 5) = true then (if hx (m * 5 + j) < hx (f * 5 + (m * 5 + j) % 5) then hx (f * 5 + (m * 5 + j) % 5) else hx (m * 5 + j)) else hx (m * 5 + j)) = (if (m * 5 + j) / 5 = t ∧ (m * 5 + j) % 5 < n ∧ (m * 5 + j) % 5 ≠ t ∧ bt s ((m * 5 + j) % 5) = true then (if hd (m * 5 + j) < (if (m * 5 + j) % 5 = f then dl f else hd (f * 5 + (m * 5 + j) % 5)) then (if (m * 5 + j) % 5 = f then dl f else hd (f * 5 + (m * 5 + j) % 5)) else hd (m * 5 + j)) else hd (m * 5 + j))
    rw [e1, e2, (r3 m hm).2 j hj hne]
    have ec : (if j = f then dl f else hd (f * 5 + j)) = hx (f * 5 + j) := by
      by_cases c : j = f
      · rw [if_pos c, c, (r3 f hf).1]
      · rw [if_neg c, (r3 f hf).2 j hj c]
    rw [ec]
theorem vs_go_K {n f t : Nat} {vw dl hd lv : Nat → Nat} {lg : Nat → List (Nat × Nat)} {VM mk nw : Nat → Int32} (g : vs_gK n vw hd lg VM) (gD : vs_gD n vw dl lg) (gV : vs_gV n vw lv mk nw VM) (hf : f < n) (hn : n ≤ 5) (hvf : vw f ≠ 0) (hvt : vw f = vw t) :
    vs_gK n vw (vs_rg hd (mk t) t (fun j => if j = f then dl f else hd (f * 5 + j)) n) lg VM := by
  intro m hm hv j hne hb
  have hj := gV.2 _ j hb
  have e2 : (m * 5 + j) % 5 = j := by omega
  have e1 : (m * 5 + j) / 5 = m := by omega
  have a := g m hm hv j hne hb
  show (if (m * 5 + j) / 5 = t ∧ (m * 5 + j) % 5 < n ∧ (m * 5 + j) % 5 ≠ t ∧ bt (mk t) ((m * 5 + j) % 5) = true then (if hd (m * 5 + j) < (if (m * 5 + j) % 5 = f then dl f else hd (f * 5 + (m * 5 + j) % 5)) then (if (m * 5 + j) % 5 = f then dl f else hd (f * 5 + (m * 5 + j) % 5)) else hd (m * 5 + j)) else hd (m * 5 + j)) ≤ _
  rw [e1, e2]
  by_cases c : m = t ∧ j < n ∧ j ≠ t ∧ bt (mk t) j = true
  · rw [if_pos c]
    obtain ⟨rfl, _, _, _⟩ := c
    have b : (if j = f then dl f else hd (f * 5 + j)) ≤ vs_D (lg j) (vw m) := by
      by_cases d : j = f
      · rw [if_pos d, d, ← hvt, (gD f hf).1 hvf]; exact Nat.le_refl _
      · rw [if_neg d, ← hvt]
        exact g f hf hvf j d (by rw [hvt]; exact hb)
    exact vs_mx a b
  · rw [if_neg c]; exact a
theorem vs_go_7 {n w f t : Nat} {s : Int32} {vw hd c : Nat → Nat} {mk : Nat → Int32} {H : Nat → Nat → Bool} (g : vs_gC7 n w vw hd mk H) : vs_gC7 n w vw (vs_rg hd s t c n) mk H := by
  intro m hm hv k hk j hj hne hb
  have a := g m hm hv k hk j hj hne hb
  have b : hd (m * 5 + j) ≤ vs_rg hd s t c n (m * 5 + j) := by
    unfold vs_rg
    split
    · split <;> omega
    · exact Nat.le_refl _
  omega
theorem i_vc_gossip {k : Nat} {u : SX} {v : SY} (I : i_Rel k u v) (hk : k + 4 ≤ 2050) (v1 : Int32) (v2 : Int32) : wpX_gossip (fun r u' => wpY_gossip (fun r' v' => r' = r ∧ i_Rel (k + 4) u' v') v v1 v2) u v1 v2 := by
  refine zz_el (P := fun u v => wpX_gossip (fun r u' => wpY_gossip (fun r' v' => r' = r ∧ i_Rel (k + 4) u' v') v v1 v2) u v1 v2) ?_ I
  intro n w sn st md ins lv lc l1 l2 l3 l4 vw mk nw ct dl tp su jo pr ac am acu hx bn b1 b2 b3 oc o1 o2 att xr xb xm xc xp xq xa fc hd va sd wt mv mn ho fm fs fv ow li re be pm pc aq lg H av VM VC hI hX hY
  have fin : i_Rel (k + 4) ((nI n), (nI w), (nI sn), (nI st), md, ins, (vs_I lv), (vs_I lc), l1, l2, l3, l4, (vs_I vw), mk, nw, (vs_I ct), (vs_I dl), tp, su, jo, (vs_I pr), (vs_I ac), am, acu, (vs_I hx), (vs_I bn), b1, b2, b3, (vs_I oc), o1, o2, (vs_I att), xr, xb, xm, xc, xp, xq, xa) ((nI n), (nI w), (nI sn), (nI fc), (nI st), md, ins, (vs_I vw), mk, nw, (vs_I ct), tp, (vs_I hd), su, jo, (vs_I pr), (vs_I ac), va, (vs_I sd), (vs_I wt), (vs_I mv), (vs_I mn), ho, (vs_I fm), (vs_I fs), (vs_I fv), (vs_I ow), (vs_I li), re, (vs_I be), pm, (vs_I pc), aq) := zz_in hI hX hY
  obtain ⟨⟨hn3, hn5, hw1, hw8, hst⟩, gM, gI, gV, gJ, gS, gT, gE, gL, gD, gH, gN, gO, gK, gA, gR, gQ, gB, g2, g3, g4, g5, g6, g7, g8, gC1, gC2, gC3, gC4, gF, gC5⟩ := hI
  obtain ⟨XL, RA, XH, XO, XA⟩ := hX
  obtain ⟨YH, YL, YA, Y6, Y7⟩ := hY
  unfold wpX_gossip wpY_gossip
  rcases vs_arg n hn5 v1 with hb | ⟨f, hf, rfl⟩
  · exact xw_bad1 hb (br_f (by decide) (yw_bad1 hb (br_f (by decide) ⟨by trivial, fin⟩)))
  rcases vs_arg n hn5 v2 with hb | ⟨t, ht, rfl⟩
  · exact xw_bad0 hf hn5 (br_t rfl (xw_bad1 hb (br_f (by decide) (yw_bad0 hf hn5 (br_t rfl (yw_bad1 hb (br_f (by decide) ⟨by trivial, fin⟩)))))))
  simp only [nI_clamp (show f < 2 ^ 31 by omega), nI_clamp (show t < 2 ^ 31 by omega), vs_Ia]
  have hif := vs_in5 (show f < 5 by omega)
  have hit := vs_in5 (show t < 5 by omega)
  refine xw_bad0 hf hn5 (br_t rfl (xw_bad0 ht hn5 (br_t rfl ?_)))
  by_cases c0 : f = t
  · have c0' : nI f = nI t := by rw [c0]
    exact br_t c0' (yw_bad0 hf hn5 (br_t rfl (yw_bad0 ht hn5 (br_t rfl (br_t c0' ⟨by trivial, fin⟩)))))
  have c0' : ¬ nI f = nI t := fun z => c0 ((nI_eq (by omega) (by omega)).mp z)
  refine br_f c0' ?_
  by_cases hv : md f = 2 ∨ md f = 3
  · refine xw_iv1 (by omega) hv (br_f (by decide) ?_)
    by_cases hw : md t = 2 ∨ md t = 3
    · refine xw_iv1 (by omega) hw (br_f (by decide) ⟨hif, hit, ?_⟩)
      by_cases c1 : vw f = vw t
      · have c1' : nI (vw f) = nI (vw t) := by rw [c1]
        refine br_t c1' ⟨hit, ?_⟩
        by_cases c2 : md t = 3
        · exact br_t c2 (yw_bad0 hf hn5 (br_t rfl (yw_bad0 ht hn5 (br_t rfl (br_f c0' (yw_iv1 (by omega) hv (br_f (by decide) (yw_iv1 (by omega) hw (br_f (by decide) ⟨hif, hit, br_t c1' ⟨hit, br_t c2 ⟨by trivial, fin⟩⟩⟩)))))))))
        · have hvf := ((gM f hf).2).mp hv
          have e := (gD f hf).1 hvf
          have d48 := vs_dl48 gD gL hf
          refine br_f c2 (xw_gossip (by omega) (by omega) c0 hn5 XH.1 ?_)
          exact yw_bad0 hf hn5 (br_t rfl (yw_bad0 ht hn5 (br_t rfl (br_f c0' (yw_iv1 (by omega) hv (br_f (by decide) (yw_iv1 (by omega) hw (br_f (by decide) ⟨hif, hit, br_t c1' ⟨hit, br_f c2 (yw_gossip hf ht c0 hn5 YL (vs_v48 gI gV hf) e d48 XH.2.1 ⟨by trivial, (zz_in ⟨⟨hn3, hn5, hw1, hw8, hst⟩, gM, gI, gV, gJ, gS, gT, gE, gL, gD, gH, gN, gO, (vs_go_K gK gD gV hf hn5 hvf c1), gA, gR, gQ, gB, g2, g3, g4, g5, g6, g7, g8, gC1, gC2, gC3, gC4, gF, gC5⟩ ⟨XL, RA, (vs_go_XH XH hf ht hn5 d48), XO, XA⟩ ⟨YH, YL, YA, Y6, (vs_go_7 (f := f) Y7)⟩)⟩)⟩⟩))))))))
      · have c1' : ¬ nI (vw f) = nI (vw t) := fun z => c1 ((nI_eq (by have := vs_v48 gI gV hf; omega) (by have := vs_v48 gI gV ht; omega)).mp z)
        exact br_f c1' (yw_bad0 hf hn5 (br_t rfl (yw_bad0 ht hn5 (br_t rfl (br_f c0' (yw_iv1 (by omega) hv (br_f (by decide) (yw_iv1 (by omega) hw (br_f (by decide) ⟨hif, hit, br_f c1' ⟨by trivial, fin⟩⟩)))))))))
    · exact xw_iv0 (by omega) hw (br_t rfl (yw_bad0 hf hn5 (br_t rfl (yw_bad0 ht hn5 (br_t rfl (br_f c0' (yw_iv1 (by omega) hv (br_f (by decide) (yw_iv0 (by omega) hw (br_t rfl ⟨by trivial, fin⟩))))))))))
  · exact xw_iv0 (by omega) hv (br_t rfl (yw_bad0 hf hn5 (br_t rfl (yw_bad0 ht hn5 (br_t rfl (br_f c0' (yw_iv0 (by omega) hv (br_t rfl ⟨by trivial, fin⟩))))))))
end
section
/-! pure: segments of a log, room, deliveries -/
theorem vs_cn_0 : ∀ d, vs_cn (fun _ => false) d = 0 := by
  intro d
  induction d with
  | zero => rfl
  | succ d ih => show vs_cn (fun _ => false) d + 0 = 0; rw [ih]
theorem vs_cn_l {N : Nat} : ∀ (l : List Nat), l.Nodup → (∀ x, x ∈ l → x < N) → vs_cn (fun x => decide (x ∈ l)) N = l.length := by
  intro l
  induction l with
  | nil =>
    intro _ _
    rw [vs_cn_c (Q := fun _ => false) (fun i _ => by simp), vs_cn_0]
    rfl
  | cons a l ih =>
    intro hd hl
    rw [List.nodup_cons] at hd
    rw [vs_cn_put (P := fun x => decide (x ∈ l)) (i := a) (decide_eq_false hd.1) (decide_eq_true (List.mem_cons_self ..)) ?_ (hl a (List.mem_cons_self ..)), ih hd.2 (fun x hx => hl x (List.mem_cons_of_mem _ hx))]
    · rfl
    · intro j hj
      show decide (j ∈ a :: l) = decide (j ∈ l)
      apply decide_eq_decide.mpr
      rw [List.mem_cons]
      exact ⟨fun z => z.resolve_left hj, Or.inr⟩
theorem vs_pig {N : Nat} {l : List Nat} (h : l.Nodup) (hl : ∀ x, x ∈ l → x < N) : l.length ≤ N := by
  rw [← vs_cn_l l h hl]
  exact vs_cn_le _ _
/-- the entries for the numbers d + 1 .. d' -/
def vs_seg (e : Nat → Nat × Nat) (d d' : Nat) : List (Nat × Nat) := (List.range (d' - d)).map (fun t => e (d + 1 + t))
theorem vs_seg_0 (e : Nat → Nat × Nat) (d : Nat) : vs_seg e d d = [] := by
  unfold vs_seg
  rw [Nat.sub_self]; rfl
theorem vs_seg_s (e : Nat → Nat × Nat) {d d' : Nat} (h : d < d') : vs_seg e d d' = e (d + 1) :: vs_seg e (d + 1) d' := by
  unfold vs_seg
  rw [show d' - d = (d' - (d + 1)) + 1 by omega, List.range_succ_eq_map, List.map_cons, List.map_map]
  congr 1
  apply List.map_congr_left
  intro t _
  show e (d + 1 + (t + 1)) = e (d + 1 + 1 + t)
  congr 1
  omega
theorem vs_seg_1 (e : Nat → Nat × Nat) (d : Nat) : vs_seg e d (d + 1) = [e (d + 1)] := by
  rw [vs_seg_s e (by omega), vs_seg_0]
theorem vs_seg_len (e : Nat → Nat × Nat) (d d' : Nat) : (vs_seg e d d').length = d' - d := by
  unfold vs_seg
  rw [List.length_map, List.length_range]
theorem vs_seg_get (e : Nat → Nat × Nat) {d d' t : Nat} (h : t < d' - d) : (vs_seg e d d')[t]? = some (e (d + 1 + t)) := by
  unfold vs_seg
  rw [List.getElem?_map, List.getElem?_range h]
  rfl
theorem vs_seg_mem {e : Nat → Nat × Nat} {d d' : Nat} {x : Nat × Nat} (h : x ∈ vs_seg e d d') : ∃ k, d < k ∧ k ≤ d' ∧ x = e k := by
  unfold vs_seg at h
  obtain ⟨t, ht, rfl⟩ := List.mem_map.mp h
  have := List.mem_range.mp ht
  exact ⟨d + 1 + t, by omega, by omega, rfl⟩
theorem vs_D_seg {ix : Nat → Nat} {v v' : Nat} {l : List (Nat × Nat)} {d d' : Nat} (h : d ≤ d') : vs_D (l ++ vs_seg (fun k => (ix k, v)) d d') v' = vs_D l v' + (if v = v' then d' - d else 0) := by
  unfold vs_D
  rw [List.countP_append]
  congr 1
  unfold vs_seg
  rw [List.countP_map]
  by_cases c : v = v'
  · rw [if_pos c]
    rw [List.countP_eq_length.mpr (fun a _ => by simp [c]), List.length_range]
  · rw [if_neg c, List.countP_eq_zero]
    intro a _
    simp [c]
theorem vs_dn_ge {Hm : Nat → Bool} : ∀ r d, d ≤ vs_dn Hm r d := by
  intro r
  induction r with
  | zero => intro d; exact Nat.le_refl _
  | succ r ih =>
    intro d
    show d ≤ (if Hm (d + 1) = true then vs_dn Hm r (d + 1) else d)
    split
    · have := ih (d + 1); omega
    · exact Nat.le_refl _
theorem vs_dn_H {Hm : Nat → Bool} : ∀ r d k, d < k → k ≤ vs_dn Hm r d → Hm k = true := by
  intro r
  induction r with
  | zero => intro d k a b; have : vs_dn Hm 0 d = d := rfl; omega
  | succ r ih =>
    intro d k a b
    have e : vs_dn Hm (r + 1) d = if Hm (d + 1) = true then vs_dn Hm r (d + 1) else d := rfl
    rw [e] at b
    by_cases c : Hm (d + 1) = true
    · rw [if_pos c] at b
      by_cases z : k = d + 1
      · rw [z]; exact c
      · exact ih (d + 1) k (by omega) b
    · rw [if_neg c] at b; omega
theorem vs_dn_end {Hm : Nat → Bool} (h48 : ∀ k, Hm k = true → k ≤ 48) : ∀ r d, 48 ≤ d + r → Hm (vs_dn Hm r d + 1) = false := by
  intro r
  induction r with
  | zero =>
    intro d h
    show Hm (d + 1) = false
    cases e : Hm (d + 1)
    · rfl
    · have := h48 _ e; omega
  | succ r ih =>
    intro d h
    have e : vs_dn Hm (r + 1) d = if Hm (d + 1) = true then vs_dn Hm r (d + 1) else d := rfl
    rw [e]
    by_cases c : Hm (d + 1) = true
    · rw [if_pos c]; exact ih (d + 1) (by omega)
    · rw [if_neg c]; exact vs_bf c
/-- the end is the first gap: any two runs that reach it agree -/
theorem vs_dn_u {Hm : Nat → Bool} {d x y : Nat} (hx : d ≤ x) (hy : d ≤ y) (ax : ∀ k, d < k → k ≤ x → Hm k = true) (ay : ∀ k, d < k → k ≤ y → Hm k = true) (ex : Hm (x + 1) = false) (ey : Hm (y + 1) = false) : x = y := by
  apply Classical.byContradiction
  intro c
  rcases Nat.lt_or_gt_of_ne c with h | h
  · have := ay (x + 1) (by omega) (by omega); rw [ex] at this; cases this
  · have := ax (y + 1) (by omega) (by omega); rw [ey] at this; cases this
theorem vs_dg_eq {Hm : Nat → Bool} {e : Nat → Nat × Nat} : ∀ r d l, vs_dg Hm e r d l = l ++ vs_seg e d (vs_dn Hm r d) := by
  intro r
  induction r with
  | zero => intro d l; show l = l ++ vs_seg e d d; rw [vs_seg_0, List.append_nil]
  | succ r ih =>
    intro d l
    show (if Hm (d + 1) = true then vs_dg Hm e r (d + 1) (l ++ [e (d + 1)]) else l) = l ++ vs_seg e d (if Hm (d + 1) = true then vs_dn Hm r (d + 1) else d)
    by_cases c : Hm (d + 1) = true
    · have g := vs_dn_ge (Hm := Hm) r (d + 1)
      rw [if_pos c, if_pos c, ih, vs_seg_s e (show d < vs_dn Hm r (d + 1) by omega), List.append_assoc]
      rfl
    · rw [if_neg c, if_neg c, vs_seg_0, List.append_nil]
/-- one member's log, extended by the next numbers of view v -/
theorem vs_ext1 {sn n lvm v d d' : Nat} {mv mn wt sd : Nat → Nat} {l : List (Nat × Nat)} (gT : vs_gT n sn mv mn wt sd)
    (h1 : ∀ i v, (i, v) ∈ l → v ≠ 0 ∧ mv i = v ∧ mn i ≤ vs_D l v ∧ v ≤ lvm) (h2 : (l.map Prod.fst).Nodup) (h3 : ∀ v, v ≠ 0 → vs_D l v ≤ vs_N mv v)
    (hv : v ≠ 0) (hl : v ≤ lvm) (hd : vs_D l v = d) (hdd : d ≤ d') (hN : d' ≤ vs_N mv v) :
    (∀ i v', (i, v') ∈ l ++ vs_seg (fun k => (vs_ix mv mn v k, v)) d d' → v' ≠ 0 ∧ mv i = v' ∧ mn i ≤ vs_D (l ++ vs_seg (fun k => (vs_ix mv mn v k, v)) d d') v' ∧ v' ≤ lvm)
    ∧ ((l ++ vs_seg (fun k => (vs_ix mv mn v k, v)) d d').map Prod.fst).Nodup ∧ (∀ v', v' ≠ 0 → vs_D (l ++ vs_seg (fun k => (vs_ix mv mn v k, v)) d d') v' ≤ vs_N mv v')
    ∧ (l ++ vs_seg (fun k => (vs_ix mv mn v k, v)) d d').length ≤ 48 := by
  have hx : ∀ k, d < k → k ≤ d' → vs_ix mv mn v k < 48 ∧ mv (vs_ix mv mn v k) = v ∧ mn (vs_ix mv mn v k) = k := by
    intro k a b
    obtain ⟨i, hi⟩ := gT.2.1 v k hv (by omega) (by omega)
    have hs := (gT.1 i (by rw [hi.1]; exact hv)).1
    have := gT.2.2.2.2.2.1
    have hlt := vs_ix_of (show i < 48 by omega) hi
    exact ⟨hlt, vs_ix_sp hlt⟩
  have hnd : ((l ++ vs_seg (fun k => (vs_ix mv mn v k, v)) d d').map Prod.fst).Nodup := by
    rw [List.map_append, List.nodup_append]
    refine ⟨h2, ?_, ?_⟩
    · have key : ∀ q d, d' - d = q → (∀ k, d < k → k ≤ d' → vs_ix mv mn v k < 48 ∧ mv (vs_ix mv mn v k) = v ∧ mn (vs_ix mv mn v k) = k) → ((vs_seg (fun k => (vs_ix mv mn v k, v)) d d').map Prod.fst).Nodup := by
        intro q
        induction q with
        | zero =>
          intro d e _
          unfold vs_seg
          rw [e]
          exact List.nodup_nil
        | succ q ih =>
          intro d e hx
          rw [vs_seg_s _ (show d < d' by omega), List.map_cons, List.nodup_cons]
          refine ⟨?_, ih (d + 1) (by omega) (fun k a b => hx k (by omega) b)⟩
          intro z
          obtain ⟨y, hy, ey⟩ := List.mem_map.mp z
          obtain ⟨k, hk1, hk2, rfl⟩ := vs_seg_mem hy
          have a := hx k (by omega) hk2
          have b := hx (d + 1) (by omega) (by omega)
          have e2 : vs_ix mv mn v k = vs_ix mv mn v (d + 1) := ey
          rw [e2] at a
          omega
      exact key _ d rfl hx
    · intro a ha b hb e
      obtain ⟨⟨i, v'⟩, hi, ei⟩ := List.mem_map.mp ha
      obtain ⟨y, hy, ey⟩ := List.mem_map.mp hb
      obtain ⟨k, hk1, hk2, rfl⟩ := vs_seg_mem hy
      have t := h1 i v' hi
      have x := hx k hk1 hk2
      have e3 : i = vs_ix mv mn v k := by
        have e1 : i = a := ei
        have e2 : vs_ix mv mn v k = b := ey
        omega
      rw [e3] at t
      have ev : v' = v := by omega
      rw [ev, hd] at t
      omega
  refine ⟨?_, hnd, ?_, ?_⟩
  · intro i v' h
    rw [vs_D_seg hdd]
    rcases List.mem_append.mp h with h | h
    · have t := h1 i v' h
      exact ⟨t.1, t.2.1, by omega, t.2.2.2⟩
    · obtain ⟨k, hk1, hk2, e⟩ := vs_seg_mem h
      cases e
      have x := hx k hk1 hk2
      rw [if_pos rfl]
      exact ⟨hv, x.2.1, by omega, hl⟩
  · intro v' hv'
    rw [vs_D_seg hdd]
    have := h3 v' hv'
    by_cases c : v = v'
    · subst c
      rw [if_pos rfl]; omega
    · rw [if_neg c]; omega
  · rw [← List.length_map (f := Prod.fst)]
    apply vs_pig hnd
    intro x hx'
    obtain ⟨⟨i, v'⟩, hi, rfl⟩ := List.mem_map.mp hx'
    show i < 48
    have hsn := gT.2.2.2.2.2.1
    rcases List.mem_append.mp hi with h | h
    · have t := h1 i v' h
      have := (gT.1 i (by rw [t.2.1]; exact t.1)).1
      omega
    · obtain ⟨k, hk1, hk2, e⟩ := vs_seg_mem h
      cases e
      exact (hx k hk1 hk2).1
theorem vs_room {n sn : Nat} {lv mv mn wt sd vw dl : Nat → Nat} {lg : Nat → List (Nat × Nat)} {mk nw VM : Nat → Int32} (gT : vs_gT n sn mv mn wt sd) (gL : vs_gL n lv mv mn lg) (gD : vs_gD n vw dl lg) (gV : vs_gV n vw lv mk nw VM) {m : Nat} (hm : m < n) (hv : vw m ≠ 0) :
    (lg m).length + (vs_N mv (vw m) - dl m) ≤ 48 := by
  have a := gL m hm
  have b := (gD m hm).1 hv
  have c := a.2.2 (vw m) hv
  have e := (vs_ext1 (d' := vs_N mv (vw m)) gT a.1 a.2.1 a.2.2 hv (Nat.le_of_eq (gV.1 m hm hv).1) b (by omega) (Nat.le_refl _)).2.2.2
  rw [List.length_append, vs_seg_len] at e
  exact e
/-- a member delivers up to d' -/
theorem vs_dv_L {n sn m d' : Nat} {lv mv mn wt sd vw dl : Nat → Nat} {lg : Nat → List (Nat × Nat)} {mk nw VM : Nat → Int32} (gT : vs_gT n sn mv mn wt sd) (gL : vs_gL n lv mv mn lg) (gD : vs_gD n vw dl lg) (gV : vs_gV n vw lv mk nw VM) (hm : m < n) (hv : vw m ≠ 0) (hdd : dl m ≤ d') (hN : d' ≤ vs_N mv (vw m)) :
    vs_gL n lv mv mn (vs_u lg m (lg m ++ vs_seg (fun k => (vs_ix mv mn (vw m) k, vw m)) (dl m) d')) := by
  intro a ha
  by_cases c : a = m
  · subst c
    rw [vs_us]
    have t := gL a ha
    have e := vs_ext1 (d' := d') gT t.1 t.2.1 t.2.2 hv (Nat.le_of_eq (gV.1 a ha hv).1) ((gD a ha).1 hv) hdd hN
    exact ⟨e.1, e.2.1, e.2.2.1⟩
  · rw [vs_un c]; exact gL a ha
theorem vs_dv_D {n m d' : Nat} {mv mn vw dl : Nat → Nat} {lg : Nat → List (Nat × Nat)} (gD : vs_gD n vw dl lg) (hm : m < n) (hv : vw m ≠ 0) (hdd : dl m ≤ d') :
    vs_gD n vw (vs_u dl m d') (vs_u lg m (lg m ++ vs_seg (fun k => (vs_ix mv mn (vw m) k, vw m)) (dl m) d')) := by
  intro a ha
  by_cases c : a = m
  · subst c
    rw [vs_us, vs_us, vs_D_seg hdd, if_pos rfl, (gD a ha).1 hv]
    exact ⟨fun _ => by omega, fun z => (hv z).elim⟩
  · rw [vs_un c, vs_un c]; exact gD a ha
theorem vs_dv_mono {m d' : Nat} {mv mn vw dl : Nat → Nat} {lg : Nat → List (Nat × Nat)} (hdd : dl m ≤ d') (a v : Nat) : vs_D (lg a) v ≤ vs_D (vs_u lg m (lg m ++ vs_seg (fun k => (vs_ix mv mn (vw m) k, vw m)) (dl m) d') a) v := by
  by_cases c : a = m
  · subst c
    rw [vs_us, vs_D_seg hdd]; omega
  · rw [vs_un c]; exact Nat.le_refl _
theorem vs_dv_H {n m d' : Nat} {vw dl mv : Nat → Nat} {H : Nat → Nat → Bool} (gH : vs_gH n vw dl mv H) (hd : ∀ k, dl m < k → k ≤ d' → H m k = true) : vs_gH n vw (vs_u dl m d') mv H := by
  intro a ha
  have t := gH a ha
  refine ⟨t.1, fun hv k h1 h2 => ?_⟩
  by_cases c : a = m
  · subst c
    rw [vs_us] at h2
    by_cases z : k ≤ dl a
    · exact t.2 hv k h1 z
    · exact hd k (by omega) h2
  · rw [vs_un c] at h2; exact t.2 hv k h1 h2
theorem vs_dv_O {n w m d' : Nat} {lv vw dl mv mn : Nat → Nat} {lg : Nat → List (Nat × Nat)} {VM : Nat → Int32} (gO : vs_gO n w lv vw dl mv lg VM) (hdd : dl m ≤ d') (hN : d' ≤ vs_N mv (vw m)) :
    vs_gO n w lv vw (vs_u dl m d') mv (vs_u lg m (lg m ++ vs_seg (fun k => (vs_ix mv mn (vw m) k, vw m)) (dl m) d')) VM := by
  refine ⟨fun v j hv hb => ?_, fun v q hv hb hl => ⟨fun e => ?_, ((gO.2.1 v q hv hb hl).2)⟩, gO.2.2⟩
  · have a := gO.1 v j hv hb
    have b := vs_dv_mono (m := m) (d' := d') (mv := mv) (mn := mn) (vw := vw) (dl := dl) (lg := lg) hdd j v
    omega
  · have a := (gO.2.1 v q hv hb hl).1 e
    by_cases c : q = m
    · subst c
      rw [vs_us]
      rw [e] at hN
      omega
    · rw [vs_un c]; exact a
theorem vs_dv_K {n m d' : Nat} {vw dl hd mv mn : Nat → Nat} {lg : Nat → List (Nat × Nat)} {VM : Nat → Int32} (gK : vs_gK n vw hd lg VM) (hdd : dl m ≤ d') :
    vs_gK n vw hd (vs_u lg m (lg m ++ vs_seg (fun k => (vs_ix mv mn (vw m) k, vw m)) (dl m) d')) VM := by
  intro a ha hv j hne hb
  have x := gK a ha hv j hne hb
  have b := vs_dv_mono (m := m) (d' := d') (mv := mv) (mn := mn) (vw := vw) (dl := dl) (lg := lg) hdd j (vw a)
  omega
theorem vs_dv_F {n m d' : Nat} {vw ct dl mv mn VC : Nat → Nat} {VM : Nat → Int32} {lg : Nat → List (Nat × Nat)} (gF : vs_gF n vw ct dl mv mn VC VM lg) (hdd : dl m ≤ d') :
    vs_gF n vw ct (vs_u dl m d') mv mn VC VM (vs_u lg m (lg m ++ vs_seg (fun k => (vs_ix mv mn (vw m) k, vw m)) (dl m) d')) := by
  intro a ha
  have t := gF a ha
  refine ⟨t.1, fun hv => ?_⟩
  have t2 := t.2 hv
  by_cases c : a = m
  · subst c
    rw [vs_us, vs_us, List.length_append, vs_seg_len]
    refine ⟨by omega, fun k hk => ?_, fun h2 hb => ?_⟩
    · have e : (lg a).length + (d' - dl a) - d' + k = (lg a).length - dl a + k := by omega
      rw [e]
      by_cases z : k < dl a
      · rw [List.getElem?_append_left (by omega)]
        exact t2.2.1 k z
      · rw [List.getElem?_append_right (by omega), vs_seg_get _ (by omega)]
        have e2 : dl a + 1 + ((lg a).length - dl a + k - (lg a).length) = k + 1 := by omega
        rw [e2]
    · have t3 := t2.2.2 h2 hb
      refine ⟨t3.1, by omega, fun k hk => ?_⟩
      have e : (lg a).length + (d' - dl a) - d' - ct a + k = (lg a).length - dl a - ct a + k := by omega
      rw [e, List.getElem?_append_left (by omega)]
      exact t3.2.2 k hk
  · rw [vs_un c, vs_un c]; exact t2
theorem vs_dv_C3 {n st m d' : Nat} {md pm : Nat → Int32} {vw dl pc av : Nat → Nat} (g : vs_gC3 n st md pm vw dl pc av) (hmd : md m = 2) : vs_gC3 n st md pm vw (vs_u dl m d') pc av := by
  intro a j h1 h2 h3 h4 h5 h6
  have t := g a j h1 h2 h3 h4 h5 h6
  by_cases c : j = m
  · rw [c, hmd] at t; exact absurd t.1 (by decide)
  · rw [vs_un c]; exact t
theorem vs_dv_C4 {n st m d' : Nat} {H : Nat → Nat → Bool} {md re VM : Nat → Int32} {vw lv pr dl att av : Nat → Nat} (g : vs_gC4 n H re vw dl att av) (gA : vs_gA n st md re vw pr att av) (gR : vs_gR n st md re VM vw lv pr av) (hmd : md m = 2) : vs_gC4 n H re vw (vs_u dl m d') att av := by
  intro c a h1 h2 h3 h4 h5 k h6 h7
  by_cases e : a = m
  · have t := gA c h1
    have r := (gR (att c) (by omega) t.1).2.2.2 a h4
    have := (r.2.2.2 h5).2
    rw [e, hmd] at this
    exact absurd this (by decide)
  · rw [vs_un e] at h7
    exact g c a h1 h2 h3 h4 h5 k h6 h7
theorem vs_dv_N {n m d' : Nat} {md : Nat → Int32} {dl : Nat → Nat} {H : Nat → Nat → Bool} (g : ∀ a, a < n → a ≠ m → md a = 2 → H a (dl a + 1) = false) (h : H m (d' + 1) = false) : vs_gN n md (vs_u dl m d') H := by
  intro a ha hmd
  by_cases c : a = m
  · subst c
    rw [vs_us]; exact h
  · rw [vs_un c]; exact g a ha c hmd
theorem vs_dv_X {n m d' : Nat} {dl hx hd : Nat → Nat} (R : vs_XH n dl hx hd) (hn : n ≤ 5) (h : d' ≤ 48) : vs_XH n (vs_u dl m d') (vs_u hx (m * 5 + m) d') hd := by
  refine ⟨fun i => ?_, R.2.1, fun a ha => ⟨?_, fun j hj hne => ?_⟩⟩
  · by_cases c : i = m * 5 + m
    · rw [c, vs_us]; exact h
    · rw [vs_un c]; exact R.1 i
  · by_cases c : a = m
    · rw [c, vs_us, vs_us]
    · rw [vs_un (show a * 5 + a ≠ m * 5 + m by omega), vs_un c]; exact (R.2.2 a ha).1
  · by_cases c : a * 5 + j = m * 5 + m
    · have e1 : (a * 5 + j) % 5 = j := by omega
      exfalso
      by_cases hm5 : m < 5
      · omega
      · have := R.1 0; omega
    · rw [vs_un c]; exact (R.2.2 a ha).2 j hj hne
end
section
/-! fetch, pure and on Y; repair -/
variable {n w sn st fc : Nat} {md ins l1 l2 l3 l4 mk nw tp su jo am acu b1 b2 b3 o1 o2 xr xb xm xc xp xq xa va ho re pm aq : Nat → Int32} {lv lc vw ct dl pr ac hx bn oc att hd sd wt mv mn fm fs fv ow li be pc : Nat → Nat}
theorem vs_fe_mono {H : Nat → Nat → Bool} {m k : Nat} {g : Nat → Bool} (a b : Nat) (h : H a b = true) : vs_Hk H m g k a b = true := by
  show (H a b || (decide (a = m) && (decide (b < k) && g b))) = true
  rw [h]; rfl
theorem vs_fe_new {H : Nat → Nat → Bool} {m k : Nat} {g : Nat → Bool} {a b : Nat} (h : vs_Hk H m g k a b = true) : H a b = true ∨ (a = m ∧ b < k ∧ g b = true) := by
  have h' : (H a b || (decide (a = m) && (decide (b < k) && g b))) = true := h
  cases e : H a b
  · rw [e, Bool.false_or, Bool.and_eq_true, Bool.and_eq_true, decide_eq_true_eq, decide_eq_true_eq] at h'
    exact Or.inr h'
  · exact Or.inl rfl
theorem vs_fe_H {n m p k : Nat} {vw dl mv : Nat → Nat} {H : Nat → Nat → Bool} {g : Nat → Bool} (gH : vs_gH n vw dl mv H) (hp : p < n) (hvp : vw p = vw m) (hg : ∀ k, g k = true → H p k = true) : vs_gH n vw dl mv (vs_Hk H m g k) := by
  intro a ha
  have t := gH a ha
  refine ⟨fun b h => ?_, fun hv b h1 h2 => vs_fe_mono a b (t.2 hv b h1 h2)⟩
  rcases vs_fe_new h with h | ⟨e, _, h⟩
  · exact t.1 b h
  · have := (gH p hp).1 b (hg b h)
    rw [hvp] at this
    rw [e]; exact this
theorem vs_mono_C2 {n : Nat} {H H' : Nat → Nat → Bool} {pm : Nat → Int32} {att be pc ac : Nat → Nat} (g : vs_gC2 n H pm att be pc ac) (h : ∀ a b, H a b = true → H' a b = true) : vs_gC2 n H' pm att be pc ac := by
  intro m hm
  have t := g m hm
  exact ⟨fun z k a b => h _ _ (t.1 z k a b), fun z y k a b => h _ _ (t.2.1 z y k a b), fun z y k a b => h _ _ (t.2.2 z y k a b)⟩
theorem vs_mono_C4 {n : Nat} {H H' : Nat → Nat → Bool} {re : Nat → Int32} {vw dl att av : Nat → Nat} (g : vs_gC4 n H re vw dl att av) (h : ∀ a b, H a b = true → H' a b = true) : vs_gC4 n H' re vw dl att av :=
  fun c m h1 h2 h3 h4 h5 k h6 h7 => h _ _ (g c m h1 h2 h3 h4 h5 k h6 h7)
theorem vs_rs_K {n m c : Nat} {vw hd : Nat → Nat} {s : Int32} {lg : Nat → List (Nat × Nat)} {VM : Nat → Int32} (g : vs_gK n vw hd lg VM) (hn : n ≤ 5) (hVM : ∀ v j, bt (VM v) j = true → j < n) (hc : vw m ≠ 0 → ∀ j, bt (VM (vw m)) j = true → c ≤ vs_D (lg j) (vw m)) : vs_gK n vw (vs_rs hd s m c n) lg VM := by
  intro a ha hv j hne hb
  have x := g a ha hv j hne hb
  have hj := hVM _ j hb
  have e1 : (a * 5 + j) / 5 = a := by omega
  unfold vs_rs
  rw [e1]
  split
  · rename_i y
    have e : a = m := y.1
    subst e
    exact vs_mx x (hc hv j hb)
  · exact x
theorem vs_rsk_K {n m w : Nat} {vw hd : Nat → Nat} {s : Int32} {g : Nat → Bool} {lg : Nat → List (Nat × Nat)} {VM : Nat → Int32} (gK : vs_gK n vw hd lg VM) (hn : n ≤ 5) (hVM : ∀ v j, bt (VM v) j = true → j < n) (hc : vw m ≠ 0 → ∀ j, bt (VM (vw m)) j = true → ∀ k, g k = true → k - w ≤ vs_D (lg j) (vw m)) : ∀ k, vs_gK n vw (vs_rsk hd s m w n g k) lg VM := by
  intro k
  induction k with
  | zero => exact gK
  | succ k ih =>
    cases e : g k
    · rw [vs_rsk_f k e]; exact ih
    · rw [vs_rsk_t k e]; exact vs_rs_K ih hn hVM (fun hv j hb => hc hv j hb k e)
theorem vs_rs_X {n m c : Nat} {s : Int32} {dl hx hd : Nat → Nat} (R : vs_XH n dl hx hd) (hn : n ≤ 5) (hc : c ≤ 48) : vs_XH n dl (vs_rs hx s m c n) (vs_rs hd s m c n) := by
  refine ⟨vs_rs_le R.1 hc, vs_rs_le R.2.1 hc, fun a ha => ⟨?_, fun j hj hne => ?_⟩⟩
  · have e : vs_rs hx s m c n (a * 5 + a) = hx (a * 5 + a) := if_neg (fun z => by omega)
    rw [e]; exact (R.2.2 a ha).1
  · unfold vs_rs
    rw [(R.2.2 a ha).2 j hj hne]
theorem vs_rsk_X {n m w : Nat} {s : Int32} {g : Nat → Bool} {dl hx hd : Nat → Nat} (R : vs_XH n dl hx hd) (hn : n ≤ 5) : ∀ k, k ≤ 49 → vs_XH n dl (vs_rsk hx s m w n g k) (vs_rsk hd s m w n g k) := by
  intro k
  induction k with
  | zero => intro _; exact R
  | succ k ih =>
    intro hk
    cases e : g k
    · rw [vs_rsk_f k e, vs_rsk_f k e]; exact ih (by omega)
    · rw [vs_rsk_t k e, vs_rsk_t k e]; exact vs_rs_X (ih (by omega)) hn (by omega)
theorem vs_E_put {mv ho' : Nat → Nat} {ho : Nat → Int32} {i : Nat} {x : Int32} (g : vs_gE mv ho) (hi : mv i ≠ 0) : vs_gE mv (vs_u ho i x) := by
  intro j hj
  rw [vs_un (show j ≠ i by intro z; rw [z] at hj; exact hi hj)]
  exact g j hj
theorem vs_rs_ge {h : Nat → Nat} {s : Int32} {m c j i : Nat} : h i ≤ vs_rs h s m c j i := by
  unfold vs_rs
  split
  · split <;> omega
  · exact Nat.le_refl _
theorem vs_rs_o {h : Nat → Nat} {s : Int32} {m c n a j : Nat} (hj : j < 5) (hne : a ≠ m) : vs_rs h s m c n (a * 5 + j) = h (a * 5 + j) := if_neg (fun z => by omega)
theorem vs_rs_c {h : Nat → Nat} {s : Int32} {m c n j : Nat} (hj : j < 5) (hn : j < n) (hne : j ≠ m) (hb : bt s j = true) : c ≤ vs_rs h s m c n (m * 5 + j) := by
  have e1 : (m * 5 + j) / 5 = m := by omega
  have e2 : (m * 5 + j) % 5 = j := by omega
  unfold vs_rs
  rw [e1, e2, if_pos ⟨rfl, hn, hne, hb⟩]
  split <;> omega
theorem vs_rsk_o {h : Nat → Nat} {s : Int32} {m w n a j : Nat} {g : Nat → Bool} (hj : j < 5) (hne : a ≠ m) : ∀ k, vs_rsk h s m w n g k (a * 5 + j) = h (a * 5 + j) := by
  intro k
  induction k with
  | zero => rfl
  | succ k ih =>
    cases e : g k
    · rw [vs_rsk_f k e]; exact ih
    · rw [vs_rsk_t k e, vs_rs_o hj hne]; exact ih
theorem vs_rsk_ge {h : Nat → Nat} {s : Int32} {m w n i : Nat} {g : Nat → Bool} : ∀ k, h i ≤ vs_rsk h s m w n g k i := by
  intro k
  induction k with
  | zero => exact Nat.le_refl _
  | succ k ih =>
    cases e : g k
    · rw [vs_rsk_f k e]; exact ih
    · rw [vs_rsk_t k e]; exact Nat.le_trans ih vs_rs_ge
theorem vs_rsk_c {h : Nat → Nat} {s : Int32} {m w n j q : Nat} {g : Nat → Bool} (hj : j < 5) (hn : j < n) (hne : j ≠ m) (hb : bt s j = true) (hq : g q = true) : ∀ k, q < k → q - w ≤ vs_rsk h s m w n g k (m * 5 + j) := by
  intro k
  induction k with
  | zero => intro z; omega
  | succ k ih =>
    intro z
    by_cases e : q = k
    · subst e
      rw [vs_rsk_t q hq]; exact vs_rs_c hj hn hne hb
    · have t := ih (by omega)
      cases e2 : g k
      · rw [vs_rsk_f k e2]; exact t
      · rw [vs_rsk_t k e2]; exact Nat.le_trans t vs_rs_ge
theorem vs_7_fetch {n w m : Nat} {g : Nat → Bool} {vw hd : Nat → Nat} {mk : Nat → Int32} {H : Nat → Nat → Bool} (g7 : vs_gC7 n w vw hd mk H) (hn : n ≤ 5) : vs_gC7 n w vw (vs_rsk hd (mk m) m w n g 49) mk (vs_Hk H m g 49) := by
  intro a ha hv k hk j hj hne hb
  rcases vs_fe_new hk with h | ⟨e, h1, h2⟩
  · have t := g7 a ha hv k h j hj hne hb
    have := vs_rsk_ge (h := hd) (s := mk m) (m := m) (w := w) (n := n) (i := a * 5 + j) (g := g) 49
    omega
  · subst e
    have := vs_rsk_c (h := hd) (s := mk a) (m := a) (w := w) (g := g) (show j < 5 by omega) hj hne hb h2 49 h1
    omega
/-- one obtaining of a fetch, on Y -/
theorem yw_fe {post : SY → Prop} {m k : Nat} {H : Nat → Nat → Bool} {g : Nat → Bool} (Q : vs_YH n sn vw mv mn ho (vs_Hk H m g k)) (E : vs_gE mv ho) (hm : m < n) (hn : n ≤ 5) (hw : w ≤ 8) (hv : vw m ≠ 0) (hk : k ≤ 48) (hh : ∀ i, hd i ≤ 48) (hx : vs_ix mv mn (vw m) k < 48) (gt : g k = true) (cm : H m k = false)
    (h : ∀ ho', vs_YH n sn vw mv mn ho' (vs_Hk H m g (k + 1)) → vs_gE mv ho' → post ((nI n), (nI w), (nI sn), (nI fc), (nI st), md, ins, (vs_I vw), mk, nw, (vs_I ct), (vs_tpk tp m g (k + 1)), (vs_I (vs_rsk hd (mk m) m w n g (k + 1))), su, jo, (vs_I pr), (vs_I ac), va, (vs_I sd), (vs_I wt), (vs_I mv), (vs_I mn), ho', (vs_I fm), (vs_I fs), (vs_I fv), (vs_I ow), (vs_I li), re, (vs_I be), pm, (vs_I pc), aq)) :
    wpY_obtain post ((nI n), (nI w), (nI sn), (nI fc), (nI st), md, ins, (vs_I vw), mk, nw, (vs_I ct), (vs_tpk tp m g k), (vs_I (vs_rsk hd (mk m) m w n g k)), su, jo, (vs_I pr), (vs_I ac), va, (vs_I sd), (vs_I wt), (vs_I mv), (vs_I mn), ho, (vs_I fm), (vs_I fs), (vs_I fv), (vs_I ow), (vs_I li), re, (vs_I be), pm, (vs_I pc), aq) (nI m) (nI k) := by
  rw [vs_tpk_t k gt, vs_rsk_t k gt] at h
  refine yw_obtain1 Q hm hn hw hv hk (vs_rsk_le hh k (by omega)) hx (by rw [vs_Hk_m k k (by omega)]; exact cm) (h _ ?_ ?_)
  · exact vs_YH_put Q hn hm hv hx (fun k' => vs_Hk_t k gt k') (fun a ha => by rw [vs_Hk_o _ ha, vs_Hk_o _ ha])
  · exact vs_E_put (ho' := mv) E (by rw [(vs_ix_sp hx).1]; exact hv)
theorem vs_Hk_p {H : Nat → Nat → Bool} {m p : Nat} {g : Nat → Bool} (k : Nat) : vs_Hk H m g k p k = H p k := by
  show (H p k || (decide (p = m) && (decide (k < k) && g k))) = H p k
  rw [decide_eq_false (show ¬ k < k by omega)]; simp
theorem yw_rep_l {post : Int32 → SY → Prop} {m p : Nat} {T : Int32} {H : Nat → Nat → Bool} {g : Nat → Bool} {lg : Nat → List (Nat × Nat)} {dl B : Nat → Nat} (hm : m < n) (hp : p < n) (hn : n ≤ 5) (hw : w ≤ 8) (hvm : vw m ≠ 0) (hvp : vw p = vw m) (hg : ∀ k, g k = vs_gk T H m p k) (hx : ∀ k, g k = true → vs_ix mv mn (vw m) k < 48) (hh : ∀ i, hd i ≤ 48)
    (hP : ∀ a, a < n → md a = 2 → vw a ≠ 0 ∧ vs_D (lg a) (vw a) = dl a ∧ dl a ≤ 48 ∧ (lg a).length + (B a - dl a) ≤ 48 ∧ B a ≤ 48 ∧ ∀ k, vs_Hk H m g 49 a k = true → k ≤ B a) (hA : ∀ a, a < n → (lg a).length ≤ 48) (L : vs_YL n lg fc fm fs fv)
    (h : ∀ (ho' : Nat → Int32) (fc' : Nat) (fm' fs' fv' : Nat → Nat), vs_YH n sn vw mv mn ho' (vs_Hk H m g 49) → vs_gE mv ho' → vs_YL n (vs_dA md (vs_Hk H m g 49) vw mv mn dl lg n) fc' fm' fs' fv' →
      post (nI (vs_cn g 49)) ((nI n), (nI w), (nI sn), (nI fc'), (nI st), md, ins, (vs_I vw), mk, nw, (vs_I ct), (vs_tpk tp m g 49), (vs_I (vs_rsk hd (mk m) m w n g 49)), su, jo, (vs_I pr), (vs_I ac), va, (vs_I sd), (vs_I wt), (vs_I mv), (vs_I mn), ho', (vs_I fm'), (vs_I fs'), (vs_I fv'), (vs_I ow), (vs_I li), re, (vs_I be), pm, (vs_I pc), aq)) :
    ∀ (d k : Nat) (ho : Nat → Int32), k + d = 49 → vs_YH n sn vw mv mn ho (vs_Hk H m g k) → vs_gE mv ho →
    wY_repair_88 post (nI m) (nI p) T (d + 1) (nI (vs_cn g k)) (nI k) (nI n) (nI w) (nI sn) (nI fc) (nI st) md ins (vs_I vw) mk nw (vs_I ct) (vs_tpk tp m g k) (vs_I (vs_rsk hd (mk m) m w n g k)) su jo (vs_I pr) (vs_I ac) va (vs_I sd) (vs_I wt) (vs_I mv) (vs_I mn) ho (vs_I fm) (vs_I fs) (vs_I fv) (vs_I ow) (vs_I li) re (vs_I be) pm (vs_I pc) aq := by
  intro d
  induction d with
  | zero =>
    intro k ho e Q E
    have e : k = 49 := by omega
    subst e
    exact br_t (nI_lt (a := 48) (by omega) (by omega)) (yw_dA Q hn hP hA L (fun fc' fm' fs' fv' L' => h ho fc' fm' fs' fv' Q E L'))
  | succ d ih =>
    intro k ho e Q E
    refine br_f (nI_nlt (a := 48) (by omega) (by omega)) ?_
    by_cases c : T < nI k
    · have gf : g k = false := by
        rw [hg]
        show (decide (nI k ≤ T) && (H p k && !H m k)) = false
        rw [decide_eq_false (Int32.not_le.mpr c), Bool.false_and]
      have ihk := ih (k + 1) ho (by omega) (by rw [vs_Hk_f k gf]; exact Q) E
      rw [vs_tpk_f k gf, vs_rsk_f k gf, vs_cn_f k gf] at ihk
      exact br_t c (nm_r (nI_1 k) ihk)
    · refine br_f c ?_
      have hgk : g k = (H p k && !H m k) := by
        rw [hg]
        show (decide (nI k ≤ T) && (H p k && !H m k)) = _
        rw [decide_eq_true (Int32.not_lt.mp c), Bool.true_and]
      cases cp : H p k
      · have gf : g k = false := by rw [hgk, cp]; rfl
        have ihk := ih (k + 1) ho (by omega) (by rw [vs_Hk_f k gf]; exact Q) E
        rw [vs_tpk_f k gf, vs_rsk_f k gf, vs_cn_f k gf] at ihk
        exact yw_got0 Q hp hn (by omega) (by omega) (by rw [vs_Hk_p]; exact cp) (br_t rfl (nm_r (nI_1 k) ihk))
      · refine yw_got1 Q hp hn (by omega) (by omega) (by rw [vs_Hk_p]; exact cp) (br_f (by decide) ?_)
        cases cm : H m k
        · have gt : g k = true := by rw [hgk, cp, cm]; rfl
          refine yw_got0 Q hm hn hvm (by omega) (by rw [vs_Hk_p]; exact cm) (br_t rfl (yw_fe Q E hm hn hw hvm (by omega) hh (hx k gt) gt cm ?_))
          intro ho' Q' E'
          have ihk := ih (k + 1) ho' (by omega) Q' E'
          rw [vs_cn_t k gt] at ihk
          exact nm_r (nI_1 _) (nm_r (nI_1 k) ihk)
        · have gf : g k = false := by rw [hgk, cp, cm]; rfl
          have ihk := ih (k + 1) ho (by omega) (by rw [vs_Hk_f k gf]; exact Q) E
          rw [vs_tpk_f k gf, vs_rsk_f k gf, vs_cn_f k gf] at ihk
          exact yw_got1 Q hm hn hvm (by omega) (by rw [vs_Hk_p]; exact cm) (br_f (by decide) (nm_r (nI_1 k) ihk))
theorem vs_Hk_0 (H : Nat → Nat → Bool) (m : Nat) (g : Nat → Bool) : vs_Hk H m g 0 = H := by
  funext a b
  show (H a b || (decide (a = m) && (decide (b < 0) && g b))) = H a b
  simp
theorem vs_k_1 {H : Nat → Nat → Bool} {m : Nat} {g : Nat → Bool} (g0 : g 0 = false) : vs_Hk H m g 1 = H := by
  rw [vs_Hk_f 0 g0, vs_Hk_0]
theorem vs_gk0 {T : Int32} {H : Nat → Nat → Bool} {m p : Nat} (h : ∀ k, H p k = true → 1 ≤ k) : vs_gk T H m p 0 = false := by
  show (decide (nI 0 ≤ T) && (H p 0 && !H m 0)) = false
  cases e : H p 0
  · simp
  · have := h 0 e; omega
theorem vs_gkp {T : Int32} {H : Nat → Nat → Bool} {m p k : Nat} (h : vs_gk T H m p k = true) : H p k = true ∧ H m k = false := by
  have h' : (decide (nI k ≤ T) && (H p k && !H m k)) = true := h
  rw [Bool.and_eq_true, Bool.and_eq_true] at h'
  refine ⟨h'.2.1, ?_⟩
  cases e : H m k
  · rfl
  · rw [e] at h'; exact absurd h'.2.2 (by decide)
theorem yw_rep {post : Int32 → SY → Prop} {m p : Nat} {T : Int32} {H : Nat → Nat → Bool} {lg : Nat → List (Nat × Nat)} {dl B : Nat → Nat} (Q : vs_YH n sn vw mv mn ho H) (E : vs_gE mv ho) (hm : m < n) (hp : p < n) (hn : n ≤ 5) (hw : w ≤ 8) (hvm : vw m ≠ 0) (hvp : vw p = vw m) (h48 : ∀ k, H p k = true → 1 ≤ k) (hh : ∀ i, hd i ≤ 48)
    (hP : ∀ a, a < n → md a = 2 → vw a ≠ 0 ∧ vs_D (lg a) (vw a) = dl a ∧ dl a ≤ 48 ∧ (lg a).length + (B a - dl a) ≤ 48 ∧ B a ≤ 48 ∧ ∀ k, vs_Hk H m (vs_gk T H m p) 49 a k = true → k ≤ B a) (hA : ∀ a, a < n → (lg a).length ≤ 48) (L : vs_YL n lg fc fm fs fv)
    (h : ∀ (ho' : Nat → Int32) (fc' : Nat) (fm' fs' fv' : Nat → Nat), vs_YH n sn vw mv mn ho' (vs_Hk H m (vs_gk T H m p) 49) → vs_gE mv ho' → vs_YL n (vs_dA md (vs_Hk H m (vs_gk T H m p) 49) vw mv mn dl lg n) fc' fm' fs' fv' →
      post (nI (vs_cn (vs_gk T H m p) 49)) ((nI n), (nI w), (nI sn), (nI fc'), (nI st), md, ins, (vs_I vw), mk, nw, (vs_I ct), (vs_tpk tp m (vs_gk T H m p) 49), (vs_I (vs_rsk hd (mk m) m w n (vs_gk T H m p) 49)), su, jo, (vs_I pr), (vs_I ac), va, (vs_I sd), (vs_I wt), (vs_I mv), (vs_I mn), ho', (vs_I fm'), (vs_I fs'), (vs_I fv'), (vs_I ow), (vs_I li), re, (vs_I be), pm, (vs_I pc), aq)) :
    ∃ n88 : Nat, wY_repair_88 post (nI m) (nI p) T n88 0 1 (nI n) (nI w) (nI sn) (nI fc) (nI st) md ins (vs_I vw) mk nw (vs_I ct) tp (vs_I hd) su jo (vs_I pr) (vs_I ac) va (vs_I sd) (vs_I wt) (vs_I mv) (vs_I mn) ho (vs_I fm) (vs_I fs) (vs_I fv) (vs_I ow) (vs_I li) re (vs_I be) pm (vs_I pc) aq := by
  have g0 := vs_gk0 (T := T) (m := m) h48
  have hx : ∀ k, vs_gk T H m p k = true → vs_ix mv mn (vw m) k < 48 := by
    intro k hk
    have e := Q.2.2.2.2 p hp (by omega) k
    rw [(vs_gkp hk).1, hvp] at e
    have e' := e.symm
    rw [Bool.and_eq_true, decide_eq_true_eq] at e'
    exact e'.1
  have := yw_rep_l hm hp hn hw hvm hvp (fun _ => rfl) hx hh hP hA L h 48 1 ho (by omega) (by rw [vs_k_1 g0]; exact Q) E
  rw [vs_tpk_f 0 g0, vs_rsk_f 0 g0, vs_cn_f 0 g0] at this
  exact ⟨_, this⟩
end
section
/-! repair -/
variable {n w sn st fc : Nat} {md ins l1 l2 l3 l4 mk nw tp su jo am acu b1 b2 b3 o1 o2 xr xb xm xc xp xq xa va ho re pm aq : Nat → Int32} {lv lc vw ct dl pr ac hx bn oc att hd sd wt mv mn fm fs fv ow li be pc : Nat → Nat}
theorem xw_deliver {post : SX → Prop} {m B : Nat} {Hm : Nat → Bool} {ix : Nat → Nat} {lg : Nat → List (Nat × Nat)} (hm : m < n) (hn : n ≤ 5) (hmd : md m = 2) (R : vs_RB Hm ix va sd bn b1 b2 b3 m) (hb : ∀ i, bn i ≤ 48) (h8 : ∀ k, Hm k = true → k ≤ dl m + 8) (hB : ∀ k, Hm k = true → k ≤ B)
    (hd : dl m ≤ 48) (hX : vs_XL n lg va sd lc l1 l2 l3 l4) (hl : (lg m).length + (B - dl m) ≤ 48) (ho : hx (m * 5 + m) = dl m)
    (h : ∀ (lc' : Nat → Nat) (l1' l2' l3' l4' : Nat → Int32), vs_XL n (vs_u lg m (lg m ++ vs_seg (fun k => (ix k, vw m)) (dl m) (vs_dn Hm (48 - dl m) (dl m)))) va sd lc' l1' l2' l3' l4' →
      post ((nI n), (nI w), (nI sn), (nI st), md, ins, (vs_I lv), (vs_I lc'), l1', l2', l3', l4', (vs_I vw), mk, nw, (vs_I ct), (vs_I (vs_u dl m (vs_dn Hm (48 - dl m) (dl m)))), tp, su, jo, (vs_I pr), (vs_I ac), am, acu, (vs_I (vs_u hx (m * 5 + m) (vs_dn Hm (48 - dl m) (dl m)))), (vs_I bn), b1, b2, b3, (vs_I oc), o1, o2, (vs_I att), xr, xb, xm, xc, xp, xq, xa)) :
    wpX_deliver post ((nI n), (nI w), (nI sn), (nI st), md, ins, (vs_I lv), (vs_I lc), l1, l2, l3, l4, (vs_I vw), mk, nw, (vs_I ct), (vs_I dl), tp, su, jo, (vs_I pr), (vs_I ac), am, acu, (vs_I hx), (vs_I bn), b1, b2, b3, (vs_I oc), o1, o2, (vs_I att), xr, xb, xm, xc, xp, xq, xa) (nI m) := by
  refine ⟨vs_in5 (by omega), ?_⟩
  rw [nI_clamp (show m < 2 ^ 31 by omega)]
  refine br_t hmd (xw_du (L := 48) hm hn (by omega) R hb h8 hB hd hX hl ho ?_)
  intro lc' l1' l2' l3' l4' h'
  rw [vs_dg_eq] at h'
  exact h lc' l1' l2' l3' l4' h'
theorem i_vc_repair {k : Nat} {u : SX} {v : SY} (I : i_Rel k u v) (hk : k + 4 ≤ 2050) (v1 : Int32) (v2 : Int32) : wpX_repair (fun r u' => wpY_repair (fun r' v' => r' = r ∧ i_Rel (k + 4) u' v') v v1 v2) u v1 v2 := by
  refine zz_el (P := fun u v => wpX_repair (fun r u' => wpY_repair (fun r' v' => r' = r ∧ i_Rel (k + 4) u' v') v v1 v2) u v1 v2) ?_ I
  intro n w sn st md ins lv lc l1 l2 l3 l4 vw mk nw ct dl tp su jo pr ac am acu hx bn b1 b2 b3 oc o1 o2 att xr xb xm xc xp xq xa fc hd va sd wt mv mn ho fm fs fv ow li re be pm pc aq lg H av VM VC hI hX hY
  have fin : i_Rel (k + 4) ((nI n), (nI w), (nI sn), (nI st), md, ins, (vs_I lv), (vs_I lc), l1, l2, l3, l4, (vs_I vw), mk, nw, (vs_I ct), (vs_I dl), tp, su, jo, (vs_I pr), (vs_I ac), am, acu, (vs_I hx), (vs_I bn), b1, b2, b3, (vs_I oc), o1, o2, (vs_I att), xr, xb, xm, xc, xp, xq, xa) ((nI n), (nI w), (nI sn), (nI fc), (nI st), md, ins, (vs_I vw), mk, nw, (vs_I ct), tp, (vs_I hd), su, jo, (vs_I pr), (vs_I ac), va, (vs_I sd), (vs_I wt), (vs_I mv), (vs_I mn), ho, (vs_I fm), (vs_I fs), (vs_I fv), (vs_I ow), (vs_I li), re, (vs_I be), pm, (vs_I pc), aq) := zz_in hI hX hY
  obtain ⟨⟨hn3, hn5, hw1, hw8, hst⟩, gM, gI, gV, gJ, gS, gT, gE, gL, gD, gH, gN, gO, gK, gA, gR, gQ, gB, g2, g3, g4, g5, g6, g7, g8, gC1, gC2, gC3, gC4, gF, gC5⟩ := hI
  obtain ⟨XL, RA, XH, XO, XA⟩ := hX
  obtain ⟨YH, YL, YA, Y6, Y7⟩ := hY
  unfold wpX_repair wpY_repair
  rcases vs_arg n hn5 v1 with hb | ⟨m, hm, rfl⟩
  · exact xw_bad1 hb (br_f (by decide) (yw_bad1 hb (br_f (by decide) ⟨by trivial, fin⟩)))
  rcases vs_arg n hn5 v2 with hb | ⟨p, hp, rfl⟩
  · exact xw_bad0 hm hn5 (br_t rfl (xw_bad1 hb (br_f (by decide) (yw_bad0 hm hn5 (br_t rfl (yw_bad1 hb (br_f (by decide) ⟨by trivial, fin⟩)))))))
  simp only [nI_clamp (show m < 2 ^ 31 by omega), nI_clamp (show p < 2 ^ 31 by omega), vs_Ia]
  have him := vs_in5 (show m < 5 by omega)
  have hip := vs_in5 (show p < 5 by omega)
  refine xw_bad0 hm hn5 (br_t rfl (xw_bad0 hp hn5 (br_t rfl ?_)))
  by_cases c0 : m = p
  · have c0' : nI m = nI p := by rw [c0]
    exact br_t c0' (yw_bad0 hm hn5 (br_t rfl (yw_bad0 hp hn5 (br_t rfl (br_t c0' ⟨by trivial, fin⟩)))))
  have c0' : ¬ nI m = nI p := fun z => c0 ((nI_eq (by omega) (by omega)).mp z)
  refine br_f c0' ?_
  by_cases hv : md m = 2 ∨ md m = 3
  · refine xw_iv1 (by omega) hv (br_f (by decide) ?_)
    by_cases hw : md p = 2 ∨ md p = 3
    · refine xw_iv1 (by omega) hw (br_f (by decide) ⟨him, hip, ?_⟩)
      by_cases c1 : vw m = vw p
      · have c1' : nI (vw m) = nI (vw p) := by rw [c1]
        refine br_t c1' ⟨him, ?_⟩
        by_cases c2 : md m = 3
        · exact br_t c2 (yw_bad0 hm hn5 (br_t rfl (yw_bad0 hp hn5 (br_t rfl (br_f c0' (yw_iv1 (by omega) hv (br_f (by decide) (yw_iv1 (by omega) hw (br_f (by decide) ⟨him, hip, br_t c1' ⟨him, br_t c2 ⟨by trivial, fin⟩⟩⟩)))))))))
        · have hmd : md m = 2 := hv.resolve_right c2
          have hvm := ((gM m hm).2).mp hv
          have d48 := vs_dl48 gD gL hm
          refine br_f c2 ⟨him, xw_fetch (g := vs_gk (tp m) H m p) hm hp hn5 hw8 hvm c1.symm (fun _ => rfl) ?_ (fun k hk => vs_h48 gH hp hk) XH.1 d48 ((gH m hm).2 hvm) RA ?_⟩
          · intro k hk
            rcases hk with hk | hk
            · exact vs_b8 gH gO gD gV hw8 hm hm hvm rfl hk
            · exact vs_b8 gH gO gD gV hw8 hm hp hvm c1.symm hk
          intro bn' b1' b2' b3' RA'
          have gH' : vs_gH n vw dl mv (vs_Hk H m (vs_gk (tp m) H m p) 49) := vs_fe_H gH hp c1.symm (fun k hk => (vs_gkp hk).1)
          have XH' := vs_rsk_X (m := m) (w := w) (s := mk m) (g := vs_gk (tp m) H m p) XH hn5 49 (by omega)
          have hB' : ∀ a, a < n → ∀ k, vs_Hk H m (vs_gk (tp m) H m p) 49 a k = true → k ≤ vs_N mv (vw a) := fun a ha k hk => ((gH' a ha).1 k hk).2.2
          refine xw_deliver (B := vs_N mv (vw m)) hm hn5 hmd (RA'.2 m hm hvm) RA'.1 (fun k hk => vs_b8 gH' gO gD gV hw8 hm hm hvm rfl hk) (hB' m hm) d48 XL (vs_room gT gL gD gV hm hvm) (XH'.2.2 m hm).1 ?_
          intro lc' l1' l2' l3' l4' XL'
          refine yw_bad0 hm hn5 (br_t rfl (yw_bad0 hp hn5 (br_t rfl (br_f c0' (yw_iv1 (by omega) hv (br_f (by decide) (yw_iv1 (by omega) hw (br_f (by decide) ⟨him, hip, br_t c1' ⟨him, br_f c2 ⟨him, nm_e ?_⟩⟩⟩))))))))
          refine yw_rep (B := fun a => vs_N mv (vw a)) (dl := dl) YH gE hm hp hn5 hw8 hvm c1.symm (fun k hk => (vs_h48 gH hp hk).1) XH.2.1 ?_ (fun a ha => (XL a ha).2.1) YL ?_
          · intro a ha hmda
            have hva := ((gM a ha).2).mp (Or.inl hmda)
            exact ⟨hva, (gD a ha).1 hva, vs_dl48 gD gL ha, vs_room gT gL gD gV ha hva, vs_N_le _ _, hB' a ha⟩
          intro ho' fc' fm' fs' fv' YH' gE' YL'
          have dge := vs_dn_ge (Hm := vs_Hk H m (vs_gk (tp m) H m p) 49 m) (48 - dl m) (dl m)
          have dH := vs_dn_H (Hm := vs_Hk H m (vs_gk (tp m) H m p) 49 m) (48 - dl m) (dl m)
          have h48' : ∀ k, vs_Hk H m (vs_gk (tp m) H m p) 49 m k = true → k ≤ 48 := fun k hk => (vs_h48 gH' hm hk).2
          have dE := vs_dn_end h48' (48 - dl m) (dl m) (by omega)
          have hdN : vs_dn (vs_Hk H m (vs_gk (tp m) H m p) 49 m) (48 - dl m) (dl m) ≤ vs_N mv (vw m) := by
            by_cases z : vs_dn (vs_Hk H m (vs_gk (tp m) H m p) 49 m) (48 - dl m) (dl m) = dl m
            · rw [z]
              have a := (gL m hm).2.2 (vw m) hvm
              have b := (gD m hm).1 hvm
              omega
            · exact hB' m hm _ (dH _ (by omega) (Nat.le_refl _))
          have hd48' : vs_dn (vs_Hk H m (vs_gk (tp m) H m p) 49 m) (48 - dl m) (dl m) ≤ 48 := by have := vs_N_le mv (vw m); omega
          have eA : vs_dA md (vs_Hk H m (vs_gk (tp m) H m p) 49) vw mv mn dl lg n = vs_u lg m (lg m ++ vs_seg (fun k => (vs_ix mv mn (vw m) k, vw m)) (dl m) (vs_dn (vs_Hk H m (vs_gk (tp m) H m p) 49 m) (48 - dl m) (dl m))) := by
            funext a
            by_cases z : a = m
            · subst z
              rw [vs_us]
              show (if a < n ∧ md a = 2 then vs_dg (vs_Hk H a (vs_gk (tp a) H a p) 49 a) (fun k => (vs_ix mv mn (vw a) k, vw a)) 48 (dl a) (lg a) else lg a) = _
              rw [if_pos ⟨hm, hmd⟩, vs_dg_eq]
              rw [vs_dn_u (vs_dn_ge 48 (dl a)) dge (vs_dn_H 48 (dl a)) dH (vs_dn_end h48' 48 (dl a) (by omega)) dE]
            · rw [vs_un z]
              show (if a < n ∧ md a = 2 then vs_dg (vs_Hk H m (vs_gk (tp m) H m p) 49 a) (fun k => (vs_ix mv mn (vw a) k, vw a)) 48 (dl a) (lg a) else lg a) = _
              split
              · rename_i y
                rw [vs_Hk_o _ z]
                exact vs_dg_stop (gN a y.1 y.2) 48 (lg a)
              · rfl
          rw [eA] at YL'
          have gK' := vs_dv_K (d' := vs_dn (vs_Hk H m (vs_gk (tp m) H m p) 49 m) (48 - dl m) (dl m)) (mn := mn) (mv := mv) (m := m) (dl := dl) (vs_rsk_K (m := m) (w := w) (s := mk m) (g := vs_gk (tp m) H m p) gK hn5 gV.2 (fun hv j hb k hk => by
              have a := gO.1 (vw m) j hv hb
              have b := ((gH p hp).1 k (vs_gkp hk).1).2.2
              rw [← c1] at b
              omega) 49) dge
          refine ⟨by trivial, ?_⟩
          exact (zz_in ⟨⟨hn3, hn5, hw1, hw8, hst⟩, gM, gI, gV, gJ, gS, gT, gE', (vs_dv_L gT gL gD gV hm hvm dge hdN), (vs_dv_D gD hm hvm dge), (vs_dv_H gH' dH), (vs_dv_N (fun a ha z hmda => (congrFun (vs_Hk_o 49 z) _).trans (gN a ha hmda)) dE), (vs_dv_O gO dge hdN), gK', gA, gR, gQ, gB, g2, g3, g4, g5, g6, g7, g8, gC1, (vs_mono_C2 gC2 (fun a b => vs_fe_mono a b)), (vs_dv_C3 gC3 hmd), (vs_dv_C4 (vs_mono_C4 gC4 (fun a b => vs_fe_mono a b)) gA gR hmd), (vs_dv_F gF dge), gC5⟩ ⟨XL', RA', (vs_dv_X XH' hn5 hd48'), XO, XA⟩ ⟨YH', YL', YA, Y6, (vs_7_fetch Y7 hn5)⟩)
      · have c1' : ¬ nI (vw m) = nI (vw p) := fun z => c1 ((nI_eq (by have := vs_v48 gI gV hm; omega) (by have := vs_v48 gI gV hp; omega)).mp z)
        exact br_f c1' (yw_bad0 hm hn5 (br_t rfl (yw_bad0 hp hn5 (br_t rfl (br_f c0' (yw_iv1 (by omega) hv (br_f (by decide) (yw_iv1 (by omega) hw (br_f (by decide) ⟨him, hip, br_f c1' ⟨by trivial, fin⟩⟩)))))))))
    · exact xw_iv0 (by omega) hw (br_t rfl (yw_bad0 hm hn5 (br_t rfl (yw_bad0 hp hn5 (br_t rfl (br_f c0' (yw_iv1 (by omega) hv (br_f (by decide) (yw_iv0 (by omega) hw (br_t rfl ⟨by trivial, fin⟩))))))))))
  · exact xw_iv0 (by omega) hv (br_t rfl (yw_bad0 hm hn5 (br_t rfl (yw_bad0 hp hn5 (br_t rfl (br_f c0' (yw_iv0 (by omega) hv (br_t rfl ⟨by trivial, fin⟩))))))))
end
section
/-! forget: what goes when a member leaves its view -/
variable {n w sn st fc : Nat} {md ins l1 l2 l3 l4 mk nw tp su jo am acu b1 b2 b3 o1 o2 xr xb xm xc xp xq xa va ho re pm aq VM : Nat → Int32} {lv lc vw ct dl pr ac hx bn oc att hd sd wt mv mn fm fs fv ow li be pc av VC : Nat → Nat} {lg : Nat → List (Nat × Nat)} {H : Nat → Nat → Bool}
theorem vs_fg_w {i m j : Nat} {wt sd : Nat → Nat} : vs_wz wt sd m j i ≤ wt i := by
  unfold vs_wz
  split <;> omega
theorem vs_fg_h {i m j a : Nat} {ho : Nat → Int32} (hm : m < 32) : bt (vs_hz ho m j i) a = (bt (ho i) a && (decide (j ≤ i) || !decide (a = m))) := by
  unfold vs_hz
  by_cases c : i < j
  · rw [if_pos c, vs_bdel _ hm, decide_eq_false (show ¬ j ≤ i by omega), Bool.false_or]
  · rw [if_neg c, decide_eq_true (show j ≤ i by omega), Bool.true_or, Bool.and_true]
theorem vs_fg_Inv {m : Nat} (hm : m < n) (h : vs_Inv n w sn st md ins lv vw mk nw jo su ct dl pr ac hd mv mn wt sd ho lg H att re be pm pc aq av VM VC) :
    vs_Inv n w sn st (vs_u md m 0) ins lv (vs_u vw m 0) (vs_u mk m 0) (vs_u nw m 0) (vs_u jo m 0) (vs_u su m 0) (vs_u ct m 0) (vs_u dl m 0) (vs_u pr m 0) (vs_u ac m 0) (vs_zr hd 5 m 5) mv mn (vs_wz wt sd m sn) sd (vs_hz ho m sn) lg (vs_u H m (fun _ => false)) (vs_u att m 0) re be pm pc aq av VM VC := by
  obtain ⟨hb, gM, gI, gV, gJ, gS, gT, gE, gL, gD, gH, gN, gO, gK, gA, gR, gQ, gB, g2, g3, g4, g5, g6, g7, g8, gC1, gC2, gC3, gC4, gF, gC5⟩ := h
  refine ⟨hb, ?_, gI, ⟨?_, gV.2⟩, ?_, ?_, ?_, ?_, gL, ?_, ?_, ?_, ⟨gO.1, ?_, gO.2.2⟩, ?_, ?_, ?_, ?_, ?_, g2, g3, g4, g5, g6, g7, g8, gC1, ?_, ?_, ?_, ?_, gC5⟩
  · intro a ha
    by_cases c : a = m
    · subst c
      rw [vs_us, vs_us]
      exact ⟨Or.inl rfl, ⟨fun z => (by rcases z with z | z <;> exact absurd z (by decide)), fun z => (z rfl).elim⟩⟩
    · rw [vs_un c, vs_un c]; exact gM a ha
  · intro a ha hv
    by_cases c : a = m
    · rw [c, vs_us] at hv; exact (hv rfl).elim
    · rw [vs_un c] at hv ⊢
      rw [vs_un c, vs_un c]; exact gV.1 a ha hv
  · intro a ha hv
    by_cases c : a = m
    · rw [c, vs_us] at hv; exact (hv rfl).elim
    · rw [vs_un c] at hv ⊢
      rw [vs_un c]; exact gJ a ha hv
  · intro a ha hv
    by_cases c : a = m
    · rw [c, vs_us] at hv; exact (hv rfl).elim
    · rw [vs_un c] at hv ⊢
      exact gS a ha hv
  · obtain ⟨t1, t2, t3, t4, t5, t6, t7⟩ := gT
    refine ⟨fun i hi => ?_, t2, t3, fun i hi => ?_, fun i => ?_, t6, t7⟩
    · have a := t1 i hi
      have b := vs_fg_w (i := i) (m := m) (j := sn) (wt := wt) (sd := sd)
      exact ⟨a.1, a.2.1, a.2.2.1, by omega⟩
    · have a := t4 i hi
      have b := vs_fg_w (i := i) (m := m) (j := sn) (wt := wt) (sd := sd)
      omega
    · have a := t5 i
      have b := vs_fg_w (i := i) (m := m) (j := sn) (wt := wt) (sd := sd)
      omega
  · intro i hi j
    rw [vs_fg_h (by omega), gE i hi j]; rfl
  · intro a ha
    by_cases c : a = m
    · subst c
      rw [vs_us, vs_us]
      exact ⟨fun z => (z rfl).elim, fun _ => rfl⟩
    · rw [vs_un c, vs_un c]; exact gD a ha
  · intro a ha
    by_cases c : a = m
    · subst c
      rw [vs_us, vs_us, vs_us]
      exact ⟨fun k hk => (by cases hk), fun z => (z rfl).elim⟩
    · rw [vs_un c, vs_un c, vs_un c]; exact gH a ha
  · intro a ha hmd
    by_cases c : a = m
    · rw [c, vs_us] at hmd; exact absurd hmd (by decide)
    · rw [vs_un c] at hmd
      rw [vs_un c, vs_un c]; exact gN a ha hmd
  · intro v q hv hbq hl
    refine ⟨fun e => ?_, (gO.2.1 v q hv hbq hl).2⟩
    by_cases c : q = m
    · rw [c, vs_us] at e; exact (hv e.symm).elim
    · rw [vs_un c] at e ⊢
      exact (gO.2.1 v q hv hbq hl).1 e
  · intro a ha hv j hne hbj
    by_cases c : a = m
    · rw [c, vs_us] at hv; exact (hv rfl).elim
    · rw [vs_un c] at hv hbj ⊢
      have hj := gV.2 _ j hbj
      have e : vs_zr hd 5 m 5 (a * 5 + j) = hd (a * 5 + j) := if_neg (fun z => by omega)
      rw [e]
      exact gK a ha hv j hne hbj
  · intro a ha
    by_cases c : a = m
    · subst c
      rw [vs_us]
      exact ⟨Nat.zero_le _, fun z => (z rfl).elim⟩
    · rw [vs_un c, vs_un c, vs_un c, vs_un c]; exact gA a ha
  · intro a h1 h2
    have t := gR a h1 h2
    refine ⟨t.1, t.2.1, t.2.2.1, fun j hj => ?_⟩
    have s := t.2.2.2 j hj
    refine ⟨s.1, s.2.1, s.2.2.1, fun e => ?_⟩
    by_cases c : j = m
    · rw [c, vs_us] at e; omega
    · rw [vs_un c] at e
      rw [vs_un c, vs_un c]; exact s.2.2.2 e
  · intro a h1 h2 j hj
    have s := gQ a h1 h2 j hj
    refine ⟨s.1, s.2.1, s.2.2.1, s.2.2.2.1, fun e => ?_⟩
    by_cases c : j = m
    · have := (gR a h1 h2).1
      rw [c, vs_us] at e; omega
    · rw [vs_un c] at e
      rw [vs_un c]; exact s.2.2.2.2 e
  · intro a ha
    by_cases c : a = m
    · subst c
      rw [vs_us, vs_us]
      exact ⟨Nat.le_refl _, Nat.zero_le _, fun z => (z rfl).elim⟩
    · rw [vs_un c, vs_un c, vs_un c]; exact gB a ha
  · intro a ha
    by_cases c : a = m
    · subst c
      exact ⟨fun z => (z vs_us).elim, fun z => (z vs_us).elim, fun z => (z vs_us).elim⟩
    · rw [vs_un c, vs_un c, vs_un c]; exact gC2 a ha
  · intro a j h1 h2 h3 h4 h5 h6
    by_cases c : j = m
    · have := (gR a h1 h2).1
      rw [c, vs_us] at h6; omega
    · rw [vs_un c] at h6
      rw [vs_un c, vs_un c]; exact gC3 a j h1 h2 h3 h4 h5 h6
  · intro c a h1 h2 h3 h4 h5 k h6 h7
    by_cases e : c = m
    · rw [e, vs_us] at h3; exact (h3 rfl).elim
    · rw [vs_un e] at h3 h4 h5 ⊢
      by_cases e2 : a = m
      · have := (gR (att c) (by omega) (gA c h1).1).1
        rw [e2, vs_us] at h5; omega
      · rw [vs_un e2] at h5 h7
        exact gC4 c a h1 h2 h3 h4 h5 k h6 h7
  · intro a ha
    by_cases c : a = m
    · subst c
      rw [vs_us, vs_us]
      exact ⟨Nat.zero_le _, fun z => (z rfl).elim⟩
    · rw [vs_un c, vs_un c, vs_un c]; exact gF a ha
/-- the reps, for a member that left (v = 0) or enters view v -/
theorem vs_fg_RA {m v : Nat} (R : vs_RA n H vw mv mn va sd bn b1 b2 b3) (hm : m < n) : vs_RA n (vs_u H m (fun _ => false)) (vs_u vw m v) mv mn va sd (vs_zr bn 8 m 8) b1 b2 b3 := by
  refine ⟨fun i => ?_, fun j hj hv => ?_⟩
  · unfold vs_zr
    split
    · omega
    · exact R.1 i
  · by_cases c : j = m
    · subst c
      rw [vs_us]
      refine ⟨fun s hs h0 => ?_, fun k hk => by cases hk⟩
      exfalso
      apply h0
      exact if_pos ⟨by omega, by omega⟩
    · rw [vs_un c] at hv ⊢
      rw [vs_un c]
      have a := R.2 j hj hv
      have e : ∀ s, s < 8 → vs_zr bn 8 m 8 (j * 8 + s) = bn (j * 8 + s) := fun s hs => if_neg (fun z => by omega)
      refine ⟨fun s hs h0 => ?_, fun k hk => ?_⟩
      · rw [e s hs] at h0 ⊢
        exact a.1 s hs h0
      · rw [e _ (by omega)]
        exact a.2 k hk
theorem vs_fg_XH {m : Nat} (R : vs_XH n dl hx hd) (hn : n ≤ 5) (hm : m < n) : vs_XH n (vs_u dl m 0) (vs_zr hx 5 m 5) (vs_zr hd 5 m 5) := by
  refine ⟨fun i => ?_, fun i => ?_, fun a ha => ⟨?_, fun j hj hne => ?_⟩⟩
  · unfold vs_zr
    split
    · omega
    · exact R.1 i
  · unfold vs_zr
    split
    · omega
    · exact R.2.1 i
  · by_cases c : a = m
    · subst c
      rw [vs_us]
      exact if_pos ⟨by omega, by omega⟩
    · rw [vs_un c]
      have e : vs_zr hx 5 m 5 (a * 5 + a) = hx (a * 5 + a) := if_neg (fun z => by omega)
      rw [e]; exact (R.2.2 a ha).1
  · unfold vs_zr
    rw [(R.2.2 a ha).2 j hj hne]
theorem vs_ob_z {m a s : Nat} (hs : s ≤ sn) : vs_ob (vs_wz wt sd m sn) sd s a = if a = m then [] else vs_ob wt sd s a := by
  induction s with
  | zero => show [] = _; split <;> rfl
  | succ s ih =>
    have ih' := ih (by omega)
    show (if vs_wz wt sd m sn s ≠ 0 ∧ sd s = a then vs_ob (vs_wz wt sd m sn) sd s a ++ [s] else vs_ob (vs_wz wt sd m sn) sd s a) = (if a = m then [] else (if wt s ≠ 0 ∧ sd s = a then vs_ob wt sd s a ++ [s] else vs_ob wt sd s a))
    rw [ih']
    by_cases c : a = m
    · rw [if_pos c, if_pos c]
      rw [if_neg]
      intro z
      apply z.1
      exact if_pos ⟨by omega, by omega⟩
    · rw [if_neg c, if_neg c]
      by_cases d : sd s = a
      · have e : vs_wz wt sd m sn s = wt s := if_neg (fun z => c (by omega))
        rw [e]
      · rw [if_neg (fun z => d z.2), if_neg (fun z => d z.2)]
theorem vs_fg_XO {m : Nat} (R : vs_XO n sn va wt sd oc o1 o2) : vs_XO n sn va (vs_wz wt sd m sn) sd (vs_u oc m 0) o1 o2 := by
  intro a ha
  rw [vs_ob_z (Nat.le_refl _)]
  by_cases c : a = m
  · subst c
    rw [if_pos rfl, vs_us]
    exact ⟨rfl, by omega, fun p i h => by simp at h⟩
  · rw [if_neg c, vs_un c]; exact R a ha
theorem vs_fg_XA {m : Nat} (R : vs_XA n re pm aq att be pc ac xr xb xm xc xp xq xa am acu) (g8 : vs_g8 st re pm aq be pc) :
    vs_XA n re pm aq (vs_u att m 0) be pc (vs_u ac m 0) (vs_u xr m 0) (vs_u xb m 0) (vs_u xm m 0) (vs_u xc m 0) (vs_u xp m 0) (vs_u xq m 0) (vs_u xa m 0) (vs_u am m 0) (vs_u acu m 0) := by
  intro a ha
  by_cases c : a = m
  · subst c
    have z := g8.1 0 (Or.inl rfl)
    rw [vs_us, vs_us, vs_us, vs_us, vs_us, vs_us, vs_us, vs_us, vs_us, vs_us, vs_us, z.1, z.2.1, z.2.2.1, z.2.2.2.1, z.2.2.2.2]
    exact ⟨rfl, rfl, rfl, rfl, rfl, rfl, rfl, rfl, rfl⟩
  · rw [vs_un c, vs_un c, vs_un c, vs_un c, vs_un c, vs_un c, vs_un c, vs_un c, vs_un c, vs_un c, vs_un c]; exact R a ha
theorem vs_fg_YH {m v : Nat} (Q : vs_YH n sn vw mv mn ho H) (hn : n ≤ 5) (hm : m < n) (hv : v ≤ 48) : vs_YH n sn (vs_u vw m v) mv mn (vs_hz ho m sn) (vs_u H m (fun _ => false)) := by
  refine ⟨Q.1, Q.2.1, Q.2.2.1, fun a ha => ?_, fun a ha hva k => ?_⟩
  · by_cases c : a = m
    · rw [c, vs_us]; exact hv
    · rw [vs_un c]; exact Q.2.2.2.1 a ha
  · rw [vs_fg_h (by omega)]
    by_cases c : a = m
    · subst c
      rw [vs_us] at hva ⊢
      rw [vs_us]
      by_cases x : vs_ix mv mn v k < 48
      · have : vs_ix mv mn v k < sn := Q.1 _ (by rw [(vs_ix_sp x).1]; exact hva)
        rw [decide_eq_false (show ¬ sn ≤ vs_ix mv mn v k by omega)]
        simp
      · rw [decide_eq_false x]; rfl
    · rw [vs_un c] at hva ⊢
      rw [vs_un c, decide_eq_false c, Q.2.2.2.2 a ha hva k]
      simp
theorem vs_fg_YA {m : Nat} (A : vs_YA n st ow li att) : vs_YA n st ow (vs_le li ow m (st + 1)) (vs_u att m 0) := by
  refine ⟨fun a ha => ?_, fun b => ⟨(A.2.1 b).1, ?_⟩, A.2.2⟩
  · have t := A.1 a ha
    by_cases c : a = m
    · subst c
      rw [vs_us]
      refine ⟨Nat.zero_le _, fun b h1 h2 => ⟨fun z => ?_, fun z => by omega⟩⟩
      exfalso
      apply z.1
      exact if_pos ⟨h1, by omega, z.2⟩
    · rw [vs_un c]
      refine ⟨t.1, fun b h1 h2 => ?_⟩
      rw [← t.2 b h1 h2]
      constructor
      · intro z
        have e : vs_le li ow m (st + 1) b = li b := if_neg (fun y => by omega)
        rw [e] at z; exact z
      · intro z
        have e : vs_le li ow m (st + 1) b = li b := if_neg (fun y => by omega)
        rw [e]; exact z
  · unfold vs_le
    split
    · omega
    · exact (A.2.1 b).2
theorem vs_6_0 {m : Nat} (g : vs_gC6 n pm aq att) : vs_gC6 n pm aq (vs_u att m 0) := by
  intro x hx h1 h2
  by_cases e : x = m
  · rw [e] at h1; exact (h1 vs_us).elim
  · rw [vs_un e] at h1 h2 ⊢; exact g x hx h1 h2
theorem vs_7_fg {m v : Nat} {s : Int32} (g : vs_gC7 n w vw hd mk H) (hn : n ≤ 5) : vs_gC7 n w (vs_u vw m v) (vs_zr hd 5 m 5) (vs_u mk m s) (vs_u H m (fun _ => false)) := by
  intro a ha hv k hk j hj hne hb
  by_cases e : a = m
  · rw [e, vs_us] at hk; cases hk
  · rw [vs_un e] at hv hk hb
    have z : vs_zr hd 5 m 5 (a * 5 + j) = hd (a * 5 + j) := if_neg (fun z => by omega)
    rw [z]
    exact g a ha hv k hk j hj hne hb
theorem i_vc_crash {k : Nat} {u : SX} {v : SY} (I : i_Rel k u v) (hk : k + 4 ≤ 2050) (v1 : Int32) : wpX_crash (fun r u' => wpY_crash (fun r' v' => r' = r ∧ i_Rel (k + 4) u' v') v v1) u v1 := by
  refine zz_el (P := fun u v => wpX_crash (fun r u' => wpY_crash (fun r' v' => r' = r ∧ i_Rel (k + 4) u' v') v v1) u v1) ?_ I
  intro n w sn st md ins lv lc l1 l2 l3 l4 vw mk nw ct dl tp su jo pr ac am acu hx bn b1 b2 b3 oc o1 o2 att xr xb xm xc xp xq xa fc hd va sd wt mv mn ho fm fs fv ow li re be pm pc aq lg H av VM VC hI hX hY
  have fin : i_Rel (k + 4) ((nI n), (nI w), (nI sn), (nI st), md, ins, (vs_I lv), (vs_I lc), l1, l2, l3, l4, (vs_I vw), mk, nw, (vs_I ct), (vs_I dl), tp, su, jo, (vs_I pr), (vs_I ac), am, acu, (vs_I hx), (vs_I bn), b1, b2, b3, (vs_I oc), o1, o2, (vs_I att), xr, xb, xm, xc, xp, xq, xa) ((nI n), (nI w), (nI sn), (nI fc), (nI st), md, ins, (vs_I vw), mk, nw, (vs_I ct), tp, (vs_I hd), su, jo, (vs_I pr), (vs_I ac), va, (vs_I sd), (vs_I wt), (vs_I mv), (vs_I mn), ho, (vs_I fm), (vs_I fs), (vs_I fv), (vs_I ow), (vs_I li), re, (vs_I be), pm, (vs_I pc), aq) := zz_in hI hX hY
  have hI0 := hI
  obtain ⟨⟨hn3, hn5, hw1, hw8, hst⟩, gM, gI, gV, gJ, gS, gT, gE, gL, gD, gH, gN, gO, gK, gA, gR, gQ, gB, g2, g3, g4, g5, g6, g7, g8, gC1, gC2, gC3, gC4, gF, gC5⟩ := hI
  obtain ⟨XL, RA, XH, XO, XA⟩ := hX
  obtain ⟨YH, YL, YA, Y6, Y7⟩ := hY
  unfold wpX_crash wpY_crash
  rcases vs_arg n hn5 v1 with hb | ⟨m, hm, rfl⟩
  · exact xw_bad1 hb (br_f (by decide) (yw_bad1 hb (br_f (by decide) ⟨by trivial, fin⟩)))
  have hm5 : m < 5 := by omega
  have hi := vs_in5 hm5
  have hm' : m < 2 ^ 31 := by omega
  refine xw_bad0 hm hn5 (br_t rfl ⟨hi, ?_⟩)
  rw [nI_clamp hm']
  by_cases c : md m = 0
  · exact br_t c (yw_bad0 hm hn5 (br_t rfl ⟨hi, br_t c ⟨by trivial, fin⟩⟩))
  · refine br_f c (xw_forget hm5 ⟨hi, nm_r (vs_updA _ _ _) ?_⟩)
    refine yw_bad0 hm hn5 (br_t rfl ⟨hi, br_f c (yw_forget hm hn5 YA gT.2.2.2.2.2.1 (fun i => (gT.2.2.2.2.1 i).2) ⟨hi, nm_r (vs_updA _ _ _) ⟨by trivial, ?_⟩⟩)⟩)
    exact zz_in (vs_fg_Inv hm hI0) ⟨XL, vs_fg_RA RA hm, vs_fg_XH XH hn5 hm, vs_fg_XO XO, vs_fg_XA XA g8⟩ ⟨vs_fg_YH YH hn5 hm (by omega), YL, vs_fg_YA YA, vs_6_0 Y6, vs_7_fg Y7 hn5⟩
end
section
/-! start -/
variable {n w sn st fc : Nat} {md ins l1 l2 l3 l4 mk nw tp su jo am acu b1 b2 b3 o1 o2 xr xb xm xc xp xq xa va ho re pm aq VM : Nat → Int32} {lv lc vw ct dl pr ac hx bn oc att hd sd wt mv mn fm fs fv ow li be pc av VC : Nat → Nat} {lg : Nat → List (Nat × Nat)} {H : Nat → Nat → Bool}
theorem vs_start_Inv {c : Nat} (hc : c < n) (hv : vw c ≠ 0) (hv16 : vw c ≤ 15) (hst : st < 60) (h : vs_Inv n w sn st md ins lv vw mk nw jo su ct dl pr ac hd mv mn wt sd ho lg H att re be pm pc aq av VM VC) :
    vs_Inv n w sn (st + 1) (vs_u md c 3) ins lv vw mk nw jo su ct dl (vs_u pr c (st + 1)) ac hd mv mn wt sd ho lg H (vs_u att c (st + 1)) (vs_u re (st + 1) ((1 : Int32) <<< (nI c &&& 31))) (vs_u be (st + 1) (ac c)) pm pc aq (vs_u av (st + 1) (vw c)) VM VC := by
  obtain ⟨hb, gM, gI, gV, gJ, gS, gT, gE, gL, gD, gH, gN, gO, gK, gA, gR, gQ, gB, g2, g3, g4, g5, g6, g7, g8, gC1, gC2, gC3, gC4, gF, gC5⟩ := h
  have z0 := g8.1 (st + 1) (Or.inr (by omega))
  have Bc := gB c hc
  have Vc := gV.1 c hc hv
  refine ⟨⟨hb.1, hb.2.1, hb.2.2.1, hb.2.2.2.1, by omega⟩, vs_md3_M gM hv, gI, gV, gJ, gS, gT, gE, gL, gD, gH, vs_md3_N gN, gO, gK, ?_, ?_, ?_, ?_, ?_, ?_, ?_, ?_, ?_, g7, ?_, ?_, ?_, ?_, ?_, gF, ?_⟩
  · intro a ha
    by_cases e : a = c
    · subst e
      rw [vs_us, vs_us, vs_us, vs_us, vs_us, vs_b1 (by omega)]
      exact ⟨Nat.le_refl _, fun _ => ⟨hv, rfl, rfl, rfl, decide_eq_true rfl⟩⟩
    · have t := gA a ha
      rw [vs_un e, vs_un e, vs_un e, vs_un (show att a ≠ st + 1 by omega), vs_un (show att a ≠ st + 1 by omega)]
      exact ⟨by omega, t.2⟩
  · intro a h1 h2
    by_cases e : a = st + 1
    · subst e
      rw [vs_us, vs_us]
      refine ⟨by omega, hv16, ⟨c, by rw [vs_b1 (by omega)]; exact decide_eq_true rfl⟩, fun m hm => ?_⟩
      rw [vs_b1 (by omega), decide_eq_true_eq] at hm
      subst hm
      rw [vs_us, vs_us]
      exact ⟨hc, Vc.2.2.2, Nat.le_of_eq Vc.1, fun _ => ⟨Nat.le_refl _, rfl⟩⟩
    · have t := gR a h1 (by omega)
      rw [vs_un e, vs_un e]
      refine ⟨t.1, t.2.1, t.2.2.1, fun m hm => ?_⟩
      have s := t.2.2.2 m hm
      refine ⟨s.1, s.2.1, s.2.2.1, fun y => ?_⟩
      by_cases d : m = c
      · rw [d, vs_us, vs_us]; exact ⟨by omega, rfl⟩
      · rw [vs_un d, vs_un d]; exact s.2.2.2 y
  · intro a h1 h2 m hm
    by_cases e : a = st + 1
    · rw [e, z0.2.2.2.2, b_0] at hm; cases hm
    · rw [vs_un e]; exact gQ a h1 (by omega) m hm
  · intro a ha
    have t := gB a ha
    refine ⟨?_, ?_, fun y => ?_⟩
    · by_cases e : a = c
      · rw [e, vs_us]; omega
      · rw [vs_un e]; exact t.1
    · by_cases e : a = c
      · rw [e, vs_us]; omega
      · rw [vs_un e]; omega
    · rw [vs_un (show ac a ≠ st + 1 by omega)]; exact t.2.2 y
  · intro a b m h1 h2 h3 h4 h5 h6
    rw [vs_un (show b ≠ st + 1 by omega)] at h4
    by_cases e : a = st + 1
    · subst e
      rw [vs_us] at h4 h5 ⊢
      rw [vs_b1 (by omega), decide_eq_true_eq] at h5
      subst h5
      exact (gQ b h1 (by omega) m h6).2.2.2.2 h4.symm
    · rw [vs_un e] at h4 h5 ⊢
      exact g2 a b m h1 h2 (by omega) h4 h5 h6
  · intro a h1 h2
    by_cases e : a = st + 1
    · subst e
      rw [vs_us, vs_us, z0.2.2.1]
      refine ⟨fun y => ?_, fun y => (y rfl).elim⟩
      have t := Bc.2.2 y
      rw [vs_un (show ac c ≠ st + 1 by omega)]
      exact ⟨by omega, t.2.1, t.2.2⟩
    · have t := g3 a h1 (by omega)
      rw [vs_un e, vs_un e]
      refine ⟨fun y => ?_, t.2⟩
      have s := t.1 y
      rw [vs_un (show be a ≠ st + 1 by omega)]
      exact s
  · intro a h1 h2 h3
    by_cases e : a = st + 1
    · rw [e] at h3; exact (h3 z0.2.2.1).elim
    · rw [vs_un e, vs_un e]; exact g4 a h1 (by omega) h3
  · intro a h1 h2 h3
    by_cases e : a = st + 1
    · rw [e] at h3; exact (h3 z0.2.2.1).elim
    · rw [vs_un e]; exact g5 a h1 (by omega) h3
  · intro m hm x h1 h2
    obtain ⟨a, a1, a2, a3, a4⟩ := g6 m hm x h1 h2
    exact ⟨a, a1, by omega, by rw [vs_un (show a ≠ st + 1 by omega)]; exact a3, a4⟩
  · refine ⟨fun a ha => ?_, fun a => ⟨?_, (g8.2 a).2⟩⟩
    · have e : a ≠ st + 1 := by omega
      rw [vs_un e, vs_un e]
      exact g8.1 a (by omega)
    · by_cases e : a = st + 1
      · rw [e, vs_us]; omega
      · rw [vs_un e]; exact (g8.2 a).1
  · intro a h1 h2 h3
    by_cases e : a = st + 1
    · rw [e] at h3; exact (h3 z0.2.2.1).elim
    · rw [vs_un e]; exact gC1 a h1 (by omega) h3
  · intro a ha
    have t := gC2 a ha
    by_cases e : a = c
    · subst e
      rw [vs_us, vs_us]
      exact ⟨t.1, fun _ y => (y z0.2.2.1).elim, fun _ y => t.1 y⟩
    · have := (gA a ha).1
      rw [vs_un e, vs_un (show att a ≠ st + 1 by omega)]
      exact t
  · have gC3' := vs_md3_C (m := c) gC3
    intro a m h1 h2 h3 h4 h5 h6
    by_cases e : a = st + 1
    · rw [e] at h4; exact (h4 z0.2.2.1).elim
    · rw [vs_un e] at h6; exact gC3' a m h1 (by omega) h3 h4 h5 h6
  · intro x m h1 h2 h3 h4 h5 k h6 h7
    by_cases e : x = c
    · subst e
      rw [vs_us] at h3 h4 h5
      rw [vs_us] at h4 h5
      rw [vs_b1 (by omega), decide_eq_true_eq] at h4
      subst h4
      exact (gH m h1).2 hv k h6 h7
    · have := (gA x h1).1
      rw [vs_un e] at h3 h4 h5
      rw [vs_un (show att x ≠ st + 1 by omega)] at h4 h5
      exact gC4 x m h1 h2 h3 h4 h5 k h6 h7
  · intro a m h1 h2 h3 h4 h5
    by_cases e : a = st + 1
    · rw [e] at h3; exact (h3 z0.2.2.1).elim
    · rw [vs_un e] at h5 ⊢; exact gC5 a m h1 (by omega) h3 h4 h5
theorem vs_start_XA {c : Nat} (R : vs_XA n re pm aq att be pc ac xr xb xm xc xp xq xa am acu) (g8 : vs_g8 st re pm aq be pc) (gA : vs_gA n st md re vw pr att av) (hc : c < n) :
    vs_XA n (vs_u re (st + 1) ((1 : Int32) <<< (nI c &&& 31))) pm aq (vs_u att c (st + 1)) (vs_u be (st + 1) (ac c)) pc ac (vs_u xr c ((1 : Int32) <<< (nI c &&& 31))) (vs_u xb c (nI (ac c))) (vs_u xm c (am c)) (vs_u xc c (acu c)) (vs_u xp c 0) (vs_u xq c 0) (vs_u xa c 0) am acu := by
  intro a ha
  have t := R a ha
  by_cases e : a = c
  · subst e
    have z := g8.1 (st + 1) (Or.inr (by omega))
    rw [vs_us, vs_us, vs_us, vs_us, vs_us, vs_us, vs_us, vs_us, vs_us, vs_us, z.2.2.1, z.2.2.2.1, z.2.2.2.2]
    exact ⟨rfl, rfl, t.2.2.2.2.2.2.2.1, t.2.2.2.2.2.2.2.2, rfl, rfl, rfl, t.2.2.2.2.2.2.2⟩
  · have := (gA a ha).1
    rw [vs_un e, vs_un e, vs_un e, vs_un e, vs_un e, vs_un e, vs_un e, vs_un e, vs_un (show att a ≠ st + 1 by omega), vs_un (show att a ≠ st + 1 by omega)]
    exact t
theorem vs_start_YA {c : Nat} (A : vs_YA n st ow li att) (hn : n ≤ 5) (hc : c < n) (hst : st < 60) : vs_YA n (st + 1) (vs_u ow (st + 1) c) (vs_u (vs_le li ow c (st + 1)) (st + 1) 1) (vs_u att c (st + 1)) := by
  refine ⟨fun a ha => ?_, fun b => ?_, by omega⟩
  · have t := A.1 a ha
    refine ⟨?_, fun b h1 h2 => ?_⟩
    · by_cases e : a = c
      · rw [e, vs_us]; omega
      · rw [vs_un e]; omega
    · by_cases d : b = st + 1
      · subst d
        rw [vs_us, vs_us]
        by_cases e : a = c
        · rw [e, vs_us]; exact ⟨fun _ => rfl, fun _ => ⟨by decide, rfl⟩⟩
        · rw [vs_un e]; exact ⟨fun y => (e y.2.symm).elim, fun y => by omega⟩
      · rw [vs_un d, vs_un d]
        have s := t.2 b h1 (by omega)
        by_cases e : a = c
        · rw [e, vs_us]
          refine ⟨fun y => ?_, fun y => by omega⟩
          exfalso
          apply y.1
          exact if_pos ⟨h1, by omega, y.2⟩
        · rw [vs_un e, ← s]
          constructor
          · intro y
            have e2 : vs_le li ow c (st + 1) b = li b := if_neg (fun x => by omega)
            rw [e2] at y; exact y
          · intro y
            have e2 : vs_le li ow c (st + 1) b = li b := if_neg (fun x => by omega)
            rw [e2]; exact y
  · have t := A.2.1 b
    by_cases d : b = st + 1
    · rw [d, vs_us, vs_us]; omega
    · rw [vs_un d, vs_un d]
      refine ⟨t.1, ?_⟩
      unfold vs_le
      split
      · omega
      · exact t.2
theorem vs_6_start {c : Nat} (g : vs_gC6 n pm aq att) (h : pm (st + 1) = 0) : vs_gC6 n pm aq (vs_u att c (st + 1)) := by
  intro x hx h1 h2
  by_cases e : x = c
  · rw [e, vs_us] at h2; exact (h2 h).elim
  · rw [vs_un e] at h1 h2 ⊢; exact g x hx h1 h2
theorem i_vc_start {k : Nat} {u : SX} {v : SY} (I : i_Rel k u v) (hk : k + 4 ≤ 2050) (v1 : Int32) : wpX_start (fun r u' => wpY_start (fun r' v' => r' = r ∧ i_Rel (k + 4) u' v') v v1) u v1 := by
  refine zz_el (P := fun u v => wpX_start (fun r u' => wpY_start (fun r' v' => r' = r ∧ i_Rel (k + 4) u' v') v v1) u v1) ?_ I
  intro n w sn st md ins lv lc l1 l2 l3 l4 vw mk nw ct dl tp su jo pr ac am acu hx bn b1 b2 b3 oc o1 o2 att xr xb xm xc xp xq xa fc hd va sd wt mv mn ho fm fs fv ow li re be pm pc aq lg H av VM VC hI hX hY
  have fin : i_Rel (k + 4) ((nI n), (nI w), (nI sn), (nI st), md, ins, (vs_I lv), (vs_I lc), l1, l2, l3, l4, (vs_I vw), mk, nw, (vs_I ct), (vs_I dl), tp, su, jo, (vs_I pr), (vs_I ac), am, acu, (vs_I hx), (vs_I bn), b1, b2, b3, (vs_I oc), o1, o2, (vs_I att), xr, xb, xm, xc, xp, xq, xa) ((nI n), (nI w), (nI sn), (nI fc), (nI st), md, ins, (vs_I vw), mk, nw, (vs_I ct), tp, (vs_I hd), su, jo, (vs_I pr), (vs_I ac), va, (vs_I sd), (vs_I wt), (vs_I mv), (vs_I mn), ho, (vs_I fm), (vs_I fs), (vs_I fv), (vs_I ow), (vs_I li), re, (vs_I be), pm, (vs_I pc), aq) := zz_in hI hX hY
  have hI0 := hI
  obtain ⟨⟨hn3, hn5, hw1, hw8, hst⟩, gM, gI, gV, gJ, gS, gT, gE, gL, gD, gH, gN, gO, gK, gA, gR, gQ, gB, g2, g3, g4, g5, g6, g7, g8, gC1, gC2, gC3, gC4, gF, gC5⟩ := hI
  obtain ⟨XL, RA, XH, XO, XA⟩ := hX
  obtain ⟨YH, YL, YA, Y6, Y7⟩ := hY
  unfold wpX_start wpY_start
  rcases vs_arg n hn5 v1 with hb | ⟨c, hc, rfl⟩
  · exact xw_bad1 hb (br_f (by decide) (yw_bad1 hb (br_f (by decide) ⟨by trivial, fin⟩)))
  have hc5 : c < 5 := by omega
  have hi := vs_in5 hc5
  have hc' : c < 2 ^ 31 := by omega
  simp only [nI_clamp hc', vs_Ia]
  refine xw_bad0 hc hn5 (br_t rfl ?_)
  by_cases hv : md c = 2 ∨ md c = 3
  · have hvc := ((gM c hc).2).mp hv
    have hlv := (gV.1 c hc hvc).1
    have hlv16 := (gI c hc).2.1
    refine xw_iv1 hc5 hv (br_f (by decide) ⟨hi, hi, ?_⟩)
    have hbits : ∀ j, bt (mk c &&& (su c ^^^ (-1))) j = true → j < n := by
      intro j hj
      rw [vs_bnot, Bool.and_eq_true, (gV.1 c hc hvc).2.1] at hj
      exact gV.2 _ j hj.1
    rcases vs_lst n (mk c &&& (su c ^^^ (-1))) with ⟨q, hq, hbq, hlq⟩ | hno
    · refine xw_leastQ hn5 hq hbq hlq ?_
      by_cases e : q = c
      · subst e
        refine br_t rfl ⟨hi, ?_⟩
        by_cases c16 : 16 ≤ vw q
        · have e16 : vw q = 16 := by omega
          exact br_t (nI_le (a := 16) c16 (by omega)) (yw_bad0 hc hn5 (br_t rfl (yw_iv1 hc5 hv (br_f (by decide) ⟨hi, hi, yw_leastQ hc5 hbq hlq (br_t rfl ⟨hi, br_t (by rw [e16]; rfl) ⟨by trivial, fin⟩⟩)⟩))))
        · have n16 : ¬ nI (vw q) = 16 := fun z => c16 (Nat.le_of_eq ((nI_eq (b := 16) (by omega) (by omega)).mp z).symm)
          refine br_f (nI_ge (b := 16) (by omega) (by omega)) ?_
          by_cases c60 : st < 60
          · have s60 := nI_lt (b := 60) c60 (by omega)
            have h61 : vp_in (nI (st + 1)) 61 := vp_in_nI (by omega) (by omega)
            refine br_t s60 (nm_r (nI_1 st) (xw_promise hc5 ?_))
            refine ⟨hi, nm_r (e' := vs_I (vs_u att q (st + 1))) (by rw [vs_upd, vs_uu]) ⟨hi, nm_r (e' := vs_u xr q ((1 : Int32) <<< (nI q &&& 31))) (by rw [vs_updA, vs_uu]) ⟨hi, hi, nm_r (e' := vs_u xb q (nI (ac q))) (by rw [vs_updA, vs_uu]; rfl) ⟨hi, hi, nm_r (e' := vs_u xm q (am q)) (by rw [vs_updA, vs_uu]) ⟨hi, hi, nm_r (e' := vs_u xc q (acu q)) (by rw [vs_updA, vs_uu]) ?_⟩⟩⟩⟩⟩
            refine yw_bad0 hc hn5 (br_t rfl (yw_iv1 hc5 hv (br_f (by decide) ⟨hi, hi, yw_leastQ hc5 hbq hlq (br_t rfl ⟨hi, br_f n16 (br_t s60 (yw_ea hc hn5 YA (nm_r (nI_1 st) ?_)))⟩)⟩)))
            have e61 : (nI (st + 1)).toNatClampNeg = st + 1 := nI_clamp (by omega)
            refine ⟨h61, nm_r (e' := vs_I (vs_u ow (st + 1) q)) (by rw [e61, vs_upd]) ⟨h61, nm_r (e' := vs_I (vs_u (vs_le li ow q (st + 1)) (st + 1) 1)) (by rw [e61]; exact vs_upd _ _ 1) ⟨h61, nm_r (e' := vs_u re (st + 1) ((1 : Int32) <<< (nI q &&& 31))) (by rw [e61]; rfl) ⟨hi, h61, nm_r (e' := vs_I (vs_u be (st + 1) (ac q))) (by rw [e61]; exact vs_upd _ _ _) ⟨hi, nm_r (vs_updA _ _ _) ⟨hi, nm_r (vs_upd _ _ _) ⟨by trivial, ?_⟩⟩⟩⟩⟩⟩⟩
            exact zz_in (vs_start_Inv hc hvc (by omega) c60 hI0) ⟨XL, RA, XH, XO, vs_start_XA XA g8 gA hc⟩ ⟨YH, YL, vs_start_YA YA hn5 hc c60, vs_6_start Y6 (g8.1 (st + 1) (Or.inr (by omega))).2.2.1, Y7⟩
          · have s60 : ¬ nI st < 60 := nI_nlt (b := 60) (by omega) (by omega)
            exact br_f s60 (yw_bad0 hc hn5 (br_t rfl (yw_iv1 hc5 hv (br_f (by decide) ⟨hi, hi, yw_leastQ hc5 hbq hlq (br_t rfl ⟨hi, br_f n16 (br_f s60 ⟨by trivial, fin⟩)⟩)⟩))))
      · have e' : ¬ nI q = nI c := fun z => e ((nI_eq (by omega) (by omega)).mp z)
        exact br_f e' (yw_bad0 hc hn5 (br_t rfl (yw_iv1 hc5 hv (br_f (by decide) ⟨hi, hi, yw_leastQ (by omega) hbq hlq (br_f e' ⟨by trivial, fin⟩)⟩))))
    · have hno5 : ∀ j, j < 5 → bt (mk c &&& (su c ^^^ (-1))) j = false := by
        intro j _
        cases e : bt (mk c &&& (su c ^^^ (-1))) j
        · rfl
        · have := hno j (hbits j e); rw [e] at this; exact this
      have e' : ¬ (-1 : Int32) = nI c := by
        intro z
        have : (nI c) < 0 := by rw [← z]; decide
        exact nI_pos hc' this
      exact xw_leastN hn5 hno (br_f e' (yw_bad0 hc hn5 (br_t rfl (yw_iv1 hc5 hv (br_f (by decide) ⟨hi, hi, yw_leastN hno5 (br_f e' ⟨by trivial, fin⟩)⟩)))))
  · exact xw_iv0 hc5 hv (br_t rfl (yw_bad0 hc hn5 (br_t rfl (yw_iv0 hc5 hv (br_t rfl ⟨by trivial, fin⟩)))))
end
section
/-! refusal, promise, fetch, reply: pure; collect -/
variable {n w sn st fc : Nat} {md ins l1 l2 l3 l4 mk nw tp su jo am acu b1 b2 b3 o1 o2 xr xb xm xc xp xq xa va ho re pm aq VM : Nat → Int32} {lv lc vw ct dl pr ac hx bn oc att hd sd wt mv mn fm fs fv ow li be pc av VC : Nat → Nat} {lg : Nat → List (Nat × Nat)} {H : Nat → Nat → Bool}
theorem xw_refS {post : Int32 → Prop} {c m : Nat} (hc : c < 5) (hm : m < 5) (h1 : bt (su c) m = true) (h : post (-13)) : wpX_refusal post ((nI n), (nI w), (nI sn), (nI st), md, ins, (vs_I lv), (vs_I lc), l1, l2, l3, l4, (vs_I vw), mk, nw, (vs_I ct), (vs_I dl), tp, su, jo, (vs_I pr), (vs_I ac), am, acu, (vs_I hx), (vs_I bn), b1, b2, b3, (vs_I oc), o1, o2, (vs_I att), xr, xb, xm, xc, xp, xq, xa) (nI c) (nI m) := by
  refine ⟨vs_in5 hc, ?_⟩
  rw [nI_clamp (show c < 2 ^ 31 by omega)]
  exact xw_has1 (by omega) h1 (br_f (by decide) h)
theorem xw_refV {post : Int32 → Prop} {c m : Nat} (hc : c < 5) (hm : m < 5) (h1 : bt (su c) m = false) (h2 : ¬ (md m = 2 ∨ md m = 3)) (h : post (-4)) : wpX_refusal post ((nI n), (nI w), (nI sn), (nI st), md, ins, (vs_I lv), (vs_I lc), l1, l2, l3, l4, (vs_I vw), mk, nw, (vs_I ct), (vs_I dl), tp, su, jo, (vs_I pr), (vs_I ac), am, acu, (vs_I hx), (vs_I bn), b1, b2, b3, (vs_I oc), o1, o2, (vs_I att), xr, xb, xm, xc, xp, xq, xa) (nI c) (nI m) := by
  refine ⟨vs_in5 hc, ?_⟩
  rw [nI_clamp (show c < 2 ^ 31 by omega)]
  exact xw_has0 (by omega) h1 (br_t rfl (xw_iv0 hm h2 (br_t rfl h)))
theorem xw_refW {post : Int32 → Prop} {c m : Nat} (hc : c < 5) (hm : m < 5) (h1 : bt (su c) m = false) (h2 : md m = 2 ∨ md m = 3) (h3 : ¬ nI (vw m) = nI (vw c)) (h : post (-4)) : wpX_refusal post ((nI n), (nI w), (nI sn), (nI st), md, ins, (vs_I lv), (vs_I lc), l1, l2, l3, l4, (vs_I vw), mk, nw, (vs_I ct), (vs_I dl), tp, su, jo, (vs_I pr), (vs_I ac), am, acu, (vs_I hx), (vs_I bn), b1, b2, b3, (vs_I oc), o1, o2, (vs_I att), xr, xb, xm, xc, xp, xq, xa) (nI c) (nI m) := by
  refine ⟨vs_in5 hc, ?_⟩
  rw [nI_clamp (show c < 2 ^ 31 by omega), nI_clamp (show m < 2 ^ 31 by omega)]
  exact xw_has0 (by omega) h1 (br_t rfl (xw_iv1 hm h2 (br_f (by decide) ⟨vs_in5 hm, vs_in5 hc, br_f h3 h⟩)))
theorem xw_refP {post : Int32 → Prop} {c m : Nat} (hc : c < 5) (hm : m < 5) (h1 : bt (su c) m = false) (h2 : md m = 2 ∨ md m = 3) (h3 : nI (vw m) = nI (vw c)) (h4 : ¬ nI (pr m) ≤ nI (att c)) (h : post (-14)) : wpX_refusal post ((nI n), (nI w), (nI sn), (nI st), md, ins, (vs_I lv), (vs_I lc), l1, l2, l3, l4, (vs_I vw), mk, nw, (vs_I ct), (vs_I dl), tp, su, jo, (vs_I pr), (vs_I ac), am, acu, (vs_I hx), (vs_I bn), b1, b2, b3, (vs_I oc), o1, o2, (vs_I att), xr, xb, xm, xc, xp, xq, xa) (nI c) (nI m) := by
  refine ⟨vs_in5 hc, ?_⟩
  rw [nI_clamp (show c < 2 ^ 31 by omega), nI_clamp (show m < 2 ^ 31 by omega)]
  exact xw_has0 (by omega) h1 (br_t rfl (xw_iv1 hm h2 (br_f (by decide) ⟨vs_in5 hm, vs_in5 hc, br_t h3 ⟨vs_in5 hm, vs_in5 hc, br_f h4 h⟩⟩)))
theorem xw_refO {post : Int32 → Prop} {c m : Nat} (hc : c < 5) (hm : m < 5) (h1 : bt (su c) m = false) (h2 : md m = 2 ∨ md m = 3) (h3 : nI (vw m) = nI (vw c)) (h4 : nI (pr m) ≤ nI (att c)) (h : post 1) : wpX_refusal post ((nI n), (nI w), (nI sn), (nI st), md, ins, (vs_I lv), (vs_I lc), l1, l2, l3, l4, (vs_I vw), mk, nw, (vs_I ct), (vs_I dl), tp, su, jo, (vs_I pr), (vs_I ac), am, acu, (vs_I hx), (vs_I bn), b1, b2, b3, (vs_I oc), o1, o2, (vs_I att), xr, xb, xm, xc, xp, xq, xa) (nI c) (nI m) := by
  refine ⟨vs_in5 hc, ?_⟩
  rw [nI_clamp (show c < 2 ^ 31 by omega), nI_clamp (show m < 2 ^ 31 by omega)]
  exact xw_has0 (by omega) h1 (br_t rfl (xw_iv1 hm h2 (br_f (by decide) ⟨vs_in5 hm, vs_in5 hc, br_t h3 ⟨vs_in5 hm, vs_in5 hc, br_t h4 h⟩⟩)))
theorem vs_att_inj {a b : Nat} (A : vs_YA n st ow li att) (ha : a < n) (hb : b < n) (h0 : att b ≠ 0) (e : att a = att b) : a = b := by
  have h1 := (A.1 b hb).1
  have x := ((A.1 b hb).2 (att b) (by omega) h1).mpr rfl
  have y := ((A.1 a ha).2 (att b) (by omega) h1).mpr e
  omega
theorem vs_prom_Inv {m a : Nat} (hm : m < n) (hv : vw m ≠ 0) (hp : pr m ≤ a) (ha : a ≤ st) (h : vs_Inv n w sn st md ins lv vw mk nw jo su ct dl pr ac hd mv mn wt sd ho lg H att re be pm pc aq av VM VC) : vs_Inv n w sn st (vs_u md m 3) ins lv vw mk nw jo su ct dl (vs_u pr m a) ac hd mv mn wt sd ho lg H (vs_u att m 0) re be pm pc aq av VM VC := by
  obtain ⟨hb, gM, gI, gV, gJ, gS, gT, gE, gL, gD, gH, gN, gO, gK, gA, gR, gQ, gB, g2, g3, g4, g5, g6, g7, g8, gC1, gC2, gC3, gC4, gF, gC5⟩ := h
  refine ⟨hb, vs_md3_M gM hv, gI, gV, gJ, gS, gT, gE, gL, gD, gH, vs_md3_N gN, gO, gK, ?_, ?_, gQ, ?_, g2, g3, g4, g5, g6, g7, g8, gC1, ?_, vs_md3_C gC3, ?_, gF, gC5⟩
  · intro x hx
    by_cases e : x = m
    · rw [e, vs_us]; exact ⟨Nat.zero_le _, fun z => (z rfl).elim⟩
    · rw [vs_un e, vs_un e, vs_un e]; exact gA x hx
  · intro b h1 h2
    have t := gR b h1 h2
    refine ⟨t.1, t.2.1, t.2.2.1, fun j hj => ?_⟩
    have s := t.2.2.2 j hj
    refine ⟨s.1, s.2.1, s.2.2.1, fun z => ?_⟩
    have y := s.2.2.2 z
    by_cases e : j = m
    · subst e
      rw [vs_us, vs_us]; exact ⟨by omega, rfl⟩
    · rw [vs_un e, vs_un e]; exact y
  · intro x hx
    have t := gB x hx
    by_cases e : x = m
    · subst e
      rw [vs_us]; exact ⟨by omega, ha, t.2.2⟩
    · rw [vs_un e]; exact t
  · intro x hx
    have t := gC2 x hx
    by_cases e : x = m
    · subst e
      exact ⟨t.1, fun z => (z vs_us).elim, fun z => (z vs_us).elim⟩
    · rw [vs_un e]; exact t
  · intro x j h1 h2 h3 h4 h5 k h6 h7
    by_cases e : x = m
    · rw [e] at h3; exact (h3 vs_us).elim
    · rw [vs_un e] at h3 h4 h5
      exact gC4 x j h1 h2 h3 h4 h5 k h6 h7
theorem vs_fetch_Inv {c p : Nat} {T : Int32} {ho' : Nat → Int32} (hc : c < n) (hp : p < n) (hmd : md c = 3) (hvp : vw p = vw c) (E : vs_gE mv ho') (h : vs_Inv n w sn st md ins lv vw mk nw jo su ct dl pr ac hd mv mn wt sd ho lg H att re be pm pc aq av VM VC) :
    vs_Inv n w sn st md ins lv vw mk nw jo su ct dl pr ac (vs_rsk hd (mk c) c w n (vs_gk T H c p) 49) mv mn wt sd ho' lg (vs_Hk H c (vs_gk T H c p) 49) att re be pm pc aq av VM VC := by
  obtain ⟨hb, gM, gI, gV, gJ, gS, gT, gE, gL, gD, gH, gN, gO, gK, gA, gR, gQ, gB, g2, g3, g4, g5, g6, g7, g8, gC1, gC2, gC3, gC4, gF, gC5⟩ := h
  refine ⟨hb, gM, gI, gV, gJ, gS, gT, E, gL, gD, vs_fe_H gH hp hvp (fun k hk => (vs_gkp hk).1), ?_, gO, ?_, gA, gR, gQ, gB, g2, g3, g4, g5, g6, g7, g8, gC1, vs_mono_C2 gC2 (fun a b => vs_fe_mono a b), gC3, vs_mono_C4 gC4 (fun a b => vs_fe_mono a b), gF, gC5⟩
  · intro a ha hmda
    by_cases e : a = c
    · rw [e, hmd] at hmda; exact absurd hmda (by decide)
    · rw [vs_Hk_o _ e]; exact gN a ha hmda
  · refine vs_rsk_K gK hb.2.1 gV.2 (fun hv j hbj k hk => ?_) 49
    have a := gO.1 (vw c) j hv hbj
    have b := ((gH p hp).1 k (vs_gkp hk).1).2.2
    rw [hvp] at b
    omega
theorem vs_reply_Inv {c m : Nat} (hc : c < n) (hm : m < n) (ha0 : att c ≠ 0) (hpm : pm (att c) = 0) (hvm : vw m = vw c) (hmd : md m = 3) (hpr : pr m = att c) (hin : ∀ x, x < n → att x = att c → x = c) (hH : ∀ k, H m k = true → H c k = true) (h : vs_Inv n w sn st md ins lv vw mk nw jo su ct dl pr ac hd mv mn wt sd ho lg H att re be pm pc aq av VM VC) :
    vs_Inv n w sn st md ins lv vw mk nw jo su ct dl pr ac hd mv mn wt sd ho lg H att (vs_u re (att c) (re (att c) ||| ((1 : Int32) <<< (nI m &&& 31)))) (vs_u be (att c) (if be (att c) < ac m then ac m else be (att c))) pm pc aq av VM VC := by
  obtain ⟨hb, gM, gI, gV, gJ, gS, gT, gE, gL, gD, gH, gN, gO, gK, gA, gR, gQ, gB, g2, g3, g4, g5, g6, g7, g8, gC1, gC2, gC3, gC4, gF, gC5⟩ := h
  have hm32 : m < 32 := by omega
  have Ac := (gA c hc)
  have Ac2 := Ac.2 ha0
  have hv : vw m ≠ 0 := by rw [hvm]; exact Ac2.1
  have Vm := gV.1 m hm hv
  have Bm := gB m hm
  have acne : ac m ≠ att c := by
    intro z
    by_cases y : ac m = 0
    · omega
    · have t := (Bm.2.2 y).2.2
      rw [z] at t; exact t hpm
  have mono : ∀ b x, bt (re b) x = true → bt (vs_u re (att c) (re (att c) ||| ((1 : Int32) <<< (nI m &&& 31))) b) x = true := by
    intro b x hx
    by_cases e : b = att c
    · subst e
      rw [vs_us, vs_bor _ hm32, hx]; rfl
    · rw [vs_un e]; exact hx
  have new : ∀ b x, bt (vs_u re (att c) (re (att c) ||| ((1 : Int32) <<< (nI m &&& 31))) b) x = true → bt (re b) x = true ∨ (b = att c ∧ x = m) := by
    intro b x hx
    by_cases e : b = att c
    · subst e
      rw [vs_us, vs_bor _ hm32, Bool.or_eq_true, decide_eq_true_eq] at hx
      rcases hx with hx | hx
      · exact Or.inl hx
      · exact Or.inr ⟨rfl, hx⟩
    · rw [vs_un e] at hx; exact Or.inl hx
  have be_ge : ∀ b, be b ≤ vs_u be (att c) (if be (att c) < ac m then ac m else be (att c)) b := by
    intro b
    by_cases e : b = att c
    · subst e; rw [vs_us]; split <;> omega
    · rw [vs_un e]; exact Nat.le_refl _
  have be_c : (vs_u be (att c) (if be (att c) < ac m then ac m else be (att c)) (att c) = be (att c) ∧ ac m ≤ be (att c)) ∨ (vs_u be (att c) (if be (att c) < ac m then ac m else be (att c)) (att c) = ac m ∧ be (att c) < ac m) := by
    rw [vs_us]
    by_cases e : be (att c) < ac m
    · rw [if_pos e]; exact Or.inr ⟨rfl, e⟩
    · rw [if_neg e]; exact Or.inl ⟨rfl, by omega⟩
  refine ⟨hb, gM, gI, gV, gJ, gS, gT, gE, gL, gD, gH, gN, gO, gK, ?_, ?_, gQ, gB, ?_, ?_, ?_, g5, g6, g7, ?_, gC1, ?_, gC3, ?_, gF, gC5⟩
  · intro x hx
    have t := gA x hx
    refine ⟨t.1, fun z => ?_⟩
    have s := t.2 z
    exact ⟨s.1, s.2.1, s.2.2.1, s.2.2.2.1, mono _ _ s.2.2.2.2⟩
  · intro a h1 h2
    have t := gR a h1 h2
    refine ⟨t.1, t.2.1, ?_, fun x hx => ?_⟩
    · obtain ⟨y, hy⟩ := t.2.2.1
      exact ⟨y, mono _ _ hy⟩
    · rcases new a x hx with h | ⟨e1, e2⟩
      · exact t.2.2.2 x h
      · subst e1; subst e2
        rw [← Ac2.2.1, ← hvm]
        exact ⟨hm, Vm.2.2.2, Nat.le_of_eq Vm.1, fun _ => ⟨Nat.le_of_eq hpr.symm, hmd⟩⟩
  · intro a b x h1 h2 h3 h4 h5 h6
    rcases new a x h5 with h | ⟨e1, e2⟩
    · have := g2 a b x h1 h2 h3 h4 h h6
      have := be_ge a
      omega
    · subst e1; subst e2
      have := (gQ b h1 (by omega) x h6).2.2.2.2 (by rw [h4, hvm]; exact Ac2.2.1)
      rcases be_c with y | y <;> omega
  · intro a h1 h2
    have t := g3 a h1 h2
    by_cases e : a = att c
    · subst e
      refine ⟨fun z => ?_, fun z => (z hpm).elim⟩
      rcases be_c with y | y
      · rw [y.1] at z ⊢
        exact t.1 z
      · rw [y.1] at z ⊢
        have s := Bm.2.2 z
        exact ⟨by omega, by rw [s.2.1, hvm]; exact Ac2.2.1, s.2.2⟩
    · rw [vs_un e]; exact t
  · intro a h1 h2 h3
    by_cases e : a = att c
    · rw [e] at h3; exact (h3 hpm).elim
    · rw [vs_un e]; exact g4 a h1 h2 h3
  · refine ⟨fun a ha => ?_, fun a => ⟨?_, (g8.2 a).2⟩⟩
    · have e : a ≠ att c := by omega
      rw [vs_un e, vs_un e]; exact g8.1 a ha
    · by_cases e : a = att c
      · subst e
        have := (g8.2 (att c)).1
        have := hb.2.2.2.2
        rcases be_c with y | y
        · rw [y.1]; omega
        · rw [y.1]; omega
      · rw [vs_un e]; exact (g8.2 a).1
  · intro x hx
    have t := gC2 x hx
    refine ⟨t.1, t.2.1, fun z => ?_⟩
    by_cases e : att x = att c
    · have := hin x hx e
      subst this
      rcases be_c with y | y
      · rw [y.1]; exact t.2.2 z
      · rw [y.1]
        intro q k h1 h2
        exact hH k ((gC2 m hm).1 q k h1 h2)
    · rw [vs_un e]; exact t.2.2 z
  · intro x j h1 h2 h3 h4 h5 k h6 h7
    rcases new _ _ h4 with h | ⟨e1, e2⟩
    · exact gC4 x j h1 h2 h3 h h5 k h6 h7
    · have := hin x h1 e1
      subst this; subst e2
      exact hH k ((gH j hm).2 hv k h6 h7)
theorem vs_g48 {k : Nat} (hk : k ≤ 48) (H : Nat → Nat → Bool) (c m : Nat) : vs_gk 48 H c m k = (H m k && !H c k) := by
  show (decide (nI k ≤ 48) && (H m k && !H c k)) = _
  rw [decide_eq_true (show nI k ≤ 48 from nI_le (b := 48) hk (by omega)), Bool.true_and]
theorem yw_col_l {post : Int32 → SY → Prop} {c m a : Nat} (hc : c < n) (hm : m < n) (hn : n ≤ 5) (hw : w ≤ 8) (hvc : vw c ≠ 0) (hvm : vw m = vw c) (ha : a ≤ 60) (hac : ac m ≤ 60) (hbe : be a ≤ 60) (hx : ∀ k, vs_gk 48 H c m k = true → vs_ix mv mn (vw c) k < 48) (hh : ∀ i, hd i ≤ 48)
    (h : ∀ (ho' : Nat → Int32), vs_YH n sn vw mv mn ho' (vs_Hk H c (vs_gk 48 H c m) 49) → vs_gE mv ho' →
      post 1 ((nI n), (nI w), (nI sn), (nI fc), (nI st), md, ins, (vs_I vw), mk, nw, (vs_I ct), (vs_tpk tp c (vs_gk 48 H c m) 49), (vs_I (vs_rsk hd (mk c) c w n (vs_gk 48 H c m) 49)), su, jo, (vs_I pr), (vs_I ac), va, (vs_I sd), (vs_I wt), (vs_I mv), (vs_I mn), ho', (vs_I fm), (vs_I fs), (vs_I fv), (vs_I ow), (vs_I li), (vs_u re a (re a ||| ((1 : Int32) <<< (nI m &&& 31)))), (vs_I (vs_u be a (if be a < ac m then ac m else be a))), pm, (vs_I pc), aq)) :
    ∀ (d k : Nat) (ho : Nat → Int32), k + d = 49 → vs_YH n sn vw mv mn ho (vs_Hk H c (vs_gk 48 H c m) k) → vs_gE mv ho →
    wY_collect_137 post (nI c) (nI m) (nI a) (d + 1) (nI k) (nI n) (nI w) (nI sn) (nI fc) (nI st) md ins (vs_I vw) mk nw (vs_I ct) (vs_tpk tp c (vs_gk 48 H c m) k) (vs_I (vs_rsk hd (mk c) c w n (vs_gk 48 H c m) k)) su jo (vs_I pr) (vs_I ac) va (vs_I sd) (vs_I wt) (vs_I mv) (vs_I mn) ho (vs_I fm) (vs_I fs) (vs_I fv) (vs_I ow) (vs_I li) re (vs_I be) pm (vs_I pc) aq := by
  intro d
  induction d with
  | zero =>
    intro k ho e Q E
    have e : k = 49 := by omega
    subst e
    have him := vs_in5 (show m < 5 by omega)
    have hia : vp_in (nI a) 61 := vp_in_nI (by omega) (by omega)
    refine br_t (nI_lt (a := 48) (by omega) (by omega)) ⟨him, hia, ?_⟩
    simp only [nI_clamp (show m < 2 ^ 31 by omega), nI_clamp (show a < 2 ^ 31 by omega), vs_Ia]
    have h' := h ho Q E
    by_cases c1 : be a < ac m
    · rw [if_pos c1] at h'
      refine br_f (nI_ge c1 (by omega)) ⟨him, hia, nm_r (vs_upd _ _ _) ⟨hia, hia, nm_r ?_ h'⟩⟩
      rw [nI_clamp (show a < 2 ^ 31 by omega)]; rfl
    · rw [if_neg c1, vs_ui] at h'
      refine br_t (nI_le (by omega) (by omega)) ⟨hia, hia, nm_r ?_ h'⟩
      rw [nI_clamp (show a < 2 ^ 31 by omega)]; rfl
  | succ d ih =>
    intro k ho e Q E
    refine br_f (nI_nlt (a := 48) (by omega) (by omega)) ?_
    have hgk := vs_g48 (show k ≤ 48 by omega) H c m
    cases cp : H m k
    · have gf : vs_gk 48 H c m k = false := by rw [hgk, cp]; rfl
      have ihk := ih (k + 1) ho (by omega) (by rw [vs_Hk_f k gf]; exact Q) E
      rw [vs_tpk_f k gf, vs_rsk_f k gf] at ihk
      exact yw_got0 Q hm hn (by omega) (by omega) (by rw [vs_Hk_p]; exact cp) (br_t rfl (nm_r (nI_1 k) ihk))
    · refine yw_got1 Q hm hn (by omega) (by omega) (by rw [vs_Hk_p]; exact cp) (br_f (by decide) ?_)
      cases cm : H c k
      · have gt : vs_gk 48 H c m k = true := by rw [hgk, cp, cm]; rfl
        refine yw_fe Q E hc hn hw hvc (by omega) hh (hx k gt) gt cm ?_
        intro ho' Q' E'
        exact nm_r (nI_1 k) (ih (k + 1) ho' (by omega) Q' E')
      · have gf : vs_gk 48 H c m k = false := by rw [hgk, cp, cm]; rfl
        have ihk := ih (k + 1) ho (by omega) (by rw [vs_Hk_f k gf]; exact Q) E
        rw [vs_tpk_f k gf, vs_rsk_f k gf] at ihk
        exact yw_obtain0 Q hc hn hvc (by omega) (by rw [vs_Hk_p]; exact cm) (nm_r (nI_1 k) ihk)
theorem vs_gkx {T : Int32} {c m : Nat} (Q : vs_YH n sn vw mv mn ho H) (hm : m < n) (hv : vw c ≠ 0) (hvm : vw m = vw c) (k : Nat) (hk : vs_gk T H c m k = true) : vs_ix mv mn (vw c) k < 48 := by
  have e := Q.2.2.2.2 m hm (by omega) k
  rw [(vs_gkp hk).1, hvm] at e
  have e' := e.symm
  rw [Bool.and_eq_true, decide_eq_true_eq] at e'
  exact e'.1
theorem yw_col {post : Int32 → SY → Prop} {c m a : Nat} (Q : vs_YH n sn vw mv mn ho H) (E : vs_gE mv ho) (hc : c < n) (hm : m < n) (hn : n ≤ 5) (hw : w ≤ 8) (hvc : vw c ≠ 0) (hvm : vw m = vw c) (ha : a ≤ 60) (hac : ac m ≤ 60) (hbe : be a ≤ 60) (h48 : ∀ k, H m k = true → 1 ≤ k) (hh : ∀ i, hd i ≤ 48)
    (h : ∀ (ho' : Nat → Int32), vs_YH n sn vw mv mn ho' (vs_Hk H c (vs_gk 48 H c m) 49) → vs_gE mv ho' →
      post 1 ((nI n), (nI w), (nI sn), (nI fc), (nI st), md, ins, (vs_I vw), mk, nw, (vs_I ct), (vs_tpk tp c (vs_gk 48 H c m) 49), (vs_I (vs_rsk hd (mk c) c w n (vs_gk 48 H c m) 49)), su, jo, (vs_I pr), (vs_I ac), va, (vs_I sd), (vs_I wt), (vs_I mv), (vs_I mn), ho', (vs_I fm), (vs_I fs), (vs_I fv), (vs_I ow), (vs_I li), (vs_u re a (re a ||| ((1 : Int32) <<< (nI m &&& 31)))), (vs_I (vs_u be a (if be a < ac m then ac m else be a))), pm, (vs_I pc), aq)) :
    ∃ n137 : Nat, wY_collect_137 post (nI c) (nI m) (nI a) n137 1 (nI n) (nI w) (nI sn) (nI fc) (nI st) md ins (vs_I vw) mk nw (vs_I ct) tp (vs_I hd) su jo (vs_I pr) (vs_I ac) va (vs_I sd) (vs_I wt) (vs_I mv) (vs_I mn) ho (vs_I fm) (vs_I fs) (vs_I fv) (vs_I ow) (vs_I li) re (vs_I be) pm (vs_I pc) aq := by
  have g0 := vs_gk0 (T := 48) (m := c) h48
  have := yw_col_l hc hm hn hw hvc hvm ha hac hbe (vs_gkx Q hm hvc hvm) hh h 48 1 ho (by omega) (by rw [vs_k_1 g0]; exact Q) E
  rw [vs_tpk_f 0 g0, vs_rsk_f 0 g0] at this
  exact ⟨_, this⟩
end
section
/-! collect -/
variable {n w sn st fc : Nat} {md ins l1 l2 l3 l4 mk nw tp su jo am acu b1 b2 b3 o1 o2 xr xb xm xc xp xq xa va ho re pm aq VM : Nat → Int32} {lv lc vw ct dl pr ac hx bn oc att hd sd wt mv mn fm fs fv ow li be pc av VC : Nat → Nat} {lg : Nat → List (Nat × Nat)} {H : Nat → Nat → Bool}
theorem vs_col_XA {c m x : Nat} {r : Int32} {xb' xm' xc' : Nat → Int32} (R : vs_XA n re pm aq att be pc ac xr xb xm xc xp xq xa am acu) (g8 : vs_g8 st re pm aq be pc) (hc : c < n) (hcm : c ≠ m) (ha0 : att c ≠ 0) (hin : ∀ x, x < n → att x = att c → x = c)
    (eb : xb' = vs_u (vs_u xb m 0) c (nI x)) (em : xm' = vs_u (vs_u xm m 0) c (pm x)) (ec : xc' = vs_u (vs_u xc m 0) c (nI (pc x))) :
    vs_XA n (vs_u re (att c) r) pm aq (vs_u att m 0) (vs_u be (att c) x) pc ac (vs_u (vs_u xr m 0) c r) xb' xm' xc' (vs_u xp m 0) (vs_u xq m 0) (vs_u xa m 0) am acu := by
  subst eb em ec
  have z := g8.1 0 (Or.inl rfl)
  intro b hb
  have t := R b hb
  by_cases e1 : b = c
  · subst e1
    rw [vs_us, vs_us, vs_us, vs_us, vs_un hcm, vs_un hcm, vs_un hcm, vs_un hcm, vs_us, vs_us]
    exact ⟨rfl, rfl, rfl, rfl, t.2.2.2.2⟩
  · rw [vs_un e1, vs_un e1, vs_un e1, vs_un e1]
    by_cases e2 : b = m
    · subst e2
      rw [vs_us, vs_us, vs_us, vs_us, vs_us, vs_us, vs_us, vs_us, vs_un (Ne.symm ha0), vs_un (Ne.symm ha0), z.1, z.2.1, z.2.2.1, z.2.2.2.1, z.2.2.2.2]
      exact ⟨rfl, rfl, rfl, rfl, rfl, rfl, rfl, t.2.2.2.2.2.2.2⟩
    · rw [vs_un e2, vs_un e2, vs_un e2, vs_un e2, vs_un e2, vs_un e2, vs_un e2, vs_un e2, vs_un (fun y => e1 (hin b hb y)), vs_un (fun y => e1 (hin b hb y))]
      exact t
theorem i_vc_collect {k : Nat} {u : SX} {v : SY} (I : i_Rel k u v) (hk : k + 4 ≤ 2050) (v1 : Int32) (v2 : Int32) : wpX_collect (fun r u' => wpY_collect (fun r' v' => r' = r ∧ i_Rel (k + 4) u' v') v v1 v2) u v1 v2 := by
  refine zz_el (P := fun u v => wpX_collect (fun r u' => wpY_collect (fun r' v' => r' = r ∧ i_Rel (k + 4) u' v') v v1 v2) u v1 v2) ?_ I
  intro n w sn st md ins lv lc l1 l2 l3 l4 vw mk nw ct dl tp su jo pr ac am acu hx bn b1 b2 b3 oc o1 o2 att xr xb xm xc xp xq xa fc hd va sd wt mv mn ho fm fs fv ow li re be pm pc aq lg H av VM VC hI hX hY
  have fin : i_Rel (k + 4) ((nI n), (nI w), (nI sn), (nI st), md, ins, (vs_I lv), (vs_I lc), l1, l2, l3, l4, (vs_I vw), mk, nw, (vs_I ct), (vs_I dl), tp, su, jo, (vs_I pr), (vs_I ac), am, acu, (vs_I hx), (vs_I bn), b1, b2, b3, (vs_I oc), o1, o2, (vs_I att), xr, xb, xm, xc, xp, xq, xa) ((nI n), (nI w), (nI sn), (nI fc), (nI st), md, ins, (vs_I vw), mk, nw, (vs_I ct), tp, (vs_I hd), su, jo, (vs_I pr), (vs_I ac), va, (vs_I sd), (vs_I wt), (vs_I mv), (vs_I mn), ho, (vs_I fm), (vs_I fs), (vs_I fv), (vs_I ow), (vs_I li), re, (vs_I be), pm, (vs_I pc), aq) := zz_in hI hX hY
  have hI0 := hI
  obtain ⟨⟨hn3, hn5, hw1, hw8, hst⟩, gM, gI, gV, gJ, gS, gT, gE, gL, gD, gH, gN, gO, gK, gA, gR, gQ, gB, g2, g3, g4, g5, g6, g7, g8, gC1, gC2, gC3, gC4, gF, gC5⟩ := hI
  obtain ⟨XL, RA, XH, XO, XA⟩ := hX
  obtain ⟨YH, YL, YA, Y6, Y7⟩ := hY
  unfold wpX_collect wpY_collect
  rcases vs_arg n hn5 v1 with hb | ⟨c, hc, rfl⟩
  · exact xw_bad1 hb (br_f (by decide) (yw_bad1 hb (br_f (by decide) ⟨by trivial, fin⟩)))
  rcases vs_arg n hn5 v2 with hb | ⟨m, hm, rfl⟩
  · exact xw_bad0 hc hn5 (br_t rfl (xw_bad1 hb (br_f (by decide) (yw_bad0 hc hn5 (br_t rfl (yw_bad1 hb (br_f (by decide) ⟨by trivial, fin⟩)))))))
  have hc5 : c < 5 := by omega
  have hm5 : m < 5 := by omega
  have hic := vs_in5 hc5
  have him := vs_in5 hm5
  have hast := (gA c hc).1
  have Xc := XA c hc
  have ea : (nI (att c)).toNatClampNeg = att c := nI_clamp (by omega)
  have hia : vp_in (nI (att c)) 61 := vp_in_nI (by omega) (by omega)
  simp only [nI_clamp (show c < 2 ^ 31 by omega), nI_clamp (show m < 2 ^ 31 by omega), vs_Ia]
  refine xw_bad0 hc hn5 (br_t rfl (xw_bad0 hm hn5 (br_t rfl ⟨hic, ?_⟩)))
  by_cases a0 : att c = 0
  · exact br_t (by rw [a0]; rfl) (yw_bad0 hc hn5 (br_t rfl (yw_bad0 hm hn5 (br_t rfl (yw_attemptOf hc hn5 YA (br_t (by rw [a0]; rfl) ⟨by trivial, fin⟩))))))
  have a0' : ¬ nI (att c) = 0 := nI_ne0 (by omega) (by omega)
  refine br_f a0' ⟨hic, ?_⟩
  by_cases p0 : pm (att c) = 0
  · refine br_t (Xc.2.2.2.2.1.trans p0) ⟨hic, ?_⟩
    cases r0 : bt (re (att c)) m
    · refine xw_has0 (by omega) (by rw [Xc.1]; exact r0) (br_t rfl ?_)
      cases s0 : bt (su c) m
      · by_cases hv : md m = 2 ∨ md m = 3
        · by_cases v0 : vw m = vw c
          · have v0' : nI (vw m) = nI (vw c) := by rw [v0]
            have Ac := (gA c hc).2 a0
            have Bm := gB m hm
            by_cases q0 : pr m ≤ att c
            · have q0' : nI (pr m) ≤ nI (att c) := nI_le q0 (by omega)
              have hcm : c ≠ m := by intro z; subst z; rw [Ac.2.2.2.2] at r0; cases r0
              have hin : ∀ x, x < n → att x = att c → x = c := fun x hx e => vs_att_inj YA hx hc a0 e
              have hvc := Ac.1
              refine xw_refO hc5 hm5 s0 hv v0' q0' (br_t rfl ⟨hic, xw_promise hm5 ?_⟩)
              refine xw_fetch (H := H) (g := vs_gk 48 H c m) hc hm hn5 hw8 hvc v0 (fun _ => rfl) ?_ (fun k hk => vs_h48 gH hm hk) XH.1 (vs_dl48 gD gL hc) ((gH c hc).2 hvc) RA ?_
              · intro k hk
                rcases hk with hk | hk
                · exact vs_b8 gH gO gD gV hw8 hc hc hvc rfl hk
                · exact vs_b8 gH gO gD gV hw8 hc hm hvc v0 hk
              intro bn' b1' b2' b3' RA'
              have hY : ∀ post : Int32 → SY → Prop, (∀ ho', vs_YH n sn vw mv mn ho' (vs_Hk H c (vs_gk 48 H c m) 49) → vs_gE mv ho' → post 1 ((nI n), (nI w), (nI sn), (nI fc), (nI st), (vs_u md m 3), ins, (vs_I vw), mk, nw, (vs_I ct), (vs_tpk tp c (vs_gk 48 H c m) 49), (vs_I (vs_rsk hd (mk c) c w n (vs_gk 48 H c m) 49)), su, jo, (vs_I (vs_u pr m (att c))), (vs_I ac), va, (vs_I sd), (vs_I wt), (vs_I mv), (vs_I mn), ho', (vs_I fm), (vs_I fs), (vs_I fv), (vs_I ow), (vs_I (vs_le li ow m (st + 1))), (vs_u re (att c) (re (att c) ||| ((1 : Int32) <<< (nI m &&& 31)))), (vs_I (vs_u be (att c) (if be (att c) < ac m then ac m else be (att c)))), pm, (vs_I pc), aq)) → wpY_collect post ((nI n), (nI w), (nI sn), (nI fc), (nI st), md, ins, (vs_I vw), mk, nw, (vs_I ct), tp, (vs_I hd), su, jo, (vs_I pr), (vs_I ac), va, (vs_I sd), (vs_I wt), (vs_I mv), (vs_I mn), ho, (vs_I fm), (vs_I fs), (vs_I fv), (vs_I ow), (vs_I li), re, (vs_I be), pm, (vs_I pc), aq) (nI c) (nI m) := by
                intro post hp
                unfold wpY_collect
                simp only [nI_clamp (show c < 2 ^ 31 by omega), nI_clamp (show m < 2 ^ 31 by omega), vs_Ia]
                refine yw_bad0 hc hn5 (br_t rfl (yw_bad0 hm hn5 (br_t rfl (yw_attemptOf hc hn5 YA (br_f a0' ⟨hia, ?_⟩)))))
                rw [ea]
                refine br_t p0 ⟨hia, yw_has0 (by omega) r0 (br_t rfl ⟨hic, yw_has0 (by omega) s0 (br_t rfl (yw_iv1 hm5 hv (br_f (by decide) ⟨him, hic, br_t v0' ⟨him, br_t q0' ⟨him, nm_r (vs_updA _ _ _) ⟨him, nm_r (vs_upd _ _ _) (yw_ea hm hn5 YA ?_)⟩⟩⟩⟩)))⟩)⟩
                exact yw_col YH gE hc hm hn5 hw8 hvc v0 (by omega) (by omega) (by have := (g8.2 (att c)).1; omega) (fun k hk => (vs_h48 gH hm hk).1) XH.2.1 hp
              have I1 := vs_prom_Inv hm (by omega) q0 hast hI0
              have mdc : vs_u md m 3 c = 3 := by rw [vs_un hcm]; exact Ac.2.2.2.1
              have gsup : ∀ k, vs_Hk H c (vs_gk 48 H c m) 49 m k = true → vs_Hk H c (vs_gk 48 H c m) 49 c k = true := by
                intro q hq
                rw [vs_Hk_o _ (Ne.symm hcm)] at hq
                have q48 := (vs_h48 gH hm hq).2
                show (H c q || (decide (c = c) && (decide (q < 49) && vs_gk 48 H c m q))) = true
                rw [vs_g48 q48, hq, decide_eq_true (show q < 49 by omega)]
                cases H c q <;> simp
              have fine : ∀ ho', vs_gE mv ho' → vs_YH n sn vw mv mn ho' (vs_Hk H c (vs_gk 48 H c m) 49) → vs_Inv n w sn st (vs_u md m 3) ins lv vw mk nw jo su ct dl (vs_u pr m (att c)) ac (vs_rsk hd (mk c) c w n (vs_gk 48 H c m) 49) mv mn wt sd ho' lg (vs_Hk H c (vs_gk 48 H c m) 49) (vs_u att m 0) (vs_u re (att c) (re (att c) ||| ((1 : Int32) <<< (nI m &&& 31)))) (vs_u be (att c) (if be (att c) < ac m then ac m else be (att c))) pm pc aq av VM VC := by
                intro ho' E' Q'
                have I2 := vs_fetch_Inv (T := 48) (ho' := ho') hc hm mdc v0 E' I1
                have ec : vs_u att m 0 c = att c := vs_un hcm
                have I3 := vs_reply_Inv (c := c) (m := m) hc hm (by rw [ec]; exact a0) (by rw [ec]; exact p0) v0 vs_us (by rw [vs_us, ec]) (fun x hx e => by
                  rw [ec] at e
                  by_cases z : x = m
                  · rw [z, vs_us] at e; exact (a0 e.symm).elim
                  · rw [vs_un z] at e; exact hin x hx e) gsup I2
                rw [ec] at I3
                exact I3
              have XH' := vs_rsk_X (m := c) (w := w) (s := mk c) (g := vs_gk 48 H c m) XH hn5 49 (by omega)
              refine ⟨him, hic, ?_⟩
              have xbc : vs_u xb m 0 c = nI (be (att c)) := by rw [vs_un hcm]; exact Xc.2.1
              have be60 := (g8.2 (att c)).1
              by_cases b0 : ac m ≤ be (att c)
              · refine br_t (show nI (ac m) ≤ vs_u xb m 0 c from by rw [xbc]; exact nI_le b0 (by omega)) ⟨hic, hic, nm_r (e' := vs_u (vs_u xr m 0) c (re (att c) ||| ((1 : Int32) <<< (nI m &&& 31)))) ?_ ?_⟩
                · show upd (vs_u xr m 0) (nI c).toNatClampNeg (vs_u xr m 0 (nI c).toNatClampNeg ||| ((1 : Int32) <<< (nI m &&& 31))) = _
                  rw [nI_clamp (show c < 2 ^ 31 by omega), vs_un hcm, Xc.1]; rfl
                have Yw := hY (fun r' v' => r' = 1 ∧ i_Rel (k + 4) ((nI n), (nI w), (nI sn), (nI st), (vs_u md m 3), ins, (vs_I lv), (vs_I lc), l1, l2, l3, l4, (vs_I vw), mk, nw, (vs_I ct), (vs_I dl), (vs_tpk tp c (vs_gk 48 H c m) 49), su, jo, (vs_I (vs_u pr m (att c))), (vs_I ac), am, acu, (vs_I (vs_rsk hx (mk c) c w n (vs_gk 48 H c m) 49)), (vs_I bn'), b1', b2', b3', (vs_I oc), o1, o2, (vs_I (vs_u att m 0)), (vs_u (vs_u xr m 0) c (re (att c) ||| ((1 : Int32) <<< (nI m &&& 31)))), (vs_u xb m 0), (vs_u xm m 0), (vs_u xc m 0), (vs_u xp m 0), (vs_u xq m 0), (vs_u xa m 0)) v') (fun ho' Q' E' => ⟨rfl, zz_in (fine ho' E' Q') ⟨XL, RA', XH', XO, ?_⟩ ⟨Q', YL, vs_fg_YA YA, vs_6_0 Y6, vs_7_fetch Y7 hn5⟩⟩)
                · unfold wpY_collect at Yw
                  simp only [nI_clamp (show c < 2 ^ 31 by omega), nI_clamp (show m < 2 ^ 31 by omega), vs_Ia] at Yw
                  exact Yw
                · rw [if_neg (by omega)]
                  refine vs_col_XA (x := be (att c)) XA g8 hc hcm a0 hin ?_ ?_ ?_
                  · rw [← xbc, vs_ui]
                  · rw [← Xc.2.2.1, ← vs_un (f := xm) (x := 0) hcm, vs_ui]
                  · rw [← Xc.2.2.2.1, ← vs_un (f := xc) (x := 0) hcm, vs_ui]
              · refine br_f (show ¬ nI (ac m) ≤ vs_u xb m 0 c from by rw [xbc]; exact nI_ge (by omega) (by omega)) ⟨him, hic, nm_r (e' := vs_u (vs_u xb m 0) c (nI (ac m))) rfl ⟨him, hic, nm_r (e' := vs_u (vs_u xm m 0) c (am m)) rfl ⟨him, hic, nm_r (e' := vs_u (vs_u xc m 0) c (acu m)) rfl ⟨hic, hic, nm_r (e' := vs_u (vs_u xr m 0) c (re (att c) ||| ((1 : Int32) <<< (nI m &&& 31)))) ?_ ?_⟩⟩⟩⟩
                · show upd (vs_u xr m 0) (nI c).toNatClampNeg (vs_u xr m 0 (nI c).toNatClampNeg ||| ((1 : Int32) <<< (nI m &&& 31))) = _
                  rw [nI_clamp (show c < 2 ^ 31 by omega), vs_un hcm, Xc.1]; rfl
                have Yw := hY (fun r' v' => r' = 1 ∧ i_Rel (k + 4) ((nI n), (nI w), (nI sn), (nI st), (vs_u md m 3), ins, (vs_I lv), (vs_I lc), l1, l2, l3, l4, (vs_I vw), mk, nw, (vs_I ct), (vs_I dl), (vs_tpk tp c (vs_gk 48 H c m) 49), su, jo, (vs_I (vs_u pr m (att c))), (vs_I ac), am, acu, (vs_I (vs_rsk hx (mk c) c w n (vs_gk 48 H c m) 49)), (vs_I bn'), b1', b2', b3', (vs_I oc), o1, o2, (vs_I (vs_u att m 0)), (vs_u (vs_u xr m 0) c (re (att c) ||| ((1 : Int32) <<< (nI m &&& 31)))), (vs_u (vs_u xb m 0) c (nI (ac m))), (vs_u (vs_u xm m 0) c (am m)), (vs_u (vs_u xc m 0) c (acu m)), (vs_u xp m 0), (vs_u xq m 0), (vs_u xa m 0)) v') (fun ho' Q' E' => ⟨rfl, zz_in (fine ho' E' Q') ⟨XL, RA', XH', XO, ?_⟩ ⟨Q', YL, vs_fg_YA YA, vs_6_0 Y6, vs_7_fetch Y7 hn5⟩⟩)
                · unfold wpY_collect at Yw
                  simp only [nI_clamp (show c < 2 ^ 31 by omega), nI_clamp (show m < 2 ^ 31 by omega), vs_Ia] at Yw
                  exact Yw
                · rw [if_pos (by omega)]
                  have Xm := XA m hm
                  refine vs_col_XA (x := ac m) XA g8 hc hcm a0 hin rfl ?_ ?_
                  · rw [Xm.2.2.2.2.2.2.2.1]
                  · rw [Xm.2.2.2.2.2.2.2.2]
            · have q0' : ¬ nI (pr m) ≤ nI (att c) := nI_ge (by omega) (by omega)
              refine xw_refP hc5 hm5 s0 hv v0' q0' (br_f (by decide) (yw_bad0 hc hn5 (br_t rfl (yw_bad0 hm hn5 (br_t rfl (yw_attemptOf hc hn5 YA (br_f a0' ⟨hia, ?_⟩)))))))
              rw [ea]
              exact br_t p0 ⟨hia, yw_has0 (by omega) r0 (br_t rfl ⟨hic, yw_has0 (by omega) s0 (br_t rfl (yw_iv1 hm5 hv (br_f (by decide) ⟨him, hic, br_t v0' ⟨him, br_f q0' ⟨by trivial, fin⟩⟩⟩)))⟩)⟩
          · have v0' : ¬ nI (vw m) = nI (vw c) := fun z => v0 ((nI_eq (by have := vs_v48 gI gV hm; omega) (by have := vs_v48 gI gV hc; omega)).mp z)
            refine xw_refW hc5 hm5 s0 hv v0' (br_f (by decide) (yw_bad0 hc hn5 (br_t rfl (yw_bad0 hm hn5 (br_t rfl (yw_attemptOf hc hn5 YA (br_f a0' ⟨hia, ?_⟩)))))))
            rw [ea]
            exact br_t p0 ⟨hia, yw_has0 (by omega) r0 (br_t rfl ⟨hic, yw_has0 (by omega) s0 (br_t rfl (yw_iv1 hm5 hv (br_f (by decide) ⟨him, hic, br_f v0' ⟨by trivial, fin⟩⟩)))⟩)⟩
        · refine xw_refV hc5 hm5 s0 hv (br_f (by decide) (yw_bad0 hc hn5 (br_t rfl (yw_bad0 hm hn5 (br_t rfl (yw_attemptOf hc hn5 YA (br_f a0' ⟨hia, ?_⟩)))))))
          rw [ea]
          exact br_t p0 ⟨hia, yw_has0 (by omega) r0 (br_t rfl ⟨hic, yw_has0 (by omega) s0 (br_t rfl (yw_iv0 hm5 hv (br_t rfl ⟨by trivial, fin⟩)))⟩)⟩
      · refine xw_refS hc5 hm5 s0 (br_f (by decide) (yw_bad0 hc hn5 (br_t rfl (yw_bad0 hm hn5 (br_t rfl (yw_attemptOf hc hn5 YA (br_f a0' ⟨hia, ?_⟩)))))))
        rw [ea]
        exact br_t p0 ⟨hia, yw_has0 (by omega) r0 (br_t rfl ⟨hic, yw_has1 (by omega) s0 (br_f (by decide) ⟨by trivial, fin⟩)⟩)⟩
    · refine xw_has1 (by omega) (by rw [Xc.1]; exact r0) (br_f (by decide) (yw_bad0 hc hn5 (br_t rfl (yw_bad0 hm hn5 (br_t rfl (yw_attemptOf hc hn5 YA (br_f a0' ⟨hia, ?_⟩)))))))
      rw [ea]
      exact br_t p0 ⟨hia, yw_has1 (by omega) r0 (br_f (by decide) ⟨by trivial, fin⟩)⟩
  · refine br_f (fun z => p0 (Xc.2.2.2.2.1.symm.trans z)) (yw_bad0 hc hn5 (br_t rfl (yw_bad0 hm hn5 (br_t rfl (yw_attemptOf hc hn5 YA (br_f a0' ⟨hia, ?_⟩))))))
    rw [ea]
    exact br_f p0 ⟨by trivial, fin⟩
end
section
/-! agreement, proposals, acceptance: pure -/
variable {n w sn st fc : Nat} {md ins l1 l2 l3 l4 mk nw tp su jo am acu b1 b2 b3 o1 o2 xr xb xm xc xp xq xa va ho re pm aq VM : Nat → Int32} {lv lc vw ct dl pr ac hx bn oc att hd sd wt mv mn fm fs fv ow li be pc av VC : Nat → Nat} {lg : Nat → List (Nat × Nat)} {H : Nat → Nat → Bool}
theorem vs_sz_add {A B W : Int32} : ∀ {n : Nat}, (∀ j, j < n → bt A j = true → bt W j = true) → (∀ j, j < n → bt B j = true → bt W j = true) → (∀ j, j < n → bt A j = true → bt B j = true → False) → vs_sz A n + vs_sz B n ≤ vs_sz W n := by
  intro n
  induction n with
  | zero => intro _ _ _; exact Nat.le_refl _
  | succ n ih =>
    intro h1 h2 h3
    have t := ih (fun j hj => h1 j (by omega)) (fun j hj => h2 j (by omega)) (fun j hj => h3 j (by omega))
    show vs_sz A n + (if bt A n = true then 1 else 0) + (vs_sz B n + (if bt B n = true then 1 else 0)) ≤ vs_sz W n + (if bt W n = true then 1 else 0)
    by_cases a : bt A n = true
    · have b : ¬ bt B n = true := fun z => h3 n (by omega) a z
      rw [if_pos a, if_neg b, if_pos (h1 n (by omega) a)]
      omega
    · rw [if_neg a]
      by_cases b : bt B n = true
      · rw [if_pos b, if_pos (h2 n (by omega) b)]
        omega
      · rw [if_neg b]
        omega
theorem vs_maj_int {A B W : Int32} {n : Nat} (h1 : ∀ j, bt A j = true → bt W j = true) (h2 : ∀ j, bt B j = true → bt W j = true) (a : vs_sz W n < 2 * vs_sz A n) (b : vs_sz W n < 2 * vs_sz B n) : ∃ m, bt A m = true ∧ bt B m = true := by
  apply Classical.byContradiction
  intro c
  have := vs_sz_add (n := n) (fun j _ => h1 j) (fun j _ => h2 j) (fun j _ x y => c ⟨j, x, y⟩)
  omega
theorem vs_sz_mono {A B : Int32} : ∀ {n : Nat}, (∀ j, bt A j = true → bt B j = true) → vs_sz A n ≤ vs_sz B n := by
  intro n
  induction n with
  | zero => intro _; exact Nat.le_refl _
  | succ n ih =>
    intro h
    have t := ih h
    show vs_sz A n + (if bt A n = true then 1 else 0) ≤ vs_sz B n + (if bt B n = true then 1 else 0)
    by_cases a : bt A n = true
    · rw [if_pos a, if_pos (h n a)]; omega
    · rw [if_neg a]; omega
theorem vs_sz_0 {A : Int32} : ∀ {n : Nat}, (∀ j, bt A j = false) → vs_sz A n = 0 := by
  intro n
  induction n with
  | zero => intro _; rfl
  | succ n ih =>
    intro h
    show vs_sz A n + (if bt A n = true then 1 else 0) = 0
    rw [ih h, h n]; rfl
/-- a chosen value is the value of every later proposal of its view -/
theorem vs_agree {pm aq re VM : Nat → Int32} {be pc av : Nat → Nat} {n st b : Nat} (g2 : vs_g2 st re aq be av) (g3 : vs_g3 st pm be pc av) (g4 : vs_g4 n st re pm VM av) (hR : ∀ a, 1 ≤ a → a ≤ st → ∀ m, bt (re a) m = true → bt (VM (av a)) m = true) (hQ : ∀ m, bt (aq b) m = true → bt (VM (av b)) m = true)
    (hb1 : 1 ≤ b) (hmaj : vs_sz (VM (av b)) n < 2 * vs_sz (aq b) n) : ∀ q a, a ≤ q → b ≤ a → a ≤ st → av a = av b → pm a ≠ 0 → pm a = pm b ∧ pc a = pc b := by
  intro q
  induction q with
  | zero => intro a h1 h2; omega
  | succ q ih =>
    intro a h1 h2 h3 h4 h5
    by_cases e : a = b
    · rw [e]; exact ⟨rfl, rfl⟩
    · have m4 := g4 a (by omega) h3 h5
      rw [h4] at m4
      obtain ⟨m, hm1, hm2⟩ := vs_maj_int (n := n) (fun j hj => by have := hR a (by omega) h3 j hj; rw [h4] at this; exact this) hQ m4 hmaj
      have ge := g2 a b m hb1 (by omega) h3 h4.symm hm1 hm2
      have t := g3 a (by omega) h3
      have t1 := t.1 (by omega)
      have t2 := t.2 h5 (by omega)
      have s := ih (be a) (by omega) ge (by omega) (by rw [t1.2.1, h4]) t1.2.2
      exact ⟨t2.1.trans s.1, t2.2.trans s.2⟩
/-- a proposal is fixed -/
theorem vs_prop_Inv {c C : Nat} {M : Int32} (hc : c < n) (ha0 : att c ≠ 0) (hpm : pm (att c) = 0) (hM : M ≠ 0) (hin : ∀ x, x < n → att x = att c → x = c) (hmaj : vs_sz (VM (vw c)) n < 2 * vs_sz (re (att c)) n) (hbits : ∀ j, bt M j = true → j < n)
    (hCN : C ≤ vs_N mv (vw c)) (hC48 : C ≤ 48) (hbe : be (att c) ≠ 0 → M = pm (be (att c)) ∧ C = pc (be (att c))) (hH : ∀ k, 1 ≤ k → k ≤ C → H c k = true) (h3 : ∀ m, m < n → bt M m = true → vw m = vw c → md m = 3 ∧ dl m ≤ C) (h5 : ∀ m, bt M m = true → bt (VM (vw c)) m = true → vw c ≤ lv m) (h : vs_Inv n w sn st md ins lv vw mk nw jo su ct dl pr ac hd mv mn wt sd ho lg H att re be pm pc aq av VM VC) :
    vs_Inv n w sn st md ins lv vw mk nw jo su ct dl pr ac hd mv mn wt sd ho lg H att re be (vs_u pm (att c) M) (vs_u pc (att c) C) aq av VM VC := by
  obtain ⟨hb, gM, gI, gV, gJ, gS, gT, gE, gL, gD, gH, gN, gO, gK, gA, gR, gQ, gB, g2, g3, g4, g5, g6, g7, g8, gC1, gC2, gC3, gC4, gF, gC5⟩ := h
  have Ac := gA c hc
  have Ac2 := Ac.2 ha0
  have ne : ∀ a, vs_u pm (att c) M a = 0 → pm a = 0 := by
    intro a h
    by_cases e : a = att c
    · rw [e, vs_us] at h; exact (hM h).elim
    · rw [vs_un e] at h; exact h
  have up : ∀ a, pm a ≠ 0 → a ≠ att c := fun a h e => h (by rw [e]; exact hpm)
  have noq : ∀ j, bt (aq (att c)) j = false := by
    intro j
    cases e : bt (aq (att c)) j
    · rfl
    · exact ((gQ (att c) (by omega) Ac.1 j e).2.2.1 hpm).elim
  refine ⟨hb, gM, gI, gV, gJ, gS, gT, gE, gL, gD, gH, gN, gO, gK, gA, gR, ?_, ?_, g2, ?_, ?_, ?_, ?_, ?_, ?_, ?_, ?_, ?_, gC4, gF, ?_⟩
  · intro a h1 h2 m hm
    have t := gQ a h1 h2 m hm
    exact ⟨t.1, t.2.1, fun z => t.2.2.1 (ne a z), t.2.2.2⟩
  · intro x hx
    have t := gB x hx
    exact ⟨t.1, t.2.1, fun z => ⟨(t.2.2 z).1, (t.2.2 z).2.1, fun y => (t.2.2 z).2.2 (ne _ y)⟩⟩
  · intro a h1 h2
    have t := g3 a h1 h2
    refine ⟨fun z => ⟨(t.1 z).1, (t.1 z).2.1, fun y => (t.1 z).2.2 (ne _ y)⟩, fun z y => ?_⟩
    have e2 := up _ (t.1 y).2.2
    rw [vs_un e2, vs_un e2]
    by_cases e : a = att c
    · subst e
      rw [vs_us, vs_us]; exact hbe y
    · rw [vs_un e] at z ⊢
      rw [vs_un e]; exact t.2 z y
  · intro a h1 h2 hz
    by_cases e : a = att c
    · subst e
      rw [← Ac2.2.1]; exact hmaj
    · rw [vs_un e] at hz; exact g4 a h1 h2 hz
  · intro a h1 h2 hz hmj
    by_cases e : a = att c
    · subst e
      rw [vs_sz_0 noq] at hmj; omega
    · rw [vs_un e] at hz ⊢
      rw [vs_un e]; exact g5 a h1 h2 hz hmj
  · intro m hm x h1 h2
    obtain ⟨a, a1, a2, a3, a4, a5⟩ := g6 m hm x h1 h2
    exact ⟨a, a1, a2, a3, fun z => a4 (ne a z), a5⟩
  · intro a j hj
    by_cases e : a = att c
    · rw [e, vs_us] at hj; exact hbits j hj
    · rw [vs_un e] at hj; exact g7 a j hj
  · refine ⟨fun a ha => ?_, fun a => ⟨(g8.2 a).1, ?_⟩⟩
    · have e : a ≠ att c := by omega
      rw [vs_un e, vs_un e]; exact g8.1 a ha
    · by_cases e : a = att c
      · rw [e, vs_us]; exact hC48
      · rw [vs_un e]; exact (g8.2 a).2
  · intro a h1 h2 hz
    by_cases e : a = att c
    · subst e
      rw [vs_us, ← Ac2.2.1]; exact hCN
    · rw [vs_un e] at hz ⊢; exact gC1 a h1 h2 hz
  · intro x hx
    have t := gC2 x hx
    refine ⟨fun z => ?_, fun z y => ?_, fun z y => ?_⟩
    · rw [vs_un (up _ ((gB x hx).2.2 z).2.2)]; exact t.1 z
    · by_cases e : att x = att c
      · have := hin x hx e
        subst this
        rw [vs_us]; exact hH
      · rw [vs_un e] at y ⊢; exact t.2.1 z y
    · have := ((g3 (att x) (by omega) (gA x hx).1).1 y).2.2
      rw [vs_un (up _ this)]; exact t.2.2 z y
  · intro a m h1 h2 h3' h4 h5' h6
    by_cases e : a = att c
    · subst e
      rw [vs_us] at h5' ⊢
      exact h3 m h3' h5' (by rw [h6]; exact Ac2.2.1.symm)
    · rw [vs_un e] at h4 h5' ⊢; exact gC3 a m h1 h2 h3' h4 h5' h6
  · intro a m h1 h2 h4 h5' h6
    by_cases e : a = att c
    · subst e
      rw [vs_us] at h5'
      rw [← Ac2.2.1] at h6 ⊢
      exact h5 m h5' h6
    · rw [vs_un e] at h4 h5'; exact gC5 a m h1 h2 h4 h5' h6
/-- view x + 1 gets its mask: nobody has been there -/
theorem vs_fix_Inv {x C : Nat} {M : Int32} (hx1 : 1 ≤ x) (hlv : ∀ m, m < n → lv m ≤ x) (hno : ∀ a, 1 ≤ a → a ≤ st → av a = x → pm a ≠ 0 → ¬ vs_sz (VM x) n < 2 * vs_sz (aq a) n) (hbits : ∀ j, bt M j = true → j < n) (h : vs_Inv n w sn st md ins lv vw mk nw jo su ct dl pr ac hd mv mn wt sd ho lg H att re be pm pc aq av VM VC) :
    vs_Inv n w sn st md ins lv vw mk nw jo su ct dl pr ac hd mv mn wt sd ho lg H att re be pm pc aq av (vs_u VM (x + 1) M) (vs_u VC (x + 1) C) := by
  obtain ⟨hb, gM, gI, gV, gJ, gS, gT, gE, gL, gD, gH, gN, gO, gK, gA, gR, gQ, gB, g2, g3, g4, g5, g6, g7, g8, gC1, gC2, gC3, gC4, gF, gC5⟩ := h
  have hav : ∀ a, 1 ≤ a → a ≤ st → av a ≠ x + 1 := by
    intro a h1 h2 e
    obtain ⟨m, hm⟩ := (gR a h1 h2).2.2.1
    have t := (gR a h1 h2).2.2.2 m hm
    have := hlv m t.1
    omega
  have hvw : ∀ m, m < n → vw m ≠ 0 → vw m ≠ x + 1 ∧ vw m - 1 ≠ x + 1 := by
    intro m hm hv
    have := (gV.1 m hm hv).1
    have := hlv m hm
    omega
  have hN0 : vs_N mv (x + 1) = 0 := gO.2.2 (x + 1) (by omega) (fun m hm => by have := hlv m hm; omega)
  refine ⟨hb, gM, gI, ⟨?_, ?_⟩, ?_, gS, gT, gE, gL, gD, gH, gN, ⟨?_, ?_, gO.2.2⟩, ?_, gA, ?_, ?_, gB, g2, g3, ?_, ?_, ?_, g7, g8, gC1, gC2, gC3, gC4, ?_, ?_⟩
  · intro m hm hv
    have e := hvw m hm hv
    rw [vs_un e.1, vs_un e.2]; exact gV.1 m hm hv
  · intro v j hj
    by_cases e : v = x + 1
    · rw [e, vs_us] at hj; exact hbits j hj
    · rw [vs_un e] at hj; exact gV.2 v j hj
  · intro m hm hv
    rw [vs_un (hvw m hm hv).1]; exact gJ m hm hv
  · intro v j hv hj
    by_cases e : v = x + 1
    · rw [e, hN0]; omega
    · rw [vs_un e] at hj; exact gO.1 v j hv hj
  · intro v q hv hq hl
    by_cases e : v = x + 1
    · subst e
      rw [hN0]
      refine ⟨fun z => ?_, fun _ => rfl⟩
      have hqn : q < n := by rw [vs_us] at hq; exact hbits q hq
      exact ((hvw q hqn (by omega)).1 z).elim
    · rw [vs_un e] at hq hl; exact gO.2.1 v q hv hq hl
  · intro m hm hv j hne hj
    rw [vs_un (hvw m hm hv).1] at hj
    exact gK m hm hv j hne hj
  · intro a h1 h2
    have t := gR a h1 h2
    rw [vs_un (hav a h1 h2)]; exact t
  · intro a h1 h2
    rw [vs_un (hav a h1 h2)]; exact gQ a h1 h2
  · intro a h1 h2
    rw [vs_un (hav a h1 h2)]; exact g4 a h1 h2
  · intro a h1 h2 hz hmj
    rw [vs_un (hav a h1 h2)] at hmj
    by_cases e : av a = x
    · rw [e] at hmj; exact (hno a h1 h2 e hz hmj).elim
    · rw [vs_un (by omega), vs_un (by omega)]; exact g5 a h1 h2 hz hmj
  · intro m hm y h1 h2
    have := hlv m hm
    rw [vs_un (show y ≠ x + 1 by omega)]; exact g6 m hm y h1 h2
  · intro m hm
    have t := gF m hm
    refine ⟨t.1, fun hv => ?_⟩
    have e := hvw m hm hv
    rw [vs_un e.1, vs_un e.2]; exact t.2 hv
  · intro a m h1 h2 h4 h5 h6
    rw [vs_un (hav a h1 h2)] at h6; exact gC5 a m h1 h2 h4 h5 h6
theorem vs_acc_new {a m : Nat} (hm : m < 32) (b x : Nat) (h : bt (vs_u aq a (aq a ||| ((1 : Int32) <<< (nI m &&& 31))) b) x = true) : bt (aq b) x = true ∨ (b = a ∧ x = m) := by
  by_cases e : b = a
  · subst e
    rw [vs_us, vs_bor _ hm, Bool.or_eq_true, decide_eq_true_eq] at h
    rcases h with h | h
    · exact Or.inl h
    · exact Or.inr ⟨rfl, h⟩
  · rw [vs_un e] at h; exact Or.inl h
theorem vs_acc_mono {a m : Nat} (hm : m < 32) (b x : Nat) (h : bt (aq b) x = true) : bt (vs_u aq a (aq a ||| ((1 : Int32) <<< (nI m &&& 31))) b) x = true := by
  by_cases e : b = a
  · subst e
    rw [vs_us, vs_bor _ hm, h]; rfl
  · rw [vs_un e]; exact h
theorem vs_acc_g2 {c m : Nat} (hc : c < n) (hm : m < n) (ha0 : att c ≠ 0) (hvm : vw m = vw c) (hpr : pr m = att c) (gA : vs_gA n st md re vw pr att av) (gR : vs_gR n st md re VM vw lv pr av) (g2 : vs_g2 st re aq be av) (hn : n ≤ 5) :
    vs_g2 st re (vs_u aq (att c) (aq (att c) ||| ((1 : Int32) <<< (nI m &&& 31)))) be av := by
  intro a b x h1 h2 h3 h4 h5 h6
  rcases vs_acc_new (by omega) b x h6 with h | ⟨e1, e2⟩
  · exact g2 a b x h1 h2 h3 h4 h5 h
  · subst e1; subst e2
    have t := (gR a (by omega) h3).2.2.2 x h5
    have Ac2 := (gA c hc).2 ha0
    have := (t.2.2.2 (by rw [hvm, ← h4]; exact Ac2.2.1)).1
    omega
/-- m accepts, when what is chosen then is view's mask already -/
theorem vs_acc_Inv {c m : Nat} (hc : c < n) (hm : m < n) (ha0 : att c ≠ 0) (hpm : pm (att c) ≠ 0) (hvm : vw m = vw c) (hpr : pr m = att c) (hH : ∀ k, 1 ≤ k → k ≤ pc (att c) → H m k = true)
    (hg : vs_sz (VM (av (att c))) n < 2 * vs_sz (aq (att c) ||| ((1 : Int32) <<< (nI m &&& 31))) n → VM (av (att c) + 1) = pm (att c) ∧ VC (av (att c) + 1) = pc (att c)) (h : vs_Inv n w sn st md ins lv vw mk nw jo su ct dl pr ac hd mv mn wt sd ho lg H att re be pm pc aq av VM VC) :
    vs_Inv n w sn st md ins lv vw mk nw jo su ct dl pr (vs_u ac m (att c)) hd mv mn wt sd ho lg H att re be pm pc (vs_u aq (att c) (aq (att c) ||| ((1 : Int32) <<< (nI m &&& 31)))) av VM VC := by
  obtain ⟨hb, gM, gI, gV, gJ, gS, gT, gE, gL, gD, gH, gN, gO, gK, gA, gR, gQ, gB, g2, g3, g4, g5, g6, g7, g8, gC1, gC2, gC3, gC4, gF, gC5⟩ := h
  have hm32 : m < 32 := by omega
  have Ac := gA c hc
  have Ac2 := Ac.2 ha0
  have hv : vw m ≠ 0 := by rw [hvm]; exact Ac2.1
  have Vm := gV.1 m hm hv
  have Bm := gB m hm
  refine ⟨hb, gM, gI, gV, gJ, gS, gT, gE, gL, gD, gH, gN, gO, gK, gA, gR, ?_, ?_, vs_acc_g2 hc hm ha0 hvm hpr gA gR g2 hb.2.1, g3, g4, ?_, ?_, g7, ?_, gC1, ?_, gC3, gC4, gF, gC5⟩
  · intro a h1 h2 x hx
    rcases vs_acc_new hm32 a x hx with h | ⟨e1, e2⟩
    · have t := gQ a h1 h2 x h
      refine ⟨t.1, t.2.1, t.2.2.1, t.2.2.2.1, fun z => ?_⟩
      have y := t.2.2.2.2 z
      by_cases e : x = m
      · subst e
        rw [vs_us]; omega
      · rw [vs_un e]; exact y
    · subst e1; subst e2
      rw [vs_us, ← Ac2.2.1, ← hvm]
      exact ⟨hm, Vm.2.2.2, hpm, Nat.le_of_eq Vm.1, fun _ => Nat.le_refl _⟩
  · intro x hx
    have t := gB x hx
    by_cases e : x = m
    · subst e
      rw [vs_us]
      exact ⟨Nat.le_of_eq hpr.symm, t.2.1, fun _ => ⟨hv, by rw [hvm]; exact Ac2.2.1.symm, hpm⟩⟩
    · rw [vs_un e]; exact t
  · intro a h1 h2 hz hmj
    by_cases e : a = att c
    · subst e
      rw [vs_us] at hmj; exact hg hmj
    · rw [vs_un e] at hmj; exact g5 a h1 h2 hz hmj
  · intro y hy x h1 h2
    obtain ⟨a, a1, a2, a3, a4, a5⟩ := g6 y hy x h1 h2
    have := vs_sz_mono (n := n) (vs_acc_mono (aq := aq) (a := att c) hm32 a)
    exact ⟨a, a1, a2, a3, a4, by omega⟩
  · refine ⟨fun a ha => ?_, g8.2⟩
    rw [vs_un (show a ≠ att c by omega)]; exact g8.1 a ha
  · intro x hx
    have t := gC2 x hx
    refine ⟨fun z => ?_, t.2⟩
    by_cases e : x = m
    · subst e
      rw [vs_us]; exact hH
    · rw [vs_un e] at z ⊢; exact t.1 z
theorem vs_accept {c m : Nat} (hc : c < n) (hm : m < n) (ha0 : att c ≠ 0) (hpm : pm (att c) ≠ 0) (hvm : vw m = vw c) (hpr : pr m = att c) (hH : ∀ k, 1 ≤ k → k ≤ pc (att c) → H m k = true) (h : vs_Inv n w sn st md ins lv vw mk nw jo su ct dl pr ac hd mv mn wt sd ho lg H att re be pm pc aq av VM VC) :
    ∃ VM' VC', vs_Inv n w sn st md ins lv vw mk nw jo su ct dl pr (vs_u ac m (att c)) hd mv mn wt sd ho lg H att re be pm pc (vs_u aq (att c) (aq (att c) ||| ((1 : Int32) <<< (nI m &&& 31)))) av VM' VC' := by
  have h0 := h
  obtain ⟨hb, gM, gI, gV, gJ, gS, gT, gE, gL, gD, gH, gN, gO, gK, gA, gR, gQ, gB, g2, g3, g4, g5, g6, g7, g8, gC1, gC2, gC3, gC4, gF, gC5⟩ := h
  have hm32 : m < 32 := by omega
  have Ac := gA c hc
  have Ac2 := Ac.2 ha0
  have hv : vw m ≠ 0 := by rw [hvm]; exact Ac2.1
  have Vm := gV.1 m hm hv
  have hR : ∀ a, 1 ≤ a → a ≤ st → ∀ m, bt (re a) m = true → bt (VM (av a)) m = true := fun a h1 h2 m hm => ((gR a h1 h2).2.2.2 m hm).2.1
  have hQ' : ∀ b, 1 ≤ b → b ≤ st → ∀ x, bt (vs_u aq (att c) (aq (att c) ||| ((1 : Int32) <<< (nI m &&& 31))) b) x = true → bt (VM (av b)) x = true := by
    intro b h1 h2 x hx
    rcases vs_acc_new hm32 b x hx with h | ⟨e1, e2⟩
    · exact (gQ b h1 h2 x h).2.1
    · subst e1; subst e2
      rw [← Ac2.2.1, ← hvm]; exact Vm.2.2.2
  have g2' := vs_acc_g2 (aq := aq) (be := be) hc hm ha0 hvm hpr gA gR g2 hb.2.1
  by_cases hnew : vs_sz (VM (av (att c))) n < 2 * vs_sz (aq (att c) ||| ((1 : Int32) <<< (nI m &&& 31))) n
  · by_cases hex : ∃ b, 1 ≤ b ∧ b ≤ st ∧ av b = av (att c) ∧ pm b ≠ 0 ∧ vs_sz (VM (av (att c))) n < 2 * vs_sz (aq b) n
    · obtain ⟨b, b1, b2, b3, b4, b5⟩ := hex
      refine ⟨VM, VC, vs_acc_Inv hc hm ha0 hpm hvm hpr hH (fun _ => ?_) h0⟩
      have t := g5 b b1 b2 b4 (by rw [b3]; exact b5)
      rw [b3] at t
      rw [t.1, t.2]
      by_cases le : b ≤ att c
      · have s := vs_agree (b := b) g2 g3 g4 hR (fun x hx => (gQ b b1 b2 x hx).2.1) b1 (by rw [b3]; exact b5) (att c) (att c) (Nat.le_refl _) le Ac.1 b3.symm hpm
        exact ⟨s.1.symm, s.2.symm⟩
      · have s := vs_agree (b := att c) g2' g3 g4 hR (hQ' (att c) (by omega) Ac.1) (by omega) (by rw [vs_us]; exact hnew) b b (Nat.le_refl _) (by omega) b2 b3 b4
        exact s
    · have hlv : ∀ y, y < n → lv y ≤ av (att c) := by
        intro y hy
        apply Classical.byContradiction
        intro z
        obtain ⟨a, a1, a2, a3, a4, a5⟩ := g6 y hy (av (att c)) (gR (att c) (by omega) Ac.1).1 (by omega)
        exact hex ⟨a, a1, a2, a3, a4, a5⟩
      have fx := vs_fix_Inv (x := av (att c)) (C := pc (att c)) (M := pm (att c)) (gR (att c) (by omega) Ac.1).1 hlv (fun a h1 h2 h3 h4 h5 => hex ⟨a, h1, h2, h3, h4, h5⟩) (fun j hj => g7 _ j hj) h0
      exact ⟨_, _, vs_acc_Inv hc hm ha0 hpm hvm hpr hH (fun _ => ⟨vs_us, vs_us⟩) fx⟩
  · exact ⟨VM, VC, vs_acc_Inv hc hm ha0 hpm hvm hpr hH (fun z => (hnew z).elim) h0⟩
end
section
/-! propose -/
variable {n w sn st fc : Nat} {md ins l1 l2 l3 l4 mk nw tp su jo am acu b1 b2 b3 o1 o2 xr xb xm xc xp xq xa va ho re pm aq VM : Nat → Int32} {lv lc vw ct dl pr ac hx bn oc att hd sd wt mv mn fm fs fv ow li be pc av VC : Nat → Nat} {lg : Nat → List (Nat × Nat)} {H : Nat → Nat → Bool}
theorem yw_prop_l {post : Int32 → SY → Prop} {c a : Nat} {s : Int32} (Q : vs_YH n sn vw mv mn ho H) (hc : c < n) (hn : n ≤ 5) (hv : vw c ≠ 0) (ha : a ≤ 60) :
    ∀ (r d : Nat), r ≤ 48 → d + r ≤ 48 → post 1 ((nI n), (nI w), (nI sn), (nI fc), (nI st), md, ins, (vs_I vw), mk, nw, (vs_I ct), tp, (vs_I hd), su, jo, (vs_I pr), (vs_I (vs_u ac c a)), va, (vs_I sd), (vs_I wt), (vs_I mv), (vs_I mn), ho, (vs_I fm), (vs_I fs), (vs_I fv), (vs_I ow), (vs_I li), re, (vs_I be), (vs_u pm a (s ||| jo c)), (vs_I (vs_u pc a (vs_dn (H c) r d))), (vs_u aq a ((1 : Int32) <<< (nI c &&& 31)))) → wY_propose_150 post (nI c) (nI a) s (nI n) (nI w) (nI sn) (nI fc) (nI st) md ins (vs_I vw) mk nw (vs_I ct) tp (vs_I hd) su jo (vs_I pr) (vs_I ac) va (vs_I sd) (vs_I wt) (vs_I mv) (vs_I mn) ho (vs_I fm) (vs_I fs) (vs_I fv) (vs_I ow) (vs_I li) re (vs_I be) pm (vs_I pc) aq (r + 1) (nI d) (nI (48 - r)) := by
  intro r
  have hic := vs_in5 (show c < 5 by omega)
  have hia : vp_in (nI a) 61 := vp_in_nI (by omega) (by omega)
  have ec : (nI c).toNatClampNeg = c := nI_clamp (by omega)
  have ea : (nI a).toNatClampNeg = a := nI_clamp (by omega)
  induction r with
  | zero =>
    intro d _ _ h
    refine br_t (nI_le (a := 48) (by omega) (by omega)) ⟨hic, hia, nm_r (e' := vs_u pm a (s ||| jo c)) (by rw [ec, ea]; rfl) ⟨hia, nm_r (e' := vs_I (vs_u pc a d)) (by rw [ea, vs_upd]) ⟨hic, nm_r (e' := vs_I (vs_u ac c a)) (by rw [ec, vs_upd]) ⟨hia, nm_r (e' := vs_u aq a ((1 : Int32) <<< (nI c &&& 31))) (by rw [ea]; rfl) h⟩⟩⟩⟩
  | succ r ih =>
    intro d hr hd h
    have en : vs_dn (H c) (r + 1) d = if H c (d + 1) = true then vs_dn (H c) r (d + 1) else d := rfl
    rw [en] at h
    have e1 : 48 - r = 48 - (r + 1) + 1 := by omega
    refine br_f (nI_ge (b := 48) (by omega) (by omega)) ?_
    rw [nI_1 d]
    cases e : H c (d + 1)
    · rw [if_neg (by rw [e]; decide)] at h
      exact yw_got0 Q hc hn hv (by omega) e (br_t rfl (nm_r (e' := nI (48 - r)) (by rw [nI_1, e1]) (ih d (by omega) (by omega) (by rw [vs_dn_stop e]; exact h))))
    · rw [if_pos e] at h
      exact yw_got1 Q hc hn hv (by omega) e (br_f (by decide) (nm_e (nm_r (e' := nI (48 - r)) (by rw [nI_1, e1]) (ih (d + 1) (by omega) (by omega) h))))
theorem yw_prop {post : Int32 → SY → Prop} {c a : Nat} {s : Int32} (Q : vs_YH n sn vw mv mn ho H) (hc : c < n) (hn : n ≤ 5) (hv : vw c ≠ 0) (ha : a ≤ 60) (h : post 1 ((nI n), (nI w), (nI sn), (nI fc), (nI st), md, ins, (vs_I vw), mk, nw, (vs_I ct), tp, (vs_I hd), su, jo, (vs_I pr), (vs_I (vs_u ac c a)), va, (vs_I sd), (vs_I wt), (vs_I mv), (vs_I mn), ho, (vs_I fm), (vs_I fs), (vs_I fv), (vs_I ow), (vs_I li), re, (vs_I be), (vs_u pm a (s ||| jo c)), (vs_I (vs_u pc a (vs_dn (H c) 48 0))), (vs_u aq a ((1 : Int32) <<< (nI c &&& 31))))) :
    ∃ n150 : Nat, wY_propose_150 post (nI c) (nI a) s (nI n) (nI w) (nI sn) (nI fc) (nI st) md ins (vs_I vw) mk nw (vs_I ct) tp (vs_I hd) su jo (vs_I pr) (vs_I ac) va (vs_I sd) (vs_I wt) (vs_I mv) (vs_I mn) ho (vs_I fm) (vs_I fs) (vs_I fv) (vs_I ow) (vs_I li) re (vs_I be) pm (vs_I pc) aq n150 0 0 := ⟨48 + 1, yw_prop_l Q hc hn hv ha 48 0 (by omega) (by omega) h⟩
theorem vs_prop_XA {c C : Nat} {M q : Int32} (R : vs_XA n re pm aq att be pc ac xr xb xm xc xp xq xa am acu) (gA : vs_gA n st md re vw pr att av) (g3 : vs_g3 st pm be pc av) (g8 : vs_g8 st re pm aq be pc) (gB : vs_gB n st pm vw pr ac av) (hc : c < n) (ha0 : att c ≠ 0) (hpm : pm (att c) = 0) (hin : ∀ x, x < n → att x = att c → x = c) :
    vs_XA n re (vs_u pm (att c) M) (vs_u aq (att c) q) att be (vs_u pc (att c) C) (vs_u ac c (att c)) xr xb xm xc (vs_u xp c M) (vs_u xq c (nI C)) (vs_u xa c q) (vs_u am c M) (vs_u acu c (nI C)) := by
  have up : ∀ a, pm a ≠ 0 → a ≠ att c := fun a h e => h (by rw [e]; exact hpm)
  intro b hb
  have t := R b hb
  have hbe : be (att b) ≠ att c := by
    by_cases z : att b = 0
    · rw [z, (g8.1 0 (Or.inl rfl)).2.1]; exact Ne.symm ha0
    · by_cases y : be (att b) = 0
      · rw [y]; exact Ne.symm ha0
      · exact up _ ((g3 (att b) (by omega) (gA b hb).1).1 y).2.2
  rw [vs_un hbe, vs_un hbe]
  by_cases e : b = c
  · subst e
    exact ⟨t.1, t.2.1, t.2.2.1, t.2.2.2.1, by rw [vs_us, vs_us], by rw [vs_us, vs_us], by rw [vs_us, vs_us], by rw [vs_us, vs_us, vs_us], by rw [vs_us, vs_us, vs_us]⟩
  · have hab : att b ≠ att c := fun y => e (hin b hb y)
    have hac : ac b ≠ att c := by
      by_cases y : ac b = 0
      · rw [y]; exact Ne.symm ha0
      · exact up _ ((gB b hb).2.2 y).2.2
    rw [vs_un e, vs_un e, vs_un e, vs_un e, vs_un e, vs_un e, vs_un hab, vs_un hab, vs_un hab, vs_un hac, vs_un hac]
    exact t
theorem vs_or0 (x : Int32) : (0 : Int32) ||| x = x := b_ext (fun i _ => by rw [b_or, b_0]; rfl)
/-- propose: the new invariant -/
theorem vs_propose {c C : Nat} {M : Int32} (hc : c < n) (ha0 : att c ≠ 0) (hpm : pm (att c) = 0) (hM : M ≠ 0) (hin : ∀ x, x < n → att x = att c → x = c) (hmaj : vs_sz (VM (vw c)) n < 2 * vs_sz (re (att c)) n) (hbits : ∀ j, bt M j = true → j < n)
    (hCN : C ≤ vs_N mv (vw c)) (hC48 : C ≤ 48) (hbe : be (att c) ≠ 0 → M = pm (be (att c)) ∧ C = pc (be (att c))) (hH : ∀ k, 1 ≤ k → k ≤ C → H c k = true) (h3 : ∀ m, m < n → bt M m = true → vw m = vw c → md m = 3 ∧ dl m ≤ C) (h5 : ∀ m, bt M m = true → bt (VM (vw c)) m = true → vw c ≤ lv m) (h : vs_Inv n w sn st md ins lv vw mk nw jo su ct dl pr ac hd mv mn wt sd ho lg H att re be pm pc aq av VM VC) :
    ∃ VM' VC', vs_Inv n w sn st md ins lv vw mk nw jo su ct dl pr (vs_u ac c (att c)) hd mv mn wt sd ho lg H att re be (vs_u pm (att c) M) (vs_u pc (att c) C) (vs_u aq (att c) ((1 : Int32) <<< (nI c &&& 31))) av VM' VC' := by
  have P := vs_prop_Inv hc ha0 hpm hM hin hmaj hbits hCN hC48 hbe hH h3 h5 h
  obtain ⟨hb, gM, gI, gV, gJ, gS, gT, gE, gL, gD, gH, gN, gO, gK, gA, gR, gQ, gB, g2, g3, g4, g5, g6, g7, g8, gC1, gC2, gC3, gC4, gF, gC5⟩ := h
  have Ac := (gA c hc).2 ha0
  have z : aq (att c) = 0 := by
    rw [vs_n0]
    intro j _
    cases e : bt (aq (att c)) j
    · rfl
    · exact ((gQ (att c) (by omega) (gA c hc).1 j e).2.2.1 hpm).elim
  have r := vs_accept (m := c) hc hc ha0 (by rw [vs_us]; exact hM) rfl Ac.2.2.1 (by rw [vs_us]; exact hH) P
  rw [z, vs_or0] at r
  exact r
theorem vs_6_prop {c : Nat} {M : Int32} (g : vs_gC6 n pm aq att) (hn : n ≤ 5) (hc : c < n) (hin : ∀ x, x < n → att x = att c → x = c) : vs_gC6 n (vs_u pm (att c) M) (vs_u aq (att c) ((1 : Int32) <<< (nI c &&& 31))) att := by
  intro x hx h1 h2
  by_cases e : att x = att c
  · have := hin x hx e
    subst this
    rw [vs_us, vs_b1 (by omega)]; exact decide_eq_true rfl
  · rw [vs_un e] at h2 ⊢; exact g x hx h1 h2
theorem i_vc_propose {k : Nat} {u : SX} {v : SY} (I : i_Rel k u v) (hk : k + 4 ≤ 2050) (v1 : Int32) : wpX_propose (fun r u' => wpY_propose (fun r' v' => r' = r ∧ i_Rel (k + 4) u' v') v v1) u v1 := by
  refine zz_el (P := fun u v => wpX_propose (fun r u' => wpY_propose (fun r' v' => r' = r ∧ i_Rel (k + 4) u' v') v v1) u v1) ?_ I
  intro n w sn st md ins lv lc l1 l2 l3 l4 vw mk nw ct dl tp su jo pr ac am acu hx bn b1 b2 b3 oc o1 o2 att xr xb xm xc xp xq xa fc hd va sd wt mv mn ho fm fs fv ow li re be pm pc aq lg H av VM VC hI hX hY
  have fin : i_Rel (k + 4) ((nI n), (nI w), (nI sn), (nI st), md, ins, (vs_I lv), (vs_I lc), l1, l2, l3, l4, (vs_I vw), mk, nw, (vs_I ct), (vs_I dl), tp, su, jo, (vs_I pr), (vs_I ac), am, acu, (vs_I hx), (vs_I bn), b1, b2, b3, (vs_I oc), o1, o2, (vs_I att), xr, xb, xm, xc, xp, xq, xa) ((nI n), (nI w), (nI sn), (nI fc), (nI st), md, ins, (vs_I vw), mk, nw, (vs_I ct), tp, (vs_I hd), su, jo, (vs_I pr), (vs_I ac), va, (vs_I sd), (vs_I wt), (vs_I mv), (vs_I mn), ho, (vs_I fm), (vs_I fs), (vs_I fv), (vs_I ow), (vs_I li), re, (vs_I be), pm, (vs_I pc), aq) := zz_in hI hX hY
  have hI0 := hI
  obtain ⟨⟨hn3, hn5, hw1, hw8, hst⟩, gM, gI, gV, gJ, gS, gT, gE, gL, gD, gH, gN, gO, gK, gA, gR, gQ, gB, g2, g3, g4, g5, g6, g7, g8, gC1, gC2, gC3, gC4, gF, gC5⟩ := hI
  obtain ⟨XL, RA, XH, XO, XA⟩ := hX
  obtain ⟨YH, YL, YA, Y6, Y7⟩ := hY
  unfold wpX_propose wpY_propose
  rcases vs_arg n hn5 v1 with hb | ⟨c, hc, rfl⟩
  · exact xw_bad1 hb (br_f (by decide) (yw_bad1 hb (br_f (by decide) ⟨by trivial, fin⟩)))
  have hc5 : c < 5 := by omega
  have hic := vs_in5 hc5
  have hast := (gA c hc).1
  have Xc := XA c hc
  have ec : (nI c).toNatClampNeg = c := nI_clamp (by omega)
  have ea : (nI (att c)).toNatClampNeg = att c := nI_clamp (by omega)
  have hia : vp_in (nI (att c)) 61 := vp_in_nI (by omega) (by omega)
  simp only [ec, vs_Ia]
  refine xw_bad0 hc hn5 (br_t rfl ⟨hic, ?_⟩)
  by_cases a0 : att c = 0
  · exact br_t (by rw [a0]; rfl) (yw_bad0 hc hn5 (br_t rfl (yw_attemptOf hc hn5 YA (br_t (by rw [a0]; rfl) ⟨by trivial, fin⟩))))
  have a0' : ¬ nI (att c) = 0 := nI_ne0 (by omega) (by omega)
  refine br_f a0' ⟨hic, ?_⟩
  by_cases p0 : pm (att c) = 0
  · have Ac := (gA c hc).2 a0
    have hvc := Ac.1
    have hin : ∀ x, x < n → att x = att c → x = c := fun x hx e => vs_att_inj YA hx hc a0 e
    have Rc := gR (att c) (by omega) hast
    have emk := (gV.1 c hc hvc).2.1
    have be60 := (g8.2 (att c)).1
    have s1 : vs_sz (re (att c)) 5 = vs_sz (re (att c)) n := vs_sz5 hn5 (fun j hj => (Rc.2.2.2 j hj).1)
    have s2 : vs_sz (mk c) 5 = vs_sz (mk c) n := vs_sz5 hn5 (fun j hj => by rw [emk] at hj; exact gV.2 _ j hj)
    have s3 : vs_sz (re (att c) &&& (su c ^^^ (-1))) 5 = vs_sz (re (att c) &&& (su c ^^^ (-1))) n := vs_sz5 hn5 (fun j hj => by
      rw [vs_bnot, Bool.and_eq_true] at hj
      exact (Rc.2.2.2 j hj.1).1)
    refine br_t (Xc.2.2.2.2.1.trans p0) ⟨hic, hic, ?_⟩
    rw [Xc.1, Xc.2.1]
    by_cases m1 : vs_sz (mk c) n < 2 * vs_sz (re (att c)) n
    · refine xw_maj1 hn5 m1 (br_f (by decide) ⟨hic, hic, nm_e ⟨hic, ?_⟩⟩)
      have Ypre : ∀ post : Int32 → SY → Prop, (be (att c) = 0 → vs_sz (mk c) n < 2 * vs_sz (re (att c) &&& (su c ^^^ (-1))) n) → wY_propose_98 post (nI c) (nI (att c)) (re (att c) &&& (su c ^^^ (-1))) (nI n) (nI w) (nI sn) (nI fc) (nI st) md ins (vs_I vw) mk nw (vs_I ct) tp (vs_I hd) su jo (vs_I pr) (vs_I ac) va (vs_I sd) (vs_I wt) (vs_I mv) (vs_I mn) ho (vs_I fm) (vs_I fs) (vs_I fv) (vs_I ow) (vs_I li) re (vs_I be) pm (vs_I pc) aq → wpY_propose post ((nI n), (nI w), (nI sn), (nI fc), (nI st), md, ins, (vs_I vw), mk, nw, (vs_I ct), tp, (vs_I hd), su, jo, (vs_I pr), (vs_I ac), va, (vs_I sd), (vs_I wt), (vs_I mv), (vs_I mn), ho, (vs_I fm), (vs_I fs), (vs_I fv), (vs_I ow), (vs_I li), re, (vs_I be), pm, (vs_I pc), aq) (nI c) := by
        intro post hq hp
        unfold wpY_propose
        simp only [ec, vs_Ia]
        refine yw_bad0 hc hn5 (br_t rfl (yw_attemptOf hc hn5 YA (br_f a0' ⟨hia, ?_⟩)))
        rw [ea]
        refine br_t p0 ⟨hia, hic, yw_maj1 (by rw [s1, s2]; exact m1) (br_f (by decide) ⟨hia, hic, nm_e ⟨hia, ?_⟩⟩)⟩
        by_cases b0 : be (att c) = 0
        · exact br_t (by rw [b0]; rfl) ⟨hic, yw_maj1 (by rw [s2, s3]; exact hq b0) (br_f (by decide) hp)⟩
        · exact br_f (nI_ne0 (by omega) (by omega)) hp
      by_cases b0 : be (att c) = 0
      · refine br_t (by rw [b0]; rfl) ⟨hic, ?_⟩
        by_cases m2 : vs_sz (mk c) n < 2 * vs_sz (re (att c) &&& (su c ^^^ (-1))) n
        · refine xw_maj1 hn5 m2 (br_f (by decide) ?_)
          have d48 := vs_dl48 gD gL hc
          have dge := vs_dn_ge (Hm := H c) (48 - dl c) (dl c)
          have dH := vs_dn_H (Hm := H c) (48 - dl c) (dl c)
          have h48' : ∀ q, H c q = true → q ≤ 48 := fun q hq => (vs_h48 gH hc hq).2
          have dE := vs_dn_end h48' (48 - dl c) (dl c) (by omega)
          have allH : ∀ q, 0 < q → q ≤ vs_dn (H c) (48 - dl c) (dl c) → H c q = true := by
            intro q h1 h2
            by_cases z : q ≤ dl c
            · exact (gH c hc).2 hvc q h1 z
            · exact dH q (by omega) h2
          have eC : vs_dn (H c) 48 0 = vs_dn (H c) (48 - dl c) (dl c) := vs_dn_u (Nat.zero_le _) (Nat.zero_le _) (vs_dn_H 48 0) allH (vs_dn_end h48' 48 0 (by omega)) dE
          have hCN : vs_dn (H c) (48 - dl c) (dl c) ≤ vs_N mv (vw c) := by
            by_cases z : vs_dn (H c) (48 - dl c) (dl c) = dl c
            · rw [z]
              have a := (gL c hc).2.2 (vw c) hvc
              have b := (gD c hc).1 hvc
              omega
            · exact ((gH c hc).1 _ (dH _ (by omega) (Nat.le_refl _))).2.2
          have bitM : ∀ j, bt ((re (att c) &&& (su c ^^^ (-1))) ||| jo c) j = true → bt (re (att c)) j = true ∨ bt (jo c) j = true := by
            intro j hj
            rw [b_or, Bool.or_eq_true, vs_bnot, Bool.and_eq_true] at hj
            rcases hj with hj | hj
            · exact Or.inl hj.1
            · exact Or.inr hj
          have hMc : bt ((re (att c) &&& (su c ^^^ (-1))) ||| jo c) c = true := by
            rw [b_or, vs_bnot, Ac.2.2.2.2, gS c hc hvc]; rfl
          have hM0 : ((re (att c) &&& (su c ^^^ (-1))) ||| jo c) ≠ 0 := by
            intro z
            rw [z, b_0] at hMc; cases hMc
          obtain ⟨VM', VC', NI⟩ := vs_propose (C := vs_dn (H c) (48 - dl c) (dl c)) (M := (re (att c) &&& (su c ^^^ (-1))) ||| jo c) hc a0 p0 hM0 hin (by rw [← emk]; exact m1) (fun j hj => by
              rcases bitM j hj with h | h
              · exact (Rc.2.2.2 j h).1
              · exact (gJ c hc hvc j h).1) hCN (by have := vs_N_le mv (vw c); omega) (fun z => (z b0).elim) (fun q h1 h2 => allH q h1 h2) (fun m hm hj hv => by
              rcases bitM m hj with h | h
              · have t := Rc.2.2.2 m h
                refine ⟨(t.2.2.2 (by rw [hv]; exact Ac.2.1)).2, ?_⟩
                apply Classical.byContradiction
                intro z
                have := gC4 c m hc hm a0 h (by rw [hv]; exact Ac.2.1) (vs_dn (H c) (48 - dl c) (dl c) + 1) (by omega) (by omega)
                rw [dE] at this; cases this
              · have t := (gJ c hc hvc m h).2
                have t2 := (gV.1 m hm (by rw [hv]; exact hvc)).2.2.2
                rw [hv, t] at t2; cases t2) (fun m hj hb => by
              rcases bitM m hj with h | h
              · rw [Ac.2.1]; exact (Rc.2.2.2 m h).2.2.1
              · rw [(gJ c hc hvc m h).2] at hb; cases hb) hI0
          refine ⟨hic, ?_⟩
          rw [ec]
          refine br_t (show xb c ≤ 0 by rw [Xc.2.1, b0]; decide) ⟨hic, hic, nm_r (vs_updA _ _ _) (xw_op hc5 (RA.2 c hc hvc) RA.1 (fun q hq => vs_b8 gH gO gD gV hw8 hc hc hvc rfl hq) d48 ⟨hic, nm_r (vs_updA _ _ _) (xw_accept hc5 hc5 ?_)⟩)⟩
          rw [vs_us, vs_us, Xc.2.2.2.2.2.2.1]
          have z : aq (att c) = 0 := by
            rw [vs_n0]
            intro j _
            cases e : bt (aq (att c)) j
            · rfl
            · exact ((gQ (att c) (by omega) (gA c hc).1 j e).2.2.1 p0).elim
          rw [z, vs_or0]
          have Yw := Ypre (fun r' v' => r' = 1 ∧ i_Rel (k + 4) ((nI n), (nI w), (nI sn), (nI st), md, ins, (vs_I lv), (vs_I lc), l1, l2, l3, l4, (vs_I vw), mk, nw, (vs_I ct), (vs_I dl), tp, su, jo, (vs_I pr), (vs_I (vs_u ac c (att c))), (vs_u am c ((re (att c) &&& (su c ^^^ (-1))) ||| jo c)), (vs_u acu c (nI (vs_dn (H c) (48 - dl c) (dl c)))), (vs_I hx), (vs_I bn), b1, b2, b3, (vs_I oc), o1, o2, (vs_I att), xr, xb, xm, xc, (vs_u xp c ((re (att c) &&& (su c ^^^ (-1))) ||| jo c)), (vs_u xq c (nI (vs_dn (H c) (48 - dl c) (dl c)))), (vs_u xa c ((1 : Int32) <<< (nI c &&& 31)))) v') (fun _ => m2) ?_
          · unfold wpY_propose at Yw
            simp only [ec, vs_Ia] at Yw
            exact Yw
          · refine ⟨hia, ?_⟩
            rw [ea]
            refine br_t (show nI (be (att c)) ≤ 0 by rw [b0]; decide) (yw_prop YH hc hn5 hvc (by omega) ⟨rfl, ?_⟩)
            rw [eC]
            exact zz_in NI ⟨XL, RA, XH, XO, vs_prop_XA XA gA g3 g8 gB hc a0 p0 hin⟩ ⟨YH, YL, YA, vs_6_prop Y6 hn5 hc hin, Y7⟩
        · refine xw_maj0 hn5 m2 (br_t rfl (yw_bad0 hc hn5 (br_t rfl (yw_attemptOf hc hn5 YA (br_f a0' ⟨hia, ?_⟩)))))
          rw [ea]
          exact br_t p0 ⟨hia, hic, yw_maj1 (by rw [s1, s2]; exact m1) (br_f (by decide) ⟨hia, hic, nm_e ⟨hia, br_t (by rw [b0]; rfl) ⟨hic, yw_maj0 (by rw [s2, s3]; exact m2) (br_t rfl ⟨by trivial, fin⟩)⟩⟩⟩)⟩
      · have t3 := g3 (att c) (by omega) hast
        have t31 := t3.1 b0
        obtain ⟨VM', VC', NI⟩ := vs_propose (C := pc (be (att c))) (M := pm (be (att c))) hc a0 p0 t31.2.2 hin (by rw [← emk]; exact m1) (fun j hj => g7 _ j hj) (by
            have := gC1 (be (att c)) (by omega) (by omega) t31.2.2
            rw [t31.2.1, ← Ac.2.1] at this
            exact this) (g8.2 _).2 (fun _ => ⟨rfl, rfl⟩) ((gC2 c hc).2.2 a0 b0) (fun m hm hj hv => gC3 (be (att c)) m (by omega) (by omega) hm t31.2.2 hj (by rw [t31.2.1, hv]; exact Ac.2.1)) (fun m hj hb => by
            have := gC5 (be (att c)) m (by omega) (by omega) t31.2.2 hj (by rw [t31.2.1, ← Ac.2.1]; exact hb)
            rw [t31.2.1, ← Ac.2.1] at this
            exact this) hI0
        refine br_f (nI_ne0 (by omega) (by omega)) ⟨hic, ?_⟩
        rw [ec]
        refine br_f (show ¬ xb c ≤ 0 by rw [Xc.2.1]; exact nI_nle (by omega) (by omega)) ⟨hic, hic, nm_r (e' := vs_u xp c (pm (be (att c)))) (by rw [Xc.2.2.1]; rfl) ⟨hic, hic, nm_r (e' := vs_u xq c (nI (pc (be (att c))))) (by rw [Xc.2.2.2.1]; rfl) (xw_accept hc5 hc5 ?_)⟩⟩
        rw [vs_us, vs_us, Xc.2.2.2.2.2.2.1]
        have z : aq (att c) = 0 := by
          rw [vs_n0]
          intro j _
          cases e : bt (aq (att c)) j
          · rfl
          · exact ((gQ (att c) (by omega) (gA c hc).1 j e).2.2.1 p0).elim
        rw [z, vs_or0]
        have Yw := Ypre (fun r' v' => r' = 1 ∧ i_Rel (k + 4) ((nI n), (nI w), (nI sn), (nI st), md, ins, (vs_I lv), (vs_I lc), l1, l2, l3, l4, (vs_I vw), mk, nw, (vs_I ct), (vs_I dl), tp, su, jo, (vs_I pr), (vs_I (vs_u ac c (att c))), (vs_u am c (pm (be (att c)))), (vs_u acu c (nI (pc (be (att c))))), (vs_I hx), (vs_I bn), b1, b2, b3, (vs_I oc), o1, o2, (vs_I att), xr, xb, xm, xc, (vs_u xp c (pm (be (att c)))), (vs_u xq c (nI (pc (be (att c))))), (vs_u xa c ((1 : Int32) <<< (nI c &&& 31)))) v') (fun z => (b0 z).elim) ?_
        · unfold wpY_propose at Yw
          simp only [ec, vs_Ia] at Yw
          exact Yw
        · have eb : (nI (be (att c))).toNatClampNeg = be (att c) := nI_clamp (by omega)
          have hib : vp_in (nI (be (att c))) 61 := vp_in_nI (by omega) (by omega)
          refine ⟨hia, ?_⟩
          rw [ea]
          simp only [vs_Ia, eb]
          refine br_f (nI_nle (by omega) (by omega)) ⟨hia, hib, hia, nm_r (vs_updA _ _ _) ⟨hia, hib, hia, nm_r (vs_upd _ _ _) ⟨hic, nm_r (e' := vs_I (vs_u ac c (att c))) (by rw [ec, vs_upd]) ⟨hia, nm_r (e' := vs_u aq (att c) ((1 : Int32) <<< (nI c &&& 31))) (by rw [ea]; rfl) ⟨rfl, ?_⟩⟩⟩⟩⟩
          exact zz_in NI ⟨XL, RA, XH, XO, vs_prop_XA XA gA g3 g8 gB hc a0 p0 hin⟩ ⟨YH, YL, YA, vs_6_prop Y6 hn5 hc hin, Y7⟩
    · refine xw_maj0 hn5 m1 (br_t rfl (yw_bad0 hc hn5 (br_t rfl (yw_attemptOf hc hn5 YA (br_f a0' ⟨hia, ?_⟩)))))
      rw [ea]
      exact br_t p0 ⟨hia, hic, yw_maj0 (by rw [s1, s2]; exact m1) (br_t rfl ⟨by trivial, fin⟩)⟩
  · refine br_f (fun z => p0 (Xc.2.2.2.2.1.symm.trans z)) (yw_bad0 hc hn5 (br_t rfl (yw_attemptOf hc hn5 YA (br_f a0' ⟨hia, ?_⟩))))
    rw [ea]
    exact br_f p0 ⟨by trivial, fin⟩
end
section
/-! ratify -/
variable {n w sn st fc : Nat} {md ins l1 l2 l3 l4 mk nw tp su jo am acu b1 b2 b3 o1 o2 xr xb xm xc xp xq xa va ho re pm aq VM : Nat → Int32} {lv lc vw ct dl pr ac hx bn oc att hd sd wt mv mn fm fs fv ow li be pc av VC : Nat → Nat} {lg : Nat → List (Nat × Nat)} {H : Nat → Nat → Bool}
theorem vs_gpc {k C : Nat} (hk : k ≤ 48) (hC : C ≤ 48) (H : Nat → Nat → Bool) (m c : Nat) : vs_gk (nI C) H m c k = (decide (k ≤ C) && (H c k && !H m k)) := by
  show (decide (nI k ≤ nI C) && (H c k && !H m k)) = _
  rw [decide_eq_decide.mpr (nI_leI (show k < 2 ^ 31 by omega) (show C < 2 ^ 31 by omega))]
theorem yw_rat_l {post : Int32 → SY → Prop} {c m a : Nat} (hc : c < n) (hm : m < n) (hn : n ≤ 5) (hw : w ≤ 8) (hvm : vw m ≠ 0) (hvc : vw c = vw m) (ha : a ≤ 60) (hpc : pc a ≤ 48) (hcH : ∀ k, 1 ≤ k → k ≤ pc a → H c k = true) (hx : ∀ k, vs_gk (nI (pc a)) H m c k = true → vs_ix mv mn (vw m) k < 48) (hh : ∀ i, hd i ≤ 48)
    (h : ∀ (ho' : Nat → Int32), vs_YH n sn vw mv mn ho' (vs_Hk H m (vs_gk (nI (pc a)) H m c) 49) → vs_gE mv ho' →
      post 1 ((nI n), (nI w), (nI sn), (nI fc), (nI st), md, ins, (vs_I vw), mk, nw, (vs_I ct), (vs_tpk tp m (vs_gk (nI (pc a)) H m c) 49), (vs_I (vs_rsk hd (mk m) m w n (vs_gk (nI (pc a)) H m c) 49)), su, jo, (vs_I pr), (vs_I (vs_u ac m a)), va, (vs_I sd), (vs_I wt), (vs_I mv), (vs_I mn), ho', (vs_I fm), (vs_I fs), (vs_I fv), (vs_I ow), (vs_I li), re, (vs_I be), pm, (vs_I pc), (vs_u aq a (aq a ||| ((1 : Int32) <<< (nI m &&& 31)))))) :
    ∀ (d k : Nat) (ho : Nat → Int32), k + d = 49 → 1 ≤ k → vs_YH n sn vw mv mn ho (vs_Hk H m (vs_gk (nI (pc a)) H m c) k) → vs_gE mv ho →
    wY_ratify_137 post (nI m) (nI a) (d + 1) (nI k) (nI n) (nI w) (nI sn) (nI fc) (nI st) md ins (vs_I vw) mk nw (vs_I ct) (vs_tpk tp m (vs_gk (nI (pc a)) H m c) k) (vs_I (vs_rsk hd (mk m) m w n (vs_gk (nI (pc a)) H m c) k)) su jo (vs_I pr) (vs_I ac) va (vs_I sd) (vs_I wt) (vs_I mv) (vs_I mn) ho (vs_I fm) (vs_I fs) (vs_I fv) (vs_I ow) (vs_I li) re (vs_I be) pm (vs_I pc) aq := by
  intro d
  have him := vs_in5 (show m < 5 by omega)
  have hia : vp_in (nI a) 61 := vp_in_nI (by omega) (by omega)
  have em : (nI m).toNatClampNeg = m := nI_clamp (by omega)
  have ea : (nI a).toNatClampNeg = a := nI_clamp (by omega)
  induction d with
  | zero =>
    intro k ho e _ Q E
    have e : k = 49 := by omega
    subst e
    refine br_t (nI_lt (a := 48) (by omega) (by omega)) ⟨him, nm_r (e' := vs_I (vs_u ac m a)) (by rw [em, vs_upd]) ⟨hia, hia, nm_r (e' := vs_u aq a (aq a ||| ((1 : Int32) <<< (nI m &&& 31)))) (by rw [ea]; rfl) (h ho Q E)⟩⟩
  | succ d ih =>
    intro k ho e hk1 Q E
    refine br_f (nI_nlt (a := 48) (by omega) (by omega)) ⟨hia, ?_⟩
    rw [ea, vs_Ia]
    have hgk := vs_gpc (show k ≤ 48 by omega) hpc H m c
    by_cases le : k ≤ pc a
    · refine br_f (nI_nlt le (by omega)) ?_
      rw [decide_eq_true le, Bool.true_and, hcH k hk1 le, Bool.true_and] at hgk
      cases cm : H m k
      · have gt : vs_gk (nI (pc a)) H m c k = true := by rw [hgk, cm]; rfl
        refine yw_fe Q E hm hn hw hvm (by omega) hh (hx k gt) gt cm ?_
        intro ho' Q' E'
        exact nm_r (nI_1 k) (ih (k + 1) ho' (by omega) (by omega) Q' E')
      · have gf : vs_gk (nI (pc a)) H m c k = false := by rw [hgk, cm]; rfl
        have ihk := ih (k + 1) ho (by omega) (by omega) (by rw [vs_Hk_f k gf]; exact Q) E
        rw [vs_tpk_f k gf, vs_rsk_f k gf] at ihk
        exact yw_obtain0 Q hm hn hvm (by omega) (by rw [vs_Hk_p]; exact cm) (nm_r (nI_1 k) ihk)
    · have gf : vs_gk (nI (pc a)) H m c k = false := by rw [hgk, decide_eq_false le]; rfl
      have ihk := ih (k + 1) ho (by omega) (by omega) (by rw [vs_Hk_f k gf]; exact Q) E
      rw [vs_tpk_f k gf, vs_rsk_f k gf] at ihk
      exact br_t (nI_lt (by omega) (by omega)) (nm_r (nI_1 k) ihk)
theorem yw_rat {post : Int32 → SY → Prop} {c m a : Nat} (Q : vs_YH n sn vw mv mn ho H) (E : vs_gE mv ho) (hc : c < n) (hm : m < n) (hn : n ≤ 5) (hw : w ≤ 8) (hvm : vw m ≠ 0) (hvc : vw c = vw m) (ha : a ≤ 60) (hpc : pc a ≤ 48) (hcH : ∀ k, 1 ≤ k → k ≤ pc a → H c k = true) (h48 : ∀ k, H c k = true → 1 ≤ k) (hh : ∀ i, hd i ≤ 48)
    (h : ∀ (ho' : Nat → Int32), vs_YH n sn vw mv mn ho' (vs_Hk H m (vs_gk (nI (pc a)) H m c) 49) → vs_gE mv ho' →
      post 1 ((nI n), (nI w), (nI sn), (nI fc), (nI st), md, ins, (vs_I vw), mk, nw, (vs_I ct), (vs_tpk tp m (vs_gk (nI (pc a)) H m c) 49), (vs_I (vs_rsk hd (mk m) m w n (vs_gk (nI (pc a)) H m c) 49)), su, jo, (vs_I pr), (vs_I (vs_u ac m a)), va, (vs_I sd), (vs_I wt), (vs_I mv), (vs_I mn), ho', (vs_I fm), (vs_I fs), (vs_I fv), (vs_I ow), (vs_I li), re, (vs_I be), pm, (vs_I pc), (vs_u aq a (aq a ||| ((1 : Int32) <<< (nI m &&& 31)))))) :
    ∃ n137 : Nat, wY_ratify_137 post (nI m) (nI a) n137 1 (nI n) (nI w) (nI sn) (nI fc) (nI st) md ins (vs_I vw) mk nw (vs_I ct) tp (vs_I hd) su jo (vs_I pr) (vs_I ac) va (vs_I sd) (vs_I wt) (vs_I mv) (vs_I mn) ho (vs_I fm) (vs_I fs) (vs_I fv) (vs_I ow) (vs_I li) re (vs_I be) pm (vs_I pc) aq := by
  have g0 := vs_gk0 (T := nI (pc a)) (m := m) h48
  have := yw_rat_l hc hm hn hw hvm hvc ha hpc hcH (vs_gkx Q hc hvm hvc) hh h 48 1 ho (by omega) (by omega) (by rw [vs_k_1 g0]; exact Q) E
  rw [vs_tpk_f 0 g0, vs_rsk_f 0 g0] at this
  exact ⟨_, this⟩
theorem vs_rat_XA {c m : Nat} {q : Int32} (R : vs_XA n re pm aq att be pc ac xr xb xm xc xp xq xa am acu) (g8 : vs_g8 st re pm aq be pc) (hc : c < n) (hcm : c ≠ m) (ha0 : att c ≠ 0) (hin : ∀ x, x < n → att x = att c → x = c) :
    vs_XA n re pm (vs_u aq (att c) q) (vs_u att m 0) be pc (vs_u ac m (att c)) (vs_u xr m 0) (vs_u xb m 0) (vs_u xm m 0) (vs_u xc m 0) (vs_u xp m 0) (vs_u xq m 0) (vs_u (vs_u xa m 0) c q) (vs_u am m (pm (att c))) (vs_u acu m (nI (pc (att c)))) := by
  have z := g8.1 0 (Or.inl rfl)
  intro b hb
  have t := R b hb
  by_cases e2 : b = m
  · subst e2
    rw [vs_us, vs_us, vs_us, vs_us, vs_us, vs_us, vs_us, vs_us, vs_us, vs_us, vs_un (Ne.symm hcm), vs_us, z.1, z.2.1, z.2.2.1, z.2.2.2.1, vs_un (Ne.symm ha0), z.2.2.2.2]
    exact ⟨rfl, rfl, rfl, rfl, rfl, rfl, rfl, rfl, rfl⟩
  · rw [vs_un e2, vs_un e2, vs_un e2, vs_un e2, vs_un e2, vs_un e2, vs_un e2, vs_un e2, vs_un e2, vs_un e2]
    by_cases e1 : b = c
    · subst e1
      rw [vs_us, vs_us]
      exact ⟨t.1, t.2.1, t.2.2.1, t.2.2.2.1, t.2.2.2.2.1, t.2.2.2.2.2.1, rfl, t.2.2.2.2.2.2.2⟩
    · rw [vs_un e1, vs_un e2, vs_un (fun y => e1 (hin b hb y))]
      exact t
theorem vs_6_acc {c m : Nat} (g : vs_gC6 n pm aq att) (hm : m < 32) : vs_gC6 n pm (vs_u aq (att c) (aq (att c) ||| ((1 : Int32) <<< (nI m &&& 31)))) att :=
  fun x hx h1 h2 => vs_acc_mono hm _ _ (g x hx h1 h2)
theorem i_vc_ratify {k : Nat} {u : SX} {v : SY} (I : i_Rel k u v) (hk : k + 4 ≤ 2050) (v1 : Int32) (v2 : Int32) : wpX_ratify (fun r u' => wpY_ratify (fun r' v' => r' = r ∧ i_Rel (k + 4) u' v') v v1 v2) u v1 v2 := by
  refine zz_el (P := fun u v => wpX_ratify (fun r u' => wpY_ratify (fun r' v' => r' = r ∧ i_Rel (k + 4) u' v') v v1 v2) u v1 v2) ?_ I
  intro n w sn st md ins lv lc l1 l2 l3 l4 vw mk nw ct dl tp su jo pr ac am acu hx bn b1 b2 b3 oc o1 o2 att xr xb xm xc xp xq xa fc hd va sd wt mv mn ho fm fs fv ow li re be pm pc aq lg H av VM VC hI hX hY
  have fin : i_Rel (k + 4) ((nI n), (nI w), (nI sn), (nI st), md, ins, (vs_I lv), (vs_I lc), l1, l2, l3, l4, (vs_I vw), mk, nw, (vs_I ct), (vs_I dl), tp, su, jo, (vs_I pr), (vs_I ac), am, acu, (vs_I hx), (vs_I bn), b1, b2, b3, (vs_I oc), o1, o2, (vs_I att), xr, xb, xm, xc, xp, xq, xa) ((nI n), (nI w), (nI sn), (nI fc), (nI st), md, ins, (vs_I vw), mk, nw, (vs_I ct), tp, (vs_I hd), su, jo, (vs_I pr), (vs_I ac), va, (vs_I sd), (vs_I wt), (vs_I mv), (vs_I mn), ho, (vs_I fm), (vs_I fs), (vs_I fv), (vs_I ow), (vs_I li), re, (vs_I be), pm, (vs_I pc), aq) := zz_in hI hX hY
  have hI0 := hI
  obtain ⟨⟨hn3, hn5, hw1, hw8, hst⟩, gM, gI, gV, gJ, gS, gT, gE, gL, gD, gH, gN, gO, gK, gA, gR, gQ, gB, g2, g3, g4, g5, g6, g7, g8, gC1, gC2, gC3, gC4, gF, gC5⟩ := hI
  obtain ⟨XL, RA, XH, XO, XA⟩ := hX
  obtain ⟨YH, YL, YA, Y6, Y7⟩ := hY
  unfold wpX_ratify wpY_ratify
  rcases vs_arg n hn5 v1 with hb | ⟨c, hc, rfl⟩
  · exact xw_bad1 hb (br_f (by decide) (yw_bad1 hb (br_f (by decide) ⟨by trivial, fin⟩)))
  rcases vs_arg n hn5 v2 with hb | ⟨m, hm, rfl⟩
  · exact xw_bad0 hc hn5 (br_t rfl (xw_bad1 hb (br_f (by decide) (yw_bad0 hc hn5 (br_t rfl (yw_bad1 hb (br_f (by decide) ⟨by trivial, fin⟩)))))))
  have hc5 : c < 5 := by omega
  have hm5 : m < 5 := by omega
  have hic := vs_in5 hc5
  have him := vs_in5 hm5
  have hast := (gA c hc).1
  have Xc := XA c hc
  have ec : (nI c).toNatClampNeg = c := nI_clamp (by omega)
  have em : (nI m).toNatClampNeg = m := nI_clamp (by omega)
  have ea : (nI (att c)).toNatClampNeg = att c := nI_clamp (by omega)
  have hia : vp_in (nI (att c)) 61 := vp_in_nI (by omega) (by omega)
  simp only [ec, em, vs_Ia]
  refine xw_bad0 hc hn5 (br_t rfl (xw_bad0 hm hn5 (br_t rfl ⟨hic, ?_⟩)))
  by_cases a0 : att c = 0
  · exact br_t (by rw [a0]; rfl) (yw_bad0 hc hn5 (br_t rfl (yw_bad0 hm hn5 (br_t rfl (yw_attemptOf hc hn5 YA (br_t (by rw [a0]; rfl) ⟨by trivial, fin⟩))))))
  have a0' : ¬ nI (att c) = 0 := nI_ne0 (by omega) (by omega)
  refine br_f a0' ⟨hic, ?_⟩
  by_cases p0 : pm (att c) = 0
  · refine br_t (Xc.2.2.2.2.1.trans p0) (yw_bad0 hc hn5 (br_t rfl (yw_bad0 hm hn5 (br_t rfl (yw_attemptOf hc hn5 YA (br_f a0' ⟨hia, ?_⟩))))))
    rw [ea]
    exact br_t p0 ⟨by trivial, fin⟩
  · refine br_f (fun z => p0 (Xc.2.2.2.2.1.symm.trans z)) ⟨hic, ?_⟩
    cases r0 : bt (aq (att c)) m
    · refine xw_has0 (by omega) (by rw [Xc.2.2.2.2.2.2.1]; exact r0) (br_t rfl ?_)
      cases s0 : bt (su c) m
      · by_cases hv : md m = 2 ∨ md m = 3
        · by_cases v0 : vw m = vw c
          · have v0' : nI (vw m) = nI (vw c) := by rw [v0]
            have Ac := (gA c hc).2 a0
            have Bm := gB m hm
            by_cases q0 : pr m ≤ att c
            · have q0' : nI (pr m) ≤ nI (att c) := nI_le q0 (by omega)
              have hcm : c ≠ m := by intro z; subst z; rw [Y6 c hc a0 p0] at r0; cases r0
              have hin : ∀ x, x < n → att x = att c → x = c := fun x hx e => vs_att_inj YA hx hc a0 e
              have hvm : vw m ≠ 0 := by rw [v0]; exact Ac.1
              have pc48 := (g8.2 (att c)).2
              have hcH := (gC2 c hc).2.1 a0 p0
              have exq : vs_u xq m 0 c = nI (pc (att c)) := by rw [vs_un hcm]; exact Xc.2.2.2.2.2.1
              refine xw_refO hc5 hm5 s0 hv v0' q0' (br_t rfl ⟨hic, xw_promise hm5 ⟨hic, ?_⟩⟩)
              have Xf := fun (post : Int32 → SX → Prop) => xw_fetch (post := post) (m := m) (p := c) (H := H) (L := vs_u xq m 0 c) (g := vs_gk (nI (pc (att c))) H m c) (n := n) (w := w) (sn := sn) (st := st) (md := vs_u md m 3) (ins := ins) (lv := lv) (lc := lc) (l1 := l1) (l2 := l2) (l3 := l3) (l4 := l4) (vw := vw) (mk := mk) (nw := nw) (ct := ct) (dl := dl) (tp := tp) (su := su) (jo := jo) (pr := vs_u pr m (att c)) (ac := ac) (am := am) (acu := acu) (hx := hx) (bn := bn) (b1 := b1) (b2 := b2) (b3 := b3) (oc := oc) (o1 := o1) (o2 := o2) (att := vs_u att m 0) (xr := vs_u xr m 0) (xb := vs_u xb m 0) (xm := vs_u xm m 0) (xc := vs_u xc m 0) (xp := vs_u xp m 0) (xq := vs_u xq m 0) (xa := vs_u xa m 0) hm hc hn5 hw8 hvm v0.symm (fun q => by rw [exq]) (fun q hq => by
                rcases hq with hq | hq
                · exact vs_b8 gH gO gD gV hw8 hm hm hvm rfl hq
                · exact vs_b8 gH gO gD gV hw8 hm hc hvm v0.symm hq) (fun q hq => vs_h48 gH hc hq) XH.1 (vs_dl48 gD gL hm) ((gH m hm).2 hvm) RA
              refine Xf _ ?_
              intro bn' b1' b2' b3' RA'
              refine xw_accept hc5 hm5 ?_
              have h1 : vs_u att m 0 c = att c := vs_un hcm
              have h2 : vs_u xp m 0 c = pm (att c) := by rw [vs_un hcm]; exact Xc.2.2.2.2.1
              have h3 : vs_u xa m 0 c = aq (att c) := by rw [vs_un hcm]; exact Xc.2.2.2.2.2.2.1
              have hYw : ∀ post : Int32 → SY → Prop, (∀ ho', vs_YH n sn vw mv mn ho' (vs_Hk H m (vs_gk (nI (pc (att c))) H m c) 49) → vs_gE mv ho' → post 1 ((nI n), (nI w), (nI sn), (nI fc), (nI st), (vs_u md m 3), ins, (vs_I vw), mk, nw, (vs_I ct), (vs_tpk tp m (vs_gk (nI (pc (att c))) H m c) 49), (vs_I (vs_rsk hd (mk m) m w n (vs_gk (nI (pc (att c))) H m c) 49)), su, jo, (vs_I (vs_u pr m (att c))), (vs_I (vs_u ac m (att c))), va, (vs_I sd), (vs_I wt), (vs_I mv), (vs_I mn), ho', (vs_I fm), (vs_I fs), (vs_I fv), (vs_I ow), (vs_I (vs_le li ow m (st + 1))), re, (vs_I be), pm, (vs_I pc), (vs_u aq (att c) (aq (att c) ||| ((1 : Int32) <<< (nI m &&& 31)))))) → wpY_ratify post ((nI n), (nI w), (nI sn), (nI fc), (nI st), md, ins, (vs_I vw), mk, nw, (vs_I ct), tp, (vs_I hd), su, jo, (vs_I pr), (vs_I ac), va, (vs_I sd), (vs_I wt), (vs_I mv), (vs_I mn), ho, (vs_I fm), (vs_I fs), (vs_I fv), (vs_I ow), (vs_I li), re, (vs_I be), pm, (vs_I pc), aq) (nI c) (nI m) := by
                intro post hp
                unfold wpY_ratify
                simp only [ec, em, vs_Ia]
                refine yw_bad0 hc hn5 (br_t rfl (yw_bad0 hm hn5 (br_t rfl (yw_attemptOf hc hn5 YA (br_f a0' ⟨hia, ?_⟩)))))
                rw [ea]
                refine br_f p0 ⟨hia, yw_has0 (by omega) r0 (br_t rfl ⟨hic, yw_has0 (by omega) s0 (br_t rfl (yw_iv1 hm5 hv (br_f (by decide) ⟨him, hic, br_t v0' ⟨him, br_t q0' ⟨him, nm_r (vs_updA _ _ _) ⟨him, nm_r (vs_upd _ _ _) (yw_ea hm hn5 YA ?_)⟩⟩⟩⟩)))⟩)⟩
                exact yw_rat YH gE hc hm hn5 hw8 hvm v0.symm (by omega) pc48 hcH (fun q hq => (vs_h48 gH hc hq).1) XH.2.1 hp
              have I1 := vs_prom_Inv hm hvm q0 hast hI0
              have gall : ∀ q, 1 ≤ q → q ≤ pc (att c) → vs_Hk H m (vs_gk (nI (pc (att c))) H m c) 49 m q = true := by
                intro q hq1 hq2
                show (H m q || (decide (m = m) && (decide (q < 49) && vs_gk (nI (pc (att c))) H m c q))) = true
                rw [vs_gpc (by omega) pc48, hcH q hq1 hq2, decide_eq_true (show q < 49 by omega), decide_eq_true hq2]
                cases H m q <;> simp
              have fine : ∀ ho', vs_gE mv ho' → ∃ VM' VC', vs_Inv n w sn st (vs_u md m 3) ins lv vw mk nw jo su ct dl (vs_u pr m (att c)) (vs_u ac m (att c)) (vs_rsk hd (mk m) m w n (vs_gk (nI (pc (att c))) H m c) 49) mv mn wt sd ho' lg (vs_Hk H m (vs_gk (nI (pc (att c))) H m c) 49) (vs_u att m 0) re be pm pc (vs_u aq (att c) (aq (att c) ||| ((1 : Int32) <<< (nI m &&& 31)))) av VM' VC' := by
                intro ho' E'
                have I2 := vs_fetch_Inv (T := nI (pc (att c))) (ho' := ho') hm hc vs_us v0.symm E' I1
                have I3 := vs_accept (c := c) (m := m) hc hm (by rw [h1]; exact a0) (by rw [h1]; exact p0) v0 (by rw [vs_us, h1]) (by rw [h1]; exact gall) I2
                rw [h1] at I3
                exact I3
              have XH' := vs_rsk_X (m := m) (w := w) (s := mk m) (g := vs_gk (nI (pc (att c))) H m c) XH hn5 49 (by omega)
              have Y6' : vs_gC6 n pm (vs_u aq (att c) (aq (att c) ||| ((1 : Int32) <<< (nI m &&& 31)))) (vs_u att m 0) := vs_6_0 (vs_6_acc Y6 (by omega))
              have Yw := hYw (fun r' v' => r' = 1 ∧ i_Rel (k + 4) ((nI n), (nI w), (nI sn), (nI st), (vs_u md m 3), ins, (vs_I lv), (vs_I lc), l1, l2, l3, l4, (vs_I vw), mk, nw, (vs_I ct), (vs_I dl), (vs_tpk tp m (vs_gk (nI (pc (att c))) H m c) 49), su, jo, (vs_I (vs_u pr m (att c))), (vs_I (vs_u ac m (vs_u att m 0 c))), (vs_u am m (vs_u xp m 0 c)), (vs_u acu m (vs_u xq m 0 c)), (vs_I (vs_rsk hx (mk m) m w n (vs_gk (nI (pc (att c))) H m c) 49)), (vs_I bn'), b1', b2', b3', (vs_I oc), o1, o2, (vs_I (vs_u att m 0)), (vs_u xr m 0), (vs_u xb m 0), (vs_u xm m 0), (vs_u xc m 0), (vs_u xp m 0), (vs_u xq m 0), (vs_u (vs_u xa m 0) c (vs_u xa m 0 c ||| ((1 : Int32) <<< (nI m &&& 31))))) v') (fun ho' Q' E' => by
                obtain ⟨VM', VC', NI⟩ := fine ho' E'
                refine ⟨rfl, ?_⟩
                rw [h1, h2, h3, exq]
                exact zz_in NI ⟨XL, RA', XH', XO, vs_rat_XA XA g8 hc hcm a0 hin⟩ ⟨Q', YL, vs_fg_YA YA, Y6', vs_7_fetch Y7 hn5⟩)
              unfold wpY_ratify at Yw
              simp only [ec, em, vs_Ia] at Yw
              exact Yw
            · have q0' : ¬ nI (pr m) ≤ nI (att c) := nI_ge (by omega) (by omega)
              refine xw_refP hc5 hm5 s0 hv v0' q0' (br_f (by decide) (yw_bad0 hc hn5 (br_t rfl (yw_bad0 hm hn5 (br_t rfl (yw_attemptOf hc hn5 YA (br_f a0' ⟨hia, ?_⟩)))))))
              rw [ea]
              exact br_f p0 ⟨hia, yw_has0 (by omega) r0 (br_t rfl ⟨hic, yw_has0 (by omega) s0 (br_t rfl (yw_iv1 hm5 hv (br_f (by decide) ⟨him, hic, br_t v0' ⟨him, br_f q0' ⟨by trivial, fin⟩⟩⟩)))⟩)⟩
          · have v0' : ¬ nI (vw m) = nI (vw c) := fun z => v0 ((nI_eq (by have := vs_v48 gI gV hm; omega) (by have := vs_v48 gI gV hc; omega)).mp z)
            refine xw_refW hc5 hm5 s0 hv v0' (br_f (by decide) (yw_bad0 hc hn5 (br_t rfl (yw_bad0 hm hn5 (br_t rfl (yw_attemptOf hc hn5 YA (br_f a0' ⟨hia, ?_⟩)))))))
            rw [ea]
            exact br_f p0 ⟨hia, yw_has0 (by omega) r0 (br_t rfl ⟨hic, yw_has0 (by omega) s0 (br_t rfl (yw_iv1 hm5 hv (br_f (by decide) ⟨him, hic, br_f v0' ⟨by trivial, fin⟩⟩)))⟩)⟩
        · refine xw_refV hc5 hm5 s0 hv (br_f (by decide) (yw_bad0 hc hn5 (br_t rfl (yw_bad0 hm hn5 (br_t rfl (yw_attemptOf hc hn5 YA (br_f a0' ⟨hia, ?_⟩)))))))
          rw [ea]
          exact br_f p0 ⟨hia, yw_has0 (by omega) r0 (br_t rfl ⟨hic, yw_has0 (by omega) s0 (br_t rfl (yw_iv0 hm5 hv (br_t rfl ⟨by trivial, fin⟩)))⟩)⟩
      · refine xw_refS hc5 hm5 s0 (br_f (by decide) (yw_bad0 hc hn5 (br_t rfl (yw_bad0 hm hn5 (br_t rfl (yw_attemptOf hc hn5 YA (br_f a0' ⟨hia, ?_⟩)))))))
        rw [ea]
        exact br_f p0 ⟨hia, yw_has0 (by omega) r0 (br_t rfl ⟨hic, yw_has1 (by omega) s0 (br_f (by decide) ⟨by trivial, fin⟩)⟩)⟩
    · refine xw_has1 (by omega) (by rw [Xc.2.2.2.2.2.2.1]; exact r0) (br_f (by decide) (yw_bad0 hc hn5 (br_t rfl (yw_bad0 hm hn5 (br_t rfl (yw_attemptOf hc hn5 YA (br_f a0' ⟨hia, ?_⟩)))))))
      rw [ea]
      exact br_f p0 ⟨hia, yw_has1 (by omega) r0 (br_f (by decide) ⟨by trivial, fin⟩)⟩
end
section
/-! entering a view: pure -/
variable {n w sn st fc : Nat} {md ins l1 l2 l3 l4 mk nw tp su jo am acu b1 b2 b3 o1 o2 xr xb xm xc xp xq xa va ho re pm aq VM : Nat → Int32} {lv lc vw ct dl pr ac hx bn oc att hd sd wt mv mn fm fs fv ow li be pc av VC : Nat → Nat} {lg : Nat → List (Nat × Nat)} {H : Nat → Nat → Bool}
theorem vs_ext_Inv {m v d d' : Nat} (hm : m < n) (hv0 : vw m = 0) (hv : v ≠ 0) (hl : v ≤ lv m) (eD : vs_D (lg m) v = d) (hdd : d ≤ d') (hN : d' ≤ vs_N mv v) (h : vs_Inv n w sn st md ins lv vw mk nw jo su ct dl pr ac hd mv mn wt sd ho lg H att re be pm pc aq av VM VC) :
    vs_Inv n w sn st md ins lv vw mk nw jo su ct dl pr ac hd mv mn wt sd ho (vs_u lg m (lg m ++ vs_seg (fun k => (vs_ix mv mn v k, v)) d d')) H att re be pm pc aq av VM VC := by
  obtain ⟨hb, gM, gI, gV, gJ, gS, gT, gE, gL, gD, gH, gN, gO, gK, gA, gR, gQ, gB, g2, g3, g4, g5, g6, g7, g8, gC1, gC2, gC3, gC4, gF, gC5⟩ := h
  have mono : ∀ a x, vs_D (lg a) x ≤ vs_D (vs_u lg m (lg m ++ vs_seg (fun k => (vs_ix mv mn v k, v)) d d') a) x := by
    intro a x
    by_cases e : a = m
    · subst e
      rw [vs_us, vs_D_seg hdd]; omega
    · rw [vs_un e]; exact Nat.le_refl _
  refine ⟨hb, gM, gI, gV, gJ, gS, gT, gE, ?_, ?_, gH, gN, ⟨?_, gO.2⟩, ?_, gA, gR, gQ, gB, g2, g3, g4, g5, g6, g7, g8, gC1, gC2, gC3, gC4, ?_, gC5⟩
  · intro a ha
    by_cases e : a = m
    · subst e
      rw [vs_us]
      have t := gL a ha
      have x := vs_ext1 (d' := d') gT t.1 t.2.1 t.2.2 hv hl eD hdd hN
      exact ⟨x.1, x.2.1, x.2.2.1⟩
    · rw [vs_un e]; exact gL a ha
  · intro a ha
    by_cases e : a = m
    · subst e
      exact ⟨fun z => (z hv0).elim, (gD a ha).2⟩
    · rw [vs_un e]; exact gD a ha
  · intro x j hx hj
    have := gO.1 x j hx hj
    have := mono j x
    omega
  · intro a ha hva j hne hj
    have := gK a ha hva j hne hj
    have := mono j (vw a)
    omega
  · intro a ha
    by_cases e : a = m
    · subst e
      exact ⟨(gF a ha).1, fun z => (z hv0).elim⟩
    · rw [vs_un e]; exact gF a ha
theorem vs_D_0 {l : List (Nat × Nat)} {v : Nat} (h : ∀ i x, (i, x) ∈ l → x ≠ v) : vs_D l v = 0 := by
  unfold vs_D
  rw [List.countP_eq_zero]
  intro a ha
  have := h a.1 a.2 ha
  simp [this]
theorem vs_arr_Inv {m v c : Nat} (hm : m < n) (hv0 : vw m = 0) (hlv : lv m < v) (hv16 : v ≤ 16) (hjo : jo m = 0) (hsu : su m = 0) (hhd : ∀ j, j < 5 → hd (m * 5 + j) = 0) (hVM : bt (VM v) m = true) (hc : c ≤ 48)
    (htail : 2 ≤ v → bt (VM (v - 1)) m = true → c = VC v ∧ c ≤ (lg m).length ∧ ∀ k, k < c → (lg m)[(lg m).length - c + k]? = some (vs_ix mv mn (v - 1) (k + 1), v - 1))
    (h6 : ∀ x, 1 ≤ x → x < v → ∃ a, 1 ≤ a ∧ a ≤ st ∧ av a = x ∧ pm a ≠ 0 ∧ vs_sz (VM x) n < 2 * vs_sz (aq a) n) (h : vs_Inv n w sn st md ins lv vw mk nw jo su ct dl pr ac hd mv mn wt sd ho lg H att re be pm pc aq av VM VC) :
    vs_Inv n w sn st (vs_u md m 2) (vs_u ins m (ins m ||| ((1 : Int32) <<< (nI (v - 1) &&& 31)))) (vs_u lv m v) (vs_u vw m v) (vs_u mk m (VM v)) (vs_u nw m (VM v &&& (VM (v - 1) ^^^ (-1)))) jo su (vs_u ct m c) dl pr ac hd mv mn wt sd ho lg H att re be pm pc aq av VM VC := by
  obtain ⟨hb, gM, gI, gV, gJ, gS, gT, gE, gL, gD, gH, gN, gO, gK, gA, gR, gQ, gB, g2, g3, g4, g5, g6, g7, g8, gC1, gC2, gC3, gC4, gF, gC5⟩ := h
  have hv : v ≠ 0 := by omega
  have dl0 := (gD m hm).2 hv0
  have Hm0 : ∀ k, H m k = false := by
    intro k
    cases e : H m k
    · rfl
    · exact (((gH m hm).1 k e).1 hv0).elim
  have at0 : att m = 0 := by
    apply Classical.byContradiction
    intro z
    exact ((gA m hm).2 z).1 hv0
  have D0 : vs_D (lg m) v = 0 := vs_D_0 (fun i x hx e => by have := ((gL m hm).1 i x hx).2.2.2; omega)
  have lvle : ∀ x, lv x ≤ vs_u lv m v x := by
    intro x
    by_cases e : x = m
    · rw [e, vs_us]; omega
    · rw [vs_un e]; exact Nat.le_refl _
  refine ⟨hb, ?_, ?_, ⟨?_, gV.2⟩, ?_, ?_, gT, gE, ?_, ?_, ?_, ?_, ⟨gO.1, ?_, ?_⟩, ?_, ?_, ?_, ?_, ?_, g2, g3, g4, g5, ?_, g7, g8, gC1, gC2, ?_, ?_, ?_, ?_⟩
  · intro a ha
    by_cases e : a = m
    · subst e
      rw [vs_us, vs_us]
      exact ⟨Or.inr (Or.inr (Or.inl rfl)), ⟨fun _ => hv, fun _ => Or.inl rfl⟩⟩
    · rw [vs_un e, vs_un e]; exact gM a ha
  · intro a ha
    by_cases e : a = m
    · subst e
      rw [vs_us, vs_us]
      refine ⟨by omega, hv16, fun x hx => ?_, ?_⟩
      · rw [vs_bor _ (by omega), Bool.or_eq_true, decide_eq_true_eq] at hx
        rcases hx with hx | hx
        · have := (gI a ha).2.2.1 x hx; omega
        · omega
      · rw [vs_bor _ (by omega), decide_eq_true (show v - 1 = v - 1 from rfl), Bool.or_true]
    · rw [vs_un e, vs_un e]; exact gI a ha
  · intro a ha hva
    by_cases e : a = m
    · subst e
      rw [vs_us, vs_us, vs_us, vs_us]
      exact ⟨rfl, rfl, rfl, hVM⟩
    · rw [vs_un e] at hva
      rw [vs_un e, vs_un e, vs_un e, vs_un e]; exact gV.1 a ha hva
  · intro a ha hva
    by_cases e : a = m
    · subst e
      intro j hj
      rw [hjo, b_0] at hj; cases hj
    · rw [vs_un e] at hva ⊢; exact gJ a ha hva
  · intro a ha hva
    by_cases e : a = m
    · subst e
      rw [hsu, b_0]
    · rw [vs_un e] at hva; exact gS a ha hva
  · intro a ha
    have t := gL a ha
    refine ⟨fun i x hx => ?_, t.2⟩
    have s := t.1 i x hx
    have := lvle a
    exact ⟨s.1, s.2.1, s.2.2.1, by omega⟩
  · intro a ha
    by_cases e : a = m
    · subst e
      rw [vs_us, D0, dl0]
      exact ⟨fun _ => rfl, fun z => (hv z).elim⟩
    · rw [vs_un e]; exact gD a ha
  · intro a ha
    by_cases e : a = m
    · subst e
      refine ⟨fun k hk => ?_, fun _ k h1 h2 => by omega⟩
      rw [Hm0] at hk; cases hk
    · rw [vs_un e]; exact gH a ha
  · intro a ha hmd
    by_cases e : a = m
    · subst e; exact Hm0 _
    · rw [vs_un e] at hmd; exact gN a ha hmd
  · intro x q hx hq hl
    have t := gO.2.1 x q hx hq hl
    by_cases e : q = m
    · subst e
      rw [vs_us, vs_us, dl0]
      exact ⟨fun y => t.2 (by omega), fun y => t.2 (by omega)⟩
    · rw [vs_un e, vs_un e]; exact t
  · intro x hx hl
    refine gO.2.2 x hx (fun y hy => ?_)
    have := hl y hy
    have := lvle y
    omega
  · intro a ha hva j hne hj
    by_cases e : a = m
    · subst e
      rw [vs_us] at hj
      have := gV.2 _ j hj
      rw [hhd j (by omega)]; exact Nat.zero_le _
    · rw [vs_un e] at hva hj ⊢; exact gK a ha hva j hne hj
  · intro a ha
    have t := gA a ha
    by_cases e : a = m
    · subst e
      exact ⟨t.1, fun z => (z at0).elim⟩
    · rw [vs_un e, vs_un e]; exact t
  · intro a h1 h2
    have t := gR a h1 h2
    refine ⟨t.1, t.2.1, t.2.2.1, fun j hj => ?_⟩
    have s := t.2.2.2 j hj
    by_cases e : j = m
    · subst e
      rw [vs_us, vs_us]
      exact ⟨s.1, s.2.1, by omega, fun y => by omega⟩
    · rw [vs_un e, vs_un e, vs_un e]; exact s
  · intro a h1 h2 j hj
    have s := gQ a h1 h2 j hj
    by_cases e : j = m
    · subst e
      rw [vs_us, vs_us]
      exact ⟨s.1, s.2.1, s.2.2.1, by omega, fun y => by omega⟩
    · rw [vs_un e, vs_un e]; exact s
  · intro a ha
    have t := gB a ha
    by_cases e : a = m
    · subst e
      exact ⟨t.1, t.2.1, fun z => ((t.2.2 z).1 hv0).elim⟩
    · rw [vs_un e]; exact t
  · intro a ha x h1 h2
    by_cases e : a = m
    · rw [e, vs_us] at h2; exact h6 x h1 h2
    · rw [vs_un e] at h2; exact g6 a ha x h1 h2
  · intro a j h1 h2 h3 h4 h5 h6'
    by_cases e : j = m
    · subst e
      rw [vs_us] at h6'
      have := gC5 a j h1 h2 h4 h5 (by rw [← h6']; exact hVM)
      omega
    · rw [vs_un e] at h6' ⊢; exact gC3 a j h1 h2 h3 h4 h5 h6'
  · intro x j h1 h2 h3 h4 h5 k h6' h7
    by_cases e : j = m
    · subst e
      rw [vs_us] at h5
      have t := (gR (att x) (by omega) (gA x h1).1).2.2.2 j h4
      omega
    · rw [vs_un e] at h5; exact gC4 x j h1 h2 h3 h4 h5 k h6' h7
  · intro a ha
    by_cases e : a = m
    · subst e
      rw [vs_us, vs_us, dl0]
      refine ⟨hc, fun _ => ⟨Nat.zero_le _, fun k hk => by omega, fun h2 hbv => ?_⟩⟩
      have t := htail h2 hbv
      refine ⟨t.1, by omega, fun k hk => ?_⟩
      rw [Nat.sub_zero]; exact t.2.2 k hk
    · rw [vs_un e, vs_un e]; exact gF a ha
  · intro a j h1 h2 h4 h5 h6'
    have := gC5 a j h1 h2 h4 h5 h6'
    have := lvle j
    omega
/-- forget, then the log grows by the rest of the old view, then the new view -/
theorem vs_enter_Inv {m v c x d d' : Nat} (hm : m < n) (hlv : lv m < v) (hv16 : v ≤ 16) (hVM : bt (VM v) m = true) (hc : c ≤ 48) (hx : d = d' ∨ (x ≠ 0 ∧ x ≤ lv m)) (hD : vs_D (lg m) x = d) (hdd : d ≤ d') (hN : d' ≤ vs_N mv x)
    (htail : 2 ≤ v → bt (VM (v - 1)) m = true → c = VC v ∧ c ≤ (lg m ++ vs_seg (fun k => (vs_ix mv mn x k, x)) d d').length ∧ ∀ k, k < c → (lg m ++ vs_seg (fun k => (vs_ix mv mn x k, x)) d d')[(lg m ++ vs_seg (fun k => (vs_ix mv mn x k, x)) d d').length - c + k]? = some (vs_ix mv mn (v - 1) (k + 1), v - 1))
    (h6 : ∀ x, 1 ≤ x → x < v → ∃ a, 1 ≤ a ∧ a ≤ st ∧ av a = x ∧ pm a ≠ 0 ∧ vs_sz (VM x) n < 2 * vs_sz (aq a) n) (h : vs_Inv n w sn st md ins lv vw mk nw jo su ct dl pr ac hd mv mn wt sd ho lg H att re be pm pc aq av VM VC) :
    vs_Inv n w sn st (vs_u md m 2) (vs_u ins m (ins m ||| ((1 : Int32) <<< (nI (v - 1) &&& 31)))) (vs_u lv m v) (vs_u vw m v) (vs_u mk m (VM v)) (vs_u nw m (VM v &&& (VM (v - 1) ^^^ (-1)))) (vs_u jo m 0) (vs_u su m 0) (vs_u ct m c) (vs_u dl m 0) (vs_u pr m 0) (vs_u ac m 0) (vs_zr hd 5 m 5) mv mn (vs_wz wt sd m sn) sd (vs_hz ho m sn) (vs_u lg m (lg m ++ vs_seg (fun k => (vs_ix mv mn x k, x)) d d')) (vs_u H m (fun _ => false)) (vs_u att m 0) re be pm pc aq av VM VC := by
  have I1 := vs_fg_Inv hm h
  have hn5 : n ≤ 5 := h.1.2.1
  have I2 : vs_Inv n w sn st (vs_u md m 0) ins lv (vs_u vw m 0) (vs_u mk m 0) (vs_u nw m 0) (vs_u jo m 0) (vs_u su m 0) (vs_u ct m 0) (vs_u dl m 0) (vs_u pr m 0) (vs_u ac m 0) (vs_zr hd 5 m 5) mv mn (vs_wz wt sd m sn) sd (vs_hz ho m sn) (vs_u lg m (lg m ++ vs_seg (fun k => (vs_ix mv mn x k, x)) d d')) (vs_u H m (fun _ => false)) (vs_u att m 0) re be pm pc aq av VM VC := by
    rcases hx with hx | hx
    · subst hx
      rw [vs_seg_0, List.append_nil, vs_ui]
      exact I1
    · exact vs_ext_Inv (v := x) hm vs_us hx.1 hx.2 hD hdd hN I1
  have hz : ∀ j, j < 5 → vs_zr hd 5 m 5 (m * 5 + j) = 0 := fun j hj => if_pos ⟨by omega, by omega⟩
  have I3 := vs_arr_Inv (v := v) (c := c) hm vs_us hlv hv16 vs_us vs_us hz hVM hc (by rw [vs_us]; exact htail) h6 I2
  rw [vs_uu, vs_uu, vs_uu, vs_uu, vs_uu] at I3
  exact I3
end
section
/-! install: walks -/
variable {n w sn st fc : Nat} {md ins l1 l2 l3 l4 mk nw tp su jo am acu b1 b2 b3 o1 o2 xr xb xm xc xp xq xa va ho re pm aq VM : Nat → Int32} {lv lc vw ct dl pr ac hx bn oc att hd sd wt mv mn fm fs fv ow li be pc av VC : Nat → Nat} {lg : Nat → List (Nat × Nat)} {H : Nat → Nat → Bool}
theorem xw_dec1 {post : Int32 → Prop} {m : Nat} (hm : m < 5) (hn : n ≤ 5) (h1 : ¬ nI (att m) = 0) (h2 : ¬ xp m = 0) (h3 : vs_sz (mk m) n < 2 * vs_sz (xa m) n) (h : post 1) : wpX_decided post ((nI n), (nI w), (nI sn), (nI st), md, ins, (vs_I lv), (vs_I lc), l1, l2, l3, l4, (vs_I vw), mk, nw, (vs_I ct), (vs_I dl), tp, su, jo, (vs_I pr), (vs_I ac), am, acu, (vs_I hx), (vs_I bn), b1, b2, b3, (vs_I oc), o1, o2, (vs_I att), xr, xb, xm, xc, xp, xq, xa) (nI m) := by
  refine ⟨vs_in5 hm, ?_⟩
  rw [nI_clamp (show m < 2 ^ 31 by omega)]
  exact br_f h1 ⟨vs_in5 hm, br_f h2 ⟨vs_in5 hm, vs_in5 hm, xw_maj1 hn h3 (br_f (by decide) h)⟩⟩
theorem xw_dec0 {post : Int32 → Prop} {m : Nat} (hm : m < 5) (hn : n ≤ 5) (h1 : ¬ (¬ nI (att m) = 0 ∧ ¬ xp m = 0 ∧ vs_sz (mk m) n < 2 * vs_sz (xa m) n)) (h : post 0) : wpX_decided post ((nI n), (nI w), (nI sn), (nI st), md, ins, (vs_I lv), (vs_I lc), l1, l2, l3, l4, (vs_I vw), mk, nw, (vs_I ct), (vs_I dl), tp, su, jo, (vs_I pr), (vs_I ac), am, acu, (vs_I hx), (vs_I bn), b1, b2, b3, (vs_I oc), o1, o2, (vs_I att), xr, xb, xm, xc, xp, xq, xa) (nI m) := by
  refine ⟨vs_in5 hm, ?_⟩
  rw [nI_clamp (show m < 2 ^ 31 by omega)]
  by_cases a : nI (att m) = 0
  · exact br_t a h
  · refine br_f a ⟨vs_in5 hm, ?_⟩
    by_cases b : xp m = 0
    · exact br_t b h
    · exact br_f b ⟨vs_in5 hm, vs_in5 hm, xw_maj0 hn (fun z => h1 ⟨a, b, z⟩) (br_t rfl h)⟩
theorem vs_seg_snoc (e : Nat → Nat × Nat) {d d' : Nat} (h : d ≤ d') : vs_seg e d (d' + 1) = vs_seg e d d' ++ [e (d' + 1)] := by
  unfold vs_seg
  rw [show d' + 1 - d = (d' - d) + 1 by omega, List.range_succ, List.map_append]
  congr 1
  show [e (d + 1 + (d' - d))] = [e (d' + 1)]
  rw [show d + 1 + (d' - d) = d' + 1 by omega]
theorem xw_cp_l {post : SX → Prop} {f t C b B : Nat} {ix : Nat → Nat} (hf : f < n) (ht : t < n) (hn : n ≤ 5) (hft : f ≠ t) (hC : C ≤ 48) (hCB : C ≤ B) :
    ∀ (q d : Nat) (lg : Nat → List (Nat × Nat)) (lc : Nat → Nat) (l1 l2 l3 l4 : Nat → Int32), d + q = C → vs_XL n lg va sd lc l1 l2 l3 l4 → (∀ k, d < k → k ≤ C → ∃ v', (lg f)[b + k - 1]? = some (ix k, v')) → (lg t).length + (B - d) ≤ 48 →
    (∀ (lc' : Nat → Nat) (l1' l2' l3' l4' : Nat → Int32), vs_XL n (vs_u lg t (lg t ++ vs_seg (fun k => (ix k, vw t)) d C)) va sd lc' l1' l2' l3' l4' → post ((nI n), (nI w), (nI sn), (nI st), md, ins, (vs_I lv), (vs_I lc'), l1', l2', l3', l4', (vs_I vw), mk, nw, (vs_I ct), (vs_I dl), tp, su, jo, (vs_I pr), (vs_I ac), am, acu, (vs_I hx), (vs_I bn), b1, b2, b3, (vs_I oc), o1, o2, (vs_I att), xr, xb, xm, xc, xp, xq, xa)) →
    wX_copyFromLog_27 post (nI f) (nI t) (nI C) (nI b) (q + 1) (nI (d + 1)) (nI n) (nI w) (nI sn) (nI st) md ins (vs_I lv) (vs_I lc) l1 l2 l3 l4 (vs_I vw) mk nw (vs_I ct) (vs_I dl) tp su jo (vs_I pr) (vs_I ac) am acu (vs_I hx) (vs_I bn) b1 b2 b3 (vs_I oc) o1 o2 (vs_I att) xr xb xm xc xp xq xa := by
  intro q
  induction q with
  | zero =>
    intro d lg lc l1 l2 l3 l4 e hX hx hl h
    have e : d = C := by omega
    subst e
    rw [vs_seg_0, List.append_nil, vs_ui] at h
    exact br_t (nI_lt (by omega) (by omega)) (h lc l1 l2 l3 l4 hX)
  | succ q ih =>
    intro d lg lc l1 l2 l3 l4 e hX hx hl h
    obtain ⟨v', hv'⟩ := hx (d + 1) (by omega) (by omega)
    have hlt := vs_some_lt hv'
    have Xf := hX f hf
    have Xt := hX t ht
    have X0 := Xf.2.2 _ _ _ hv'
    refine br_f (nI_nlt (by omega) (by omega)) (br_f (nI_nlt (a := 48) (by omega) (by omega)) (nm_r (e' := nI (b + (d + 1) - 1)) (by rw [nI_add, vs_sub1 (by omega)]) (br_f (nI_pos (by omega)) ⟨vs_in5 (by omega), ?_⟩)))
    rw [nI_clamp (show f < 2 ^ 31 by omega), vs_Ia]
    refine br_f (nI_ge (by omega) (by omega)) (nm_r (vs_i48 f _) ?_)
    have hin : vp_in (nI (f * 48 + (b + (d + 1) - 1))) 240 := vp_in_nI (by omega) (by omega)
    rw [nI_clamp (show f * 48 + (b + (d + 1) - 1) < 2 ^ 31 by omega), X0.1, X0.2.1, X0.2.2.1]
    refine ⟨hin, hin, hin, xw_append (by omega) (by omega) (nm_r (nI_1 _) ?_)⟩
    refine ih (d + 1) (vs_u lg t (lg t ++ [(ix (d + 1), vw t)])) _ _ _ _ _ (by omega) (vs_XL_ap hX ht (by omega)) ?_ ?_ ?_
    · intro k a c
      rw [vs_un hft]
      exact hx k (by omega) c
    · rw [vs_us, List.length_append]; show (lg t).length + 1 + _ ≤ 48; omega
    · rw [vs_us, vs_uu, List.append_assoc]
      rw [vs_seg_s _ (show d < C by omega)] at h
      exact h
theorem xw_cp {post : SX → Prop} {f t C B : Nat} {ix : Nat → Nat} {lg : Nat → List (Nat × Nat)} (hf : f < n) (ht : t < n) (hn : n ≤ 5) (hft : f ≠ t) (hC : C ≤ 48) (hCB : C ≤ B) (hX : vs_XL n lg va sd lc l1 l2 l3 l4) (hlen : dl f + C ≤ (lg f).length) (hent : ∀ k, k < C → ∃ v', (lg f)[(lg f).length - dl f - C + k]? = some (ix (k + 1), v')) (hdC : dl t ≤ C) (hl : (lg t).length + (B - dl t) ≤ 48)
    (h : ∀ (lc' : Nat → Nat) (l1' l2' l3' l4' : Nat → Int32), vs_XL n (vs_u lg t (lg t ++ vs_seg (fun k => (ix k, vw t)) (dl t) C)) va sd lc' l1' l2' l3' l4' → post ((nI n), (nI w), (nI sn), (nI st), md, ins, (vs_I lv), (vs_I lc'), l1', l2', l3', l4', (vs_I vw), mk, nw, (vs_I ct), (vs_I dl), tp, su, jo, (vs_I pr), (vs_I ac), am, acu, (vs_I hx), (vs_I bn), b1, b2, b3, (vs_I oc), o1, o2, (vs_I att), xr, xb, xm, xc, xp, xq, xa)) :
    wpX_copyFromLog post ((nI n), (nI w), (nI sn), (nI st), md, ins, (vs_I lv), (vs_I lc), l1, l2, l3, l4, (vs_I vw), mk, nw, (vs_I ct), (vs_I dl), tp, su, jo, (vs_I pr), (vs_I ac), am, acu, (vs_I hx), (vs_I bn), b1, b2, b3, (vs_I oc), o1, o2, (vs_I att), xr, xb, xm, xc, xp, xq, xa) (nI f) (nI t) (nI C) := by
  have e := (hX f hf).1
  refine ⟨vs_in5 (by omega), vs_in5 (by omega), nm_r (e' := nI ((lg f).length - dl f - C)) ?_ ⟨vs_in5 (by omega), nm_r (e' := nI (dl t + 1)) ?_ ⟨C - dl t + 1, ?_⟩⟩⟩
  · rw [nI_clamp (show f < 2 ^ 31 by omega), vs_Ia, vs_Ia, e, pk_sub (by omega), pk_sub (by omega)]
  · rw [nI_clamp (show t < 2 ^ 31 by omega), vs_Ia, nI_1]
  · refine xw_cp_l hf ht hn hft hC hCB (C - dl t) (dl t) lg lc l1 l2 l3 l4 (by omega) hX (fun k a c => ?_) hl h
    obtain ⟨v', hv'⟩ := hent (k - 1) (by omega)
    rw [show k - 1 + 1 = k by omega, show (lg f).length - dl f - C + (k - 1) = (lg f).length - dl f - C + k - 1 by omega] at hv'
    exact ⟨v', hv'⟩
theorem vs_dn_all {Hm : Nat → Bool} : ∀ r d, (∀ k, d < k → k ≤ d + r → Hm k = true) → vs_dn Hm r d = d + r := by
  intro r
  induction r with
  | zero => intro d _; rfl
  | succ r ih =>
    intro d h
    show (if Hm (d + 1) = true then vs_dn Hm r (d + 1) else d) = d + (r + 1)
    rw [if_pos (h (d + 1) (by omega) (by omega)), ih (d + 1) (fun k a b => h k (by omega) (by omega))]
    omega
/-- Y: the appends of an install, then the view -/
theorem yw_in2 {post : Int32 → SY → Prop} {t C d : Nat} {s : Int32} (Q : vs_YH n sn vw mv mn ho H) (A : vs_YA n st ow li att) (hsd : ∀ i, sd i ≤ 48) (ht : t < n) (hn : n ≤ 5) (hv : vw t ≠ 0) (hC : C ≤ vs_N mv (vw t)) (hdC : d ≤ C) (hx : ∀ k, d < k → k ≤ C → vs_ix mv mn (vw t) k < 48) (lg : Nat → List (Nat × Nat)) (hroom : (lg t).length + (vs_N mv (vw t) - d) ≤ 48) (hA : ∀ a, a < n → (lg a).length ≤ 48)
    (h : ∀ (fc' : Nat) (fm' fs' fv' : Nat → Nat), vs_YL n (vs_u lg t (lg t ++ vs_seg (fun k => (vs_ix mv mn (vw t) k, vw t)) d C)) fc' fm' fs' fv' →
      post 1 ((nI n), (nI w), (nI sn), (nI fc'), (nI st), (vs_u md t 2), (vs_u ins t (ins t ||| ((1 : Int32) <<< (nI (vw t + 1 - 1) &&& 31)))), (vs_I (vs_u vw t (vw t + 1))), (vs_u mk t s), (vs_u nw t (s &&& (mk t ^^^ (-1)))), (vs_I (vs_u ct t C)), (vs_u tp t 0), (vs_I (vs_zr hd 5 t 5)), (vs_u su t 0), (vs_u jo t 0), (vs_I (vs_u pr t 0)), (vs_I (vs_u ac t 0)), va, (vs_I sd), (vs_I (vs_wz wt sd t sn)), (vs_I mv), (vs_I mn), (vs_hz ho t sn), (vs_I fm'), (vs_I fs'), (vs_I fv'), (vs_I ow), (vs_I (vs_le li ow t (st + 1))), re, (vs_I be), pm, (vs_I pc), aq)) :
    ∀ (q k e fc : Nat) (fm fs fv : Nat → Nat), k + q = 49 → (k ≤ d + 1 → e = d) → (d + 1 ≤ k → k ≤ C + 1 → e + 1 = k) → (C + 1 ≤ k → e = C) → d ≤ e → e ≤ C → vs_YL n (vs_u lg t (lg t ++ vs_seg (fun k => (vs_ix mv mn (vw t) k, vw t)) d e)) fc fm fs fv →
    wY_install_374 post (nI t) s (nI C) (nI d) (q + 1) (nI k) (nI n) (nI w) (nI sn) (nI fc) (nI st) md ins (vs_I vw) mk nw (vs_I ct) tp (vs_I hd) su jo (vs_I pr) (vs_I ac) va (vs_I sd) (vs_I wt) (vs_I mv) (vs_I mn) ho (vs_I fm) (vs_I fs) (vs_I fv) (vs_I ow) (vs_I li) re (vs_I be) pm (vs_I pc) aq := by
  intro q
  have hN48 := vs_N_le mv (vw t)
  have hit := vs_in5 (show t < 5 by omega)
  induction q with
  | zero =>
    intro k e fc fm fs fv hk e1 e2 e3 de eC L
    have : e = C := e3 (by omega)
    subst this
    refine br_t (nI_lt (a := 48) (by omega) (by omega)) ⟨hit, hit, ?_⟩
    rw [nI_clamp (show t < 2 ^ 31 by omega), vs_Ia, nI_1]
    exact yw_enter ht hn A Q.2.2.1 hsd (by omega) (h fc fm fs fv L)
  | succ q ih =>
    intro k e fc fm fs fv hk e1 e2 e3 de eC L
    refine br_f (nI_nlt (a := 48) (by omega) (by omega)) ?_
    by_cases c1 : k ≤ d
    · exact br_t (nI_le c1 (by omega)) (nm_r (nI_1 k) (ih (k + 1) e fc fm fs fv (by omega) (by omega) (by omega) (by omega) de eC L))
    · refine br_f (nI_ge (by omega) (by omega)) ?_
      by_cases c2 : k ≤ C
      · have ek : e + 1 = k := e2 (by omega) (by omega)
        have el : (vs_u lg t (lg t ++ vs_seg (fun k => (vs_ix mv mn (vw t) k, vw t)) d e) t).length < 48 := by
          rw [vs_us, List.length_append, vs_seg_len]; omega
        have hf := vs_YL_lt L hn ht el (fun a ha => by
          by_cases z : a = t
          · rw [z]; omega
          · rw [vs_un z]; exact hA a ha)
        have hxk := hx k (by omega) c2
        refine br_f (nI_nlt c2 (by omega)) (yw_append Q ht hn hv (by omega) hxk hf (nm_r (nI_1 k) ?_))
        have L' := vs_YL_ap (i := vs_ix mv mn (vw t) k) (v := vw t) L hn ht hf (by omega) (Q.2.2.2.1 t ht)
        rw [vs_us, vs_uu, List.append_assoc] at L'
        refine ih (k + 1) (e + 1) _ _ _ _ (by omega) (by omega) (by omega) (by omega) (by omega) (by omega) ?_
        rw [vs_seg_snoc _ de]
        rw [ek]
        exact L'
      · exact br_t (nI_lt (by omega) (by omega)) (nm_r (nI_1 k) (ih (k + 1) e fc fm fs fv (by omega) (by omega) (by omega) (by omega) de eC L))
/-- Y: which numbers an install obtains -/
def vs_gi (C : Nat) (H : Nat → Nat → Bool) (t k : Nat) : Bool := decide (1 ≤ k ∧ k ≤ C) && !H t k
theorem yw_in1 {post : Int32 → SY → Prop} {t C d : Nat} {s : Int32} (ht : t < n) (hn : n ≤ 5) (hw : w ≤ 8) (hv : vw t ≠ 0) (hC : C ≤ 48) (hx : ∀ k, 1 ≤ k → k ≤ C → vs_ix mv mn (vw t) k < 48) (hh : ∀ i, hd i ≤ 48)
    (h : ∀ (ho' : Nat → Int32), vs_YH n sn vw mv mn ho' (vs_Hk H t (vs_gi C H t) 49) → vs_gE mv ho' →
      ∃ n374 : Nat, wY_install_374 post (nI t) s (nI C) (nI d) n374 1 (nI n) (nI w) (nI sn) (nI fc) (nI st) md ins (vs_I vw) mk nw (vs_I ct) (vs_tpk tp t (vs_gi C H t) 49) (vs_I (vs_rsk hd (mk t) t w n (vs_gi C H t) 49)) su jo (vs_I pr) (vs_I ac) va (vs_I sd) (vs_I wt) (vs_I mv) (vs_I mn) ho' (vs_I fm) (vs_I fs) (vs_I fv) (vs_I ow) (vs_I li) re (vs_I be) pm (vs_I pc) aq) :
    ∀ (q k : Nat) (ho : Nat → Int32), k + q = 49 → 1 ≤ k → vs_YH n sn vw mv mn ho (vs_Hk H t (vs_gi C H t) k) → vs_gE mv ho →
    wY_install_344 post (nI t) s (nI C) (nI d) (q + 1) (nI k) (nI n) (nI w) (nI sn) (nI fc) (nI st) md ins (vs_I vw) mk nw (vs_I ct) (vs_tpk tp t (vs_gi C H t) k) (vs_I (vs_rsk hd (mk t) t w n (vs_gi C H t) k)) su jo (vs_I pr) (vs_I ac) va (vs_I sd) (vs_I wt) (vs_I mv) (vs_I mn) ho (vs_I fm) (vs_I fs) (vs_I fv) (vs_I ow) (vs_I li) re (vs_I be) pm (vs_I pc) aq := by
  intro q
  induction q with
  | zero =>
    intro k ho e _ Q E
    have e : k = 49 := by omega
    subst e
    exact br_t (nI_lt (a := 48) (by omega) (by omega)) (h ho Q E)
  | succ q ih =>
    intro k ho e hk1 Q E
    refine br_f (nI_nlt (a := 48) (by omega) (by omega)) ?_
    by_cases le : k ≤ C
    · refine br_f (nI_nlt le (by omega)) ?_
      have hgk : vs_gi C H t k = !H t k := by
        show (decide (1 ≤ k ∧ k ≤ C) && !H t k) = _
        rw [decide_eq_true ⟨hk1, le⟩, Bool.true_and]
      cases cm : H t k
      · have gt : vs_gi C H t k = true := by rw [hgk, cm]; rfl
        refine yw_fe Q E ht hn hw hv (by omega) hh (hx k hk1 le) gt cm ?_
        intro ho' Q' E'
        exact nm_r (nI_1 k) (ih (k + 1) ho' (by omega) (by omega) Q' E')
      · have gf : vs_gi C H t k = false := by rw [hgk, cm]; rfl
        have ihk := ih (k + 1) ho (by omega) (by omega) (by rw [vs_Hk_f k gf]; exact Q) E
        rw [vs_tpk_f k gf, vs_rsk_f k gf] at ihk
        exact yw_obtain0 Q ht hn hv (by omega) (by rw [vs_Hk_p]; exact cm) (nm_r (nI_1 k) ihk)
    · have gf : vs_gi C H t k = false := by
        show (decide (1 ≤ k ∧ k ≤ C) && !H t k) = false
        rw [decide_eq_false (fun z => le z.2), Bool.false_and]
      have ihk := ih (k + 1) ho (by omega) (by omega) (by rw [vs_Hk_f k gf]; exact Q) E
      rw [vs_tpk_f k gf, vs_rsk_f k gf] at ihk
      exact br_t (nI_lt (by omega) (by omega)) (nm_r (nI_1 k) ihk)
theorem vs_zr_rs (h : Nat → Nat) (s : Int32) (m c j : Nat) : vs_zr (vs_rs h s m c j) 5 m 5 = vs_zr h 5 m 5 := by
  funext i
  show (if i / 5 = m ∧ i % 5 < 5 then 0 else vs_rs h s m c j i) = (if i / 5 = m ∧ i % 5 < 5 then 0 else h i)
  by_cases e : i / 5 = m ∧ i % 5 < 5
  · rw [if_pos e, if_pos e]
  · rw [if_neg e, if_neg e]
    exact if_neg (fun z => e ⟨z.1, by omega⟩)
theorem vs_zr_rsk (h : Nat → Nat) (s : Int32) (m w n : Nat) (g : Nat → Bool) : ∀ k, vs_zr (vs_rsk h s m w n g k) 5 m 5 = vs_zr h 5 m 5 := by
  intro k
  induction k with
  | zero => rfl
  | succ k ih =>
    cases e : g k
    · rw [vs_rsk_f k e]; exact ih
    · rw [vs_rsk_t k e, vs_zr_rs]; exact ih
theorem vs_zr_u (h : Nat → Nat) (m x : Nat) (hm : m < 5) : vs_zr (vs_u h (m * 5 + m) x) 5 m 5 = vs_zr h 5 m 5 := by
  funext i
  show (if i / 5 = m ∧ i % 5 < 5 then 0 else vs_u h (m * 5 + m) x i) = (if i / 5 = m ∧ i % 5 < 5 then 0 else h i)
  by_cases e : i / 5 = m ∧ i % 5 < 5
  · rw [if_pos e, if_pos e]
  · rw [if_neg e, if_neg e, vs_un (fun z => e ⟨by omega, by omega⟩)]
theorem vs_tp_0 (tp : Nat → Int32) (m k : Nat) : vs_u (vs_tp tp m k) m 0 = vs_u tp m 0 := by
  unfold vs_tp
  split
  · rfl
  · rw [vs_uu]
theorem vs_tpk_0 (tp : Nat → Int32) (m : Nat) (g : Nat → Bool) : ∀ k, vs_u (vs_tpk tp m g k) m 0 = vs_u tp m 0 := by
  intro k
  induction k with
  | zero => rfl
  | succ k ih =>
    cases e : g k
    · rw [vs_tpk_f k e]; exact ih
    · rw [vs_tpk_t k e, vs_tp_0]; exact ih
theorem vs_Hk_z (H : Nat → Nat → Bool) (m : Nat) (g : Nat → Bool) (k : Nat) : vs_u (vs_Hk H m g k) m (fun _ => false) = vs_u H m (fun _ => false) := by
  funext a
  by_cases e : a = m
  · rw [e, vs_us, vs_us]
  · rw [vs_un e, vs_un e, vs_Hk_o k e]
/-- Y: the common end of an install -/
theorem yw_in {post : Int32 → SY → Prop} {t C d : Nat} {s : Int32} {lg : Nat → List (Nat × Nat)} (Q : vs_YH n sn vw mv mn ho H) (E : vs_gE mv ho) (A : vs_YA n st ow li att) (L : vs_YL n lg fc fm fs fv) (hsd : ∀ i, sd i ≤ 48) (ht : t < n) (hn : n ≤ 5) (hw : w ≤ 8) (hv : vw t ≠ 0) (hC : C ≤ vs_N mv (vw t)) (hdC : d ≤ C) (eD : vs_D (lg t) (vw t) = d) (hx : ∀ k, 1 ≤ k → k ≤ C → vs_ix mv mn (vw t) k < 48) (hroom : (lg t).length + (vs_N mv (vw t) - d) ≤ 48) (hA : ∀ a, a < n → (lg a).length ≤ 48) (hh : ∀ i, hd i ≤ 48)
    (h : ∀ (ho' : Nat → Int32) (fc' : Nat) (fm' fs' fv' : Nat → Nat), vs_gE mv ho' → vs_YH n sn vw mv mn ho' (vs_Hk H t (vs_gi C H t) 49) → vs_YL n (vs_u lg t (lg t ++ vs_seg (fun k => (vs_ix mv mn (vw t) k, vw t)) d C)) fc' fm' fs' fv' →
      post 1 ((nI n), (nI w), (nI sn), (nI fc'), (nI st), (vs_u md t 2), (vs_u ins t (ins t ||| ((1 : Int32) <<< (nI (vw t + 1 - 1) &&& 31)))), (vs_I (vs_u vw t (vw t + 1))), (vs_u mk t s), (vs_u nw t (s &&& (mk t ^^^ (-1)))), (vs_I (vs_u ct t C)), (vs_u tp t 0), (vs_I (vs_zr hd 5 t 5)), (vs_u su t 0), (vs_u jo t 0), (vs_I (vs_u pr t 0)), (vs_I (vs_u ac t 0)), va, (vs_I sd), (vs_I (vs_wz wt sd t sn)), (vs_I mv), (vs_I mn), (vs_hz ho' t sn), (vs_I fm'), (vs_I fs'), (vs_I fv'), (vs_I ow), (vs_I (vs_le li ow t (st + 1))), re, (vs_I be), pm, (vs_I pc), aq)) :
    wY_install_334 post (nI t) s (nI C) (nI n) (nI w) (nI sn) (nI fc) (nI st) md ins (vs_I vw) mk nw (vs_I ct) tp (vs_I hd) su jo (vs_I pr) (vs_I ac) va (vs_I sd) (vs_I wt) (vs_I mv) (vs_I mn) ho (vs_I fm) (vs_I fs) (vs_I fv) (vs_I ow) (vs_I li) re (vs_I be) pm (vs_I pc) aq := by
  have hN48 := vs_N_le mv (vw t)
  have g0 : vs_gi C H t 0 = false := by
    show (decide (1 ≤ 0 ∧ 0 ≤ C) && !H t 0) = false
    rw [decide_eq_false (by omega), Bool.false_and]
  have go : wY_install_344 post (nI t) s (nI C) (nI d) (48 + 1) (nI 1) (nI n) (nI w) (nI sn) (nI fc) (nI st) md ins (vs_I vw) mk nw (vs_I ct) (vs_tpk tp t (vs_gi C H t) 1) (vs_I (vs_rsk hd (mk t) t w n (vs_gi C H t) 1)) su jo (vs_I pr) (vs_I ac) va (vs_I sd) (vs_I wt) (vs_I mv) (vs_I mn) ho (vs_I fm) (vs_I fs) (vs_I fv) (vs_I ow) (vs_I li) re (vs_I be) pm (vs_I pc) aq := by
    refine yw_in1 ht hn hw hv (by omega) hx hh (fun ho' Q' E' => ⟨48 + 1, ?_⟩) 48 1 ho (by omega) (by omega) (by rw [vs_k_1 g0]; exact Q) E
    refine yw_in2 Q' A hsd ht hn hv hC hdC (fun k a b => hx k (by omega) b) lg hroom hA (fun fc' fm' fs' fv' L' => ?_) 48 1 d fc fm fs fv (by omega) (fun _ => rfl) (fun a b => by omega) (fun a => by omega) (Nat.le_refl _) hdC ?_
    · rw [vs_zr_rsk, vs_tpk_0]
      exact h ho' fc' fm' fs' fv' E' Q' L'
    · rw [vs_seg_0, List.append_nil, vs_ui]; exact L
  rw [vs_tpk_f 0 g0, vs_rsk_f 0 g0] at go
  exact yw_del ht hn L (Q.2.2.2.1 t ht) eD ⟨48 + 1, go⟩
end
section
/-! install -/
variable {n w sn st fc : Nat} {md ins l1 l2 l3 l4 mk nw tp su jo am acu b1 b2 b3 o1 o2 xr xb xm xc xp xq xa va ho re pm aq VM : Nat → Int32} {lv lc vw ct dl pr ac hx bn oc att hd sd wt mv mn fm fs fv ow li be pc av VC : Nat → Nat} {lg : Nat → List (Nat × Nat)} {H : Nat → Nat → Bool}
theorem xw_admN {post : Int32 → SX → Prop} {f t : Nat} (hf : f < 5) (ht : t < 5) (hn : n ≤ 5) (hvb : vw f ≤ 16) (hlb : lv t ≤ 16) (hN : ¬ ((¬ nI (att f) = 0 ∧ ¬ xp f = 0 ∧ vs_sz (mk f) n < 2 * vs_sz (xa f) n) ∧ bt (xp f) t = true ∧ bt (mk f) t = false ∧ lv t < vw f + 1)) (h : post (-17) ((nI n), (nI w), (nI sn), (nI st), md, ins, (vs_I lv), (vs_I lc), l1, l2, l3, l4, (vs_I vw), mk, nw, (vs_I ct), (vs_I dl), tp, su, jo, (vs_I pr), (vs_I ac), am, acu, (vs_I hx), (vs_I bn), b1, b2, b3, (vs_I oc), o1, o2, (vs_I att), xr, xb, xm, xc, xp, xq, xa)) :
    wX_admit_55 post (nI f) (nI t) (nI n) (nI w) (nI sn) (nI st) md ins (vs_I lv) (vs_I lc) l1 l2 l3 l4 (vs_I vw) mk nw (vs_I ct) (vs_I dl) tp su jo (vs_I pr) (vs_I ac) am acu (vs_I hx) (vs_I bn) b1 b2 b3 (vs_I oc) o1 o2 (vs_I att) xr xb xm xc xp xq xa := by
  have ef : (nI f).toNatClampNeg = f := nI_clamp (by omega)
  have et : (nI t).toNatClampNeg = t := nI_clamp (by omega)
  have h0 : wX_admit_95 post (nI f) (nI t) (nI n) (nI w) (nI sn) (nI st) md ins (vs_I lv) (vs_I lc) l1 l2 l3 l4 (vs_I vw) mk nw (vs_I ct) (vs_I dl) tp su jo (vs_I pr) (vs_I ac) am acu (vs_I hx) (vs_I bn) b1 b2 b3 (vs_I oc) o1 o2 (vs_I att) xr xb xm xc xp xq xa := br_t rfl h
  unfold wX_admit_55
  by_cases d : ¬ nI (att f) = 0 ∧ ¬ xp f = 0 ∧ vs_sz (mk f) n < 2 * vs_sz (xa f) n
  · refine xw_dec1 hf hn d.1 d.2.1 d.2.2 (br_f (by decide) ⟨vs_in5 hf, ?_⟩)
    rw [ef]
    cases b1 : bt (xp f) t
    · exact xw_has0 (by omega) b1 (br_t rfl h0)
    · refine xw_has1 (by omega) b1 (br_f (by decide) ⟨vs_in5 hf, ?_⟩)
      cases b2 : bt (mk f) t
      · refine xw_has0 (by omega) b2 (br_t rfl (br_f (by decide) ⟨vs_in5 hf, vs_in5 ht, br_t ?_ h⟩))
        rw [ef, et, vs_Ia, vs_Ia, nI_1]
        refine nI_le ?_ (by omega)
        apply Classical.byContradiction
        intro z
        exact hN ⟨d, b1, b2, by omega⟩
      · exact xw_has1 (by omega) b2 (br_f (by decide) h0)
  · exact xw_dec0 hf hn d (br_t rfl h0)
theorem xw_admE {post : Int32 → SX → Prop} {f t : Nat} (hf : f < 5) (ht : t < 5) (hn : n ≤ 5) (hvb : vw f ≤ 15) (d : ¬ nI (att f) = 0 ∧ ¬ xp f = 0 ∧ vs_sz (mk f) n < 2 * vs_sz (xa f) n) (c1 : bt (xp f) t = true) (c2 : bt (mk f) t = false) (hl : lv t < vw f + 1)
    (h : wpX_enter (post 1) ((nI n), (nI w), (nI sn), (nI st), md, ins, (vs_I lv), (vs_I lc), l1, l2, l3, l4, (vs_I vw), mk, nw, (vs_I ct), (vs_I dl), tp, su, jo, (vs_I pr), (vs_I ac), am, acu, (vs_I hx), (vs_I bn), b1, b2, b3, (vs_I oc), o1, o2, (vs_I att), xr, xb, xm, xc, xp, xq, xa) (nI t) (nI (vw f + 1)) (xp f) (xp f &&& (mk f ^^^ (-1))) (nI 0)) :
    wX_admit_55 post (nI f) (nI t) (nI n) (nI w) (nI sn) (nI st) md ins (vs_I lv) (vs_I lc) l1 l2 l3 l4 (vs_I vw) mk nw (vs_I ct) (vs_I dl) tp su jo (vs_I pr) (vs_I ac) am acu (vs_I hx) (vs_I bn) b1 b2 b3 (vs_I oc) o1 o2 (vs_I att) xr xb xm xc xp xq xa := by
  have ef : (nI f).toNatClampNeg = f := nI_clamp (by omega)
  have et : (nI t).toNatClampNeg = t := nI_clamp (by omega)
  unfold wX_admit_55
  refine xw_dec1 hf hn d.1 d.2.1 d.2.2 (br_f (by decide) ⟨vs_in5 hf, ?_⟩)
  rw [ef]
  refine xw_has1 (by omega) c1 (br_f (by decide) ⟨vs_in5 hf, xw_has0 (by omega) c2 (br_t rfl (br_f (by decide) ⟨vs_in5 hf, vs_in5 ht, br_f ?_ ⟨vs_in5 hf, nm_e ⟨vs_in5 hf, vs_in5 hf, ?_⟩⟩⟩))⟩)
  · rw [ef, et, vs_Ia, vs_Ia, nI_1]; exact nI_ge hl (by omega)
  · rw [ef, vs_Ia, nI_1]; exact h
theorem yw_admN {post : Int32 → SY → Prop} {f t a l : Nat} {r : Int32} (hf : f < 5) (ht : t < 5) (ha : a ≤ 60) (hvb : vw f ≤ 16) (hlb : l ≤ 16) (hN : ¬ (¬ r = 0 ∧ bt (pm a) t = true ∧ bt (mk f) t = false ∧ l < vw f + 1)) (h : post (-17) ((nI n), (nI w), (nI sn), (nI fc), (nI st), md, ins, (vs_I vw), mk, nw, (vs_I ct), tp, (vs_I hd), su, jo, (vs_I pr), (vs_I ac), va, (vs_I sd), (vs_I wt), (vs_I mv), (vs_I mn), ho, (vs_I fm), (vs_I fs), (vs_I fv), (vs_I ow), (vs_I li), re, (vs_I be), pm, (vs_I pc), aq)) :
    wY_install_119 post (nI f) (nI t) (nI a) r (nI l) (nI n) (nI w) (nI sn) (nI fc) (nI st) md ins (vs_I vw) mk nw (vs_I ct) tp (vs_I hd) su jo (vs_I pr) (vs_I ac) va (vs_I sd) (vs_I wt) (vs_I mv) (vs_I mn) ho (vs_I fm) (vs_I fs) (vs_I fv) (vs_I ow) (vs_I li) re (vs_I be) pm (vs_I pc) aq := by
  have ef : (nI f).toNatClampNeg = f := nI_clamp (by omega)
  have ea : (nI a).toNatClampNeg = a := nI_clamp (by omega)
  by_cases d : r = 0
  · exact br_t d h
  · refine br_f d ⟨vp_in_nI (by omega) (by omega), ?_⟩
    rw [ea, ef]
    cases b1 : bt (pm a) t
    · exact yw_has0 (by omega) b1 (br_t rfl h)
    · refine yw_has1 (by omega) b1 (br_f (by decide) ⟨vs_in5 hf, ?_⟩)
      cases b2 : bt (mk f) t
      · refine yw_has0 (by omega) b2 (br_t rfl ⟨vs_in5 hf, br_t ?_ h⟩)
        rw [vs_Ia, nI_1]
        refine nI_le ?_ (by omega)
        apply Classical.byContradiction
        intro z
        exact hN ⟨d, b1, b2, by omega⟩
      · exact yw_has1 (by omega) b2 (br_f (by decide) h)
theorem yw_admE {post : Int32 → SY → Prop} {f t a l : Nat} {r : Int32} (hf : f < 5) (ht : t < 5) (ha : a ≤ 60) (hvb : vw f ≤ 15) (d : ¬ r = 0) (b1 : bt (pm a) t = true) (b2 : bt (mk f) t = false) (hl : l < vw f + 1)
    (h : wpY_enter (post 1) ((nI n), (nI w), (nI sn), (nI fc), (nI st), md, ins, (vs_I vw), mk, nw, (vs_I ct), tp, (vs_I hd), su, jo, (vs_I pr), (vs_I ac), va, (vs_I sd), (vs_I wt), (vs_I mv), (vs_I mn), ho, (vs_I fm), (vs_I fs), (vs_I fv), (vs_I ow), (vs_I li), re, (vs_I be), pm, (vs_I pc), aq) (nI t) (nI (vw f + 1)) (pm a) (pm a &&& (mk f ^^^ (-1))) (nI 0)) :
    wY_install_119 post (nI f) (nI t) (nI a) r (nI l) (nI n) (nI w) (nI sn) (nI fc) (nI st) md ins (vs_I vw) mk nw (vs_I ct) tp (vs_I hd) su jo (vs_I pr) (vs_I ac) va (vs_I sd) (vs_I wt) (vs_I mv) (vs_I mn) ho (vs_I fm) (vs_I fs) (vs_I fv) (vs_I ow) (vs_I li) re (vs_I be) pm (vs_I pc) aq := by
  have ef : (nI f).toNatClampNeg = f := nI_clamp (by omega)
  have ea : (nI a).toNatClampNeg = a := nI_clamp (by omega)
  have hia : vp_in (nI a) 61 := vp_in_nI (by omega) (by omega)
  refine br_f d ⟨hia, ?_⟩
  rw [ea, ef]
  refine yw_has1 (by omega) b1 (br_f (by decide) ⟨vs_in5 hf, yw_has0 (by omega) b2 (br_t rfl ⟨vs_in5 hf, br_f ?_ ⟨vs_in5 hf, hia, hia, vs_in5 hf, ?_⟩⟩)⟩)
  · rw [vs_Ia, nI_1]; exact nI_ge hl (by omega)
  · rw [vs_Ia, nI_1]; exact h
/-- a member that is let in (no log to finish): the new relation -/
theorem vs_adm_fin {k m v : Nat} {s q : Int32} (hm : m < n) (hlv : lv m < v) (hv16 : v ≤ 16) (hs : s = VM v) (hq : q = VM v &&& (VM (v - 1) ^^^ (-1))) (hb1 : bt (VM v) m = true) (hb0 : bt (VM (v - 1)) m = false)
    (h6 : ∀ x, 1 ≤ x → x < v → ∃ a, 1 ≤ a ∧ a ≤ st ∧ av a = x ∧ pm a ≠ 0 ∧ vs_sz (VM x) n < 2 * vs_sz (aq a) n) (hI : vs_Inv n w sn st md ins lv vw mk nw jo su ct dl pr ac hd mv mn wt sd ho lg H att re be pm pc aq av VM VC) (hX : vs_RX n sn lg H vw mv mn va sd wt dl hd hx lc l1 l2 l3 l4 bn b1 b2 b3 oc o1 o2 att re be pm pc aq ac xr xb xm xc xp xq xa am acu) (hY : vs_RY n sn st vw mv mn ho H lg fc fm fs fv ow li att pm aq w mk hd) :
    i_Rel k ((nI n), (nI w), (nI sn), (nI st), (vs_u md m 2), (vs_u ins m (ins m ||| ((1 : Int32) <<< (nI (v - 1) &&& 31)))), (vs_I (vs_u lv m v)), (vs_I lc), l1, l2, l3, l4, (vs_I (vs_u vw m v)), (vs_u mk m s), (vs_u nw m q), (vs_I (vs_u ct m 0)), (vs_I (vs_u dl m 0)), (vs_u tp m 0), (vs_u su m 0), (vs_u jo m 0), (vs_I (vs_u pr m 0)), (vs_I (vs_u ac m 0)), (vs_u am m 0), (vs_u acu m 0), (vs_I (vs_zr hx 5 m 5)), (vs_I (vs_zr bn 8 m 8)), b1, b2, b3, (vs_I (vs_u oc m 0)), o1, o2, (vs_I (vs_u att m 0)), (vs_u xr m 0), (vs_u xb m 0), (vs_u xm m 0), (vs_u xc m 0), (vs_u xp m 0), (vs_u xq m 0), (vs_u xa m 0))
      ((nI n), (nI w), (nI sn), (nI fc), (nI st), (vs_u md m 2), (vs_u ins m (ins m ||| ((1 : Int32) <<< (nI (v - 1) &&& 31)))), (vs_I (vs_u vw m v)), (vs_u mk m s), (vs_u nw m q), (vs_I (vs_u ct m 0)), (vs_u tp m 0), (vs_I (vs_zr hd 5 m 5)), (vs_u su m 0), (vs_u jo m 0), (vs_I (vs_u pr m 0)), (vs_I (vs_u ac m 0)), va, (vs_I sd), (vs_I (vs_wz wt sd m sn)), (vs_I mv), (vs_I mn), (vs_hz ho m sn), (vs_I fm), (vs_I fs), (vs_I fv), (vs_I ow), (vs_I (vs_le li ow m (st + 1))), re, (vs_I be), pm, (vs_I pc), aq) := by
  have hI0 := hI
  subst hs hq
  obtain ⟨⟨hn3, hn5, hw1, hw8, hst⟩, gM, gI, gV, gJ, gS, gT, gE, gL, gD, gH, gN, gO, gK, gA, gR, gQ, gB, g2, g3, g4, g5, g6, g7, g8, gC1, gC2, gC3, gC4, gF, gC5⟩ := hI
  obtain ⟨XL, RA, XH, XO, XA⟩ := hX
  obtain ⟨YH, YL, YA, Y6, Y7⟩ := hY
  have I3 := vs_enter_Inv (x := 0) (d := vs_D (lg m) 0) (d' := vs_D (lg m) 0) (v := v) (c := 0) hm hlv hv16 hb1 (by omega) (Or.inl rfl) rfl (Nat.le_refl _) (by rw [vs_D_0 (fun i x hx => ((gL m hm).1 i x hx).1)]; exact Nat.zero_le _) (fun _ z => by rw [hb0] at z; cases z) h6 hI0
  rw [vs_seg_0, List.append_nil, vs_ui] at I3
  exact zz_in I3 ⟨XL, vs_fg_RA RA hm, vs_fg_XH XH hn5 hm, vs_fg_XO XO, vs_fg_XA XA g8⟩ ⟨vs_fg_YH YH hn5 hm (by omega), YL, vs_fg_YA YA, vs_6_0 Y6, vs_7_fg Y7 hn5⟩
/-- a member that goes on to the next view: the new relation -/
theorem vs_next_fin {k t C fc' : Nat} {s q : Int32} {g1 g2 : Nat → Bool} {bn' lc' fm' fs' fv' : Nat → Nat} {b1' b2' b3' l1' l2' l3' l4' ho' : Nat → Int32} (ht : t < n) (hvt : vw t ≠ 0) (hv16 : vw t ≤ 15) (hs : s = VM (vw t + 1)) (hq : q = VM (vw t + 1) &&& (VM (vw t) ^^^ (-1))) (hb1 : bt (VM (vw t + 1)) t = true) (hC : C = VC (vw t + 1)) (hC48 : C ≤ 48) (hdC : dl t ≤ C) (hCN : C ≤ vs_N mv (vw t))
    (h6 : ∀ x, 1 ≤ x → x < vw t + 1 → ∃ a, 1 ≤ a ∧ a ≤ st ∧ av a = x ∧ pm a ≠ 0 ∧ vs_sz (VM x) n < 2 * vs_sz (aq a) n) (E' : vs_gE mv ho') (RA' : vs_RA n (vs_Hk H t g1 49) vw mv mn va sd bn' b1' b2' b3') (Q' : vs_YH n sn vw mv mn ho' (vs_Hk H t g2 49))
    (XL' : vs_XL n (vs_u lg t (lg t ++ vs_seg (fun k => (vs_ix mv mn (vw t) k, vw t)) (dl t) C)) va sd lc' l1' l2' l3' l4') (YL' : vs_YL n (vs_u lg t (lg t ++ vs_seg (fun k => (vs_ix mv mn (vw t) k, vw t)) (dl t) C)) fc' fm' fs' fv') (hI : vs_Inv n w sn st md ins lv vw mk nw jo su ct dl pr ac hd mv mn wt sd ho lg H att re be pm pc aq av VM VC) (hX : vs_RX n sn lg H vw mv mn va sd wt dl hd hx lc l1 l2 l3 l4 bn b1 b2 b3 oc o1 o2 att re be pm pc aq ac xr xb xm xc xp xq xa am acu) (hY : vs_RY n sn st vw mv mn ho H lg fc fm fs fv ow li att pm aq w mk hd) :
    i_Rel k ((nI n), (nI w), (nI sn), (nI st), (vs_u md t 2), (vs_u ins t (ins t ||| ((1 : Int32) <<< (nI (vw t + 1 - 1) &&& 31)))), (vs_I (vs_u lv t (vw t + 1))), (vs_I lc'), l1', l2', l3', l4', (vs_I (vs_u vw t (vw t + 1))), (vs_u mk t s), (vs_u nw t q), (vs_I (vs_u ct t C)), (vs_I (vs_u dl t 0)), (vs_u tp t 0), (vs_u su t 0), (vs_u jo t 0), (vs_I (vs_u pr t 0)), (vs_I (vs_u ac t 0)), (vs_u am t 0), (vs_u acu t 0), (vs_I (vs_zr hx 5 t 5)), (vs_I (vs_zr bn' 8 t 8)), b1', b2', b3', (vs_I (vs_u oc t 0)), o1, o2, (vs_I (vs_u att t 0)), (vs_u xr t 0), (vs_u xb t 0), (vs_u xm t 0), (vs_u xc t 0), (vs_u xp t 0), (vs_u xq t 0), (vs_u xa t 0))
      ((nI n), (nI w), (nI sn), (nI fc'), (nI st), (vs_u md t 2), (vs_u ins t (ins t ||| ((1 : Int32) <<< (nI (vw t + 1 - 1) &&& 31)))), (vs_I (vs_u vw t (vw t + 1))), (vs_u mk t s), (vs_u nw t q), (vs_I (vs_u ct t C)), (vs_u tp t 0), (vs_I (vs_zr hd 5 t 5)), (vs_u su t 0), (vs_u jo t 0), (vs_I (vs_u pr t 0)), (vs_I (vs_u ac t 0)), va, (vs_I sd), (vs_I (vs_wz wt sd t sn)), (vs_I mv), (vs_I mn), (vs_hz ho' t sn), (vs_I fm'), (vs_I fs'), (vs_I fv'), (vs_I ow), (vs_I (vs_le li ow t (st + 1))), re, (vs_I be), pm, (vs_I pc), aq) := by
  have hI0 := hI
  subst hs hq
  obtain ⟨⟨hn3, hn5, hw1, hw8, hst⟩, gM, gI, gV, gJ, gS, gT, gE, gL, gD, gH, gN, gO, gK, gA, gR, gQ, gB, g2, g3, g4, g5, g6, g7, g8, gC1, gC2, gC3, gC4, gF, gC5⟩ := hI
  obtain ⟨XL, RA, XH, XO, XA⟩ := hX
  obtain ⟨YH, YL, YA, Y6, Y7⟩ := hY
  have Vt := gV.1 t ht hvt
  have hI1 : vs_Inv n w sn st md ins lv vw mk nw jo su ct dl pr ac hd mv mn wt sd ho' lg H att re be pm pc aq av VM VC := by
    obtain ⟨a1, a2, a3, a4, a5, a6, a7, a8, a9⟩ := hI0
    exact ⟨a1, a2, a3, a4, a5, a6, a7, E', a9⟩
  have F := vs_dv_F (m := t) (d' := C) gF hdC
  have Ft := (F t ht).2 hvt
  rw [vs_us, vs_us] at Ft
  have I3 := vs_enter_Inv (x := vw t) (d := dl t) (d' := C) (v := vw t + 1) (c := C) ht (by omega) (by omega) hb1 hC48 (Or.inr ⟨hvt, Nat.le_of_eq Vt.1⟩) ((gD t ht).1 hvt) hdC hCN (fun _ _ => ⟨hC, Ft.1, fun j hj => by rw [Nat.add_sub_cancel]; exact Ft.2.1 j hj⟩) h6 hI1
  rw [Nat.add_sub_cancel] at I3
  have R1 := vs_fg_RA (v := vw t + 1) RA' ht
  have Y1 := vs_fg_YH (v := vw t + 1) Q' hn5 ht (by omega)
  rw [vs_Hk_z] at R1 Y1
  rw [Nat.add_sub_cancel]
  exact zz_in I3 ⟨XL', R1, vs_fg_XH XH hn5 ht, vs_fg_XO XO, vs_fg_XA XA g8⟩ ⟨Y1, YL', vs_fg_YA YA, vs_6_0 Y6, vs_7_fg Y7 hn5⟩
end
section
/-! install: the call -/
theorem i_vc_install {k : Nat} {u : SX} {v : SY} (I : i_Rel k u v) (hk : k + 4 ≤ 2050) (v1 : Int32) (v2 : Int32) : wpX_install (fun r u' => wpY_install (fun r' v' => r' = r ∧ i_Rel (k + 4) u' v') v v1 v2) u v1 v2 := by
  refine zz_el (P := fun u v => wpX_install (fun r u' => wpY_install (fun r' v' => r' = r ∧ i_Rel (k + 4) u' v') v v1 v2) u v1 v2) ?_ I
  intro n w sn st md ins lv lc l1 l2 l3 l4 vw mk nw ct dl tp su jo pr ac am acu hx bn b1 b2 b3 oc o1 o2 att xr xb xm xc xp xq xa fc hd va sd wt mv mn ho fm fs fv ow li re be pm pc aq lg H av VM VC hI hX hY
  have fin : i_Rel (k + 4) ((nI n), (nI w), (nI sn), (nI st), md, ins, (vs_I lv), (vs_I lc), l1, l2, l3, l4, (vs_I vw), mk, nw, (vs_I ct), (vs_I dl), tp, su, jo, (vs_I pr), (vs_I ac), am, acu, (vs_I hx), (vs_I bn), b1, b2, b3, (vs_I oc), o1, o2, (vs_I att), xr, xb, xm, xc, xp, xq, xa) ((nI n), (nI w), (nI sn), (nI fc), (nI st), md, ins, (vs_I vw), mk, nw, (vs_I ct), tp, (vs_I hd), su, jo, (vs_I pr), (vs_I ac), va, (vs_I sd), (vs_I wt), (vs_I mv), (vs_I mn), ho, (vs_I fm), (vs_I fs), (vs_I fv), (vs_I ow), (vs_I li), re, (vs_I be), pm, (vs_I pc), aq) := zz_in hI hX hY
  have hI0 := hI
  have hX0 := hX
  have hY0 := hY
  obtain ⟨⟨hn3, hn5, hw1, hw8, hst⟩, gM, gI, gV, gJ, gS, gT, gE, gL, gD, gH, gN, gO, gK, gA, gR, gQ, gB, g2, g3, g4, g5, g6, g7, g8, gC1, gC2, gC3, gC4, gF, gC5⟩ := hI
  obtain ⟨XL, RA, XH, XO, XA⟩ := hX
  obtain ⟨YH, YL, YA, Y6, Y7⟩ := hY
  unfold wpX_install
  rcases vs_arg n hn5 v1 with hb | ⟨f, hf, rfl⟩
  · refine xw_bad1 hb (br_f (by decide) ?_)
    unfold wpY_install
    exact yw_bad1 hb (br_f (by decide) ⟨rfl, fin⟩)
  rcases vs_arg n hn5 v2 with hb | ⟨t, ht, rfl⟩
  · refine xw_bad0 hf hn5 (br_t rfl (xw_bad1 hb (br_f (by decide) ?_)))
    unfold wpY_install
    exact yw_bad0 hf hn5 (br_t rfl (yw_bad1 hb (br_f (by decide) ⟨rfl, fin⟩)))
  have hf5 : f < 5 := by omega
  have ht5 : t < 5 := by omega
  have hif := vs_in5 hf5
  have hit := vs_in5 ht5
  have ef : (nI f).toNatClampNeg = f := nI_clamp (by omega)
  have et : (nI t).toNatClampNeg = t := nI_clamp (by omega)
  simp only [ef, et, vs_Ia]
  refine xw_bad0 hf hn5 (br_t rfl (xw_bad0 ht hn5 (br_t rfl ?_)))
  by_cases hvf : md f = 2 ∨ md f = 3
  case neg =>
    refine xw_iv0 hf5 hvf (br_t rfl ?_)
    unfold wpY_install
    exact yw_bad0 hf hn5 (br_t rfl (yw_bad0 ht hn5 (br_t rfl (yw_iv0 hf5 hvf (br_t rfl ⟨rfl, fin⟩)))))
  refine xw_iv1 hf5 hvf (br_f (by decide) ⟨hit, ?_⟩)
  by_cases m0 : md t = 0
  · refine br_t m0 ?_
    unfold wpY_install
    simp only [ef, et, vs_Ia]
    exact yw_bad0 hf hn5 (br_t rfl (yw_bad0 ht hn5 (br_t rfl (yw_iv1 hf5 hvf (br_f (by decide) ⟨hit, br_t m0 ⟨by trivial, fin⟩⟩)))))
  refine br_f m0 ⟨hit, ?_⟩
  have hvf0 := ((gM f hf).2).mp hvf
  have Vf := gV.1 f hf hvf0
  have hlf := (gI f hf).2.1
  have hlt := (gI t ht).2.1
  have hast := (gA f hf).1
  have Xf := XA f hf
  have ea : (nI (att f)).toNatClampNeg = att f := nI_clamp (by omega)
  have hia : vp_in (nI (att f)) 61 := vp_in_nI (by omega) (by omega)
  have z0 := g8.1 0 (Or.inl rfl)
  -- what 'decided' is
  have s1 : vs_sz (mk f) 5 = vs_sz (mk f) n := vs_sz5 hn5 (fun j hj => by rw [Vf.2.1] at hj; exact gV.2 _ j hj)
  have s2 : vs_sz (aq (att f)) 5 = vs_sz (aq (att f)) n := by
    by_cases a0 : att f = 0
    · rw [a0, z0.2.2.2.2, vs_sz_0 (fun j => b_0 j), vs_sz_0 (fun j => b_0 j)]
    · exact vs_sz5 hn5 (fun j hj => (gQ (att f) (by omega) hast j hj).1)
  have xiff : (¬ nI (att f) = 0 ∧ ¬ xp f = 0 ∧ vs_sz (mk f) n < 2 * vs_sz (xa f) n) ↔ (¬ pm (att f) = 0 ∧ vs_sz (mk f) n < 2 * vs_sz (aq (att f)) n) := by
    rw [Xf.2.2.2.2.1, Xf.2.2.2.2.2.2.1]
    refine ⟨fun z => z.2, fun z => ⟨fun y => ?_, z⟩⟩
    have : att f = 0 := (nI_eq (b := 0) (by omega) (by omega)).mp y
    rw [this] at z
    exact z.1 z0.2.2.1
  have yd1 : (¬ pm (att f) = 0 ∧ vs_sz (mk f) n < 2 * vs_sz (aq (att f)) n) → ∀ post : Int32 → Prop, post 1 → wpY_decided post ((nI n), (nI w), (nI sn), (nI fc), (nI st), md, ins, (vs_I vw), mk, nw, (vs_I ct), tp, (vs_I hd), su, jo, (vs_I pr), (vs_I ac), va, (vs_I sd), (vs_I wt), (vs_I mv), (vs_I mn), ho, (vs_I fm), (vs_I fs), (vs_I fv), (vs_I ow), (vs_I li), re, (vs_I be), pm, (vs_I pc), aq) (nI f) := fun D post h => yw_dec1 hf hn5 YA D.1 (by rw [s1, s2]; exact D.2) h
  have yd0 : ¬ (¬ pm (att f) = 0 ∧ vs_sz (mk f) n < 2 * vs_sz (aq (att f)) n) → ∀ post : Int32 → Prop, post 0 → wpY_decided post ((nI n), (nI w), (nI sn), (nI fc), (nI st), md, ins, (vs_I vw), mk, nw, (vs_I ct), tp, (vs_I hd), su, jo, (vs_I pr), (vs_I ac), va, (vs_I sd), (vs_I wt), (vs_I mv), (vs_I mn), ho, (vs_I fm), (vs_I fs), (vs_I fv), (vs_I ow), (vs_I li), re, (vs_I be), pm, (vs_I pc), aq) (nI f) := fun D post h => yw_dec0 hf hn5 YA (by rw [s1, s2]; exact D) h
  have chosen : (¬ pm (att f) = 0 ∧ vs_sz (mk f) n < 2 * vs_sz (aq (att f)) n) → att f ≠ 0 ∧ av (att f) = vw f ∧ vw f ≤ 15 ∧ VM (vw f + 1) = pm (att f) ∧ VC (vw f + 1) = pc (att f) := by
    intro D
    have a0 : att f ≠ 0 := fun z => D.1 (by rw [z]; exact z0.2.2.1)
    have Af := (gA f hf).2 a0
    have R := gR (att f) (by omega) hast
    have t5 := g5 (att f) (by omega) hast D.1 (by rw [← Af.2.1, ← Vf.2.1]; exact D.2)
    rw [← Af.2.1] at t5
    exact ⟨a0, Af.2.1.symm, by rw [Af.2.1]; exact R.2.1, t5⟩
  have h6f : ∀ x, 1 ≤ x → x < vw f → ∃ a, 1 ≤ a ∧ a ≤ st ∧ av a = x ∧ pm a ≠ 0 ∧ vs_sz (VM x) n < 2 * vs_sz (aq a) n := fun x h1 h2 => g6 f hf x h1 (by rw [← Vf.1]; exact h2)
  have h6n : (¬ pm (att f) = 0 ∧ vs_sz (mk f) n < 2 * vs_sz (aq (att f)) n) → ∀ x, 1 ≤ x → x < vw f + 1 → ∃ a, 1 ≤ a ∧ a ≤ st ∧ av a = x ∧ pm a ≠ 0 ∧ vs_sz (VM x) n < 2 * vs_sz (aq a) n := by
    intro D x h1 h2
    have c := chosen D
    by_cases e : x = vw f
    · exact ⟨att f, by omega, hast, by rw [c.2.1, e], D.1, by rw [e, ← Vf.2.1]; exact D.2⟩
    · exact h6f x h1 (by omega)
  by_cases m1 : md t = 1
  · -- a joining member
    refine br_t m1 ?_
    have Yl : ∀ post : Int32 → Prop, post (nI (lv t)) → wpY_lastView post ((nI n), (nI w), (nI sn), (nI fc), (nI st), md, ins, (vs_I vw), mk, nw, (vs_I ct), tp, (vs_I hd), su, jo, (vs_I pr), (vs_I ac), va, (vs_I sd), (vs_I wt), (vs_I mv), (vs_I mn), ho, (vs_I fm), (vs_I fs), (vs_I fv), (vs_I ow), (vs_I li), re, (vs_I be), pm, (vs_I pc), aq) (nI t) := fun post h => yw_lastView ht5 hlt (gI t ht).2.2.1 (Or.inr (gI t ht).2.2.2) h
    have hN' : (∃ r : Int32, ((r = 0 ↔ ¬ (¬ pm (att f) = 0 ∧ vs_sz (mk f) n < 2 * vs_sz (aq (att f)) n)) ∧ ∀ post : Int32 → Prop, post r → wpY_decided post ((nI n), (nI w), (nI sn), (nI fc), (nI st), md, ins, (vs_I vw), mk, nw, (vs_I ct), tp, (vs_I hd), su, jo, (vs_I pr), (vs_I ac), va, (vs_I sd), (vs_I wt), (vs_I mv), (vs_I mn), ho, (vs_I fm), (vs_I fs), (vs_I fv), (vs_I ow), (vs_I li), re, (vs_I be), pm, (vs_I pc), aq) (nI f))) := by
      by_cases D : ¬ pm (att f) = 0 ∧ vs_sz (mk f) n < 2 * vs_sz (aq (att f)) n
      · exact ⟨1, ⟨fun z => absurd z (by decide), fun z => (z D).elim⟩, yd1 D⟩
      · exact ⟨0, ⟨fun _ => D, fun _ => rfl⟩, yd0 D⟩
    obtain ⟨rd, hrd, ydr⟩ := hN'
    -- both sides go on to the proposal's newcomers when the view's own newcomers don't serve
    have step2 : ∀ (X2 : ∀ post : Int32 → SX → Prop, wX_admit_55 post (nI f) (nI t) (nI n) (nI w) (nI sn) (nI st) md ins (vs_I lv) (vs_I lc) l1 l2 l3 l4 (vs_I vw) mk nw (vs_I ct) (vs_I dl) tp su jo (vs_I pr) (vs_I ac) am acu (vs_I hx) (vs_I bn) b1 b2 b3 (vs_I oc) o1 o2 (vs_I att) xr xb xm xc xp xq xa → wpX_admit post ((nI n), (nI w), (nI sn), (nI st), md, ins, (vs_I lv), (vs_I lc), l1, l2, l3, l4, (vs_I vw), mk, nw, (vs_I ct), (vs_I dl), tp, su, jo, (vs_I pr), (vs_I ac), am, acu, (vs_I hx), (vs_I bn), b1, b2, b3, (vs_I oc), o1, o2, (vs_I att), xr, xb, xm, xc, xp, xq, xa) (nI f) (nI t)) (Y2 : ∀ post : Int32 → SY → Prop, wY_install_119 post (nI f) (nI t) (nI (att f)) rd (nI (lv t)) (nI n) (nI w) (nI sn) (nI fc) (nI st) md ins (vs_I vw) mk nw (vs_I ct) tp (vs_I hd) su jo (vs_I pr) (vs_I ac) va (vs_I sd) (vs_I wt) (vs_I mv) (vs_I mn) ho (vs_I fm) (vs_I fs) (vs_I fv) (vs_I ow) (vs_I li) re (vs_I be) pm (vs_I pc) aq → wpY_install post ((nI n), (nI w), (nI sn), (nI fc), (nI st), md, ins, (vs_I vw), mk, nw, (vs_I ct), tp, (vs_I hd), su, jo, (vs_I pr), (vs_I ac), va, (vs_I sd), (vs_I wt), (vs_I mv), (vs_I mn), ho, (vs_I fm), (vs_I fs), (vs_I fv), (vs_I ow), (vs_I li), re, (vs_I be), pm, (vs_I pc), aq) (nI f) (nI t)), wpX_admit (fun r u' => wpY_install (fun r' v' => r' = r ∧ i_Rel (k + 4) u' v') ((nI n), (nI w), (nI sn), (nI fc), (nI st), md, ins, (vs_I vw), mk, nw, (vs_I ct), tp, (vs_I hd), su, jo, (vs_I pr), (vs_I ac), va, (vs_I sd), (vs_I wt), (vs_I mv), (vs_I mn), ho, (vs_I fm), (vs_I fs), (vs_I fv), (vs_I ow), (vs_I li), re, (vs_I be), pm, (vs_I pc), aq) (nI f) (nI t)) ((nI n), (nI w), (nI sn), (nI st), md, ins, (vs_I lv), (vs_I lc), l1, l2, l3, l4, (vs_I vw), mk, nw, (vs_I ct), (vs_I dl), tp, su, jo, (vs_I pr), (vs_I ac), am, acu, (vs_I hx), (vs_I bn), b1, b2, b3, (vs_I oc), o1, o2, (vs_I att), xr, xb, xm, xc, xp, xq, xa) (nI f) (nI t) := by
      intro X2 Y2
      apply X2
      by_cases D : ¬ pm (att f) = 0 ∧ vs_sz (mk f) n < 2 * vs_sz (aq (att f)) n
      · have ch := chosen D
        by_cases B : bt (pm (att f)) t = true ∧ bt (mk f) t = false ∧ lv t < vw f + 1
        · refine xw_admE hf5 ht5 hn5 ch.2.2.1 (xiff.mpr D) (by rw [Xf.2.2.2.2.1]; exact B.1) B.2.1 B.2.2 (xw_enter ht5 B.2.2 (by omega) ?_)
          apply Y2
          refine yw_admE hf5 ht5 (by omega) ch.2.2.1 (fun z => hrd.mp z D) B.1 B.2.1 B.2.2 (yw_enter ht hn5 YA gT.2.2.2.2.2.1 (fun i => (gT.2.2.2.2.1 i).2) (by omega) ⟨rfl, ?_⟩)
          rw [Xf.2.2.2.2.1]
          have hb0 : bt (VM (vw f)) t = false := by rw [← Vf.2.1]; exact B.2.1
          exact vs_adm_fin (k := k + 4) (m := t) (v := vw f + 1) (s := pm (att f)) (q := pm (att f) &&& (mk f ^^^ (-1))) ht B.2.2 (by omega) ch.2.2.2.1.symm (by rw [ch.2.2.2.1, Nat.add_sub_cancel, ← Vf.2.1]) (by rw [ch.2.2.2.1]; exact B.1) (by rw [Nat.add_sub_cancel]; exact hb0) (h6n D) hI0 hX0 hY0
        · refine xw_admN hf5 ht5 hn5 (by omega) hlt (fun z => B ⟨by rw [← Xf.2.2.2.2.1]; exact z.2.1, z.2.2.1, z.2.2.2⟩) ?_
          apply Y2
          exact yw_admN hf5 ht5 (by omega) (by omega) hlt (fun z => B z.2) ⟨rfl, fin⟩
      · refine xw_admN hf5 ht5 hn5 (by omega) hlt (fun z => D (xiff.mp z.1)) ?_
        apply Y2
        exact yw_admN hf5 ht5 (by omega) (by omega) hlt (fun z => z.1 (hrd.mpr D)) ⟨rfl, fin⟩
    cases b0 : bt (nw f) t
    · refine step2 ?_ ?_
      · intro post h
        refine ⟨hif, ?_⟩
        rw [ef]
        exact xw_has0 (by omega) b0 (br_t rfl h)
      · intro post h
        unfold wpY_install
        simp only [ef, et, vs_Ia]
        exact yw_bad0 hf hn5 (br_t rfl (yw_bad0 ht hn5 (br_t rfl (yw_iv1 hf5 hvf (br_f (by decide) ⟨hit, br_f m0 (yw_attemptOf hf hn5 YA (ydr _ ⟨hit, br_t m1 (Yl _ ⟨hif, yw_has0 (by omega) b0 (br_t rfl h)⟩)⟩))⟩)))))
    · by_cases l0 : lv t < vw f
      · refine ⟨hif, ?_⟩
        rw [ef]
        refine xw_has1 (by omega) b0 (br_f (by decide) ⟨hif, hit, ?_⟩)
        rw [et, vs_Ia, vs_Ia]
        refine br_f (nI_ge l0 (by omega)) ⟨hif, hif, hif, xw_enter (c := 0) ht5 l0 (by omega) ?_⟩
        unfold wpY_install
        simp only [ef, et, vs_Ia]
        refine yw_bad0 hf hn5 (br_t rfl (yw_bad0 ht hn5 (br_t rfl (yw_iv1 hf5 hvf (br_f (by decide) ⟨hit, br_f m0 (yw_attemptOf hf hn5 YA (ydr _ ⟨hit, br_t m1 (Yl _ ⟨hif, yw_has1 (by omega) b0 (br_f (by decide) ⟨hif, br_f (nI_ge l0 (by omega)) ⟨hif, hif, hif, yw_enter (c := 0) ht hn5 YA gT.2.2.2.2.2.1 (fun i => (gT.2.2.2.2.1 i).2) (by omega) ⟨by trivial, ?_⟩⟩⟩)⟩)⟩))⟩)))))
        have eb := b0
        rw [Vf.2.2.1, vs_bnot, Bool.and_eq_true] at eb
        have hb0 : bt (VM (vw f - 1)) t = false := by
          cases z : bt (VM (vw f - 1)) t
          · rfl
          · rw [z] at eb; exact absurd eb.2 (by decide)
        exact vs_adm_fin (k := k + 4) (m := t) (v := vw f) ht l0 (by omega) Vf.2.1 Vf.2.2.1 eb.1 hb0 h6f hI0 hX0 hY0
      · refine step2 ?_ ?_
        · intro post h
          refine ⟨hif, ?_⟩
          rw [ef]
          refine xw_has1 (by omega) b0 (br_f (by decide) ⟨hif, hit, ?_⟩)
          rw [et, vs_Ia, vs_Ia]
          exact br_t (nI_le (by omega) (by omega)) h
        · intro post h
          unfold wpY_install
          simp only [ef, et, vs_Ia]
          exact yw_bad0 hf hn5 (br_t rfl (yw_bad0 ht hn5 (br_t rfl (yw_iv1 hf5 hvf (br_f (by decide) ⟨hit, br_f m0 (yw_attemptOf hf hn5 YA (ydr _ ⟨hit, br_t m1 (Yl _ ⟨hif, yw_has1 (by omega) b0 (br_f (by decide) ⟨hif, br_t (nI_le (by omega) (by omega)) h⟩)⟩)⟩))⟩)))))
  · -- a member of a view
    refine br_f m1 ⟨hif, hit, ?_⟩
    have hvt : md t = 2 ∨ md t = 3 := by
      rcases (gM t ht).1 with z | z | z | z
      · exact (m0 z).elim
      · exact (m1 z).elim
      · exact Or.inl z
      · exact Or.inr z
    have hvt0 := ((gM t ht).2).mp hvt
    have Vt := gV.1 t ht hvt0
    have hsn := gT.2.2.2.2.2.1
    have hsd : ∀ i, sd i ≤ 48 := fun i => (gT.2.2.2.2.1 i).2
    have ixlt : ∀ C, C ≤ vs_N mv (vw t) → ∀ q, 1 ≤ q → q ≤ C → vs_ix mv mn (vw t) q < 48 := by
      intro C hC q h1 h2
      obtain ⟨i, hi⟩ := gT.2.1 (vw t) q hvt0 h1 (by omega)
      have := (gT.1 i (by rw [hi.1]; exact hvt0)).1
      exact vs_ix_of (by omega) hi
    have room := vs_room gT gL gD gV ht hvt0
    by_cases w0 : vw f = vw t
    · have w0' : nI (vw f) = nI (vw t) := by rw [w0]
      refine br_t w0' ?_
      unfold wpX_installDecided
      by_cases D : ¬ pm (att f) = 0 ∧ vs_sz (mk f) n < 2 * vs_sz (aq (att f)) n
      · have XD := xiff.mpr D
        have ch := chosen D
        refine xw_dec1 hf5 hn5 XD.1 XD.2.1 XD.2.2 (br_f (by decide) ⟨hif, nm_r (e' := pm (att f)) (by rw [ef]; exact Xf.2.2.2.2.1) ⟨hif, nm_r (e' := nI (pc (att f))) (by rw [ef]; exact Xf.2.2.2.2.2.1) ?_⟩⟩)
        cases b0 : bt (pm (att f)) t
        · refine xw_has0 (by omega) b0 (br_t rfl ?_)
          unfold wpY_install
          simp only [ef, et, vs_Ia]
          refine yw_bad0 hf hn5 (br_t rfl (yw_bad0 ht hn5 (br_t rfl (yw_iv1 hf5 hvf (br_f (by decide) ⟨hit, br_f m0 (yw_attemptOf hf hn5 YA (yd1 D _ ⟨hit, br_f m1 ⟨hif, nm_e ⟨hif, nm_e ⟨hif, hit, br_t w0' (br_f (by decide) ⟨hia, ?_⟩)⟩⟩⟩⟩))⟩)))))
          rw [ea]
          exact yw_has0 (by omega) b0 (br_t rfl ⟨by trivial, fin⟩)
        · refine xw_has1 (by omega) b0 (br_f (by decide) ?_)
          have c3 := gC3 (att f) t (by omega) hast ht D.1 b0 (by rw [ch.2.1, w0])
          have pc48 := (g8.2 (att f)).2
          have hCN : pc (att f) ≤ vs_N mv (vw t) := by
            have := gC1 (att f) (by omega) hast D.1
            rw [ch.2.1, w0] at this
            exact this
          have hfH := (gC2 f hf).2.1 ch.1 D.1
          refine xw_fetch (H := H) (g := vs_gk (nI (pc (att f))) H t f) ht hf hn5 hw8 hvt0 w0 (fun _ => rfl) ?_ (fun q hq => vs_h48 gH hf hq) XH.1 (vs_dl48 gD gL ht) ((gH t ht).2 hvt0) RA ?_
          · intro q hq
            rcases hq with hq | hq
            · exact vs_b8 gH gO gD gV hw8 ht ht hvt0 rfl hq
            · exact vs_b8 gH gO gD gV hw8 ht hf hvt0 w0 hq
          intro bn' b1' b2' b3' RA'
          have gH' : vs_gH n vw dl mv (vs_Hk H t (vs_gk (nI (pc (att f))) H t f) 49) := vs_fe_H gH hf w0 (fun q hq => (vs_gkp hq).1)
          have XH' := vs_rsk_X (m := t) (w := w) (s := mk t) (g := vs_gk (nI (pc (att f))) H t f) XH hn5 49 (by omega)
          have gall : ∀ q, dl t < q → q ≤ dl t + (pc (att f) - dl t) → vs_Hk H t (vs_gk (nI (pc (att f))) H t f) 49 t q = true := by
            intro q hq1 hq2
            show (H t q || (decide (t = t) && (decide (q < 49) && vs_gk (nI (pc (att f))) H t f q))) = true
            rw [vs_gpc (by omega) pc48, hfH q (by omega) (by omega), decide_eq_true (show q < 49 by omega), decide_eq_true (show q ≤ pc (att f) by omega)]
            cases H t q <;> simp
          have eC : vs_dn (vs_Hk H t (vs_gk (nI (pc (att f))) H t f) 49 t) (pc (att f) - dl t) (dl t) = pc (att f) := by
            rw [vs_dn_all _ _ gall]
            have := c3.2
            omega
          refine xw_du (L := pc (att f)) (B := vs_N mv (vw t)) ht hn5 pc48 (RA'.2 t ht hvt0) RA'.1 (fun q hq => vs_b8 gH' gO gD gV hw8 ht ht hvt0 rfl hq) (fun q hq => ((gH' t ht).1 q hq).2.2) c3.2 XL room (XH'.2.2 t ht).1 ?_
          intro lc' l1' l2' l3' l4' XL'
          rw [vs_dg_eq, eC] at XL'
          refine ⟨hit, hit, ?_⟩
          have en : ∀ (post : SX → Prop), post ((nI n), (nI w), (nI sn), (nI st), (vs_u md t 2), (vs_u ins t (ins t ||| ((1 : Int32) <<< (nI (vw t + 1 - 1) &&& 31)))), (vs_I (vs_u lv t (vw t + 1))), (vs_I lc'), l1', l2', l3', l4', (vs_I (vs_u vw t (vw t + 1))), (vs_u mk t (pm (att f))), (vs_u nw t (pm (att f) &&& (mk t ^^^ (-1)))), (vs_I (vs_u ct t (pc (att f)))), (vs_I (vs_u dl t 0)), (vs_u tp t 0), (vs_u su t 0), (vs_u jo t 0), (vs_I (vs_u pr t 0)), (vs_I (vs_u ac t 0)), (vs_u am t 0), (vs_u acu t 0), (vs_I (vs_zr hx 5 t 5)), (vs_I (vs_zr bn' 8 t 8)), b1', b2', b3', (vs_I (vs_u oc t 0)), o1, o2, (vs_I (vs_u att t 0)), (vs_u xr t 0), (vs_u xb t 0), (vs_u xm t 0), (vs_u xc t 0), (vs_u xp t 0), (vs_u xq t 0), (vs_u xa t 0)) →
              wpX_enter post ((nI n), (nI w), (nI sn), (nI st), md, ins, (vs_I lv), (vs_I lc'), l1', l2', l3', l4', (vs_I vw), mk, nw, (vs_I ct), (vs_I (vs_u dl t (vs_dn (vs_Hk H t (vs_gk (nI (pc (att f))) H t f) 49 t) (pc (att f) - dl t) (dl t)))), (vs_tpk tp t (vs_gk (nI (pc (att f))) H t f) 49), su, jo, (vs_I pr), (vs_I ac), am, acu, (vs_I (vs_u (vs_rsk hx (mk t) t w n (vs_gk (nI (pc (att f))) H t f) 49) (t * 5 + t) (vs_dn (vs_Hk H t (vs_gk (nI (pc (att f))) H t f) 49 t) (pc (att f) - dl t) (dl t)))), (vs_I bn'), b1', b2', b3', (vs_I oc), o1, o2, (vs_I att), xr, xb, xm, xc, xp, xq, xa) (nI t) (nI (vw t) + 1) (pm (att f)) (pm (att f) &&& (mk t ^^^ (-1))) (nI (pc (att f))) := by
            intro post hp
            rw [nI_1]
            refine xw_enter ht5 (by omega) (by omega) ?_
            rw [vs_uu, vs_zr_u _ _ _ ht5, vs_zr_rsk, vs_tpk_0]
            exact hp
          rw [et]
          refine en _ ?_
          have yp : ∀ post : Int32 → SY → Prop, wY_install_334 post (nI t) (pm (att f)) (nI (pc (att f))) (nI n) (nI w) (nI sn) (nI fc) (nI st) md ins (vs_I vw) mk nw (vs_I ct) tp (vs_I hd) su jo (vs_I pr) (vs_I ac) va (vs_I sd) (vs_I wt) (vs_I mv) (vs_I mn) ho (vs_I fm) (vs_I fs) (vs_I fv) (vs_I ow) (vs_I li) re (vs_I be) pm (vs_I pc) aq → wpY_install post ((nI n), (nI w), (nI sn), (nI fc), (nI st), md, ins, (vs_I vw), mk, nw, (vs_I ct), tp, (vs_I hd), su, jo, (vs_I pr), (vs_I ac), va, (vs_I sd), (vs_I wt), (vs_I mv), (vs_I mn), ho, (vs_I fm), (vs_I fs), (vs_I fv), (vs_I ow), (vs_I li), re, (vs_I be), pm, (vs_I pc), aq) (nI f) (nI t) := by
            intro post hp
            unfold wpY_install
            simp only [ef, et, vs_Ia]
            refine yw_bad0 hf hn5 (br_t rfl (yw_bad0 ht hn5 (br_t rfl (yw_iv1 hf5 hvf (br_f (by decide) ⟨hit, br_f m0 (yw_attemptOf hf hn5 YA (yd1 D _ ⟨hit, br_f m1 ⟨hif, nm_e ⟨hif, nm_e ⟨hif, hit, br_t w0' (br_f (by decide) ⟨hia, ?_⟩)⟩⟩⟩⟩))⟩)))))
            rw [ea]
            exact yw_has1 (by omega) b0 (br_f (by decide) ⟨hia, nm_e ⟨hia, nm_e hp⟩⟩)
          apply yp
          refine yw_in YH gE YA YL hsd ht hn5 hw8 hvt0 hCN c3.2 ((gD t ht).1 hvt0) (ixlt _ hCN) room (fun a ha => (XL a ha).2.1) XH.2.1 ?_
          intro ho' fc' fm' fs' fv' E' Q' YL'
          have hVMt : VM (vw t + 1) = pm (att f) := by rw [← w0]; exact ch.2.2.2.1
          exact ⟨rfl, vs_next_fin (g1 := vs_gk (nI (pc (att f))) H t f) ht hvt0 (by omega) hVMt.symm (by rw [hVMt, Vt.2.1]) (by rw [hVMt]; exact b0) (by rw [← w0]; exact ch.2.2.2.2.symm) pc48 c3.2 hCN (by rw [← w0]; exact h6n D) E' RA' Q' XL' YL' hI0 hX0 hY0⟩
      · refine xw_dec0 hf5 hn5 (fun z => D (xiff.mp z)) (br_t rfl ?_)
        unfold wpY_install
        simp only [ef, et, vs_Ia]
        exact yw_bad0 hf hn5 (br_t rfl (yw_bad0 ht hn5 (br_t rfl (yw_iv1 hf5 hvf (br_f (by decide) ⟨hit, br_f m0 (yw_attemptOf hf hn5 YA (yd0 D _ ⟨hit, br_f m1 ⟨hif, nm_e ⟨hif, nm_e ⟨hif, hit, br_t w0' (br_t rfl ⟨by trivial, fin⟩)⟩⟩⟩⟩))⟩)))))
    · have w0' : ¬ nI (vw f) = nI (vw t) := fun z => w0 ((nI_eq (by omega) (by omega)).mp z)
      refine br_f w0' ⟨hif, hit, ?_⟩
      rw [nI_1]
      have hN' : (∃ r : Int32, ∀ post : Int32 → Prop, post r → wpY_decided post ((nI n), (nI w), (nI sn), (nI fc), (nI st), md, ins, (vs_I vw), mk, nw, (vs_I ct), tp, (vs_I hd), su, jo, (vs_I pr), (vs_I ac), va, (vs_I sd), (vs_I wt), (vs_I mv), (vs_I mn), ho, (vs_I fm), (vs_I fs), (vs_I fv), (vs_I ow), (vs_I li), re, (vs_I be), pm, (vs_I pc), aq) (nI f)) := by
        by_cases D : ¬ pm (att f) = 0 ∧ vs_sz (mk f) n < 2 * vs_sz (aq (att f)) n
        · exact ⟨1, yd1 D⟩
        · exact ⟨0, yd0 D⟩
      obtain ⟨rd, ydr⟩ := hN'
      by_cases w1 : vw f = vw t + 1
      · have w1' : nI (vw f) = nI (vw t + 1) := by rw [w1]
        refine br_t w1' ?_
        unfold wpX_installFollowing
        refine ⟨hif, nm_r (e' := mk f) (by rw [ef]) ⟨hif, nm_r (e' := nI (ct f)) (by rw [ef, vs_Ia]) ?_⟩⟩
        cases b0 : bt (mk f) t
        · refine xw_has0 (by omega) b0 (br_t rfl ?_)
          unfold wpY_install
          simp only [ef, et, vs_Ia, nI_1]
          exact yw_bad0 hf hn5 (br_t rfl (yw_bad0 ht hn5 (br_t rfl (yw_iv1 hf5 hvf (br_f (by decide) ⟨hit, br_f m0 (yw_attemptOf hf hn5 YA (ydr _ ⟨hit, br_f m1 ⟨hif, nm_e ⟨hif, nm_e ⟨hif, hit, br_f w0' ⟨hif, hit, br_t w1' ⟨hif, yw_has0 (by omega) b0 (br_t rfl ⟨by trivial, fin⟩)⟩⟩⟩⟩⟩⟩))⟩)))))
        · refine xw_has1 (by omega) b0 (br_f (by decide) ⟨hit, ?_⟩)
          rw [et]
          cases b1 : bt (mk t) f
          · refine xw_has0 (by omega) b1 (br_t rfl ?_)
            unfold wpY_install
            simp only [ef, et, vs_Ia, nI_1]
            exact yw_bad0 hf hn5 (br_t rfl (yw_bad0 ht hn5 (br_t rfl (yw_iv1 hf5 hvf (br_f (by decide) ⟨hit, br_f m0 (yw_attemptOf hf hn5 YA (ydr _ ⟨hit, br_f m1 ⟨hif, nm_e ⟨hif, nm_e ⟨hif, hit, br_f w0' ⟨hif, hit, br_t w1' ⟨hif, yw_has1 (by omega) b0 (br_f (by decide) ⟨hit, yw_has0 (by omega) b1 (br_t rfl ⟨by trivial, fin⟩)⟩)⟩⟩⟩⟩⟩⟩))⟩)))))
          · refine xw_has1 (by omega) b1 (br_f (by decide) ?_)
            have hft : f ≠ t := by intro z; rw [z] at w0; exact w0 rfl
            obtain ⟨a, a1, a2, a3, a4, a5⟩ := g6 f hf (vw t) (by omega) (by omega)
            have t5 := g5 a a1 a2 a4 (by rw [a3]; exact a5)
            rw [a3] at t5
            have Ff := (gF f hf).2 hvf0
            have e1 : vw f - 1 = vw t := by omega
            have F2 := Ff.2.2 (by omega) (by rw [e1, ← Vt.2.1]; exact b1)
            rw [e1] at F2
            have ct48 := (gF f hf).1
            have eVC : ct f = pc a := by rw [F2.1, w1]; exact t5.2
            have ePM : mk f = pm a := by rw [Vf.2.1, w1]; exact t5.1
            have c3 := gC3 a t a1 a2 ht a4 (by rw [← ePM]; exact b0) a3.symm
            have hdC : dl t ≤ ct f := by rw [eVC]; exact c3.2
            have hCN : ct f ≤ vs_N mv (vw t) := by rw [eVC, ← a3]; exact gC1 a a1 a2 a4
            refine xw_cp (ix := vs_ix mv mn (vw t)) (B := vs_N mv (vw t)) hf ht hn5 hft ct48 hCN XL F2.2.1 (fun q hq => ⟨vw t, F2.2.2 q hq⟩) hdC room ?_
            intro lc' l1' l2' l3' l4' XL'
            refine ⟨hit, hit, ?_⟩
            rw [vs_Ia, nI_1 (vw t)]
            refine xw_enter ht5 (by omega) (by omega) ?_
            have yp : ∀ post : Int32 → SY → Prop, wY_install_334 post (nI t) (mk f) (nI (ct f)) (nI n) (nI w) (nI sn) (nI fc) (nI st) md ins (vs_I vw) mk nw (vs_I ct) tp (vs_I hd) su jo (vs_I pr) (vs_I ac) va (vs_I sd) (vs_I wt) (vs_I mv) (vs_I mn) ho (vs_I fm) (vs_I fs) (vs_I fv) (vs_I ow) (vs_I li) re (vs_I be) pm (vs_I pc) aq → wpY_install post ((nI n), (nI w), (nI sn), (nI fc), (nI st), md, ins, (vs_I vw), mk, nw, (vs_I ct), tp, (vs_I hd), su, jo, (vs_I pr), (vs_I ac), va, (vs_I sd), (vs_I wt), (vs_I mv), (vs_I mn), ho, (vs_I fm), (vs_I fs), (vs_I fv), (vs_I ow), (vs_I li), re, (vs_I be), pm, (vs_I pc), aq) (nI f) (nI t) := by
              intro post hp
              unfold wpY_install
              simp only [ef, et, vs_Ia, nI_1]
              exact yw_bad0 hf hn5 (br_t rfl (yw_bad0 ht hn5 (br_t rfl (yw_iv1 hf5 hvf (br_f (by decide) ⟨hit, br_f m0 (yw_attemptOf hf hn5 YA (ydr _ ⟨hit, br_f m1 ⟨hif, nm_e ⟨hif, nm_e ⟨hif, hit, br_f w0' ⟨hif, hit, br_t w1' ⟨hif, yw_has1 (by omega) b0 (br_f (by decide) ⟨hit, yw_has1 (by omega) b1 (br_f (by decide) hp)⟩)⟩⟩⟩⟩⟩⟩))⟩)))))
            apply yp
            refine yw_in YH gE YA YL hsd ht hn5 hw8 hvt0 hCN hdC ((gD t ht).1 hvt0) (ixlt _ hCN) room (fun a ha => (XL a ha).2.1) XH.2.1 ?_
            intro ho' fc' fm' fs' fv' E' Q' YL'
            have e0 : vs_Hk H t (fun _ => false) 49 = H := by
              funext x y
              show (H x y || (decide (x = t) && (decide (y < 49) && false))) = H x y
              simp
            exact ⟨rfl, vs_next_fin (g1 := fun _ => false) ht hvt0 (by omega) (by rw [Vf.2.1, w1]) (by rw [Vf.2.1, w1, Vt.2.1]) (by rw [← w1, ← Vf.2.1]; exact b0) (by rw [F2.1, w1]) ct48 hdC hCN (by rw [← w1]; exact h6f) E' (by rw [e0]; exact RA) Q' XL' YL' hI0 hX0 hY0⟩
      · have w1' : ¬ nI (vw f) = nI (vw t + 1) := fun z => w1 ((nI_eq (by omega) (by omega)).mp z)
        refine br_f w1' ?_
        unfold wpY_install
        simp only [ef, et, vs_Ia, nI_1]
        exact yw_bad0 hf hn5 (br_t rfl (yw_bad0 ht hn5 (br_t rfl (yw_iv1 hf5 hvf (br_f (by decide) ⟨hit, br_f m0 (yw_attemptOf hf hn5 YA (ydr _ ⟨hit, br_f m1 ⟨hif, nm_e ⟨hif, nm_e ⟨hif, hit, br_f w0' ⟨hif, hit, br_f w1' ⟨by trivial, fin⟩⟩⟩⟩⟩⟩))⟩)))))
end
section
/-! info -/
variable {n w sn st fc : Nat} {md ins l1 l2 l3 l4 mk nw tp su jo am acu b1 b2 b3 o1 o2 xr xb xm xc xp xq xa va ho re pm aq VM : Nat → Int32} {lv lc vw ct dl pr ac hx bn oc att hd sd wt mv mn fm fs fv ow li be pc av VC : Nat → Nat} {lg : Nat → List (Nat × Nat)} {H : Nat → Nat → Bool}
theorem vs_cn_img {Q : Nat → Bool} {f : Nat → Nat} {M : Nat} : ∀ N, (∀ k k', k < N → k' < N → Q k = true → Q k' = true → f k = f k' → k = k') → (∀ k, k < N → Q k = true → f k < M) →
    vs_cn Q N = vs_cn (fun s => (List.range N).any (fun k => Q k && decide (f k = s))) M := by
  intro N
  induction N with
  | zero =>
    intro _ _
    have z : (fun s => (List.range 0).any (fun k => Q k && decide (f k = s))) = fun _ => false := by
      funext s
      rfl
    rw [z, vs_cn_0]
    rfl
  | succ N ih =>
    intro h1 h2
    have t := ih (fun k k' a b => h1 k k' (by omega) (by omega)) (fun k a => h2 k (by omega))
    have es : ∀ s, (List.range (N + 1)).any (fun k => Q k && decide (f k = s)) = ((List.range N).any (fun k => Q k && decide (f k = s)) || (Q N && decide (f N = s))) := by
      intro s
      rw [List.range_succ, List.any_append]
      simp
    cases e : Q N
    · rw [vs_cn_f N e, t]
      refine vs_cn_c (fun s _ => ?_)
      rw [es, e]; simp
    · rw [vs_cn_t N e, t]
      symm
      refine vs_cn_put (i := f N) ?_ ?_ ?_ (h2 N (by omega) e)
      · rw [List.any_eq_false]
        intro k hk z
        rw [Bool.and_eq_true, decide_eq_true_eq] at z
        have hk' := List.mem_range.mp hk
        have := h1 k N (by omega) (by omega) z.1 e z.2
        omega
      · show (List.range (N + 1)).any (fun k => Q k && decide (f k = f N)) = true
        rw [es, e]; simp
      · intro s hs
        show (List.range (N + 1)).any (fun k => Q k && decide (f k = s)) = (List.range N).any (fun k => Q k && decide (f k = s))
        rw [es, decide_eq_false (Ne.symm hs)]; simp
theorem vs_stb_ge {s : Int32} {h : Nat → Nat} {d k : Nat} (hd : k ≤ d) : ∀ {j : Nat}, (∀ i, i < j → bt s i = true → k ≤ h i) → k ≤ vs_stb s h d j := by
  intro j
  induction j with
  | zero => intro _; exact hd
  | succ j ih =>
    intro H
    have t := ih (fun i hi => H i (by omega))
    show k ≤ (if bt s j = true ∧ h j < vs_stb s h d j then h j else vs_stb s h d j)
    split
    · rename_i c; exact H j (by omega) c.1
    · exact t
/-- the ring holds every number above STABLE -/
theorem vs_uc {hm : Nat → Bool} {ix : Nat → Nat} {m S : Nat} (R : vs_RB hm ix va sd bn b1 b2 b3 m) (h48 : ∀ k, hm k = true → k ≤ 48) (hS : ∀ k k', hm k' = true → k + 8 ≤ k' → k ≤ S) :
    vs_cn (fun s => decide (S < bn (m * 8 + s))) 8 = vs_cn (fun k => decide (S < k) && hm k) 49 := by
  have key : ∀ k, S < k → hm k = true → bn (m * 8 + (k - 1) % 8) = k := by
    intro k h1 h2
    refine vs_RB_has R h2 (fun k' h' => ?_)
    apply Classical.byContradiction
    intro z
    have := hS k k' h' (by omega)
    omega
  have img := vs_cn_img (Q := fun k => decide (S < k) && hm k) (f := fun k => (k - 1) % 8) (M := 8) 49 ?_ (fun k _ _ => by show (k - 1) % 8 < 8; omega)
  · rw [img]
    refine vs_cn_c (fun s hs => ?_)
    by_cases c : S < bn (m * 8 + s)
    · rw [decide_eq_true c]
      have r := R.1 s hs (by omega)
      symm
      rw [List.any_eq_true]
      have := h48 _ r.1
      exact ⟨bn (m * 8 + s), List.mem_range.mpr (by omega), by rw [decide_eq_true c, r.1, decide_eq_true r.2.1]; rfl⟩
    · rw [decide_eq_false c]
      symm
      rw [List.any_eq_false]
      intro k _ z
      rw [Bool.and_eq_true, Bool.and_eq_true, decide_eq_true_eq, decide_eq_true_eq] at z
      have := key k z.1.1 z.1.2
      rw [z.2] at this
      omega
  · intro k k' _ _ q q' e
    have q1 : (decide (S < k) && hm k) = true := q
    have q2 : (decide (S < k') && hm k') = true := q'
    rw [Bool.and_eq_true, decide_eq_true_eq] at q1 q2
    have a := key k q1.1 q1.2
    have b := key k' q2.1 q2.2
    have e' : (k - 1) % 8 = (k' - 1) % 8 := e
    rw [e'] at a
    omega
theorem yw_i10 {post : Int32 → Prop} {m S : Nat} (Q : vs_YH n sn vw mv mn ho H) (hm : m < n) (hn : n ≤ 5) (hv : vw m ≠ 0) (hS : S ≤ 48) (h0 : H m 0 = false) (h : post (nI (vs_cn (fun k => decide (S < k) && H m k) 49))) :
    ∃ n283 : Nat, wY_info_283 post (nI m) (nI S) (nI n) (nI w) (nI sn) (nI fc) (nI st) md ins (vs_I vw) mk nw (vs_I ct) tp (vs_I hd) su jo (vs_I pr) (vs_I ac) va (vs_I sd) (vs_I wt) (vs_I mv) (vs_I mn) ho (vs_I fm) (vs_I fs) (vs_I fv) (vs_I ow) (vs_I li) re (vs_I be) pm (vs_I pc) aq n283 0 1 := by
  have key : ∀ d k : Nat, k + d = 49 → wY_info_283 post (nI m) (nI S) (nI n) (nI w) (nI sn) (nI fc) (nI st) md ins (vs_I vw) mk nw (vs_I ct) tp (vs_I hd) su jo (vs_I pr) (vs_I ac) va (vs_I sd) (vs_I wt) (vs_I mv) (vs_I mn) ho (vs_I fm) (vs_I fs) (vs_I fv) (vs_I ow) (vs_I li) re (vs_I be) pm (vs_I pc) aq (d + 1) (nI (vs_cn (fun k => decide (S < k) && H m k) k)) (nI k) := by
    intro d
    induction d with
    | zero =>
      intro k e
      have e : k = 49 := by omega
      subst e
      exact br_t (nI_lt (a := 48) (by omega) (by omega)) h
    | succ d ih =>
      intro k e
      have ihk := ih (k + 1) (by omega)
      refine br_f (nI_nlt (a := 48) (by omega) (by omega)) ?_
      by_cases c : k ≤ S
      · have f : (decide (S < k) && H m k) = false := by rw [decide_eq_false (by omega), Bool.false_and]
        rw [vs_cn_f k f] at ihk
        exact br_t (nI_le c (by omega)) (nm_r (nI_1 k) ihk)
      · refine br_f (nI_ge (by omega) (by omega)) ?_
        cases e2 : H m k
        · have f : (decide (S < k) && H m k) = false := by rw [e2, Bool.and_false]
          rw [vs_cn_f k f] at ihk
          exact yw_got0 Q hm hn hv (by omega) e2 (br_t rfl (nm_r (nI_1 k) ihk))
        · have f : (decide (S < k) && H m k) = true := by rw [e2, decide_eq_true (show S < k by omega)]; rfl
          rw [vs_cn_t k f] at ihk
          exact yw_got1 Q hm hn hv (by omega) e2 (br_f (by decide) (nm_r (nI_1 _) (nm_r (nI_1 k) ihk)))
  have k1 := key 48 1 (by omega)
  rw [vs_cn_f 0 (by rw [h0, Bool.and_false])] at k1
  exact ⟨_, k1⟩
theorem yw_i11 {post : Int32 → Prop} {m : Nat} (hm : m < 5) (hsn : sn ≤ 48) (hb : ∀ i, wt i ≤ 48 ∧ sd i ≤ 48) (h : post (nI (vs_ob wt sd sn m).length)) :
    ∃ n321 : Nat, wY_info_321 post (nI m) (nI n) (nI w) (nI sn) (nI fc) (nI st) md ins (vs_I vw) mk nw (vs_I ct) tp (vs_I hd) su jo (vs_I pr) (vs_I ac) va (vs_I sd) (vs_I wt) (vs_I mv) (vs_I mn) ho (vs_I fm) (vs_I fs) (vs_I fv) (vs_I ow) (vs_I li) re (vs_I be) pm (vs_I pc) aq n321 0 0 := by
  have key : ∀ d i : Nat, i + d = sn → wY_info_321 post (nI m) (nI n) (nI w) (nI sn) (nI fc) (nI st) md ins (vs_I vw) mk nw (vs_I ct) tp (vs_I hd) su jo (vs_I pr) (vs_I ac) va (vs_I sd) (vs_I wt) (vs_I mv) (vs_I mn) ho (vs_I fm) (vs_I fs) (vs_I fv) (vs_I ow) (vs_I li) re (vs_I be) pm (vs_I pc) aq (d + 1) (nI (vs_ob wt sd i m).length) (nI i) := by
    intro d
    induction d with
    | zero =>
      intro i e
      have e : i = sn := by omega
      subst e
      exact br_t (nI_le (by omega) (by omega)) h
    | succ d ih =>
      intro i e
      have ihi := ih (i + 1) (by omega)
      have eo : vs_ob wt sd (i + 1) m = if wt i ≠ 0 ∧ sd i = m then vs_ob wt sd i m ++ [i] else vs_ob wt sd i m := rfl
      have hbi := hb i
      rw [eo] at ihi
      refine br_f (nI_ge (by omega) (by omega)) ?_
      simp only [nI_clamp (show i < 2 ^ 31 by omega), vs_Ia]
      refine ⟨vp_in_nI (by omega) (by omega), ?_⟩
      by_cases c1 : wt i = 0
      · rw [if_neg (fun z => z.1 c1)] at ihi
        exact br_t (by rw [c1]; rfl) (nm_r (nI_1 i) ihi)
      · refine br_f (nI_ne0 (by omega) (by omega)) ⟨vp_in_nI (by omega) (by omega), ?_⟩
        by_cases c2 : sd i = m
        · rw [if_pos ⟨c1, c2⟩, List.length_append] at ihi
          exact br_t (by rw [c2]) (nm_r (nI_1 _) (nm_r (nI_1 i) ihi))
        · rw [if_neg (fun z => c2 z.2)] at ihi
          exact br_f (fun z => c2 ((nI_eq (by omega) (by omega)).mp z)) (nm_r (nI_1 i) ihi)
  exact ⟨sn + 1, key sn 0 (by omega)⟩
theorem yw_i14 {post : Int32 → Prop} {m : Nat} (hm : m < 5) (hfc : fc ≤ 240) (hb : ∀ f, fm f ≤ 48) (h : post (nI (vs_lgY fm fs fv fc m).length)) :
    ∃ n66 : Nat, wY_info_66 post (nI m) (nI n) (nI w) (nI sn) (nI fc) (nI st) md ins (vs_I vw) mk nw (vs_I ct) tp (vs_I hd) su jo (vs_I pr) (vs_I ac) va (vs_I sd) (vs_I wt) (vs_I mv) (vs_I mn) ho (vs_I fm) (vs_I fs) (vs_I fv) (vs_I ow) (vs_I li) re (vs_I be) pm (vs_I pc) aq n66 0 0 := by
  have key : ∀ d f : Nat, f + d = fc → wY_info_66 post (nI m) (nI n) (nI w) (nI sn) (nI fc) (nI st) md ins (vs_I vw) mk nw (vs_I ct) tp (vs_I hd) su jo (vs_I pr) (vs_I ac) va (vs_I sd) (vs_I wt) (vs_I mv) (vs_I mn) ho (vs_I fm) (vs_I fs) (vs_I fv) (vs_I ow) (vs_I li) re (vs_I be) pm (vs_I pc) aq (d + 1) (nI (vs_lgY fm fs fv f m).length) (nI f) := by
    intro d
    induction d with
    | zero =>
      intro f e
      have e : f = fc := by omega
      subst e
      exact br_t (nI_le (by omega) (by omega)) h
    | succ d ih =>
      intro f e
      have ihf := ih (f + 1) (by omega)
      have eo : vs_lgY fm fs fv (f + 1) m = if fm f = m then vs_lgY fm fs fv f m ++ [(fs f, fv f)] else vs_lgY fm fs fv f m := rfl
      have hbf := hb f
      rw [eo] at ihf
      refine br_f (nI_ge (by omega) (by omega)) ?_
      simp only [nI_clamp (show f < 2 ^ 31 by omega), vs_Ia]
      refine ⟨vp_in_nI (by omega) (by omega), ?_⟩
      by_cases c2 : fm f = m
      · rw [if_pos c2, List.length_append] at ihf
        exact br_t (by rw [c2]) (nm_r (nI_1 _) (nm_r (nI_1 f) ihf))
      · rw [if_neg c2] at ihf
        exact br_f (fun z => c2 ((nI_eq (by omega) (by omega)).mp z)) (nm_r (nI_1 f) ihf)
  exact ⟨fc + 1, key fc 0 (by omega)⟩
theorem i_vc_info {k : Nat} {u : SX} {v : SY} (I : i_Rel k u v) (hk : k + 4 ≤ 2050) (v1 : Int32) (v2 : Int32) : wpX_info (fun r => wpY_info (fun r' => r' = r ∧ i_Rel (k + 4) u v) v v1 v2) u v1 v2 := by
  refine zz_el (P := fun u v => wpX_info (fun r => wpY_info (fun r' => r' = r ∧ i_Rel (k + 4) u v) v v1 v2) u v1 v2) ?_ I
  intro n w sn st md ins lv lc l1 l2 l3 l4 vw mk nw ct dl tp su jo pr ac am acu hx bn b1 b2 b3 oc o1 o2 att xr xb xm xc xp xq xa fc hd va sd wt mv mn ho fm fs fv ow li re be pm pc aq lg H av VM VC hI hX hY
  have fin : i_Rel (k + 4) ((nI n), (nI w), (nI sn), (nI st), md, ins, (vs_I lv), (vs_I lc), l1, l2, l3, l4, (vs_I vw), mk, nw, (vs_I ct), (vs_I dl), tp, su, jo, (vs_I pr), (vs_I ac), am, acu, (vs_I hx), (vs_I bn), b1, b2, b3, (vs_I oc), o1, o2, (vs_I att), xr, xb, xm, xc, xp, xq, xa) ((nI n), (nI w), (nI sn), (nI fc), (nI st), md, ins, (vs_I vw), mk, nw, (vs_I ct), tp, (vs_I hd), su, jo, (vs_I pr), (vs_I ac), va, (vs_I sd), (vs_I wt), (vs_I mv), (vs_I mn), ho, (vs_I fm), (vs_I fs), (vs_I fv), (vs_I ow), (vs_I li), re, (vs_I be), pm, (vs_I pc), aq) := zz_in hI hX hY
  generalize hF : i_Rel (k + 4) ((nI n), (nI w), (nI sn), (nI st), md, ins, (vs_I lv), (vs_I lc), l1, l2, l3, l4, (vs_I vw), mk, nw, (vs_I ct), (vs_I dl), tp, su, jo, (vs_I pr), (vs_I ac), am, acu, (vs_I hx), (vs_I bn), b1, b2, b3, (vs_I oc), o1, o2, (vs_I att), xr, xb, xm, xc, xp, xq, xa) ((nI n), (nI w), (nI sn), (nI fc), (nI st), md, ins, (vs_I vw), mk, nw, (vs_I ct), tp, (vs_I hd), su, jo, (vs_I pr), (vs_I ac), va, (vs_I sd), (vs_I wt), (vs_I mv), (vs_I mn), ho, (vs_I fm), (vs_I fs), (vs_I fv), (vs_I ow), (vs_I li), re, (vs_I be), pm, (vs_I pc), aq) = F at fin ⊢
  clear hF
  obtain ⟨⟨hn3, hn5, hw1, hw8, hst⟩, gM, gI, gV, gJ, gS, gT, gE, gL, gD, gH, gN, gO, gK, gA, gR, gQ, gB, g2, g3, g4, g5, g6, g7, g8, gC1, gC2, gC3, gC4, gF, gC5⟩ := hI
  obtain ⟨XL, RA, XH, XO, XA⟩ := hX
  obtain ⟨YH, YL, YA, Y6, Y7⟩ := hY
  unfold wpX_info wpY_info
  rcases vs_arg n hn5 v1 with hb | ⟨m, hm, rfl⟩
  · exact xw_bad1 hb (br_f (by decide) (yw_bad1 hb (br_f (by decide) ⟨rfl, fin⟩)))
  by_cases c0 : v2 < 0
  · exact xw_bad0 hm hn5 (br_t rfl (br_t c0 (yw_bad0 hm hn5 (br_t rfl (br_t c0 ⟨rfl, fin⟩)))))
  by_cases c26 : v2 ≤ 26
  case neg => exact xw_bad0 hm hn5 (br_t rfl (br_f c0 (br_f c26 (yw_bad0 hm hn5 (br_t rfl (br_f c0 (br_f c26 ⟨rfl, fin⟩)))))))
  have hm5 : m < 5 := by omega
  have hi := vs_in5 hm5
  have em : (nI m).toNatClampNeg = m := nI_clamp (by omega)
  have hast := (gA m hm).1
  have Xm := XA m hm
  have Bm := gB m hm
  have be60 := (g8.2 (att m)).1
  have ea : (nI (att m)).toNatClampNeg = att m := nI_clamp (by omega)
  have eb : (nI (be (att m))).toNatClampNeg = be (att m) := nI_clamp (by omega)
  have ec : (nI (ac m)).toNatClampNeg = ac m := nI_clamp (by omega)
  have hia : vp_in (nI (att m)) 61 := vp_in_nI (by omega) (by omega)
  have hib : vp_in (nI (be (att m))) 61 := vp_in_nI (by omega) (by omega)
  have hic : vp_in (nI (ac m)) 61 := vp_in_nI (by omega) (by omega)
  have d48 := vs_dl48 gD gL hm
  have v48 := vs_v48 gI gV hm
  have hlm := (gI m hm).2.1
  have hsn := gT.2.2.2.2.2.1
  simp only [em, vs_Ia]
  obtain ⟨q, hq, rfl⟩ := nI_of2 (x := v2) (M := 26) (n := 26) (by decide) c0 c26
  have cases27 : q = 0 ∨ q = 1 ∨ q = 2 ∨ q = 3 ∨ q = 4 ∨ q = 5 ∨ q = 6 ∨ q = 7 ∨ q = 8 ∨ q = 9 ∨ q = 10 ∨ q = 11 ∨ q = 12 ∨ q = 13 ∨ q = 14 ∨ q = 15 ∨ q = 16 ∨ q = 17 ∨ q = 18 ∨ q = 19 ∨ q = 20 ∨ q = 21 ∨ q = 22 ∨ q = 23 ∨ q = 24 ∨ q = 25 ∨ q = 26 := by omega
  rcases cases27 with rfl | rfl | rfl | rfl | rfl | rfl | rfl | rfl | rfl | rfl | rfl | rfl | rfl | rfl | rfl | rfl | rfl | rfl | rfl | rfl | rfl | rfl | rfl | rfl | rfl | rfl | rfl
  · refine xw_bad0 hm hn5 (br_t rfl (br_f c0 (br_t c26 (br_t rfl ⟨hi, ?_⟩))))
    exact yw_bad0 hm hn5 (br_t rfl (br_f c0 (br_t c26 (br_t rfl ⟨hi, by trivial, fin⟩))))
  · by_cases hv : md m = 2 ∨ md m = 3
    case neg => exact xw_bad0 hm hn5 (br_t rfl (br_f c0 (br_t c26 (br_f (by decide) (br_f (by decide) (br_f (by decide) (br_f (by decide) (xw_iv0 hm5 hv (br_t rfl (yw_bad0 hm hn5 (br_t rfl (br_f c0 (br_t c26 (br_f (by decide) (br_f (by decide) (br_f (by decide) (br_f (by decide) (yw_iv0 hm5 hv (br_t rfl ⟨by trivial, fin⟩)))))))))))))))))))
    have hvm := ((gM m hm).2).mp hv
    have eD := (gD m hm).1 hvm
    refine xw_bad0 hm hn5 (br_t rfl (br_f c0 (br_t c26 (br_f (by decide) (br_f (by decide) (br_f (by decide) (br_f (by decide) (xw_iv1 hm5 hv (br_f (by decide) (br_t (by decide) (br_f (by decide) (br_f (by decide) (br_t rfl ⟨hi, ?_⟩)))))))))))))
    refine yw_bad0 hm hn5 (br_t rfl (br_f c0 (br_t c26 (br_f (by decide) (br_f (by decide) (br_f (by decide) (br_f (by decide) (yw_iv1 hm5 hv (br_f (by decide) (yw_attemptOf hm hn5 YA (yw_stable hm hn5 YL v48 eD d48 XH.2.1 ?_)))))))))))
    simp only [em, ea, eb, ec, vs_Ia]
    exact (br_f (by decide) (br_f (by decide) (br_t rfl ⟨hi, by trivial, fin⟩)))
  · by_cases hv : md m = 2 ∨ md m = 3
    case neg => exact xw_bad0 hm hn5 (br_t rfl (br_f c0 (br_t c26 (br_f (by decide) (br_f (by decide) (br_f (by decide) (br_f (by decide) (xw_iv0 hm5 hv (br_t rfl (yw_bad0 hm hn5 (br_t rfl (br_f c0 (br_t c26 (br_f (by decide) (br_f (by decide) (br_f (by decide) (br_f (by decide) (yw_iv0 hm5 hv (br_t rfl ⟨by trivial, fin⟩)))))))))))))))))))
    have hvm := ((gM m hm).2).mp hv
    have eD := (gD m hm).1 hvm
    refine xw_bad0 hm hn5 (br_t rfl (br_f c0 (br_t c26 (br_f (by decide) (br_f (by decide) (br_f (by decide) (br_f (by decide) (xw_iv1 hm5 hv (br_f (by decide) (br_t (by decide) (br_f (by decide) (br_f (by decide) (br_f (by decide) (br_t rfl ⟨hi, ?_⟩))))))))))))))
    refine yw_bad0 hm hn5 (br_t rfl (br_f c0 (br_t c26 (br_f (by decide) (br_f (by decide) (br_f (by decide) (br_f (by decide) (yw_iv1 hm5 hv (br_f (by decide) (yw_attemptOf hm hn5 YA (yw_stable hm hn5 YL v48 eD d48 XH.2.1 ?_)))))))))))
    simp only [em, ea, eb, ec, vs_Ia]
    exact (br_f (by decide) (br_f (by decide) (br_f (by decide) (br_t rfl ⟨hi, by trivial, fin⟩))))
  · by_cases hv : md m = 2 ∨ md m = 3
    case neg => exact xw_bad0 hm hn5 (br_t rfl (br_f c0 (br_t c26 (br_f (by decide) (br_f (by decide) (br_f (by decide) (br_f (by decide) (xw_iv0 hm5 hv (br_t rfl (yw_bad0 hm hn5 (br_t rfl (br_f c0 (br_t c26 (br_f (by decide) (br_f (by decide) (br_f (by decide) (br_f (by decide) (yw_iv0 hm5 hv (br_t rfl ⟨by trivial, fin⟩)))))))))))))))))))
    have hvm := ((gM m hm).2).mp hv
    have eD := (gD m hm).1 hvm
    refine xw_bad0 hm hn5 (br_t rfl (br_f c0 (br_t c26 (br_f (by decide) (br_f (by decide) (br_f (by decide) (br_f (by decide) (xw_iv1 hm5 hv (br_f (by decide) (br_t (by decide) (br_f (by decide) (br_f (by decide) (br_f (by decide) (br_f (by decide) (br_t rfl ⟨hi, ?_⟩)))))))))))))))
    refine yw_bad0 hm hn5 (br_t rfl (br_f c0 (br_t c26 (br_f (by decide) (br_f (by decide) (br_f (by decide) (br_f (by decide) (yw_iv1 hm5 hv (br_f (by decide) (yw_attemptOf hm hn5 YA (yw_stable hm hn5 YL v48 eD d48 XH.2.1 ?_)))))))))))
    simp only [em, ea, eb, ec, vs_Ia]
    exact (br_f (by decide) (br_f (by decide) (br_f (by decide) (br_f (by decide) (br_t rfl ⟨hi, by trivial, fin⟩)))))
  · by_cases hv : md m = 2 ∨ md m = 3
    case neg => exact xw_bad0 hm hn5 (br_t rfl (br_f c0 (br_t c26 (br_f (by decide) (br_f (by decide) (br_f (by decide) (br_f (by decide) (xw_iv0 hm5 hv (br_t rfl (yw_bad0 hm hn5 (br_t rfl (br_f c0 (br_t c26 (br_f (by decide) (br_f (by decide) (br_f (by decide) (br_f (by decide) (yw_iv0 hm5 hv (br_t rfl ⟨by trivial, fin⟩)))))))))))))))))))
    have hvm := ((gM m hm).2).mp hv
    have eD := (gD m hm).1 hvm
    refine xw_bad0 hm hn5 (br_t rfl (br_f c0 (br_t c26 (br_f (by decide) (br_f (by decide) (br_f (by decide) (br_f (by decide) (xw_iv1 hm5 hv (br_f (by decide) (br_t (by decide) (br_f (by decide) (br_f (by decide) (br_f (by decide) (br_f (by decide) (br_f (by decide) (br_t rfl ⟨hi, ?_⟩))))))))))))))))
    refine yw_bad0 hm hn5 (br_t rfl (br_f c0 (br_t c26 (br_f (by decide) (br_f (by decide) (br_f (by decide) (br_f (by decide) (yw_iv1 hm5 hv (br_f (by decide) (yw_attemptOf hm hn5 YA (yw_stable hm hn5 YL v48 eD d48 XH.2.1 ?_)))))))))))
    simp only [em, ea, eb, ec, vs_Ia]
    exact (br_f (by decide) (br_f (by decide) (br_f (by decide) (br_f (by decide) (br_f (by decide) (br_t rfl ⟨hi, by trivial, fin⟩))))))
  · refine xw_bad0 hm hn5 (br_t rfl (br_f c0 (br_t c26 (br_f (by decide) (br_t rfl ⟨hi, ?_⟩)))))
    exact yw_bad0 hm hn5 (br_t rfl (br_f c0 (br_t c26 (br_f (by decide) (br_t rfl (yw_lastView hm5 hlm (gI m hm).2.2.1 (Or.inr (gI m hm).2.2.2) ⟨by trivial, fin⟩))))))
  · refine xw_bad0 hm hn5 (br_t rfl (br_f c0 (br_t c26 (br_f (by decide) (br_f (by decide) (br_t rfl ⟨hi, ?_⟩))))))
    exact yw_bad0 hm hn5 (br_t rfl (br_f c0 (br_t c26 (br_f (by decide) (br_f (by decide) (br_t rfl ⟨hi, by trivial, fin⟩))))))
  · by_cases hv : md m = 2 ∨ md m = 3
    case neg => exact xw_bad0 hm hn5 (br_t rfl (br_f c0 (br_t c26 (br_f (by decide) (br_f (by decide) (br_f (by decide) (br_f (by decide) (xw_iv0 hm5 hv (br_t rfl (yw_bad0 hm hn5 (br_t rfl (br_f c0 (br_t c26 (br_f (by decide) (br_f (by decide) (br_f (by decide) (br_f (by decide) (yw_iv0 hm5 hv (br_t rfl ⟨by trivial, fin⟩)))))))))))))))))))
    have hvm := ((gM m hm).2).mp hv
    have eD := (gD m hm).1 hvm
    refine xw_bad0 hm hn5 (br_t rfl (br_f c0 (br_t c26 (br_f (by decide) (br_f (by decide) (br_f (by decide) (br_f (by decide) (xw_iv1 hm5 hv (br_f (by decide) (br_t (by decide) (br_f (by decide) (br_f (by decide) (br_f (by decide) (br_f (by decide) (br_f (by decide) (br_f (by decide) (br_f (by decide) (br_f (by decide) (br_t rfl ⟨hi, ?_⟩)))))))))))))))))))
    refine yw_bad0 hm hn5 (br_t rfl (br_f c0 (br_t c26 (br_f (by decide) (br_f (by decide) (br_f (by decide) (br_f (by decide) (yw_iv1 hm5 hv (br_f (by decide) (yw_attemptOf hm hn5 YA (yw_stable hm hn5 YL v48 eD d48 XH.2.1 ?_)))))))))))
    simp only [em, ea, eb, ec, vs_Ia]
    exact (br_f (by decide) (br_f (by decide) (br_f (by decide) (br_f (by decide) (br_f (by decide) (br_f (by decide) (br_f (by decide) (br_f (by decide) (br_t rfl (yw_del hm hn5 YL v48 eD ⟨by trivial, fin⟩))))))))))
  · by_cases hv : md m = 2 ∨ md m = 3
    case neg => exact xw_bad0 hm hn5 (br_t rfl (br_f c0 (br_t c26 (br_f (by decide) (br_f (by decide) (br_f (by decide) (br_f (by decide) (xw_iv0 hm5 hv (br_t rfl (yw_bad0 hm hn5 (br_t rfl (br_f c0 (br_t c26 (br_f (by decide) (br_f (by decide) (br_f (by decide) (br_f (by decide) (yw_iv0 hm5 hv (br_t rfl ⟨by trivial, fin⟩)))))))))))))))))))
    have hvm := ((gM m hm).2).mp hv
    have eD := (gD m hm).1 hvm
    refine xw_bad0 hm hn5 (br_t rfl (br_f c0 (br_t c26 (br_f (by decide) (br_f (by decide) (br_f (by decide) (br_f (by decide) (xw_iv1 hm5 hv (br_f (by decide) (br_t (by decide) (br_f (by decide) (br_f (by decide) (br_f (by decide) (br_f (by decide) (br_f (by decide) (br_f (by decide) (br_f (by decide) (br_f (by decide) (br_f (by decide) (br_t rfl ⟨hi, ?_⟩))))))))))))))))))))
    refine yw_bad0 hm hn5 (br_t rfl (br_f c0 (br_t c26 (br_f (by decide) (br_f (by decide) (br_f (by decide) (br_f (by decide) (yw_iv1 hm5 hv (br_f (by decide) (yw_attemptOf hm hn5 YA (yw_stable hm hn5 YL v48 eD d48 XH.2.1 ?_)))))))))))
    simp only [em, ea, eb, ec, vs_Ia]
    exact (br_f (by decide) (br_f (by decide) (br_f (by decide) (br_f (by decide) (br_f (by decide) (br_f (by decide) (br_f (by decide) (br_f (by decide) (br_f (by decide) (br_t rfl ⟨hi, by trivial, fin⟩))))))))))
  · by_cases hv : md m = 2 ∨ md m = 3
    case neg => exact xw_bad0 hm hn5 (br_t rfl (br_f c0 (br_t c26 (br_f (by decide) (br_f (by decide) (br_f (by decide) (br_f (by decide) (xw_iv0 hm5 hv (br_t rfl (yw_bad0 hm hn5 (br_t rfl (br_f c0 (br_t c26 (br_f (by decide) (br_f (by decide) (br_f (by decide) (br_f (by decide) (yw_iv0 hm5 hv (br_t rfl ⟨by trivial, fin⟩)))))))))))))))))))
    have hvm := ((gM m hm).2).mp hv
    have eD := (gD m hm).1 hvm
    refine xw_bad0 hm hn5 (br_t rfl (br_f c0 (br_t c26 (br_f (by decide) (br_f (by decide) (br_f (by decide) (br_f (by decide) (xw_iv1 hm5 hv (br_f (by decide) (br_t (by decide) (br_f (by decide) (br_f (by decide) (br_f (by decide) (br_f (by decide) (br_f (by decide) (br_f (by decide) (br_f (by decide) (br_f (by decide) (br_f (by decide) (br_f (by decide) (br_t rfl (xw_stable hn5 hm5 XH.1 d48 ?_))))))))))))))))))))))
    refine yw_bad0 hm hn5 (br_t rfl (br_f c0 (br_t c26 (br_f (by decide) (br_f (by decide) (br_f (by decide) (br_f (by decide) (yw_iv1 hm5 hv (br_f (by decide) (yw_attemptOf hm hn5 YA (yw_stable hm hn5 YL v48 eD d48 XH.2.1 ?_)))))))))))
    simp only [em, ea, eb, ec, vs_Ia]
    have es : vs_stb (mk m) (fun j => if j = m then dl m else hd (m * 5 + j)) (dl m) n = vs_stb (mk m) (fun j => hx (m * 5 + j)) (dl m) n := vs_stb_c (fun j hj _ => by
        have t := XH.2.2 m hm
        by_cases z : j = m
        · rw [if_pos z, z, t.1]
        · rw [if_neg z, t.2 j hj z])
    exact (br_f (by decide) (br_f (by decide) (br_f (by decide) (br_f (by decide) (br_f (by decide) (br_f (by decide) (br_f (by decide) (br_f (by decide) (br_f (by decide) (br_f (by decide) (br_t rfl ⟨by rw [es], fin⟩)))))))))))
  · by_cases hv : md m = 2 ∨ md m = 3
    case neg => exact xw_bad0 hm hn5 (br_t rfl (br_f c0 (br_t c26 (br_f (by decide) (br_f (by decide) (br_f (by decide) (br_f (by decide) (xw_iv0 hm5 hv (br_t rfl (yw_bad0 hm hn5 (br_t rfl (br_f c0 (br_t c26 (br_f (by decide) (br_f (by decide) (br_f (by decide) (br_f (by decide) (yw_iv0 hm5 hv (br_t rfl ⟨by trivial, fin⟩)))))))))))))))))))
    have hvm := ((gM m hm).2).mp hv
    have eD := (gD m hm).1 hvm
    refine xw_bad0 hm hn5 (br_t rfl (br_f c0 (br_t c26 (br_f (by decide) (br_f (by decide) (br_f (by decide) (br_f (by decide) (xw_iv1 hm5 hv (br_f (by decide) (br_t (by decide) (br_f (by decide) (br_f (by decide) (br_f (by decide) (br_f (by decide) (br_f (by decide) (br_f (by decide) (br_f (by decide) (br_f (by decide) (br_f (by decide) (br_f (by decide) (br_f (by decide) (br_t rfl (xw_uc hn5 hm5 RA.1 XH.1 d48 ?_)))))))))))))))))))))))
    refine yw_bad0 hm hn5 (br_t rfl (br_f c0 (br_t c26 (br_f (by decide) (br_f (by decide) (br_f (by decide) (br_f (by decide) (yw_iv1 hm5 hv (br_f (by decide) (yw_attemptOf hm hn5 YA (yw_stable hm hn5 YL v48 eD d48 XH.2.1 ?_)))))))))))
    simp only [em, ea, eb, ec, vs_Ia]
    have es : vs_stb (mk m) (fun j => if j = m then dl m else hd (m * 5 + j)) (dl m) n = vs_stb (mk m) (fun j => hx (m * 5 + j)) (dl m) n := vs_stb_c (fun j hj _ => by
        have t := XH.2.2 m hm
        by_cases z : j = m
        · rw [if_pos z, z, t.1]
        · rw [if_neg z, t.2 j hj z])
    have hS48 := vs_stb_le (mk m) (fun j => hx (m * 5 + j)) (dl m) n
    rw [es]
    refine (br_f (by decide) (br_f (by decide) (br_f (by decide) (br_f (by decide) (br_f (by decide) (br_f (by decide) (br_f (by decide) (br_f (by decide) (br_f (by decide) (br_f (by decide) (br_f (by decide) (br_t rfl (yw_i10 YH hm hn5 hvm (by omega) ?_ ⟨?_, fin⟩)))))))))))))
    · cases e : H m 0
      · rfl
      · have := (vs_h48 gH hm e).1; omega
    · congr 1
      symm
      refine vs_uc (RA.2 m hm hvm) (fun q hq => (vs_h48 gH hm hq).2) (fun a b hb hab => ?_)
      have h8 := vs_b8 gH gO gD gV hw8 hm hm hvm rfl hb
      refine vs_stb_ge (by omega) (fun j hj hbj => ?_)
      have t := XH.2.2 m hm
      by_cases z : j = m
      · rw [z, t.1]; omega
      · have g7 := Y7 m hm hvm b hb j hj z hbj
        rw [t.2 j hj z]; omega
  · by_cases hv : md m = 2 ∨ md m = 3
    case neg => exact xw_bad0 hm hn5 (br_t rfl (br_f c0 (br_t c26 (br_f (by decide) (br_f (by decide) (br_f (by decide) (br_f (by decide) (xw_iv0 hm5 hv (br_t rfl (yw_bad0 hm hn5 (br_t rfl (br_f c0 (br_t c26 (br_f (by decide) (br_f (by decide) (br_f (by decide) (br_f (by decide) (yw_iv0 hm5 hv (br_t rfl ⟨by trivial, fin⟩)))))))))))))))))))
    have hvm := ((gM m hm).2).mp hv
    have eD := (gD m hm).1 hvm
    refine xw_bad0 hm hn5 (br_t rfl (br_f c0 (br_t c26 (br_f (by decide) (br_f (by decide) (br_f (by decide) (br_f (by decide) (xw_iv1 hm5 hv (br_f (by decide) (br_t (by decide) (br_f (by decide) (br_f (by decide) (br_f (by decide) (br_f (by decide) (br_f (by decide) (br_f (by decide) (br_f (by decide) (br_f (by decide) (br_f (by decide) (br_f (by decide) (br_f (by decide) (br_f (by decide) (br_t rfl ⟨hi, ?_⟩)))))))))))))))))))))))
    refine yw_bad0 hm hn5 (br_t rfl (br_f c0 (br_t c26 (br_f (by decide) (br_f (by decide) (br_f (by decide) (br_f (by decide) (yw_iv1 hm5 hv (br_f (by decide) (yw_attemptOf hm hn5 YA (yw_stable hm hn5 YL v48 eD d48 XH.2.1 ?_)))))))))))
    simp only [em, ea, eb, ec, vs_Ia]
    exact (br_f (by decide) (br_f (by decide) (br_f (by decide) (br_f (by decide) (br_f (by decide) (br_f (by decide) (br_f (by decide) (br_f (by decide) (br_f (by decide) (br_f (by decide) (br_f (by decide) (br_f (by decide) (br_t rfl (yw_i11 hm5 hsn (fun i => gT.2.2.2.2.1 i) ⟨by rw [(XO m hm).1], fin⟩))))))))))))))
  · by_cases hv : md m = 2 ∨ md m = 3
    case neg => exact xw_bad0 hm hn5 (br_t rfl (br_f c0 (br_t c26 (br_f (by decide) (br_f (by decide) (br_f (by decide) (br_f (by decide) (xw_iv0 hm5 hv (br_t rfl (yw_bad0 hm hn5 (br_t rfl (br_f c0 (br_t c26 (br_f (by decide) (br_f (by decide) (br_f (by decide) (br_f (by decide) (yw_iv0 hm5 hv (br_t rfl ⟨by trivial, fin⟩)))))))))))))))))))
    have hvm := ((gM m hm).2).mp hv
    have eD := (gD m hm).1 hvm
    refine xw_bad0 hm hn5 (br_t rfl (br_f c0 (br_t c26 (br_f (by decide) (br_f (by decide) (br_f (by decide) (br_f (by decide) (xw_iv1 hm5 hv (br_f (by decide) (br_t (by decide) (br_f (by decide) (br_f (by decide) (br_f (by decide) (br_f (by decide) (br_f (by decide) (br_f (by decide) (br_f (by decide) (br_f (by decide) (br_f (by decide) (br_f (by decide) (br_f (by decide) (br_f (by decide) (br_f (by decide) (br_t rfl ⟨hi, ?_⟩))))))))))))))))))))))))
    refine yw_bad0 hm hn5 (br_t rfl (br_f c0 (br_t c26 (br_f (by decide) (br_f (by decide) (br_f (by decide) (br_f (by decide) (yw_iv1 hm5 hv (br_f (by decide) (yw_attemptOf hm hn5 YA (yw_stable hm hn5 YL v48 eD d48 XH.2.1 ?_)))))))))))
    simp only [em, ea, eb, ec, vs_Ia]
    exact (br_f (by decide) (br_f (by decide) (br_f (by decide) (br_f (by decide) (br_f (by decide) (br_f (by decide) (br_f (by decide) (br_f (by decide) (br_f (by decide) (br_f (by decide) (br_f (by decide) (br_f (by decide) (br_f (by decide) (br_t rfl ⟨hi, by trivial, fin⟩))))))))))))))
  · by_cases hv : md m = 2 ∨ md m = 3
    case neg => exact xw_bad0 hm hn5 (br_t rfl (br_f c0 (br_t c26 (br_f (by decide) (br_f (by decide) (br_f (by decide) (br_f (by decide) (xw_iv0 hm5 hv (br_t rfl (yw_bad0 hm hn5 (br_t rfl (br_f c0 (br_t c26 (br_f (by decide) (br_f (by decide) (br_f (by decide) (br_f (by decide) (yw_iv0 hm5 hv (br_t rfl ⟨by trivial, fin⟩)))))))))))))))))))
    have hvm := ((gM m hm).2).mp hv
    have eD := (gD m hm).1 hvm
    refine xw_bad0 hm hn5 (br_t rfl (br_f c0 (br_t c26 (br_f (by decide) (br_f (by decide) (br_f (by decide) (br_f (by decide) (xw_iv1 hm5 hv (br_f (by decide) (br_t (by decide) (br_f (by decide) (br_f (by decide) (br_f (by decide) (br_f (by decide) (br_f (by decide) (br_f (by decide) (br_f (by decide) (br_f (by decide) (br_f (by decide) (br_f (by decide) (br_f (by decide) (br_f (by decide) (br_f (by decide) (br_f (by decide) (br_t rfl ⟨hi, ?_⟩)))))))))))))))))))))))))
    refine yw_bad0 hm hn5 (br_t rfl (br_f c0 (br_t c26 (br_f (by decide) (br_f (by decide) (br_f (by decide) (br_f (by decide) (yw_iv1 hm5 hv (br_f (by decide) (yw_attemptOf hm hn5 YA (yw_stable hm hn5 YL v48 eD d48 XH.2.1 ?_)))))))))))
    simp only [em, ea, eb, ec, vs_Ia]
    exact (br_f (by decide) (br_f (by decide) (br_f (by decide) (br_f (by decide) (br_f (by decide) (br_f (by decide) (br_f (by decide) (br_f (by decide) (br_f (by decide) (br_f (by decide) (br_f (by decide) (br_f (by decide) (br_f (by decide) (br_f (by decide) (br_t rfl ⟨hi, by trivial, fin⟩)))))))))))))))
  · refine xw_bad0 hm hn5 (br_t rfl (br_f c0 (br_t c26 (br_f (by decide) (br_f (by decide) (br_f (by decide) (br_t rfl ⟨hi, ?_⟩)))))))
    exact yw_bad0 hm hn5 (br_t rfl (br_f c0 (br_t c26 (br_f (by decide) (br_f (by decide) (br_f (by decide) (br_t rfl (yw_i14 hm5 YL.2.2.2 (fun f => (YL.2.2.1 f).1) ⟨by rw [YL.1 m hm, (XL m hm).1], fin⟩))))))))
  · by_cases hv : md m = 2 ∨ md m = 3
    case neg => exact xw_bad0 hm hn5 (br_t rfl (br_f c0 (br_t c26 (br_f (by decide) (br_f (by decide) (br_f (by decide) (br_f (by decide) (xw_iv0 hm5 hv (br_t rfl (yw_bad0 hm hn5 (br_t rfl (br_f c0 (br_t c26 (br_f (by decide) (br_f (by decide) (br_f (by decide) (br_f (by decide) (yw_iv0 hm5 hv (br_t rfl ⟨by trivial, fin⟩)))))))))))))))))))
    have hvm := ((gM m hm).2).mp hv
    have eD := (gD m hm).1 hvm
    refine xw_bad0 hm hn5 (br_t rfl (br_f c0 (br_t c26 (br_f (by decide) (br_f (by decide) (br_f (by decide) (br_f (by decide) (xw_iv1 hm5 hv (br_f (by decide) (br_t (by decide) (br_f (by decide) (br_f (by decide) (br_f (by decide) (br_f (by decide) (br_f (by decide) (br_f (by decide) (br_f (by decide) (br_f (by decide) (br_f (by decide) (br_f (by decide) (br_f (by decide) (br_f (by decide) (br_f (by decide) (br_f (by decide) (br_f (by decide) (br_f (by decide) (br_t rfl ⟨hi, ?_⟩)))))))))))))))))))))))))))
    refine yw_bad0 hm hn5 (br_t rfl (br_f c0 (br_t c26 (br_f (by decide) (br_f (by decide) (br_f (by decide) (br_f (by decide) (yw_iv1 hm5 hv (br_f (by decide) (yw_attemptOf hm hn5 YA (yw_stable hm hn5 YL v48 eD d48 XH.2.1 ?_)))))))))))
    simp only [em, ea, eb, ec, vs_Ia]
    exact (br_f (by decide) (br_f (by decide) (br_f (by decide) (br_f (by decide) (br_f (by decide) (br_f (by decide) (br_f (by decide) (br_f (by decide) (br_f (by decide) (br_f (by decide) (br_f (by decide) (br_f (by decide) (br_f (by decide) (br_f (by decide) (br_f (by decide) (br_f (by decide) (br_t rfl ⟨hi, by trivial, fin⟩)))))))))))))))))
  · by_cases hv : md m = 2 ∨ md m = 3
    case neg => exact xw_bad0 hm hn5 (br_t rfl (br_f c0 (br_t c26 (br_f (by decide) (br_f (by decide) (br_f (by decide) (br_f (by decide) (xw_iv0 hm5 hv (br_t rfl (yw_bad0 hm hn5 (br_t rfl (br_f c0 (br_t c26 (br_f (by decide) (br_f (by decide) (br_f (by decide) (br_f (by decide) (yw_iv0 hm5 hv (br_t rfl ⟨by trivial, fin⟩)))))))))))))))))))
    have hvm := ((gM m hm).2).mp hv
    have eD := (gD m hm).1 hvm
    refine xw_bad0 hm hn5 (br_t rfl (br_f c0 (br_t c26 (br_f (by decide) (br_f (by decide) (br_f (by decide) (br_f (by decide) (xw_iv1 hm5 hv (br_f (by decide) (br_t (by decide) (br_f (by decide) (br_f (by decide) (br_f (by decide) (br_f (by decide) (br_f (by decide) (br_f (by decide) (br_f (by decide) (br_f (by decide) (br_f (by decide) (br_f (by decide) (br_f (by decide) (br_f (by decide) (br_f (by decide) (br_f (by decide) (br_f (by decide) (br_f (by decide) (br_f (by decide) (br_t rfl ⟨hi, ?_⟩))))))))))))))))))))))))))))
    refine yw_bad0 hm hn5 (br_t rfl (br_f c0 (br_t c26 (br_f (by decide) (br_f (by decide) (br_f (by decide) (br_f (by decide) (yw_iv1 hm5 hv (br_f (by decide) (yw_attemptOf hm hn5 YA (yw_stable hm hn5 YL v48 eD d48 XH.2.1 ?_)))))))))))
    simp only [em, ea, eb, ec, vs_Ia]
    exact (br_f (by decide) (br_f (by decide) (br_f (by decide) (br_f (by decide) (br_f (by decide) (br_f (by decide) (br_f (by decide) (br_f (by decide) (br_f (by decide) (br_f (by decide) (br_f (by decide) (br_f (by decide) (br_f (by decide) (br_f (by decide) (br_f (by decide) (br_f (by decide) (br_f (by decide) (br_t rfl ⟨hi, by trivial, fin⟩))))))))))))))))))
  · by_cases hv : md m = 2 ∨ md m = 3
    case neg => exact xw_bad0 hm hn5 (br_t rfl (br_f c0 (br_t c26 (br_f (by decide) (br_f (by decide) (br_f (by decide) (br_f (by decide) (xw_iv0 hm5 hv (br_t rfl (yw_bad0 hm hn5 (br_t rfl (br_f c0 (br_t c26 (br_f (by decide) (br_f (by decide) (br_f (by decide) (br_f (by decide) (yw_iv0 hm5 hv (br_t rfl ⟨by trivial, fin⟩)))))))))))))))))))
    have hvm := ((gM m hm).2).mp hv
    have eD := (gD m hm).1 hvm
    refine xw_bad0 hm hn5 (br_t rfl (br_f c0 (br_t c26 (br_f (by decide) (br_f (by decide) (br_f (by decide) (br_f (by decide) (xw_iv1 hm5 hv (br_f (by decide) (br_t (by decide) (br_f (by decide) (br_f (by decide) (br_f (by decide) (br_f (by decide) (br_f (by decide) (br_f (by decide) (br_f (by decide) (br_f (by decide) (br_f (by decide) (br_f (by decide) (br_f (by decide) (br_f (by decide) (br_f (by decide) (br_f (by decide) (br_f (by decide) (br_f (by decide) (br_f (by decide) (br_f (by decide) (br_t rfl ⟨hi, ?_⟩)))))))))))))))))))))))))))))
    refine yw_bad0 hm hn5 (br_t rfl (br_f c0 (br_t c26 (br_f (by decide) (br_f (by decide) (br_f (by decide) (br_f (by decide) (yw_iv1 hm5 hv (br_f (by decide) (yw_attemptOf hm hn5 YA (yw_stable hm hn5 YL v48 eD d48 XH.2.1 ?_)))))))))))
    simp only [em, ea, eb, ec, vs_Ia]
    exact (br_f (by decide) (br_f (by decide) (br_f (by decide) (br_f (by decide) (br_f (by decide) (br_f (by decide) (br_f (by decide) (br_f (by decide) (br_f (by decide) (br_f (by decide) (br_f (by decide) (br_f (by decide) (br_f (by decide) (br_f (by decide) (br_f (by decide) (br_f (by decide) (br_f (by decide) (br_f (by decide) (br_t rfl ⟨hi, hic, by rw [Xm.2.2.2.2.2.2.2.1], fin⟩)))))))))))))))))))
  · by_cases hv : md m = 2 ∨ md m = 3
    case neg => exact xw_bad0 hm hn5 (br_t rfl (br_f c0 (br_t c26 (br_f (by decide) (br_f (by decide) (br_f (by decide) (br_f (by decide) (xw_iv0 hm5 hv (br_t rfl (yw_bad0 hm hn5 (br_t rfl (br_f c0 (br_t c26 (br_f (by decide) (br_f (by decide) (br_f (by decide) (br_f (by decide) (yw_iv0 hm5 hv (br_t rfl ⟨by trivial, fin⟩)))))))))))))))))))
    have hvm := ((gM m hm).2).mp hv
    have eD := (gD m hm).1 hvm
    refine xw_bad0 hm hn5 (br_t rfl (br_f c0 (br_t c26 (br_f (by decide) (br_f (by decide) (br_f (by decide) (br_f (by decide) (xw_iv1 hm5 hv (br_f (by decide) (br_t (by decide) (br_f (by decide) (br_f (by decide) (br_f (by decide) (br_f (by decide) (br_f (by decide) (br_f (by decide) (br_f (by decide) (br_f (by decide) (br_f (by decide) (br_f (by decide) (br_f (by decide) (br_f (by decide) (br_f (by decide) (br_f (by decide) (br_f (by decide) (br_f (by decide) (br_f (by decide) (br_f (by decide) (br_f (by decide) (br_t rfl ⟨hi, ?_⟩))))))))))))))))))))))))))))))
    refine yw_bad0 hm hn5 (br_t rfl (br_f c0 (br_t c26 (br_f (by decide) (br_f (by decide) (br_f (by decide) (br_f (by decide) (yw_iv1 hm5 hv (br_f (by decide) (yw_attemptOf hm hn5 YA (yw_stable hm hn5 YL v48 eD d48 XH.2.1 ?_)))))))))))
    simp only [em, ea, eb, ec, vs_Ia]
    exact (br_f (by decide) (br_f (by decide) (br_f (by decide) (br_f (by decide) (br_f (by decide) (br_f (by decide) (br_f (by decide) (br_f (by decide) (br_f (by decide) (br_f (by decide) (br_f (by decide) (br_f (by decide) (br_f (by decide) (br_f (by decide) (br_f (by decide) (br_f (by decide) (br_f (by decide) (br_f (by decide) (br_f (by decide) (br_t rfl ⟨hi, hic, by rw [Xm.2.2.2.2.2.2.2.2], fin⟩))))))))))))))))))))
  · by_cases hv : md m = 2 ∨ md m = 3
    case neg => exact xw_bad0 hm hn5 (br_t rfl (br_f c0 (br_t c26 (br_f (by decide) (br_f (by decide) (br_f (by decide) (br_f (by decide) (xw_iv0 hm5 hv (br_t rfl (yw_bad0 hm hn5 (br_t rfl (br_f c0 (br_t c26 (br_f (by decide) (br_f (by decide) (br_f (by decide) (br_f (by decide) (yw_iv0 hm5 hv (br_t rfl ⟨by trivial, fin⟩)))))))))))))))))))
    have hvm := ((gM m hm).2).mp hv
    have eD := (gD m hm).1 hvm
    refine xw_bad0 hm hn5 (br_t rfl (br_f c0 (br_t c26 (br_f (by decide) (br_f (by decide) (br_f (by decide) (br_f (by decide) (xw_iv1 hm5 hv (br_f (by decide) (br_f (by decide) (br_f (by decide) (br_f (by decide) (br_t rfl ⟨hi, ?_⟩)))))))))))))
    refine yw_bad0 hm hn5 (br_t rfl (br_f c0 (br_t c26 (br_f (by decide) (br_f (by decide) (br_f (by decide) (br_f (by decide) (yw_iv1 hm5 hv (br_f (by decide) (yw_attemptOf hm hn5 YA (yw_stable hm hn5 YL v48 eD d48 XH.2.1 ?_)))))))))))
    simp only [em, ea, eb, ec, vs_Ia]
    exact (br_f (by decide) (br_f (by decide) (br_f (by decide) (br_f (by decide) (br_f (by decide) (br_f (by decide) (br_f (by decide) (br_f (by decide) (br_f (by decide) (br_f (by decide) (br_f (by decide) (br_f (by decide) (br_f (by decide) (br_f (by decide) (br_f (by decide) (br_f (by decide) (br_f (by decide) (br_f (by decide) (br_f (by decide) (br_f (by decide) (br_t rfl ⟨by trivial, fin⟩)))))))))))))))))))))
  · by_cases hv : md m = 2 ∨ md m = 3
    case neg => exact xw_bad0 hm hn5 (br_t rfl (br_f c0 (br_t c26 (br_f (by decide) (br_f (by decide) (br_f (by decide) (br_f (by decide) (xw_iv0 hm5 hv (br_t rfl (yw_bad0 hm hn5 (br_t rfl (br_f c0 (br_t c26 (br_f (by decide) (br_f (by decide) (br_f (by decide) (br_f (by decide) (yw_iv0 hm5 hv (br_t rfl ⟨by trivial, fin⟩)))))))))))))))))))
    have hvm := ((gM m hm).2).mp hv
    have eD := (gD m hm).1 hvm
    refine xw_bad0 hm hn5 (br_t rfl (br_f c0 (br_t c26 (br_f (by decide) (br_f (by decide) (br_f (by decide) (br_f (by decide) (xw_iv1 hm5 hv (br_f (by decide) (br_f (by decide) (br_f (by decide) (br_f (by decide) (br_f (by decide) (br_t rfl ⟨hi, ?_⟩))))))))))))))
    refine yw_bad0 hm hn5 (br_t rfl (br_f c0 (br_t c26 (br_f (by decide) (br_f (by decide) (br_f (by decide) (br_f (by decide) (yw_iv1 hm5 hv (br_f (by decide) (yw_attemptOf hm hn5 YA (yw_stable hm hn5 YL v48 eD d48 XH.2.1 ?_)))))))))))
    simp only [em, ea, eb, ec, vs_Ia]
    exact (br_f (by decide) (br_f (by decide) (br_f (by decide) (br_f (by decide) (br_f (by decide) (br_f (by decide) (br_f (by decide) (br_f (by decide) (br_f (by decide) (br_f (by decide) (br_f (by decide) (br_f (by decide) (br_f (by decide) (br_f (by decide) (br_f (by decide) (br_f (by decide) (br_f (by decide) (br_f (by decide) (br_f (by decide) (br_f (by decide) (br_f (by decide) (br_t rfl ⟨hia, by rw [Xm.1], fin⟩))))))))))))))))))))))
  · by_cases hv : md m = 2 ∨ md m = 3
    case neg => exact xw_bad0 hm hn5 (br_t rfl (br_f c0 (br_t c26 (br_f (by decide) (br_f (by decide) (br_f (by decide) (br_f (by decide) (xw_iv0 hm5 hv (br_t rfl (yw_bad0 hm hn5 (br_t rfl (br_f c0 (br_t c26 (br_f (by decide) (br_f (by decide) (br_f (by decide) (br_f (by decide) (yw_iv0 hm5 hv (br_t rfl ⟨by trivial, fin⟩)))))))))))))))))))
    have hvm := ((gM m hm).2).mp hv
    have eD := (gD m hm).1 hvm
    refine xw_bad0 hm hn5 (br_t rfl (br_f c0 (br_t c26 (br_f (by decide) (br_f (by decide) (br_f (by decide) (br_f (by decide) (xw_iv1 hm5 hv (br_f (by decide) (br_f (by decide) (br_f (by decide) (br_f (by decide) (br_f (by decide) (br_f (by decide) (br_t rfl ⟨hi, ?_⟩)))))))))))))))
    refine yw_bad0 hm hn5 (br_t rfl (br_f c0 (br_t c26 (br_f (by decide) (br_f (by decide) (br_f (by decide) (br_f (by decide) (yw_iv1 hm5 hv (br_f (by decide) (yw_attemptOf hm hn5 YA (yw_stable hm hn5 YL v48 eD d48 XH.2.1 ?_)))))))))))
    simp only [em, ea, eb, ec, vs_Ia]
    exact (br_f (by decide) (br_f (by decide) (br_f (by decide) (br_f (by decide) (br_f (by decide) (br_f (by decide) (br_f (by decide) (br_f (by decide) (br_f (by decide) (br_f (by decide) (br_f (by decide) (br_f (by decide) (br_f (by decide) (br_f (by decide) (br_f (by decide) (br_f (by decide) (br_f (by decide) (br_f (by decide) (br_f (by decide) (br_f (by decide) (br_f (by decide) (br_f (by decide) (br_t rfl ⟨hia, by rw [Xm.2.1], fin⟩)))))))))))))))))))))))
  · by_cases hv : md m = 2 ∨ md m = 3
    case neg => exact xw_bad0 hm hn5 (br_t rfl (br_f c0 (br_t c26 (br_f (by decide) (br_f (by decide) (br_f (by decide) (br_f (by decide) (xw_iv0 hm5 hv (br_t rfl (yw_bad0 hm hn5 (br_t rfl (br_f c0 (br_t c26 (br_f (by decide) (br_f (by decide) (br_f (by decide) (br_f (by decide) (yw_iv0 hm5 hv (br_t rfl ⟨by trivial, fin⟩)))))))))))))))))))
    have hvm := ((gM m hm).2).mp hv
    have eD := (gD m hm).1 hvm
    refine xw_bad0 hm hn5 (br_t rfl (br_f c0 (br_t c26 (br_f (by decide) (br_f (by decide) (br_f (by decide) (br_f (by decide) (xw_iv1 hm5 hv (br_f (by decide) (br_f (by decide) (br_f (by decide) (br_f (by decide) (br_f (by decide) (br_f (by decide) (br_f (by decide) (br_t rfl ⟨hi, ?_⟩))))))))))))))))
    refine yw_bad0 hm hn5 (br_t rfl (br_f c0 (br_t c26 (br_f (by decide) (br_f (by decide) (br_f (by decide) (br_f (by decide) (yw_iv1 hm5 hv (br_f (by decide) (yw_attemptOf hm hn5 YA (yw_stable hm hn5 YL v48 eD d48 XH.2.1 ?_)))))))))))
    simp only [em, ea, eb, ec, vs_Ia]
    exact (br_f (by decide) (br_f (by decide) (br_f (by decide) (br_f (by decide) (br_f (by decide) (br_f (by decide) (br_f (by decide) (br_f (by decide) (br_f (by decide) (br_f (by decide) (br_f (by decide) (br_f (by decide) (br_f (by decide) (br_f (by decide) (br_f (by decide) (br_f (by decide) (br_f (by decide) (br_f (by decide) (br_f (by decide) (br_f (by decide) (br_f (by decide) (br_f (by decide) (br_f (by decide) (br_t rfl ⟨hia, hib, by rw [Xm.2.2.1], fin⟩))))))))))))))))))))))))
  · by_cases hv : md m = 2 ∨ md m = 3
    case neg => exact xw_bad0 hm hn5 (br_t rfl (br_f c0 (br_t c26 (br_f (by decide) (br_f (by decide) (br_f (by decide) (br_f (by decide) (xw_iv0 hm5 hv (br_t rfl (yw_bad0 hm hn5 (br_t rfl (br_f c0 (br_t c26 (br_f (by decide) (br_f (by decide) (br_f (by decide) (br_f (by decide) (yw_iv0 hm5 hv (br_t rfl ⟨by trivial, fin⟩)))))))))))))))))))
    have hvm := ((gM m hm).2).mp hv
    have eD := (gD m hm).1 hvm
    refine xw_bad0 hm hn5 (br_t rfl (br_f c0 (br_t c26 (br_f (by decide) (br_f (by decide) (br_f (by decide) (br_f (by decide) (xw_iv1 hm5 hv (br_f (by decide) (br_f (by decide) (br_f (by decide) (br_f (by decide) (br_f (by decide) (br_f (by decide) (br_f (by decide) (br_f (by decide) (br_t rfl ⟨hi, ?_⟩)))))))))))))))))
    refine yw_bad0 hm hn5 (br_t rfl (br_f c0 (br_t c26 (br_f (by decide) (br_f (by decide) (br_f (by decide) (br_f (by decide) (yw_iv1 hm5 hv (br_f (by decide) (yw_attemptOf hm hn5 YA (yw_stable hm hn5 YL v48 eD d48 XH.2.1 ?_)))))))))))
    simp only [em, ea, eb, ec, vs_Ia]
    exact (br_f (by decide) (br_f (by decide) (br_f (by decide) (br_f (by decide) (br_f (by decide) (br_f (by decide) (br_f (by decide) (br_f (by decide) (br_f (by decide) (br_f (by decide) (br_f (by decide) (br_f (by decide) (br_f (by decide) (br_f (by decide) (br_f (by decide) (br_f (by decide) (br_f (by decide) (br_f (by decide) (br_f (by decide) (br_f (by decide) (br_f (by decide) (br_f (by decide) (br_f (by decide) (br_f (by decide) (br_t rfl ⟨hia, hib, by rw [Xm.2.2.2.1], fin⟩)))))))))))))))))))))))))
  · by_cases hv : md m = 2 ∨ md m = 3
    case neg => exact xw_bad0 hm hn5 (br_t rfl (br_f c0 (br_t c26 (br_f (by decide) (br_f (by decide) (br_f (by decide) (br_f (by decide) (xw_iv0 hm5 hv (br_t rfl (yw_bad0 hm hn5 (br_t rfl (br_f c0 (br_t c26 (br_f (by decide) (br_f (by decide) (br_f (by decide) (br_f (by decide) (yw_iv0 hm5 hv (br_t rfl ⟨by trivial, fin⟩)))))))))))))))))))
    have hvm := ((gM m hm).2).mp hv
    have eD := (gD m hm).1 hvm
    refine xw_bad0 hm hn5 (br_t rfl (br_f c0 (br_t c26 (br_f (by decide) (br_f (by decide) (br_f (by decide) (br_f (by decide) (xw_iv1 hm5 hv (br_f (by decide) (br_f (by decide) (br_f (by decide) (br_f (by decide) (br_f (by decide) (br_f (by decide) (br_f (by decide) (br_f (by decide) (br_f (by decide) (br_t rfl ⟨hi, ?_⟩))))))))))))))))))
    refine yw_bad0 hm hn5 (br_t rfl (br_f c0 (br_t c26 (br_f (by decide) (br_f (by decide) (br_f (by decide) (br_f (by decide) (yw_iv1 hm5 hv (br_f (by decide) (yw_attemptOf hm hn5 YA (yw_stable hm hn5 YL v48 eD d48 XH.2.1 ?_)))))))))))
    simp only [em, ea, eb, ec, vs_Ia]
    exact (br_f (by decide) (br_f (by decide) (br_f (by decide) (br_f (by decide) (br_f (by decide) (br_f (by decide) (br_f (by decide) (br_f (by decide) (br_f (by decide) (br_f (by decide) (br_f (by decide) (br_f (by decide) (br_f (by decide) (br_f (by decide) (br_f (by decide) (br_f (by decide) (br_f (by decide) (br_f (by decide) (br_f (by decide) (br_f (by decide) (br_f (by decide) (br_f (by decide) (br_f (by decide) (br_f (by decide) (br_f (by decide) (br_t rfl ⟨hia, by rw [Xm.2.2.2.2.1], fin⟩))))))))))))))))))))))))))
  · by_cases hv : md m = 2 ∨ md m = 3
    case neg => exact xw_bad0 hm hn5 (br_t rfl (br_f c0 (br_t c26 (br_f (by decide) (br_f (by decide) (br_f (by decide) (br_f (by decide) (xw_iv0 hm5 hv (br_t rfl (yw_bad0 hm hn5 (br_t rfl (br_f c0 (br_t c26 (br_f (by decide) (br_f (by decide) (br_f (by decide) (br_f (by decide) (yw_iv0 hm5 hv (br_t rfl ⟨by trivial, fin⟩)))))))))))))))))))
    have hvm := ((gM m hm).2).mp hv
    have eD := (gD m hm).1 hvm
    refine xw_bad0 hm hn5 (br_t rfl (br_f c0 (br_t c26 (br_f (by decide) (br_f (by decide) (br_f (by decide) (br_f (by decide) (xw_iv1 hm5 hv (br_f (by decide) (br_f (by decide) (br_f (by decide) (br_f (by decide) (br_f (by decide) (br_f (by decide) (br_f (by decide) (br_f (by decide) (br_f (by decide) (br_f (by decide) (br_t rfl ⟨hi, ?_⟩)))))))))))))))))))
    refine yw_bad0 hm hn5 (br_t rfl (br_f c0 (br_t c26 (br_f (by decide) (br_f (by decide) (br_f (by decide) (br_f (by decide) (yw_iv1 hm5 hv (br_f (by decide) (yw_attemptOf hm hn5 YA (yw_stable hm hn5 YL v48 eD d48 XH.2.1 ?_)))))))))))
    simp only [em, ea, eb, ec, vs_Ia]
    exact (br_f (by decide) (br_f (by decide) (br_f (by decide) (br_f (by decide) (br_f (by decide) (br_f (by decide) (br_f (by decide) (br_f (by decide) (br_f (by decide) (br_f (by decide) (br_f (by decide) (br_f (by decide) (br_f (by decide) (br_f (by decide) (br_f (by decide) (br_f (by decide) (br_f (by decide) (br_f (by decide) (br_f (by decide) (br_f (by decide) (br_f (by decide) (br_f (by decide) (br_f (by decide) (br_f (by decide) (br_f (by decide) (br_f (by decide) (br_t rfl ⟨hia, by rw [Xm.2.2.2.2.2.1], fin⟩)))))))))))))))))))))))))))
  · by_cases hv : md m = 2 ∨ md m = 3
    case neg => exact xw_bad0 hm hn5 (br_t rfl (br_f c0 (br_t c26 (br_f (by decide) (br_f (by decide) (br_f (by decide) (br_f (by decide) (xw_iv0 hm5 hv (br_t rfl (yw_bad0 hm hn5 (br_t rfl (br_f c0 (br_t c26 (br_f (by decide) (br_f (by decide) (br_f (by decide) (br_f (by decide) (yw_iv0 hm5 hv (br_t rfl ⟨by trivial, fin⟩)))))))))))))))))))
    have hvm := ((gM m hm).2).mp hv
    have eD := (gD m hm).1 hvm
    refine xw_bad0 hm hn5 (br_t rfl (br_f c0 (br_t c26 (br_f (by decide) (br_f (by decide) (br_f (by decide) (br_f (by decide) (xw_iv1 hm5 hv (br_f (by decide) (br_f (by decide) (br_f (by decide) (br_f (by decide) (br_f (by decide) (br_f (by decide) (br_f (by decide) (br_f (by decide) (br_f (by decide) (br_f (by decide) (br_f (by decide) (br_t rfl ⟨hi, ?_⟩))))))))))))))))))))
    refine yw_bad0 hm hn5 (br_t rfl (br_f c0 (br_t c26 (br_f (by decide) (br_f (by decide) (br_f (by decide) (br_f (by decide) (yw_iv1 hm5 hv (br_f (by decide) (yw_attemptOf hm hn5 YA (yw_stable hm hn5 YL v48 eD d48 XH.2.1 ?_)))))))))))
    simp only [em, ea, eb, ec, vs_Ia]
    exact (br_f (by decide) (br_t (by decide) ⟨hia, by rw [Xm.2.2.2.2.2.2.1], fin⟩))
end
section
/-! order: a message is numbered (pure) -/
variable {n w sn st fc : Nat} {md ins l1 l2 l3 l4 mk nw tp su jo am acu b1 b2 b3 o1 o2 xr xb xm xc xp xq xa va ho re pm aq VM : Nat → Int32} {lv lc vw ct dl pr ac hx bn oc att hd sd wt mv mn fm fs fv ow li be pc av VC : Nat → Nat} {lg : Nat → List (Nat × Nat)} {H : Nat → Nat → Bool}
theorem vs_ix_u (gT : vs_gT n sn mv mn wt sd) {v k i : Nat} (hv : v ≠ 0) (h : mv i = v ∧ mn i = k) : vs_ix mv mn v k = i := by
  have hi := (gT.1 i (by rw [h.1]; exact hv)).1
  have hs := gT.2.2.2.2.2.1
  have lt := vs_ix_of (show i < 48 by omega) h
  have sp := vs_ix_sp lt
  exact gT.2.2.1 _ _ (by rw [sp.1]; exact hv) (by rw [sp.1, h.1]) (by rw [sp.2, h.2])
theorem vs_N_mono {i v v' : Nat} (h0 : mv i = 0) (hi : i < 48) (hv : v ≠ 0) (h' : v' ≠ 0) : vs_N mv v' ≤ vs_N (vs_u mv i v) v' ∧ (v' ≠ v → vs_N (vs_u mv i v) v' = vs_N mv v') := by
  by_cases e : v' = v
  · subst e
    rw [vs_N_put hi h0 hv]
    exact ⟨by omega, fun z => (z rfl).elim⟩
  · rw [vs_N_other h0 e h']
    exact ⟨Nat.le_refl _, fun _ => rfl⟩
section
variable {i0 v0 : Nat}
theorem vs_num_T (gT : vs_gT n sn mv mn wt sd) (h0 : mv i0 = 0) (hi : i0 < sn) (hv : v0 ≠ 0) (hv48 : v0 ≤ 48) : vs_gT n sn (vs_u mv i0 v0) (vs_u mn i0 (vs_N mv v0 + 1)) (vs_u wt i0 0) sd := by
  obtain ⟨t1, t2, t3, t4, t5, t6, t7⟩ := gT
  have hi48 : i0 < 48 := by omega
  have eN := vs_N_put (v := v0) hi48 h0 hv
  have le48 := vs_N_le (vs_u mv i0 v0) v0
  refine ⟨fun i hi' => ?_, fun x k hx h1 h2 => ?_, fun i i' a b c => ?_, fun i hi' => ?_, fun i => ?_, t6, fun i => ?_⟩
  · by_cases e : i = i0
    · subst e
      rw [vs_us, vs_us, vs_us, eN]
      exact ⟨hi, by omega, Nat.le_refl _, rfl⟩
    · rw [vs_un e] at hi'
      have a := t1 i hi'
      have b := (vs_N_mono h0 hi48 hv hi').1
      rw [vs_un e, vs_un e, vs_un e]
      exact ⟨a.1, a.2.1, by omega, a.2.2.2⟩
  · by_cases e : x = v0 ∧ k = vs_N mv v0 + 1
    · exact ⟨i0, by rw [vs_us]; exact e.1.symm, by rw [vs_us]; exact e.2.symm⟩
    · have hk : k ≤ vs_N mv x := by
        by_cases e2 : x = v0
        · subst e2
          rw [eN] at h2
          have : k ≠ vs_N mv x + 1 := fun z => e ⟨rfl, z⟩
          omega
        · rw [(vs_N_mono h0 hi48 hv hx).2 e2] at h2; exact h2
      obtain ⟨i, a, b⟩ := t2 x k hx h1 hk
      have ne : i ≠ i0 := by intro z; rw [z, h0] at a; exact hx a.symm
      exact ⟨i, by rw [vs_un ne]; exact a, by rw [vs_un ne]; exact b⟩
  · by_cases e : i = i0
    · by_cases e' : i' = i0
      · rw [e, e']
      · exfalso
        rw [e, vs_us] at b c
        rw [vs_un e'] at b c
        have := (t1 i' (by omega)).2.2.1
        rw [← b] at this
        omega
    · by_cases e' : i' = i0
      · exfalso
        rw [vs_un e] at a b c
        rw [e', vs_us] at b c
        have := (t1 i a).2.2.1
        rw [b] at this
        omega
      · rw [vs_un e] at a b c
        rw [vs_un e'] at b c
        exact t3 i i' a b c
  · rw [vs_un (by omega)]; exact t4 i hi'
  · have := t5 i
    by_cases e : i = i0
    · rw [e, vs_us]; rw [e] at this; omega
    · rw [vs_un e]; exact this
  · by_cases e : i = i0
    · rw [e, vs_us, vs_us]; omega
    · rw [vs_un e, vs_un e]; exact t7 i
theorem vs_num_ix (gT : vs_gT n sn mv mn wt sd) (h0 : mv i0 = 0) (hi : i0 < sn) (hv : v0 ≠ 0) (hv48 : v0 ≤ 48) {x k : Nat} (hx : x ≠ 0) (h1 : 1 ≤ k) (h2 : k ≤ vs_N mv x) : vs_ix (vs_u mv i0 v0) (vs_u mn i0 (vs_N mv v0 + 1)) x k = vs_ix mv mn x k := by
  obtain ⟨i, a, b⟩ := gT.2.1 x k hx h1 h2
  have ne : i ≠ i0 := by intro z; rw [z, h0] at a; exact hx a.symm
  rw [vs_ix_u gT hx ⟨a, b⟩]
  exact vs_ix_u (vs_num_T gT h0 hi hv hv48) hx ⟨by rw [vs_un ne]; exact a, by rw [vs_un ne]; exact b⟩
theorem vs_num_ix0 (gT : vs_gT n sn mv mn wt sd) (h0 : mv i0 = 0) (hi : i0 < sn) (hv : v0 ≠ 0) (hv48 : v0 ≤ 48) : vs_ix (vs_u mv i0 v0) (vs_u mn i0 (vs_N mv v0 + 1)) v0 (vs_N mv v0 + 1) = i0 :=
  vs_ix_u (vs_num_T gT h0 hi hv hv48) hv ⟨vs_us, vs_us⟩
theorem vs_num_L (gL : vs_gL n lv mv mn lg) (h0 : mv i0 = 0) (hi : i0 < 48) (hv : v0 ≠ 0) {x : Nat} : vs_gL n lv (vs_u mv i0 v0) (vs_u mn i0 x) lg := by
  intro m hm
  have t := gL m hm
  refine ⟨fun i y hy => ?_, t.2.1, fun y hy => ?_⟩
  · have s := t.1 i y hy
    have ne : i ≠ i0 := by intro z; rw [z, h0] at s; exact s.1 s.2.1.symm
    rw [vs_un ne, vs_un ne]; exact s
  · have := t.2.2 y hy
    have := (vs_N_mono h0 hi hv hy).1
    omega
theorem vs_num_H (gH : vs_gH n vw dl mv H) (h0 : mv i0 = 0) (hi : i0 < 48) (hv : v0 ≠ 0) : vs_gH n vw dl (vs_u mv i0 v0) H := by
  intro m hm
  have t := gH m hm
  refine ⟨fun k hk => ?_, t.2⟩
  have s := t.1 k hk
  have := (vs_N_mono h0 hi hv s.1).1
  exact ⟨s.1, s.2.1, by omega⟩
theorem vs_num_YH (Q : vs_YH n sn vw mv mn ho H) (E : vs_gE mv ho) (gT : vs_gT n sn mv mn wt sd) (gH : vs_gH n vw dl mv H) (h0 : mv i0 = 0) (hi : i0 < sn) (hv : v0 ≠ 0) (hv48 : v0 ≤ 48) : vs_YH n sn vw (vs_u mv i0 v0) (vs_u mn i0 (vs_N mv v0 + 1)) ho H := by
  have T' := vs_num_T gT h0 hi hv hv48
  refine ⟨fun i hi' => (T'.1 i hi').1, T'.2.2.2.2.2.2, Q.2.2.1, Q.2.2.2.1, fun m hm hvm k => ?_⟩
  have q := Q.2.2.2.2 m hm hvm k
  by_cases c : 1 ≤ k ∧ k ≤ vs_N mv (vw m)
  · rw [vs_num_ix gT h0 hi hv hv48 hvm c.1 c.2]; exact q
  · have hf : H m k = false := by
      cases e : H m k
      · rfl
      · have := ((gH m hm).1 k e).2; exact (c this).elim
    rw [hf]
    by_cases lt : vs_ix (vs_u mv i0 v0) (vs_u mn i0 (vs_N mv v0 + 1)) (vw m) k < 48
    · rw [decide_eq_true lt, Bool.true_and]
      have sp := vs_ix_sp lt
      by_cases e : vs_ix (vs_u mv i0 v0) (vs_u mn i0 (vs_N mv v0 + 1)) (vw m) k = i0
      · rw [e]; exact (E i0 h0 m).symm
      · rw [vs_un e, vs_un e] at sp
        have a := (gT.1 _ (by rw [sp.1]; exact hvm))
        rw [sp.1, sp.2] at a
        exact (c ⟨a.2.1, a.2.2.1⟩).elim
    · rw [decide_eq_false lt]; rfl
theorem vs_num_RA (R : vs_RA n H vw mv mn va sd bn b1 b2 b3) (gT : vs_gT n sn mv mn wt sd) (gH : vs_gH n vw dl mv H) (h0 : mv i0 = 0) (hi : i0 < sn) (hv : v0 ≠ 0) (hv48 : v0 ≤ 48) : vs_RA n H vw (vs_u mv i0 v0) (vs_u mn i0 (vs_N mv v0 + 1)) va sd bn b1 b2 b3 := by
  refine ⟨R.1, fun j hj hvj => vs_RB_c (R.2 j hj hvj) (fun k hk => ⟨?_, rfl, rfl⟩)⟩
  have t := (gH j hj).1 k hk
  exact vs_num_ix gT h0 hi hv hv48 t.1 t.2.1 t.2.2
end
/-- what the obtaining members get -/
def vs_oH (H : Nat → Nat → Bool) (S : Nat → Bool) (k0 : Nat) : Nat → Nat → Bool := fun a k => H a k || (S a && decide (k = k0))
def vs_oT (tp : Nat → Int32) (S : Nat → Bool) (k0 : Nat) : Nat → Int32 := fun a => if S a = true ∧ ¬ nI k0 ≤ tp a then nI k0 else tp a
def vs_oh (h : Nat → Nat) (mk : Nat → Int32) (S : Nat → Bool) (c n : Nat) : Nat → Nat :=
  fun i => if S (i / 5) = true ∧ i % 5 < n ∧ i % 5 ≠ i / 5 ∧ bt (mk (i / 5)) (i % 5) = true then (if h i < c then c else h i) else h i
def vs_od (dl : Nat → Nat) (S : Nat → Bool) (k0 : Nat) : Nat → Nat := fun a => if S a = true ∧ dl a + 1 = k0 then k0 else dl a
def vs_ol (lg : Nat → List (Nat × Nat)) (dl : Nat → Nat) (S : Nat → Bool) (k0 : Nat) (e : Nat × Nat) : Nat → List (Nat × Nat) := fun a => if S a = true ∧ dl a + 1 = k0 then lg a ++ [e] else lg a
def vs_ox (h : Nat → Nat) (mk : Nat → Int32) (S : Nat → Bool) (c n : Nat) (dl : Nat → Nat) (k0 : Nat) : Nat → Nat :=
  fun i => if i % 5 = i / 5 ∧ S (i / 5) = true ∧ dl (i / 5) + 1 = k0 then k0 else vs_oh h mk S c n i
section
variable {S S' : Nat → Bool} {j c k0 : Nat}
theorem vs_oH_t (hS : ∀ a, S' a = (S a || decide (a = j))) (b : Nat) : vs_oH H S' k0 j b = (vs_oH H S k0 j b || decide (b = k0)) := by
  show (H j b || (S' j && decide (b = k0))) = (H j b || (S j && decide (b = k0)) || decide (b = k0))
  rw [hS, decide_eq_true (show j = j from rfl)]
  cases H j b <;> cases S j <;> simp
theorem vs_oH_o (hS : ∀ a, S' a = (S a || decide (a = j))) (a : Nat) (h : a ≠ j) : vs_oH H S' k0 a = vs_oH H S k0 a := by
  funext b
  show (H a b || (S' a && decide (b = k0))) = (H a b || (S a && decide (b = k0)))
  rw [hS, decide_eq_false h, Bool.or_false]
theorem vs_oT_t (hS : ∀ a, S' a = (S a || decide (a = j))) (hj : S j = false) : vs_oT tp S' k0 = vs_tp (vs_oT tp S k0) j k0 := by
  have e0 : vs_oT tp S k0 j = tp j := if_neg (fun z => by rw [hj] at z; cases z.1)
  funext a
  unfold vs_tp
  rw [e0]
  by_cases e : a = j
  · subst e
    have s1 : S' a = true := by rw [hS, decide_eq_true rfl, Bool.or_true]
    by_cases le : nI k0 ≤ tp a
    · rw [if_pos le, e0]; exact if_neg (fun z => z.2 le)
    · rw [if_neg le, vs_us]; exact if_pos ⟨s1, le⟩
  · have s1 : S' a = S a := by rw [hS, decide_eq_false e, Bool.or_false]
    have e2 : vs_oT tp S' k0 a = vs_oT tp S k0 a := by
      show (if S' a = true ∧ ¬ nI k0 ≤ tp a then nI k0 else tp a) = (if S a = true ∧ ¬ nI k0 ≤ tp a then nI k0 else tp a)
      rw [s1]
    split
    · exact e2
    · rw [vs_un e]; exact e2
theorem vs_oh_t (hS : ∀ a, S' a = (S a || decide (a = j))) (hj : S j = false) : vs_oh hd mk S' c n = vs_rs (vs_oh hd mk S c n) (mk j) j c n := by
  funext i
  by_cases e : i / 5 = j
  · have e0 : vs_oh hd mk S c n i = hd i := if_neg (fun z => by rw [e, hj] at z; cases z.1)
    have s1 : S' (i / 5) = true := by rw [e, hS, decide_eq_true rfl, Bool.or_true]
    unfold vs_rs
    rw [e0]
    show (if S' (i / 5) = true ∧ i % 5 < n ∧ i % 5 ≠ i / 5 ∧ bt (mk (i / 5)) (i % 5) = true then (if hd i < c then c else hd i) else hd i) = _
    rw [s1, e]
    by_cases d : i % 5 < n ∧ i % 5 ≠ j ∧ bt (mk j) (i % 5) = true
    · have A : true = true ∧ i % 5 < n ∧ i % 5 ≠ j ∧ bt (mk j) (i % 5) = true := ⟨rfl, d⟩
      have B : j = j ∧ i % 5 < n ∧ i % 5 ≠ j ∧ bt (mk j) (i % 5) = true := ⟨rfl, d⟩
      rw [if_pos A, if_pos B]
    · rw [if_neg (fun z => d z.2), if_neg (fun z => d z.2)]
  · have s1 : S' (i / 5) = S (i / 5) := by rw [hS, decide_eq_false e, Bool.or_false]
    have e2 : vs_rs (vs_oh hd mk S c n) (mk j) j c n i = vs_oh hd mk S c n i := if_neg (fun z => e z.1)
    rw [e2]
    unfold vs_oh
    rw [s1]
theorem vs_od_t (hS : ∀ a, S' a = (S a || decide (a = j))) (hj : S j = false) : vs_od dl S' k0 = vs_u (vs_od dl S k0) j (if dl j + 1 = k0 then k0 else dl j) := by
  funext a
  by_cases e : a = j
  · subst e
    have s1 : S' a = true := by rw [hS, decide_eq_true rfl, Bool.or_true]
    rw [vs_us]
    show (if S' a = true ∧ dl a + 1 = k0 then k0 else dl a) = _
    by_cases d : dl a + 1 = k0
    · rw [if_pos d, if_pos ⟨s1, d⟩]
    · rw [if_neg d, if_neg (fun z => d z.2)]
  · have s1 : S' a = S a := by rw [hS, decide_eq_false e, Bool.or_false]
    rw [vs_un e]
    unfold vs_od
    rw [s1]
theorem vs_ol_t {x : Nat × Nat} (hS : ∀ a, S' a = (S a || decide (a = j))) (hj : S j = false) : vs_ol lg dl S' k0 x = vs_u (vs_ol lg dl S k0 x) j (if dl j + 1 = k0 then lg j ++ [x] else lg j) := by
  funext a
  by_cases e : a = j
  · subst e
    have s1 : S' a = true := by rw [hS, decide_eq_true rfl, Bool.or_true]
    rw [vs_us]
    show (if S' a = true ∧ dl a + 1 = k0 then lg a ++ [x] else lg a) = _
    by_cases d : dl a + 1 = k0
    · rw [if_pos d, if_pos ⟨s1, d⟩]
    · rw [if_neg d, if_neg (fun z => d z.2)]
  · have s1 : S' a = S a := by rw [hS, decide_eq_false e, Bool.or_false]
    rw [vs_un e]
    unfold vs_ol
    rw [s1]
theorem vs_ox_t (hS : ∀ a, S' a = (S a || decide (a = j))) (hj : S j = false) (hj5 : j < 5) (ho : hx (j * 5 + j) = dl j) : vs_ox hx mk S' c n dl k0 = vs_u (vs_rs (vs_ox hx mk S c n dl k0) (mk j) j c n) (j * 5 + j) (if dl j + 1 = k0 then k0 else dl j) := by
  funext i
  have hoh := congrFun (vs_oh_t (hd := hx) (mk := mk) (c := c) (n := n) hS hj) i
  by_cases e : i = j * 5 + j
  · subst e
    have e1 : (j * 5 + j) / 5 = j := by omega
    have e2 : (j * 5 + j) % 5 = j := by omega
    have s1 : S' j = true := by rw [hS, decide_eq_true rfl, Bool.or_true]
    rw [vs_us]
    show (if (j * 5 + j) % 5 = (j * 5 + j) / 5 ∧ S' ((j * 5 + j) / 5) = true ∧ dl ((j * 5 + j) / 5) + 1 = k0 then k0 else vs_oh hx mk S' c n (j * 5 + j)) = _
    rw [e1, e2]
    by_cases d : dl j + 1 = k0
    · rw [if_pos d, if_pos ⟨rfl, s1, d⟩]
    · rw [if_neg d, if_neg (fun z => d z.2.2)]
      have : vs_oh hx mk S' c n (j * 5 + j) = hx (j * 5 + j) := if_neg (fun z => z.2.2.1 (by rw [e1, e2]))
      rw [this, ho]
  · rw [vs_un e]
    by_cases d : i % 5 = i / 5
    · -- another own cell
      have nj : i / 5 ≠ j := by intro z; omega
      have s1 : S' (i / 5) = S (i / 5) := by rw [hS, decide_eq_false nj, Bool.or_false]
      have e3 : vs_rs (vs_ox hx mk S c n dl k0) (mk j) j c n i = vs_ox hx mk S c n dl k0 i := if_neg (fun z => nj z.1)
      rw [e3]
      show (if i % 5 = i / 5 ∧ S' (i / 5) = true ∧ dl (i / 5) + 1 = k0 then k0 else vs_oh hx mk S' c n i) = (if i % 5 = i / 5 ∧ S (i / 5) = true ∧ dl (i / 5) + 1 = k0 then k0 else vs_oh hx mk S c n i)
      rw [s1]
      have e4 : vs_oh hx mk S' c n i = vs_oh hx mk S c n i := by unfold vs_oh; rw [s1]
      rw [e4]
    · have e5 : vs_ox hx mk S' c n dl k0 i = vs_oh hx mk S' c n i := if_neg (fun z => d z.1)
      have e6 : vs_ox hx mk S c n dl k0 i = vs_oh hx mk S c n i := if_neg (fun z => d z.1)
      rw [e5, hoh]
      unfold vs_rs
      rw [e6]
end
end
section
/-! order: the new invariant -/
variable {n w sn st fc : Nat} {md ins l1 l2 l3 l4 mk nw tp su jo am acu b1 b2 b3 o1 o2 xr xb xm xc xp xq xa va ho re pm aq VM : Nat → Int32} {lv lc vw ct dl pr ac hx bn oc att hd sd wt mv mn fm fs fv ow li be pc av VC : Nat → Nat} {lg : Nat → List (Nat × Nat)} {H : Nat → Nat → Bool}
theorem vs_num_F {i0 v0 : Nat} (gF : vs_gF n vw ct dl mv mn VC VM lg) (gT : vs_gT n sn mv mn wt sd) (gL : vs_gL n lv mv mn lg) (gD : vs_gD n vw dl lg) (gV : vs_gV n vw lv mk nw VM) (g5 : vs_g5 n st pm aq VM pc av VC) (g6 : vs_g6 n st pm aq VM lv av) (gC1 : vs_gC1 st pm mv pc av) (h0 : mv i0 = 0) (hi : i0 < sn) (hv : v0 ≠ 0) (hv48 : v0 ≤ 48) :
    vs_gF n vw ct dl (vs_u mv i0 v0) (vs_u mn i0 (vs_N mv v0 + 1)) VC VM lg := by
  intro m hm
  have t := gF m hm
  refine ⟨t.1, fun hvm => ?_⟩
  have t2 := t.2 hvm
  have hd := (gD m hm).1 hvm
  have hN := (gL m hm).2.2 (vw m) hvm
  refine ⟨t2.1, fun k hk => ?_, fun h2 hb => ?_⟩
  · rw [vs_num_ix gT h0 hi hv hv48 hvm (by omega) (by omega)]
    exact t2.2.1 k hk
  · have t3 := t2.2.2 h2 hb
    refine ⟨t3.1, t3.2.1, fun k hk => ?_⟩
    have hl := (gV.1 m hm hvm).1
    obtain ⟨a, a1, a2, a3, a4, a5⟩ := g6 m hm (vw m - 1) (by omega) (by omega)
    have s5 := g5 a a1 a2 a4 (by rw [a3]; exact a5)
    rw [a3, show vw m - 1 + 1 = vw m by omega] at s5
    have c1 := gC1 a a1 a2 a4
    rw [a3] at c1
    have : ct m = pc a := by rw [t3.1, s5.2]
    rw [vs_num_ix gT h0 hi hv hv48 (by omega) (by omega) (by omega)]
    exact t3.2.2 k hk
section
variable {i0 v0 q : Nat} {S : Nat → Bool}
theorem vs_order_Inv {ho' : Nat → Int32} (hq : q < n) (hmq : md q = 2) (hvq : vw q = v0) (hbq : bt (VM v0) q = true) (hlq : ∀ j, j < q → bt (VM v0) j = false) (h0 : mv i0 = 0) (hi : i0 < sn)
    (hwin : ∀ j, bt (VM v0) j = true → vs_N mv v0 + 1 ≤ vs_D (lg j) v0 + w) (hS : ∀ a, S a = true → a < n ∧ md a = 2 ∧ vw a = v0) (hSq : S q = true) (E' : vs_gE (vs_u mv i0 v0) ho') (h : vs_Inv n w sn st md ins lv vw mk nw jo su ct dl pr ac hd mv mn wt sd ho lg H att re be pm pc aq av VM VC) :
    vs_Inv n w sn st md ins lv vw mk nw jo su ct (vs_od dl S (vs_N mv v0 + 1)) pr ac (vs_oh hd mk S (vs_N mv v0 + 1 - w) n) (vs_u mv i0 v0) (vs_u mn i0 (vs_N mv v0 + 1)) (vs_u wt i0 0) sd ho' (vs_ol lg dl S (vs_N mv v0 + 1) (i0, v0)) (vs_oH H S (vs_N mv v0 + 1)) att re be pm pc aq av VM VC := by
  obtain ⟨hb, gM, gI, gV, gJ, gS, gT, gE, gL, gD, gH, gN, gO, gK, gA, gR, gQ, gB, g2, g3, g4, g5, g6, g7, g8, gC1, gC2, gC3, gC4, gF, gC5⟩ := h
  have hv : v0 ≠ 0 := by rw [← hvq]; exact ((gM q hq).2).mp (Or.inl hmq)
  have hv48 : v0 ≤ 48 := by rw [← hvq]; exact vs_v48 gI gV hq
  have hi48 : i0 < 48 := by have := gT.2.2.2.2.2.1; omega
  have eN := vs_N_put (v := v0) hi48 h0 hv
  have dlq : vs_N mv v0 = dl q := (gO.2.1 v0 q hv hbq hlq).1 hvq
  have gT' := vs_num_T gT h0 hi hv hv48
  have gL' := vs_num_L (x := vs_N mv v0 + 1) gL h0 hi48 hv
  have gH' := vs_num_H gH h0 hi48 hv
  have gF' := vs_num_F gF gT gL gD gV g5 g6 gC1 h0 hi hv hv48
  have eix := vs_num_ix0 gT h0 hi hv hv48
  -- the logs are the old ones and a segment
  have el : ∀ a, (S a = true ∧ dl a + 1 = vs_N mv v0 + 1) → vs_ol lg dl S (vs_N mv v0 + 1) (i0, v0) a = lg a ++ vs_seg (fun k => (vs_ix (vs_u mv i0 v0) (vs_u mn i0 (vs_N mv v0 + 1)) (vw a) k, vw a)) (dl a) (vs_N mv v0 + 1) ∧ vs_od dl S (vs_N mv v0 + 1) a = vs_N mv v0 + 1 := by
    intro a T
    have e1 : vs_ol lg dl S (vs_N mv v0 + 1) (i0, v0) a = lg a ++ [(i0, v0)] := if_pos T
    refine ⟨?_, if_pos T⟩
    rw [e1, ← T.2, vs_seg_1, T.2, (hS a T.1).2.2, eix]
  have el0 : ∀ a, ¬ (S a = true ∧ dl a + 1 = vs_N mv v0 + 1) → vs_ol lg dl S (vs_N mv v0 + 1) (i0, v0) a = lg a ∧ vs_od dl S (vs_N mv v0 + 1) a = dl a := fun a T => ⟨if_neg T, if_neg T⟩
  have Hmono : ∀ a b, H a b = true → vs_oH H S (vs_N mv v0 + 1) a b = true := by
    intro a b hab
    show (H a b || (S a && decide (b = vs_N mv v0 + 1))) = true
    rw [hab]; rfl
  have Hnew : ∀ a b, vs_oH H S (vs_N mv v0 + 1) a b = true → H a b = true ∨ (S a = true ∧ b = vs_N mv v0 + 1) := by
    intro a b hab
    have h' : (H a b || (S a && decide (b = vs_N mv v0 + 1))) = true := hab
    rw [Bool.or_eq_true, Bool.and_eq_true, decide_eq_true_eq] at h'
    exact h'
  have Dmono : ∀ a x, vs_D (lg a) x ≤ vs_D (vs_ol lg dl S (vs_N mv v0 + 1) (i0, v0) a) x := by
    intro a x
    by_cases T : S a = true ∧ dl a + 1 = vs_N mv v0 + 1
    · rw [(el a T).1, vs_D_seg (by omega)]; omega
    · rw [(el0 a T).1]; exact Nat.le_refl _
  have md3 : ∀ a, md a = 3 → ¬ (S a = true ∧ dl a + 1 = vs_N mv v0 + 1) := by
    intro a h3 T
    have := (hS a T.1).2.1
    rw [h3] at this
    exact absurd this (by decide)
  refine ⟨hb, gM, gI, gV, gJ, gS, gT', E', ?_, ?_, ?_, ?_, ⟨?_, ?_, ?_⟩, ?_, gA, gR, gQ, gB, g2, g3, g4, g5, g6, g7, g8, ?_, vs_mono_C2 gC2 Hmono, ?_, ?_, ?_, gC5⟩
  · intro a ha
    by_cases T : S a = true ∧ dl a + 1 = vs_N mv v0 + 1
    · rw [(el a T).1]
      have t := gL' a ha
      have hva : vw a ≠ 0 := by rw [(hS a T.1).2.2]; exact hv
      have x := vs_ext1 (d' := vs_N mv v0 + 1) gT' t.1 t.2.1 t.2.2 hva (Nat.le_of_eq (gV.1 a ha hva).1) ((gD a ha).1 hva) (by omega) (by rw [(hS a T.1).2.2, eN]; exact Nat.le_refl _)
      exact ⟨x.1, x.2.1, x.2.2.1⟩
    · rw [(el0 a T).1]; exact gL' a ha
  · intro a ha
    by_cases T : S a = true ∧ dl a + 1 = vs_N mv v0 + 1
    · have hva : vw a ≠ 0 := by rw [(hS a T.1).2.2]; exact hv
      rw [(el a T).1, (el a T).2, vs_D_seg (by omega), if_pos rfl, (gD a ha).1 hva]
      exact ⟨fun _ => by omega, fun z => (hva z).elim⟩
    · rw [(el0 a T).1, (el0 a T).2]; exact gD a ha
  · intro a ha
    have t := gH' a ha
    refine ⟨fun k hk => ?_, fun hva k h1 h2 => ?_⟩
    · rcases Hnew a k hk with hk | ⟨hk, e⟩
      · exact t.1 k hk
      · have hva := (hS a hk).2.2
        exact ⟨by rw [hva]; exact hv, by omega, by rw [hva, eN]; omega⟩
    · by_cases T : S a = true ∧ dl a + 1 = vs_N mv v0 + 1
      · rw [(el a T).2] at h2
        by_cases z : k ≤ dl a
        · exact Hmono a k (t.2 hva k h1 z)
        · show (H a k || (S a && decide (k = vs_N mv v0 + 1))) = true
          rw [T.1, decide_eq_true (show k = vs_N mv v0 + 1 by omega)]; simp
      · rw [(el0 a T).2] at h2
        exact Hmono a k (t.2 hva k h1 h2)
  · intro a ha hmd
    have hva := ((gM a ha).2).mp (Or.inl hmd)
    cases e : vs_oH H S (vs_N mv v0 + 1) a (vs_od dl S (vs_N mv v0 + 1) a + 1)
    · rfl
    · exfalso
      by_cases T : S a = true ∧ dl a + 1 = vs_N mv v0 + 1
      · rw [(el a T).2] at e
        rcases Hnew _ _ e with h | ⟨h, y⟩
        · have := ((gH a ha).1 _ h).2.2
          rw [(hS a T.1).2.2] at this
          omega
        · omega
      · rw [(el0 a T).2] at e
        rcases Hnew _ _ e with h | ⟨h, y⟩
        · rw [gN a ha hmd] at h; cases h
        · exact T ⟨h, y⟩
  · intro x j hx hj
    have mono := Dmono j x
    by_cases e : x = v0
    · subst e
      rw [eN]
      have := hwin j hj
      omega
    · rw [(vs_N_mono h0 hi48 hv hx).2 e]
      have := gO.1 x j hx hj
      omega
  · intro x q' hx hb' hl'
    have t := gO.2.1 x q' hx hb' hl'
    by_cases e : x = v0
    · subst e
      have eq : q' = q := by
        rcases Nat.lt_trichotomy q' q with z | z | z
        · rw [hlq q' z] at hb'; cases hb'
        · exact z
        · rw [hl' q z] at hbq; cases hbq
      subst eq
      rw [eN, (el q' ⟨hSq, by omega⟩).2]
      refine ⟨fun _ => rfl, fun z => ?_⟩
      have := (gV.1 q' hq (by omega)).1
      omega
    · rw [(vs_N_mono h0 hi48 hv hx).2 e]
      refine ⟨fun y => ?_, t.2⟩
      rw [(el0 q' (fun T => e (by rw [← y]; exact (hS q' T.1).2.2))).2]
      exact t.1 y
  · intro x hx hl
    have ne : x ≠ v0 := by
      intro z
      have a := hl q hq
      have b := (gV.1 q hq (by omega)).1
      omega
    rw [(vs_N_mono h0 hi48 hv hx).2 ne]
    exact gO.2.2 x hx hl
  · intro a ha hva j hne hbj
    have t := gK a ha hva j hne hbj
    have mono := Dmono j (vw a)
    have hj := gV.2 _ j hbj
    have e1 : (a * 5 + j) / 5 = a := by omega
    unfold vs_oh
    rw [e1]
    split
    · rename_i y
      have hva' := (hS a y.1).2.2
      have hw := hwin j (by rw [← hva']; exact hbj)
      rw [← hva'] at hw
      rw [hva'] at mono hw t ⊢
      exact vs_mx (by omega) (by omega)
    · omega
  · intro a h1 h2 h3
    have := gC1 a h1 h2 h3
    have := (vs_N_mono (v := v0) h0 hi48 hv (show av a ≠ 0 by have := (gR a h1 h2).1; omega)).1
    omega
  · intro a j h1 h2 h3 h4 h5 h6
    have t := gC3 a j h1 h2 h3 h4 h5 h6
    rw [(el0 j (md3 j t.1)).2]; exact t
  · intro c a h1 h2 h3 h4 h5 k h6 h7
    have r := ((gR (att c) (by omega) (gA c h1).1).2.2.2 a h4).2.2.2 h5
    rw [(el0 a (md3 a r.2)).2] at h7
    exact Hmono _ _ (gC4 c a h1 h2 h3 h4 h5 k h6 h7)
  · intro a ha
    by_cases T : S a = true ∧ dl a + 1 = vs_N mv v0 + 1
    · have F2 := vs_dv_F (m := a) (d' := vs_N mv v0 + 1) gF' (by omega) a ha
      rw [vs_us, vs_us] at F2
      rw [(el a T).1, (el a T).2]
      exact F2
    · rw [(el0 a T).1, (el0 a T).2]; exact gF' a ha
theorem vs_order_XH {c k0 : Nat} (R : vs_XH n dl hx hd) (hn : n ≤ 5) (hc : c ≤ 48) (hk : k0 ≤ 48) : vs_XH n (vs_od dl S k0) (vs_ox hx mk S c n dl k0) (vs_oh hd mk S c n) := by
  have b1 : ∀ (h : Nat → Nat) i, h i ≤ 48 → vs_oh h mk S c n i ≤ 48 := by
    intro h i hi
    unfold vs_oh
    split
    · exact vs_mx hi hc
    · exact hi
  refine ⟨fun i => ?_, fun i => b1 hd i (R.2.1 i), fun a ha => ⟨?_, fun j hj hne => ?_⟩⟩
  · unfold vs_ox
    split
    · exact hk
    · exact b1 hx i (R.1 i)
  · have e1 : (a * 5 + a) / 5 = a := by omega
    have e2 : (a * 5 + a) % 5 = a := by omega
    have e3 : vs_oh hx mk S c n (a * 5 + a) = dl a := by
      have : vs_oh hx mk S c n (a * 5 + a) = hx (a * 5 + a) := if_neg (fun z => z.2.2.1 (by rw [e1, e2]))
      rw [this]; exact (R.2.2 a ha).1
    unfold vs_ox vs_od
    rw [e3, e1, e2]
    by_cases T : S a = true ∧ dl a + 1 = k0
    · rw [if_pos ⟨rfl, T⟩, if_pos T]
    · rw [if_neg (fun z => T z.2), if_neg T]
  · have e1 : (a * 5 + j) / 5 = a := by omega
    have e2 : (a * 5 + j) % 5 = j := by omega
    have e3 : vs_ox hx mk S c n dl k0 (a * 5 + j) = vs_oh hx mk S c n (a * 5 + j) := if_neg (fun z => hne (by omega))
    rw [e3]
    unfold vs_oh
    rw [(R.2.2 a ha).2 j hj hne]
theorem vs_order_7 {k0 : Nat} (g : vs_gC7 n w vw hd mk H) (hn : n ≤ 5) : vs_gC7 n w vw (vs_oh hd mk S (k0 - w) n) mk (vs_oH H S k0) := by
  intro a ha hv k hk j hj hne hb
  have e1 : (a * 5 + j) / 5 = a := by omega
  have e2 : (a * 5 + j) % 5 = j := by omega
  have h' : (H a k || (S a && decide (k = k0))) = true := hk
  rw [Bool.or_eq_true, Bool.and_eq_true, decide_eq_true_eq] at h'
  unfold vs_oh
  rw [e1, e2]
  rcases h' with h | ⟨h, e⟩
  · have t := g a ha hv k h j hj hne hb
    split
    · split <;> omega
    · exact t
  · rw [if_pos ⟨h, hj, hne, hb⟩]
    split <;> omega
end
/-- the oldest message leaves the outbox -/
theorem vs_ob_drop {m i0 : Nat} : ∀ s, (vs_ob wt sd s m)[0]? = some i0 → ∀ a, vs_ob (vs_u wt i0 0) sd s a = if a = m then (vs_ob wt sd s a).drop 1 else vs_ob wt sd s a := by
  intro s
  have mem : ∀ s a i, i ∈ vs_ob wt sd s a → i < s ∧ wt i ≠ 0 ∧ sd i = a := by
    intro s
    induction s with
    | zero => intro a i z; cases z
    | succ s ih =>
      intro a i z
      have z' : i ∈ (if wt s ≠ 0 ∧ sd s = a then vs_ob wt sd s a ++ [s] else vs_ob wt sd s a) := z
      split at z'
      · rename_i y
        rcases List.mem_append.mp z' with x | x
        · have := ih a i x; exact ⟨by omega, this.2⟩
        · have e := List.mem_singleton.mp x
          rw [e]; exact ⟨by omega, y⟩
      · have := ih a i z'; exact ⟨by omega, this.2⟩
  induction s with
  | zero => intro h; simp [vs_ob] at h
  | succ s ih =>
    intro h a
    have eo : vs_ob wt sd (s + 1) m = if wt s ≠ 0 ∧ sd s = m then vs_ob wt sd s m ++ [s] else vs_ob wt sd s m := rfl
    by_cases c : 0 < (vs_ob wt sd s m).length
    · -- the head stands among the first s
      have h' : (vs_ob wt sd s m)[0]? = some i0 := by
        rw [eo] at h
        split at h
        · rw [List.getElem?_append_left c] at h; exact h
        · exact h
      have hi := mem s m i0 (List.mem_of_getElem? h')
      have ih' := ih h' a
      show (if vs_u wt i0 0 s ≠ 0 ∧ sd s = a then vs_ob (vs_u wt i0 0) sd s a ++ [s] else vs_ob (vs_u wt i0 0) sd s a) = (if a = m then (if wt s ≠ 0 ∧ sd s = a then vs_ob wt sd s a ++ [s] else vs_ob wt sd s a).drop 1 else (if wt s ≠ 0 ∧ sd s = a then vs_ob wt sd s a ++ [s] else vs_ob wt sd s a))
      rw [vs_un (show s ≠ i0 by omega), ih']
      by_cases e : a = m
      · rw [if_pos e, if_pos e]
        subst e
        split
        · rw [List.drop_append_of_le_length (by omega)]
        · rfl
      · rw [if_neg e, if_neg e]
    · -- s itself is the head
      have c0 : vs_ob wt sd s m = [] := List.length_eq_zero_iff.mp (by omega)
      rw [eo, c0] at h
      split at h
      · rename_i y
        have es : i0 = s := by simpa using h.symm
        subst es
        have e1 : ∀ b, vs_ob (vs_u wt i0 0) sd i0 b = vs_ob wt sd i0 b := fun b => vs_ob_c (fun i hi => ⟨vs_un (by omega), rfl⟩)
        show (if vs_u wt i0 0 i0 ≠ 0 ∧ sd i0 = a then vs_ob (vs_u wt i0 0) sd i0 a ++ [i0] else vs_ob (vs_u wt i0 0) sd i0 a) = (if a = m then (if wt i0 ≠ 0 ∧ sd i0 = a then vs_ob wt sd i0 a ++ [i0] else vs_ob wt sd i0 a).drop 1 else (if wt i0 ≠ 0 ∧ sd i0 = a then vs_ob wt sd i0 a ++ [i0] else vs_ob wt sd i0 a))
        rw [vs_us, if_neg (fun z => z.1 rfl), e1]
        by_cases e : a = m
        · subst e
          rw [if_pos rfl, if_pos y, c0]; rfl
        · rw [if_neg e, if_neg (fun z => e (by rw [← z.2]; exact y.2))]
      · simp at h
theorem vs_ob_mem {i a : Nat} : ∀ s, i ∈ vs_ob wt sd s a → i < s ∧ wt i ≠ 0 ∧ sd i = a := by
  intro s
  induction s with
  | zero => intro z; cases z
  | succ s ih =>
    intro z
    have z' : i ∈ (if wt s ≠ 0 ∧ sd s = a then vs_ob wt sd s a ++ [s] else vs_ob wt sd s a) := z
    split at z'
    · rename_i y
      rcases List.mem_append.mp z' with x | x
      · have := ih x; exact ⟨by omega, this.2⟩
      · have e := List.mem_singleton.mp x
        rw [e]; exact ⟨by omega, y⟩
    · have := ih z'; exact ⟨by omega, this.2⟩
theorem vs_order_XO {m i0 : Nat} {o1' o2' : Nat → Int32} (R : vs_XO n sn va wt sd oc o1 o2) (hm : m < n) (h0 : (vs_ob wt sd sn m)[0]? = some i0) (h1 : ∀ p, p < 3 → o1' (m * 4 + p) = o1 (m * 4 + p + 1) ∧ o2' (m * 4 + p) = o2 (m * 4 + p + 1)) (h2 : ∀ i, i / 4 ≠ m → o1' i = o1 i ∧ o2' i = o2 i) :
    vs_XO n sn va (vs_u wt i0 0) sd (vs_u oc m (oc m - 1)) o1' o2' := by
  intro a ha
  have Ra := R a ha
  rw [vs_ob_drop sn h0 a]
  by_cases e : a = m
  · subst e
    rw [if_pos rfl, vs_us, List.length_drop, ← Ra.1]
    refine ⟨rfl, by omega, fun p i h => ?_⟩
    rw [List.getElem?_drop] at h
    have lt := vs_some_lt h
    have t := Ra.2.2 _ _ h
    have x := h1 p (by omega)
    rw [x.1, x.2, show a * 4 + p + 1 = a * 4 + (1 + p) by omega]
    exact t
  · rw [if_neg e, vs_un e]
    refine ⟨Ra.1, Ra.2.1, fun p i h => ?_⟩
    have lt := vs_some_lt h
    have x := h2 (a * 4 + p) (by omega)
    rw [x.1, x.2]
    exact Ra.2.2 p i h
end
section
/-! order: the loops -/
variable {n w sn st fc : Nat} {md ins l1 l2 l3 l4 mk nw tp su jo am acu b1 b2 b3 o1 o2 xr xb xm xc xp xq xa va ho re pm aq VM : Nat → Int32} {lv lc vw ct dl pr ac hx bn oc att hd sd wt mv mn fm fs fv ow li be pc av VC : Nat → Nat} {lg : Nat → List (Nat × Nat)} {H : Nat → Nat → Bool}
def vs_Sj (S : Nat → Bool) (j : Nat) : Nat → Bool := fun a => S a && decide (a < j)
theorem vs_Sj_f {S : Nat → Bool} {j : Nat} (h : S j = false) : vs_Sj S (j + 1) = vs_Sj S j := by
  funext a
  show (S a && decide (a < j + 1)) = (S a && decide (a < j))
  by_cases e : a = j
  · rw [e, h]; rfl
  · rw [show decide (a < j + 1) = decide (a < j) by apply decide_eq_decide.mpr; omega]
theorem vs_Sj_t {S : Nat → Bool} {j : Nat} (h : S j = true) (a : Nat) : vs_Sj S (j + 1) a = (vs_Sj S j a || decide (a = j)) := by
  show (S a && decide (a < j + 1)) = (S a && decide (a < j) || decide (a = j))
  by_cases e : a = j
  · rw [e, h]; simp
  · rw [decide_eq_false e, Bool.or_false, show decide (a < j + 1) = decide (a < j) by apply decide_eq_decide.mpr; omega]
theorem vs_Sj_j (S : Nat → Bool) (j : Nat) : vs_Sj S j j = false := by
  show (S j && decide (j < j)) = false
  rw [decide_eq_false (by omega), Bool.and_false]
theorem vs_Sj_n {S : Nat → Bool} (h : ∀ a, S a = true → a < n) : vs_Sj S n = S := by
  funext a
  show (S a && decide (a < n)) = S a
  cases e : S a
  · rfl
  · rw [decide_eq_true (h a e)]; rfl
theorem vs_Sj_0 (S : Nat → Bool) : vs_Sj S 0 = fun _ => false := by
  funext a
  show (S a && decide (a < 0)) = false
  rw [decide_eq_false (by omega), Bool.and_false]
theorem vs_o_0 {k0 c : Nat} {e : Nat × Nat} : vs_oH H (fun _ => false) k0 = H ∧ vs_oT tp (fun _ => false) k0 = tp ∧ vs_oh hd mk (fun _ => false) c n = hd ∧ vs_od dl (fun _ => false) k0 = dl ∧ vs_ol lg dl (fun _ => false) k0 e = lg ∧ vs_ox hx mk (fun _ => false) c n dl k0 = hx := by
  have f : ∀ P : Prop, ¬ (false = true ∧ P) := fun P z => by cases z.1
  have eh : ∀ h : Nat → Nat, vs_oh h mk (fun _ => false) c n = h := fun h => by funext i; exact if_neg (f _)
  refine ⟨?_, ?_, eh hd, ?_, ?_, ?_⟩
  · funext a b
    show (H a b || (false && decide (b = k0))) = H a b
    simp
  · funext a; exact if_neg (f _)
  · funext a; exact if_neg (f _)
  · funext a; exact if_neg (f _)
  · funext i
    have : vs_ox hx mk (fun _ => false) c n dl k0 i = vs_oh hx mk (fun _ => false) c n i := if_neg (fun z => f _ z.2)
    rw [this, eh]
/-- what the next delivery comes to -/
theorem vs_o_dn {S : Nat → Bool} {j k0 r : Nat} (hSj : S j = true) (hlt : ∀ k, H j k = true → k < k0) (hg : H j (dl j + 1) = false) (hd : dl j < k0) (hk : k0 ≤ 48) (hr : 48 ≤ dl j + r) : vs_dn (vs_oH H S k0 j) r (dl j) = if dl j + 1 = k0 then k0 else dl j := by
  have nw' : ∀ k, vs_oH H S k0 j k = true → H j k = true ∨ k = k0 := by
    intro k h
    have h' : (H j k || (S j && decide (k = k0))) = true := h
    rw [hSj, Bool.true_and, Bool.or_eq_true, decide_eq_true_eq] at h'
    exact h'
  have h48 : ∀ k, vs_oH H S k0 j k = true → k ≤ 48 := by
    intro k h
    rcases nw' k h with z | z
    · have := hlt k z; omega
    · omega
  have fl : ∀ k, H j k = false → k ≠ k0 → vs_oH H S k0 j k = false := by
    intro k a b
    show (H j k || (S j && decide (k = k0))) = false
    rw [a, decide_eq_false b]; simp
  refine vs_dn_u (vs_dn_ge r (dl j)) ?_ (vs_dn_H r (dl j)) ?_ (vs_dn_end h48 r (dl j) hr) ?_
  · split <;> omega
  · intro k a b
    by_cases e : dl j + 1 = k0
    · rw [if_pos e] at b
      have : k = k0 := by omega
      show (H j k || (S j && decide (k = k0))) = true
      rw [hSj, decide_eq_true this]; simp
    · rw [if_neg e] at b; omega
  · by_cases e : dl j + 1 = k0
    · rw [if_pos e]
      refine fl _ ?_ (by omega)
      cases z : H j (k0 + 1)
      · rfl
      · have := hlt _ z; omega
    · rw [if_neg e]
      exact fl _ hg e
theorem xw_ord_l {post : Int32 → SX → Prop} {m q k0 i0 : Nat} {loss : Int32} {S : Nat → Bool} (hn : n ≤ 5) (hw : w ≤ 8) (hq : q < n) (hk1 : 1 ≤ k0) (hk : k0 ≤ 48) (hmq : md q = 2) (hvq : vw q ≠ 0) (hv48 : ∀ a, a < n → vw a ≤ 48) (hix : vs_ix mv mn (vw q) k0 = i0) (hsd : sd i0 = m)
    (hS : ∀ a, a < n → (S a = true ↔ ((a = q ∨ bt loss a = false) ∧ md a = 2 ∧ vw a = vw q)))
    (hA : ∀ a, a < n → S a = true → dl a < k0 ∧ (∀ k, H a k = true → k < k0) ∧ k0 ≤ dl a + 8 ∧ H a (dl a + 1) = false ∧ (lg a).length + (k0 - dl a) ≤ 48 ∧ hx (a * 5 + a) = dl a) (hh : ∀ i, hx i ≤ 48)
    (h : ∀ (bn' : Nat → Nat) (b1' b2' b3' : Nat → Int32) (lc' : Nat → Nat) (l1' l2' l3' l4' : Nat → Int32), vs_RA n (vs_oH H (vs_Sj S n) k0) vw mv mn va sd bn' b1' b2' b3' → vs_XL n (vs_ol lg dl (vs_Sj S n) k0 (i0, vw q)) va sd lc' l1' l2' l3' l4' →
      post (nI k0) ((nI n), (nI w), (nI sn), (nI st), md, ins, (vs_I lv), (vs_I lc'), l1', l2', l3', l4', (vs_I vw), mk, nw, (vs_I ct), (vs_I (vs_od dl (vs_Sj S n) k0)), (vs_oT tp (vs_Sj S n) k0), su, jo, (vs_I pr), (vs_I ac), am, acu, (vs_I (vs_ox hx mk (vs_Sj S n) (k0 - w) n dl k0)), (vs_I bn'), b1', b2', b3', (vs_I oc), o1, o2, (vs_I att), xr, xb, xm, xc, xp, xq, xa)) :
    ∀ (d j : Nat) (bn : Nat → Nat) (b1 b2 b3 : Nat → Int32) (lc : Nat → Nat) (l1 l2 l3 l4 : Nat → Int32), j + d = n → vs_RA n (vs_oH H (vs_Sj S j) k0) vw mv mn va sd bn b1 b2 b3 → vs_XL n (vs_ol lg dl (vs_Sj S j) k0 (i0, vw q)) va sd lc l1 l2 l3 l4 →
      wX_order_153 post (nI m) loss (nI q) (nI k0) (nI (i0 + 1)) (va i0) (d + 1) (nI j) (nI n) (nI w) (nI sn) (nI st) md ins (vs_I lv) (vs_I lc) l1 l2 l3 l4 (vs_I vw) mk nw (vs_I ct) (vs_I (vs_od dl (vs_Sj S j) k0)) (vs_oT tp (vs_Sj S j) k0) su jo (vs_I pr) (vs_I ac) am acu (vs_I (vs_ox hx mk (vs_Sj S j) (k0 - w) n dl k0)) (vs_I bn) b1 b2 b3 (vs_I oc) o1 o2 (vs_I att) xr xb xm xc xp xq xa := by
  subst hsd
  intro d
  induction d with
  | zero =>
    intro j bn b1 b2 b3 lc l1 l2 l3 l4 e R X
    have e : j = n := by omega
    subst e
    exact br_t (nI_le (by omega) (by omega)) (h bn b1 b2 b3 lc l1 l2 l3 l4 R X)
  | succ d ih =>
    intro j bn b1 b2 b3 lc l1 l2 l3 l4 e R X
    have hj : j < n := by omega
    have hj5 : j < 5 := by omega
    have ej : (nI j).toNatClampNeg = j := nI_clamp (by omega)
    have eq : (nI q).toNatClampNeg = q := nI_clamp (by omega)
    have ihj := ih (j + 1)
    refine br_f (nI_ge (by omega) (by omega)) ?_
    -- when j is not to obtain
    have skip : S j = false → wX_order_153 post (nI (sd i0)) loss (nI q) (nI k0) (nI (i0 + 1)) (va i0) (d + 1) (nI (j + 1)) (nI n) (nI w) (nI sn) (nI st) md ins (vs_I lv) (vs_I lc) l1 l2 l3 l4 (vs_I vw) mk nw (vs_I ct) (vs_I (vs_od dl (vs_Sj S j) k0)) (vs_oT tp (vs_Sj S j) k0) su jo (vs_I pr) (vs_I ac) am acu (vs_I (vs_ox hx mk (vs_Sj S j) (k0 - w) n dl k0)) (vs_I bn) b1 b2 b3 (vs_I oc) o1 o2 (vs_I att) xr xb xm xc xp xq xa := by
      intro sf
      rw [vs_Sj_f sf] at ihj
      exact ihj bn b1 b2 b3 lc l1 l2 l3 l4 (by omega) R X
    -- when j is reached
    have reach : (j = q ∨ bt loss j = false) → wX_order_178 post (wX_order_153 post (nI (sd i0)) loss (nI q) (nI k0) (nI (i0 + 1)) (va i0) (d + 1)) (nI (sd i0)) loss (nI q) (nI k0) (nI (i0 + 1)) (va i0) (nI j) (nI n) (nI w) (nI sn) (nI st) md ins (vs_I lv) (vs_I lc) l1 l2 l3 l4 (vs_I vw) mk nw (vs_I ct) (vs_I (vs_od dl (vs_Sj S j) k0)) (vs_oT tp (vs_Sj S j) k0) su jo (vs_I pr) (vs_I ac) am acu (vs_I (vs_ox hx mk (vs_Sj S j) (k0 - w) n dl k0)) (vs_I bn) b1 b2 b3 (vs_I oc) o1 o2 (vs_I att) xr xb xm xc xp xq xa := by
      intro hr
      refine br_f (by decide) ⟨vs_in5 hj5, ?_⟩
      rw [ej]
      by_cases c1 : md j = 2
      · refine br_t c1 ⟨vs_in5 hj5, vs_in5 (by omega), ?_⟩
        rw [eq, vs_Ia, vs_Ia]
        by_cases c2 : vw j = vw q
        · have st' : S j = true := (hS j hj).mpr ⟨hr, c1, c2⟩
          have A := hA j hj st'
          have hSt := vs_Sj_t st'
          have hSf := vs_Sj_j S j
          have hSj1 : vs_Sj S (j + 1) j = true := by rw [hSt, decide_eq_true rfl, Bool.or_true]
          have ed : vs_od dl (vs_Sj S j) k0 j = dl j := if_neg (fun z => by rw [hSf] at z; cases z.1)
          have eL : vs_ol lg dl (vs_Sj S j) k0 (i0, vw q) j = lg j := if_neg (fun z => by rw [hSf] at z; cases z.1)
          have eH : ∀ k, vs_oH H (vs_Sj S j) k0 j k = H j k := by
            intro k
            show (H j k || (vs_Sj S j j && decide (k = k0))) = H j k
            rw [hSf]; simp
          have hvj : vw j ≠ 0 := by rw [c2]; exact hvq
          have e1 : (j * 5 + j) / 5 = j := by omega
          have e2 : (j * 5 + j) % 5 = j := by omega
          have eown : vs_ox hx mk (vs_Sj S j) (k0 - w) n dl k0 (j * 5 + j) = dl j := by
            have z1 : vs_ox hx mk (vs_Sj S j) (k0 - w) n dl k0 (j * 5 + j) = vs_oh hx mk (vs_Sj S j) (k0 - w) n (j * 5 + j) := if_neg (fun z => by rw [e1, hSf] at z; cases z.2.1)
            have z2 : vs_oh hx mk (vs_Sj S j) (k0 - w) n (j * 5 + j) = hx (j * 5 + j) := if_neg (fun z => z.2.2.1 (by rw [e1, e2]))
            rw [z1, z2]; exact A.2.2.2.2.2
          have hxb : ∀ i, vs_ox hx mk (vs_Sj S j) (k0 - w) n dl k0 i ≤ 48 := by
            intro i
            unfold vs_ox
            split
            · exact hk
            · unfold vs_oh
              split
              · exact vs_mx (hh i) (by omega)
              · exact hh i
          have hne : bn (j * 8 + (k0 - 1) % 8) ≠ k0 := by
            intro z
            have := (vs_RB_in (R.2 j hj hvj) hk1 z).1
            rw [eH] at this
            have := A.2.1 _ this
            omega
          have hlt8 : ∀ k', vs_oH H (vs_Sj S j) k0 j k' = true → k' < k0 + 8 := by
            intro k' h'
            rw [eH] at h'
            have := A.2.1 _ h'
            omega
          have R' := vs_RA_put R hj hvj hk1 hk hlt8 (fun k' => vs_oH_t hSt k') (fun a ha => vs_oH_o hSt a ha)
          rw [c2, hix] at R'
          have new1 : ∀ k, vs_oH H (vs_Sj S (j + 1)) k0 j k = true → k ≤ k0 := by
            intro k hk'
            rw [vs_oH_t hSt, eH, Bool.or_eq_true, decide_eq_true_eq] at hk'
            rcases hk' with z | z
            · have := A.2.1 _ z; omega
            · omega
          refine br_t (by rw [c2]) ?_
          refine xw_obtain1 hj5 hn hw hk1 hk R.1 hxb (by rw [ed]; omega) hne ?_
          rw [← vs_oT_t hSt hSf]
          refine xw_deliver (B := k0) (Hm := vs_oH H (vs_Sj S (j + 1)) k0 j) (ix := vs_ix mv mn (vw j)) (lg := vs_ol lg dl (vs_Sj S j) k0 (i0, vw q)) hj hn c1 (R'.2 j hj hvj) R'.1 (fun k hk' => by rw [ed]; have := new1 k hk'; omega) new1 (by rw [ed]; omega) X (by rw [eL, ed]; omega) ?_ ?_
          · rw [ed]
            have z : vs_rs (vs_ox hx mk (vs_Sj S j) (k0 - w) n dl k0) (mk j) j (k0 - w) n (j * 5 + j) = vs_ox hx mk (vs_Sj S j) (k0 - w) n dl k0 (j * 5 + j) := if_neg (fun z => z.2.2.1 (by rw [e2]))
            rw [z]; exact eown
          · intro lc' l1' l2' l3' l4' X'
            have edn := vs_o_dn (H := H) (dl := dl) (r := 48 - dl j) hSj1 A.2.1 A.2.2.2.1 A.1 hk (by omega)
            rw [ed, edn, eL] at X'
            rw [ed, edn]
            have ihk := ihj _ _ _ _ lc' l1' l2' l3' l4' (by omega) R' ?_
            · rw [vs_od_t hSt hSf, vs_ox_t hSt hSf hj5 A.2.2.2.2.2] at ihk
              exact nm_r (nI_1 j) ihk
            · rw [vs_ol_t hSt hSf]
              by_cases e3 : dl j + 1 = k0
              · rw [if_pos e3] at X' ⊢
                have e4 := vs_seg_1 (fun k => (vs_ix mv mn (vw j) k, vw j)) (dl j)
                rw [e3, c2, hix] at e4
                rw [c2] at X'
                rw [e4] at X'
                exact X'
              · rw [if_neg e3] at X' ⊢
                rw [vs_seg_0, List.append_nil] at X'
                exact X'
        · have sf : S j = false := by
            cases z : S j
            · rfl
            · exact (c2 ((hS j hj).mp z).2.2).elim
          have a := hv48 j hj
          have b := hv48 q hq
          exact br_f (fun z => c2 ((nI_eq (by omega) (by omega)).mp z)) (nm_r (nI_1 j) (skip sf))
      · have sf : S j = false := by
          cases z : S j
          · rfl
          · exact (c1 ((hS j hj).mp z).2.1).elim
        exact br_f c1 (nm_r (nI_1 j) (skip sf))
    by_cases c0 : j = q
    · exact br_t (by rw [c0]) (reach (Or.inl c0))
    · refine br_f (fun z => c0 ((nI_eq (by omega) (by omega)).mp z)) ?_
      cases b0 : bt loss j
      · exact xw_has0 (by omega) b0 (br_t rfl (reach (Or.inr b0)))
      · have sf : S j = false := by
          cases z : S j
          · rfl
          · rcases ((hS j hj).mp z).1 with y | y
            · exact (c0 y).elim
            · rw [b0] at y; cases y
        exact xw_has1 (by omega) b0 (br_f (by decide) (br_t rfl (nm_r (nI_1 j) (skip sf))))
/-- Y's order of obtaining: the sequencer first -/
def vs_Sq (S : Nat → Bool) (q j : Nat) : Nat → Bool := fun a => decide (a = q) || (S a && decide (a < j))
theorem vs_Sq_f {S : Nat → Bool} {q j : Nat} (h : S j = false ∨ j = q) : vs_Sq S q (j + 1) = vs_Sq S q j := by
  funext a
  show (decide (a = q) || (S a && decide (a < j + 1))) = (decide (a = q) || (S a && decide (a < j)))
  by_cases e : a = j
  · rcases h with h | h
    · rw [e, h]; rfl
    · rw [e, decide_eq_true h]; rfl
  · rw [show decide (a < j + 1) = decide (a < j) by apply decide_eq_decide.mpr; omega]
theorem vs_Sq_t {S : Nat → Bool} {q j : Nat} (h : S j = true) (a : Nat) : vs_Sq S q (j + 1) a = (vs_Sq S q j a || decide (a = j)) := by
  show (decide (a = q) || (S a && decide (a < j + 1))) = (decide (a = q) || (S a && decide (a < j)) || decide (a = j))
  by_cases e : a = j
  · rw [e, h]; simp
  · rw [decide_eq_false e, Bool.or_false, show decide (a < j + 1) = decide (a < j) by apply decide_eq_decide.mpr; omega]
theorem vs_Sq_n {S : Nat → Bool} {q : Nat} (h : ∀ a, S a = true → a < n) (hq : S q = true) : vs_Sq S q n = S := by
  funext a
  show (decide (a = q) || (S a && decide (a < n))) = S a
  by_cases e : a = q
  · rw [e, hq, decide_eq_true rfl]; rfl
  · rw [decide_eq_false e, Bool.false_or]
    cases z : S a
    · rfl
    · rw [decide_eq_true (h a z)]; rfl
/-- one obtaining of the new number, on Y -/
theorem yw_os {post : SY → Prop} {S S' : Nat → Bool} {j k0 : Nat} (Q : vs_YH n sn vw mv mn ho (vs_oH H S k0)) (E : vs_gE mv ho) (hj : j < n) (hn : n ≤ 5) (hw : w ≤ 8) (hv : vw j ≠ 0) (hk : k0 ≤ 48) (hh : ∀ i, hd i ≤ 48) (hx : vs_ix mv mn (vw j) k0 < 48) (hSt : ∀ a, S' a = (S a || decide (a = j))) (hSf : S j = false) (hH : H j k0 = false)
    (h : ∀ ho', vs_YH n sn vw mv mn ho' (vs_oH H S' k0) → vs_gE mv ho' → post ((nI n), (nI w), (nI sn), (nI fc), (nI st), md, ins, (vs_I vw), mk, nw, (vs_I ct), (vs_oT tp S' k0), (vs_I (vs_oh hd mk S' (k0 - w) n)), su, jo, (vs_I pr), (vs_I ac), va, (vs_I sd), (vs_I wt), (vs_I mv), (vs_I mn), ho', (vs_I fm), (vs_I fs), (vs_I fv), (vs_I ow), (vs_I li), re, (vs_I be), pm, (vs_I pc), aq)) :
    wpY_obtain post ((nI n), (nI w), (nI sn), (nI fc), (nI st), md, ins, (vs_I vw), mk, nw, (vs_I ct), (vs_oT tp S k0), (vs_I (vs_oh hd mk S (k0 - w) n)), su, jo, (vs_I pr), (vs_I ac), va, (vs_I sd), (vs_I wt), (vs_I mv), (vs_I mn), ho, (vs_I fm), (vs_I fs), (vs_I fv), (vs_I ow), (vs_I li), re, (vs_I be), pm, (vs_I pc), aq) (nI j) (nI k0) := by
  rw [vs_oT_t hSt hSf, vs_oh_t hSt hSf] at h
  have hb : ∀ i, vs_oh hd mk S (k0 - w) n i ≤ 48 := by
    intro i
    unfold vs_oh
    split
    · exact vs_mx (hh i) (by omega)
    · exact hh i
  refine yw_obtain1 Q hj hn hw hv hk hb hx ?_ (h _ ?_ ?_)
  · show (H j k0 || (S j && decide (k0 = k0))) = false
    rw [hH, hSf]; rfl
  · exact vs_YH_put Q hn hj hv hx (fun k' => vs_oH_t hSt k') (fun a ha => vs_oH_o hSt a ha)
  · exact vs_E_put (ho' := mv) E (by rw [(vs_ix_sp hx).1]; exact hv)
theorem yw_ord_l {post : Int32 → SY → Prop} {q k0 d0 : Nat} {loss : Int32} {S : Nat → Bool} {B : Nat → Nat} (hn : n ≤ 5) (hw : w ≤ 8) (hq : q < n) (ek : k0 = d0 + 1) (hk : k0 ≤ 48) (hvq : vw q ≠ 0) (hv48 : ∀ a, a < n → vw a ≤ 48) (hix : vs_ix mv mn (vw q) k0 < 48)
    (hS : ∀ a, a < n → (S a = true ↔ ((a = q ∨ bt loss a = false) ∧ md a = 2 ∧ vw a = vw q))) (hSn : ∀ a, S a = true → a < n) (hSq : S q = true) (hA : ∀ a, a < n → S a = true → H a k0 = false) (hh : ∀ i, hd i ≤ 48)
    (hP : ∀ a, a < n → md a = 2 → vw a ≠ 0 ∧ vs_D (lg a) (vw a) = dl a ∧ dl a ≤ 48 ∧ (lg a).length + (B a - dl a) ≤ 48 ∧ B a ≤ 48 ∧ ∀ k, vs_oH H S k0 a k = true → k ≤ B a) (hlen : ∀ a, a < n → (lg a).length ≤ 48) (L : vs_YL n lg fc fm fs fv)
    (h : ∀ (ho' : Nat → Int32) (fc' : Nat) (fm' fs' fv' : Nat → Nat), vs_YH n sn vw mv mn ho' (vs_oH H S k0) → vs_gE mv ho' → vs_YL n (vs_dA md (vs_oH H S k0) vw mv mn dl lg n) fc' fm' fs' fv' →
      post (nI k0) ((nI n), (nI w), (nI sn), (nI fc'), (nI st), md, ins, (vs_I vw), mk, nw, (vs_I ct), (vs_oT tp S k0), (vs_I (vs_oh hd mk S (k0 - w) n)), su, jo, (vs_I pr), (vs_I ac), va, (vs_I sd), (vs_I wt), (vs_I mv), (vs_I mn), ho', (vs_I fm'), (vs_I fs'), (vs_I fv'), (vs_I ow), (vs_I li), re, (vs_I be), pm, (vs_I pc), aq)) :
    ∀ (d j : Nat) (ho : Nat → Int32), j + d = n → vs_YH n sn vw mv mn ho (vs_oH H (vs_Sq S q j) k0) → vs_gE mv ho →
      wY_order_165 post loss (nI q) (nI d0) (d + 1) (nI j) (nI n) (nI w) (nI sn) (nI fc) (nI st) md ins (vs_I vw) mk nw (vs_I ct) (vs_oT tp (vs_Sq S q j) k0) (vs_I (vs_oh hd mk (vs_Sq S q j) (k0 - w) n)) su jo (vs_I pr) (vs_I ac) va (vs_I sd) (vs_I wt) (vs_I mv) (vs_I mn) ho (vs_I fm) (vs_I fs) (vs_I fv) (vs_I ow) (vs_I li) re (vs_I be) pm (vs_I pc) aq := by
  intro d
  induction d with
  | zero =>
    intro j ho e Q E
    have e : j = n := by omega
    subst e
    rw [vs_Sq_n hSn hSq] at Q ⊢
    refine br_t (nI_le (by omega) (by omega)) (yw_dA (B := B) Q hn hP hlen L (fun fc' fm' fs' fv' L' => ?_))
    rw [nI_1, ← ek]
    exact h ho fc' fm' fs' fv' Q E L'
  | succ d ih =>
    intro j ho e Q E
    have hj : j < n := by omega
    have hj5 : j < 5 := by omega
    have ihj := ih (j + 1)
    refine br_f (nI_ge (by omega) (by omega)) ?_
    have skip : (S j = false ∨ j = q) → wY_order_165 post loss (nI q) (nI d0) (d + 1) (nI (j + 1)) (nI n) (nI w) (nI sn) (nI fc) (nI st) md ins (vs_I vw) mk nw (vs_I ct) (vs_oT tp (vs_Sq S q j) k0) (vs_I (vs_oh hd mk (vs_Sq S q j) (k0 - w) n)) su jo (vs_I pr) (vs_I ac) va (vs_I sd) (vs_I wt) (vs_I mv) (vs_I mn) ho (vs_I fm) (vs_I fs) (vs_I fv) (vs_I ow) (vs_I li) re (vs_I be) pm (vs_I pc) aq := by
      intro sf
      rw [vs_Sq_f sf] at ihj
      exact ihj ho (by omega) Q E
    by_cases c0 : j = q
    · exact br_t (by rw [c0]) (nm_r (nI_1 j) (skip (Or.inr c0)))
    · refine br_f (fun z => c0 ((nI_eq (by omega) (by omega)).mp z)) ⟨vs_in5 hj5, ?_⟩
      rw [nI_clamp (show j < 2 ^ 31 by omega), nI_clamp (show q < 2 ^ 31 by omega)]
      by_cases c1 : md j = 2
      · refine br_t c1 ⟨vs_in5 hj5, vs_in5 (by omega), ?_⟩
        rw [vs_Ia, vs_Ia]
        by_cases c2 : vw j = vw q
        · refine br_t (by rw [c2]) ?_
          cases b0 : bt loss j
          · have st' : S j = true := (hS j hj).mpr ⟨Or.inr b0, c1, c2⟩
            refine yw_has0 (by omega) b0 (br_t rfl ?_)
            rw [nI_1 d0, ← ek]
            have hSf : vs_Sq S q j j = false := by
              show (decide (j = q) || (S j && decide (j < j))) = false
              rw [decide_eq_false c0, decide_eq_false (show ¬ j < j by omega)]; simp
            refine yw_os Q E hj hn hw (by rw [c2]; exact hvq) hk hh (by rw [c2]; exact hix) (vs_Sq_t st') hSf (hA j hj st') ?_
            intro ho' Q' E'
            exact nm_r (nI_1 j) (ihj ho' (by omega) Q' E')
          · have sf : S j = false := by
              cases z : S j
              · rfl
              · rcases ((hS j hj).mp z).1 with y | y
                · exact (c0 y).elim
                · rw [b0] at y; cases y
            exact yw_has1 (by omega) b0 (br_f (by decide) (nm_r (nI_1 j) (skip (Or.inl sf))))
        · have sf : S j = false := by
            cases z : S j
            · rfl
            · exact (c2 ((hS j hj).mp z).2.2).elim
          have a := hv48 j hj
          have b := hv48 q hq
          exact br_f (fun z => c2 ((nI_eq (by omega) (by omega)).mp z)) (nm_r (nI_1 j) (skip (Or.inl sf)))
      · have sf : S j = false := by
          cases z : S j
          · rfl
          · exact (c1 ((hS j hj).mp z).2.1).elim
        exact br_f c1 (nm_r (nI_1 j) (skip (Or.inl sf)))
end
section
/-! order: the call -/
variable {n w sn st fc : Nat} {md ins l1 l2 l3 l4 mk nw tp su jo am acu b1 b2 b3 o1 o2 xr xb xm xc xp xq xa va ho re pm aq VM : Nat → Int32} {lv lc vw ct dl pr ac hx bn oc att hd sd wt mv mn fm fs fv ow li be pc av VC : Nat → Nat} {lg : Nat → List (Nat × Nat)} {H : Nat → Nat → Bool}
theorem xw_ord {post : Int32 → SX → Prop} {m q k0 i0 : Nat} {loss : Int32} {S : Nat → Bool} (hn : n ≤ 5) (hw : w ≤ 8) (hq : q < n) (hk1 : 1 ≤ k0) (hk : k0 ≤ 48) (hmq : md q = 2) (hvq : vw q ≠ 0) (hv48 : ∀ a, a < n → vw a ≤ 48) (hix : vs_ix mv mn (vw q) k0 = i0) (hsd : sd i0 = m)
    (hS : ∀ a, a < n → (S a = true ↔ ((a = q ∨ bt loss a = false) ∧ md a = 2 ∧ vw a = vw q))) (hSn : ∀ a, S a = true → a < n)
    (hA : ∀ a, a < n → S a = true → dl a < k0 ∧ (∀ k, H a k = true → k < k0) ∧ k0 ≤ dl a + 8 ∧ H a (dl a + 1) = false ∧ (lg a).length + (k0 - dl a) ≤ 48 ∧ hx (a * 5 + a) = dl a) (hh : ∀ i, hx i ≤ 48)
    (R : vs_RA n H vw mv mn va sd bn b1 b2 b3) (X : vs_XL n lg va sd lc l1 l2 l3 l4)
    (h : ∀ (bn' : Nat → Nat) (b1' b2' b3' : Nat → Int32) (lc' : Nat → Nat) (l1' l2' l3' l4' : Nat → Int32), vs_RA n (vs_oH H S k0) vw mv mn va sd bn' b1' b2' b3' → vs_XL n (vs_ol lg dl S k0 (i0, vw q)) va sd lc' l1' l2' l3' l4' →
      post (nI k0) ((nI n), (nI w), (nI sn), (nI st), md, ins, (vs_I lv), (vs_I lc'), l1', l2', l3', l4', (vs_I vw), mk, nw, (vs_I ct), (vs_I (vs_od dl S k0)), (vs_oT tp S k0), su, jo, (vs_I pr), (vs_I ac), am, acu, (vs_I (vs_ox hx mk S (k0 - w) n dl k0)), (vs_I bn'), b1', b2', b3', (vs_I oc), o1, o2, (vs_I att), xr, xb, xm, xc, xp, xq, xa)) :
    ∃ n153 : Nat, wX_order_153 post (nI m) loss (nI q) (nI k0) (nI (i0 + 1)) (va i0) n153 0 (nI n) (nI w) (nI sn) (nI st) md ins (vs_I lv) (vs_I lc) l1 l2 l3 l4 (vs_I vw) mk nw (vs_I ct) (vs_I dl) tp su jo (vs_I pr) (vs_I ac) am acu (vs_I hx) (vs_I bn) b1 b2 b3 (vs_I oc) o1 o2 (vs_I att) xr xb xm xc xp xq xa := by
  have z := vs_o_0 (H := H) (tp := tp) (hd := hx) (mk := mk) (dl := dl) (lg := lg) (hx := hx) (n := n) (k0 := k0) (c := k0 - w) (e := (i0, vw q))
  have go := xw_ord_l hn hw hq hk1 hk hmq hvq hv48 hix hsd hS hA hh (by rw [vs_Sj_n hSn]; exact h) n 0 bn b1 b2 b3 lc l1 l2 l3 l4 (by omega) (by rw [vs_Sj_0, z.1]; exact R) (by rw [vs_Sj_0, z.2.2.2.2.1]; exact X)
  rw [vs_Sj_0, z.2.1, z.2.2.2.2.2, z.2.2.2.1] at go
  exact ⟨n + 1, go⟩
theorem yw_ord {post : Int32 → SY → Prop} {q k0 d0 : Nat} {loss : Int32} {S : Nat → Bool} {B : Nat → Nat} (Q : vs_YH n sn vw mv mn ho H) (E : vs_gE mv ho) (hn : n ≤ 5) (hw : w ≤ 8) (hq : q < n) (ek : k0 = d0 + 1) (hk : k0 ≤ 48) (hvq : vw q ≠ 0) (hv48 : ∀ a, a < n → vw a ≤ 48) (hix : vs_ix mv mn (vw q) k0 < 48)
    (hS : ∀ a, a < n → (S a = true ↔ ((a = q ∨ bt loss a = false) ∧ md a = 2 ∧ vw a = vw q))) (hSn : ∀ a, S a = true → a < n) (hSq : S q = true) (hA : ∀ a, a < n → S a = true → H a k0 = false) (hh : ∀ i, hd i ≤ 48)
    (hP : ∀ a, a < n → md a = 2 → vw a ≠ 0 ∧ vs_D (lg a) (vw a) = dl a ∧ dl a ≤ 48 ∧ (lg a).length + (B a - dl a) ≤ 48 ∧ B a ≤ 48 ∧ ∀ k, vs_oH H S k0 a k = true → k ≤ B a) (hlen : ∀ a, a < n → (lg a).length ≤ 48) (L : vs_YL n lg fc fm fs fv)
    (h : ∀ (ho' : Nat → Int32) (fc' : Nat) (fm' fs' fv' : Nat → Nat), vs_YH n sn vw mv mn ho' (vs_oH H S k0) → vs_gE mv ho' → vs_YL n (vs_dA md (vs_oH H S k0) vw mv mn dl lg n) fc' fm' fs' fv' →
      post (nI k0) ((nI n), (nI w), (nI sn), (nI fc'), (nI st), md, ins, (vs_I vw), mk, nw, (vs_I ct), (vs_oT tp S k0), (vs_I (vs_oh hd mk S (k0 - w) n)), su, jo, (vs_I pr), (vs_I ac), va, (vs_I sd), (vs_I wt), (vs_I mv), (vs_I mn), ho', (vs_I fm'), (vs_I fs'), (vs_I fv'), (vs_I ow), (vs_I li), re, (vs_I be), pm, (vs_I pc), aq)) :
    wpY_obtain (fun u => match u with | (x0, x1, x2, x3, x4, x5, x6, x7, x8, x9, x10, x11, x12, x13, x14, x15, x16, x17, x18, x19, x20, x21, x22, x23, x24, x25, x26, x27, x28, x29, x30, x31, x32) => ∃ n165 : Nat, wY_order_165 post loss (nI q) (nI d0) n165 0 x0 x1 x2 x3 x4 x5 x6 x7 x8 x9 x10 x11 x12 x13 x14 x15 x16 x17 x18 x19 x20 x21 x22 x23 x24 x25 x26 x27 x28 x29 x30 x31 x32) ((nI n), (nI w), (nI sn), (nI fc), (nI st), md, ins, (vs_I vw), mk, nw, (vs_I ct), tp, (vs_I hd), su, jo, (vs_I pr), (vs_I ac), va, (vs_I sd), (vs_I wt), (vs_I mv), (vs_I mn), ho, (vs_I fm), (vs_I fs), (vs_I fv), (vs_I ow), (vs_I li), re, (vs_I be), pm, (vs_I pc), aq) (nI q) (nI k0) := by
  have z := vs_o_0 (H := H) (tp := tp) (hd := hd) (mk := mk) (dl := dl) (lg := lg) (hx := hd) (n := n) (k0 := k0) (c := k0 - w) (e := (0, 0))
  have sq : ∀ a, vs_Sq S q 0 a = ((fun _ => false : Nat → Bool) a || decide (a = q)) := by
    intro a
    show (decide (a = q) || (S a && decide (a < 0))) = (false || decide (a = q))
    rw [decide_eq_false (show ¬ a < 0 by omega)]; simp
  have os := fun (post' : SY → Prop) => yw_os (post := post') (S := fun _ => false) (S' := vs_Sq S q 0) (j := q) (k0 := k0) (H := H) (tp := tp) (hd := hd) (mk := mk) (md := md) (ins := ins) (nw := nw) (ct := ct) (su := su) (jo := jo) (pr := pr) (ac := ac) (va := va) (sd := sd) (wt := wt) (fm := fm) (fs := fs) (fv := fv) (fc := fc) (ow := ow) (li := li) (re := re) (be := be) (pm := pm) (pc := pc) (aq := aq) (st := st) (ho := ho) (mv := mv) (mn := mn) (vw := vw) (n := n) (w := w) (sn := sn) (by rw [z.1]; exact Q) E hq hn hw hvq hk hh hix sq rfl (hA q hq hSq)
  rw [z.2.1, z.2.2.1] at os
  refine os _ ?_
  intro ho' Q' E'
  exact ⟨n + 1, yw_ord_l hn hw hq ek hk hvq hv48 hix hS hSn hSq hA hh hP hlen L h n 0 ho' (by omega) Q' E'⟩
theorem i_vc_order {k : Nat} {u : SX} {v : SY} (I : i_Rel k u v) (hk : k + 4 ≤ 2050) (v1 : Int32) (v2 : Int32) : wpX_order (fun r u' => wpY_order (fun r' v' => r' = r ∧ i_Rel (k + 4) u' v') v v1 v2) u v1 v2 := by
  refine zz_el (P := fun u v => wpX_order (fun r u' => wpY_order (fun r' v' => r' = r ∧ i_Rel (k + 4) u' v') v v1 v2) u v1 v2) ?_ I
  intro n w sn st md ins lv lc l1 l2 l3 l4 vw mk nw ct dl tp su jo pr ac am acu hx bn b1 b2 b3 oc o1 o2 att xr xb xm xc xp xq xa fc hd va sd wt mv mn ho fm fs fv ow li re be pm pc aq lg H av VM VC hI hX hY
  have fin : i_Rel (k + 4) ((nI n), (nI w), (nI sn), (nI st), md, ins, (vs_I lv), (vs_I lc), l1, l2, l3, l4, (vs_I vw), mk, nw, (vs_I ct), (vs_I dl), tp, su, jo, (vs_I pr), (vs_I ac), am, acu, (vs_I hx), (vs_I bn), b1, b2, b3, (vs_I oc), o1, o2, (vs_I att), xr, xb, xm, xc, xp, xq, xa) ((nI n), (nI w), (nI sn), (nI fc), (nI st), md, ins, (vs_I vw), mk, nw, (vs_I ct), tp, (vs_I hd), su, jo, (vs_I pr), (vs_I ac), va, (vs_I sd), (vs_I wt), (vs_I mv), (vs_I mn), ho, (vs_I fm), (vs_I fs), (vs_I fv), (vs_I ow), (vs_I li), re, (vs_I be), pm, (vs_I pc), aq) := zz_in hI hX hY
  have hI0 := hI
  obtain ⟨⟨hn3, hn5, hw1, hw8, hst⟩, gM, gI, gV, gJ, gS, gT, gE, gL, gD, gH, gN, gO, gK, gA, gR, gQ, gB, g2, g3, g4, g5, g6, g7, g8, gC1, gC2, gC3, gC4, gF, gC5⟩ := hI
  obtain ⟨XL, RA, XH, XO, XA⟩ := hX
  obtain ⟨YH, YL, YA, Y6, Y7⟩ := hY
  unfold wpX_order
  rcases vs_arg n hn5 v1 with hb | ⟨m, hm, rfl⟩
  · refine xw_bad1 hb (br_f (by decide) ?_)
    unfold wpY_order
    exact yw_bad1 hb (br_f (by decide) ⟨rfl, fin⟩)
  have hm5 : m < 5 := by omega
  have hi := vs_in5 hm5
  have em : (nI m).toNatClampNeg = m := nI_clamp (by omega)
  have hsn := gT.2.2.2.2.2.1
  have Xm := XO m hm
  have hwt : ∀ i, wt i ≤ 48 ∧ sd i ≤ 48 := fun i => gT.2.2.2.2.1 i
  simp only [em, vs_Ia]
  refine xw_bad0 hm hn5 (br_t rfl ?_)
  by_cases hv : md m = 2 ∨ md m = 3
  case neg =>
    refine xw_iv0 hm5 hv (br_t rfl ?_)
    unfold wpY_order
    exact yw_bad0 hm hn5 (br_t rfl (yw_iv0 hm5 hv (br_t rfl ⟨rfl, fin⟩)))
  refine xw_iv1 hm5 hv (br_f (by decide) ⟨hi, ?_⟩)
  by_cases m3 : md m = 3
  · refine br_t m3 ?_
    unfold wpY_order
    simp only [em, vs_Ia]
    exact yw_bad0 hm hn5 (br_t rfl (yw_iv1 hm5 hv (br_f (by decide) ⟨hi, br_t m3 ⟨by trivial, fin⟩⟩)))
  refine br_f m3 ⟨hi, ?_⟩
  have hvm := ((gM m hm).2).mp hv
  have Vm := gV.1 m hm hvm
  by_cases o0 : oc m = 0
  · refine br_t (by rw [o0]; rfl) ?_
    unfold wpY_order
    simp only [em, vs_Ia]
    exact yw_bad0 hm hn5 (br_t rfl (yw_iv1 hm5 hv (br_f (by decide) ⟨hi, br_f m3 (yw_outboxAt (k := 0) hm5 hsn (by decide) hwt (fun i h => by have := vs_some_lt h; omega) (fun _ => br_f (by decide) ⟨by trivial, fin⟩))⟩)))
  refine br_f (nI_ne0 (by omega) (by omega)) ⟨hi, ?_⟩
  obtain ⟨i0, hi0⟩ := vs_lt_some (l := vs_ob wt sd sn m) (p := 0) (by omega)
  have I0 := vs_ob_mem sn (List.mem_of_getElem? hi0)
  have i31 : i0 < 2 ^ 31 := by omega
  have hv0 : mv i0 = 0 := by
    apply Classical.byContradiction
    intro z
    exact I0.2.1 (gT.1 i0 z).2.2.2
  have Ypre : ∀ post : Int32 → SY → Prop, wpY_least (fun r_109 => (((r_109 < 0 → (post (-8) ((nI n), (nI w), (nI sn), (nI fc), (nI st), md, ins, (vs_I vw), mk, nw, (vs_I ct), tp, (vs_I hd), su, jo, (vs_I pr), (vs_I ac), va, (vs_I sd), (vs_I wt), (vs_I mv), (vs_I mn), ho, (vs_I fm), (vs_I fs), (vs_I fv), (vs_I ow), (vs_I li), re, (vs_I be), pm, (vs_I pc), aq))) ∧ (¬ r_109 < 0 → (vp_in r_109 5 ∧ ((((md r_109.toNatClampNeg) = 2 → (vp_in r_109 5 ∧ (vp_in (nI m) 5 ∧ ((((vs_I vw r_109.toNatClampNeg) = nI (vw m) → (wpY_delivered (fun r_149 => (wpY_stable (fun r_183 => ((((r_149 - r_183) < nI w → (vp_in (nI i0) 48 ∧ ∀ a_waiting_219 : Nat → Int32, a_waiting_219 = upd (vs_I wt) i0 (vp_nar .boolean 0) → (vp_in r_109 5 ∧ (vp_in (nI i0) 48 ∧ ∀ a_msgView_222 : Nat → Int32, a_msgView_222 = upd (vs_I mv) i0 (vs_I vw r_109.toNatClampNeg) → (vp_in (nI i0) 48 ∧ ∀ a_msgNum_224 : Nat → Int32, a_msgNum_224 = upd (vs_I mn) i0 (r_149 + 1) → (wpY_obtain (fun u => match u with | (x0, x1, x2, x3, x4, x5, x6, x7, x8, x9, x10, x11, x12, x13, x14, x15, x16, x17, x18, x19, x20, x21, x22, x23, x24, x25, x26, x27, x28, x29, x30, x31, x32) => (∃ n165 : Nat, wY_order_165 post v2 r_109 r_149 n165 0 x0 x1 x2 x3 x4 x5 x6 x7 x8 x9 x10 x11 x12 x13 x14 x15 x16 x17 x18 x19 x20 x21 x22 x23 x24 x25 x26 x27 x28 x29 x30 x31 x32)) ((nI n), (nI w), (nI sn), (nI fc), (nI st), md, ins, (vs_I vw), mk, nw, (vs_I ct), tp, (vs_I hd), su, jo, (vs_I pr), (vs_I ac), va, (vs_I sd), a_waiting_219, a_msgView_222, a_msgNum_224, ho, (vs_I fm), (vs_I fs), (vs_I fv), (vs_I ow), (vs_I li), re, (vs_I be), pm, (vs_I pc), aq) r_109 (r_149 + 1))))))) ∧ (¬ (r_149 - r_183) < nI w → (post (-9) ((nI n), (nI w), (nI sn), (nI fc), (nI st), md, ins, (vs_I vw), mk, nw, (vs_I ct), tp, (vs_I hd), su, jo, (vs_I pr), (vs_I ac), va, (vs_I sd), (vs_I wt), (vs_I mv), (vs_I mn), ho, (vs_I fm), (vs_I fs), (vs_I fv), (vs_I ow), (vs_I li), re, (vs_I be), pm, (vs_I pc), aq)))))) ((nI n), (nI w), (nI sn), (nI fc), (nI st), md, ins, (vs_I vw), mk, nw, (vs_I ct), tp, (vs_I hd), su, jo, (vs_I pr), (vs_I ac), va, (vs_I sd), (vs_I wt), (vs_I mv), (vs_I mn), ho, (vs_I fm), (vs_I fs), (vs_I fv), (vs_I ow), (vs_I li), re, (vs_I be), pm, (vs_I pc), aq) r_109)) ((nI n), (nI w), (nI sn), (nI fc), (nI st), md, ins, (vs_I vw), mk, nw, (vs_I ct), tp, (vs_I hd), su, jo, (vs_I pr), (vs_I ac), va, (vs_I sd), (vs_I wt), (vs_I mv), (vs_I mn), ho, (vs_I fm), (vs_I fs), (vs_I fv), (vs_I ow), (vs_I li), re, (vs_I be), pm, (vs_I pc), aq) r_109)) ∧ (¬ (vs_I vw r_109.toNatClampNeg) = nI (vw m) → (post (-8) ((nI n), (nI w), (nI sn), (nI fc), (nI st), md, ins, (vs_I vw), mk, nw, (vs_I ct), tp, (vs_I hd), su, jo, (vs_I pr), (vs_I ac), va, (vs_I sd), (vs_I wt), (vs_I mv), (vs_I mn), ho, (vs_I fm), (vs_I fs), (vs_I fv), (vs_I ow), (vs_I li), re, (vs_I be), pm, (vs_I pc), aq)))))))) ∧ (¬ (md r_109.toNatClampNeg) = 2 → (post (-8) ((nI n), (nI w), (nI sn), (nI fc), (nI st), md, ins, (vs_I vw), mk, nw, (vs_I ct), tp, (vs_I hd), su, jo, (vs_I pr), (vs_I ac), va, (vs_I sd), (vs_I wt), (vs_I mv), (vs_I mn), ho, (vs_I fm), (vs_I fs), (vs_I fv), (vs_I ow), (vs_I li), re, (vs_I be), pm, (vs_I pc), aq)))))))))) ((nI n), (nI w), (nI sn), (nI fc), (nI st), md, ins, (vs_I vw), mk, nw, (vs_I ct), tp, (vs_I hd), su, jo, (vs_I pr), (vs_I ac), va, (vs_I sd), (vs_I wt), (vs_I mv), (vs_I mn), ho, (vs_I fm), (vs_I fs), (vs_I fv), (vs_I ow), (vs_I li), re, (vs_I be), pm, (vs_I pc), aq) (mk m) → wpY_order post ((nI n), (nI w), (nI sn), (nI fc), (nI st), md, ins, (vs_I vw), mk, nw, (vs_I ct), tp, (vs_I hd), su, jo, (vs_I pr), (vs_I ac), va, (vs_I sd), (vs_I wt), (vs_I mv), (vs_I mn), ho, (vs_I fm), (vs_I fs), (vs_I fv), (vs_I ow), (vs_I li), re, (vs_I be), pm, (vs_I pc), aq) (nI m) v2 := by
    intro post hp
    unfold wpY_order
    simp only [em, vs_Ia]
    refine yw_bad0 hm hn5 (br_t rfl (yw_iv1 hm5 hv (br_f (by decide) ⟨hi, br_f m3 (yw_outboxAt (k := 0) hm5 hsn (by decide) hwt (fun i h => ?_) (fun z => by omega))⟩)))
    have : i = i0 := by rw [hi0] at h; cases h; rfl
    subst this
    refine br_t (nI_pos' i31) ⟨hi, ?_⟩
    rw [nI_clamp i31]
    exact hp
  have hbits : ∀ j, bt (mk m) j = true → j < n := fun j hj => by rw [Vm.2.1] at hj; exact gV.2 _ j hj
  rcases vs_lst n (mk m) with ⟨q, hq, hbq, hlq⟩ | hno
  case inr =>
    have : bt (mk m) m = true := by rw [Vm.2.1]; exact Vm.2.2.2
    rw [hno m hm] at this
    cases this
  have hq5 : q < 5 := by omega
  have hiq := vs_in5 hq5
  have eq : (nI q).toNatClampNeg = q := nI_clamp (by omega)
  have q0 : ¬ nI q < 0 := nI_pos (by omega)
  refine xw_leastQ hn5 hq hbq hlq (br_f q0 ⟨hiq, ?_⟩)
  rw [eq]
  by_cases m2 : md q = 2
  case neg =>
    refine br_f m2 ?_
    apply Ypre
    refine yw_leastQ hq5 hbq hlq (br_f q0 ⟨hiq, ?_⟩)
    rw [eq]
    exact br_f m2 ⟨rfl, fin⟩
  refine br_t m2 ⟨hiq, hi, ?_⟩
  have v48q := vs_v48 gI gV hq
  have v48m := vs_v48 gI gV hm
  by_cases w0 : vw q = vw m
  case neg =>
    have w0' : ¬ nI (vw q) = nI (vw m) := fun z => w0 ((nI_eq (by omega) (by omega)).mp z)
    refine br_f w0' ?_
    apply Ypre
    refine yw_leastQ hq5 hbq hlq (br_f q0 ⟨hiq, ?_⟩)
    rw [eq, vs_Ia]
    exact br_t m2 ⟨hiq, hi, br_f w0' ⟨rfl, fin⟩⟩
  have w0' : nI (vw q) = nI (vw m) := by rw [w0]
  have hvq : vw q ≠ 0 := by rw [w0]; exact hvm
  have Vq := gV.1 q hq hvq
  have d48 := vs_dl48 gD gL hq
  have eDq := (gD q hq).1 hvq
  refine br_t w0' ⟨hiq, xw_stable hn5 hq5 XH.1 d48 (nm_e ?_)⟩
  have sle := vs_stb_le (mk q) (fun j => hx (q * 5 + j)) (dl q) n
  have es : vs_stb (mk q) (fun j => if j = q then dl q else hd (q * 5 + j)) (dl q) n = vs_stb (mk q) (fun j => hx (q * 5 + j)) (dl q) n := vs_stb_c (fun j hj _ => by
    have t := XH.2.2 q hq
    by_cases z : j = q
    · rw [if_pos z, z, t.1]
    · rw [if_neg z, t.2 j hj z])
  have esub : nI (dl q) - nI (vs_stb (mk q) (fun j => hx (q * 5 + j)) (dl q) n) = nI (dl q - vs_stb (mk q) (fun j => hx (q * 5 + j)) (dl q) n) := pk_sub sle
  rw [esub]
  by_cases win : dl q - vs_stb (mk q) (fun j => hx (q * 5 + j)) (dl q) n < w
  case neg =>
    refine br_f (nI_nlt (by omega) (by omega)) ?_
    apply Ypre
    refine yw_leastQ hq5 hbq hlq (br_f q0 ⟨hiq, ?_⟩)
    rw [eq, vs_Ia]
    refine br_t m2 ⟨hiq, hi, br_t w0' (yw_del hq hn5 YL v48q eDq (yw_stable hq hn5 YL v48q eDq d48 XH.2.1 ?_))⟩
    rw [es, esub]
    exact br_f (nI_nlt (by omega) (by omega)) ⟨rfl, fin⟩
  have win' : nI (dl q - vs_stb (mk q) (fun j => hx (q * 5 + j)) (dl q) n) < nI w := nI_lt win (by omega)
  -- the new number
  have hVM : mk m = VM (vw q) := by rw [w0]; exact Vm.2.1
  have hbq' : bt (VM (vw q)) q = true := by rw [← hVM]; exact hbq
  have hlq' : ∀ j, j < q → bt (VM (vw q)) j = false := fun j hj => by rw [← hVM]; exact hlq j hj
  have dlq : vs_N mv (vw q) = dl q := (gO.2.1 (vw q) q hvq hbq' hlq').1 rfl
  have i48 : i0 < 48 := by omega
  have eN := vs_N_put (v := vw q) i48 hv0 hvq
  have k48 : vs_N mv (vw q) + 1 ≤ 48 := by have := vs_N_le (vs_u mv i0 (vw q)) (vw q); omega
  have hwin : ∀ j, bt (VM (vw q)) j = true → vs_N mv (vw q) + 1 ≤ vs_D (lg j) (vw q) + w := by
    intro j hj
    have hjn := gV.2 _ j hj
    by_cases z : j = q
    · rw [z, eDq, dlq]; omega
    · have a := gK q hq hvq j z hj
      have b := vs_stb_b (s := mk q) (h := fun j => hx (q * 5 + j)) (d := dl q) hjn (by rw [Vq.2.1]; exact hj)
      have b' : vs_stb (mk q) (fun j => hx (q * 5 + j)) (dl q) n ≤ hx (q * 5 + j) := b
      rw [(XH.2.2 q hq).2 j hjn z] at b'
      omega
  have hSex : ∃ S : Nat → Bool, ∀ a, S a = true ↔ (a < n ∧ (a = q ∨ bt v2 a = false) ∧ md a = 2 ∧ vw a = vw q) := by
    refine ⟨fun a => decide (a < n) && ((decide (a = q) || !bt v2 a) && (decide (md a = 2) && decide (vw a = vw q))), fun a => ?_⟩
    rw [Bool.and_eq_true, Bool.and_eq_true, Bool.and_eq_true, Bool.or_eq_true, decide_eq_true_eq, decide_eq_true_eq, decide_eq_true_eq, decide_eq_true_eq, Bool.not_eq_true']
  obtain ⟨S, hSS⟩ := hSex
  have hS1 : ∀ a, a < n → (S a = true ↔ ((a = q ∨ bt v2 a = false) ∧ md a = 2 ∧ vw a = vw q)) := fun a ha => by
    rw [hSS a]
    exact ⟨fun z => z.2, fun z => ⟨ha, z⟩⟩
  have hSn : ∀ a, S a = true → a < n := fun a ha => ((hSS a).mp ha).1
  have hSq : S q = true := (hSS q).mpr ⟨hq, Or.inl rfl, m2, rfl⟩
  have gT' := vs_num_T gT hv0 I0.1 hvq v48q
  have gL' := vs_num_L (x := vs_N mv (vw q) + 1) gL hv0 i48 hvq
  have RA' := vs_num_RA RA gT gH hv0 I0.1 hvq v48q
  have YH' := vs_num_YH YH gE gT gH hv0 I0.1 hvq v48q
  have eix := vs_num_ix0 gT hv0 I0.1 hvq v48q
  have gE0 : vs_gE (vs_u mv i0 (vw q)) ho := by
    intro i hi' j
    by_cases z : i = i0
    · rw [z, vs_us] at hi'; exact (hvq hi').elim
    · rw [vs_un z] at hi'; exact gE i hi' j
  have room' : ∀ a, a < n → vw a ≠ 0 → (lg a).length + (vs_N (vs_u mv i0 (vw q)) (vw a) - dl a) ≤ 48 := fun a ha hva => vs_room gT' gL' gD gV ha hva
  have hA : ∀ a, a < n → S a = true → dl a < vs_N mv (vw q) + 1 ∧ (∀ k, H a k = true → k < vs_N mv (vw q) + 1) ∧ vs_N mv (vw q) + 1 ≤ dl a + 8 ∧ H a (dl a + 1) = false ∧ (lg a).length + (vs_N mv (vw q) + 1 - dl a) ≤ 48 ∧ hx (a * 5 + a) = dl a := by
    intro a ha sa
    have s := (hSS a).mp sa
    have hva : vw a ≠ 0 := by rw [s.2.2.2]; exact hvq
    have e := (gD a ha).1 hva
    have l := (gL a ha).2.2 (vw a) hva
    have wn := hwin a (by rw [← s.2.2.2]; exact (gV.1 a ha hva).2.2.2)
    have rm := room' a ha hva
    rw [s.2.2.2] at e l rm
    rw [eN] at rm
    refine ⟨by omega, fun k hk => ?_, by omega, gN a ha s.2.2.1, rm, (XH.2.2 a ha).1⟩
    have := ((gH a ha).1 k hk).2.2
    rw [s.2.2.2] at this
    omega
  have o4 : vp_in (nI m * 4) 20 := by rw [vs_m4]; exact vp_in_nI (by omega) (by omega)
  have ho := Xm.2.2 0 i0 hi0
  rw [Nat.add_zero] at ho
  refine br_t win' ⟨hiq, nm_r (e' := nI (vs_N mv (vw q) + 1)) (by rw [nI_1, dlq]) ⟨o4, nm_r (e' := nI (i0 + 1)) (by rw [vs_m4, nI_clamp (by omega), ho.1]) ⟨o4, nm_r (e' := va i0) (by rw [vs_m4, nI_clamp (by omega), ho.2]) (xw_drop hm5 (by omega) ?_)⟩⟩⟩
  intro o1' o2' hd1 hd2
  refine xw_ord (lg := lg) (H := H) (mv := vs_u mv i0 (vw q)) (mn := vs_u mn i0 (vs_N mv (vw q) + 1)) (sd := sd) (va := va) (S := S) (i0 := i0) hn5 hw8 hq (by omega) k48 m2 hvq (fun a ha => vs_v48 gI gV ha) eix I0.2.2 hS1 hSn hA XH.1 RA' XL ?_
  intro bn' b1' b2' b3' lc' l1' l2' l3' l4' RA'' XL''
  apply Ypre
  refine yw_leastQ hq5 hbq hlq (br_f q0 ⟨hiq, ?_⟩)
  rw [eq, vs_Ia]
  refine br_t m2 ⟨hiq, hi, br_t w0' (yw_del hq hn5 YL v48q eDq (yw_stable hq hn5 YL v48q eDq d48 XH.2.1 ?_))⟩
  rw [es, esub]
  have h48i := vp_in_nI i48 (by omega)
  refine br_t win' ⟨h48i, nm_r (vs_upd _ _ 0) ⟨hiq, h48i, nm_r (vs_upd _ _ _) ⟨h48i, nm_r (e' := vs_I (vs_u mn i0 (vs_N mv (vw q) + 1))) (by rw [nI_1, vs_upd, dlq]) ?_⟩⟩⟩
  have ek : nI (dl q) + 1 = nI (vs_N mv (vw q) + 1) := by rw [nI_1, dlq]
  rw [ek]
  have hP : ∀ a, a < n → md a = 2 → vw a ≠ 0 ∧ vs_D (lg a) (vw a) = dl a ∧ dl a ≤ 48 ∧ (lg a).length + (vs_N (vs_u mv i0 (vw q)) (vw a) - dl a) ≤ 48 ∧ vs_N (vs_u mv i0 (vw q)) (vw a) ≤ 48 ∧ ∀ k, vs_oH H S (vs_N mv (vw q) + 1) a k = true → k ≤ vs_N (vs_u mv i0 (vw q)) (vw a) := by
    intro a ha hma
    have hva := ((gM a ha).2).mp (Or.inl hma)
    refine ⟨hva, (gD a ha).1 hva, vs_dl48 gD gL ha, room' a ha hva, vs_N_le _ _, fun k hk => ?_⟩
    have h' : (H a k || (S a && decide (k = vs_N mv (vw q) + 1))) = true := hk
    rw [Bool.or_eq_true, Bool.and_eq_true, decide_eq_true_eq] at h'
    rcases h' with z | z
    · have := ((gH a ha).1 k z).2.2
      have := (vs_N_mono (v := vw q) hv0 i48 hvq hva).1
      omega
    · rw [((hSS a).mp z.1).2.2.2, eN]; omega
  refine yw_ord (lg := lg) (dl := dl) (H := H) (S := S) (B := fun a => vs_N (vs_u mv i0 (vw q)) (vw a)) YH' gE0 hn5 hw8 hq (by rw [dlq]) k48 hvq (fun a ha => vs_v48 gI gV ha) (by rw [eix]; exact i48) hS1 hSn hSq ?_ XH.2.1 hP (fun a ha => (XL a ha).2.1) YL ?_
  · intro a ha sa
    cases e : H a (vs_N mv (vw q) + 1)
    · rfl
    · have := (hA a ha sa).2.1 _ e
      omega
  intro ho' fc' fm' fs' fv' YH'' gE'' YL''
  have eA : vs_dA md (vs_oH H S (vs_N mv (vw q) + 1)) vw (vs_u mv i0 (vw q)) (vs_u mn i0 (vs_N mv (vw q) + 1)) dl lg n = vs_ol lg dl S (vs_N mv (vw q) + 1) (i0, vw q) := by
    funext a
    show (if a < n ∧ md a = 2 then vs_dg (vs_oH H S (vs_N mv (vw q) + 1) a) (fun k => (vs_ix (vs_u mv i0 (vw q)) (vs_u mn i0 (vs_N mv (vw q) + 1)) (vw a) k, vw a)) 48 (dl a) (lg a) else lg a) = (if S a = true ∧ dl a + 1 = vs_N mv (vw q) + 1 then lg a ++ [(i0, vw q)] else lg a)
    cases sa : S a
    · rw [if_neg (show ¬ (false = true ∧ dl a + 1 = vs_N mv (vw q) + 1) from fun z => by cases z.1)]
      split
      · rename_i y
        have eH : vs_oH H S (vs_N mv (vw q) + 1) a (dl a + 1) = false := by
          show (H a (dl a + 1) || (S a && decide (dl a + 1 = vs_N mv (vw q) + 1))) = false
          rw [gN a y.1 y.2, sa]; rfl
        exact vs_dg_stop eH 48 (lg a)
      · rfl
    · have s := (hSS a).mp sa
      have A := hA a s.1 sa
      rw [if_pos ⟨s.1, s.2.2.1⟩, vs_dg_eq, vs_o_dn (r := 48) sa A.2.1 A.2.2.2.1 A.1 k48 (by omega)]
      by_cases e3 : dl a + 1 = vs_N mv (vw q) + 1
      · have P : true = true ∧ dl a + 1 = vs_N mv (vw q) + 1 := ⟨rfl, e3⟩
        rw [if_pos P, if_pos e3]
        have e4 := vs_seg_1 (fun k => (vs_ix (vs_u mv i0 (vw q)) (vs_u mn i0 (vs_N mv (vw q) + 1)) (vw a) k, vw a)) (dl a)
        rw [e3, s.2.2.2, eix] at e4
        rw [s.2.2.2, e4]
      · rw [if_neg (show ¬ (true = true ∧ dl a + 1 = vs_N mv (vw q) + 1) from fun z => e3 z.2), if_neg e3, vs_seg_0, List.append_nil]
  rw [eA] at YL''
  have NI := vs_order_Inv (S := S) (ho' := ho') hq m2 rfl hbq' hlq' hv0 I0.1 hwin (fun a sa => ⟨((hSS a).mp sa).1, ((hSS a).mp sa).2.2.1, ((hSS a).mp sa).2.2.2⟩) hSq gE'' hI0
  exact ⟨rfl, zz_in NI ⟨XL'', RA'', vs_order_XH XH hn5 (by omega) k48, vs_order_XO XO hm hi0 hd1 hd2, XA⟩ ⟨YH'', YL'', YA, Y6, vs_order_7 Y7 hn5⟩⟩
end
section
/-! the constructors -/
variable {n w sn st fc : Nat} {md ins l1 l2 l3 l4 mk nw tp su jo am acu b1 b2 b3 o1 o2 xr xb xm xc xp xq xa va ho re pm aq VM : Nat → Int32} {lv lc vw ct dl pr ac hx bn oc att hd sd wt mv mn fm fs fv ow li be pc av VC : Nat → Nat} {lg : Nat → List (Nat × Nat)} {H : Nat → Nat → Bool}
def vs_st {α : Type} (x z : α) (j : Nat) : Nat → α := fun a => if a < j then x else z
theorem vs_st_s {α : Type} (x z : α) (j : Nat) : vs_u (vs_st x z j) j x = vs_st x z (j + 1) := by
  funext a
  by_cases e : a = j
  · rw [e, vs_us]; exact (if_pos (by omega)).symm
  · rw [vs_un e]
    show (if a < j then x else z) = (if a < j + 1 then x else z)
    by_cases d : a < j
    · rw [if_pos d, if_pos (by omega)]
    · rw [if_neg d, if_neg (by omega)]
theorem vs_st_j {α : Type} (x z : α) (j : Nat) : vs_st x z j j = z := if_neg (by omega)
theorem vs_st_0 {α : Type} (x z : α) : vs_st x z 0 = fun _ => z := by
  funext a
  exact if_neg (by omega)
theorem vs_st_lt {α : Type} (x z : α) {a j : Nat} (h : a < j) : vs_st x z j a = x := if_pos h
theorem vs_uz {α : Type} (z : α) (j : Nat) : vs_u (fun _ => z) j z = fun _ => z := by
  funext a
  by_cases e : a = j
  · rw [e, vs_us]
  · rw [vs_un e]
theorem vs_zrz (b m j : Nat) : vs_zr (fun _ => 0) b m j = fun _ => 0 := by
  funext i
  show (if i / b = m ∧ i % b < j then 0 else 0) = 0
  split <;> rfl
def vs_ALL (n : Nat) : Int32 := ((1 : Int32) <<< (nI n &&& 31)) - 1
def vs_I1 : Int32 := (0 : Int32) ||| ((1 : Int32) <<< (nI (1 - 1) &&& 31))
theorem xw_clamp {post : Int32 → Prop} {u : SX} {p0 p1 p2 : Int32} (h : ((p1 ≤ p0 → (((p0 ≤ p2 → (post p0)) ∧ (¬ p0 ≤ p2 → (post p2))))) ∧ (¬ p1 ≤ p0 → (post p1)))) : wpX_clamp post u p0 p1 p2 := by
  obtain ⟨a1, a2, a3, a4, a5, a6, a7, a8, a9, a10, a11, a12, a13, a14, a15, a16, a17, a18, a19, a20, a21, a22, a23, a24, a25, a26, a27, a28, a29, a30, a31, a32, a33, a34, a35, a36, a37, a38, a39, a40⟩ := u
  exact h
theorem xw_clampR {post : Int32 → Prop} {u : SX} {p0 p1 p2 r : Int32} (hc : ∀ P : Int32 → Prop, P r → ((p1 ≤ p0 → (((p0 ≤ p2 → (P p0)) ∧ (¬ p0 ≤ p2 → (P p2))))) ∧ (¬ p1 ≤ p0 → (P p1)))) (h : post r) : wpX_clamp post u p0 p1 p2 := xw_clamp (hc post h)
/-- an int clamped into lo .. hi -/
theorem vs_clamp (p : Int32) {lo hi : Nat} (hl : lo ≤ hi) (hh : hi < 2 ^ 31) : ∃ r, lo ≤ r ∧ r ≤ hi ∧ ∀ P : Int32 → Prop, P (nI r) → ((nI lo ≤ p → (((p ≤ nI hi → (P p)) ∧ (¬ p ≤ nI hi → (P (nI hi)))))) ∧ (¬ nI lo ≤ p → (P (nI lo)))) := by
  by_cases c : nI lo ≤ p
  · by_cases d : p ≤ nI hi
    · have h0 : ¬ p < 0 := by
        intro z
        have := Int32.lt_of_le_of_lt c z
        exact nI_pos (show lo < 2 ^ 31 by omega) this
      obtain ⟨j, hj, rfl⟩ := nI_of h0
      rw [nI_leI (by omega) hj] at c
      rw [nI_leI hj hh] at d
      exact ⟨j, c, d, fun P h => br_t (nI_le c hj) (br_t (nI_le d hh) h)⟩
    · exact ⟨hi, hl, Nat.le_refl _, fun P h => br_t c (br_f d h)⟩
  · exact ⟨lo, Nat.le_refl _, hl, fun P h => br_f c h⟩
theorem xw_init_l {post : SX → Prop} (hn : n ≤ 5) (h : post ((nI n), (nI w), (nI 0), (nI 0), (vs_st 2 0 n), (vs_st vs_I1 0 n), (vs_I (vs_st 1 0 n)), (vs_I ((fun _ => 0))), ((fun _ => 0)), ((fun _ => 0)), ((fun _ => 0)), ((fun _ => 0)), (vs_I (vs_st 1 0 n)), (vs_st (vs_ALL n) 0 n), ((fun _ => 0)), (vs_I ((fun _ => 0))), (vs_I ((fun _ => 0))), ((fun _ => 0)), ((fun _ => 0)), ((fun _ => 0)), (vs_I ((fun _ => 0))), (vs_I ((fun _ => 0))), ((fun _ => 0)), ((fun _ => 0)), (vs_I ((fun _ => 0))), (vs_I ((fun _ => 0))), ((fun _ => 0)), ((fun _ => 0)), ((fun _ => 0)), (vs_I ((fun _ => 0))), ((fun _ => 0)), ((fun _ => 0)), (vs_I ((fun _ => 0))), ((fun _ => 0)), ((fun _ => 0)), ((fun _ => 0)), ((fun _ => 0)), ((fun _ => 0)), ((fun _ => 0)), ((fun _ => 0)))) : ∀ d j : Nat, j + d = n → wX_init_306 post (vs_ALL n) (d + 1) (nI j) (nI n) (nI w) (nI 0) (nI 0) (vs_st 2 0 j) (vs_st vs_I1 0 j) (vs_I (vs_st 1 0 j)) (vs_I ((fun _ => 0))) ((fun _ => 0)) ((fun _ => 0)) ((fun _ => 0)) ((fun _ => 0)) (vs_I (vs_st 1 0 j)) (vs_st (vs_ALL n) 0 j) ((fun _ => 0)) (vs_I ((fun _ => 0))) (vs_I ((fun _ => 0))) ((fun _ => 0)) ((fun _ => 0)) ((fun _ => 0)) (vs_I ((fun _ => 0))) (vs_I ((fun _ => 0))) ((fun _ => 0)) ((fun _ => 0)) (vs_I ((fun _ => 0))) (vs_I ((fun _ => 0))) ((fun _ => 0)) ((fun _ => 0)) ((fun _ => 0)) (vs_I ((fun _ => 0))) ((fun _ => 0)) ((fun _ => 0)) (vs_I ((fun _ => 0))) ((fun _ => 0)) ((fun _ => 0)) ((fun _ => 0)) ((fun _ => 0)) ((fun _ => 0)) ((fun _ => 0)) ((fun _ => 0)) := by
  intro d
  induction d with
  | zero =>
    intro j e
    have e : j = n := by omega
    subst e
    exact br_t (nI_le (by omega) (by omega)) h
  | succ d ih =>
    intro j e
    have ihj := ih (j + 1) (by omega)
    refine br_f (nI_ge (by omega) (by omega)) (xw_enter (v := 1) (c := 0) (by omega) (by rw [vs_st_j]; omega) (by omega) ?_)
    rw [vs_st_j, show (0 : Int32) ||| ((1 : Int32) <<< (nI (1 - 1) &&& 31)) = vs_I1 from rfl, vs_st_s, vs_st_s, vs_st_s, vs_st_s, vs_zrz, vs_zrz]
    simp only [vs_uz]
    exact nm_r (nI_1 j) ihj
theorem yw_init_l {post : SY → Prop} (hn : n ≤ 5) (h : post ((nI n), (nI w), (nI 0), (nI 0), (nI 0), (vs_st 2 0 n), (vs_st vs_I1 0 n), (vs_I (vs_st 1 0 n)), (vs_st (vs_ALL n) 0 n), ((fun _ => 0)), (vs_I ((fun _ => 0))), ((fun _ => 0)), (vs_I ((fun _ => 0))), ((fun _ => 0)), ((fun _ => 0)), (vs_I ((fun _ => 0))), (vs_I ((fun _ => 0))), ((fun _ => 0)), (vs_I ((fun _ => 0))), (vs_I ((fun _ => 0))), (vs_I ((fun _ => 0))), (vs_I ((fun _ => 0))), ((fun _ => 0)), (vs_I ((fun _ => 0))), (vs_I ((fun _ => 0))), (vs_I ((fun _ => 0))), (vs_I ((fun _ => 0))), (vs_I ((fun _ => 0))), ((fun _ => 0)), (vs_I ((fun _ => 0))), ((fun _ => 0)), (vs_I ((fun _ => 0))), ((fun _ => 0)))) : ∀ d j : Nat, j + d = n → wY_init_270 post (d + 1) (nI j) (nI n) (nI w) (nI 0) (nI 0) (nI 0) (vs_st 2 0 j) (vs_st vs_I1 0 j) (vs_I (vs_st 1 0 j)) (vs_st (vs_ALL n) 0 j) ((fun _ => 0)) (vs_I ((fun _ => 0))) ((fun _ => 0)) (vs_I ((fun _ => 0))) ((fun _ => 0)) ((fun _ => 0)) (vs_I ((fun _ => 0))) (vs_I ((fun _ => 0))) ((fun _ => 0)) (vs_I ((fun _ => 0))) (vs_I ((fun _ => 0))) (vs_I ((fun _ => 0))) (vs_I ((fun _ => 0))) ((fun _ => 0)) (vs_I ((fun _ => 0))) (vs_I ((fun _ => 0))) (vs_I ((fun _ => 0))) (vs_I ((fun _ => 0))) (vs_I ((fun _ => 0))) ((fun _ => 0)) (vs_I ((fun _ => 0))) ((fun _ => 0)) (vs_I ((fun _ => 0))) ((fun _ => 0)) := by
  intro d
  have A : vs_YA n 0 (fun _ => 0) (fun _ => 0) (fun _ => 0) := ⟨fun m _ => ⟨Nat.le_refl _, fun a h1 h2 => by omega⟩, fun a => ⟨Nat.zero_le _, Nat.zero_le _⟩, by omega⟩
  have z1 : ∀ j, vs_le (fun _ => 0) (fun _ => 0) j (0 + 1) = fun _ => 0 := by
    intro j
    funext a
    exact if_neg (fun z => by omega)
  have z2 : ∀ j, vs_hz (fun _ => 0) j 0 = fun _ => 0 := by
    intro j
    funext a
    exact if_neg (by omega)
  have z3 : ∀ j, vs_wz (fun _ => 0) (fun _ => 0) j 0 = fun _ => 0 := by
    intro j
    funext a
    exact if_neg (fun z => by omega)
  induction d with
  | zero =>
    intro j e
    have e : j = n := by omega
    subst e
    exact br_t (nI_le (by omega) (by omega)) h
  | succ d ih =>
    intro j e
    have ihj := ih (j + 1) (by omega)
    refine br_f (nI_ge (by omega) (by omega)) (yw_enter (v := 1) (c := 0) (show j < n by omega) hn A (by omega) (fun _ => Nat.zero_le _) (by omega) ?_)
    rw [z1, z2, z3, vs_st_j, show (0 : Int32) ||| ((1 : Int32) <<< (nI (1 - 1) &&& 31)) = vs_I1 from rfl, show ((1 : Int32) <<< (nI n &&& 31)) - 1 = vs_ALL n from rfl, vs_st_s, vs_st_s, vs_st_s, vs_st_s, vs_zrz]
    simp only [vs_uz]
    exact nm_r (nI_1 j) ihj
theorem vs_N0 {v : Nat} (hv : v ≠ 0) : vs_N (fun _ => 0) v = 0 := by
  unfold vs_N
  rw [vs_cn_c (Q := fun _ => false) (fun i _ => decide_eq_false (fun z => hv z.symm)), vs_cn_0]
theorem vs_bA {n j : Nat} (hn : n ≤ 5) : bt (vs_ALL n) j = decide (j < n) := by
  rcases Nat.lt_or_ge j 32 with h | h
  · exact vs_all n (by omega) j h
  · rw [b_big h, decide_eq_false (by omega)]
theorem vs_bI1 : ∀ j, j < 32 → bt vs_I1 j = decide (j = 0) := by decide +kernel
theorem vs_init_rel {k : Nat} (hn3 : 3 ≤ n) (hn5 : n ≤ 5) (hw1 : 1 ≤ w) (hw8 : w ≤ 8) : i_Rel k ((nI n), (nI w), (nI 0), (nI 0), (vs_st 2 0 n), (vs_st vs_I1 0 n), (vs_I (vs_st 1 0 n)), (vs_I ((fun _ => 0))), ((fun _ => 0)), ((fun _ => 0)), ((fun _ => 0)), ((fun _ => 0)), (vs_I (vs_st 1 0 n)), (vs_st (vs_ALL n) 0 n), ((fun _ => 0)), (vs_I ((fun _ => 0))), (vs_I ((fun _ => 0))), ((fun _ => 0)), ((fun _ => 0)), ((fun _ => 0)), (vs_I ((fun _ => 0))), (vs_I ((fun _ => 0))), ((fun _ => 0)), ((fun _ => 0)), (vs_I ((fun _ => 0))), (vs_I ((fun _ => 0))), ((fun _ => 0)), ((fun _ => 0)), ((fun _ => 0)), (vs_I ((fun _ => 0))), ((fun _ => 0)), ((fun _ => 0)), (vs_I ((fun _ => 0))), ((fun _ => 0)), ((fun _ => 0)), ((fun _ => 0)), ((fun _ => 0)), ((fun _ => 0)), ((fun _ => 0)), ((fun _ => 0))) ((nI n), (nI w), (nI 0), (nI 0), (nI 0), (vs_st 2 0 n), (vs_st vs_I1 0 n), (vs_I (vs_st 1 0 n)), (vs_st (vs_ALL n) 0 n), ((fun _ => 0)), (vs_I ((fun _ => 0))), ((fun _ => 0)), (vs_I ((fun _ => 0))), ((fun _ => 0)), ((fun _ => 0)), (vs_I ((fun _ => 0))), (vs_I ((fun _ => 0))), ((fun _ => 0)), (vs_I ((fun _ => 0))), (vs_I ((fun _ => 0))), (vs_I ((fun _ => 0))), (vs_I ((fun _ => 0))), ((fun _ => 0)), (vs_I ((fun _ => 0))), (vs_I ((fun _ => 0))), (vs_I ((fun _ => 0))), (vs_I ((fun _ => 0))), (vs_I ((fun _ => 0))), ((fun _ => 0)), (vs_I ((fun _ => 0))), ((fun _ => 0)), (vs_I ((fun _ => 0))), ((fun _ => 0))) := by
  refine zz_in (H := fun _ _ => false) (lg := fun _ => []) (av := fun _ => 0) (VM := fun _ => vs_ALL n) (VC := fun _ => 0) ⟨⟨hn3, hn5, hw1, hw8, by omega⟩, ?_, ?_, ⟨?_, ?_⟩, ?_, ?_, ?_, ?_, ?_, ?_, ?_, ?_, ⟨?_, ?_, ?_⟩, ?_, ?_, ?_, ?_, ?_, ?_, ?_, ?_, ?_, ?_, ?_, ?_, ?_, ?_, ?_, ?_, ?_, ?_⟩ ⟨?_, ⟨?_, ?_⟩, ⟨?_, ?_, ?_⟩, ?_, ?_⟩ ⟨⟨?_, ?_, ?_, ?_, ?_⟩, ⟨?_, ?_, ?_, ?_⟩, ⟨?_, ?_, ?_⟩, ?_, ?_⟩
  · intro m hm
    rw [vs_st_lt _ _ hm, vs_st_lt _ _ hm]
    exact ⟨Or.inr (Or.inr (Or.inl rfl)), ⟨fun _ => by omega, fun _ => Or.inl rfl⟩⟩
  · intro m hm
    rw [vs_st_lt _ _ hm, vs_st_lt _ _ hm]
    refine ⟨Nat.le_refl _, by omega, fun v hv => ?_, ?_⟩
    · rcases Nat.lt_or_ge v 32 with h | h
      · rw [vs_bI1 v h, decide_eq_true_eq] at hv; omega
      · rw [b_big h] at hv; cases hv
    · exact vs_bI1 0 (by omega)
  · intro m hm _
    rw [vs_st_lt _ _ hm, vs_st_lt _ _ hm]
    refine ⟨rfl, rfl, ?_, ?_⟩
    · symm
      rw [vs_n0]
      intro i _
      rw [vs_bnot]
      cases bt (vs_ALL n) i <;> rfl
    · rw [vs_bA hn5]; exact decide_eq_true hm
  · intro v j hj
    rw [vs_bA hn5, decide_eq_true_eq] at hj; exact hj
  · intro m hm _ j hj
    rw [b_0] at hj; cases hj
  · intro m hm _
    exact b_0 m
  · exact ⟨fun i hi => (hi rfl).elim, fun v k hv h1 h2 => by rw [vs_N0 hv] at h2; omega, fun i i' hi => (hi rfl).elim, fun i _ => rfl, fun i => ⟨Nat.zero_le _, Nat.zero_le _⟩, by omega, fun i => ⟨Nat.zero_le _, Nat.zero_le _⟩⟩
  · intro i _ j
    exact b_0 j
  · intro m hm
    exact ⟨fun i v h => (by cases h), List.nodup_nil, fun v hv => Nat.zero_le _⟩
  · intro m hm
    exact ⟨fun _ => rfl, fun _ => rfl⟩
  · intro m hm
    exact ⟨fun k hk => (by cases hk), fun _ k h1 h2 => absurd (Nat.le_trans h1 h2) (Nat.not_lt_zero 0)⟩
  · intro m hm _
    rfl
  · intro v j hv _
    rw [vs_N0 hv]; exact Nat.zero_le _
  · intro v q hv _ _
    rw [vs_N0 hv]; exact ⟨fun _ => rfl, fun _ => rfl⟩
  · intro v hv _
    exact vs_N0 hv
  · intro m hm _ j _ _
    exact Nat.zero_le _
  · intro m hm
    exact ⟨Nat.le_refl _, fun z => (z rfl).elim⟩
  · intro a h1 h2; omega
  · intro a h1 h2; omega
  · intro m hm
    exact ⟨Nat.le_refl _, Nat.le_refl _, fun z => (z rfl).elim⟩
  · intro a b m h1 h2 h3; omega
  · intro a h1 h2; omega
  · intro a h1 h2; omega
  · intro a h1 h2; omega
  · intro m hm x h1 h2
    rw [vs_st_lt _ _ hm] at h2; omega
  · intro a j hj
    rw [b_0] at hj; cases hj
  · exact ⟨fun a _ => ⟨rfl, rfl, rfl, rfl, rfl⟩, fun a => ⟨Nat.zero_le _, Nat.zero_le _⟩⟩
  · intro a h1 h2; omega
  · intro m hm
    exact ⟨fun z => (z rfl).elim, fun z => (z rfl).elim, fun z => (z rfl).elim⟩
  · intro a m h1 h2; omega
  · intro c m _ _ h3; exact (h3 rfl).elim
  · intro m hm
    refine ⟨Nat.zero_le _, fun _ => ⟨Nat.zero_le _, fun k hk => absurd hk (Nat.not_lt_zero _), fun h2 => ?_⟩⟩
    rw [vs_st_lt _ _ hm] at h2; omega
  · intro a m h1 h2; omega
  · intro m hm
    exact ⟨rfl, Nat.zero_le _, fun p i v h => by simp at h⟩
  · intro i; exact Nat.zero_le _
  · intro j hj _
    exact ⟨fun s hs z => (z rfl).elim, fun k hk => by cases hk⟩
  · intro i; exact Nat.zero_le _
  · intro i; exact Nat.zero_le _
  · intro m hm; exact ⟨rfl, fun j _ _ => rfl⟩
  · intro m hm
    exact ⟨rfl, Nat.zero_le _, fun p i h => by simp [vs_ob] at h⟩
  · intro m hm
    exact ⟨rfl, rfl, rfl, rfl, rfl, rfl, rfl, rfl, rfl⟩
  · intro i hi; exact (hi rfl).elim
  · intro i; exact ⟨Nat.zero_le _, Nat.zero_le _⟩
  · omega
  · intro m hm
    rw [vs_st_lt _ _ hm]; omega
  · intro m hm _ k
    rw [b_0, Bool.and_false]
  · intro m hm; rfl
  · intro f hf; omega
  · intro f; exact ⟨Nat.zero_le _, Nat.zero_le _, Nat.zero_le _⟩
  · omega
  · intro m hm; exact ⟨Nat.le_refl _, fun a h1 h2 => by omega⟩
  · intro a; exact ⟨Nat.zero_le _, Nat.zero_le _⟩
  · omega
  · intro m hm z; exact (z rfl).elim
  · intro m hm _ k hk; cases hk
theorem i_vc0 (k0 : Int32) (k1 : Int32) : wpX_init (fun u => wpY_init (fun v => i_Rel 2 u v) k0 k1) k0 k1 := by
  obtain ⟨n, hn3, hn5, hcn⟩ := vs_clamp k0 (lo := 3) (hi := 5) (by omega) (by omega)
  obtain ⟨w, hw1, hw8, hcw⟩ := vs_clamp k1 (lo := 1) (hi := 8) (by omega) (by omega)
  unfold wpX_init
  refine xw_clampR (r := nI n) hcn (xw_clampR (r := nI w) hcw (nm_e ⟨n + 1, ?_⟩))
  have hX := xw_init_l (n := n) (w := w) (post := fun u => wpY_init (fun v => i_Rel 2 u v) k0 k1) hn5 ?_ n 0 (by omega)
  · rw [vs_st_0, vs_st_0, vs_st_0, vs_st_0] at hX
    exact hX
  · have hY := yw_init_l (n := n) (w := w) (post := fun v => i_Rel 2 ((nI n), (nI w), (nI 0), (nI 0), (vs_st 2 0 n), (vs_st vs_I1 0 n), (vs_I (vs_st 1 0 n)), (vs_I ((fun _ => 0))), ((fun _ => 0)), ((fun _ => 0)), ((fun _ => 0)), ((fun _ => 0)), (vs_I (vs_st 1 0 n)), (vs_st (vs_ALL n) 0 n), ((fun _ => 0)), (vs_I ((fun _ => 0))), (vs_I ((fun _ => 0))), ((fun _ => 0)), ((fun _ => 0)), ((fun _ => 0)), (vs_I ((fun _ => 0))), (vs_I ((fun _ => 0))), ((fun _ => 0)), ((fun _ => 0)), (vs_I ((fun _ => 0))), (vs_I ((fun _ => 0))), ((fun _ => 0)), ((fun _ => 0)), ((fun _ => 0)), (vs_I ((fun _ => 0))), ((fun _ => 0)), ((fun _ => 0)), (vs_I ((fun _ => 0))), ((fun _ => 0)), ((fun _ => 0)), ((fun _ => 0)), ((fun _ => 0)), ((fun _ => 0)), ((fun _ => 0)), ((fun _ => 0))) v) hn5 (vs_init_rel hn3 hn5 hw1 hw8) n 0 (by omega)
    rw [vs_st_0, vs_st_0, vs_st_0, vs_st_0] at hY
    unfold wpY_init
    refine hcn (fun z0 => wY_init_240 (fun v => i_Rel 2 ((nI n), (nI w), (nI 0), (nI 0), (vs_st 2 0 n), (vs_st vs_I1 0 n), (vs_I (vs_st 1 0 n)), (vs_I ((fun _ => 0))), ((fun _ => 0)), ((fun _ => 0)), ((fun _ => 0)), ((fun _ => 0)), (vs_I (vs_st 1 0 n)), (vs_st (vs_ALL n) 0 n), ((fun _ => 0)), (vs_I ((fun _ => 0))), (vs_I ((fun _ => 0))), ((fun _ => 0)), ((fun _ => 0)), ((fun _ => 0)), (vs_I ((fun _ => 0))), (vs_I ((fun _ => 0))), ((fun _ => 0)), ((fun _ => 0)), (vs_I ((fun _ => 0))), (vs_I ((fun _ => 0))), ((fun _ => 0)), ((fun _ => 0)), ((fun _ => 0)), (vs_I ((fun _ => 0))), ((fun _ => 0)), ((fun _ => 0)), (vs_I ((fun _ => 0))), ((fun _ => 0)), ((fun _ => 0)), ((fun _ => 0)), ((fun _ => 0)), ((fun _ => 0)), ((fun _ => 0)), ((fun _ => 0))) v) k1 z0 0 0 0 0 0 (fun _ => 0) (fun _ => 0) (fun _ => 0) (fun _ => 0) (fun _ => 0) (fun _ => 0) (fun _ => 0) (fun _ => 0) (fun _ => 0) (fun _ => 0) (fun _ => 0) (fun _ => 0) (fun _ => 0) (fun _ => 0) (fun _ => 0) (fun _ => 0) (fun _ => 0) (fun _ => 0) (fun _ => 0) (fun _ => 0) (fun _ => 0) (fun _ => 0) (fun _ => 0) (fun _ => 0) (fun _ => 0) (fun _ => 0) (fun _ => 0) (fun _ => 0)) ?_
    refine hcw (fun x2 => ∃ n270 : Nat, wY_init_270 (fun v => i_Rel 2 ((nI n), (nI w), (nI 0), (nI 0), (vs_st 2 0 n), (vs_st vs_I1 0 n), (vs_I (vs_st 1 0 n)), (vs_I ((fun _ => 0))), ((fun _ => 0)), ((fun _ => 0)), ((fun _ => 0)), ((fun _ => 0)), (vs_I (vs_st 1 0 n)), (vs_st (vs_ALL n) 0 n), ((fun _ => 0)), (vs_I ((fun _ => 0))), (vs_I ((fun _ => 0))), ((fun _ => 0)), ((fun _ => 0)), ((fun _ => 0)), (vs_I ((fun _ => 0))), (vs_I ((fun _ => 0))), ((fun _ => 0)), ((fun _ => 0)), (vs_I ((fun _ => 0))), (vs_I ((fun _ => 0))), ((fun _ => 0)), ((fun _ => 0)), ((fun _ => 0)), (vs_I ((fun _ => 0))), ((fun _ => 0)), ((fun _ => 0)), (vs_I ((fun _ => 0))), ((fun _ => 0)), ((fun _ => 0)), ((fun _ => 0)), ((fun _ => 0)), ((fun _ => 0)), ((fun _ => 0)), ((fun _ => 0))) v) n270 0 (nI n) x2 0 0 0 (fun _ => 0) (fun _ => 0) (fun _ => 0) (fun _ => 0) (fun _ => 0) (fun _ => 0) (fun _ => 0) (fun _ => 0) (fun _ => 0) (fun _ => 0) (fun _ => 0) (fun _ => 0) (fun _ => 0) (fun _ => 0) (fun _ => 0) (fun _ => 0) (fun _ => 0) (fun _ => 0) (fun _ => 0) (fun _ => 0) (fun _ => 0) (fun _ => 0) (fun _ => 0) (fun _ => 0) (fun _ => 0) (fun _ => 0) (fun _ => 0) (fun _ => 0)) ?_
    exact ⟨n + 1, hY⟩
end
