section
/-! rows picked from the kit's rows to paste (starting text) -/
theorem pk_us {f : Nat → Int32} {k : Nat} {x : Int32} : upd f k x k = x := if_pos rfl
theorem pk_un {f : Nat → Int32} {k j : Nat} {x : Int32} (h : j ≠ k) : upd f k x j = f j := if_neg h
theorem pk_sub {a b : Nat} (h : b ≤ a) : nI a - nI b = nI (a - b) := by
  obtain ⟨c, rfl⟩ : ∃ c, a = c + b := ⟨a - b, by omega⟩
  rw [← nI_add, Int32.add_sub_cancel, Nat.add_sub_cancel]
theorem pk_m1 (n : Nat) : nI (n + 1) + (-1) = nI n := by
  rw [← nI_1, Int32.add_assoc, show (1 : Int32) + (-1) = 0 from rfl, Int32.add_zero]
theorem pk_mul (a b : Nat) : nI a * nI b = nI (a * b) := (Int32.ofNat_mul a b).symm
theorem pk_div {a d : Nat} (ha : a < 2 ^ 31) (h0 : 0 < d) (hd : d < 2 ^ 31) : nI a / nI d = nI (a / d) := by
  apply Int32.toInt_inj.mp
  rw [lg_idiv_nonneg (by rw [nI_toInt ha]; omega) (by rw [nI_toInt hd]; omega), nI_toInt ha, nI_toInt hd, nI_toInt (Nat.lt_of_le_of_lt (Nat.div_le_self a d) ha)]
  first | rfl | exact (Int.natCast_ediv _ _).symm
theorem pk_rem {a d : Nat} (ha : a < 2 ^ 31) (h0 : 0 < d) (hd : d < 2 ^ 31) : nI a - nI a / nI d * nI d = nI (a % d) := by
  rw [pk_div ha h0 hd, pk_mul, pk_sub (Nat.div_mul_le_self a d)]
  exact congrArg nI (by have := Nat.div_add_mod' a d; omega)
theorem pk_ix (x : Int32) {n : Nat} (hn : n < 2 ^ 31) : x < 0 ∨ nI n ≤ x ∨ ∃ j : Nat, j < n ∧ x = nI j := by
  by_cases h : x < 0
  · exact Or.inl h
  · obtain ⟨j, hj, rfl⟩ := nI_of h
    by_cases h2 : j < n
    · exact Or.inr (Or.inr ⟨j, h2, rfl⟩)
    · exact Or.inr (Or.inl (nI_le (by omega) hj))
theorem pk_le {x y : Int32} {A B : Prop} (a b : Nat) (f : a ≤ b → A) (g : b < a → B) (hx : x = nI a := by rfl) (hy : y = nI b := by rfl) (ha : a < 2 ^ 31 := by omega) (hb : b < 2 ^ 31 := by omega) : (x ≤ y → A) ∧ (¬ x ≤ y → B) := by
  subst hx hy
  rw [nI_leI ha hb]
  exact ⟨f, fun z => g (by omega)⟩
theorem pk_lt {x y : Int32} {A B : Prop} (a b : Nat) (f : a < b → A) (g : b ≤ a → B) (hx : x = nI a := by rfl) (hy : y = nI b := by rfl) (ha : a < 2 ^ 31 := by omega) (hb : b < 2 ^ 31 := by omega) : (x < y → A) ∧ (¬ x < y → B) := by
  subst hx hy
  rw [nI_ltI ha hb]
  exact ⟨f, fun z => g (by omega)⟩
theorem pk_eq {x y : Int32} {A B : Prop} (a b : Nat) (f : a = b → A) (g : a ≠ b → B) (hx : x = nI a := by rfl) (hy : y = nI b := by rfl) (ha : a < 2 ^ 31 := by omega) (hb : b < 2 ^ 31 := by omega) : (x = y → A) ∧ (¬ x = y → B) := by
  subst hx hy
  rw [nI_eq ha hb]
  exact ⟨f, g⟩
theorem pk_in {x : Int32} (n N : Nat) (h : n < N) (hx : x = nI n := by rfl) (hN : N < 2 ^ 31 := by omega) : vp_in x N := by
  subst hx
  exact vp_in_nI h hN
theorem pk_cl {x : Int32} (n : Nat) (hx : x = nI n := by rfl) (h : n < 2 ^ 31 := by omega) : x.toNatClampNeg = n := by
  subst hx
  exact nI_clamp h
theorem pk_tn {n : Nat} (h : n < 2 ^ 32) : (nI n).toBitVec.toNat = n := Nat.mod_eq_of_lt h
theorem pk_shl (a s : Int32) (k : Nat) (hs : (s.toBitVec.smod 32).toNat = k) : (a <<< s).toBitVec.toNat = a.toBitVec.toNat * 2 ^ k % 2 ^ 32 := by
  show (a.toBitVec <<< (s.toBitVec.smod 32).toNat).toNat = _
  rw [hs, BitVec.toNat_shiftLeft, Nat.shiftLeft_eq]
theorem pk_shlN {n : Nat} (s : Int32) (k : Nat) (hs : (s.toBitVec.smod 32).toNat = k) (h : n * 2 ^ k < 2 ^ 32) : nI n <<< s = nI (n * 2 ^ k) := by
  apply Int32.toBitVec_inj.mp
  apply BitVec.eq_of_toNat_eq
  have hn : n < 2 ^ 32 := Nat.lt_of_le_of_lt (Nat.le_mul_of_pos_right n (Nat.two_pow_pos k)) h
  rw [pk_shl _ _ k hs, pk_tn hn, pk_tn h, Nat.mod_eq_of_lt h]
theorem pk_least (P : Nat → Prop) (h : ∃ k, P k) : ∃ k, P k ∧ ∀ j, j < k → ¬ P j := by
  obtain ⟨k, hk⟩ := h
  induction k using Nat.strongRecOn with
  | ind k ih =>
    by_cases e : ∃ j, j < k ∧ P j
    · obtain ⟨j, hj, pj⟩ := e
      exact ih j hj pj
    · exact ⟨k, hk, fun j hj pj => e ⟨j, hj, pj⟩⟩
def bt (x : Int32) (i : Nat) : Bool := x.toBitVec.getLsbD i
theorem b_ext {x y : Int32} (h : ∀ i, i < 32 → bt x i = bt y i) : x = y := Int32.toBitVec_inj.mp (BitVec.eq_of_getLsbD_eq (fun i hi => h i hi))
theorem b_or (x y : Int32) (i : Nat) : bt (x ||| y) i = (bt x i || bt y i) := by unfold bt; rw [Int32.toBitVec_or, BitVec.getLsbD_or]
theorem b_and (x y : Int32) (i : Nat) : bt (x &&& y) i = (bt x i && bt y i) := by unfold bt; rw [Int32.toBitVec_and, BitVec.getLsbD_and]
theorem b_xor (x y : Int32) (i : Nat) : bt (x ^^^ y) i = (bt x i ^^ bt y i) := by unfold bt; rw [Int32.toBitVec_xor, BitVec.getLsbD_xor]
theorem b_big {x : Int32} {i : Nat} (h : 32 ≤ i) : bt x i = false := BitVec.getLsbD_of_ge _ _ h
theorem b_m1 : ∀ i, i < 32 → bt (-1) i = true := by decide +kernel
theorem b_0 (i : Nat) : bt 0 i = false := BitVec.getLsbD_zero
theorem s_l : ∀ n, n < 32 → ((nI n &&& 31).toBitVec.smod 32).toNat = n := by decide +kernel
theorem b_shl (n : Nat) (hn : n < 32) (x : Int32) {i : Nat} (hi : i < 32) : bt (x <<< (nI n &&& 31)) i = (decide (n ≤ i) && bt x (i - n)) := by
  unfold bt
  rw [Int32.toBitVec_shiftLeft]
  show (x.toBitVec <<< ((nI n &&& 31).toBitVec.smod 32).toNat).getLsbD i = _
  rw [s_l n hn, BitVec.getLsbD_shiftLeft]
  rcases Nat.lt_or_ge i n with h | h
  · simp [h, Nat.not_le.mpr h]
  · simp [hi, h, Nat.not_lt.mpr h]
theorem b_sshr (n : Nat) (hn : n < 32) (x : Int32) {i : Nat} (hi : i < 32) : bt (x >>> (nI n &&& 31)) i = if n + i < 32 then bt x (n + i) else bt x 31 := by
  unfold bt
  rw [Int32.toBitVec_shiftRight]
  show (x.toBitVec.sshiftRight ((nI n &&& 31).toBitVec.smod 32).toNat).getLsbD i = _
  rw [s_l n hn, BitVec.getLsbD_sshiftRight, BitVec.msb_eq_getLsbD_last]
  simp [hi]
end
section
/-! truth values as ints, one bit of an int, cells -/
def gv_z (b : Bool) : Int32 := if b = true then 1 else 0
theorem gv_zn (b : Bool) : gv_z b = nI b.toNat := by cases b <;> rfl
theorem gv_z1m (b : Bool) : 1 - gv_z b = gv_z (!b) := by cases b <;> rfl
theorem gv_narz (b : Bool) : vp_nar .boolean (gv_z b) = gv_z b := by cases b <;> rfl
theorem gv_nz (b : Bool) : narrow .boolean (.int (gv_z b)) = .int (gv_z b) := by cases b <;> rfl
theorem gv_zinj {a b : Bool} (h : gv_z a = gv_z b) : a = b := by
  cases a <;> cases b
  · rfl
  · exact absurd h (by decide)
  · exact absurd h (by decide)
  · rfl
theorem gv_toNat (b : Bool) : b.toNat < 2 := by cases b <;> decide
theorem gv_bz {b : Bool} {A B : Prop} (f : b = false → A) (g : b = true → B) : (gv_z b = 0 → A) ∧ (¬ gv_z b = 0 → B) := by
  cases b
  · exact ⟨fun _ => f rfl, fun h => absurd rfl h⟩
  · exact ⟨fun h => absurd h (by decide), fun _ => g rfl⟩
theorem gv_bx {x : Int32} {b : Bool} {A B : Prop} (e : x = gv_z b) (f : b = false → A) (g : b = true → B) : (x = 0 → A) ∧ (¬ x = 0 → B) := by
  subst e
  exact gv_bz f g
theorem gv_b1 (j : Nat) : bt 1 j = decide (j = 0) := by
  rcases Nat.lt_or_ge j 32 with h | h
  · exact (by decide +kernel : ∀ i, i < 32 → bt 1 i = decide (i = 0)) j h
  · rw [b_big h, decide_eq_false (by omega)]
theorem gv_bit (x : Int32) {i : Nat} (hi : i < 32) : (x >>> (nI i &&& 31)) &&& 1 = gv_z (bt x i) := by
  apply b_ext
  intro j hj
  rw [b_and, gv_b1 j]
  by_cases h : j = 0
  · subst h
    rw [b_sshr i hi x hj, if_pos (by omega), Nat.add_zero]
    cases bt x i <;> rfl
  · rw [decide_eq_false h, Bool.and_false]
    cases bt x i
    · exact (b_0 j).symm
    · exact ((gv_b1 j).trans (decide_eq_false h)).symm
theorem gv_inX {post : Int32 → Prop} {x : Int32} {i : Nat} (hi : i < 32) (h : post (gv_z (bt x i))) : wpX_in post x (nI i) := by
  unfold wpX_in
  rw [gv_bit x hi]
  refine gv_bz (fun e => ?_) (fun e => ?_)
  · rw [e] at h; exact h
  · rw [e] at h; exact h
theorem gv_by {x : Int32} {i : Nat} (hi : i < 32) {A B : Prop} (f : bt x i = true → A) (g : bt x i = false → B) : ((x >>> (nI i &&& 31)) &&& 1 = 1 → A) ∧ (¬ (x >>> (nI i &&& 31)) &&& 1 = 1 → B) := by
  rw [gv_bit x hi]
  cases e : bt x i
  · exact ⟨fun h => absurd h (by decide), fun _ => g e⟩
  · exact ⟨fun _ => f e, fun h => absurd rfl h⟩
theorem gv_shl (x : Nat) (hx : x < 32) {i : Nat} (hi : i < 32) : bt ((1 : Int32) <<< (nI x &&& 31)) i = decide (i = x) := by
  rw [b_shl x hx 1 hi, gv_b1]
  by_cases h : i = x
  · subst h; simp
  · by_cases h2 : x ≤ i
    · rw [decide_eq_false h, decide_eq_false (show ¬ i - x = 0 by omega), Bool.and_false]
    · rw [decide_eq_false h, decide_eq_false h2, Bool.false_and]
theorem gv_cX (p q r : Nat) : ((nI p * 10) + nI q) * 10 + nI r = nI ((p * 10 + q) * 10 + r) := by
  show ((nI p * nI 10) + nI q) * nI 10 + nI r = _
  rw [pk_mul, nI_add, pk_mul, nI_add]
theorem gv_cellX {post : Int32 → Prop} {p q r : Nat} (h : post (nI ((p * 10 + q) * 10 + r))) : wpX_cell post (nI p) (nI q) (nI r) := by
  unfold wpX_cell
  rw [gv_cX]
  exact h
theorem gv_cY (p q r : Nat) (s : Bool) : ((200 * nI p + 20 * nI q) + 2 * nI r) + gv_z s = nI (200 * p + 20 * q + 2 * r + s.toNat) := by
  rw [gv_zn]
  show ((nI 200 * nI p + nI 20 * nI q) + nI 2 * nI r) + nI s.toNat = _
  rw [pk_mul, pk_mul, pk_mul, nI_add, nI_add, nI_add]
theorem gv_cellY {post : Int32 → Prop} {f : Int32} {go wo de : Nat → Int32} {p q r : Nat} {s : Bool} (h : post (nI (200 * p + 20 * q + 2 * r + s.toNat))) : wpY_cell post (f, go, wo, de) (nI p) (nI q) (nI r) (gv_z s) := by
  unfold wpY_cell
  dsimp only
  rw [gv_cY]
  exact h
/-- an int that names a position -/
def gv_h (c : Nat) (v : Int32) : Bool := decide (¬ v < 0) && decide (¬ nI c ≤ v)
theorem gv_hX {post : Int32 → Prop} {c : Nat} {kn v : Int32} {lf rg al am : Nat → Int32} (h : post (gv_z (gv_h c v))) : wpX_has post (nI c, kn, lf, rg, al, am) v := by
  unfold wpX_has
  by_cases a : v < 0
  · have e : gv_h c v = false := by unfold gv_h; rw [decide_eq_false (fun z => z a)]; rfl
    rw [e] at h
    exact br_t a h
  · by_cases b : nI c ≤ v
    · have e : gv_h c v = false := by unfold gv_h; rw [decide_eq_false (p := ¬ nI c ≤ v) (fun z => z b), Bool.and_false]
      rw [e] at h
      exact br_f a (br_t b h)
    · have e : gv_h c v = true := by unfold gv_h; rw [decide_eq_true b, decide_eq_true a]; rfl
      rw [e] at h
      exact br_f a (br_f b h)
theorem gv_hY {post : Int32 → Prop} {c : Nat} {v : Int32} {go wo de : Nat → Int32} (h : post (gv_z (gv_h c v))) : wpY_is post (nI c, go, wo, de) v := by
  unfold wpY_is
  by_cases a : v < 0
  · have e : gv_h c v = false := by unfold gv_h; rw [decide_eq_false (fun z => z a)]; rfl
    rw [e] at h
    exact br_t a h
  · by_cases b : nI c ≤ v
    · have e : gv_h c v = false := by unfold gv_h; rw [decide_eq_false (p := ¬ nI c ≤ v) (fun z => z b), Bool.and_false]
      rw [e] at h
      exact br_f a (br_t b h)
    · have e : gv_h c v = true := by unfold gv_h; rw [decide_eq_true b, decide_eq_true a]; rfl
      rw [e] at h
      exact br_f a (br_f b h)
theorem gv_h_of {c : Nat} (hc : c ≤ 10) {v : Int32} (h : gv_h c v = true) : ∃ j : Nat, j < c ∧ v = nI j := by
  unfold gv_h at h
  rw [Bool.and_eq_true, decide_eq_true_eq, decide_eq_true_eq] at h
  rcases pk_ix v (n := c) (by omega) with a | a | a
  · exact absurd a h.1
  · exact absurd a h.2
  · exact a
theorem gv_h_nI {c : Nat} (hc : c ≤ 10) {j : Nat} (hj : j < c) : gv_h c (nI j) = true := by
  unfold gv_h
  rw [Bool.and_eq_true, decide_eq_true_eq, decide_eq_true_eq]
  exact ⟨nI_pos (by omega), nI_ge hj (by omega)⟩
/-- the set S, held as an int, is P -/
def gv_S (S : Int32) (P : Nat → Prop) : Prop := ∀ i, i < 32 → (bt S i = true ↔ P i)
theorem gv_S_ext {S T : Int32} {P : Nat → Prop} (h : gv_S S P) (h' : gv_S T P) : S = T :=
  b_ext fun i hi => Bool.eq_iff_iff.mpr ((h i hi).trans (h' i hi).symm)
theorem gv_S_0 {P : Nat → Prop} (h : ∀ i, ¬ P i) : gv_S 0 P := fun i _ => ⟨fun e => by rw [b_0] at e; exact absurd e (by decide), fun e => absurd e (h i)⟩
theorem gv_S_m {S : Int32} {P Q : Nat → Prop} (h : gv_S S P) (e : ∀ i, P i ↔ Q i) : gv_S S Q := fun i hi => (h i hi).trans (e i)
theorem gv_S_add {S : Int32} {P : Nat → Prop} (h : gv_S S P) {x : Nat} (hx : x < 32) : gv_S (S ||| ((1 : Int32) <<< (nI x &&& 31))) (fun i => P i ∨ i = x) := by
  intro i hi
  rw [b_or, gv_shl x hx hi, Bool.or_eq_true, decide_eq_true_eq, h i hi]
theorem gv_S_or0 {S : Int32} {P : Nat → Prop} (h : gv_S S P) : gv_S (S ||| 0) P := by
  intro i hi
  rw [b_or, b_0, Bool.or_false]
  exact h i hi
theorem gv_nn {x : Int32} (h : ∀ i, bt x i = true → i < 31) : (0 : Int32) ≤ x := by
  rw [Int32.le_iff_toInt_le]
  have e : x.toBitVec.msb = false := by
    rw [BitVec.msb_eq_getLsbD_last]
    cases e : bt x 31
    · exact e
    · exact absurd (h 31 e) (by decide)
  rw [BitVec.msb_eq_toInt, decide_eq_false_iff_not] at e
  have e2 : x.toInt = x.toBitVec.toInt := rfl
  rw [e2, show (0 : Int32).toInt = 0 from by decide]
  omega
end
section
/-! who wins the sum of p, q and r turned over, the side s moving first (false: Left, true: Right) -/
def gv_W (M : Nat → Bool → Nat → Bool) : Nat → Nat → Nat → Nat → Bool → Bool
  | 0, _, _, _, _ => false
  | n + 1, p, q, r, s => (List.range 10).any fun x => (M p s x && !gv_W M n x q r (!s)) || ((M q s x && !gv_W M n p x r (!s)) || (M r (!s) x && !gv_W M n p q x (!s)))
def gv_V (M : Nat → Bool → Nat → Bool) (p q r : Nat) (s : Bool) : Bool := gv_W M (p + q + r + 1) p q r s
def gv_F (M : Nat → Bool → Nat → Bool) : Prop := ∀ p s x, M p s x = true → x < p ∧ p < 10
theorem gv_W_s {M : Nat → Bool → Nat → Bool} (hM : gv_F M) (n p q r : Nat) (s : Bool) : gv_W M (n + 1) p q r s = true ↔ ∃ x, (M p s x = true ∧ gv_W M n x q r (!s) = false) ∨ (M q s x = true ∧ gv_W M n p x r (!s) = false) ∨ (M r (!s) x = true ∧ gv_W M n p q x (!s) = false) := by
  rw [gv_W, List.any_eq_true]
  constructor
  · rintro ⟨x, _, h⟩
    refine ⟨x, ?_⟩
    rw [Bool.or_eq_true, Bool.or_eq_true, Bool.and_eq_true, Bool.and_eq_true, Bool.and_eq_true, Bool.not_eq_true', Bool.not_eq_true', Bool.not_eq_true'] at h
    exact h
  · rintro ⟨x, h⟩
    refine ⟨x, List.mem_range.mpr ?_, ?_⟩
    · rcases h with h | h | h
      · have := hM _ _ _ h.1; omega
      · have := hM _ _ _ h.1; omega
      · have := hM _ _ _ h.1; omega
    · rw [Bool.or_eq_true, Bool.or_eq_true, Bool.and_eq_true, Bool.and_eq_true, Bool.and_eq_true, Bool.not_eq_true', Bool.not_eq_true', Bool.not_eq_true']
      exact h
theorem gv_W_f {M : Nat → Bool → Nat → Bool} (hM : gv_F M) : ∀ (n m p q r : Nat) (s : Bool), p + q + r < n → p + q + r < m → gv_W M n p q r s = gv_W M m p q r s := by
  intro n
  induction n with
  | zero => intro m p q r s h; omega
  | succ n ih =>
    intro m p q r s hn hm
    obtain ⟨m, rfl⟩ : ∃ k, m = k + 1 := ⟨m - 1, by omega⟩
    apply Bool.eq_iff_iff.mpr
    rw [gv_W_s hM, gv_W_s hM]
    constructor
    · rintro ⟨x, ⟨a, b⟩ | ⟨a, b⟩ | ⟨a, b⟩⟩
      · have := hM _ _ _ a
        exact ⟨x, Or.inl ⟨a, (ih m x q r (!s) (by omega) (by omega)).symm.trans b⟩⟩
      · have := hM _ _ _ a
        exact ⟨x, Or.inr (Or.inl ⟨a, (ih m p x r (!s) (by omega) (by omega)).symm.trans b⟩)⟩
      · have := hM _ _ _ a
        exact ⟨x, Or.inr (Or.inr ⟨a, (ih m p q x (!s) (by omega) (by omega)).symm.trans b⟩)⟩
    · rintro ⟨x, ⟨a, b⟩ | ⟨a, b⟩ | ⟨a, b⟩⟩
      · have := hM _ _ _ a
        exact ⟨x, Or.inl ⟨a, (ih m x q r (!s) (by omega) (by omega)).trans b⟩⟩
      · have := hM _ _ _ a
        exact ⟨x, Or.inr (Or.inl ⟨a, (ih m p x r (!s) (by omega) (by omega)).trans b⟩)⟩
      · have := hM _ _ _ a
        exact ⟨x, Or.inr (Or.inr ⟨a, (ih m p q x (!s) (by omega) (by omega)).trans b⟩)⟩
theorem gv_V_s {M : Nat → Bool → Nat → Bool} (hM : gv_F M) (p q r : Nat) (s : Bool) : gv_V M p q r s = true ↔ ∃ x, (M p s x = true ∧ gv_V M x q r (!s) = false) ∨ (M q s x = true ∧ gv_V M p x r (!s) = false) ∨ (M r (!s) x = true ∧ gv_V M p q x (!s) = false) := by
  unfold gv_V
  rw [gv_W_s hM]
  constructor
  · rintro ⟨x, ⟨a, b⟩ | ⟨a, b⟩ | ⟨a, b⟩⟩
    · have := hM _ _ _ a
      exact ⟨x, Or.inl ⟨a, (gv_W_f hM _ _ x q r (!s) (by omega) (by omega)).symm.trans b⟩⟩
    · have := hM _ _ _ a
      exact ⟨x, Or.inr (Or.inl ⟨a, (gv_W_f hM _ _ p x r (!s) (by omega) (by omega)).symm.trans b⟩)⟩
    · have := hM _ _ _ a
      exact ⟨x, Or.inr (Or.inr ⟨a, (gv_W_f hM _ _ p q x (!s) (by omega) (by omega)).symm.trans b⟩)⟩
  · rintro ⟨x, ⟨a, b⟩ | ⟨a, b⟩ | ⟨a, b⟩⟩
    · have := hM _ _ _ a
      exact ⟨x, Or.inl ⟨a, (gv_W_f hM _ _ x q r (!s) (by omega) (by omega)).symm.trans b⟩⟩
    · have := hM _ _ _ a
      exact ⟨x, Or.inr (Or.inl ⟨a, (gv_W_f hM _ _ p x r (!s) (by omega) (by omega)).symm.trans b⟩)⟩
    · have := hM _ _ _ a
      exact ⟨x, Or.inr (Or.inr ⟨a, (gv_W_f hM _ _ p q x (!s) (by omega) (by omega)).symm.trans b⟩)⟩
theorem gv_sym' {M : Nat → Bool → Nat → Bool} (hM : gv_F M) : ∀ (n p q : Nat), p + q < n → gv_V M p 0 q true = gv_V M q 0 p false := by
  intro n
  induction n with
  | zero => intro p q h; omega
  | succ n ih =>
    intro p q h
    apply Bool.eq_iff_iff.mpr
    rw [gv_V_s hM, gv_V_s hM]
    constructor
    · rintro ⟨x, ⟨a, b⟩ | ⟨a, b⟩ | ⟨a, b⟩⟩
      · have := hM _ _ _ a
        exact ⟨x, Or.inr (Or.inr ⟨a, (ih q x (by omega)).trans b⟩)⟩
      · have := hM _ _ _ a
        omega
      · have := hM _ _ _ a
        exact ⟨x, Or.inl ⟨a, (ih x p (by omega)).trans b⟩⟩
    · rintro ⟨x, ⟨a, b⟩ | ⟨a, b⟩ | ⟨a, b⟩⟩
      · have := hM _ _ _ a
        exact ⟨x, Or.inr (Or.inr ⟨a, (ih x p (by omega)).symm.trans b⟩)⟩
      · have := hM _ _ _ a
        omega
      · have := hM _ _ _ a
        exact ⟨x, Or.inl ⟨a, (ih q x (by omega)).symm.trans b⟩⟩
theorem gv_sym {M : Nat → Bool → Nat → Bool} (hM : gv_F M) (p q : Nat) : gv_V M p 0 q true = gv_V M q 0 p false := gv_sym' hM (p + q + 1) p q (by omega)
theorem gv_refl' {M : Nat → Bool → Nat → Bool} (hM : gv_F M) : ∀ (n p : Nat) (s : Bool), p < n → gv_V M p 0 p s = false := by
  intro n
  induction n with
  | zero => intro p s h; omega
  | succ n ih =>
    intro p s h
    cases e : gv_V M p 0 p s
    · rfl
    · exfalso
      obtain ⟨x, ⟨a, b⟩ | ⟨a, b⟩ | ⟨a, b⟩⟩ := (gv_V_s hM _ _ _ _).mp e
      · have := hM _ _ _ a
        have k : gv_V M x 0 p (!s) = true := (gv_V_s hM _ _ _ _).mpr ⟨x, Or.inr (Or.inr ⟨by rw [Bool.not_not]; exact a, ih x _ (by omega)⟩)⟩
        rw [k] at b
        exact absurd b (by decide)
      · have := hM _ _ _ a
        omega
      · have := hM _ _ _ a
        have k : gv_V M p 0 x (!s) = true := (gv_V_s hM _ _ _ _).mpr ⟨x, Or.inl ⟨a, ih x _ (by omega)⟩⟩
        rw [k] at b
        exact absurd b (by decide)
theorem gv_refl {M : Nat → Bool → Nat → Bool} (hM : gv_F M) (p : Nat) (s : Bool) : gv_V M p 0 p s = false := gv_refl' hM (p + 1) p s (by omega)
/-! three digits -/
theorem gv_cd1 {c x p : Nat} (q r : Nat) (hc : 1 ≤ c) (h : x < p) : (x * c + q) * c + r < (p * c + q) * c + r := by
  have h1 : x * c < p * c := Nat.mul_lt_mul_of_pos_right h hc
  have h2 : (x * c + q) * c < (p * c + q) * c := Nat.mul_lt_mul_of_pos_right (by omega) hc
  omega
theorem gv_cd2 {c x q : Nat} (p r : Nat) (hc : 1 ≤ c) (h : x < q) : (p * c + x) * c + r < (p * c + q) * c + r := by
  have h2 : (p * c + x) * c < (p * c + q) * c := Nat.mul_lt_mul_of_pos_right (by omega) hc
  omega
theorem gv_dig {c p q r i : Nat} (hq : q < c) (hr : r < c) (h : (p * c + q) * c + r = i) : p = i / (c * c) ∧ q = i / c % c ∧ r = i % c := by
  subst h
  have hc : 0 < c := by omega
  have e1 : ((p * c + q) * c + r) % c = r := by
    rw [Nat.mul_comm (p * c + q) c, Nat.mul_add_mod, Nat.mod_eq_of_lt hr]
  have e2 : ((p * c + q) * c + r) / c = p * c + q := by
    rw [Nat.mul_comm (p * c + q) c, Nat.mul_add_div hc, Nat.div_eq_of_lt hr, Nat.add_zero]
  have e3 : (p * c + q) % c = q := by
    rw [Nat.mul_comm p c, Nat.mul_add_mod, Nat.mod_eq_of_lt hq]
  have e4 : (p * c + q) / c = p := by
    rw [Nat.mul_comm p c, Nat.mul_add_div hc, Nat.div_eq_of_lt hq, Nat.add_zero]
  rw [← Nat.div_div_eq_div_mul, e2, e1, e3, e4]
  exact ⟨rfl, rfl, rfl⟩
theorem gv_undig (c i : Nat) : (i / (c * c) * c + i / c % c) * c + i % c = i := by
  rw [← Nat.div_div_eq_div_mul, Nat.div_add_mod', Nat.div_add_mod']
end
section
/-! what both states hold -/
def gv_M (c : Nat) (lf rg : Nat → Int32) (p : Nat) (s : Bool) (x : Nat) : Bool := decide (p < c) && bt (cond s (rg p) (lf p)) x
/-- the positions: c of them, at most ten, every move leads to a lesser one; the reference's moves are the same -/
def gv_C (c : Nat) (lf rg go : Nat → Int32) : Prop := 1 ≤ c ∧ c ≤ 10 ∧ (∀ p, p < c → go (2 * p) = lf p ∧ go (2 * p + 1) = rg p) ∧ (∀ p x, p < c → bt (lf p) x = true → x < p) ∧ (∀ p x, p < c → bt (rg p) x = true → x < p)
/-- both tables are right below the code i -/
def gv_G (c : Nat) (lf rg : Nat → Int32) (i : Nat) (al am : Nat → Int32) : Prop := ∀ p q r, p < c → q < c → r < c → (p * c + q) * c + r < i → al ((p * 10 + q) * 10 + r) = gv_z (!gv_V (gv_M c lf rg) p q r true) ∧ am ((p * 10 + q) * 10 + r) = gv_z (!gv_V (gv_M c lf rg) p q r false)
def gv_T (c : Nat) (lf rg al am : Nat → Int32) : Prop := ∀ p q r, p < c → q < c → r < c → al ((p * 10 + q) * 10 + r) = gv_z (!gv_V (gv_M c lf rg) p q r true) ∧ am ((p * 10 + q) * 10 + r) = gv_z (!gv_V (gv_M c lf rg) p q r false)
def gv_K (c : Nat) (lf rg : Nat → Int32) (kn : Int32) (al am : Nat → Int32) : Prop := kn = 0 ∨ (kn = 1 ∧ gv_T c lf rg al am)
def gv_H (c : Nat) (lf rg : Nat → Int32) (i : Nat) (wo : Nat → Int32) : Prop := ∀ p q r s, p < c → q < c → r < c → (p * 10 + q) * 10 + r < i → wo (200 * p + 20 * q + 2 * r + Bool.toNat s) = gv_z (gv_V (gv_M c lf rg) p q r s)
def gv_U (c : Nat) (lf rg wo : Nat → Int32) : Prop := ∀ p q r s, p < c → q < c → r < c → wo (200 * p + 20 * q + 2 * r + Bool.toNat s) = gv_z (gv_V (gv_M c lf rg) p q r s)
theorem gv_M_t {c : Nat} {lf rg : Nat → Int32} {p : Nat} {s : Bool} {x : Nat} (hp : p < c) : gv_M c lf rg p s x = bt (cond s (rg p) (lf p)) x := by
  unfold gv_M
  rw [decide_eq_true hp, Bool.true_and]
theorem gv_CF {c : Nat} {lf rg go : Nat → Int32} (C : gv_C c lf rg go) : gv_F (gv_M c lf rg) := by
  intro p s x h
  have h' := h
  unfold gv_M at h'
  rw [Bool.and_eq_true, decide_eq_true_eq] at h'
  have := C.2.1
  refine ⟨?_, by omega⟩
  cases s
  · exact C.2.2.2.1 p x h'.1 h'.2
  · exact C.2.2.2.2 p x h'.1 h'.2
theorem gv_Cgo {c : Nat} {lf rg go : Nat → Int32} (C : gv_C c lf rg go) {p : Nat} (hp : p < c) (s : Bool) : go (2 * p + s.toNat) = cond s (rg p) (lf p) := by
  cases s
  · exact (C.2.2.1 p hp).1
  · exact (C.2.2.1 p hp).2
theorem gv_Cb {c : Nat} {lf rg go : Nat → Int32} (C : gv_C c lf rg go) {p x : Nat} {s : Bool} (hp : p < c) (h : bt (cond s (rg p) (lf p)) x = true) : x < p := by
  cases s
  · exact C.2.2.2.1 p x hp h
  · exact C.2.2.2.2 p x hp h
end
section
/-! staysAbove -/
section
variable {post J : Int32 → Prop} {c : Nat} {kn : Int32} {lf rg al am : Nat → Int32} {A B D : Nat → Bool}
theorem gv_a118 {x1 x2 x3 : Int32} {j : Nat} {a b d : Bool} (hx : (a || (b || d)) = true → post 0) (hJ : (a || (b || d)) = false → J (nI (j + 1))) : wX_staysAbove_118 post J x1 x2 x3 (nI j) (gv_z a) (gv_z b) (gv_z d) (nI c) kn lf rg al am := by
  unfold wX_staysAbove_118
  refine gv_bz (fun ea => gv_bz (fun eb => gv_bz (fun ed => nm_r (nI_1 j) (hJ ?_)) (fun ed => hx ?_)) (fun eb => hx ?_)) (fun ea => hx ?_)
  · rw [ea, eb, ed]; rfl
  · rw [ea, eb, ed]; rfl
  · rw [ea, eb]; rfl
  · rw [ea]; rfl
theorem gv_a82 {p q r j : Nat} {a b : Bool} (hc : c ≤ 10) (hp : p < c) (hq : q < c) (hr : r < c) (hj : j < c)
    (h3 : bt (lf r) j = true → am ((p * 10 + q) * 10 + j) = gv_z (D j))
    (h : wX_staysAbove_118 post J (nI p) (nI q) (nI r) (nI j) (gv_z a) (gv_z b) (gv_z (bt (lf r) j && D j)) (nI c) kn lf rg al am) : wX_staysAbove_82 post J (nI p) (nI q) (nI r) (nI j) (gv_z a) (gv_z b) (nI c) kn lf rg al am := by
  unfold wX_staysAbove_82
  refine ⟨vp_in_nI (by omega) (by omega), ?_⟩
  rw [nI_clamp (n := r) (by omega)]
  refine gv_inX (by omega) (gv_bz (fun e => ?_) (fun e => gv_cellX ⟨vp_in_nI (by omega) (by omega), gv_bx (b := D j) ?_ (fun e2 => ?_) (fun e2 => ?_)⟩))
  · rw [e] at h; exact h
  · rw [nI_clamp (by omega)]; exact h3 e
  · rw [e, e2] at h; exact h
  · rw [e, e2] at h; exact h
theorem gv_a46 {p q r j : Nat} {a : Bool} (hc : c ≤ 10) (hp : p < c) (hq : q < c) (hr : r < c) (hj : j < c)
    (h2 : bt (rg q) j = true → am ((p * 10 + j) * 10 + r) = gv_z (B j))
    (h : wX_staysAbove_82 post J (nI p) (nI q) (nI r) (nI j) (gv_z a) (gv_z (bt (rg q) j && B j)) (nI c) kn lf rg al am) : wX_staysAbove_46 post J (nI p) (nI q) (nI r) (nI j) (gv_z a) (nI c) kn lf rg al am := by
  unfold wX_staysAbove_46
  refine ⟨vp_in_nI (by omega) (by omega), ?_⟩
  rw [nI_clamp (n := q) (by omega)]
  refine gv_inX (by omega) (gv_bz (fun e => ?_) (fun e => gv_cellX ⟨vp_in_nI (by omega) (by omega), gv_bx (b := B j) ?_ (fun e2 => ?_) (fun e2 => ?_)⟩))
  · rw [e] at h; exact h
  · rw [nI_clamp (by omega)]; exact h2 e
  · rw [e, e2] at h; exact h
  · rw [e, e2] at h; exact h
theorem gv_a3 {p q r : Nat} (hc : c ≤ 10) (hp : p < c) (hq : q < c) (hr : r < c)
    (h1 : ∀ x, x < c → bt (rg p) x = true → am ((x * 10 + q) * 10 + r) = gv_z (A x))
    (h2 : ∀ x, x < c → bt (rg q) x = true → am ((p * 10 + x) * 10 + r) = gv_z (B x))
    (h3 : ∀ x, x < c → bt (lf r) x = true → am ((p * 10 + q) * 10 + x) = gv_z (D x))
    {v : Bool} (hv : v = false ↔ ∃ x, x < c ∧ ((bt (rg p) x && A x) || ((bt (rg q) x && B x) || (bt (lf r) x && D x))) = true) (hpost : post (gv_z v)) :
    ∀ n j, j ≤ c → c - j < n → (∀ x, x < j → ((bt (rg p) x && A x) || ((bt (rg q) x && B x) || (bt (lf r) x && D x))) = false) → wX_staysAbove_3 post (nI p) (nI q) (nI r) (nI c) kn lf rg al am n (nI j) := by
  intro n
  induction n with
  | zero => intro j _ h; omega
  | succ n ih =>
    intro j hj hn hno
    by_cases e : j = c
    · subst e
      have hv1 : v = true := by
        cases e : v
        · obtain ⟨x, hx, hh⟩ := hv.mp e
          rw [hno x hx] at hh
          exact absurd hh (by decide)
        · rfl
      rw [hv1] at hpost
      exact br_t (nI_le (Nat.le_refl _) (by omega)) hpost
    · refine br_f (nI_ge (by omega) (by omega)) ⟨vp_in_nI (by omega) (by omega), ?_⟩
      rw [nI_clamp (n := p) (by omega)]
      have key : wX_staysAbove_46 post (wX_staysAbove_3 post (nI p) (nI q) (nI r) (nI c) kn lf rg al am n) (nI p) (nI q) (nI r) (nI j) (gv_z (bt (rg p) j && A j)) (nI c) kn lf rg al am := by
        refine gv_a46 hc hp hq hr (by omega) (h2 j (by omega)) (gv_a82 hc hp hq hr (by omega) (h3 j (by omega)) (gv_a118 (fun hh => ?_) (fun hh => ?_)))
        · have hv0 : v = false := hv.mpr ⟨j, by omega, hh⟩
          rw [hv0] at hpost
          exact hpost
        · refine ih (j + 1) (by omega) (by omega) (fun x hx => ?_)
          by_cases ex : x = j
          · subst ex; exact hh
          · exact hno x (by omega)
      refine gv_inX (by omega) (gv_bz (fun e => ?_) (fun e => gv_cellX ⟨vp_in_nI (by omega) (by omega), gv_bx (b := A j) ?_ (fun e2 => ?_) (fun e2 => ?_)⟩))
      · rw [e] at key; exact key
      · rw [nI_clamp (by omega)]; exact h1 j (by omega) e
      · rw [e, e2] at key; exact key
      · rw [e, e2] at key; exact key
/-- the method, over tables that are right below the code of p, q, r -/
theorem gv_am {go : Nat → Int32} {i p q r : Nat} (C : gv_C c lf rg go) (hp : p < c) (hq : q < c) (hr : r < c) (hi : (p * c + q) * c + r = i) (G : gv_G c lf rg i al am) (hpost : post (gv_z (!gv_V (gv_M c lf rg) p q r true))) : wpX_staysAbove post (nI c, kn, lf, rg, al, am) (nI p) (nI q) (nI r) := by
  have hc := C.2.1
  have hc1 := C.1
  refine ⟨c + 1, gv_a3 (A := fun x => !gv_V (gv_M c lf rg) x q r false) (B := fun x => !gv_V (gv_M c lf rg) p x r false) (D := fun x => !gv_V (gv_M c lf rg) p q x false) hc hp hq hr (fun x hx hb => ?_) (fun x hx hb => ?_) (fun x hx hb => ?_) ?_ hpost (c + 1) 0 (by omega) (by omega) (fun x hx => absurd hx (by omega))⟩
  · have := gv_Cb (s := true) C hp hb
    exact (G x q r (by omega) hq hr (by have := gv_cd1 q r hc1 this; omega)).2
  · have := gv_Cb (s := true) C hq hb
    exact (G p x r hp (by omega) hr (by have := gv_cd2 p r hc1 this; omega)).2
  · have := gv_Cb (s := false) C hr hb
    exact (G p q x hp hq (by omega) (by omega)).2
  · show (!gv_V (gv_M c lf rg) p q r true) = false ↔ ∃ x, x < c ∧ ((bt (rg p) x && !gv_V (gv_M c lf rg) x q r false) || ((bt (rg q) x && !gv_V (gv_M c lf rg) p x r false) || (bt (lf r) x && !gv_V (gv_M c lf rg) p q x false))) = true
    rw [Bool.not_eq_false', gv_V_s (gv_CF C)]
    constructor
    · rintro ⟨x, ⟨a, b⟩ | ⟨a, b⟩ | ⟨a, b⟩⟩
      · have := (gv_CF C) _ _ _ a
        rw [gv_M_t hp] at a
        refine ⟨x, by omega, ?_⟩
        have b' : gv_V (gv_M c lf rg) x q r false = false := b
        have a' : bt (rg p) x = true := a
        rw [a', b']; rfl
      · have := (gv_CF C) _ _ _ a
        rw [gv_M_t hq] at a
        refine ⟨x, by omega, ?_⟩
        have b' : gv_V (gv_M c lf rg) p x r false = false := b
        have a' : bt (rg q) x = true := a
        rw [a', b', Bool.not_false, Bool.and_true, Bool.true_or, Bool.or_true]
      · have := (gv_CF C) _ _ _ a
        rw [gv_M_t hr] at a
        refine ⟨x, by omega, ?_⟩
        have b' : gv_V (gv_M c lf rg) p q x false = false := b
        have a' : bt (lf r) x = true := a
        rw [a', b', Bool.not_false, Bool.and_true, Bool.or_true, Bool.or_true]
    · rintro ⟨x, hx, h⟩
      rw [Bool.or_eq_true, Bool.or_eq_true, Bool.and_eq_true, Bool.and_eq_true, Bool.and_eq_true, Bool.not_eq_true', Bool.not_eq_true', Bool.not_eq_true'] at h
      refine ⟨x, ?_⟩
      rw [gv_M_t hp, gv_M_t hq, gv_M_t hr]
      exact h
end
/-! staysBelow -/
section
variable {post J : Int32 → Prop} {c : Nat} {kn : Int32} {lf rg al am : Nat → Int32} {A B D : Nat → Bool}
theorem gv_b_118 {x1 x2 x3 : Int32} {j : Nat} {a b d : Bool} (hx : (a || (b || d)) = true → post 0) (hJ : (a || (b || d)) = false → J (nI (j + 1))) : wX_staysBelow_118 post J x1 x2 x3 (nI j) (gv_z a) (gv_z b) (gv_z d) (nI c) kn lf rg al am := by
  unfold wX_staysBelow_118
  refine gv_bz (fun ea => gv_bz (fun eb => gv_bz (fun ed => nm_r (nI_1 j) (hJ ?_)) (fun ed => hx ?_)) (fun eb => hx ?_)) (fun ea => hx ?_)
  · rw [ea, eb, ed]; rfl
  · rw [ea, eb, ed]; rfl
  · rw [ea, eb]; rfl
  · rw [ea]; rfl
theorem gv_b_82 {p q r j : Nat} {a b : Bool} (hc : c ≤ 10) (hp : p < c) (hq : q < c) (hr : r < c) (hj : j < c)
    (h3 : bt (rg r) j = true → al ((p * 10 + q) * 10 + j) = gv_z (D j))
    (h : wX_staysBelow_118 post J (nI p) (nI q) (nI r) (nI j) (gv_z a) (gv_z b) (gv_z (bt (rg r) j && D j)) (nI c) kn lf rg al am) : wX_staysBelow_82 post J (nI p) (nI q) (nI r) (nI j) (gv_z a) (gv_z b) (nI c) kn lf rg al am := by
  unfold wX_staysBelow_82
  refine ⟨vp_in_nI (by omega) (by omega), ?_⟩
  rw [nI_clamp (n := r) (by omega)]
  refine gv_inX (by omega) (gv_bz (fun e => ?_) (fun e => gv_cellX ⟨vp_in_nI (by omega) (by omega), gv_bx (b := D j) ?_ (fun e2 => ?_) (fun e2 => ?_)⟩))
  · rw [e] at h; exact h
  · rw [nI_clamp (by omega)]; exact h3 e
  · rw [e, e2] at h; exact h
  · rw [e, e2] at h; exact h
theorem gv_b_46 {p q r j : Nat} {a : Bool} (hc : c ≤ 10) (hp : p < c) (hq : q < c) (hr : r < c) (hj : j < c)
    (h2 : bt (lf q) j = true → al ((p * 10 + j) * 10 + r) = gv_z (B j))
    (h : wX_staysBelow_82 post J (nI p) (nI q) (nI r) (nI j) (gv_z a) (gv_z (bt (lf q) j && B j)) (nI c) kn lf rg al am) : wX_staysBelow_46 post J (nI p) (nI q) (nI r) (nI j) (gv_z a) (nI c) kn lf rg al am := by
  unfold wX_staysBelow_46
  refine ⟨vp_in_nI (by omega) (by omega), ?_⟩
  rw [nI_clamp (n := q) (by omega)]
  refine gv_inX (by omega) (gv_bz (fun e => ?_) (fun e => gv_cellX ⟨vp_in_nI (by omega) (by omega), gv_bx (b := B j) ?_ (fun e2 => ?_) (fun e2 => ?_)⟩))
  · rw [e] at h; exact h
  · rw [nI_clamp (by omega)]; exact h2 e
  · rw [e, e2] at h; exact h
  · rw [e, e2] at h; exact h
theorem gv_b_3 {p q r : Nat} (hc : c ≤ 10) (hp : p < c) (hq : q < c) (hr : r < c)
    (h1 : ∀ x, x < c → bt (lf p) x = true → al ((x * 10 + q) * 10 + r) = gv_z (A x))
    (h2 : ∀ x, x < c → bt (lf q) x = true → al ((p * 10 + x) * 10 + r) = gv_z (B x))
    (h3 : ∀ x, x < c → bt (rg r) x = true → al ((p * 10 + q) * 10 + x) = gv_z (D x))
    {v : Bool} (hv : v = false ↔ ∃ x, x < c ∧ ((bt (lf p) x && A x) || ((bt (lf q) x && B x) || (bt (rg r) x && D x))) = true) (hpost : post (gv_z v)) :
    ∀ n j, j ≤ c → c - j < n → (∀ x, x < j → ((bt (lf p) x && A x) || ((bt (lf q) x && B x) || (bt (rg r) x && D x))) = false) → wX_staysBelow_3 post (nI p) (nI q) (nI r) (nI c) kn lf rg al am n (nI j) := by
  intro n
  induction n with
  | zero => intro j _ h; omega
  | succ n ih =>
    intro j hj hn hno
    by_cases e : j = c
    · subst e
      have hv1 : v = true := by
        cases e : v
        · obtain ⟨x, hx, hh⟩ := hv.mp e
          rw [hno x hx] at hh
          exact absurd hh (by decide)
        · rfl
      rw [hv1] at hpost
      exact br_t (nI_le (Nat.le_refl _) (by omega)) hpost
    · refine br_f (nI_ge (by omega) (by omega)) ⟨vp_in_nI (by omega) (by omega), ?_⟩
      rw [nI_clamp (n := p) (by omega)]
      have key : wX_staysBelow_46 post (wX_staysBelow_3 post (nI p) (nI q) (nI r) (nI c) kn lf rg al am n) (nI p) (nI q) (nI r) (nI j) (gv_z (bt (lf p) j && A j)) (nI c) kn lf rg al am := by
        refine gv_b_46 hc hp hq hr (by omega) (h2 j (by omega)) (gv_b_82 hc hp hq hr (by omega) (h3 j (by omega)) (gv_b_118 (fun hh => ?_) (fun hh => ?_)))
        · have hv0 : v = false := hv.mpr ⟨j, by omega, hh⟩
          rw [hv0] at hpost
          exact hpost
        · refine ih (j + 1) (by omega) (by omega) (fun x hx => ?_)
          by_cases ex : x = j
          · subst ex; exact hh
          · exact hno x (by omega)
      refine gv_inX (by omega) (gv_bz (fun e => ?_) (fun e => gv_cellX ⟨vp_in_nI (by omega) (by omega), gv_bx (b := A j) ?_ (fun e2 => ?_) (fun e2 => ?_)⟩))
      · rw [e] at key; exact key
      · rw [nI_clamp (by omega)]; exact h1 j (by omega) e
      · rw [e, e2] at key; exact key
      · rw [e, e2] at key; exact key
/-- the method, over tables that are right below the code of p, q, r -/
theorem gv_b_m {go : Nat → Int32} {i p q r : Nat} (C : gv_C c lf rg go) (hp : p < c) (hq : q < c) (hr : r < c) (hi : (p * c + q) * c + r = i) (G : gv_G c lf rg i al am) (hpost : post (gv_z (!gv_V (gv_M c lf rg) p q r false))) : wpX_staysBelow post (nI c, kn, lf, rg, al, am) (nI p) (nI q) (nI r) := by
  have hc := C.2.1
  have hc1 := C.1
  refine ⟨c + 1, gv_b_3 (A := fun x => !gv_V (gv_M c lf rg) x q r true) (B := fun x => !gv_V (gv_M c lf rg) p x r true) (D := fun x => !gv_V (gv_M c lf rg) p q x true) hc hp hq hr (fun x hx hb => ?_) (fun x hx hb => ?_) (fun x hx hb => ?_) ?_ hpost (c + 1) 0 (by omega) (by omega) (fun x hx => absurd hx (by omega))⟩
  · have := gv_Cb (s := false) C hp hb
    exact (G x q r (by omega) hq hr (by have := gv_cd1 q r hc1 this; omega)).1
  · have := gv_Cb (s := false) C hq hb
    exact (G p x r hp (by omega) hr (by have := gv_cd2 p r hc1 this; omega)).1
  · have := gv_Cb (s := true) C hr hb
    exact (G p q x hp hq (by omega) (by omega)).1
  · show (!gv_V (gv_M c lf rg) p q r false) = false ↔ ∃ x, x < c ∧ ((bt (lf p) x && !gv_V (gv_M c lf rg) x q r true) || ((bt (lf q) x && !gv_V (gv_M c lf rg) p x r true) || (bt (rg r) x && !gv_V (gv_M c lf rg) p q x true))) = true
    rw [Bool.not_eq_false', gv_V_s (gv_CF C)]
    constructor
    · rintro ⟨x, ⟨a, b⟩ | ⟨a, b⟩ | ⟨a, b⟩⟩
      · have := (gv_CF C) _ _ _ a
        rw [gv_M_t hp] at a
        refine ⟨x, by omega, ?_⟩
        have b' : gv_V (gv_M c lf rg) x q r true = false := b
        have a' : bt (lf p) x = true := a
        rw [a', b']; rfl
      · have := (gv_CF C) _ _ _ a
        rw [gv_M_t hq] at a
        refine ⟨x, by omega, ?_⟩
        have b' : gv_V (gv_M c lf rg) p x r true = false := b
        have a' : bt (lf q) x = true := a
        rw [a', b', Bool.not_false, Bool.and_true, Bool.true_or, Bool.or_true]
      · have := (gv_CF C) _ _ _ a
        rw [gv_M_t hr] at a
        refine ⟨x, by omega, ?_⟩
        have b' : gv_V (gv_M c lf rg) p q x true = false := b
        have a' : bt (rg r) x = true := a
        rw [a', b', Bool.not_false, Bool.and_true, Bool.or_true, Bool.or_true]
    · rintro ⟨x, hx, h⟩
      rw [Bool.or_eq_true, Bool.or_eq_true, Bool.and_eq_true, Bool.and_eq_true, Bool.and_eq_true, Bool.not_eq_true', Bool.not_eq_true', Bool.not_eq_true'] at h
      refine ⟨x, ?_⟩
      rw [gv_M_t hp, gv_M_t hq, gv_M_t hr]
      exact h
end
end
section
/-! the component's tables -/
theorem gv_cdlt {c p q r : Nat} (hp : p < c) (hq : q < c) (hr : r < c) : (p * c + q) * c + r < c * c * c := by
  have h1 : (p + 1) * c ≤ c * c := Nat.mul_le_mul_right c hp
  have h1' : (p + 1) * c = p * c + c := Nat.succ_mul p c
  have h2 : (p * c + q + 1) * c ≤ c * c * c := Nat.mul_le_mul_right c (by omega)
  have h2' : (p * c + q + 1) * c = (p * c + q) * c + c := Nat.succ_mul (p * c + q) c
  omega
theorem gv_c3 {c : Nat} (hc : c ≤ 10) : c * c ≤ 100 ∧ c * c * c ≤ 1000 := by
  have h1 : c * c ≤ 10 * 10 := Nat.mul_le_mul hc hc
  have h2 : c * c * c ≤ 100 * 10 := Nat.mul_le_mul h1 hc
  omega
section
variable {c : Nat} {kn : Int32} {lf rg al am go : Nat → Int32}
theorem gv_G_al {i p q r : Nat} {x : Int32} (hc : c ≤ 10) (hp : p < c) (hq : q < c) (hr : r < c) (hi : (p * c + q) * c + r = i) (G : gv_G c lf rg i al am) : gv_G c lf rg i (upd al ((p * 10 + q) * 10 + r) x) am := by
  intro p' q' r' hp' hq' hr' h
  have hne : (p' * 10 + q') * 10 + r' ≠ (p * 10 + q) * 10 + r := by
    intro e
    have e1 : p' = p := by omega
    have e2 : q' = q := by omega
    have e3 : r' = r := by omega
    subst e1 e2 e3
    omega
  rw [pk_un hne]
  exact G p' q' r' hp' hq' hr' h
theorem gv_G_s {i p q r : Nat} (hc : c ≤ 10) (hp : p < c) (hq : q < c) (hr : r < c) (hi : (p * c + q) * c + r = i) (G : gv_G c lf rg i al am) : gv_G c lf rg (i + 1) (upd al ((p * 10 + q) * 10 + r) (gv_z (!gv_V (gv_M c lf rg) p q r true))) (upd am ((p * 10 + q) * 10 + r) (gv_z (!gv_V (gv_M c lf rg) p q r false))) := by
  intro p' q' r' hp' hq' hr' h
  by_cases e : (p' * c + q') * c + r' = i
  · have d := gv_dig hq' hr' e
    have d' := gv_dig hq hr hi
    have e1 : p' = p := d.1.trans d'.1.symm
    have e2 : q' = q := d.2.1.trans d'.2.1.symm
    have e3 : r' = r := d.2.2.trans d'.2.2.symm
    subst e1 e2 e3
    rw [pk_us, pk_us]
    exact ⟨rfl, rfl⟩
  · have hne : (p' * 10 + q') * 10 + r' ≠ (p * 10 + q) * 10 + r := by
      intro e'
      have e1 : p' = p := by omega
      have e2 : q' = q := by omega
      have e3 : r' = r := by omega
      subst e1 e2 e3
      exact e hi
    rw [pk_un hne, pk_un hne]
    exact G p' q' r' hp' hq' hr' (by omega)
theorem gv_learn' {post : SX → Prop} (C : gv_C c lf rg go) (hpost : ∀ al am, gv_T c lf rg al am → post (nI c, 1, lf, rg, al, am)) :
    ∀ n i al am, i ≤ c * c * c → c * c * c - i < n → gv_G c lf rg i al am → wX_learn_15 post (nI c) 1 n (nI i) lf rg al am := by
  have hc := C.2.1
  have hc1 := C.1
  have hcc := gv_c3 hc
  have hp2 : 0 < c * c := Nat.mul_pos hc1 hc1
  intro n
  induction n with
  | zero => intro i al am _ h; omega
  | succ n ih =>
    intro i al am hi hn G
    have e3 : nI c * nI c * nI c = nI (c * c * c) := by rw [pk_mul, pk_mul]
    by_cases e : i = c * c * c
    · refine br_t ?_ (hpost al am fun p q r hp hq hr => G p q r hp hq hr (by have := gv_cdlt hp hq hr; omega))
      rw [e3, e]
      exact nI_le (Nat.le_refl _) (by omega)
    · have hlt : i < c * c * c := by omega
      have hcode := gv_undig c i
      have hp : i / (c * c) < c := Nat.div_lt_of_lt_mul hlt
      have hq : i / c % c < c := Nat.mod_lt _ hc1
      have hr : i % c < c := Nat.mod_lt _ hc1
      have d1 : nI i / (nI c * nI c) = nI (i / (c * c)) := by rw [pk_mul, pk_div (by omega) hp2 (by omega)]
      have hic : i / c ≤ i := Nat.div_le_self _ _
      have d2 : nI i / nI c - nI i / nI c / nI c * nI c = nI (i / c % c) := by rw [pk_div (a := i) (by omega) hc1 (by omega), pk_rem (by omega) hc1 (by omega)]
      have d3 : nI i - nI i / nI c * nI c = nI (i % c) := pk_rem (by omega) hc1 (by omega)
      have z1 : ¬ nI c = 0 := nI_ne0 hc1 (by omega)
      have z2 : ¬ nI c * nI c = 0 := by rw [pk_mul]; exact nI_ne0 hp2 (by omega)
      have z3 : ¬ nI c * nI c * nI c ≤ nI i := by rw [e3]; exact nI_ge hlt (by omega)
      revert hcode hp hq hr d1 d2 d3
      generalize i / (c * c) = p
      generalize i / c % c = q
      generalize i % c = r
      intro hcode hp hq hr d1 d2 d3
      refine br_f z3 ⟨z2, nm_r d1 ⟨z1, z1, nm_r d2 ⟨z1, nm_r d3 (gv_cellX (gv_am C hp hq hr hcode G ⟨vp_in_nI (by omega) (by omega), nm_r (e' := upd al ((p * 10 + q) * 10 + r) (gv_z (!gv_V (gv_M c lf rg) p q r true))) ?_ (gv_b_m C hp hq hr hcode (gv_G_al hc hp hq hr hcode G) ⟨vp_in_nI (by omega) (by omega), nm_r (e' := upd am ((p * 10 + q) * 10 + r) (gv_z (!gv_V (gv_M c lf rg) p q r false))) ?_ (nm_r (nI_1 i) (ih (i + 1) _ _ (by omega) (by omega) (gv_G_s hc hp hq hr hcode G)))⟩)⟩))⟩⟩⟩
      · rw [nI_clamp (by omega), gv_narz]
      · rw [nI_clamp (by omega), gv_narz]
theorem gv_learn {post : SX → Prop} (C : gv_C c lf rg go) (K : gv_K c lf rg kn al am) (hpost : ∀ al am, gv_T c lf rg al am → post (nI c, 1, lf, rg, al, am)) : wpX_learn post (nI c, kn, lf, rg, al, am) := by
  rcases K with rfl | ⟨rfl, T⟩
  · exact br_t rfl ⟨c * c * c + 1, gv_learn' C hpost (c * c * c + 1) 0 al am (by omega) (by omega) (fun p q r _ _ _ h => absurd h (by omega))⟩
  · exact br_f (by decide) (hpost al am T)
end
end
section
/-! the reference's table -/
section
variable {c : Nat} {lf rg go wo de : Nat → Int32} {A B D : Nat → Bool}
def gv_hit (x5 x6 x7 : Int32) (A B D : Nat → Bool) (x : Nat) : Bool := (bt x5 x && !A x) || ((bt x6 x && !B x) || (bt x7 x && !D x))
theorem gv_hit1 {x5 x6 x7 : Int32} {A B D : Nat → Bool} {x : Nat} (a : bt x5 x = true) (b : A x = false) : gv_hit x5 x6 x7 A B D x = true := by unfold gv_hit; rw [a, b]; rfl
theorem gv_hit2 {x5 x6 x7 : Int32} {A B D : Nat → Bool} {x : Nat} (a : bt x6 x = true) (b : B x = false) : gv_hit x5 x6 x7 A B D x = true := by unfold gv_hit; rw [a, b, Bool.not_false, Bool.and_true, Bool.true_or, Bool.or_true]
theorem gv_hit3 {x5 x6 x7 : Int32} {A B D : Nat → Bool} {x : Nat} (a : bt x7 x = true) (b : D x = false) : gv_hit x5 x6 x7 A B D x = true := by unfold gv_hit; rw [a, b, Bool.not_false, Bool.and_true, Bool.or_true, Bool.or_true]
theorem gv_hit0 {x5 x6 x7 : Int32} {A B D : Nat → Bool} {x : Nat} (a : (bt x5 x && !A x) = false) (b : (bt x6 x && !B x) = false) (d : (bt x7 x && !D x) = false) : gv_hit x5 x6 x7 A B D x = false := by unfold gv_hit; rw [a, b, d]; rfl
theorem gv_and0 {a b : Bool} (h : a = false) : (a && !b) = false := by rw [h]; rfl
theorem gv_and1 {a b : Bool} (h : b = true) : (a && !b) = false := by rw [h]; cases a <;> rfl
theorem gv_w121 {post : Int32 → Prop} {J : Int32 → Int32 → Prop} {x5 x6 x7 : Int32} {a b d j : Nat} {s : Bool} (ha : a < 10) (hb : b < 10) (hd : d < 10) (hj : j < 10)
    (e1 : (bt x5 j && !A j) = false) (e2 : (bt x6 j && !B j) = false)
    (h3 : bt x7 j = true → wo (200 * a + 20 * b + 2 * j + (!s).toNat) = gv_z (D j))
    (hJ : J (gv_z (gv_hit x5 x6 x7 A B D j)) (nI (j + 1))) :
    wY_canWin_121 post J (nI a) (nI b) (nI d) (gv_z s) x5 x6 x7 (nI j) (nI c) go wo de := by
  have hs := gv_toNat (!s)
  unfold wY_canWin_121
  rw [gv_z1m]
  refine gv_by (by omega) (fun e => gv_cellY ⟨vp_in_nI (by omega) (by omega), gv_bx (b := D j) ?_ (fun k => nm_r (nI_1 j) ?_) (fun k => nm_r (nI_1 j) ?_)⟩) (fun e => nm_r (nI_1 j) ?_)
  · rw [nI_clamp (by omega)]; exact h3 e
  · rw [gv_hit3 e k] at hJ; exact hJ
  · rw [gv_hit0 e1 e2 (gv_and1 k)] at hJ; exact hJ
  · rw [gv_hit0 e1 e2 (gv_and0 e)] at hJ; exact hJ
theorem gv_w90 {post : Int32 → Prop} {J : Int32 → Int32 → Prop} {x5 x6 x7 : Int32} {a b d j : Nat} {s : Bool} (ha : a < 10) (hb : b < 10) (hd : d < 10) (hj : j < 10)
    (e1 : (bt x5 j && !A j) = false)
    (h2 : bt x6 j = true → wo (200 * a + 20 * j + 2 * d + (!s).toNat) = gv_z (B j))
    (h3 : bt x7 j = true → wo (200 * a + 20 * b + 2 * j + (!s).toNat) = gv_z (D j))
    (hJ : J (gv_z (gv_hit x5 x6 x7 A B D j)) (nI (j + 1))) :
    wY_canWin_90 post J (nI a) (nI b) (nI d) (gv_z s) x5 x6 x7 (nI j) (nI c) go wo de := by
  have hs := gv_toNat (!s)
  unfold wY_canWin_90
  rw [gv_z1m]
  refine gv_by (by omega) (fun e => gv_cellY ⟨vp_in_nI (by omega) (by omega), gv_bx (b := B j) ?_ (fun k => nm_r (nI_1 j) ?_) (fun k => gv_w121 ha hb hd hj e1 (gv_and1 k) h3 hJ)⟩) (fun e => gv_w121 ha hb hd hj e1 (gv_and0 e) h3 hJ)
  · rw [nI_clamp (by omega)]; exact h2 e
  · rw [gv_hit2 e k] at hJ; exact hJ
theorem gv_w47 {post : Int32 → Prop} {x5 x6 x7 : Int32} {a b d : Nat} {s : Bool} (ha : a < 10) (hb : b < 10) (hd : d < 10)
    (h1 : ∀ x, x < 10 → bt x5 x = true → wo (200 * x + 20 * b + 2 * d + (!s).toNat) = gv_z (A x))
    (h2 : ∀ x, x < 10 → bt x6 x = true → wo (200 * a + 20 * x + 2 * d + (!s).toNat) = gv_z (B x))
    (h3 : ∀ x, x < 10 → bt x7 x = true → wo (200 * a + 20 * b + 2 * x + (!s).toNat) = gv_z (D x))
    (hpost : ∀ v, (v = true ↔ ∃ x, x < 10 ∧ gv_hit x5 x6 x7 A B D x = true) → post (gv_z v)) :
    ∀ n j f, j ≤ 10 → 10 - j < n → (f = true ↔ ∃ x, x < j ∧ gv_hit x5 x6 x7 A B D x = true) → wY_canWin_47 post (nI a) (nI b) (nI d) (gv_z s) x5 x6 x7 (nI c) go wo de n (gv_z f) (nI j) := by
  have hs := gv_toNat (!s)
  intro n
  induction n with
  | zero => intro j f _ h; omega
  | succ n ih =>
    intro j f hj hn hf
    by_cases e : j = 10
    · subst e
      exact br_t (nI_le (a := 10) (b := 10) (by omega) (by omega)) ⟨gv_nz f, hpost f hf⟩
    · have hj' : j < 10 := by omega
      refine br_f (nI_ge (a := j) (b := 10) hj' (by omega)) (gv_bz (fun ef => ?_) (fun ef => nm_r (nI_1 j) ?_))
      · have hno : ∀ x, x < j → gv_hit x5 x6 x7 A B D x = false := by
          intro x hx
          cases k : gv_hit x5 x6 x7 A B D x
          · rfl
          · rw [hf.mpr ⟨x, hx, k⟩] at ef
            exact absurd ef (by decide)
        have hJ : wY_canWin_47 post (nI a) (nI b) (nI d) (gv_z s) x5 x6 x7 (nI c) go wo de n (gv_z (gv_hit x5 x6 x7 A B D j)) (nI (j + 1)) := by
          refine ih (j + 1) _ (by omega) (by omega) ⟨fun k => ⟨j, by omega, k⟩, fun ⟨x, hx, k⟩ => ?_⟩
          by_cases ex : x = j
          · subst ex; exact k
          · rw [hno x (by omega)] at k
            exact absurd k (by decide)
        rw [gv_z1m]
        refine gv_by (by omega) (fun e => gv_cellY ⟨vp_in_nI (by omega) (by omega), gv_bx (b := A j) ?_ (fun k => nm_r (nI_1 j) ?_) (fun k => gv_w90 ha hb hd hj' (gv_and1 k) (h2 j hj') (h3 j hj') hJ)⟩) (fun e => gv_w90 ha hb hd hj' (gv_and0 e) (h2 j hj') (h3 j hj') hJ)
        · rw [nI_clamp (by omega)]; exact h1 j hj' e
        · rw [gv_hit1 e k] at hJ; exact hJ
      · refine ih (j + 1) true (by omega) (by omega) ⟨fun _ => ?_, fun _ => rfl⟩
        obtain ⟨x, hx, k⟩ := hf.mp ef
        exact ⟨x, by omega, k⟩
theorem gv_i2 (p : Nat) (s : Bool) : 2 * nI p + gv_z s = nI (2 * p + s.toNat) := by
  rw [gv_zn]
  show nI 2 * nI p + nI s.toNat = _
  rw [pk_mul, nI_add]
theorem gv_i2' (p : Nat) (s : Bool) : 2 * nI p + 1 - gv_z s = nI (2 * p + (!s).toNat) := by
  have e : 2 * nI p + 1 = nI (2 * p + 1) := by
    show nI 2 * nI p + nI 1 = _
    rw [pk_mul, nI_add]
  rw [e]
  cases s
  · exact Int32.sub_zero _
  · exact nI_pred (2 * p)
theorem gv_canw {post : Int32 → Prop} {i p q r : Nat} (s : Bool) (C : gv_C c lf rg go) (hp : p < c) (hq : q < c) (hr : r < c) (hi : (p * 10 + q) * 10 + r = i) (H : gv_H c lf rg i wo) (hpost : post (gv_z (gv_V (gv_M c lf rg) p q r s))) : wpY_canWin post (nI c, go, wo, de) (nI p) (nI q) (nI r) (gv_z s) := by
  have hc := C.2.1
  have hs := gv_toNat s
  have hs' := gv_toNat (!s)
  unfold wpY_canWin
  dsimp only
  rw [gv_i2, gv_i2, gv_i2']
  refine ⟨vp_in_nI (by omega) (by omega), nm_r (e' := cond s (rg p) (lf p)) ?_ ⟨vp_in_nI (by omega) (by omega), nm_r (e' := cond s (rg q) (lf q)) ?_ ⟨vp_in_nI (by omega) (by omega), nm_r (e' := cond (!s) (rg r) (lf r)) ?_ ⟨11, gv_w47 (A := fun x => gv_V (gv_M c lf rg) x q r (!s)) (B := fun x => gv_V (gv_M c lf rg) p x r (!s)) (D := fun x => gv_V (gv_M c lf rg) p q x (!s)) (by omega) (by omega) (by omega) (fun x hx hb => ?_) (fun x hx hb => ?_) (fun x hx hb => ?_) (fun v hv => ?_) 11 0 false (by omega) (by omega) ⟨fun k => absurd k (by decide), fun ⟨x, hx, _⟩ => absurd hx (by omega)⟩⟩⟩⟩⟩
  · rw [nI_clamp (by omega)]; exact gv_Cgo C hp s
  · rw [nI_clamp (by omega)]; exact gv_Cgo C hq s
  · rw [nI_clamp (by omega)]; exact gv_Cgo C hr (!s)
  · have := gv_Cb C hp hb
    exact H x q r (!s) (by omega) hq hr (by omega)
  · have := gv_Cb C hq hb
    exact H p x r (!s) hp (by omega) hr (by omega)
  · have := gv_Cb C hr hb
    exact H p q x (!s) hp hq (by omega) (by omega)
  · have ev : v = gv_V (gv_M c lf rg) p q r s := by
      apply Bool.eq_iff_iff.mpr
      rw [hv, gv_V_s (gv_CF C)]
      constructor
      · rintro ⟨x, hx, h⟩
        refine ⟨x, ?_⟩
        unfold gv_hit at h
        rw [Bool.or_eq_true, Bool.or_eq_true, Bool.and_eq_true, Bool.and_eq_true, Bool.and_eq_true, Bool.not_eq_true', Bool.not_eq_true', Bool.not_eq_true'] at h
        rw [gv_M_t hp, gv_M_t hq, gv_M_t hr]
        exact h
      · rintro ⟨x, ⟨a, b⟩ | ⟨a, b⟩ | ⟨a, b⟩⟩
        · have := (gv_CF C) _ _ _ a
          rw [gv_M_t hp] at a
          exact ⟨x, by omega, gv_hit1 a b⟩
        · have := (gv_CF C) _ _ _ a
          rw [gv_M_t hq] at a
          exact ⟨x, by omega, gv_hit2 a b⟩
        · have := (gv_CF C) _ _ _ a
          rw [gv_M_t hr] at a
          exact ⟨x, by omega, gv_hit3 a b⟩
    rw [ev]
    exact hpost
theorem gv_H_1 {i p q r : Nat} {s : Bool} {x : Int32} (hc : c ≤ 10) (hp : p < c) (hq : q < c) (hr : r < c) (hi : (p * 10 + q) * 10 + r = i) (H : gv_H c lf rg i wo) : gv_H c lf rg i (upd wo (200 * p + 20 * q + 2 * r + s.toNat) x) := by
  intro p' q' r' s' hp' hq' hr' h
  have hs := gv_toNat s
  have hs' := gv_toNat s'
  rw [pk_un (by omega)]
  exact H p' q' r' s' hp' hq' hr' h
theorem gv_H_2 {i p q r : Nat} (hc : c ≤ 10) (hp : p < c) (hq : q < c) (hr : r < c) (hi : (p * 10 + q) * 10 + r = i) (H : gv_H c lf rg i wo) : gv_H c lf rg (i + 1) (upd (upd wo (200 * p + 20 * q + 2 * r + Bool.toNat false) (gv_z (gv_V (gv_M c lf rg) p q r false))) (200 * p + 20 * q + 2 * r + Bool.toNat true) (gv_z (gv_V (gv_M c lf rg) p q r true))) := by
  intro p' q' r' s' hp' hq' hr' h
  have hs' := gv_toNat s'
  have t0 : Bool.toNat false = 0 := rfl
  have t1 : Bool.toNat true = 1 := rfl
  by_cases e : (p' * 10 + q') * 10 + r' = i
  · have e1 : p' = p := by omega
    have e2 : q' = q := by omega
    have e3 : r' = r := by omega
    subst e1 e2 e3
    cases s'
    · rw [pk_un (by omega), pk_us]
    · rw [pk_us]
  · rw [pk_un (by omega), pk_un (by omega)]
    exact H p' q' r' s' hp' hq' hr' (by omega)
theorem gv_work' {post : SY → Prop} (C : gv_C c lf rg go) (hpost : ∀ wo, gv_U c lf rg wo → post (nI c, go, wo, de)) :
    ∀ n i wo, i ≤ 1000 → 1000 - i < n → gv_H c lf rg i wo → wY_work_2 post (nI c) n (nI i) go wo de := by
  have hc := C.2.1
  intro n
  induction n with
  | zero => intro i wo _ h; omega
  | succ n ih =>
    intro i wo hi hn H
    by_cases e : i = 1000
    · subst e
      exact br_t (nI_le (a := 1000) (b := 1000) (by omega) (by omega)) (hpost wo fun p q r s hp hq hr => H p q r s hp hq hr (by omega))
    · have d1 : nI i / 100 = nI (i / 100) := pk_div (d := 100) (by omega) (by omega) (by omega)
      have d0 : nI i / 10 = nI (i / 10) := pk_div (d := 10) (by omega) (by omega) (by omega)
      have d2 : nI i / 10 - nI i / 10 / 10 * 10 = nI (i / 10 % 10) := by
        rw [d0]
        exact pk_rem (d := 10) (by omega) (by omega) (by omega)
      have d3 : nI i - nI i / 10 * 10 = nI (i % 10) := pk_rem (d := 10) (by omega) (by omega) (by omega)
      have skip : ¬ (i / 100 < c ∧ i / 10 % 10 < c ∧ i % 10 < c) → wY_work_2 post (nI c) n (nI (i + 1)) go wo de := by
        intro hno
        refine ih (i + 1) wo (by omega) (by omega) (fun p q r s hp hq hr h => ?_)
        exact H p q r s hp hq hr (by omega)
      refine br_f (nI_ge (a := i) (b := 1000) (by omega) (by omega)) ⟨by decide, nm_r d1 ⟨by decide, by decide, nm_r d2 ⟨by decide, nm_r d3 (pk_le c (i / 100) (fun k => nm_r (nI_1 i) (skip (by omega))) (fun kp => pk_le c (i / 10 % 10) (fun k => nm_r (nI_1 i) (skip (by omega))) (fun kq => pk_le c (i % 10) (fun k => nm_r (nI_1 i) (skip (by omega))) (fun kr => ?_))))⟩⟩⟩
      have hcode : (i / 100 * 10 + i / 10 % 10) * 10 + i % 10 = i := by omega
      clear d1 d0 d2 d3 skip
      revert kp kq kr hcode
      generalize i / 100 = p
      generalize i / 10 % 10 = q
      generalize i % 10 = r
      intro kp kq kr hcode
      refine gv_cellY (s := false) (gv_canw false C kp kq kr hcode H ⟨vp_in_nI (by have : Bool.toNat false = 0 := rfl; omega) (by omega), nm_r (e' := upd wo (200 * p + 20 * q + 2 * r + Bool.toNat false) (gv_z (gv_V (gv_M c lf rg) p q r false))) ?_ (gv_cellY (s := true) (gv_canw true C kp kq kr hcode (gv_H_1 hc kp kq kr hcode H) ⟨vp_in_nI (by have : Bool.toNat true = 1 := rfl; omega) (by omega), nm_r (e' := upd (upd wo (200 * p + 20 * q + 2 * r + Bool.toNat false) (gv_z (gv_V (gv_M c lf rg) p q r false))) (200 * p + 20 * q + 2 * r + Bool.toNat true) (gv_z (gv_V (gv_M c lf rg) p q r true))) ?_ (nm_r (nI_1 i) (ih (i + 1) _ (by omega) (by omega) (gv_H_2 hc kp kq kr hcode H)))⟩))⟩)
      · rw [nI_clamp (by have : Bool.toNat false = 0 := rfl; omega), gv_narz]
      · rw [nI_clamp (by have : Bool.toNat true = 1 := rfl; omega), gv_narz]
theorem gv_work {post : SY → Prop} (C : gv_C c lf rg go) (hpost : ∀ wo, gv_U c lf rg wo → post (nI c, go, wo, de)) : wpY_work post (nI c, go, wo, de) :=
  ⟨1001, gv_work' C hpost 1001 0 wo (by omega) (by omega) (fun p q r s _ _ _ h => absurd h (by omega))⟩
end
end
section
/-! how a sum of two stands to a third; who wins a sum of two -/
def gv_st (a b : Bool) : Int32 := cond a (cond b 0 1) (cond b 2 3)
theorem gv_st0 {a b : Bool} : gv_st a b = 0 ↔ (a && b) = true := by cases a <;> cases b <;> decide
def gv_cs (c : Nat) (lf rg : Nat → Int32) (v1 v2 v3 : Int32) : Int32 := cond (gv_h c v1 && (gv_h c v2 && gv_h c v3)) (gv_st (!gv_V (gv_M c lf rg) v1.toNatClampNeg v2.toNatClampNeg v3.toNatClampNeg true) (!gv_V (gv_M c lf rg) v1.toNatClampNeg v2.toNatClampNeg v3.toNatClampNeg false)) (-1)
def gv_ws (c : Nat) (lf rg : Nat → Int32) (v1 v2 v3 : Int32) : Bool := gv_h c v1 && (gv_h c v2 && cond (decide (v3 = 0)) (gv_V (gv_M c lf rg) v1.toNatClampNeg v2.toNatClampNeg 0 false) (cond (decide (v3 = 1)) (gv_V (gv_M c lf rg) v1.toNatClampNeg v2.toNatClampNeg 0 true) false))
section
variable {c : Nat} {kn : Int32} {lf rg al am go wo de : Nat → Int32}
theorem gv_cs1 {v1 v2 v3 : Int32} (h : gv_h c v1 = false) : gv_cs c lf rg v1 v2 v3 = -1 := by unfold gv_cs; rw [h]; rfl
theorem gv_cs2 {v1 v2 v3 : Int32} (h : gv_h c v2 = false) : gv_cs c lf rg v1 v2 v3 = -1 := by unfold gv_cs; rw [h, Bool.false_and, Bool.and_false]; rfl
theorem gv_cs3 {v1 v2 v3 : Int32} (h : gv_h c v3 = false) : gv_cs c lf rg v1 v2 v3 = -1 := by unfold gv_cs; rw [h, Bool.and_false, Bool.and_false]; rfl
theorem gv_csg {a b d : Nat} (hc : c ≤ 10) (ha : a < c) (hb : b < c) (hd : d < c) : gv_cs c lf rg (nI a) (nI b) (nI d) = gv_st (!gv_V (gv_M c lf rg) a b d true) (!gv_V (gv_M c lf rg) a b d false) := by
  unfold gv_cs
  rw [gv_h_nI hc ha, gv_h_nI hc hb, gv_h_nI hc hd, nI_clamp (by omega), nI_clamp (by omega), nI_clamp (by omega)]
  rfl
theorem gv_ws1 {v1 v2 v3 : Int32} (h : gv_h c v1 = false) : gv_ws c lf rg v1 v2 v3 = false := by unfold gv_ws; rw [h]; rfl
theorem gv_ws2 {v1 v2 v3 : Int32} (h : gv_h c v2 = false) : gv_ws c lf rg v1 v2 v3 = false := by unfold gv_ws; rw [h, Bool.false_and, Bool.and_false]
theorem gv_ws3 {v1 v2 v3 : Int32} (h0 : ¬ v3 = 0) (h1 : ¬ v3 = 1) : gv_ws c lf rg v1 v2 v3 = false := by unfold gv_ws; rw [decide_eq_false h0, decide_eq_false h1, cond_false, cond_false, Bool.and_false, Bool.and_false]
theorem gv_wsg {a b : Nat} {s : Bool} (hc : c ≤ 10) (ha : a < c) (hb : b < c) : gv_ws c lf rg (nI a) (nI b) (gv_z s) = gv_V (gv_M c lf rg) a b 0 s := by
  unfold gv_ws
  rw [gv_h_nI hc ha, gv_h_nI hc hb, nI_clamp (by omega), nI_clamp (by omega)]
  cases s <;> rfl
theorem gv_stX {post : Int32 → Prop} {k : Nat} {a b : Bool} (hk : k < 1000) (ha : al k = gv_z a) (hb : am k = gv_z b) (h : post (gv_st a b)) : wpX_standing post (nI c, kn, lf, rg, al, am) (nI k) := by
  have vi : vp_in (nI k) 1000 := vp_in_nI hk (by omega)
  unfold wpX_standing
  dsimp only
  rw [nI_clamp (by omega)]
  refine ⟨vi, gv_bx ha (fun ea => ⟨vi, gv_bx hb (fun eb => ?_) (fun eb => ?_)⟩) (fun ea => ⟨vi, gv_bx hb (fun eb => ?_) (fun eb => ?_)⟩)⟩
  all_goals (rw [ea, eb] at h; exact h)
theorem gv_stY {post : Int32 → Prop} {f : Int32} {a b : Bool} (h : post (gv_st a b)) : wpY_stands post (f, go, wo, de) (gv_z a) (gv_z b) := by
  unfold wpY_stands wY_stands_12
  dsimp only
  refine gv_bz (fun ea => gv_bz (fun _ => gv_bz (fun eb => ?_) (fun eb => ?_)) (fun k => ?_)) (fun ea => gv_bz (fun eb => gv_bz (fun k => ?_) (fun _ => ?_)) (fun eb => ?_))
  · rw [ea, eb] at h; exact h
  · rw [ea, eb] at h; exact h
  · rw [ea] at k; exact absurd k (by decide)
  · rw [ea] at k; exact absurd k (by decide)
  · rw [ea, eb] at h; exact h
  · rw [ea, eb] at h; exact h
theorem gv_csX {post : Int32 → SX → Prop} {v1 v2 v3 : Int32} (C : gv_C c lf rg go) (K : gv_K c lf rg kn al am) (hp : ∀ kn al am, gv_K c lf rg kn al am → post (gv_cs c lf rg v1 v2 v3) (nI c, kn, lf, rg, al, am)) : wpX_compareSum post (nI c, kn, lf, rg, al, am) v1 v2 v3 := by
  have hc := C.2.1
  unfold wpX_compareSum
  dsimp only
  refine gv_hX (gv_bz (fun e1 => ?_) (fun e1 => gv_hX (gv_bz (fun e2 => ?_) (fun e2 => gv_hX (gv_bz (fun e3 => ?_) (fun e3 => ?_))))))
  · have := hp kn al am K
    rw [gv_cs1 e1] at this; exact this
  · have := hp kn al am K
    rw [gv_cs2 e2] at this; exact this
  · have := hp kn al am K
    rw [gv_cs3 e3] at this; exact this
  · obtain ⟨a, ha, rfl⟩ := gv_h_of hc e1
    obtain ⟨b, hb, rfl⟩ := gv_h_of hc e2
    obtain ⟨d, hd, rfl⟩ := gv_h_of hc e3
    refine gv_learn C K (fun al' am' T => ?_)
    have := hp 1 al' am' (Or.inr ⟨rfl, T⟩)
    rw [gv_csg hc ha hb hd] at this
    exact gv_cellX (gv_stX (by omega) (T a b d ha hb hd).1 (T a b d ha hb hd).2 this)
theorem gv_y50 {post : Int32 → SY → Prop} {a b d : Nat} {z : Bool} (hc : c ≤ 10) (ha : a < c) (hb : b < c) (hd : d < c) (U : gv_U c lf rg wo) (h : post (gv_st z (!gv_V (gv_M c lf rg) a b d false)) (nI c, go, wo, de)) : wY_compareSum_50 post (nI a) (nI b) (nI d) (gv_z z) (nI c) go wo de := by
  unfold wY_compareSum_50
  have t0 : Bool.toNat false = 0 := rfl
  refine gv_cellY (s := false) ⟨vp_in_nI (by omega) (by omega), gv_bx (b := gv_V (gv_M c lf rg) a b d false) ?_ (fun k => ?_) (fun k => ?_)⟩
  · rw [nI_clamp (by omega)]; exact U a b d false ha hb hd
  · rw [k] at h
    exact gv_stY (b := true) h
  · rw [k] at h
    exact gv_stY (b := false) h
theorem gv_csY {post : Int32 → SY → Prop} {v1 v2 v3 : Int32} (C : gv_C c lf rg go) (hp : ∀ wo, post (gv_cs c lf rg v1 v2 v3) (nI c, go, wo, de)) : wpY_compareSum post (nI c, go, wo, de) v1 v2 v3 := by
  have hc := C.2.1
  have t1 : Bool.toNat true = 1 := rfl
  unfold wpY_compareSum
  dsimp only
  refine gv_work C (fun wo' U => ?_)
  refine gv_hY (gv_bz (fun e1 => ?_) (fun e1 => gv_hY (gv_bz (fun e2 => ?_) (fun e2 => gv_hY (gv_bz (fun e3 => ?_) (fun e3 => ?_))))))
  · have := hp wo'
    rw [gv_cs1 e1] at this; exact this
  · have := hp wo'
    rw [gv_cs2 e2] at this; exact this
  · have := hp wo'
    rw [gv_cs3 e3] at this; exact this
  · obtain ⟨a, ha, rfl⟩ := gv_h_of hc e1
    obtain ⟨b, hb, rfl⟩ := gv_h_of hc e2
    obtain ⟨d, hd, rfl⟩ := gv_h_of hc e3
    have := hp wo'
    rw [gv_csg hc ha hb hd] at this
    refine gv_cellY (s := true) ⟨vp_in_nI (by omega) (by omega), gv_bx (b := gv_V (gv_M c lf rg) a b d true) ?_ (fun k => ?_) (fun k => ?_)⟩
    · rw [nI_clamp (by omega)]; exact U a b d true ha hb hd
    · rw [k] at this
      exact gv_y50 (z := true) hc ha hb hd U this
    · rw [k] at this
      exact gv_y50 (z := false) hc ha hb hd U this
theorem gv_leastY {post : Int32 → Prop} {a b : Nat} (hc : c ≤ 10) (ha : a < c) (hb : b < c) (U : gv_U c lf rg wo) (h : post (gv_z (!gv_V (gv_M c lf rg) a 0 b true))) : wpY_least post (nI c, go, wo, de) (nI a) (nI b) := by
  have t1 : Bool.toNat true = 1 := rfl
  unfold wpY_least
  dsimp only
  refine gv_cellY (q := 0) (s := true) ⟨vp_in_nI (by omega) (by omega), gv_bx (b := gv_V (gv_M c lf rg) a 0 b true) ?_ (fun k => ?_) (fun k => ?_)⟩
  · rw [nI_clamp (by omega)]; exact U a 0 b true ha (by omega) hb
  · rw [k] at h; exact h
  · rw [k] at h; exact h
theorem gv_cmY {post : Int32 → SY → Prop} {v1 v2 : Int32} (C : gv_C c lf rg go) (hp : ∀ wo, post (gv_cs c lf rg v1 0 v2) (nI c, go, wo, de)) : wpY_compare post (nI c, go, wo, de) v1 v2 := by
  have hc := C.2.1
  have hc1 := C.1
  unfold wpY_compare
  dsimp only
  refine gv_work C (fun wo' U => ?_)
  refine gv_hY (gv_bz (fun e1 => ?_) (fun e1 => gv_hY (gv_bz (fun e2 => ?_) (fun e2 => ?_))))
  · have := hp wo'
    rw [gv_cs1 e1] at this; exact this
  · have := hp wo'
    rw [gv_cs3 e2] at this; exact this
  · obtain ⟨a, ha, rfl⟩ := gv_h_of hc e1
    obtain ⟨b, hb, rfl⟩ := gv_h_of hc e2
    have := hp wo'
    rw [← nI_0, gv_csg hc ha hc1 hb, ← gv_sym (gv_CF C) b a] at this
    exact gv_leastY hc ha hb U (gv_leastY hc hb ha U (gv_stY this))
theorem gv_wsX' {post : Int32 → SX → Prop} {a b : Nat} {s : Bool} (C : gv_C c lf rg go) (K : gv_K c lf rg kn al am) (ha : a < c) (hb : b < c) (hp : ∀ kn al am, gv_K c lf rg kn al am → post (gv_z (gv_V (gv_M c lf rg) a b 0 s)) (nI c, kn, lf, rg, al, am)) : wX_winsSum_27 post (nI a) (nI b) (gv_z s) (nI c) kn lf rg al am := by
  have hc := C.2.1
  have hc1 := C.1
  unfold wX_winsSum_27
  refine gv_learn C K (fun al' am' T => gv_cellX (r := 0) (gv_bz (fun e => ⟨vp_in_nI (by omega) (by omega), gv_bx (b := !gv_V (gv_M c lf rg) a b 0 false) ?_ (fun k => ?_) (fun k => ?_)⟩) (fun e => ⟨vp_in_nI (by omega) (by omega), gv_bx (b := !gv_V (gv_M c lf rg) a b 0 true) ?_ (fun k => ?_) (fun k => ?_)⟩)))
  · rw [nI_clamp (by omega)]; exact (T a b 0 ha hb hc1).2
  · have := hp 1 al' am' (Or.inr ⟨rfl, T⟩)
    rw [Bool.not_eq_false'] at k
    rw [e, k] at this; exact this
  · have := hp 1 al' am' (Or.inr ⟨rfl, T⟩)
    rw [Bool.not_eq_true'] at k
    rw [e, k] at this; exact this
  · rw [nI_clamp (by omega)]; exact (T a b 0 ha hb hc1).1
  · have := hp 1 al' am' (Or.inr ⟨rfl, T⟩)
    rw [Bool.not_eq_false'] at k
    rw [e, k] at this; exact this
  · have := hp 1 al' am' (Or.inr ⟨rfl, T⟩)
    rw [Bool.not_eq_true'] at k
    rw [e, k] at this; exact this
theorem gv_wsX {post : Int32 → SX → Prop} {v1 v2 v3 : Int32} (C : gv_C c lf rg go) (K : gv_K c lf rg kn al am) (hp : ∀ kn al am, gv_K c lf rg kn al am → post (gv_z (gv_ws c lf rg v1 v2 v3)) (nI c, kn, lf, rg, al, am)) : wpX_winsSum post (nI c, kn, lf, rg, al, am) v1 v2 v3 := by
  have hc := C.2.1
  unfold wpX_winsSum
  dsimp only
  refine gv_hX (gv_bz (fun e1 => ?_) (fun e1 => gv_hX (gv_bz (fun e2 => ?_) (fun e2 => br_c (fun k0 => ?_) (fun k0 => br_c (fun k1 => ?_) (fun k1 => ?_))))))
  · have := hp kn al am K
    rw [gv_ws1 e1] at this; exact this
  · have := hp kn al am K
    rw [gv_ws2 e2] at this; exact this
  · obtain ⟨a, ha, rfl⟩ := gv_h_of hc e1
    obtain ⟨b, hb, rfl⟩ := gv_h_of hc e2
    subst k0
    refine gv_wsX' (s := false) C K ha hb (fun kn al am K => ?_)
    rw [← gv_wsg hc ha hb]
    exact hp kn al am K
  · obtain ⟨a, ha, rfl⟩ := gv_h_of hc e1
    obtain ⟨b, hb, rfl⟩ := gv_h_of hc e2
    subst k1
    refine gv_wsX' (s := true) C K ha hb (fun kn al am K => ?_)
    rw [← gv_wsg hc ha hb]
    exact hp kn al am K
  · have := hp kn al am K
    rw [gv_ws3 k0 k1] at this; exact this
theorem gv_wsY' {post : Int32 → SY → Prop} {a b : Nat} {s : Bool} (hc1 : 1 ≤ c) (hc : c ≤ 10) (ha : a < c) (hb : b < c) (U : gv_U c lf rg wo) (hp : post (gv_z (gv_V (gv_M c lf rg) a b 0 s)) (nI c, go, wo, de)) : wY_winsSum_29 post (nI a) (nI b) (gv_z s) (nI c) go wo de := by
  have hs := gv_toNat s
  unfold wY_winsSum_29
  refine gv_cellY (r := 0) ⟨vp_in_nI (by omega) (by omega), gv_bx (b := gv_V (gv_M c lf rg) a b 0 s) ?_ (fun k => ?_) (fun k => ?_)⟩
  · rw [nI_clamp (by omega)]; exact U a b 0 s ha hb hc1
  · rw [k] at hp; exact hp
  · rw [k] at hp; exact hp
theorem gv_wsY {post : Int32 → SY → Prop} {v1 v2 v3 : Int32} (C : gv_C c lf rg go) (hp : ∀ wo, post (gv_z (gv_ws c lf rg v1 v2 v3)) (nI c, go, wo, de)) : wpY_winsSum post (nI c, go, wo, de) v1 v2 v3 := by
  have hc := C.2.1
  unfold wpY_winsSum
  dsimp only
  refine gv_work C (fun wo' U => ?_)
  refine gv_hY (gv_bz (fun e1 => ?_) (fun e1 => gv_hY (gv_bz (fun e2 => ?_) (fun e2 => br_c (fun k0 => ?_) (fun k0 => br_c (fun k1 => ?_) (fun k1 => ?_))))))
  · have := hp wo'
    rw [gv_ws1 e1] at this; exact this
  · have := hp wo'
    rw [gv_ws2 e2] at this; exact this
  · obtain ⟨a, ha, rfl⟩ := gv_h_of hc e1
    obtain ⟨b, hb, rfl⟩ := gv_h_of hc e2
    subst k0
    refine gv_wsY' (s := false) C.1 hc ha hb U ?_
    rw [← gv_wsg hc ha hb]
    exact hp wo'
  · obtain ⟨a, ha, rfl⟩ := gv_h_of hc e1
    obtain ⟨b, hb, rfl⟩ := gv_h_of hc e2
    subst k1
    refine gv_wsY' (s := true) C.1 hc ha hb U ?_
    rw [← gv_wsg hc ha hb]
    exact hp wo'
  · have := hp wo'
    rw [gv_ws3 k0 k1] at this; exact this
theorem gv_opY {post : Int32 → SY → Prop} {v1 v2 : Int32} (C : gv_C c lf rg go) (hp : ∀ wo, post (gv_z (decide (gv_cs c lf rg v1 v2 0 = 0))) (nI c, go, wo, de)) : wpY_opposite post (nI c, go, wo, de) v1 v2 := by
  have hc := C.2.1
  have hc1 := C.1
  have t1 : Bool.toNat true = 1 := rfl
  have t0 : Bool.toNat false = 0 := rfl
  unfold wpY_opposite
  dsimp only
  refine gv_work C (fun wo' U => ?_)
  refine gv_hY (gv_bz (fun e1 => ?_) (fun e1 => gv_hY (gv_bz (fun e2 => ?_) (fun e2 => ?_))))
  · have := hp wo'
    rw [gv_cs1 e1] at this; exact this
  · have := hp wo'
    rw [gv_cs2 e2] at this; exact this
  · obtain ⟨a, ha, rfl⟩ := gv_h_of hc e1
    obtain ⟨b, hb, rfl⟩ := gv_h_of hc e2
    have := hp wo'
    have e : gv_cs c lf rg (nI a) (nI b) 0 = gv_st (!gv_V (gv_M c lf rg) a b 0 true) (!gv_V (gv_M c lf rg) a b 0 false) := gv_csg (d := 0) hc ha hb hc1
    rw [e] at this
    refine gv_cellY (r := 0) (s := false) ⟨vp_in_nI (by omega) (by omega), gv_bx (b := gv_V (gv_M c lf rg) a b 0 false) ?_ (fun k => gv_cellY (r := 0) (s := true) ⟨vp_in_nI (by omega) (by omega), gv_bx (b := gv_V (gv_M c lf rg) a b 0 true) ?_ (fun k2 => ?_) (fun k2 => ?_)⟩) (fun k => ?_)⟩
    · rw [nI_clamp (by omega)]; exact U a b 0 false ha hb hc1
    · rw [nI_clamp (by omega)]; exact U a b 0 true ha hb hc1
    · rw [k, k2] at this; exact this
    · rw [k, k2] at this; exact this
    · rw [k] at this
      cases k2 : gv_V (gv_M c lf rg) a b 0 true
      · rw [k2] at this; exact this
      · rw [k2] at this; exact this
end
end
section
/-! at least, as good; dominated moves; what is above; the first equal one; the number of values -/
def gv_ag (V : Nat → Nat → Nat → Bool → Bool) (s : Bool) (y x : Nat) : Bool := !(cond s (V x 0 y true) (V y 0 x true))
def gv_E (ag : Nat → Nat → Bool) (x y : Nat) : Bool := ag y x && (decide (y < x) || !ag x y)
def gv_B (all : Int32) (x y : Nat) : Bool := decide (x ≠ y) && (bt all x && bt all y)
def gv_D (all : Int32) (ag : Nat → Nat → Bool) (x y : Nat) : Bool := gv_B all x y && gv_E ag x y
def gv_put (b : Bool) (S : Int32) (x : Nat) : Int32 := cond b (S ||| ((1 : Int32) <<< (nI x &&& 31))) S
theorem gv_S_put {S : Int32} {P : Nat → Prop} (h : gv_S S P) {x : Nat} (hx : x < 32) (b : Bool) : gv_S (gv_put b S x) (fun i => P i ∨ (b = true ∧ i = x)) := by
  cases b
  · exact gv_S_m h fun i => ⟨Or.inl, fun k => k.elim id (fun k => absurd k.1 (by decide))⟩
  · exact gv_S_m (gv_S_add h hx) fun i => ⟨fun k => k.elim Or.inl (fun k => Or.inr ⟨rfl, k⟩), fun k => k.elim Or.inl (fun k => Or.inr k.2)⟩
theorem gv_B_l {all : Int32} {ag : Nat → Nat → Bool} {x y : Nat} (h : gv_D all ag x y = true) : bt all x = true ∧ bt all y = true := by
  unfold gv_D gv_B at h
  rw [Bool.and_eq_true, Bool.and_eq_true, Bool.and_eq_true] at h
  exact h.1.2
section
variable {c : Nat} {kn : Int32} {lf rg al am go wo de : Nat → Int32}
theorem gv_alX {post : Int32 → Prop} {a b : Nat} (hc : c ≤ 10) (ha : a < c) (hb : b < c) (T : gv_T c lf rg al am) (h : post (gv_z (!gv_V (gv_M c lf rg) a 0 b true))) : wpX_isAtLeast post (nI c, kn, lf, rg, al, am) (nI a) (nI b) := by
  have e : nI a * 100 + nI b = nI ((a * 10 + 0) * 10 + b) := by
    show nI a * nI 100 + nI b = _
    rw [pk_mul, nI_add]
    exact congrArg nI (by omega)
  unfold wpX_isAtLeast
  dsimp only
  rw [e, nI_clamp (by omega), (T a 0 b ha (by omega) hb).1]
  exact ⟨vp_in_nI (by omega) (by omega), gv_nz _, h⟩
theorem gv_agX {post : Int32 → Prop} {a b : Nat} {s : Bool} (hc : c ≤ 10) (ha : a < c) (hb : b < c) (T : gv_T c lf rg al am) (h : post (gv_z (gv_ag (gv_V (gv_M c lf rg)) s a b))) : wpX_asGood post (nI c, kn, lf, rg, al, am) (nI a) (nI b) (gv_z s) := by
  unfold wpX_asGood
  dsimp only
  refine gv_bz (fun e => gv_alX hc ha hb T ⟨gv_nz _, ?_⟩) (fun e => gv_alX hc hb ha T ⟨gv_nz _, ?_⟩)
  · rw [e] at h; exact h
  · rw [e] at h; exact h
theorem gv_d74 {post : Int32 → SX → Prop} {J J' : Int32 → Int32 → Prop} {all S : Int32} {x y : Nat} {s b : Bool} (hc : c ≤ 10) (hx : x < c) (hy : y < c) (T : gv_T c lf rg al am) (h : J (gv_put (b && gv_E (gv_ag (gv_V (gv_M c lf rg)) s) x y) S x) (nI (y + 1))) : wX_dominated_74 post J' J (gv_z s) all S (nI x) (nI y) (gv_z b) (nI c) kn lf rg al am := by
  unfold wX_dominated_74 wX_dominated_112
  unfold gv_E at h
  refine gv_bz (fun eb => nm_r (nI_1 y) ?_) (fun eb => gv_agX hc hy hx T (gv_bz (fun e1 => nm_r (nI_1 y) ?_) (fun e1 => pk_lt y x (fun k => nm_e (nm_r (nI_1 y) ?_)) (fun k => gv_agX hc hx hy T (gv_bz (fun e2 => nm_e (nm_r (nI_1 y) ?_)) (fun e2 => nm_r (nI_1 y) ?_))))))
  · rw [eb] at h; exact h
  · rw [eb, e1] at h; exact h
  · rw [eb, e1, decide_eq_true k] at h; exact h
  · rw [eb, e1, e2, decide_eq_false (show ¬ y < x by omega)] at h; exact h
  · rw [eb, e1, e2, decide_eq_false (show ¬ y < x by omega)] at h; exact h
theorem gv_d35 {post : Int32 → SX → Prop} {J : Int32 → Int32 → Prop} {all : Int32} {x : Nat} {s : Bool} (hc : c ≤ 10) (hx : x < c) (T : gv_T c lf rg al am) (hall : ∀ i, bt all i = true → i < c)
    (hJ : ∀ S, gv_S S (fun i => ∃ y', gv_D all (gv_ag (gv_V (gv_M c lf rg)) s) i y' = true ∧ i < x + 1) → J S (nI (x + 1))) :
    ∀ n y S, y ≤ c → c - y < n → gv_S S (fun i => ∃ y', gv_D all (gv_ag (gv_V (gv_M c lf rg)) s) i y' = true ∧ (i < x ∨ (i = x ∧ y' < y))) → wX_dominated_35 post J (gv_z s) all (nI x) (nI c) kn lf rg al am n S (nI y) := by
  intro n
  induction n with
  | zero => intro y S _ h; omega
  | succ n ih =>
    intro y S hy hn hS
    by_cases e : y = c
    · subst e
      refine br_t (nI_le (Nat.le_refl _) (by omega)) (nm_r (nI_1 x) (hJ S (gv_S_m hS fun i => ⟨?_, ?_⟩)))
      · rintro ⟨y', h, k⟩
        exact ⟨y', h, by omega⟩
      · rintro ⟨y', h, k⟩
        have := hall _ (gv_B_l h).2
        exact ⟨y', h, by omega⟩
    · have hy' : y < c := by omega
      have key : wX_dominated_74 post J (wX_dominated_35 post J (gv_z s) all (nI x) (nI c) kn lf rg al am n) (gv_z s) all S (nI x) (nI y) (gv_z (gv_B all x y)) (nI c) kn lf rg al am := by
        refine gv_d74 hc hx hy' T (ih (y + 1) _ (by omega) (by omega) (gv_S_m (gv_S_put hS (by omega) _) fun i => ⟨?_, ?_⟩))
        · rintro (⟨y', h, k⟩ | ⟨h, k⟩)
          · exact ⟨y', h, by omega⟩
          · subst k
            exact ⟨y, h, by omega⟩
        · rintro ⟨y', h, k⟩
          by_cases ey : i = x ∧ y' = y
          · obtain ⟨rfl, rfl⟩ := ey
            exact Or.inr ⟨h, rfl⟩
          · exact Or.inl ⟨y', h, by omega⟩
      refine br_f (nI_ge hy' (by omega)) (pk_eq x y (fun k => ?_) (fun k => gv_inX (by omega) (gv_bz (fun e1 => ?_) (fun e1 => gv_inX (by omega) (gv_bz (fun e2 => ?_) (fun e2 => ?_))))))
      · have eB : gv_B all x y = false := by unfold gv_B; rw [decide_eq_false (fun z => z k)]; rfl
        rw [eB] at key; exact key
      · have eB : gv_B all x y = false := by unfold gv_B; rw [e1, Bool.false_and, Bool.and_false]
        rw [eB] at key; exact key
      · have eB : gv_B all x y = false := by unfold gv_B; rw [e2, Bool.and_false, Bool.and_false]
        rw [eB] at key; exact key
      · have eB : gv_B all x y = true := by unfold gv_B; rw [e1, e2, decide_eq_true k]; rfl
        rw [eB] at key; exact key
theorem gv_d23 {post : Int32 → SX → Prop} {all : Int32} {s : Bool} (hc : c ≤ 10) (T : gv_T c lf rg al am) (hall : ∀ i, bt all i = true → i < c)
    (hpost : ∀ S, gv_S S (fun i => ∃ y', gv_D all (gv_ag (gv_V (gv_M c lf rg)) s) i y' = true) → post S (nI c, kn, lf, rg, al, am)) :
    ∀ n x S, x ≤ c → c - x < n → gv_S S (fun i => ∃ y', gv_D all (gv_ag (gv_V (gv_M c lf rg)) s) i y' = true ∧ i < x) → wX_dominated_23 post (gv_z s) all (nI c) kn lf rg al am n S (nI x) := by
  intro n
  induction n with
  | zero => intro x S _ h; omega
  | succ n ih =>
    intro x S hx hn hS
    by_cases e : x = c
    · subst e
      refine br_t (nI_le (Nat.le_refl _) (by omega)) (hpost S (gv_S_m hS fun i => ⟨?_, ?_⟩))
      · rintro ⟨y', h, k⟩
        exact ⟨y', h⟩
      · rintro ⟨y', h⟩
        exact ⟨y', h, hall _ (gv_B_l h).1⟩
    · refine br_f (nI_ge (by omega) (by omega)) ⟨c + 1, gv_d35 hc (by omega) T hall (fun S' hS' => ih (x + 1) S' (by omega) (by omega) hS') (c + 1) 0 S (by omega) (by omega) (gv_S_m hS fun i => ⟨?_, ?_⟩)⟩
      · rintro ⟨y', h, k⟩
        exact ⟨y', h, Or.inl k⟩
      · rintro ⟨y', h, k⟩
        exact ⟨y', h, by omega⟩
theorem gv_nbY {post : Int32 → Prop} {x y : Nat} {s : Bool} (hc : c ≤ 10) (hx : x < c) (hy : y < c) (U : gv_U c lf rg wo) (h : post (gv_z (gv_E (gv_ag (gv_V (gv_M c lf rg)) s) x y))) : wpY_noBetter post (nI c, go, wo, de) (nI x) (nI y) (gv_z s) := by
  have k40 : ∀ a b : Bool, gv_ag (gv_V (gv_M c lf rg)) s y x = a → gv_ag (gv_V (gv_M c lf rg)) s x y = b → wY_noBetter_40 post (nI x) (nI y) (gv_z a) (gv_z b) (nI c) go wo de := by
    intro a b ea eb
    unfold gv_E at h
    rw [ea, eb] at h
    unfold wY_noBetter_40
    refine gv_bz (fun ka => ?_) (fun ka => gv_bz (fun kb => ?_) (fun kb => pk_le x y (fun k => ?_) (fun k => ?_)))
    · rw [ka] at h; exact h
    · rw [ka, kb, Bool.not_false, Bool.or_true] at h; exact h
    · rw [ka, kb, decide_eq_false (show ¬ y < x by omega)] at h; exact h
    · rw [ka, kb, decide_eq_true k] at h; exact h
  unfold wpY_noBetter wY_noBetter_19
  dsimp only
  refine gv_bz (fun e => gv_leastY hc hy hx U (gv_bz (fun _ => gv_leastY hc hx hy U (k40 _ _ ?_ ?_)) (fun e' => ?_))) (fun e => gv_leastY hc hx hy U (gv_bz (fun e' => ?_) (fun _ => gv_leastY hc hy hx U (k40 _ _ ?_ ?_))))
  · rw [e]; rfl
  · rw [e]; rfl
  · rw [e] at e'; exact absurd e' (by decide)
  · rw [e] at e'; exact absurd e' (by decide)
  · rw [e]; rfl
  · rw [e]; rfl
theorem gv_d93 {post : Int32 → SY → Prop} {J : Int32 → Int32 → Prop} {all S : Int32} {i x y : Nat} {s b : Bool} (hc : c ≤ 10) (hx : b = true → x < c) (hy : b = true → y < c) (U : gv_U c lf rg wo) (h : J (gv_put (b && gv_E (gv_ag (gv_V (gv_M c lf rg)) s) x y) S x) (nI (i + 1))) : wY_dominated_93 post J (gv_z s) all S (nI i) (nI x) (nI y) (gv_z b) (nI c) go wo de := by
  unfold wY_dominated_93
  refine gv_bz (fun eb => nm_r (nI_1 i) ?_) (fun eb => gv_nbY hc (hx eb) (hy eb) U (gv_bz (fun e1 => nm_r (nI_1 i) ?_) (fun e1 => nm_e (nm_r (nI_1 i) ?_))))
  · rw [eb] at h; exact h
  · rw [eb, e1] at h; exact h
  · rw [eb, e1] at h; exact h
theorem gv_d40 {post : Int32 → SY → Prop} {all : Int32} {s : Bool} (hc : c ≤ 10) (U : gv_U c lf rg wo) (hall : ∀ i, bt all i = true → i < c)
    (hpost : ∀ S, gv_S S (fun i => ∃ y', gv_D all (gv_ag (gv_V (gv_M c lf rg)) s) i y' = true) → post S (nI c, go, wo, de)) :
    ∀ n i S, i ≤ 100 → 100 - i < n → gv_S S (fun x => ∃ y', gv_D all (gv_ag (gv_V (gv_M c lf rg)) s) x y' = true ∧ 10 * x + y' < i) → wY_dominated_40 post (gv_z s) all (nI c) go wo de n S (nI i) := by
  intro n
  induction n with
  | zero => intro i S _ h; omega
  | succ n ih =>
    intro i S hi hn hS
    by_cases e : i = 100
    · subst e
      refine br_t (nI_le (a := 100) (b := 100) (by omega) (by omega)) (hpost S (gv_S_m hS fun x => ⟨?_, ?_⟩))
      · rintro ⟨y', h, k⟩
        exact ⟨y', h⟩
      · rintro ⟨y', h⟩
        have h1 := hall _ (gv_B_l h).1
        have h2 := hall _ (gv_B_l h).2
        exact ⟨y', h, by omega⟩
    · have d1 : nI i / 10 = nI (i / 10) := pk_div (d := 10) (by omega) (by omega) (by omega)
      have d2 : nI i - nI i / 10 * 10 = nI (i % 10) := pk_rem (d := 10) (by omega) (by omega) (by omega)
      have hcode : 10 * (i / 10) + i % 10 = i := by omega
      have hx : i / 10 < 10 := by omega
      have hy : i % 10 < 10 := by omega
      refine br_f (nI_ge (a := i) (b := 100) (by omega) (by omega)) ⟨by decide, nm_r d1 ⟨by decide, nm_r d2 ?_⟩⟩
      revert hcode hx hy
      clear d1 d2
      generalize i / 10 = x
      generalize i % 10 = y
      intro hcode hx hy
      have hbx : gv_B all x y = true → x < c := by
        intro h
        unfold gv_B at h
        rw [Bool.and_eq_true, Bool.and_eq_true] at h
        exact hall _ h.2.1
      have hby : gv_B all x y = true → y < c := by
        intro h
        unfold gv_B at h
        rw [Bool.and_eq_true, Bool.and_eq_true] at h
        exact hall _ h.2.2
      have key : wY_dominated_93 post (wY_dominated_40 post (gv_z s) all (nI c) go wo de n) (gv_z s) all S (nI i) (nI x) (nI y) (gv_z (gv_B all x y)) (nI c) go wo de := by
        refine gv_d93 hc hbx hby U (ih (i + 1) _ (by omega) (by omega) (gv_S_m (gv_S_put hS (by omega) _) fun x' => ⟨?_, ?_⟩))
        · rintro (⟨y', h, k⟩ | ⟨h, k⟩)
          · exact ⟨y', h, by omega⟩
          · subst k
            exact ⟨y, h, by omega⟩
        · rintro ⟨y', h, k⟩
          have h2 := hall _ (gv_B_l h).2
          by_cases ey : x' = x ∧ y' = y
          · obtain ⟨rfl, rfl⟩ := ey
            exact Or.inr ⟨h, rfl⟩
          · exact Or.inl ⟨y', h, by omega⟩
      refine pk_eq x y (fun k => ?_) (fun k => gv_by (by omega) (fun e1 => gv_by (by omega) (fun e2 => ?_) (fun e2 => ?_)) (fun e1 => ?_))
      · have eB : gv_B all x y = false := by unfold gv_B; rw [decide_eq_false (fun z => z k)]; rfl
        rw [eB] at key; exact key
      · have eB : gv_B all x y = true := by unfold gv_B; rw [e1, e2, decide_eq_true k]; rfl
        rw [eB] at key; exact key
      · have eB : gv_B all x y = false := by unfold gv_B; rw [e2, Bool.and_false, Bool.and_false]
        rw [eB] at key; exact key
      · have eB : gv_B all x y = false := by unfold gv_B; rw [e1, Bool.false_and, Bool.and_false]
        rw [eB] at key; exact key
/-! what is above -/
theorem gv_abX {post : Int32 → SX → Prop} {p : Nat} (hc : c ≤ 10) (hp : p < c) (T : gv_T c lf rg al am)
    (hpost : ∀ S, gv_S S (fun i => gv_V (gv_M c lf rg) i 0 p true = false ∧ i < c) → post S (nI c, kn, lf, rg, al, am)) :
    ∀ n j S, j ≤ c → c - j < n → gv_S S (fun i => gv_V (gv_M c lf rg) i 0 p true = false ∧ i < j) → wX_above_18 post (nI p) (nI c) kn lf rg al am n S (nI j) := by
  intro n
  induction n with
  | zero => intro j S _ h; omega
  | succ n ih =>
    intro j S hj hn hS
    by_cases e : j = c
    · subst e
      exact br_t (nI_le (Nat.le_refl _) (by omega)) (hpost S hS)
    · refine br_f (nI_ge (by omega) (by omega)) (gv_alX hc (by omega) hp T (gv_bz (fun k => nm_e (nm_r (nI_1 j) (ih (j + 1) _ (by omega) (by omega) ?_))) (fun k => nm_e (nm_r (nI_1 j) (ih (j + 1) _ (by omega) (by omega) ?_)))))
      · rw [Bool.not_eq_false'] at k
        refine gv_S_m (gv_S_or0 hS) fun i => ⟨fun h => ⟨h.1, by omega⟩, fun h => ⟨h.1, ?_⟩⟩
        by_cases ei : i = j
        · subst ei
          rw [k] at h
          exact absurd h.1 (by decide)
        · omega
      · rw [Bool.not_eq_true'] at k
        refine gv_S_m (gv_S_add hS (x := j) (by omega)) fun i => ⟨?_, fun h => ?_⟩
        · rintro (h | h)
          · exact ⟨h.1, by omega⟩
          · subst h
            exact ⟨k, by omega⟩
        · by_cases ei : i = j
          · exact Or.inr ei
          · exact Or.inl ⟨h.1, by omega⟩
theorem gv_abY {post : Int32 → SY → Prop} {p : Nat} (hc : c ≤ 10) (hp : p < c) (U : gv_U c lf rg wo)
    (hpost : ∀ S, gv_S S (fun i => gv_V (gv_M c lf rg) i 0 p true = false ∧ i < c) → post S (nI c, go, wo, de)) :
    ∀ n j S, j ≤ c → c - j < n → gv_S S (fun i => gv_V (gv_M c lf rg) i 0 p true = false ∧ i < j) → wY_above_8 post (nI p) (nI c) go wo de n S (nI j) := by
  have hh := gv_h_nI hc hp
  intro n
  induction n with
  | zero => intro j S _ h; omega
  | succ n ih =>
    intro j S hj hn hS
    by_cases e : j = c
    · subst e
      refine br_t (nI_le (Nat.le_refl _) (by omega)) ?_
      unfold wY_above_49
      exact gv_hY (gv_bz (fun k => by rw [hh] at k; exact absurd k (by decide)) (fun _ => hpost S hS))
    · refine br_f (nI_ge (by omega) (by omega)) (gv_hY (gv_bz (fun k => by rw [hh] at k; exact absurd k (by decide)) (fun _ => gv_leastY hc (by omega) hp U (gv_bz (fun k => nm_r (nI_1 j) (ih (j + 1) _ (by omega) (by omega) ?_)) (fun k => nm_e (nm_r (nI_1 j) (ih (j + 1) _ (by omega) (by omega) ?_)))))))
      · rw [Bool.not_eq_false'] at k
        refine gv_S_m hS fun i => ⟨fun h => ⟨h.1, by omega⟩, fun h => ⟨h.1, ?_⟩⟩
        by_cases ei : i = j
        · subst ei
          rw [k] at h
          exact absurd h.1 (by decide)
        · omega
      · rw [Bool.not_eq_true'] at k
        refine gv_S_m (gv_S_add hS (x := j) (by omega)) fun i => ⟨?_, fun h => ?_⟩
        · rintro (h | h)
          · exact ⟨h.1, by omega⟩
          · subst h
            exact ⟨k, by omega⟩
        · by_cases ei : i = j
          · exact Or.inr ei
          · exact Or.inl ⟨h.1, by omega⟩
end
end
section
/-! the first position of the same value, and the number of values -/
def gv_Q (V : Nat → Nat → Nat → Bool → Bool) (p q : Nat) : Bool := !V p 0 q true && !V q 0 p true
def gv_First (V : Nat → Nat → Nat → Bool → Bool) (p f : Nat) : Prop := f ≤ p ∧ gv_Q V p f = true ∧ ∀ q, q < f → gv_Q V p q = false
theorem gv_First_ex {M : Nat → Bool → Nat → Bool} (hM : gv_F M) (p : Nat) : ∃ f, gv_First (gv_V M) p f := by
  have hp : gv_Q (gv_V M) p p = true := by unfold gv_Q; rw [gv_refl hM]; rfl
  obtain ⟨f, h1, h2⟩ := pk_least (fun f => gv_Q (gv_V M) p f = true) ⟨p, hp⟩
  refine ⟨f, ?_, h1, fun q hq => ?_⟩
  · rcases Nat.lt_or_ge p f with k | k
    · exact absurd hp (h2 p k)
    · exact k
  · cases k : gv_Q (gv_V M) p q
    · rfl
    · exact absurd k (h2 q hq)
def gv_cnt (P : Nat → Bool) : Nat → Nat
  | 0 => 0
  | n + 1 => gv_cnt P n + (P n).toNat
section
variable {c : Nat} {kn : Int32} {lf rg al am go wo de : Nat → Int32}
theorem gv_f16 {post : Int32 → SX → Prop} {p f : Nat} (hc : c ≤ 10) (hp : p < c) (T : gv_T c lf rg al am) (F : gv_First (gv_V (gv_M c lf rg)) p f) (hpost : post (nI f) (nI c, kn, lf, rg, al, am)) :
    ∀ n j, j ≤ f → f - j < n → wX_first_16 post (nI p) (nI c) kn lf rg al am n (nI j) := by
  have hf := F.1
  intro n
  induction n with
  | zero => intro j _ h; omega
  | succ n ih =>
    intro j hj hn
    by_cases e : j = f
    · subst e
      have h2 := F.2.1
      unfold gv_Q at h2
      rw [Bool.and_eq_true] at h2
      refine pk_le p j (fun _ => hpost) (fun k => gv_alX hc hp (by omega) T (gv_bz (fun z => ?_) (fun _ => gv_alX hc (by omega) hp T (gv_bz (fun z => ?_) (fun _ => hpost)))))
      · rw [h2.1] at z; exact absurd z (by decide)
      · rw [h2.2] at z; exact absurd z (by decide)
    · have h3 := F.2.2 j (by omega)
      unfold gv_Q at h3
      refine br_f (nI_ge (by omega) (by omega)) (gv_alX hc hp (by omega) T (gv_bz (fun z => nm_r (nI_1 j) (ih (j + 1) (by omega) (by omega))) (fun z => gv_alX hc (by omega) hp T (gv_bz (fun z => nm_r (nI_1 j) (ih (j + 1) (by omega) (by omega))) (fun z2 => ?_)))))
      rw [z, z2] at h3
      exact absurd h3 (by decide)
theorem gv_fX {post : Int32 → SX → Prop} {p f : Nat} (C : gv_C c lf rg go) (K : gv_K c lf rg kn al am) (hp : p < c) (F : gv_First (gv_V (gv_M c lf rg)) p f) (hpost : ∀ kn al am, gv_K c lf rg kn al am → post (nI f) (nI c, kn, lf, rg, al, am)) : wpX_first post (nI c, kn, lf, rg, al, am) (nI p) := by
  have hh := gv_h_nI C.2.1 hp
  unfold wpX_first
  dsimp only
  exact gv_hX (gv_bz (fun k => by rw [hh] at k; exact absurd k (by decide)) (fun _ => gv_learn C K (fun al' am' T => ⟨f + 1, gv_f16 C.2.1 hp T F (hpost 1 al' am' (Or.inr ⟨rfl, T⟩)) (f + 1) 0 (by omega) (by omega)⟩)))
theorem gv_f2 {post : Int32 → SY → Prop} {p f : Nat} (C : gv_C c lf rg go) (hp : p < c) (F : gv_First (gv_V (gv_M c lf rg)) p f) (hpost : ∀ wo, post (nI f) (nI c, go, wo, de)) :
    ∀ n j wo, j ≤ f → f - j < n → wY_first_2 post (nI p) n (nI j) (nI c) go wo de := by
  have hf := F.1
  have hc := C.2.1
  have hc1 := C.1
  have hh := gv_h_nI hc hp
  have hcs : ∀ j, j < c → (gv_cs c lf rg (nI p) 0 (nI j) = 0 ↔ gv_Q (gv_V (gv_M c lf rg)) p j = true) := by
    intro j hj
    have e : gv_cs c lf rg (nI p) 0 (nI j) = gv_st (!gv_V (gv_M c lf rg) p 0 j true) (!gv_V (gv_M c lf rg) p 0 j false) := gv_csg (b := 0) hc hp hc1 hj
    rw [e, ← gv_sym (gv_CF C) j p, gv_st0]
    rfl
  intro n
  induction n with
  | zero => intro j wo _ h; omega
  | succ n ih =>
    intro j wo hj hn
    refine br_f (nI_ge (by omega) (by omega)) (gv_hY (gv_bz (fun k => by rw [hh] at k; exact absurd k (by decide)) (fun _ => gv_cmY C (fun wo' => ?_))))
    by_cases e : j = f
    · subst e
      exact br_t ((hcs j (by omega)).mpr F.2.1) (hpost wo')
    · refine br_f (fun z => ?_) (nm_r (nI_1 j) (ih (j + 1) wo' (by omega) (by omega)))
      have k := (hcs j (by omega)).mp z
      rw [F.2.2 j (by omega)] at k
      exact absurd k (by decide)
theorem gv_fY {post : Int32 → SY → Prop} {p f : Nat} (C : gv_C c lf rg go) (hp : p < c) (F : gv_First (gv_V (gv_M c lf rg)) p f) (hpost : ∀ wo, post (nI f) (nI c, go, wo, de)) : wpY_first post (nI c, go, wo, de) (nI p) :=
  ⟨f + 1, gv_f2 C hp F hpost (f + 1) 0 wo (by omega) (by omega)⟩
theorem gv_vX {post : Int32 → SX → Prop} {F : Nat → Nat} (C : gv_C c lf rg go) (hF : ∀ p, gv_First (gv_V (gv_M c lf rg)) p (F p)) (hpost : ∀ kn al am, gv_K c lf rg kn al am → post (nI (gv_cnt (fun p => decide (F p = p)) c)) (nI c, kn, lf, rg, al, am)) :
    ∀ n j kn al am, j ≤ c → c - j < n → gv_K c lf rg kn al am → wX_values_4 post n (nI (gv_cnt (fun p => decide (F p = p)) j)) (nI j) (nI c) kn lf rg al am := by
  have hc := C.2.1
  intro n
  induction n with
  | zero => intro j kn al am _ h; omega
  | succ n ih =>
    intro j kn al am hj hn K
    by_cases e : j = c
    · subst e
      exact br_t (nI_le (Nat.le_refl _) (by omega)) (hpost kn al am K)
    · have hFj := (hF j).1
      refine br_f (nI_ge (by omega) (by omega)) (gv_fX C K (by omega) (hF j) (fun kn' al' am' K' => ?_))
      have h := ih (j + 1) kn' al' am' (by omega) (by omega) K'
      refine pk_eq (F j) j (fun k => nm_r ?_ (nm_r (nI_1 j) h)) (fun k => nm_r ?_ (nm_r (nI_1 j) h))
      · rw [nI_1, gv_cnt, decide_eq_true k]; rfl
      · rw [Int32.add_zero, gv_cnt, decide_eq_false k]; rfl
theorem gv_vY {post : Int32 → SY → Prop} {F : Nat → Nat} (C : gv_C c lf rg go) (hF : ∀ p, gv_First (gv_V (gv_M c lf rg)) p (F p)) (hpost : ∀ wo, post (nI (gv_cnt (fun p => decide (F p = p)) c)) (nI c, go, wo, de)) :
    ∀ n j wo, j ≤ c → c - j < n → wY_values_4 post n (nI (gv_cnt (fun p => decide (F p = p)) j)) (nI j) (nI c) go wo de := by
  have hc := C.2.1
  intro n
  induction n with
  | zero => intro j wo _ h; omega
  | succ n ih =>
    intro j wo hj hn
    by_cases e : j = c
    · subst e
      exact br_t (nI_le (Nat.le_refl _) (by omega)) (hpost wo)
    · have hFj := (hF j).1
      refine br_f (nI_ge (by omega) (by omega)) (gv_fY C (by omega) (hF j) (fun wo' => ?_))
      have h := ih (j + 1) wo' (by omega) (by omega)
      refine pk_eq (F j) j (fun k => nm_r ?_ (nm_r (nI_1 j) h)) (fun k => nm_r (nI_1 j) ?_)
      · rw [nI_1, gv_cnt, decide_eq_true k]; rfl
      · rw [gv_cnt, decide_eq_false k] at h; exact h
end
end
section
/-! the longest run of moves -/
def gv_N (c : Nat) (lf rg : Nat → Int32) (q x : Nat) : Bool := decide (q < c) && bt (lf q ||| rg q) x
def gv_R (N : Nat → Nat → Bool) : Nat → Nat → Nat → Prop
  | 0, p, i => i = p
  | k + 1, p, i => ∃ q, gv_R N k p q ∧ N q i = true
def gv_P (N : Nat → Nat → Bool) (k p : Nat) : Prop := ∃ i, gv_R N k p i
def gv_dep (N : Nat → Nat → Bool) (p m : Nat) : Prop := ∀ k, gv_P N k p ↔ k ≤ m
theorem gv_R_s {N : Nat → Nat → Bool} : ∀ k p i, gv_R N (k + 1) p i ↔ ∃ x, N p x = true ∧ gv_R N k x i := by
  intro k
  induction k with
  | zero =>
    intro p i
    constructor
    · rintro ⟨q, hq, h⟩
      have hq' : q = p := hq
      subst hq'
      exact ⟨i, h, rfl⟩
    · rintro ⟨x, h, hi⟩
      have hi' : i = x := hi
      subst hi'
      exact ⟨p, rfl, h⟩
  | succ k ih =>
    intro p i
    constructor
    · rintro ⟨q, hq, h⟩
      obtain ⟨x, hx, hr⟩ := (ih p q).mp hq
      exact ⟨x, hx, q, hr, h⟩
    · rintro ⟨x, hx, q, hr, h⟩
      exact ⟨q, (ih p q).mpr ⟨x, hx, hr⟩, h⟩
theorem gv_P_s {N : Nat → Nat → Bool} {k p : Nat} : gv_P N (k + 1) p ↔ ∃ x, N p x = true ∧ gv_P N k x := by
  constructor
  · rintro ⟨i, h⟩
    obtain ⟨x, hx, hr⟩ := (gv_R_s k p i).mp h
    exact ⟨x, hx, i, hr⟩
  · rintro ⟨x, hx, i, hr⟩
    exact ⟨i, (gv_R_s k p i).mpr ⟨x, hx, hr⟩⟩
theorem gv_R_le {N : Nat → Nat → Bool} (hN : ∀ q x, N q x = true → x < q) : ∀ k p i, gv_R N k p i → i + k ≤ p := by
  intro k
  induction k with
  | zero => intro p i h; have h' : i = p := h; omega
  | succ k ih =>
    rintro p i ⟨q, hq, h⟩
    have := ih p q hq
    have := hN q i h
    omega
theorem gv_P_le {N : Nat → Nat → Bool} (hN : ∀ q x, N q x = true → x < q) {k p : Nat} (h : gv_P N k p) : k ≤ p := by
  obtain ⟨i, hi⟩ := h
  have := gv_R_le hN k p i hi
  omega
theorem gv_dep_u {N : Nat → Nat → Bool} {p m m' : Nat} (h : gv_dep N p m) (h' : gv_dep N p m') : m = m' := by
  have h1 := (h' m).mp ((h m).mpr (Nat.le_refl _))
  have h2 := (h m').mp ((h' m').mpr (Nat.le_refl _))
  omega
theorem gv_S_or {S T : Int32} {P : Nat → Prop} (h : gv_S S P) : gv_S (S ||| T) (fun i => P i ∨ bt T i = true) := by
  intro i hi
  rw [b_or, Bool.or_eq_true, h i hi]
section
variable {c : Nat} {kn : Int32} {lf rg al am go wo de : Nat → Int32}
theorem gv_N_lt (C : gv_C c lf rg go) : ∀ q x, gv_N c lf rg q x = true → x < q := by
  intro q x h
  unfold gv_N at h
  rw [Bool.and_eq_true, decide_eq_true_eq, b_or, Bool.or_eq_true] at h
  rcases h.2 with k | k
  · exact C.2.2.2.1 q x h.1 k
  · exact C.2.2.2.2 q x h.1 k
theorem gv_N_t {q x : Nat} (hq : q < c) : gv_N c lf rg q x = bt (lf q ||| rg q) x := by
  unfold gv_N
  rw [decide_eq_true hq, Bool.true_and]
theorem gv_e32 {post : Int32 → Prop} {J : Int32 → Int32 → Int32 → Prop} {S : Int32} {m k : Nat} (hc : c ≤ 10)
    (hJ : ∀ S', gv_S S' (fun i => ∃ q, q < c ∧ bt S q = true ∧ bt (lf q ||| rg q) i = true) → (S' = 0 → J S' (nI m) (nI (k + 1))) ∧ (¬ S' = 0 → J S' (nI (m + 1)) (nI (k + 1)))) :
    ∀ n j S', j ≤ c → c - j < n → gv_S S' (fun i => ∃ q, q < j ∧ bt S q = true ∧ bt (lf q ||| rg q) i = true) → wX_depth_32 post J S (nI m) (nI k) (nI c) kn lf rg al am n S' (nI j) := by
  intro n
  induction n with
  | zero => intro j S' _ h; omega
  | succ n ih =>
    intro j S' hj hn hS
    by_cases e : j = c
    · subst e
      have := hJ S' hS
      exact br_t (nI_le (Nat.le_refl _) (by omega)) (br_c (fun z => nm_r (Int32.add_zero _) (nm_r (nI_1 k) (this.1 z))) (fun z => nm_r (nI_1 m) (nm_r (nI_1 k) (this.2 z))))
    · refine br_f (nI_ge (by omega) (by omega)) (gv_inX (by omega) (gv_bz (fun z => nm_e (nm_r (nI_1 j) (ih (j + 1) _ (by omega) (by omega) ?_))) (fun z => ⟨vp_in_nI (by omega) (by omega), vp_in_nI (by omega) (by omega), nm_e (nm_r (nI_1 j) (ih (j + 1) _ (by omega) (by omega) ?_))⟩)))
      · refine gv_S_m (gv_S_or0 hS) fun i => ⟨?_, ?_⟩
        · rintro ⟨q, hq, h⟩
          exact ⟨q, by omega, h⟩
        · rintro ⟨q, hq, h⟩
          by_cases eq : q = j
          · subst eq
            rw [z] at h
            exact absurd h.1 (by decide)
          · exact ⟨q, by omega, h⟩
      · rw [nI_clamp (by omega)]
        refine gv_S_m (gv_S_or hS) fun i => ⟨?_, ?_⟩
        · rintro (⟨q, hq, h⟩ | h)
          · exact ⟨q, by omega, h⟩
          · exact ⟨j, by omega, z, h⟩
        · rintro ⟨q, hq, h⟩
          by_cases eq : q = j
          · subst eq
            exact Or.inr h.2
          · exact Or.inl ⟨q, by omega, h⟩
theorem gv_e19X {post : Int32 → Prop} {p : Nat} (C : gv_C c lf rg go) (hp : p < c) (hpost : ∀ m, gv_dep (gv_N c lf rg) p m → post (nI m)) :
    ∀ n k m S, k ≤ 10 → 10 - k < n → m ≤ k → (∀ j, j ≤ k → (gv_P (gv_N c lf rg) j p ↔ j ≤ m)) → gv_S S (gv_R (gv_N c lf rg) k p) → wX_depth_19 post (nI c) kn lf rg al am n S (nI m) (nI k) := by
  have hc := C.2.1
  have hN := gv_N_lt C
  intro n
  induction n with
  | zero => intro k m S _ h; omega
  | succ n ih =>
    intro k m S hk hn hm hP hS
    by_cases e : k = 10
    · subst e
      refine br_t (nI_le (a := 10) (b := 10) (by omega) (by omega)) (hpost m fun j => ?_)
      by_cases hj : j ≤ 10
      · exact hP j hj
      · constructor
        · intro h
          have := gv_P_le hN h
          omega
        · intro h
          omega
    · refine br_f (nI_ge (a := k) (b := 10) (by omega) (by omega)) ⟨c + 1, gv_e32 hc (fun S' hS' => ?_) (c + 1) 0 0 (by omega) (by omega) (gv_S_0 fun i h => ?_)⟩
      · have hR : gv_S S' (gv_R (gv_N c lf rg) (k + 1) p) := by
          refine gv_S_m hS' fun i => ⟨?_, ?_⟩
          · rintro ⟨q, hq, h1, h2⟩
            exact ⟨q, (hS q (by omega)).mp h1, by rw [gv_N_t hq]; exact h2⟩
          · rintro ⟨q, h1, h2⟩
            have hq := gv_R_le hN k p q h1
            have hqc : q < c := by omega
            rw [gv_N_t hqc] at h2
            exact ⟨q, hqc, (hS q (by omega)).mpr h1, h2⟩
        constructor
        · intro z
          refine ih (k + 1) m S' (by omega) (by omega) (by omega) (fun j hj => ?_) hR
          by_cases ej : j = k + 1
          · subst ej
            constructor
            · rintro ⟨i, hi⟩
              have := gv_R_le hN _ _ _ hi
              have hb := (hR i (by omega)).mpr hi
              rw [z, b_0] at hb
              exact absurd hb (by decide)
            · intro h
              omega
          · exact hP j (by omega)
        · intro z
          have hex : gv_P (gv_N c lf rg) (k + 1) p := by
            rcases Classical.em (gv_P (gv_N c lf rg) (k + 1) p) with h | h
            · exact h
            · refine absurd ?_ z
              exact gv_S_ext hR (gv_S_0 fun i hi => h ⟨i, hi⟩)
          have hPk : gv_P (gv_N c lf rg) k p := by
            obtain ⟨i, q, hq, _⟩ := hex
            exact ⟨q, hq⟩
          have hmk := (hP k (Nat.le_refl _)).mp hPk
          refine ih (k + 1) (m + 1) S' (by omega) (by omega) (by omega) (fun j hj => ?_) hR
          by_cases ej : j = k + 1
          · subst ej
            exact ⟨fun _ => by omega, fun _ => hex⟩
          · exact ⟨fun _ => by omega, fun _ => (hP j (by omega)).mpr (by omega)⟩
      · obtain ⟨q, hq, _⟩ := h
        omega
theorem gv_dX {post : Int32 → Prop} {p : Nat} (C : gv_C c lf rg go) (hp : p < c) (hpost : ∀ m, gv_dep (gv_N c lf rg) p m → post (nI m)) : wpX_depth post (nI c, kn, lf, rg, al, am) (nI p) := by
  have hc := C.2.1
  have hh := gv_h_nI hc hp
  unfold wpX_depth
  dsimp only
  refine gv_hX (gv_bz (fun k => by rw [hh] at k; exact absurd k (by decide)) (fun _ => nm_e ⟨11, gv_e19X C hp hpost 11 0 0 _ (by omega) (by omega) (by omega) (fun j hj => ?_) (fun i hi => ?_)⟩))
  · have : j = 0 := by omega
    subst this
    exact ⟨fun _ => by omega, fun _ => ⟨p, rfl⟩⟩
  · rw [gv_shl p (by omega) hi, decide_eq_true_eq]
    exact Iff.rfl
theorem gv_e19Y {post : Int32 → SY → Prop} {J : Int32 → (Nat → Int32) → (Nat → Int32) → (Nat → Int32) → Prop} {x1 : Int32} {q : Nat} (C : gv_C c lf rg go) (hq : q < c)
    (hJ : ∀ de, (∀ q', q' < q + 1 → ∃ d, de q' = nI d ∧ gv_dep (gv_N c lf rg) q' d) → J (nI (q + 1)) go wo de) :
    ∀ n x m de, x ≤ q → q - x < n → de q = nI m → m ≤ x → (∀ k, (∃ x', x' < x ∧ gv_N c lf rg q x' = true ∧ gv_P (gv_N c lf rg) k x') ↔ k < m) → (∀ q', q' < q → ∃ d, de q' = nI d ∧ gv_dep (gv_N c lf rg) q' d) → wY_depth_19 post J x1 (nI q) (nI c) n (nI x) go wo de := by
  have hc := C.2.1
  have hN := gv_N_lt C
  intro n
  induction n with
  | zero => intro x m de _ h; omega
  | succ n ih =>
    intro x m de hx hn em hm hk hde
    by_cases e : x = q
    · refine br_t (nI_le (by omega) (by omega)) (nm_r (nI_1 q) (hJ de fun q' hq' => ?_))
      by_cases e2 : q' = q
      · rw [e2]
        refine ⟨m, em, fun k => ?_⟩
        cases k with
        | zero => exact ⟨fun _ => by omega, fun _ => ⟨q, rfl⟩⟩
        | succ k =>
          rw [gv_P_s]
          constructor
          · rintro ⟨x', h1, h2⟩
            have := hN q x' h1
            exact (hk k).mp ⟨x', by omega, h1, h2⟩
          · intro h
            obtain ⟨x', _, h1, h2⟩ := (hk k).mpr h
            exact ⟨x', h1, h2⟩
      · exact hde q' (by omega)
    · have hxq : x < q := by omega
      obtain ⟨d, ed, hd⟩ := hde x hxq
      have hdx : d ≤ x := gv_P_le hN ((hd d).mpr (Nat.le_refl _))
      have i1 : 2 * nI q = nI (2 * q) := by
        show nI 2 * nI q = _
        rw [pk_mul]
      have vq : vp_in (nI q) 10 := vp_in_nI (by omega) (by omega)
      have vx : vp_in (nI x) 10 := vp_in_nI (by omega) (by omega)
      have hup : ∀ v, ∀ q', q' < q → ∃ d, (upd de q v) q' = nI d ∧ gv_dep (gv_N c lf rg) q' d := by
        intro v q' hq'
        rw [pk_un (by omega)]
        exact hde q' hq'
      refine br_f (nI_ge hxq (by omega)) ?_
      rw [i1, nI_1 (2 * q), nI_clamp (n := 2 * q) (by omega), nI_clamp (n := 2 * q + 1) (by omega), (C.2.2.1 q hq).1, (C.2.2.1 q hq).2]
      refine ⟨vp_in_nI (by omega) (by omega), vp_in_nI (by omega) (by omega), gv_by (by omega) (fun eb => ?_) (fun eb => ?_)⟩
      · have eN : gv_N c lf rg q x = true := by rw [gv_N_t hq]; exact eb
        unfold wY_depth_56
        rw [nI_clamp (n := q) (by omega), nI_clamp (n := x) (by omega), ed, em, nI_1 d]
        refine br_f (by decide) ⟨vx, vq, pk_le (d + 1) m (fun k => ⟨vq, vq, nm_e (nm_r (nI_1 x) (ih (x + 1) m _ (by omega) (by omega) pk_us (by omega) (fun j => ?_) (hup _)))⟩) (fun k => ⟨vx, vq, nm_e (nm_r (nI_1 x) (ih (x + 1) (d + 1) _ (by omega) (by omega) pk_us (by omega) (fun j => ?_) (hup _)))⟩)⟩
        · constructor
          · rintro ⟨x', h0, h1, h2⟩
            by_cases e2 : x' = x
            · subst e2
              have := (hd j).mp h2
              omega
            · exact (hk j).mp ⟨x', by omega, h1, h2⟩
          · intro h
            obtain ⟨x', h0, h1, h2⟩ := (hk j).mpr h
            exact ⟨x', by omega, h1, h2⟩
        · constructor
          · rintro ⟨x', h0, h1, h2⟩
            by_cases e2 : x' = x
            · subst e2
              have := (hd j).mp h2
              omega
            · have := (hk j).mp ⟨x', by omega, h1, h2⟩
              omega
          · intro h
            exact ⟨x, by omega, eN, (hd j).mpr (by omega)⟩
      · have eN : gv_N c lf rg q x = false := by rw [gv_N_t hq]; exact eb
        unfold wY_depth_56
        rw [nI_clamp (n := q) (by omega), em]
        refine br_t rfl ⟨vq, vq, nm_e (nm_r (nI_1 x) (ih (x + 1) m _ (by omega) (by omega) pk_us (by omega) (fun j => ?_) (hup _)))⟩
        constructor
        · rintro ⟨x', h0, h1, h2⟩
          by_cases e2 : x' = x
          · subst e2
            rw [eN] at h1
            exact absurd h1 (by decide)
          · exact (hk j).mp ⟨x', by omega, h1, h2⟩
        · intro h
          obtain ⟨x', h0, h1, h2⟩ := (hk j).mpr h
          exact ⟨x', by omega, h1, h2⟩
theorem gv_e2Y {post : Int32 → SY → Prop} {v1 : Int32} (C : gv_C c lf rg go)
    (hb : gv_h c v1 = false → ∀ de, post (-1) (nI c, go, wo, de)) (hg : ∀ p d, p < c → v1 = nI p → gv_dep (gv_N c lf rg) p d → ∀ de, post (nI d) (nI c, go, wo, de)) :
    ∀ n j de, j ≤ c → c - j < n → (∀ q', q' < j → ∃ d, de q' = nI d ∧ gv_dep (gv_N c lf rg) q' d) → wY_depth_2 post v1 (nI c) n (nI j) go wo de := by
  have hc := C.2.1
  intro n
  induction n with
  | zero => intro j de _ h; omega
  | succ n ih =>
    intro j de hj hn hde
    by_cases e : j = c
    · subst e
      refine br_t (nI_le (Nat.le_refl _) (by omega)) (gv_hY (gv_bz (fun e1 => hb e1 de) (fun e1 => ?_)))
      obtain ⟨p, hp, rfl⟩ := gv_h_of hc e1
      obtain ⟨d, ed, hd⟩ := hde p hp
      refine ⟨vp_in_nI (by omega) (by omega), ?_⟩
      rw [nI_clamp (by omega), ed]
      exact hg p d hp rfl hd de
    · refine br_f (nI_ge (by omega) (by omega)) ⟨vp_in_nI (by omega) (by omega), nm_r (e' := upd de j 0) ?_ ⟨j + 1, gv_e19Y C (by omega) (fun de' h => ih (j + 1) de' (by omega) (by omega) h) (j + 1) 0 0 _ (by omega) (by omega) pk_us (by omega) (fun k => ?_) (fun q' hq' => ?_)⟩⟩
      · rw [nI_clamp (by omega)]
      · constructor
        · rintro ⟨x', h0, _⟩
          omega
        · intro h
          omega
      · rw [pk_un (by omega)]
        exact hde q' hq'
end
end
section
/-! sets of positions as ints; adding, dropping, moves, dominated moves -/
def gv_is (c : Nat) (v : Int32) : Bool := decide (v.toBitVec.toNat < 2 ^ c)
theorem gv_pw {c : Nat} (hc : c ≤ 10) : 2 ^ c ≤ 1024 := Nat.le_trans (Nat.pow_le_pow_right (by decide) hc) (by decide)
theorem gv_1shl {c : Nat} (hc : c ≤ 10) : (1 : Int32) <<< (nI c &&& 31) = nI (2 ^ c) := by
  have h := gv_pw hc
  have e := pk_shlN (n := 1) (nI c &&& 31) c (s_l c (by omega)) (by omega)
  rw [Nat.one_mul] at e
  exact e
theorem gv_is_of {c : Nat} (hc : c ≤ 10) {v : Int32} (h : gv_is c v = true) : ∃ m, m < 2 ^ c ∧ v = nI m := by
  unfold gv_is at h
  rw [decide_eq_true_eq] at h
  refine ⟨v.toBitVec.toNat, h, ?_⟩
  apply Int32.toBitVec_inj.mp
  apply BitVec.eq_of_toNat_eq
  have := gv_pw hc
  rw [pk_tn (by omega)]
theorem gv_is_b {c : Nat} {v : Int32} (h : gv_is c v = true) {x : Nat} (hx : bt v x = true) : x < c := by
  unfold gv_is at h
  rw [decide_eq_true_eq] at h
  rcases Nat.lt_or_ge x c with k | k
  · exact k
  · have e : v.toBitVec.toNat.testBit x = false := Nat.testBit_lt_two_pow (Nat.lt_of_lt_of_le h (Nat.pow_le_pow_right (by decide) k))
    have e2 : v.toBitVec.toNat.testBit x = true := hx
    rw [e] at e2
    exact absurd e2 (by decide)
theorem gv_mask {c : Nat} (hc : c ≤ 10) {i : Nat} (hi : i < 32) : bt (nI (2 ^ c - 1)) i = decide (i < c) := by
  show (BitVec.ofNat 32 (2 ^ c - 1)).getLsbD i = _
  rw [BitVec.getLsbD_ofNat, Nat.testBit_two_pow_sub_one, decide_eq_true hi, Bool.true_and]
theorem gv_isY {c : Nat} (hc : c ≤ 10) (v : Int32) : (v &&& (((1 : Int32) <<< (nI c &&& 31)) - 1 ^^^ (-1))) = 0 ↔ gv_is c v = true := by
  have hp : 0 < 2 ^ c := Nat.two_pow_pos c
  have e1 : ((1 : Int32) <<< (nI c &&& 31)) - 1 = nI (2 ^ c - 1) := by
    rw [gv_1shl hc]
    exact pk_sub (b := 1) hp
  rw [e1]
  have hb : ∀ i, i < 32 → bt (v &&& (nI (2 ^ c - 1) ^^^ (-1))) i = (bt v i && !decide (i < c)) := by
    intro i hi
    rw [b_and, b_xor, gv_mask hc hi, b_m1 i hi, Bool.xor_true]
  constructor
  · intro h
    unfold gv_is
    rw [decide_eq_true_eq]
    refine Nat.lt_pow_two_of_testBit _ (fun i hi => ?_)
    show bt v i = false
    rcases Nat.lt_or_ge i 32 with k | k
    · have := hb i k
      rw [h, b_0, decide_eq_false (by omega), Bool.not_false, Bool.and_true] at this
      exact this.symm
    · exact b_big k
  · intro h
    apply b_ext
    intro i hi
    rw [hb i hi, b_0]
    cases k : bt v i
    · rfl
    · rw [decide_eq_true (gv_is_b h k)]; rfl
section
variable {c : Nat} {kn : Int32} {lf rg al am go wo de : Nat → Int32}
theorem gv_isX {post : Int32 → Prop} {v : Int32} (hc : c ≤ 10) (h : post (gv_z (gv_is c v))) : wpX_isSet post (nI c, kn, lf, rg, al, am) v := by
  have hp := gv_pw hc
  unfold wpX_isSet
  dsimp only
  rw [gv_1shl hc]
  by_cases a : v < 0
  · have e : gv_is c v = false := by
      cases k : gv_is c v
      · rfl
      · obtain ⟨m, hm, rfl⟩ := gv_is_of hc k
        exact absurd a (nI_pos (by omega))
    rw [e] at h
    exact br_t a h
  · refine br_f a ?_
    obtain ⟨j, hj, rfl⟩ := nI_of a
    have e : gv_is c (nI j) = decide (j < 2 ^ c) := by
      unfold gv_is
      rw [pk_tn (by omega)]
    refine pk_le (2 ^ c) j (fun k => ?_) (fun k => ?_)
    · rw [e, decide_eq_false (by omega)] at h; exact h
    · rw [e, decide_eq_true k] at h; exact h
theorem gv_short {v : Int32} (hc : c ≤ 10) (h : gv_is c v = true) : vp_nar .short v.toInt16.toInt32 = v := by
  have hp := gv_pw hc
  obtain ⟨m, hm, rfl⟩ := gv_is_of hc h
  have e : (nI m).toInt16.toInt32 = nI m := lg_i2s_small (by rw [nI_toInt (by omega)]; omega) (by rw [nI_toInt (by omega)]; omega)
  rw [vp_nar_short, e, e]
theorem gv_addX {post : Int32 → SX → Prop} {v1 v2 : Int32} (hc : c ≤ 10) (h1 : (gv_is c v1 && gv_is c v2) = false → post (-1) (nI c, kn, lf, rg, al, am)) (h2 : gv_is c v1 = true → gv_is c v2 = true → ¬ c < 10 → post (-2) (nI c, kn, lf, rg, al, am))
    (h3 : gv_is c v1 = true → gv_is c v2 = true → c < 10 → post (nI c) (nI (c + 1), 0, upd lf c v1, upd rg c v2, al, am)) : wpX_add post (nI c, kn, lf, rg, al, am) v1 v2 := by
  unfold wpX_add
  dsimp only
  refine gv_isX hc (gv_bz (fun e1 => h1 (by rw [e1]; rfl)) (fun e1 => gv_isX hc (gv_bz (fun e2 => h1 (by rw [e2, Bool.and_false])) (fun e2 => pk_lt c 10 (fun k => ?_) (fun k => h2 e1 e2 (by omega))))))
  rw [nI_clamp (by omega), gv_short hc e1, gv_short hc e2]
  refine ⟨vp_in_nI k (by omega), nm_e ⟨vp_in_nI k (by omega), nm_e (nm_r (nI_1 c) ?_)⟩⟩
  rw [nI_pred]
  exact h3 e1 e2 k
theorem gv_addY {post : Int32 → SY → Prop} {v1 v2 : Int32} (hc : c ≤ 10) (h1 : (gv_is c v1 && gv_is c v2) = false → post (-1) (nI c, go, wo, de)) (h2 : gv_is c v1 = true → gv_is c v2 = true → ¬ c < 10 → post (-2) (nI c, go, wo, de))
    (h3 : gv_is c v1 = true → gv_is c v2 = true → c < 10 → post (nI c) (nI (c + 1), upd (upd go (2 * c) v1) (2 * c + 1) v2, wo, de)) : wpY_add post (nI c, go, wo, de) v1 v2 := by
  have i1 : 2 * nI c = nI (2 * c) := by
    show nI 2 * nI c = _
    rw [pk_mul]
  unfold wpY_add
  dsimp only
  refine nm_e ?_
  rw [gv_isY hc v1, gv_isY hc v2]
  have f : ∀ {b : Bool}, ¬ b = true → b = false := fun {b} h => by cases b; rfl; exact absurd rfl h
  refine br_c (fun e1 => br_c (fun e2 => pk_lt c 10 (fun k => ?_) (fun k => h2 e1 e2 (by omega))) (fun e2 => h1 (by rw [f e2, Bool.and_false]))) (fun e1 => h1 (by rw [f e1]; rfl))
  rw [i1, nI_1 (2 * c), nI_clamp (n := 2 * c) (by omega), nI_clamp (n := 2 * c + 1) (by omega)]
  refine ⟨vp_in_nI (by omega) (by omega), nm_e ⟨vp_in_nI (by omega) (by omega), nm_e (nm_r (nI_1 c) ?_)⟩⟩
  rw [nI_pred]
  exact h3 e1 e2 k
theorem gv_C_add {v1 v2 : Int32} (C : gv_C c lf rg go) (h1 : gv_is c v1 = true) (h2 : gv_is c v2 = true) (hc : c < 10) : gv_C (c + 1) (upd lf c v1) (upd rg c v2) (upd (upd go (2 * c) v1) (2 * c + 1) v2) := by
  refine ⟨by omega, by omega, fun p hp => ?_, fun p x hp h => ?_, fun p x hp h => ?_⟩
  · by_cases e : p = c
    · subst e
      rw [pk_un (show 2 * p ≠ 2 * p + 1 by omega), pk_us, pk_us, pk_us, pk_us]
      exact ⟨rfl, rfl⟩
    · rw [pk_un (show 2 * p ≠ 2 * c + 1 by omega), pk_un (show 2 * p ≠ 2 * c by omega), pk_un (show 2 * p + 1 ≠ 2 * c + 1 by omega), pk_un (show 2 * p + 1 ≠ 2 * c by omega), pk_un (f := lf) e, pk_un (f := rg) e]
      exact C.2.2.1 p (by omega)
  · by_cases e : p = c
    · subst e
      rw [pk_us] at h
      exact gv_is_b h1 h
    · rw [pk_un e] at h
      exact C.2.2.2.1 p x (by omega) h
  · by_cases e : p = c
    · subst e
      rw [pk_us] at h
      exact gv_is_b h2 h
    · rw [pk_un e] at h
      exact C.2.2.2.2 p x (by omega) h
theorem gv_C_drop {c : Nat} (C : gv_C (c + 1) lf rg go) (hc : 1 ≤ c) : gv_C c lf rg go := by
  have := C.2.1
  exact ⟨hc, by omega, fun p hp => C.2.2.1 p (by omega), fun p x hp h => C.2.2.2.1 p x (by omega) h, fun p x hp h => C.2.2.2.2 p x (by omega) h⟩
/-! moves -/
def gv_mv (c : Nat) (lf rg : Nat → Int32) (v1 v2 : Int32) : Int32 := cond (gv_h c v1) (cond (decide (v2 = 0)) (lf v1.toNatClampNeg) (cond (decide (v2 = 1)) (rg v1.toNatClampNeg) (-1))) (-1)
theorem gv_mv1 {v1 v2 : Int32} (h : gv_h c v1 = false) : gv_mv c lf rg v1 v2 = -1 := by unfold gv_mv; rw [h]; rfl
theorem gv_mv2 {v1 v2 : Int32} (h0 : ¬ v2 = 0) (h1 : ¬ v2 = 1) : gv_mv c lf rg v1 v2 = -1 := by
  unfold gv_mv
  rw [decide_eq_false h0, decide_eq_false h1, cond_false, cond_false]
  cases gv_h c v1 <;> rfl
theorem gv_mvg {a : Nat} {s : Bool} (hc : c ≤ 10) (ha : a < c) : gv_mv c lf rg (nI a) (gv_z s) = cond s (rg a) (lf a) := by
  unfold gv_mv
  rw [gv_h_nI hc ha, nI_clamp (by omega)]
  cases s <;> rfl
theorem gv_mvX {post : Int32 → Prop} {v1 v2 : Int32} (hc : c ≤ 10) (h : post (gv_mv c lf rg v1 v2)) : wpX_moves post (nI c, kn, lf, rg, al, am) v1 v2 := by
  have k17 : ∀ (a : Nat) (s : Bool), a < c → v1 = nI a → v2 = gv_z s → wX_moves_17 post v1 v2 (nI c) kn lf rg al am := by
    rintro a s ha rfl rfl
    rw [gv_mvg hc ha] at h
    unfold wX_moves_17 wpX_movesOf
    dsimp only
    rw [nI_clamp (by omega)]
    refine gv_bz (fun e => ⟨vp_in_nI (by omega) (by omega), ?_⟩) (fun e => ⟨vp_in_nI (by omega) (by omega), ?_⟩)
    · rw [e] at h; exact h
    · rw [e] at h; exact h
  unfold wpX_moves
  dsimp only
  refine gv_hX (gv_bz (fun e => ?_) (fun e => ?_))
  · rw [gv_mv1 e] at h; exact h
  · obtain ⟨a, ha, ea⟩ := gv_h_of hc e
    refine br_c (fun k0 => k17 a false ha ea k0) (fun k0 => br_c (fun k1 => k17 a true ha ea k1) (fun k1 => ?_))
    rw [gv_mv2 k0 k1] at h; exact h
theorem gv_mvY {post : Int32 → Prop} {v1 v2 : Int32} (C : gv_C c lf rg go) (h : post (gv_mv c lf rg v1 v2)) : wpY_moves post (nI c, go, wo, de) v1 v2 := by
  have hc := C.2.1
  have k17 : ∀ (a : Nat) (s : Bool), a < c → v1 = nI a → v2 = gv_z s → wY_moves_17 post v1 v2 (nI c) go wo de := by
    rintro a s ha rfl rfl
    have hs := gv_toNat s
    rw [gv_mvg hc ha] at h
    unfold wY_moves_17
    rw [gv_i2, nI_clamp (by omega), gv_Cgo C ha s]
    exact ⟨vp_in_nI (by omega) (by omega), h⟩
  unfold wpY_moves
  dsimp only
  refine gv_hY (gv_bz (fun e => ?_) (fun e => ?_))
  · rw [gv_mv1 e] at h; exact h
  · obtain ⟨a, ha, ea⟩ := gv_h_of hc e
    refine br_c (fun k0 => k17 a false ha ea k0) (fun k0 => br_c (fun k1 => k17 a true ha ea k1) (fun k1 => ?_))
    rw [gv_mv2 k0 k1] at h; exact h
/-! dominated moves, the method -/
theorem gv_doX0 {post : Int32 → SX → Prop} {v1 v2 : Int32} (hc : c ≤ 10) (e : gv_mv c lf rg v1 v2 = -1) (h : post (-1) (nI c, kn, lf, rg, al, am)) : wpX_dominated post (nI c, kn, lf, rg, al, am) v1 v2 := by
  unfold wpX_dominated
  dsimp only
  refine gv_mvX hc ?_
  rw [e]
  exact br_f (by decide) h
theorem gv_doX1 {post : Int32 → SX → Prop} {a : Nat} {s : Bool} (C : gv_C c lf rg go) (K : gv_K c lf rg kn al am) (ha : a < c)
    (h : ∀ S kn al am, gv_K c lf rg kn al am → gv_S S (fun i => ∃ y', gv_D (cond s (rg a) (lf a)) (gv_ag (gv_V (gv_M c lf rg)) s) i y' = true) → post S (nI c, kn, lf, rg, al, am)) : wpX_dominated post (nI c, kn, lf, rg, al, am) (nI a) (gv_z s) := by
  have hc := C.2.1
  have hall : ∀ i, bt (cond s (rg a) (lf a)) i = true → i < c := fun i hi => Nat.lt_trans (gv_Cb C ha hi) ha
  unfold wpX_dominated
  dsimp only
  refine gv_mvX hc ?_
  rw [gv_mvg hc ha]
  refine br_t (gv_nn fun i hi => ?_) (gv_learn C K (fun al' am' T => ⟨c + 1, gv_d23 hc T hall (fun S hS => h S 1 al' am' (Or.inr ⟨rfl, T⟩) hS) (c + 1) 0 0 (by omega) (by omega) (gv_S_0 fun i hi => ?_)⟩))
  · have := hall i hi
    omega
  · obtain ⟨y', _, hi⟩ := hi
    omega
theorem gv_doY0 {post : Int32 → SY → Prop} {v1 v2 : Int32} (hbad : gv_h c v1 = false ∨ (¬ v2 = 0 ∧ ¬ v2 = 1)) (h : post (-1) (nI c, go, wo, de)) : wpY_dominated post (nI c, go, wo, de) v1 v2 := by
  unfold wpY_dominated
  dsimp only
  refine gv_hY (gv_bz (fun e => h) (fun e => ?_))
  rcases hbad with k | k
  · rw [k] at e
    exact absurd e (by decide)
  · exact br_f k.1 (br_f k.2 h)
theorem gv_doY1 {post : Int32 → SY → Prop} {a : Nat} {s : Bool} (C : gv_C c lf rg go) (ha : a < c)
    (h : ∀ S wo, gv_S S (fun i => ∃ y', gv_D (cond s (rg a) (lf a)) (gv_ag (gv_V (gv_M c lf rg)) s) i y' = true) → post S (nI c, go, wo, de)) : wpY_dominated post (nI c, go, wo, de) (nI a) (gv_z s) := by
  have hc := C.2.1
  have hs := gv_toNat s
  have hh := gv_h_nI hc ha
  have hall : ∀ i, bt (cond s (rg a) (lf a)) i = true → i < c := fun i hi => Nat.lt_trans (gv_Cb C ha hi) ha
  have k19 : wY_dominated_19 post (nI a) (gv_z s) (nI c) go wo de := by
    unfold wY_dominated_19
    rw [gv_i2]
    refine gv_work C (fun wo' U => ⟨vp_in_nI (by omega) (by omega), nm_r (e' := cond s (rg a) (lf a)) ?_ ⟨101, gv_d40 hc U hall (fun S hS => h S wo' hS) 101 0 0 (by omega) (by omega) (gv_S_0 fun i hi => ?_)⟩⟩)
    · rw [nI_clamp (by omega)]; exact gv_Cgo C ha s
    · obtain ⟨y', _, hi⟩ := hi
      omega
  unfold wpY_dominated
  dsimp only
  refine gv_hY (gv_bz (fun e => by rw [hh] at e; exact absurd e (by decide)) (fun _ => ?_))
  cases s
  · exact br_t rfl k19
  · exact br_f (by decide) (br_t rfl k19)
end
end
section
/-! what is owed -/
def i_Rel (k : Nat) (u : SX) (v : SY) : Prop := ∃ (c : Nat) (kn : Int32) (lf rg al am go wo de : Nat → Int32), u = (nI c, kn, lf, rg, al, am) ∧ v = (nI c, go, wo, de) ∧ gv_C c lf rg go ∧ gv_K c lf rg kn al am
theorem i_up {k : Nat} {u : SX} {v : SY} (h : i_Rel k u v) : i_Rel (k + 4) u v := h
theorem gv_mk {k c : Nat} {kn : Int32} {lf rg al am go wo de : Nat → Int32} (C : gv_C c lf rg go) (K : gv_K c lf rg kn al am) : i_Rel k (nI c, kn, lf, rg, al, am) (nI c, go, wo, de) := ⟨c, kn, lf, rg, al, am, go, wo, de, rfl, rfl, C, K⟩
theorem i_vc0 : wpX_init (fun u => wpY_init (fun v => i_Rel 0 u v)) := by
  refine ⟨1, 0, (fun _ => 0), (fun _ => 0), (fun _ => 0), (fun _ => 0), (fun _ => 0), (fun _ => 0), (fun _ => 0), rfl, rfl, ⟨by omega, by omega, fun p hp => ⟨rfl, rfl⟩, fun p x hp h => ?_, fun p x hp h => ?_⟩, Or.inl rfl⟩
  · have h' : bt 0 x = true := h
    rw [b_0] at h'
    exact absurd h' (by decide)
  · have h' : bt 0 x = true := h
    rw [b_0] at h'
    exact absurd h' (by decide)
theorem i_vc_add {k : Nat} {u : SX} {v : SY} (I : i_Rel k u v) (hk : k + 4 ≤ 2048) (v1 : Int32) (v2 : Int32) : wpX_add (fun r u' => wpY_add (fun r' v' => r' = r ∧ i_Rel (k + 4) u' v') v v1 v2) u v1 v2 := by
  obtain ⟨c, kn, lf, rg, al, am, go, wo, de, rfl, rfl, C, K⟩ := I
  have hc := C.2.1
  refine gv_addX hc (fun e => ?_) (fun e1 e2 e3 => ?_) (fun e1 e2 e3 => ?_)
  · refine gv_addY hc (fun _ => ⟨rfl, gv_mk C K⟩) (fun e1 e2 _ => ?_) (fun e1 e2 _ => ?_)
    · rw [e1, e2] at e; exact absurd e (by decide)
    · rw [e1, e2] at e; exact absurd e (by decide)
  · refine gv_addY hc (fun e => ?_) (fun _ _ _ => ⟨rfl, gv_mk C K⟩) (fun _ _ e => absurd e e3)
    rw [e1, e2] at e; exact absurd e (by decide)
  · refine gv_addY hc (fun e => ?_) (fun _ _ e => absurd e3 e) (fun _ _ _ => ⟨rfl, gv_mk (gv_C_add C e1 e2 e3) (Or.inl rfl)⟩)
    rw [e1, e2] at e; exact absurd e (by decide)
theorem i_vc_drop {k : Nat} {u : SX} {v : SY} (I : i_Rel k u v) (hk : k + 4 ≤ 2048) : wpX_drop (fun r u' => wpY_drop (fun r' v' => r' = r ∧ i_Rel (k + 4) u' v') v) u := by
  obtain ⟨c, kn, lf, rg, al, am, go, wo, de, rfl, rfl, C, K⟩ := I
  have hc := C.2.1
  have hc1 := C.1
  by_cases e : c = 1
  · subst e
    exact br_t rfl (br_t rfl ⟨rfl, gv_mk C K⟩)
  · obtain ⟨d, rfl⟩ : ∃ d, c = d + 1 := ⟨c - 1, by omega⟩
    have hn : ¬ nI (d + 1) = 1 := fun h => e ((nI_eq (b := 1) (by omega) (by omega)).mp h)
    exact br_f hn (nm_r (nI_pred d) (br_f hn (nm_r (nI_pred d) ⟨rfl, gv_mk (gv_C_drop C (by omega)) (Or.inl rfl)⟩)))
theorem i_vc_positions {k : Nat} {u : SX} {v : SY} (I : i_Rel k u v) (hk : k + 4 ≤ 2048) : wpX_positions (fun r => wpY_positions (fun r' => r' = r ∧ i_Rel (k + 4) u v) v) u := by
  obtain ⟨c, kn, lf, rg, al, am, go, wo, de, rfl, rfl, C, K⟩ := I
  exact ⟨rfl, gv_mk C K⟩
theorem i_vc_moves {k : Nat} {u : SX} {v : SY} (I : i_Rel k u v) (hk : k + 4 ≤ 2048) (v1 : Int32) (v2 : Int32) : wpX_moves (fun r => wpY_moves (fun r' => r' = r ∧ i_Rel (k + 4) u v) v v1 v2) u v1 v2 := by
  obtain ⟨c, kn, lf, rg, al, am, go, wo, de, rfl, rfl, C, K⟩ := I
  exact gv_mvX C.2.1 (gv_mvY C ⟨rfl, gv_mk C K⟩)
theorem i_vc_compare {k : Nat} {u : SX} {v : SY} (I : i_Rel k u v) (hk : k + 4 ≤ 2048) (v1 : Int32) (v2 : Int32) : wpX_compare (fun r u' => wpY_compare (fun r' v' => r' = r ∧ i_Rel (k + 4) u' v') v v1 v2) u v1 v2 := by
  obtain ⟨c, kn, lf, rg, al, am, go, wo, de, rfl, rfl, C, K⟩ := I
  unfold wpX_compare
  dsimp only
  exact gv_csX C K (fun kn al am K => gv_cmY C (fun wo => ⟨rfl, gv_mk C K⟩))
theorem i_vc_winsSum {k : Nat} {u : SX} {v : SY} (I : i_Rel k u v) (hk : k + 4 ≤ 2048) (v1 : Int32) (v2 : Int32) (v3 : Int32) : wpX_winsSum (fun r u' => wpY_winsSum (fun r' v' => r' = r ∧ i_Rel (k + 4) u' v') v v1 v2 v3) u v1 v2 v3 := by
  obtain ⟨c, kn, lf, rg, al, am, go, wo, de, rfl, rfl, C, K⟩ := I
  exact gv_wsX C K (fun kn al am K => gv_wsY C (fun wo => ⟨rfl, gv_mk C K⟩))
theorem i_vc_wins {k : Nat} {u : SX} {v : SY} (I : i_Rel k u v) (hk : k + 4 ≤ 2048) (v1 : Int32) (v2 : Int32) : wpX_wins (fun r u' => wpY_wins (fun r' v' => r' = r ∧ i_Rel (k + 4) u' v') v v1 v2) u v1 v2 := by
  obtain ⟨c, kn, lf, rg, al, am, go, wo, de, rfl, rfl, C, K⟩ := I
  unfold wpX_wins wpY_wins
  dsimp only
  exact gv_wsX C K (fun kn al am K => ⟨gv_nz _, gv_wsY C (fun wo => ⟨gv_nz _, rfl, gv_mk C K⟩)⟩)
theorem i_vc_compareSum {k : Nat} {u : SX} {v : SY} (I : i_Rel k u v) (hk : k + 4 ≤ 2048) (v1 : Int32) (v2 : Int32) (v3 : Int32) : wpX_compareSum (fun r u' => wpY_compareSum (fun r' v' => r' = r ∧ i_Rel (k + 4) u' v') v v1 v2 v3) u v1 v2 v3 := by
  obtain ⟨c, kn, lf, rg, al, am, go, wo, de, rfl, rfl, C, K⟩ := I
  exact gv_csX C K (fun kn al am K => gv_csY C (fun wo => ⟨rfl, gv_mk C K⟩))
theorem gv_side {v : Int32} (h : v = 0 ∨ v = 1) : ∃ s : Bool, v = gv_z s := by
  rcases h with h | h
  · exact ⟨false, h⟩
  · exact ⟨true, h⟩
theorem i_vc_dominated {k : Nat} {u : SX} {v : SY} (I : i_Rel k u v) (hk : k + 4 ≤ 2048) (v1 : Int32) (v2 : Int32) : wpX_dominated (fun r u' => wpY_dominated (fun r' v' => r' = r ∧ i_Rel (k + 4) u' v') v v1 v2) u v1 v2 := by
  obtain ⟨c, kn, lf, rg, al, am, go, wo, de, rfl, rfl, C, K⟩ := I
  have hc := C.2.1
  cases e1 : gv_h c v1
  · exact gv_doX0 hc (gv_mv1 e1) (gv_doY0 (Or.inl e1) ⟨rfl, gv_mk C K⟩)
  · by_cases h : v2 = 0 ∨ v2 = 1
    · obtain ⟨s, rfl⟩ := gv_side h
      obtain ⟨a, ha, rfl⟩ := gv_h_of hc e1
      exact gv_doX1 C K ha (fun S kn al am K hS => gv_doY1 C ha (fun S' wo hS' => ⟨gv_S_ext hS' hS, gv_mk C K⟩))
    · have h0 : ¬ v2 = 0 := fun z => h (Or.inl z)
      have h1 : ¬ v2 = 1 := fun z => h (Or.inr z)
      exact gv_doX0 hc (gv_mv2 h0 h1) (gv_doY0 (Or.inr ⟨h0, h1⟩) ⟨rfl, gv_mk C K⟩)
theorem i_vc_first {k : Nat} {u : SX} {v : SY} (I : i_Rel k u v) (hk : k + 4 ≤ 2048) (v1 : Int32) : wpX_first (fun r u' => wpY_first (fun r' v' => r' = r ∧ i_Rel (k + 4) u' v') v v1) u v1 := by
  obtain ⟨c, kn, lf, rg, al, am, go, wo, de, rfl, rfl, C, K⟩ := I
  have hc := C.2.1
  have hc1 := C.1
  cases e1 : gv_h c v1
  · unfold wpX_first
    dsimp only
    refine gv_hX (gv_bz (fun _ => ⟨1, ?_⟩) (fun z => ?_))
    · exact br_f (nI_ge (a := 0) (b := c) (by omega) (by omega)) (gv_hY (gv_bz (fun _ => ⟨rfl, gv_mk C K⟩) (fun z => by rw [e1] at z; exact absurd z (by decide))))
    · rw [e1] at z; exact absurd z (by decide)
  · obtain ⟨a, ha, rfl⟩ := gv_h_of hc e1
    obtain ⟨f, F⟩ := gv_First_ex (gv_CF C) a
    exact gv_fX C K ha F (fun kn al am K => gv_fY C ha F (fun wo => ⟨rfl, gv_mk C K⟩))
theorem i_vc_values {k : Nat} {u : SX} {v : SY} (I : i_Rel k u v) (hk : k + 4 ≤ 2048) : wpX_values (fun r u' => wpY_values (fun r' v' => r' = r ∧ i_Rel (k + 4) u' v') v) u := by
  obtain ⟨c, kn, lf, rg, al, am, go, wo, de, rfl, rfl, C, K⟩ := I
  have hF : ∀ p, gv_First (gv_V (gv_M c lf rg)) p (Classical.choose (gv_First_ex (gv_CF C) p)) := fun p => Classical.choose_spec (gv_First_ex (gv_CF C) p)
  exact ⟨c + 1, gv_vX C hF (fun kn al am K => ⟨c + 1, gv_vY C hF (fun wo => ⟨rfl, gv_mk C K⟩) (c + 1) 0 wo (by omega) (by omega)⟩) (c + 1) 0 kn al am (by omega) (by omega) K⟩
theorem i_vc_depth {k : Nat} {u : SX} {v : SY} (I : i_Rel k u v) (hk : k + 4 ≤ 2048) (v1 : Int32) : wpX_depth (fun r => wpY_depth (fun r' v' => r' = r ∧ i_Rel (k + 4) u v') v v1) u v1 := by
  obtain ⟨c, kn, lf, rg, al, am, go, wo, de, rfl, rfl, C, K⟩ := I
  have hc := C.2.1
  cases e1 : gv_h c v1
  · unfold wpX_depth
    dsimp only
    refine gv_hX (gv_bz (fun _ => ⟨c + 1, ?_⟩) (fun z => ?_))
    · refine gv_e2Y C (fun _ de => ⟨rfl, gv_mk C K⟩) (fun p d hp e _ de => ?_) (c + 1) 0 de (by omega) (by omega) (fun q h => absurd h (by omega))
      rw [e, gv_h_nI hc hp] at e1
      exact absurd e1 (by decide)
    · rw [e1] at z; exact absurd z (by decide)
  · obtain ⟨a, ha, rfl⟩ := gv_h_of hc e1
    refine gv_dX C ha (fun m hm => ⟨c + 1, ?_⟩)
    refine gv_e2Y C (fun z de => ?_) (fun p d hp e hd de => ?_) (c + 1) 0 de (by omega) (by omega) (fun q h => absurd h (by omega))
    · rw [e1] at z; exact absurd z (by decide)
    · have ep : a = p := (nI_eq (by omega) (by omega)).mp e
      subst ep
      exact ⟨congrArg nI (gv_dep_u hd hm), gv_mk C K⟩
theorem i_vc_above {k : Nat} {u : SX} {v : SY} (I : i_Rel k u v) (hk : k + 4 ≤ 2048) (v1 : Int32) : wpX_above (fun r u' => wpY_above (fun r' v' => r' = r ∧ i_Rel (k + 4) u' v') v v1) u v1 := by
  obtain ⟨c, kn, lf, rg, al, am, go, wo, de, rfl, rfl, C, K⟩ := I
  have hc := C.2.1
  have hc1 := C.1
  unfold wpX_above wpY_above
  dsimp only
  cases e1 : gv_h c v1
  · refine gv_hX (gv_bz (fun _ => ?_) (fun z => ?_))
    · refine gv_work C (fun wo' U => ⟨1, ?_⟩)
      refine br_f (nI_ge (a := 0) (b := c) (by omega) (by omega)) (gv_hY (gv_bz (fun _ => ?_) (fun z => by rw [e1] at z; exact absurd z (by decide))))
      unfold wY_above_49
      exact gv_hY (gv_bz (fun _ => ⟨rfl, gv_mk C K⟩) (fun z => by rw [e1] at z; exact absurd z (by decide)))
    · rw [e1] at z; exact absurd z (by decide)
  · obtain ⟨a, ha, rfl⟩ := gv_h_of hc e1
    refine gv_hX (gv_bz (fun z => by rw [e1] at z; exact absurd z (by decide)) (fun _ => gv_learn C K (fun al' am' T => ⟨c + 1, gv_abX hc ha T (fun S hS => gv_work C (fun wo' U => ⟨c + 1, gv_abY hc ha U (fun S' hS' => ⟨gv_S_ext hS' hS, gv_mk C (Or.inr ⟨rfl, T⟩)⟩) (c + 1) 0 0 (by omega) (by omega) (gv_S_0 fun i h => ?_)⟩)) (c + 1) 0 0 (by omega) (by omega) (gv_S_0 fun i h => ?_)⟩)))
    · omega
    · omega
theorem i_vc_opposite {k : Nat} {u : SX} {v : SY} (I : i_Rel k u v) (hk : k + 4 ≤ 2048) (v1 : Int32) (v2 : Int32) : wpX_opposite (fun r u' => wpY_opposite (fun r' v' => r' = r ∧ i_Rel (k + 4) u' v') v v1 v2) u v1 v2 := by
  obtain ⟨c, kn, lf, rg, al, am, go, wo, de, rfl, rfl, C, K⟩ := I
  unfold wpX_opposite
  dsimp only
  refine gv_csX C K (fun kn al am K => br_c (fun z => gv_opY C (fun wo => ⟨?_, gv_mk C K⟩)) (fun z => gv_opY C (fun wo => ⟨?_, gv_mk C K⟩)))
  · rw [decide_eq_true z]; rfl
  · rw [decide_eq_false z]; rfl
end
