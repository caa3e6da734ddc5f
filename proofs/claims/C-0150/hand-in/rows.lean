section
/-! rows of kit/rows (PURE-ROWS, BITS), pasted -/
theorem pk_us {f : Nat → Int32} {k : Nat} {x : Int32} : upd f k x k = x := if_pos rfl
theorem pk_un {f : Nat → Int32} {k j : Nat} {x : Int32} (h : j ≠ k) : upd f k x j = f j := if_neg h
theorem pk_sub {a b : Nat} (h : b ≤ a) : nI a - nI b = nI (a - b) := by
  obtain ⟨c, rfl⟩ : ∃ c, a = c + b := ⟨a - b, by omega⟩
  rw [← nI_add, Int32.add_sub_cancel, Nat.add_sub_cancel]
theorem pk_m1 (n : Nat) : nI (n + 1) + (-1) = nI n := by
  rw [← nI_1, Int32.add_assoc, show (1 : Int32) + (-1) = 0 from rfl, Int32.add_zero]
theorem pk_mul (a b : Nat) : nI a * nI b = nI (a * b) := (Int32.ofNat_mul a b).symm
theorem pk_div {a d : Nat} (ha : a < 2 ^ 31) (h0 : 0 < d) (hd : d < 2 ^ 31) : nI a / nI d = nI (a / d) := by
  apply Int32.toInt_inj.mp
  rw [lg_idiv_nonneg (by rw [nI_toInt ha]; omega) (by rw [nI_toInt hd]; omega), nI_toInt ha, nI_toInt hd, nI_toInt (Nat.lt_of_le_of_lt (Nat.div_le_self a d) ha)]
  first | rfl | exact (Int.natCast_ediv _ _).symm
theorem pk_rem {a d : Nat} (ha : a < 2 ^ 31) (h0 : 0 < d) (hd : d < 2 ^ 31) : nI a - nI a / nI d * nI d = nI (a % d) := by
  rw [pk_div ha h0 hd, pk_mul, pk_sub (Nat.div_mul_le_self a d)]
  exact congrArg nI (by have := Nat.div_add_mod' a d; omega)
theorem pk_sub_toInt {a b : Nat} (ha : a < 2 ^ 30) (hb : b < 2 ^ 30) : (nI a - nI b).toInt = (a : Int) - b := by
  rw [Int32.toInt_sub, nI_toInt (by omega), nI_toInt (by omega)]
  exact Int.bmod_eq_of_le (by omega) (by omega)
theorem pk_sneg {a b : Nat} (hb : b < 2 ^ 30) (h : a < b) : nI a - nI b < 0 := by
  rw [Int32.lt_iff_toInt_lt, pk_sub_toInt (by omega) hb, show (0 : Int32).toInt = 0 from by decide]
  omega
theorem pk_ix (x : Int32) {n : Nat} (hn : n < 2 ^ 31) : x < 0 ∨ nI n ≤ x ∨ ∃ j : Nat, j < n ∧ x = nI j := by
  by_cases h : x < 0
  · exact Or.inl h
  · obtain ⟨j, hj, rfl⟩ := nI_of h
    by_cases h2 : j < n
    · exact Or.inr (Or.inr ⟨j, h2, rfl⟩)
    · exact Or.inr (Or.inl (nI_le (by omega) hj))
theorem pk_le {x y : Int32} {A B : Prop} (a b : Nat) (f : a ≤ b → A) (g : b < a → B) (hx : x = nI a := by rfl) (hy : y = nI b := by rfl) (ha : a < 2 ^ 31 := by omega) (hb : b < 2 ^ 31 := by omega) : (x ≤ y → A) ∧ (¬ x ≤ y → B) := by
  subst hx hy
  rw [nI_leI ha hb]
  exact ⟨f, fun z => g (by omega)⟩
theorem pk_lt {x y : Int32} {A B : Prop} (a b : Nat) (f : a < b → A) (g : b ≤ a → B) (hx : x = nI a := by rfl) (hy : y = nI b := by rfl) (ha : a < 2 ^ 31 := by omega) (hb : b < 2 ^ 31 := by omega) : (x < y → A) ∧ (¬ x < y → B) := by
  subst hx hy
  rw [nI_ltI ha hb]
  exact ⟨f, fun z => g (by omega)⟩
theorem pk_eq {x y : Int32} {A B : Prop} (a b : Nat) (f : a = b → A) (g : a ≠ b → B) (hx : x = nI a := by rfl) (hy : y = nI b := by rfl) (ha : a < 2 ^ 31 := by omega) (hb : b < 2 ^ 31 := by omega) : (x = y → A) ∧ (¬ x = y → B) := by
  subst hx hy
  rw [nI_eq ha hb]
  exact ⟨f, g⟩
theorem pk_in {x : Int32} (n N : Nat) (h : n < N) (hx : x = nI n := by rfl) (hN : N < 2 ^ 31 := by omega) : vp_in x N := by
  subst hx
  exact vp_in_nI h hN
theorem pk_cl {x : Int32} (n : Nat) (hx : x = nI n := by rfl) (h : n < 2 ^ 31 := by omega) : x.toNatClampNeg = n := by
  subst hx
  exact nI_clamp h
theorem pk_tn {n : Nat} (h : n < 2 ^ 32) : (nI n).toBitVec.toNat = n := Nat.mod_eq_of_lt h
theorem pk_and (x : Int32) {m : Int32} (k : Nat) (hm : m.toBitVec.toNat = 2 ^ k - 1) : x &&& m = nI (x.toBitVec.toNat % 2 ^ k) := by
  apply Int32.toBitVec_inj.mp
  apply BitVec.eq_of_toNat_eq
  rw [Int32.toBitVec_and, BitVec.toNat_and, hm, Nat.and_two_pow_sub_one_eq_mod]
  show _ = (BitVec.ofNat 32 _).toNat
  rw [BitVec.toNat_ofNat]
  exact (Nat.mod_eq_of_lt (Nat.lt_of_le_of_lt (Nat.mod_le _ _) x.toBitVec.isLt)).symm
theorem pk_andN {n : Nat} (h : n < 2 ^ 32) {m : Int32} (k : Nat) (hm : m.toBitVec.toNat = 2 ^ k - 1) : nI n &&& m = nI (n % 2 ^ k) := by
  rw [pk_and _ k hm, pk_tn h]
theorem pk_andE (x : Int32) {m : Int32} (k : Nat) (hm : m.toBitVec.toNat = 2 ^ k - 1) : ∃ j : Nat, j < 2 ^ k ∧ x &&& m = nI j := ⟨_, Nat.mod_lt _ (Nat.two_pow_pos k), pk_and x k hm⟩
theorem pk_andIn (x : Int32) {m : Int32} (k : Nat) (hm : m.toBitVec.toNat = 2 ^ k - 1) (hk : k ≤ 30) : vp_in (x &&& m) (2 ^ k) := by
  obtain ⟨j, hj, e⟩ := pk_andE x k hm
  rw [e]
  exact vp_in_nI hj (Nat.lt_of_le_of_lt (Nat.pow_le_pow_right (by decide) hk) (by decide))
theorem pk_shl (a s : Int32) (k : Nat) (hs : (s.toBitVec.smod 32).toNat = k) : (a <<< s).toBitVec.toNat = a.toBitVec.toNat * 2 ^ k % 2 ^ 32 := by
  show (a.toBitVec <<< (s.toBitVec.smod 32).toNat).toNat = _
  rw [hs, BitVec.toNat_shiftLeft, Nat.shiftLeft_eq]
theorem pk_shlN {n : Nat} (s : Int32) (k : Nat) (hs : (s.toBitVec.smod 32).toNat = k) (h : n * 2 ^ k < 2 ^ 32) : nI n <<< s = nI (n * 2 ^ k) := by
  apply Int32.toBitVec_inj.mp
  apply BitVec.eq_of_toNat_eq
  have hn : n < 2 ^ 32 := Nat.lt_of_le_of_lt (Nat.le_mul_of_pos_right n (Nat.two_pow_pos k)) h
  rw [pk_shl _ _ k hs, pk_tn hn, pk_tn h, Nat.mod_eq_of_lt h]
theorem pk_shr (a s : Int32) (k : Nat) (hs : (s.toBitVec.smod 32).toNat = k) : (a >>> s).toInt = a.toInt >>> k := by
  show (a.toBitVec.sshiftRight (s.toBitVec.smod 32).toNat).toInt = _
  rw [hs, BitVec.toInt_sshiftRight]
  rfl
theorem pk_shrN {n : Nat} (h : n < 2 ^ 31) (s : Int32) (k : Nat) (hs : (s.toBitVec.smod 32).toNat = k) : nI n >>> s = nI (n / 2 ^ k) := by
  apply Int32.toInt_inj.mp
  have h2 : n / 2 ^ k ≤ n := Nat.div_le_self _ _
  rw [pk_shr _ _ k hs, nI_toInt h, nI_toInt (by omega), Int.shiftRight_eq_div_pow]
  rfl
/-! ===== Int32 by its bits: bt x i ===== -/
def bt (x : Int32) (i : Nat) : Bool := x.toBitVec.getLsbD i
theorem b_ext {x y : Int32} (h : ∀ i, i < 32 → bt x i = bt y i) : x = y := Int32.toBitVec_inj.mp (BitVec.eq_of_getLsbD_eq (fun i hi => h i hi))
theorem b_or (x y : Int32) (i : Nat) : bt (x ||| y) i = (bt x i || bt y i) := by unfold bt; rw [Int32.toBitVec_or, BitVec.getLsbD_or]
theorem b_and (x y : Int32) (i : Nat) : bt (x &&& y) i = (bt x i && bt y i) := by unfold bt; rw [Int32.toBitVec_and, BitVec.getLsbD_and]
theorem b_xor (x y : Int32) (i : Nat) : bt (x ^^^ y) i = (bt x i ^^ bt y i) := by unfold bt; rw [Int32.toBitVec_xor, BitVec.getLsbD_xor]
theorem b_big {x : Int32} {i : Nat} (h : 32 ≤ i) : bt x i = false := BitVec.getLsbD_of_ge _ _ h
theorem b_255 (i : Nat) : bt 255 i = decide (i < 8) := by
  rcases Nat.lt_or_ge i 32 with h | h
  · exact (by decide +kernel : ∀ i, i < 32 → bt 255 i = decide (i < 8)) i h
  · rw [b_big h, decide_eq_false (by omega)]
theorem b_65535 (i : Nat) : bt 65535 i = decide (i < 16) := by
  rcases Nat.lt_or_ge i 32 with h | h
  · exact (by decide +kernel : ∀ i, i < 32 → bt 65535 i = decide (i < 16)) i h
  · rw [b_big h, decide_eq_false (by omega)]
theorem b_m1 : ∀ i, i < 32 → bt (-1) i = true := by decide +kernel
theorem b_0 (i : Nat) : bt 0 i = false := BitVec.getLsbD_zero
theorem s_l : ∀ n, n < 32 → ((nI n &&& 31).toBitVec.smod 32).toNat = n := by decide +kernel
theorem s_u : ∀ n, n < 32 → (((nI n).toUInt32 &&& Int32.toUInt32 31).toBitVec % 32).toNat = n := by decide +kernel
theorem b_shl (n : Nat) (hn : n < 32) (x : Int32) {i : Nat} (hi : i < 32) : bt (x <<< (nI n &&& 31)) i = (decide (n ≤ i) && bt x (i - n)) := by
  unfold bt
  rw [Int32.toBitVec_shiftLeft]
  show (x.toBitVec <<< ((nI n &&& 31).toBitVec.smod 32).toNat).getLsbD i = _
  rw [s_l n hn, BitVec.getLsbD_shiftLeft]
  rcases Nat.lt_or_ge i n with h | h
  · simp [h, Nat.not_le.mpr h]
  · simp [hi, h, Nat.not_lt.mpr h]
theorem b_ushr (n : Nat) (hn : n < 32) (x : Int32) (i : Nat) : bt ((x.toUInt32 >>> ((nI n).toUInt32 &&& Int32.toUInt32 31)).toInt32) i = bt x (n + i) := by
  show (x.toUInt32 >>> ((nI n).toUInt32 &&& Int32.toUInt32 31)).toBitVec.getLsbD i = x.toUInt32.toBitVec.getLsbD (n + i)
  rw [UInt32.toBitVec_shiftRight]
  show (x.toUInt32.toBitVec >>> (((nI n).toUInt32 &&& Int32.toUInt32 31).toBitVec % 32).toNat).getLsbD i = _
  rw [s_u n hn, BitVec.getLsbD_ushiftRight]
theorem b_sshr (n : Nat) (hn : n < 32) (x : Int32) {i : Nat} (hi : i < 32) : bt (x >>> (nI n &&& 31)) i = if n + i < 32 then bt x (n + i) else bt x 31 := by
  unfold bt
  rw [Int32.toBitVec_shiftRight]
  show (x.toBitVec.sshiftRight ((nI n &&& 31).toBitVec.smod 32).toNat).getLsbD i = _
  rw [s_l n hn, BitVec.getLsbD_sshiftRight, BitVec.msb_eq_getLsbD_last]
  simp [hi]
theorem nx_xor (a b : Nat) : nI a ^^^ nI b = nI (a ^^^ b) := by
  apply Int32.toBitVec_inj.1
  show BitVec.ofNat 32 a ^^^ BitVec.ofNat 32 b = BitVec.ofNat 32 (a ^^^ b)
  apply BitVec.eq_of_getLsbD_eq
  intro i hi
  simp [hi]
end
section
/-! the abstract machine: pile (top first) and ending; the grid by naturals -/
def bf_ps (v : Int32) (p : List Int32 × Int32) : List Int32 × Int32 := if p.1.length = 10 then (p.1, 3) else (v :: p.1, p.2)
def bf_cb (q : Nat) (a b : Int32) : Int32 := if q = 10 then a + b else if q = 11 then a - b else if q = 12 then a * b else if a ≤ b then 0 else 1
def bf_ix (a b : Int32) : Nat := (a &&& 7).toNatClampNeg + 8 * (b &&& 3).toNatClampNeg
def bf_wk (g : Nat → Nat) (gv : Nat → Int32) (q : Nat) (p : List Int32 × Int32) : List Int32 × Int32 :=
  if q < 14 then bf_ps (bf_cb q (p.1.tail.headD 0) (p.1.headD 0)) (p.1.tail.tail, p.2)
  else if q = 14 then bf_ps (p.1.headD 0) (bf_ps (p.1.headD 0) (p.1.tail, p.2))
  else if q = 15 then bf_ps (p.1.tail.headD 0) (bf_ps (p.1.headD 0) (p.1.tail.tail, p.2))
  else if q = 16 then (p.1.tail, p.2)
  else if q = 17 then bf_ps (if p.1.headD 0 = 0 then 1 else 0) (p.1.tail, p.2)
  else if q = 27 then bf_ps (nI (g (bf_ix (p.1.tail.headD 0) (p.1.headD 0)))) (p.1.tail.tail, p.2)
  else bf_ps (gv (p.1.headD 0 &&& 3).toNatClampNeg) (p.1.tail, p.2)
def bf_wq (q : Nat) : Prop := (10 ≤ q ∧ q ≤ 17) ∨ q = 27 ∨ q = 28
def bf_pb (g : Nat → Nat) (gv : Nat → Int32) (q : Nat) (p : List Int32 × Int32) : List Int32 × Int32 :=
  if 1 ≤ q ∧ q ≤ 9 then bf_ps (nI q) p else if (10 ≤ q ∧ q ≤ 17) ∨ q = 27 ∨ q = 28 then bf_wk g gv q p else p
def bf_mv (c d : Nat) : Nat :=
  if d = 0 then (c % 8 + 1) % 8 + 8 * (c / 8) else if d = 1 then (c % 8 + 7) % 8 + 8 * (c / 8)
  else if d = 2 then c % 8 + 8 * ((c / 8 + 1) % 4) else c % 8 + 8 * ((c / 8 + 3) % 4)
def bf_un (g : Nat → Nat) (k v : Nat) : Nat → Nat := fun j => if j = k then v else g j
/-- grid, cell, way, pile, ending, steps done, written, output -/
abbrev bf_M : Type := (Nat → Nat) × Nat × Nat × List Int32 × Int32 × Nat × Nat × (Nat → Int32)
def bf_bo (gv : Nat → Int32) : bf_M → bf_M
  | (g, c, d, s, e, k, w, out) =>
    if g c = 22 ∨ g c = 23 then (g, c, (g c - 22) * 2 + (if s.headD 0 = 0 then 0 else 1), s.tail, e, k, w, out)
    else if g c = 25 then (if w = 16 then (g, c, d, s.tail, 4, k, w, out) else (g, c, d, s.tail, e, k, w + 1, upd out w (s.headD 0)))
    else if g c = 26 then (bf_un g (bf_ix (s.tail.headD 0) (s.headD 0)) (s.tail.tail.headD 0 &&& 31).toNatClampNeg, c, d, s.tail.tail.tail, e, k, w, out)
    else if g c = 29 then (g, c, d, s, 1, k, w, out)
    else if 18 ≤ g c ∧ g c ≤ 21 then (g, c, g c - 18, s, e, k, w, out)
    else if g c = 24 then (g, bf_mv c d, d, s, e, k, w, out)
    else (g, c, d, (bf_pb g gv (g c) (s, e)).1, (bf_pb g gv (g c) (s, e)).2, k, w, out)
def bf_go : bf_M → bf_M
  | (g, c, d, s, e, k, w, out) => if e = 0 then (g, bf_mv c d, d, s, e, k, w, out) else (g, c, d, s, e, k, w, out)
def bf_st (gv : Nat → Int32) : bf_M → bf_M
  | (g, c, d, s, e, k, w, out) => if e = 0 ∧ k < 400 then bf_go (bf_bo gv (g, c, d, s, e, k + 1, w, out)) else (g, c, d, s, e, k, w, out)
def bf_it (gv : Nat → Int32) : Nat → bf_M → bf_M
  | 0, m => m
  | n + 1, m => bf_st gv (bf_it gv n m)
theorem bf_it_add (gv : Nat → Int32) (a : Nat) (m : bf_M) : ∀ b, bf_it gv (a + b) m = bf_it gv b (bf_it gv a m) := by
  intro b
  induction b with
  | zero => rfl
  | succ b ih =>
    show bf_st gv (bf_it gv (a + b) m) = bf_st gv (bf_it gv b (bf_it gv a m))
    rw [ih]
theorem bf_st_no {gv : Nat → Int32} {g : Nat → Nat} {c d : Nat} {s : List Int32} {e : Int32} {k w : Nat} {out : Nat → Int32} (h : ¬ e = 0) : bf_st gv (g, c, d, s, e, k, w, out) = (g, c, d, s, e, k, w, out) := by
  rw [bf_st, if_neg (fun z => h z.1)]
theorem bf_it_fix {gv : Nat → Int32} {m : bf_M} (h : bf_st gv m = m) : ∀ n, bf_it gv n m = m := by
  intro n
  induction n with
  | zero => rfl
  | succ n ih =>
    show bf_st gv (bf_it gv n m) = m
    rw [ih, h]
/-! pushing -/
theorem bf_ps_t {v : Int32} {s : List Int32} {e : Int32} (h : s.length = 10) : bf_ps v (s, e) = (s, 3) := if_pos h
theorem bf_ps_f {v : Int32} {s : List Int32} {e : Int32} (h : ¬ s.length = 10) : bf_ps v (s, e) = (v :: s, e) := if_neg h
theorem bf_ps_len {v : Int32} {p : List Int32 × Int32} (h : p.1.length ≤ 10) : (bf_ps v p).1.length ≤ 10 := by
  unfold bf_ps
  split
  · exact h
  · show p.1.length + 1 ≤ 10
    omega
theorem bf_ps_inv {v : Int32} {p : List Int32 × Int32} {s : List Int32} (h : bf_ps v p = (s, 0)) : ∃ s0, p = (s0, 0) ∧ s = v :: s0 ∧ ¬ s0.length = 10 := by
  obtain ⟨s0, e⟩ := p
  by_cases h1 : s0.length = 10
  · rw [bf_ps_t h1] at h
    exact absurd (Prod.mk.inj h).2 (by decide)
  · rw [bf_ps_f h1] at h
    obtain ⟨ha, hb⟩ := Prod.mk.inj h
    subst hb
    exact ⟨s0, rfl, ha.symm, h1⟩
/-! the pile's work, by its codes -/
section
variable {g : Nat → Nat} {gv : Nat → Int32} {p : List Int32 × Int32}
theorem bf_wk_lo {q : Nat} (h : q < 14) : bf_wk g gv q p = bf_ps (bf_cb q (p.1.tail.headD 0) (p.1.headD 0)) (p.1.tail.tail, p.2) := if_pos h
theorem bf_wk_14 : bf_wk g gv 14 p = bf_ps (p.1.headD 0) (bf_ps (p.1.headD 0) (p.1.tail, p.2)) := by
  unfold bf_wk; rw [if_neg (by decide), if_pos rfl]
theorem bf_wk_15 : bf_wk g gv 15 p = bf_ps (p.1.tail.headD 0) (bf_ps (p.1.headD 0) (p.1.tail.tail, p.2)) := by
  unfold bf_wk; rw [if_neg (by decide), if_neg (by decide), if_pos rfl]
theorem bf_wk_16 : bf_wk g gv 16 p = (p.1.tail, p.2) := by
  unfold bf_wk; rw [if_neg (by decide), if_neg (by decide), if_neg (by decide), if_pos rfl]
theorem bf_wk_17 : bf_wk g gv 17 p = bf_ps (if p.1.headD 0 = 0 then 1 else 0) (p.1.tail, p.2) := by
  unfold bf_wk; rw [if_neg (by decide), if_neg (by decide), if_neg (by decide), if_neg (by decide), if_pos rfl]
theorem bf_wk_27 : bf_wk g gv 27 p = bf_ps (nI (g (bf_ix (p.1.tail.headD 0) (p.1.headD 0)))) (p.1.tail.tail, p.2) := by
  unfold bf_wk; rw [if_neg (by decide), if_neg (by decide), if_neg (by decide), if_neg (by decide), if_neg (by decide), if_pos rfl]
theorem bf_wk_28 : bf_wk g gv 28 p = bf_ps (gv (p.1.headD 0 &&& 3).toNatClampNeg) (p.1.tail, p.2) := by
  unfold bf_wk; rw [if_neg (by decide), if_neg (by decide), if_neg (by decide), if_neg (by decide), if_neg (by decide), if_neg (by decide)]
theorem bf_pb_dig {q : Nat} (h1 : 1 ≤ q) (h2 : q ≤ 9) : bf_pb g gv q p = bf_ps (nI q) p := if_pos ⟨h1, h2⟩
theorem bf_pb_wk {q : Nat} (h : bf_wq q) : bf_pb g gv q p = bf_wk g gv q p := by
  unfold bf_wq at h
  unfold bf_pb; rw [if_neg (by omega), if_pos h]
theorem bf_pb_id {q : Nat} (h1 : ¬ (1 ≤ q ∧ q ≤ 9)) (h : ¬ bf_wq q) : bf_pb g gv q p = p := by
  unfold bf_wq at h
  unfold bf_pb; rw [if_neg h1, if_neg h]
theorem bf_tl {s : List Int32} (h : s.length ≤ 10) : s.tail.length ≤ 10 := by
  rw [List.length_tail]; omega
theorem bf_wk_len {q : Nat} (h : p.1.length ≤ 10) : (bf_wk g gv q p).1.length ≤ 10 := by
  have h1 := bf_tl h
  have h2 := bf_tl h1
  unfold bf_wk
  split
  · exact bf_ps_len h2
  split
  · exact bf_ps_len (bf_ps_len h1)
  split
  · exact bf_ps_len (bf_ps_len h2)
  split
  · exact h1
  split
  · exact bf_ps_len h1
  split
  · exact bf_ps_len h2
  · exact bf_ps_len h1
theorem bf_pb_len {q : Nat} (h : p.1.length ≤ 10) : (bf_pb g gv q p).1.length ≤ 10 := by
  unfold bf_pb
  split
  · exact bf_ps_len h
  split
  · exact bf_wk_len h
  · exact h
end
def bf_off (q : Nat) : Nat := if q < 14 ∨ q = 15 ∨ q = 27 then 2 else 1
def bf_on (q : Nat) : Nat := if q = 14 ∨ q = 15 then 2 else if q = 16 then 0 else 1
theorem bf_one {s : List Int32} (h : 1 ≤ s.length) : ∃ b r, s = b :: r := by
  cases s with
  | nil => exact absurd h (by simp)
  | cons b s => exact ⟨b, s, rfl⟩
theorem bf_two {s : List Int32} (h : 2 ≤ s.length) : ∃ b a r, s = b :: a :: r := by
  cases s with
  | nil => exact absurd h (by simp)
  | cons b s =>
    cases s with
    | nil => exact absurd h (by simp)
    | cons a r => exact ⟨b, a, r, rfl⟩
theorem bf_wk_ok {g : Nat → Nat} {gv : Nat → Int32} {q : Nat} {s : List Int32} (hq : bf_wq q) (h1 : bf_off q ≤ s.length) (h2 : s.length + bf_on q ≤ 10 + bf_off q) :
    ∃ s2, bf_wk g gv q (s, 0) = (s2, 0) ∧ s2.length + bf_off q = s.length + bf_on q := by
  unfold bf_wq at hq
  rcases Nat.lt_or_ge q 14 with h | h
  · have eo : bf_off q = 2 := if_pos (Or.inl h)
    have en : bf_on q = 1 := by unfold bf_on; rw [if_neg (by omega), if_neg (by omega)]
    rw [eo] at h1 h2 ⊢
    rw [en] at h2 ⊢
    obtain ⟨b, a, r, rfl⟩ := bf_two h1
    simp only [List.length_cons] at h2
    rw [bf_wk_lo h]
    exact ⟨bf_cb q a b :: r, bf_ps_f (by show ¬ r.length = 10; omega), by simp only [List.length_cons]⟩
  · have hc : q = 14 ∨ q = 15 ∨ q = 16 ∨ q = 17 ∨ q = 27 ∨ q = 28 := by omega
    rcases hc with rfl | rfl | rfl | rfl | rfl | rfl
    · have eo : bf_off 14 = 1 := by decide
      have en : bf_on 14 = 2 := by decide
      rw [eo] at h1 h2 ⊢
      rw [en] at h2 ⊢
      obtain ⟨b, r, rfl⟩ := bf_one h1
      simp only [List.length_cons] at h2
      rw [bf_wk_14]
      refine ⟨b :: b :: r, ?_, by simp only [List.length_cons]⟩
      show bf_ps b (bf_ps b (r, 0)) = _
      rw [bf_ps_f (s := r) (by omega), bf_ps_f (s := b :: r) (by simp only [List.length_cons]; omega)]
    · have eo : bf_off 15 = 2 := by decide
      have en : bf_on 15 = 2 := by decide
      rw [eo] at h1 h2 ⊢
      rw [en] at h2 ⊢
      obtain ⟨b, a, r, rfl⟩ := bf_two h1
      simp only [List.length_cons] at h2
      rw [bf_wk_15]
      refine ⟨a :: b :: r, ?_, by simp only [List.length_cons]⟩
      show bf_ps a (bf_ps b (r, 0)) = _
      rw [bf_ps_f (s := r) (by omega), bf_ps_f (s := b :: r) (by simp only [List.length_cons]; omega)]
    · have eo : bf_off 16 = 1 := by decide
      have en : bf_on 16 = 0 := by decide
      rw [eo] at h1 h2 ⊢
      rw [en] at h2 ⊢
      obtain ⟨b, r, rfl⟩ := bf_one h1
      rw [bf_wk_16]
      exact ⟨r, rfl, by simp only [List.length_cons]⟩
    · have eo : bf_off 17 = 1 := by decide
      have en : bf_on 17 = 1 := by decide
      rw [eo] at h1 h2 ⊢
      rw [en] at h2 ⊢
      obtain ⟨b, r, rfl⟩ := bf_one h1
      simp only [List.length_cons] at h2
      rw [bf_wk_17]
      exact ⟨_, bf_ps_f (by show ¬ r.length = 10; omega), by simp only [List.length_cons, List.tail_cons]⟩
    · have eo : bf_off 27 = 2 := by decide
      have en : bf_on 27 = 1 := by decide
      rw [eo] at h1 h2 ⊢
      rw [en] at h2 ⊢
      obtain ⟨b, a, r, rfl⟩ := bf_two h1
      simp only [List.length_cons] at h2
      rw [bf_wk_27]
      exact ⟨_, bf_ps_f (by show ¬ r.length = 10; omega), by simp only [List.length_cons, List.tail_cons]⟩
    · have eo : bf_off 28 = 1 := by decide
      have en : bf_on 28 = 1 := by decide
      rw [eo] at h1 h2 ⊢
      rw [en] at h2 ⊢
      obtain ⟨b, r, rfl⟩ := bf_one h1
      simp only [List.length_cons] at h2
      rw [bf_wk_28]
      exact ⟨_, bf_ps_f (by show ¬ r.length = 10; omega), by simp only [List.length_cons, List.tail_cons]⟩
/-! what every step keeps -/
def bf_ok : bf_M → Prop
  | (g, c, d, s, _, k, w, _) => c < 32 ∧ d < 4 ∧ s.length ≤ 10 ∧ k ≤ 400 ∧ w ≤ 16 ∧ ∀ i, i < 32 → g i < 32
theorem bf_mv_lt {c d : Nat} (h : c < 32) : bf_mv c d < 32 := by
  unfold bf_mv
  split
  · omega
  split
  · omega
  split <;> omega
theorem bf_31 (x : Int32) : (x &&& 31).toNatClampNeg < 32 ∧ x &&& 31 = nI (x &&& 31).toNatClampNeg := by
  obtain ⟨j, hj, e⟩ := pk_andE x (m := 31) 5 (by decide)
  rw [e, nI_clamp (by omega)]
  exact ⟨hj, rfl⟩
theorem bf_7 (x : Int32) : (x &&& 7).toNatClampNeg < 8 ∧ x &&& 7 = nI (x &&& 7).toNatClampNeg := by
  obtain ⟨j, hj, e⟩ := pk_andE x (m := 7) 3 (by decide)
  rw [e, nI_clamp (by omega)]
  exact ⟨hj, rfl⟩
theorem bf_3 (x : Int32) : (x &&& 3).toNatClampNeg < 4 ∧ x &&& 3 = nI (x &&& 3).toNatClampNeg := by
  obtain ⟨j, hj, e⟩ := pk_andE x (m := 3) 2 (by decide)
  rw [e, nI_clamp (by omega)]
  exact ⟨hj, rfl⟩
theorem bf_8 (a b : Nat) : nI a + 8 * nI b = nI (a + 8 * b) := by
  rw [show (8 : Int32) = nI 8 from rfl, pk_mul, nI_add]
theorem bf_8' (a b : Nat) : 8 * nI b + nI a = nI (a + 8 * b) := by
  rw [show (8 : Int32) = nI 8 from rfl, pk_mul, nI_add, Nat.add_comm]
theorem bf_ix_lt (a b : Int32) : bf_ix a b < 32 := by
  have h1 := (bf_7 a).1
  have h2 := (bf_3 b).1
  unfold bf_ix
  omega
theorem bf_ix_X (a b : Int32) : (a &&& 7) + 8 * (b &&& 3) = nI (bf_ix a b) := by
  unfold bf_ix
  rw [← bf_8, ← (bf_7 a).2, ← (bf_3 b).2]
theorem bf_ix_Y (a b : Int32) : 8 * (b &&& 3) + (a &&& 7) = nI (bf_ix a b) := by
  unfold bf_ix
  rw [← bf_8', ← (bf_7 a).2, ← (bf_3 b).2]
theorem bf_un_lt {g : Nat → Nat} {k v : Nat} (h : ∀ i, i < 32 → g i < 32) (hv : v < 32) : ∀ i, i < 32 → bf_un g k v i < 32 := by
  intro i hi
  unfold bf_un
  split
  · exact hv
  · exact h i hi
theorem bf_ok_bo {gv : Nat → Int32} {m : bf_M} (h : bf_ok m) : bf_ok (bf_bo gv m) := by
  obtain ⟨g, c, d, s, e, k, w, out⟩ := m
  obtain ⟨hc, hd, hs, hk, hw, hg⟩ := h
  have h1 := bf_tl hs
  rw [bf_bo]
  split
  · refine ⟨hc, ?_, h1, hk, hw, hg⟩
    split <;> omega
  split
  · split
    · exact ⟨hc, hd, h1, hk, hw, hg⟩
    · exact ⟨hc, hd, h1, hk, by omega, hg⟩
  split
  · exact ⟨hc, hd, bf_tl (bf_tl h1), hk, hw, bf_un_lt hg (bf_31 _).1⟩
  split
  · exact ⟨hc, hd, hs, hk, hw, hg⟩
  split
  · exact ⟨hc, by omega, hs, hk, hw, hg⟩
  split
  · exact ⟨bf_mv_lt hc, hd, hs, hk, hw, hg⟩
  · exact ⟨hc, hd, bf_pb_len hs, hk, hw, hg⟩
theorem bf_ok_go {m : bf_M} (h : bf_ok m) : bf_ok (bf_go m) := by
  obtain ⟨g, c, d, s, e, k, w, out⟩ := m
  obtain ⟨hc, hd, hs, hk, hw, hg⟩ := h
  rw [bf_go]
  split
  · exact ⟨bf_mv_lt hc, hd, hs, hk, hw, hg⟩
  · exact ⟨hc, hd, hs, hk, hw, hg⟩
theorem bf_ok_st {gv : Nat → Int32} {m : bf_M} (h : bf_ok m) : bf_ok (bf_st gv m) := by
  obtain ⟨g, c, d, s, e, k, w, out⟩ := m
  rw [bf_st]
  split
  · rename_i hz
    obtain ⟨hc, hd, hs, hk, hw, hg⟩ := h
    exact bf_ok_go (bf_ok_bo ⟨hc, hd, hs, by omega, hw, hg⟩)
  · exact h
theorem bf_ok_it {gv : Nat → Int32} {m : bf_M} (h : bf_ok m) : ∀ n, bf_ok (bf_it gv n m) := by
  intro n
  induction n with
  | zero => exact h
  | succ n ih => exact bf_ok_st ih
end
section
/-! operations of traces, and what a trace means -/
def bf_op (g : Nat → Nat) (gv : Nat → Int32) (w v : Int32) (p : List Int32 × Int32) : List Int32 × Int32 :=
  if w = 40 then bf_ps v p else if w = 41 then bf_ps (nI (g v.toNatClampNeg)) p else if w = 42 then bf_ps (gv v.toNatClampNeg) p else bf_wk g gv w.toNatClampNeg p
def bf_ro (g : Nat → Nat) (gv : Nat → Int32) (op val : Nat → Int32) (b : Nat) : Nat → List Int32 × Int32 → List Int32 × Int32
  | 0, p => p
  | m + 1, p => bf_op g gv (op (b + m)) (val (b + m)) (bf_ro g gv op val b m p)
def bf_ov (w v : Int32) : Prop := w = 40 ∨ (w = 41 ∧ ∃ j, j < 32 ∧ v = nI j) ∨ (w = 42 ∧ ∃ j, j < 4 ∧ v = nI j) ∨ ∃ q, w = nI q ∧ bf_wq q
section
variable {g : Nat → Nat} {gv : Nat → Int32} {p : List Int32 × Int32}
theorem bf_op_40 {v : Int32} : bf_op g gv 40 v p = bf_ps v p := if_pos rfl
theorem bf_op_41 {v : Int32} : bf_op g gv 41 v p = bf_ps (nI (g v.toNatClampNeg)) p := by
  unfold bf_op; rw [if_neg (by decide), if_pos rfl]
theorem bf_op_42 {v : Int32} : bf_op g gv 42 v p = bf_ps (gv v.toNatClampNeg) p := by
  unfold bf_op; rw [if_neg (by decide), if_neg (by decide), if_pos rfl]
theorem bf_wq_lt {q : Nat} (h : bf_wq q) : q < 29 := by unfold bf_wq at h; omega
theorem bf_wq_ne {q j : Nat} (h : bf_wq q) (h1 : 29 ≤ j) (h2 : j < 100) : ¬ nI q = nI j := by
  have := bf_wq_lt h
  rw [nI_eq (by omega) (by omega)]
  omega
theorem bf_op_wk {q : Nat} {v : Int32} (h : bf_wq q) : bf_op g gv (nI q) v p = bf_wk g gv q p := by
  have hq := bf_wq_lt h
  unfold bf_op
  rw [if_neg (show ¬ nI q = 40 from bf_wq_ne (j := 40) h (by decide) (by decide)), if_neg (show ¬ nI q = 41 from bf_wq_ne (j := 41) h (by decide) (by decide)), if_neg (show ¬ nI q = 42 from bf_wq_ne (j := 42) h (by decide) (by decide)), nI_clamp (by omega)]
end
theorem bf_ro_congr {g : Nat → Nat} {gv : Nat → Int32} {op val op' val' : Nat → Int32} {b : Nat} {p : List Int32 × Int32} : ∀ {m : Nat}, (∀ i, i < m → op' (b + i) = op (b + i) ∧ val' (b + i) = val (b + i)) → bf_ro g gv op' val' b m p = bf_ro g gv op val b m p := by
  intro m
  induction m with
  | zero => intro _; rfl
  | succ m ih =>
    intro h
    show bf_op g gv (op' (b + m)) (val' (b + m)) (bf_ro g gv op' val' b m p) = bf_op g gv (op (b + m)) (val (b + m)) (bf_ro g gv op val b m p)
    rw [ih (fun i hi => h i (by omega)), (h m (by omega)).1, (h m (by omega)).2]
/-- the pile's part of entering code q: from the pile that the operations so far leave, the step's pile is what the new operations leave -/
def bf_px (b q m m' : Nat) (need rise l l' : Int) (op val op' val' : Nat → Int32) : Prop :=
  ∀ (g : Nat → Nat) (gv : Nat → Int32) (s s1 : List Int32), bf_ro g gv op val b m (s, 0) = (s1, 0) → (s1.length : Int) = s.length + l → need ≤ s.length → s.length + rise ≤ 10 →
    ∃ s2 : List Int32, bf_pb g gv q (s1, 0) = (s2, 0) ∧ (s2.length : Int) = s.length + l' ∧ bf_ro g gv op' val' b m' (s, 0) = (s2, 0)
section
variable {b q m j : Nat} {need rise l l' : Int} {op val op' val' : Nat → Int32}
theorem bf_px_id (h1 : ¬ (1 ≤ q ∧ q ≤ 9)) (h2 : ¬ bf_wq q) : bf_px b q m m need rise l l op val op val := by
  intro g gv s s1 h hl _ _
  exact ⟨s1, bf_pb_id h1 h2, hl, h⟩
theorem bf_px_dig (h1 : 1 ≤ q) (h2 : q ≤ 9) (hl : l' = l + 1) (hr : l' ≤ rise) (hb : ∀ i, i < m → op' (b + i) = op (b + i) ∧ val' (b + i) = val (b + i)) (ho : op' (b + m) = 40) (hv : val' (b + m) = nI q) :
    bf_px b q m (m + 1) need rise l l' op val op' val' := by
  intro g gv s s1 h h1' _ h3
  have hn : ¬ s1.length = 10 := by omega
  refine ⟨nI q :: s1, ?_, ?_, ?_⟩
  · rw [bf_pb_dig h1 h2, bf_ps_f hn]
  · simp only [List.length_cons]; omega
  · show bf_op g gv (op' (b + m)) (val' (b + m)) (bf_ro g gv op' val' b m (s, 0)) = _
    rw [bf_ro_congr hb, h, ho, hv, bf_op_40, bf_ps_f hn]
theorem bf_px_add (hq : bf_wq q) (hl : l' = l - bf_off q + bf_on q) (hn : bf_off q - l ≤ need) (hr : l' ≤ rise) (hb : ∀ i, i < m → op' (b + i) = op (b + i) ∧ val' (b + i) = val (b + i)) (ho : op' (b + m) = nI q) :
    bf_px b q m (m + 1) need rise l l' op val op' val' := by
  intro g gv s s1 h h1' h2 h3
  obtain ⟨s2, e2, l2⟩ := bf_wk_ok (g := g) (gv := gv) (s := s1) hq (by omega) (by omega)
  refine ⟨s2, ?_, by omega, ?_⟩
  · rw [bf_pb_wk hq, e2]
  · show bf_op g gv (op' (b + m)) (val' (b + m)) (bf_ro g gv op' val' b m (s, 0)) = _
    rw [bf_ro_congr hb, h, ho, bf_op_wk hq, e2]
theorem bf_px_two (hq : 10 ≤ q) (hq' : q ≤ 13) (o1 : op (b + (j + 1)) = 40) (o0 : op (b + j) = 40) (hb : ∀ i, i < j → op' (b + i) = op (b + i) ∧ val' (b + i) = val (b + i)) (o' : op' (b + j) = 40) (v' : val' (b + j) = bf_cb q (val (b + j)) (val (b + (j + 1)))) (hl : l' = l - 1) :
    bf_px b q (j + 2) (j + 1) need rise l l' op val op' val' := by
  intro g gv s s1 h h1 _ _
  have h' : bf_op g gv (op (b + (j + 1))) (val (b + (j + 1))) (bf_op g gv (op (b + j)) (val (b + j)) (bf_ro g gv op val b j (s, 0))) = (s1, 0) := h
  rw [o1, o0, bf_op_40, bf_op_40] at h'
  obtain ⟨sa, ha, rfl, _⟩ := bf_ps_inv h'
  obtain ⟨sb, hb', rfl, hn⟩ := bf_ps_inv ha
  simp only [List.length_cons] at h1
  refine ⟨bf_cb q (val (b + j)) (val (b + (j + 1))) :: sb, ?_, ?_, ?_⟩
  · rw [bf_pb_wk (Or.inl ⟨hq, by omega⟩), bf_wk_lo (by omega)]
    exact bf_ps_f hn
  · simp only [List.length_cons]; omega
  · show bf_op g gv (op' (b + j)) (val' (b + j)) (bf_ro g gv op' val' b j (s, 0)) = _
    rw [bf_ro_congr hb, hb', o', v', bf_op_40, bf_ps_f hn]
theorem bf_px_dup (o1 : op (b + j) = 40) (hb : ∀ i, i < j + 1 → op' (b + i) = op (b + i) ∧ val' (b + i) = val (b + i)) (o' : op' (b + (j + 1)) = 40) (v' : val' (b + (j + 1)) = val (b + j)) (hl : l' = l + 1) (hr : l' ≤ rise) :
    bf_px b 14 (j + 1) (j + 2) need rise l l' op val op' val' := by
  intro g gv s s1 h h1 _ h3
  have h' : bf_op g gv (op (b + j)) (val (b + j)) (bf_ro g gv op val b j (s, 0)) = (s1, 0) := h
  rw [o1, bf_op_40] at h'
  obtain ⟨sb, hb', e1, hn⟩ := bf_ps_inv h'
  have hn1 : ¬ s1.length = 10 := by omega
  refine ⟨val (b + j) :: s1, ?_, ?_, ?_⟩
  · rw [bf_pb_wk (Or.inl ⟨by omega, by omega⟩), bf_wk_14, e1]
    show bf_ps (val (b + j)) (bf_ps (val (b + j)) (sb, 0)) = _
    rw [bf_ps_f hn, ← e1, bf_ps_f hn1]
  · simp only [List.length_cons]; omega
  · show bf_op g gv (op' (b + (j + 1))) (val' (b + (j + 1))) (bf_ro g gv op' val' b (j + 1) (s, 0)) = _
    rw [bf_ro_congr hb, h, o', v', bf_op_40, bf_ps_f hn1]
theorem bf_px_drop (o1 : op (b + j) = 40) (hl : l' = l - 1) : bf_px b 16 (j + 1) j need rise l l' op val op val := by
  intro g gv s s1 h h1 _ h3
  have h' : bf_op g gv (op (b + j)) (val (b + j)) (bf_ro g gv op val b j (s, 0)) = (s1, 0) := h
  rw [o1, bf_op_40] at h'
  obtain ⟨sb, hb', rfl, hn⟩ := bf_ps_inv h'
  simp only [List.length_cons] at h1
  refine ⟨sb, ?_, by omega, hb'⟩
  rw [bf_pb_wk (Or.inl ⟨by omega, by omega⟩), bf_wk_16]
  rfl
theorem bf_px_not (o1 : op (b + j) = 40) (hb : ∀ i, i < j → op' (b + i) = op (b + i) ∧ val' (b + i) = val (b + i)) (o' : op' (b + j) = 40) (v' : val' (b + j) = if val (b + j) = 0 then 1 else 0) (hl : l' = l) :
    bf_px b 17 (j + 1) (j + 1) need rise l l' op val op' val' := by
  intro g gv s s1 h h1 _ h3
  have h' : bf_op g gv (op (b + j)) (val (b + j)) (bf_ro g gv op val b j (s, 0)) = (s1, 0) := h
  rw [o1, bf_op_40] at h'
  obtain ⟨sb, hb', rfl, hn⟩ := bf_ps_inv h'
  simp only [List.length_cons] at h1
  refine ⟨(if val (b + j) = 0 then 1 else 0) :: sb, ?_, ?_, ?_⟩
  · rw [bf_pb_wk (Or.inl ⟨by omega, by omega⟩), bf_wk_17]
    exact bf_ps_f hn
  · simp only [List.length_cons]; omega
  · show bf_op g gv (op' (b + j)) (val' (b + j)) (bf_ro g gv op' val' b j (s, 0)) = _
    rw [bf_ro_congr hb, hb', o', v', bf_op_40, bf_ps_f hn]
theorem bf_px_giv (o1 : op (b + j) = 40) (hb : ∀ i, i < j → op' (b + i) = op (b + i) ∧ val' (b + i) = val (b + i)) (o' : op' (b + j) = 42) (v' : val' (b + j) = val (b + j) &&& 3) (hl : l' = l) :
    bf_px b 28 (j + 1) (j + 1) need rise l l' op val op' val' := by
  intro g gv s s1 h h1 _ h3
  have h' : bf_op g gv (op (b + j)) (val (b + j)) (bf_ro g gv op val b j (s, 0)) = (s1, 0) := h
  rw [o1, bf_op_40] at h'
  obtain ⟨sb, hb', rfl, hn⟩ := bf_ps_inv h'
  simp only [List.length_cons] at h1
  refine ⟨gv (val (b + j) &&& 3).toNatClampNeg :: sb, ?_, ?_, ?_⟩
  · rw [bf_pb_wk (Or.inr (Or.inr rfl)), bf_wk_28]
    exact bf_ps_f hn
  · simp only [List.length_cons]; omega
  · show bf_op g gv (op' (b + j)) (val' (b + j)) (bf_ro g gv op' val' b j (s, 0)) = _
    rw [bf_ro_congr hb, hb', o', v', bf_op_42, bf_ps_f hn]
theorem bf_px_swap (o1 : op (b + (j + 1)) = 40) (o0 : op (b + j) = 40) (hb : ∀ i, i < j → op' (b + i) = op (b + i) ∧ val' (b + i) = val (b + i)) (o1' : op' (b + (j + 1)) = 40) (o0' : op' (b + j) = 40) (v0' : val' (b + j) = val (b + (j + 1))) (v1' : val' (b + (j + 1)) = val (b + j)) (hl : l' = l) :
    bf_px b 15 (j + 2) (j + 2) need rise l l' op val op' val' := by
  intro g gv s s1 h h1 _ _
  have h' : bf_op g gv (op (b + (j + 1))) (val (b + (j + 1))) (bf_op g gv (op (b + j)) (val (b + j)) (bf_ro g gv op val b j (s, 0))) = (s1, 0) := h
  rw [o1, o0, bf_op_40, bf_op_40] at h'
  obtain ⟨sa, ha, rfl, hm⟩ := bf_ps_inv h'
  obtain ⟨sb, hb', rfl, hn⟩ := bf_ps_inv ha
  simp only [List.length_cons] at h1 hm
  have hm' : ¬ (val (b + (j + 1)) :: sb).length = 10 := by simp only [List.length_cons]; exact hm
  refine ⟨val (b + j) :: val (b + (j + 1)) :: sb, ?_, ?_, ?_⟩
  · rw [bf_pb_wk (Or.inl ⟨by omega, by omega⟩), bf_wk_15]
    show bf_ps (val (b + j)) (bf_ps (val (b + (j + 1))) (sb, 0)) = _
    rw [bf_ps_f hn, bf_ps_f hm']
  · simp only [List.length_cons]; omega
  · show bf_op g gv (op' (b + (j + 1))) (val' (b + (j + 1))) (bf_op g gv (op' (b + j)) (val' (b + j)) (bf_ro g gv op' val' b j (s, 0))) = _
    rw [bf_ro_congr hb, hb', o1', o0', v0', v1', bf_op_40, bf_op_40, bf_ps_f hn, bf_ps_f hm']
theorem bf_px_cell (o1 : op (b + (j + 1)) = 40) (o0 : op (b + j) = 40) (hb : ∀ i, i < j → op' (b + i) = op (b + i) ∧ val' (b + i) = val (b + i)) (o' : op' (b + j) = 41) (v' : val' (b + j) = (val (b + j) &&& 7) + 8 * (val (b + (j + 1)) &&& 3)) (hl : l' = l - 1) :
    bf_px b 27 (j + 2) (j + 1) need rise l l' op val op' val' := by
  intro g gv s s1 h h1 _ _
  have h' : bf_op g gv (op (b + (j + 1))) (val (b + (j + 1))) (bf_op g gv (op (b + j)) (val (b + j)) (bf_ro g gv op val b j (s, 0))) = (s1, 0) := h
  rw [o1, o0, bf_op_40, bf_op_40] at h'
  obtain ⟨sa, ha, rfl, hm⟩ := bf_ps_inv h'
  obtain ⟨sb, hb', rfl, hn⟩ := bf_ps_inv ha
  simp only [List.length_cons] at h1
  have hi := bf_ix_lt (val (b + j)) (val (b + (j + 1)))
  refine ⟨nI (g (bf_ix (val (b + j)) (val (b + (j + 1))))) :: sb, ?_, ?_, ?_⟩
  · rw [bf_pb_wk (Or.inr (Or.inl rfl)), bf_wk_27]
    exact bf_ps_f hn
  · simp only [List.length_cons]; omega
  · show bf_op g gv (op' (b + j)) (val' (b + j)) (bf_ro g gv op' val' b j (s, 0)) = _
    rw [bf_ro_congr hb, hb', o', v', bf_op_41, bf_ix_X, nI_clamp (by omega), bf_ps_f hn]
end
/-! steps that no trace breaks at -/
def bf_nb (q : Nat) : Prop := q ≠ 22 ∧ q ≠ 23 ∧ q ≠ 25 ∧ q ≠ 26 ∧ q ≠ 29
def bf_nd (q d : Nat) : Nat := if 18 ≤ q ∧ q ≤ 21 then q - 18 else d
def bf_nc (q c d : Nat) : Nat := bf_mv (if q = 24 then bf_mv c d else c) (bf_nd q d)
theorem bf_st_nb {gv : Nat → Int32} {g : Nat → Nat} {c d : Nat} {s s' : List Int32} {k w : Nat} {out : Nat → Int32} (hq : bf_nb (g c)) (hk : k < 400) (hp : bf_pb g gv (g c) (s, 0) = (s', 0)) :
    bf_st gv (g, c, d, s, 0, k, w, out) = (g, bf_nc (g c) c d, bf_nd (g c) d, s', 0, k + 1, w, out) := by
  obtain ⟨h22, h23, h25, h26, h29⟩ := hq
  rw [bf_st, if_pos ⟨rfl, hk⟩, bf_bo, if_neg (by omega), if_neg h25, if_neg h26, if_neg h29]
  unfold bf_nc bf_nd
  by_cases a : 18 ≤ g c ∧ g c ≤ 21
  · have e : bf_pb g gv (g c) (s, 0) = (s, 0) := bf_pb_id (by omega) (by unfold bf_wq; omega)
    have es : s = s' := (Prod.mk.inj (e.symm.trans hp)).1
    rw [if_pos a, if_pos a, if_neg (show ¬ g c = 24 by omega), bf_go, if_pos rfl, es]
  · by_cases b : g c = 24
    · have e : bf_pb g gv (g c) (s, 0) = (s, 0) := bf_pb_id (by omega) (by unfold bf_wq; omega)
      have es : s = s' := (Prod.mk.inj (e.symm.trans hp)).1
      rw [if_neg a, if_neg a, if_pos b, if_pos b, bf_go, if_pos rfl, es]
    · rw [if_neg a, if_neg a, if_neg b, if_neg b, hp, bf_go, if_pos rfl]
/-- what the first n steps from (c0, d0) do, on every grid that agrees with g under the mask -/
def bf_sem (g : Nat → Nat) (mask : Int32) (c0 d0 n c1 d1 : Nat) (need rise l : Int) (op val : Nat → Int32) (b m : Nat) : Prop :=
  ∀ (g' : Nat → Nat) (gv : Nat → Int32) (s : List Int32) (k w : Nat) (out : Nat → Int32), (∀ i, i < 32 → bt mask i = true → g' i = g i) → need ≤ s.length → s.length + rise ≤ 10 → k + n ≤ 400 →
    ∃ s' : List Int32, (s'.length : Int) = s.length + l ∧ bf_it gv n (g', c0, d0, s, 0, k, w, out) = (g', c1, d1, s', 0, k + n, w, out) ∧ bf_ro g' gv op val b m (s, 0) = (s', 0)
theorem bf_sem_0 {g : Nat → Nat} {mask : Int32} {c0 d0 : Nat} {need rise : Int} {op val : Nat → Int32} {b : Nat} : bf_sem g mask c0 d0 0 c0 d0 need rise 0 op val b 0 := by
  intro g' gv s k w out _ _ _ _
  exact ⟨s, by omega, rfl, rfl⟩
theorem bf_sem_ext {g : Nat → Nat} {mask mask' : Int32} {c0 d0 n c1 d1 : Nat} {need rise l need' rise' l' : Int} {op val op' val' : Nat → Int32} {b m m' : Nat}
    (h : bf_sem g mask c0 d0 n c1 d1 need rise l op val b m) (hc : c1 < 32) (hm : ∀ i, i < 32 → bt mask i = true → bt mask' i = true) (hm1 : bt mask' c1 = true) (hn : need ≤ need') (hr : rise ≤ rise') (hq : bf_nb (g c1))
    (hp : bf_px b (g c1) m m' need' rise' l l' op val op' val') : bf_sem g mask' c0 d0 (n + 1) (bf_nc (g c1) c1 d1) (bf_nd (g c1) d1) need' rise' l' op' val' b m' := by
  intro g' gv s k w out ha h1 h2 h3
  obtain ⟨s1, l1, i1, r1⟩ := h g' gv s k w out (fun i hi hb => ha i hi (hm i hi hb)) (by omega) (by omega) (by omega)
  obtain ⟨s2, p2, l2, r2⟩ := hp g' gv s s1 r1 l1 h1 h2
  have ec : g' c1 = g c1 := ha c1 hc hm1
  rw [← ec] at hq p2 ⊢
  refine ⟨s2, l2, ?_, r2⟩
  show bf_st gv (bf_it gv n (g', c0, d0, s, 0, k, w, out)) = _
  rw [i1, bf_st_nb hq (by omega) p2]
  rfl
theorem bf_sem_mask {g : Nat → Nat} {mask mask' : Int32} {c0 d0 n c1 d1 : Nat} {need rise l : Int} {op val : Nat → Int32} {b m : Nat}
    (h : bf_sem g mask c0 d0 n c1 d1 need rise l op val b m) (hm : ∀ i, i < 32 → bt mask i = true → bt mask' i = true) : bf_sem g mask' c0 d0 n c1 d1 need rise l op val b m :=
  fun g' gv s k w out ha => h g' gv s k w out (fun i hi hb => ha i hi (hm i hi hb))
theorem bf_sem_grid {g : Nat → Nat} {mask : Int32} {c0 d0 n c1 d1 : Nat} {need rise l : Int} {op val : Nat → Int32} {b m at_ v : Nat}
    (h : bf_sem g mask c0 d0 n c1 d1 need rise l op val b m) (hm : bt mask at_ = false) : bf_sem (bf_un g at_ v) mask c0 d0 n c1 d1 need rise l op val b m :=
  fun g' gv s k w out ha => h g' gv s k w out (fun i hi hb => (ha i hi hb).trans (if_neg (fun z => by rw [z, hm] at hb; exact absurd hb (by decide))))
theorem bf_sem_op {g : Nat → Nat} {mask : Int32} {c0 d0 n c1 d1 : Nat} {need rise l : Int} {op val op' val' : Nat → Int32} {b m : Nat}
    (h : bf_sem g mask c0 d0 n c1 d1 need rise l op val b m) (hb : ∀ i, i < m → op' (b + i) = op (b + i) ∧ val' (b + i) = val (b + i)) : bf_sem g mask c0 d0 n c1 d1 need rise l op' val' b m := by
  intro g' gv s k w out ha h1 h2 h3
  obtain ⟨s1, l1, i1, r1⟩ := h g' gv s k w out ha h1 h2 h3
  exact ⟨s1, l1, i1, by rw [bf_ro_congr hb]; exact r1⟩
/-- a stored trace that holds -/
def bf_tv (g : Nat → Nat) (t : Nat) (key ov stp nd rs gC gW len op val : Nat → Int32) : Prop :=
  ∃ (c0 d0 n c1 d1 m : Nat) (l : Int), (c0 < 32 ∧ d0 < 4 ∧ c1 < 32 ∧ d1 < 4 ∧ n ≤ 12 ∧ m ≤ 12) ∧ (key t = nI (c0 + 32 * d0) ∧ stp t = nI n ∧ gC t = nI c1 ∧ gW t = nI d1 ∧ len t = nI m) ∧ (0 ≤ (rs t).toInt ∧ (rs t).toInt ≤ 24) ∧
    (∀ j, j < m → bf_ov (op (t * 16 + j)) (val (t * 16 + j))) ∧ bf_sem g (ov t) c0 d0 n c1 d1 (nd t).toInt (rs t).toInt l op val (t * 16) m
def bf_tr (g : Nat → Nat) (key ov stp nd rs gC gW len op val : Nat → Int32) : Prop := ∀ t, t < 16 → ¬ key t < 0 → bf_tv g t key ov stp nd rs gC gW len op val
theorem bf_tv_fr {g : Nat → Nat} {t : Nat} {key ov stp nd rs gC gW len op val key' ov' stp' nd' rs' gC' gW' len' op' val' : Nat → Int32}
    (h : bf_tv g t key ov stp nd rs gC gW len op val) (h1 : key' t = key t) (h2 : ov' t = ov t) (h3 : stp' t = stp t) (h4 : nd' t = nd t) (h5 : rs' t = rs t) (h6 : gC' t = gC t) (h7 : gW' t = gW t) (h8 : len' t = len t)
    (ho : ∀ j, t * 16 ≤ j → j < t * 16 + 16 → op' j = op j ∧ val' j = val j) : bf_tv g t key' ov' stp' nd' rs' gC' gW' len' op' val' := by
  obtain ⟨c0, d0, n, c1, d1, m, l, hb, hk, hr, hv, hs⟩ := h
  refine ⟨c0, d0, n, c1, d1, m, l, hb, ?_, ?_, ?_, ?_⟩
  · rw [h1, h3, h6, h7, h8]; exact hk
  · rw [h5]; exact hr
  · intro j hj
    obtain ⟨e1, e2⟩ := ho (t * 16 + j) (by omega) (by omega)
    rw [e1, e2]
    exact hv j hj
  · rw [h2, h4, h5]
    exact bf_sem_op hs (fun i hi => ho (t * 16 + i) (by omega) (by omega))
/-- a write to the grid, with the traces over the cell dropped -/
theorem bf_tr_write {g : Nat → Nat} {at_ v : Nat} {key ov stp nd rs gC gW len op val key' : Nat → Int32} (h : bf_tr g key ov stp nd rs gC gW len op val)
    (hk : ∀ t, t < 16 → ¬ key' t < 0 → key' t = key t ∧ bt (ov t) at_ = false) : bf_tr (bf_un g at_ v) key' ov stp nd rs gC gW len op val := by
  intro t ht hn
  obtain ⟨e, hm⟩ := hk t ht hn
  rw [e] at hn
  obtain ⟨c0, d0, n, c1, d1, m, l, hb, hk', hr, hv, hs⟩ := h t ht hn
  refine ⟨c0, d0, n, c1, d1, m, l, hb, ?_, hr, hv, bf_sem_grid hs hm⟩
  rw [e]
  exact hk'
theorem bf_tr_none {g : Nat → Nat} {key ov stp nd rs gC gW len op val : Nat → Int32} (h : ∀ t, t < 16 → key t < 0) : bf_tr g key ov stp nd rs gC gW len op val :=
  fun t ht hn => absurd (h t ht) hn
end
section
/-! the pictures of pile and grid -/
def bf_pl (a : Nat → Int32) : Nat → List Int32
  | 0 => []
  | n + 1 => a n :: bf_pl a n
def bf_Pl (a : Nat → Int32) (s : List Int32) : Prop := bf_pl a s.length = s
def bf_Gr (a : Nat → Int32) (g : Nat → Nat) : Prop := ∀ i, i < 32 → a i = nI (g i)
theorem bf_pl_congr {a a' : Nat → Int32} : ∀ {n : Nat}, (∀ i, i < n → a i = a' i) → bf_pl a n = bf_pl a' n := by
  intro n
  induction n with
  | zero => intro _; rfl
  | succ n ih =>
    intro h
    show a n :: bf_pl a n = a' n :: bf_pl a' n
    rw [h n (by omega), ih (fun i hi => h i (by omega))]
theorem bf_Pl_cons {a : Nat → Int32} {b : Int32} {r : List Int32} (h : bf_Pl a (b :: r)) : a r.length = b ∧ bf_Pl a r := by
  have h' : a r.length :: bf_pl a r.length = b :: r := h
  exact List.cons.inj h'
theorem bf_Pl_tail {a : Nat → Int32} {s : List Int32} (h : bf_Pl a s) : bf_Pl a s.tail := by
  cases s with
  | nil => exact h
  | cons b r => exact (bf_Pl_cons h).2
theorem bf_Pl_push {a : Nat → Int32} {s : List Int32} {v : Int32} (h : bf_Pl a s) : bf_Pl (upd a s.length v) (v :: s) := by
  show upd a s.length v s.length :: bf_pl (upd a s.length v) s.length = v :: s
  rw [pk_us, bf_pl_congr (a' := a) (fun i hi => pk_un (by omega))]
  exact congrArg _ h
theorem bf_Gr_upd {a : Nat → Int32} {g : Nat → Nat} {k v : Nat} (h : bf_Gr a g) : bf_Gr (upd a k (nI v)) (bf_un g k v) := by
  intro i hi
  unfold upd bf_un
  split
  · rfl
  · exact h i hi
/-! the body of a step, by its codes -/
section
variable {gv : Nat → Int32} {g : Nat → Nat} {c d : Nat} {s : List Int32} {e : Int32} {k w : Nat} {out : Nat → Int32}
theorem bf_bo_br (h : g c = 22 ∨ g c = 23) : bf_bo gv (g, c, d, s, e, k, w, out) = (g, c, (g c - 22) * 2 + (if s.headD 0 = 0 then 0 else 1), s.tail, e, k, w, out) := by
  rw [bf_bo, if_pos h]
theorem bf_bo_25t (h : g c = 25) (hw : w = 16) : bf_bo gv (g, c, d, s, e, k, w, out) = (g, c, d, s.tail, 4, k, w, out) := by
  rw [bf_bo, if_neg (by omega), if_pos h, if_pos hw]
theorem bf_bo_25f (h : g c = 25) (hw : ¬ w = 16) : bf_bo gv (g, c, d, s, e, k, w, out) = (g, c, d, s.tail, e, k, w + 1, upd out w (s.headD 0)) := by
  rw [bf_bo, if_neg (by omega), if_pos h, if_neg hw]
theorem bf_bo_26 (h : g c = 26) : bf_bo gv (g, c, d, s, e, k, w, out) = (bf_un g (bf_ix (s.tail.headD 0) (s.headD 0)) (s.tail.tail.headD 0 &&& 31).toNatClampNeg, c, d, s.tail.tail.tail, e, k, w, out) := by
  rw [bf_bo, if_neg (by omega), if_neg (by omega), if_pos h]
theorem bf_bo_29 (h : g c = 29) : bf_bo gv (g, c, d, s, e, k, w, out) = (g, c, d, s, 1, k, w, out) := by
  rw [bf_bo, if_neg (by omega), if_neg (by omega), if_neg (by omega), if_pos h]
theorem bf_bo_dir (h : 18 ≤ g c) (h' : g c ≤ 21) : bf_bo gv (g, c, d, s, e, k, w, out) = (g, c, g c - 18, s, e, k, w, out) := by
  rw [bf_bo, if_neg (by omega), if_neg (by omega), if_neg (by omega), if_neg (by omega), if_pos ⟨h, h'⟩]
theorem bf_bo_24 (h : g c = 24) : bf_bo gv (g, c, d, s, e, k, w, out) = (g, bf_mv c d, d, s, e, k, w, out) := by
  rw [bf_bo, if_neg (by omega), if_neg (by omega), if_neg (by omega), if_neg (by omega), if_neg (by omega), if_pos h]
theorem bf_bo_pb {s' : List Int32} {e' : Int32} (h : g c ≤ 17 ∨ g c = 27 ∨ g c = 28 ∨ 29 < g c) (hp : bf_pb g gv (g c) (s, e) = (s', e')) : bf_bo gv (g, c, d, s, e, k, w, out) = (g, c, d, s', e', k, w, out) := by
  rw [bf_bo, if_neg (by omega), if_neg (by omega), if_neg (by omega), if_neg (by omega), if_neg (by omega), if_neg (by omega), hp]
end
/-! X's small methods -/
section
variable {f_cell f_way f_end f_done f_height f_written f_last f_made f_level : Int32} {a_grid a_given a_pile a_output a_key a_over a_steps a_need a_rise a_goalCell a_goalWay a_length a_op a_value : Nat → Int32}
theorem bf_x_pop {post : Int32 → SX → Prop} {s : List Int32} (hs : s.length ≤ 10) (hp : bf_Pl a_pile s) (K : post (s.headD 0) (f_cell, f_way, f_end, f_done, nI s.tail.length, f_written, f_last, f_made, f_level, a_grid, a_given, a_pile, a_output, a_key, a_over, a_steps, a_need, a_rise, a_goalCell, a_goalWay, a_length, a_op, a_value)) : wpX_pop post (f_cell, f_way, f_end, f_done, nI s.length, f_written, f_last, f_made, f_level, a_grid, a_given, a_pile, a_output, a_key, a_over, a_steps, a_need, a_rise, a_goalCell, a_goalWay, a_length, a_op, a_value) := by
  cases s with
  | nil => exact br_t rfl K
  | cons b r =>
    have hl : r.length + 1 ≤ 10 := hs
    refine br_f (nI_ne0 (n := r.length + 1) (by omega) (by omega)) (nm_r (e' := nI r.length) (nI_pred _) ⟨vp_in_nI (by omega) (by decide), ?_⟩)
    rw [nI_clamp (by omega), (bf_Pl_cons hp).1]
    exact K
theorem bf_x_push {post : SX → Prop} {s : List Int32} {v : Int32} (hs : s.length ≤ 10) (hp : bf_Pl a_pile s)
    (K : ∀ (s' : List Int32) (e' : Int32) (a' : Nat → Int32), bf_ps v (s, f_end) = (s', e') → s'.length ≤ 10 → bf_Pl a' s' → post (f_cell, f_way, e', f_done, nI s'.length, f_written, f_last, f_made, f_level, a_grid, a_given, a', a_output, a_key, a_over, a_steps, a_need, a_rise, a_goalCell, a_goalWay, a_length, a_op, a_value)) : wpX_push post (f_cell, f_way, f_end, f_done, nI s.length, f_written, f_last, f_made, f_level, a_grid, a_given, a_pile, a_output, a_key, a_over, a_steps, a_need, a_rise, a_goalCell, a_goalWay, a_length, a_op, a_value) v := by
  by_cases h : s.length = 10
  · exact br_t (show nI s.length = 10 by rw [h]; rfl) (K s 3 a_pile (bf_ps_t h) hs hp)
  · refine br_f (show ¬ nI s.length = nI 10 by rw [nI_eq (by omega) (by omega)]; exact h) ⟨vp_in_nI (by omega) (by decide), nm_r (e' := upd a_pile s.length v) (by rw [nI_clamp (by omega)]) (nm_r (e' := nI (s.length + 1)) (nI_1 _) ?_)⟩
    exact K (v :: s) f_end _ (bf_ps_f h) (by show s.length + 1 ≤ 10; omega) (bf_Pl_push hp)
theorem bf_x_comb {post : Int32 → Prop} {q : Nat} {a b : Int32} (hq : q < 14) (K : post (bf_cb q a b)) : wpX_combined post (f_cell, f_way, f_end, f_done, f_height, f_written, f_last, f_made, f_level, a_grid, a_given, a_pile, a_output, a_key, a_over, a_steps, a_need, a_rise, a_goalCell, a_goalWay, a_length, a_op, a_value) (nI q) a b := by
  unfold bf_cb at K
  refine pk_eq q 10 (fun h => ?_) (fun h => pk_eq q 11 (fun h1 => ?_) (fun h1 => pk_eq q 12 (fun h2 => ?_) (fun h2 => br_c (fun h3 => ?_) (fun h3 => ?_))))
  · rw [if_pos h] at K; exact K
  · rw [if_neg h, if_pos h1] at K; exact K
  · rw [if_neg h, if_neg h1, if_pos h2] at K; exact K
  · rw [if_neg h, if_neg h1, if_neg h2, if_pos h3] at K; exact K
  · rw [if_neg h, if_neg h1, if_neg h2, if_neg h3] at K; exact K
theorem bf_tab : ∀ c, c < 32 → nI c &&& 7 = nI (c % 8) ∧ nI c >>> ((3 : Int32) &&& 31) = nI (c / 8) ∧ (nI (c % 8) + 1) &&& 7 = nI ((c % 8 + 1) % 8) ∧ (nI (c % 8) - 1) &&& 7 = nI ((c % 8 + 7) % 8) := by decide +kernel
theorem bf_tab2 : ∀ c, c < 32 → (nI (c / 8) + 1) &&& 3 = nI ((c / 8 + 1) % 4) ∧ (nI (c / 8) - 1) &&& 3 = nI ((c / 8 + 3) % 4) := by decide +kernel
theorem bf_x_moved {post : Int32 → Prop} {c d : Nat} (hc : c < 32) (hd : d < 4) (K : post (nI (bf_mv c d))) : wpX_moved post (f_cell, f_way, f_end, f_done, f_height, f_written, f_last, f_made, f_level, a_grid, a_given, a_pile, a_output, a_key, a_over, a_steps, a_need, a_rise, a_goalCell, a_goalWay, a_length, a_op, a_value) (nI c) (nI d) := by
  obtain ⟨t1, t2, t3, t4⟩ := bf_tab c hc
  obtain ⟨t5, t6⟩ := bf_tab2 c hc
  unfold bf_mv at K
  refine nm_r (e' := nI (c % 8)) t1 (nm_r (e' := nI (c / 8)) t2 (pk_eq d 0 (fun h => nm_r t3 ?_) (fun h => pk_eq d 1 (fun h1 => nm_r t4 ?_) (fun h1 => pk_eq d 2 (fun h2 => nm_r t5 ?_) (fun h2 => nm_r t6 ?_)))))
  · rw [if_pos h] at K; rw [bf_8]; exact K
  · rw [if_neg h, if_pos h1] at K; rw [bf_8]; exact K
  · rw [if_neg h, if_neg h1, if_pos h2] at K; rw [bf_8]; exact K
  · rw [if_neg h, if_neg h1, if_neg h2] at K; rw [bf_8]; exact K
theorem bf_x_show {post : SX → Prop} {w : Nat} {v : Int32} (hw : w ≤ 16) (K1 : w = 16 → post (f_cell, f_way, 4, f_done, f_height, nI w, f_last, f_made, f_level, a_grid, a_given, a_pile, a_output, a_key, a_over, a_steps, a_need, a_rise, a_goalCell, a_goalWay, a_length, a_op, a_value)) (K2 : ¬ w = 16 → post (f_cell, f_way, f_end, f_done, f_height, nI (w + 1), f_last, f_made, f_level, a_grid, a_given, a_pile, upd a_output w v, a_key, a_over, a_steps, a_need, a_rise, a_goalCell, a_goalWay, a_length, a_op, a_value)) : wpX_show post (f_cell, f_way, f_end, f_done, f_height, nI w, f_last, f_made, f_level, a_grid, a_given, a_pile, a_output, a_key, a_over, a_steps, a_need, a_rise, a_goalCell, a_goalWay, a_length, a_op, a_value) v := by
  refine pk_eq w 16 (fun h => K1 h) (fun h => ⟨vp_in_nI (by omega) (by decide), nm_r (e' := upd a_output w v) (by rw [nI_clamp (by omega)]) (nm_r (e' := nI (w + 1)) (nI_1 _) (K2 h))⟩)
/-! the pile's work -/
theorem bf_x_work_40 {post : SX → Prop} {g : Nat → Nat} {q : Nat} {s : List Int32} {b : Int32} (hq : bf_wq q) (h14 : 14 ≤ q) (hs : s.length ≤ 10) (hp : bf_Pl a_pile s) (hG : bf_Gr a_grid g)
    (K : ∀ (s' : List Int32) (e' : Int32) (a' : Nat → Int32), (∀ s0 : List Int32, s0.headD 0 = b → s0.tail = s → bf_wk g a_given q (s0, f_end) = (s', e')) → s'.length ≤ 10 → bf_Pl a' s' → post (f_cell, f_way, e', f_done, nI s'.length, f_written, f_last, f_made, f_level, a_grid, a_given, a', a_output, a_key, a_over, a_steps, a_need, a_rise, a_goalCell, a_goalWay, a_length, a_op, a_value)) :
    wX_work_40 post (nI q) b f_cell f_way f_end f_done (nI s.length) f_written f_last f_made f_level a_grid a_given a_pile a_output a_key a_over a_steps a_need a_rise a_goalCell a_goalWay a_length a_op a_value := by
  unfold bf_wq at hq
  unfold wX_work_40
  refine pk_eq q 14 (fun h => ?_) (fun h => pk_eq q 15 (fun h1 => ?_) (fun h1 => pk_eq q 17 (fun h2 => ?_) (fun h2 => pk_eq q 27 (fun h3 => ?_) (fun h3 => pk_eq q 28 (fun h4 => ?_) (fun h4 => ?_)))))
  · subst h
    refine bf_x_push hs hp (fun s1 e1 a1 E1 L1 P1 => ?_)
    refine bf_x_push L1 P1 (fun s2 e2 a2 E2 L2 P2 => ?_)
    refine K s2 e2 a2 (fun s0 hb ht => ?_) L2 P2
    rw [bf_wk_14]
    show bf_ps (s0.headD 0) (bf_ps (s0.headD 0) (s0.tail, f_end)) = _
    rw [hb, ht, E1, E2]
  · subst h1
    refine bf_x_pop hs hp ?_
    refine bf_x_push (bf_tl hs) (bf_Pl_tail hp) (fun s1 e1 a1 E1 L1 P1 => ?_)
    refine bf_x_push L1 P1 (fun s2 e2 a2 E2 L2 P2 => ?_)
    refine K s2 e2 a2 (fun s0 hb ht => ?_) L2 P2
    rw [bf_wk_15]
    show bf_ps (s0.tail.headD 0) (bf_ps (s0.headD 0) (s0.tail.tail, f_end)) = _
    rw [hb, ht, E1, E2]
  · subst h2
    refine br_c (fun hz => ?_) (fun hz => ?_)
    · refine bf_x_push hs hp (fun s1 e1 a1 E1 L1 P1 => ?_)
      refine K s1 e1 a1 (fun s0 hb ht => ?_) L1 P1
      rw [bf_wk_17]
      show bf_ps (if s0.headD 0 = 0 then 1 else 0) (s0.tail, f_end) = _
      rw [hb, ht, if_pos hz, E1]
    · refine bf_x_push hs hp (fun s1 e1 a1 E1 L1 P1 => ?_)
      refine K s1 e1 a1 (fun s0 hb ht => ?_) L1 P1
      rw [bf_wk_17]
      show bf_ps (if s0.headD 0 = 0 then 1 else 0) (s0.tail, f_end) = _
      rw [hb, ht, if_neg hz, E1]
  · subst h3
    refine bf_x_pop hs hp ?_
    have hi := bf_ix_lt (s.headD 0) b
    refine ⟨by rw [bf_ix_X]; exact vp_in_nI hi (by decide), ?_⟩
    rw [bf_ix_X, nI_clamp (by omega), hG _ hi]
    refine bf_x_push (bf_tl hs) (bf_Pl_tail hp) (fun s1 e1 a1 E1 L1 P1 => ?_)
    refine K s1 e1 a1 (fun s0 hb ht => ?_) L1 P1
    rw [bf_wk_27]
    show bf_ps (nI (g (bf_ix (s0.tail.headD 0) (s0.headD 0)))) (s0.tail.tail, f_end) = _
    rw [hb, ht, E1]
  · subst h4
    refine ⟨by rw [(bf_3 b).2]; exact vp_in_nI (bf_3 b).1 (by decide), ?_⟩
    refine bf_x_push hs hp (fun s1 e1 a1 E1 L1 P1 => ?_)
    refine K s1 e1 a1 (fun s0 hb ht => ?_) L1 P1
    rw [bf_wk_28]
    show bf_ps (a_given (s0.headD 0 &&& 3).toNatClampNeg) (s0.tail, f_end) = _
    rw [hb, ht, E1]
  · have h16 : q = 16 := by omega
    subst h16
    refine K s f_end a_pile (fun s0 hb ht => ?_) hs hp
    rw [bf_wk_16, ← ht]
theorem bf_x_work {post : SX → Prop} {g : Nat → Nat} {q : Nat} {s : List Int32} (hq : bf_wq q) (hs : s.length ≤ 10) (hp : bf_Pl a_pile s) (hG : bf_Gr a_grid g)
    (K : ∀ (s' : List Int32) (e' : Int32) (a' : Nat → Int32), bf_wk g a_given q (s, f_end) = (s', e') → s'.length ≤ 10 → bf_Pl a' s' → post (f_cell, f_way, e', f_done, nI s'.length, f_written, f_last, f_made, f_level, a_grid, a_given, a', a_output, a_key, a_over, a_steps, a_need, a_rise, a_goalCell, a_goalWay, a_length, a_op, a_value)) :
    wpX_work post (f_cell, f_way, f_end, f_done, nI s.length, f_written, f_last, f_made, f_level, a_grid, a_given, a_pile, a_output, a_key, a_over, a_steps, a_need, a_rise, a_goalCell, a_goalWay, a_length, a_op, a_value) (nI q) := by
  have hlt := bf_wq_lt hq
  have hq' := hq
  unfold bf_wq at hq'
  unfold wpX_work
  refine bf_x_pop hs hp ?_
  refine pk_lt q 10 (fun h => absurd h (by omega)) (fun h => pk_lt 13 q (fun h1 => ?_) (fun h1 => ?_))
  · exact bf_x_work_40 hq (by omega) (bf_tl hs) (bf_Pl_tail hp) hG (fun s' e' a' E L P => K s' e' a' (E s rfl rfl) L P)
  · refine bf_x_pop (bf_tl hs) (bf_Pl_tail hp) ?_
    refine bf_x_comb (by omega) ?_
    refine bf_x_push (bf_tl (bf_tl hs)) (bf_Pl_tail (bf_Pl_tail hp)) (fun s1 e1 a1 E1 L1 P1 => ?_)
    refine K s1 e1 a1 ?_ L1 P1
    rw [bf_wk_lo (by omega)]
    exact E1
/-! writes to the grid -/
theorem bf_b0 (x : Int32) : x &&& 1 = 1 ↔ bt x 0 = true := by
  rw [pk_and x (m := 1) 1 (by decide)]
  show nI (x.toBitVec.toNat % 2 ^ 1) = nI 1 ↔ x.toBitVec.getLsbD 0 = true
  rw [nI_eq (by omega) (by omega), BitVec.getLsbD, Nat.testBit_zero]
  simp
theorem bf_bit {a : Nat} (ha : a < 32) (x : Int32) : (x >>> (nI a &&& 31)) &&& 1 = 1 ↔ bt x a = true := by
  rw [bf_b0, b_sshr a ha x (by decide), if_pos (by omega)]
  exact Iff.rfl
theorem bf_x_write_9 {post : SX → Prop} {p : Nat} (ha : p < 32) : ∀ (r i n : Nat) (key : Nat → Int32), i + r = 16 → r < n →
    (∀ key' : Nat → Int32, (∀ t, t < i → key' t = key t) → (∀ t, i ≤ t → t < 16 → ¬ key' t < 0 → key' t = key t ∧ bt (a_over t) p = false) → post (f_cell, f_way, f_end, f_done, f_height, f_written, f_last, f_made, f_level, a_grid, a_given, a_pile, a_output, key', a_over, a_steps, a_need, a_rise, a_goalCell, a_goalWay, a_length, a_op, a_value)) →
    wX_write_9 post (nI p) f_cell f_way f_end f_done f_height f_written f_last f_made f_level n (nI i) a_grid a_given a_pile a_output key a_over a_steps a_need a_rise a_goalCell a_goalWay a_length a_op a_value := by
  intro r
  induction r with
  | zero =>
    intro i n key hi hn K
    obtain ⟨n', rfl⟩ : ∃ n', n = n' + 1 := ⟨n - 1, by omega⟩
    exact br_t (nI_le (a := 16) (by omega) (by omega)) (K key (fun _ _ => rfl) (fun t h1 h2 => absurd h2 (by omega)))
  | succ r ih =>
    intro i n key hi hn K
    obtain ⟨n', rfl⟩ : ∃ n', n = n' + 1 := ⟨n - 1, by omega⟩
    have hcl : (nI i).toNatClampNeg = i := nI_clamp (by omega)
    have hin : vp_in (nI i) 16 := vp_in_nI (by omega) (by decide)
    refine br_f (nI_ge (b := 16) (by omega) (by decide)) ⟨hin, br_c (fun h1 => ?_) (fun h1 => ⟨hin, br_c (fun h2 => ⟨hin, nm_r (e' := upd key i (-1)) (by rw [hcl]) (nm_r (e' := nI (i + 1)) (nI_1 i) ?_)⟩) (fun h2 => ?_)⟩)⟩
    · rw [hcl] at h1
      refine nm_r (e' := nI (i + 1)) (nI_1 i) (ih (i + 1) n' key (by omega) (by omega) (fun key' k1 k2 => K key' (fun t ht => k1 t (by omega)) (fun t t1 t2 t3 => ?_)))
      rcases Nat.lt_or_ge i t with h | h
      · exact k2 t h t2 t3
      · have : t = i := by omega
        subst this
        rw [k1 t (by omega)] at t3
        exact absurd h1 t3
    · refine ih (i + 1) n' _ (by omega) (by omega) (fun key' k1 k2 => K key' (fun t ht => (k1 t (by omega)).trans (pk_un (by omega))) (fun t t1 t2 t3 => ?_))
      rcases Nat.lt_or_ge i t with h | h
      · obtain ⟨a1, a2⟩ := k2 t h t2 t3
        exact ⟨a1.trans (pk_un (by omega)), a2⟩
      · have : t = i := by omega
        subst this
        rw [k1 t (by omega), pk_us] at t3
        exact absurd (by decide) t3
    · rw [hcl, bf_bit ha] at h2
      refine nm_r (e' := nI (i + 1)) (nI_1 i) (ih (i + 1) n' key (by omega) (by omega) (fun key' k1 k2 => K key' (fun t ht => k1 t (by omega)) (fun t t1 t2 t3 => ?_)))
      rcases Nat.lt_or_ge i t with h | h
      · exact k2 t h t2 t3
      · have : t = i := by omega
        subst this
        exact ⟨k1 t (by omega), Bool.eq_false_iff.mpr h2⟩
theorem bf_x_write {post : SX → Prop} {g : Nat → Nat} {p v : Nat} (ha : p < 32) (hG : bf_Gr a_grid g) (hT : bf_tr g a_key a_over a_steps a_need a_rise a_goalCell a_goalWay a_length a_op a_value)
    (K : ∀ aG aK : Nat → Int32, bf_Gr aG (bf_un g p v) → bf_tr (bf_un g p v) aK a_over a_steps a_need a_rise a_goalCell a_goalWay a_length a_op a_value → post (f_cell, f_way, f_end, f_done, f_height, f_written, f_last, f_made, f_level, aG, a_given, a_pile, a_output, aK, a_over, a_steps, a_need, a_rise, a_goalCell, a_goalWay, a_length, a_op, a_value)) :
    wpX_write post (f_cell, f_way, f_end, f_done, f_height, f_written, f_last, f_made, f_level, a_grid, a_given, a_pile, a_output, a_key, a_over, a_steps, a_need, a_rise, a_goalCell, a_goalWay, a_length, a_op, a_value) (nI p) (nI v) := by
  refine ⟨vp_in_nI ha (by decide), nm_r (e' := upd a_grid p (nI v)) (by rw [nI_clamp (by omega)]) ⟨17, ?_⟩⟩
  exact bf_x_write_9 (a_grid := upd a_grid p (nI v)) ha 16 0 17 a_key (by decide) (by decide) (fun key' _ k2 => K _ _ (bf_Gr_upd hG) (bf_tr_write hT (fun t ht hn => k2 t (by omega) ht hn)))
theorem bf_x_dropAll_2 {post : SX → Prop} : ∀ (r i n : Nat) (key : Nat → Int32), i + r = 16 → r < n → (∀ t, t < i → key t < 0) →
    (∀ key' : Nat → Int32, (∀ t, t < 16 → key' t < 0) → post (f_cell, f_way, f_end, f_done, f_height, f_written, f_last, f_made, f_level, a_grid, a_given, a_pile, a_output, key', a_over, a_steps, a_need, a_rise, a_goalCell, a_goalWay, a_length, a_op, a_value)) →
    wX_dropAll_2 post f_cell f_way f_end f_done f_height f_written f_last f_made f_level n (nI i) a_grid a_given a_pile a_output key a_over a_steps a_need a_rise a_goalCell a_goalWay a_length a_op a_value := by
  intro r
  induction r with
  | zero =>
    intro i n key hi hn hk K
    obtain ⟨n', rfl⟩ : ∃ n', n = n' + 1 := ⟨n - 1, by omega⟩
    exact br_t (nI_le (a := 16) (by omega) (by omega)) (K key (fun t ht => hk t (by omega)))
  | succ r ih =>
    intro i n key hi hn hk K
    obtain ⟨n', rfl⟩ : ∃ n', n = n' + 1 := ⟨n - 1, by omega⟩
    have hcl : (nI i).toNatClampNeg = i := nI_clamp (by omega)
    refine br_f (nI_ge (b := 16) (by omega) (by decide)) ⟨vp_in_nI (by omega) (by decide), nm_r (e' := upd key i (-1)) (by rw [hcl]) (nm_r (e' := nI (i + 1)) (nI_1 i) (ih (i + 1) n' _ (by omega) (by omega) (fun t ht => ?_) K))⟩
    rcases Nat.lt_or_ge t i with h | h
    · rw [pk_un (by omega)]; exact hk t h
    · have : t = i := by omega
      subst this
      rw [pk_us]; decide
theorem bf_x_dropAll {post : SX → Prop} (K : ∀ key' : Nat → Int32, (∀ t, t < 16 → key' t < 0) → post (f_cell, f_way, f_end, f_done, f_height, f_written, f_last, f_made, f_level, a_grid, a_given, a_pile, a_output, key', a_over, a_steps, a_need, a_rise, a_goalCell, a_goalWay, a_length, a_op, a_value)) : wpX_dropAll post (f_cell, f_way, f_end, f_done, f_height, f_written, f_last, f_made, f_level, a_grid, a_given, a_pile, a_output, a_key, a_over, a_steps, a_need, a_rise, a_goalCell, a_goalWay, a_length, a_op, a_value) :=
  ⟨17, bf_x_dropAll_2 16 0 17 a_key (by decide) (by decide) (fun t ht => absurd ht (by omega)) K⟩
end
end
section
/-! X's single step -/
section
variable {f_cell f_way f_end f_done f_height f_written f_last f_made f_level : Int32} {a_grid a_given a_pile a_output a_key a_over a_steps a_need a_rise a_goalCell a_goalWay a_length a_op a_value : Nat → Int32}
theorem bf_x_go {post : SX → Prop} {c d : Nat} (hc : c < 32) (hd : d < 4) (K0 : f_end = 0 → post (nI (bf_mv c d), nI d, f_end, f_done, f_height, f_written, f_last, f_made, f_level, a_grid, a_given, a_pile, a_output, a_key, a_over, a_steps, a_need, a_rise, a_goalCell, a_goalWay, a_length, a_op, a_value)) (K1 : ¬ f_end = 0 → post (nI c, nI d, f_end, f_done, f_height, f_written, f_last, f_made, f_level, a_grid, a_given, a_pile, a_output, a_key, a_over, a_steps, a_need, a_rise, a_goalCell, a_goalWay, a_length, a_op, a_value)) :
    wX_step_202 post (nI c) (nI d) f_end f_done f_height f_written f_last f_made f_level a_grid a_given a_pile a_output a_key a_over a_steps a_need a_rise a_goalCell a_goalWay a_length a_op a_value := by
  unfold wX_step_202
  exact br_c (fun h => bf_x_moved hc hd (K0 h)) (fun h => K1 h)
theorem bf_x_store {post : SX → Prop} {g : Nat → Nat} {s : List Int32} (hs : s.length ≤ 10) (hp : bf_Pl a_pile s) (hG : bf_Gr a_grid g) (hT : bf_tr g a_key a_over a_steps a_need a_rise a_goalCell a_goalWay a_length a_op a_value)
    (K : ∀ aG aK : Nat → Int32, bf_Gr aG (bf_un g (bf_ix (s.tail.headD 0) (s.headD 0)) (s.tail.tail.headD 0 &&& 31).toNatClampNeg) → bf_tr (bf_un g (bf_ix (s.tail.headD 0) (s.headD 0)) (s.tail.tail.headD 0 &&& 31).toNatClampNeg) aK a_over a_steps a_need a_rise a_goalCell a_goalWay a_length a_op a_value →
      post (f_cell, f_way, f_end, f_done, nI s.tail.tail.tail.length, f_written, f_last, f_made, f_level, aG, a_given, a_pile, a_output, aK, a_over, a_steps, a_need, a_rise, a_goalCell, a_goalWay, a_length, a_op, a_value)) :
    wpX_store post (f_cell, f_way, f_end, f_done, nI s.length, f_written, f_last, f_made, f_level, a_grid, a_given, a_pile, a_output, a_key, a_over, a_steps, a_need, a_rise, a_goalCell, a_goalWay, a_length, a_op, a_value) := by
  unfold wpX_store
  refine bf_x_pop hs hp ?_
  refine bf_x_pop (bf_tl hs) (bf_Pl_tail hp) ?_
  refine bf_x_pop (bf_tl (bf_tl hs)) (bf_Pl_tail (bf_Pl_tail hp)) ?_
  show wpX_write _ _ ((s.tail.headD 0 &&& 7) + (8 * (s.headD 0 &&& 3))) (s.tail.tail.headD 0 &&& 31)
  rw [bf_ix_X, (bf_31 (s.tail.tail.headD 0)).2]
  exact bf_x_write (bf_ix_lt _ _) hG hT K
theorem bf_x_step {post : SX → Prop} {g : Nat → Nat} {c d k w : Nat} {s : List Int32} (hc : c < 32) (hd : d < 4) (hs : s.length ≤ 10) (hk : k < 400) (hw : w ≤ 16) (hg : ∀ i, i < 32 → g i < 32)
    (hG : bf_Gr a_grid g) (hp : bf_Pl a_pile s) (hT : bf_tr g a_key a_over a_steps a_need a_rise a_goalCell a_goalWay a_length a_op a_value)
    (K : ∀ (g' : Nat → Nat) (c' d' : Nat) (s' : List Int32) (e' : Int32) (w' : Nat) (out' aG aP aK : Nat → Int32), bf_st a_given (g, c, d, s, 0, k, w, a_output) = (g', c', d', s', e', k + 1, w', out') → bf_Gr aG g' → bf_Pl aP s' →
      bf_tr g' aK a_over a_steps a_need a_rise a_goalCell a_goalWay a_length a_op a_value →
      post (nI c', nI d', e', nI (k + 1), nI s'.length, nI w', f_last, f_made, f_level, aG, a_given, aP, out', aK, a_over, a_steps, a_need, a_rise, a_goalCell, a_goalWay, a_length, a_op, a_value)) :
    wpX_step post (nI c, nI d, 0, nI k, nI s.length, nI w, f_last, f_made, f_level, a_grid, a_given, a_pile, a_output, a_key, a_over, a_steps, a_need, a_rise, a_goalCell, a_goalWay, a_length, a_op, a_value) := by
  have J : ∀ (g' : Nat → Nat) (c' d' : Nat) (s' : List Int32) (e' : Int32) (w' : Nat) (out' aG aP aK : Nat → Int32), bf_bo a_given (g, c, d, s, 0, k + 1, w, a_output) = (g', c', d', s', e', k + 1, w', out') → bf_Gr aG g' → bf_Pl aP s' →
      bf_tr g' aK a_over a_steps a_need a_rise a_goalCell a_goalWay a_length a_op a_value →
      wX_step_202 post (nI c') (nI d') e' (nI (k + 1)) (nI s'.length) (nI w') f_last f_made f_level aG a_given aP out' aK a_over a_steps a_need a_rise a_goalCell a_goalWay a_length a_op a_value := by
    intro g' c' d' s' e' w' out' aG aP aK hb h1 h2 h3
    have ok : bf_ok (g', c', d', s', e', k + 1, w', out') := by
      rw [← hb]
      exact bf_ok_bo ⟨hc, hd, hs, by omega, hw, hg⟩
    refine bf_x_go ok.1 ok.2.1 (fun h0 => K g' _ d' s' e' w' out' aG aP aK ?_ h1 h2 h3) (fun h0 => K g' _ d' s' e' w' out' aG aP aK ?_ h1 h2 h3)
    · rw [bf_st, if_pos ⟨rfl, hk⟩, hb, bf_go, if_pos h0]
    · rw [bf_st, if_pos ⟨rfl, hk⟩, hb, bf_go, if_neg h0]
  have hq := hg c hc
  have J63 : bf_wq (g c) → wX_step_63 post (nI (g c)) (nI c) (nI d) 0 (nI (k + 1)) (nI s.length) (nI w) f_last f_made f_level a_grid a_given a_pile a_output a_key a_over a_steps a_need a_rise a_goalCell a_goalWay a_length a_op a_value := by
    intro h
    unfold wX_step_63
    refine bf_x_work h hs hp hG (fun s' e' a' E L P => ?_)
    refine J g c d s' e' w a_output a_grid a' a_key (bf_bo_pb (by unfold bf_wq at h; omega) (by rw [bf_pb_wk h, E])) hG P hT
  have J106 : g c = 22 ∨ g c = 23 → wX_step_106 post (nI (g c)) (nI c) (nI d) 0 (nI (k + 1)) (nI s.length) (nI w) f_last f_made f_level a_grid a_given a_pile a_output a_key a_over a_steps a_need a_rise a_goalCell a_goalWay a_length a_op a_value := by
    intro h
    unfold wX_step_106
    refine bf_x_pop hs hp ?_
    have e2 : (nI (g c) - 22) * 2 = nI ((g c - 22) * 2) := by
      rw [show (22 : Int32) = nI 22 from rfl, pk_sub (by omega), show (2 : Int32) = nI 2 from rfl, pk_mul]
    refine br_c (fun hz => ?_) (fun hz => ?_)
    · refine nm_r (e' := nI ((g c - 22) * 2 + 0)) (by rw [e2]; exact nI_add _ 0) ?_
      refine J g c _ s.tail 0 w a_output a_grid a_pile a_key ?_ hG (bf_Pl_tail hp) hT
      rw [bf_bo_br h, if_pos hz]
    · refine nm_r (e' := nI ((g c - 22) * 2 + 1)) (by rw [e2]; exact nI_add _ 1) ?_
      refine J g c _ s.tail 0 w a_output a_grid a_pile a_key ?_ hG (bf_Pl_tail hp) hT
      rw [bf_bo_br h, if_neg hz]
  have J94 : g c < 1 ∨ 21 < g c → ¬ g c = 27 → ¬ g c = 28 → wX_step_94 post (nI (g c)) (nI c) (nI d) 0 (nI (k + 1)) (nI s.length) (nI w) f_last f_made f_level a_grid a_given a_pile a_output a_key a_over a_steps a_need a_rise a_goalCell a_goalWay a_length a_op a_value := by
    intro h h27 h28
    unfold wX_step_94
    refine pk_eq (g c) 22 (fun h1 => J106 (Or.inl h1)) (fun h1 => pk_eq (g c) 23 (fun h2 => J106 (Or.inr h2)) (fun h2 => pk_eq (g c) 24 (fun h3 => ?_) (fun h3 => pk_eq (g c) 25 (fun h4 => ?_) (fun h4 => pk_eq (g c) 26 (fun h5 => ?_) (fun h5 => pk_eq (g c) 29 (fun h6 => ?_) (fun h6 => ?_))))))
    · refine bf_x_moved hc hd ?_
      exact J g _ d s 0 w a_output a_grid a_pile a_key (bf_bo_24 h3) hG hp hT
    · refine bf_x_pop hs hp ?_
      refine bf_x_show hw (fun h6 => ?_) (fun h6 => ?_)
      · exact J g c d s.tail 4 w a_output a_grid a_pile a_key (bf_bo_25t h4 h6) hG (bf_Pl_tail hp) hT
      · exact J g c d s.tail 0 (w + 1) _ a_grid a_pile a_key (bf_bo_25f h4 h6) hG (bf_Pl_tail hp) hT
    · refine bf_x_store hs hp hG hT (fun aG aK h7 h8 => ?_)
      exact J _ c d s.tail.tail.tail 0 w a_output aG a_pile aK (bf_bo_26 h5) h7 (bf_Pl_tail (bf_Pl_tail (bf_Pl_tail hp))) h8
    · exact J g c d s 1 w a_output a_grid a_pile a_key (bf_bo_29 h6) hG hp hT
    · exact J g c d s 0 w a_output a_grid a_pile a_key (bf_bo_pb (by omega) (bf_pb_id (by omega) (by unfold bf_wq; omega))) hG hp hT
  have J51 : g c < 1 ∨ 17 < g c → wX_step_51 post (nI (g c)) (nI c) (nI d) 0 (nI (k + 1)) (nI s.length) (nI w) f_last f_made f_level a_grid a_given a_pile a_output a_key a_over a_steps a_need a_rise a_goalCell a_goalWay a_length a_op a_value := by
    intro h
    unfold wX_step_51
    refine pk_eq (g c) 27 (fun h1 => J63 (Or.inr (Or.inl h1))) (fun h1 => pk_eq (g c) 28 (fun h2 => J63 (Or.inr (Or.inr h2))) (fun h2 => pk_lt (g c) 18 (fun h3 => J94 (by omega) h1 h2) (fun h3 => pk_lt 21 (g c) (fun h4 => J94 (by omega) h1 h2) (fun h4 => nm_r (e' := nI (g c - 18)) (pk_sub h3) ?_))))
    exact J g c _ s 0 w a_output a_grid a_pile a_key (bf_bo_dir h3 h4) hG hp hT
  have J39 : g c < 1 ∨ 9 < g c → wX_step_39 post (nI (g c)) (nI c) (nI d) 0 (nI (k + 1)) (nI s.length) (nI w) f_last f_made f_level a_grid a_given a_pile a_output a_key a_over a_steps a_need a_rise a_goalCell a_goalWay a_length a_op a_value := by
    intro h
    unfold wX_step_39
    exact pk_lt (g c) 10 (fun h1 => J51 (by omega)) (fun h1 => pk_le (g c) 17 (fun h2 => J63 (Or.inl ⟨h1, h2⟩)) (fun h2 => J51 (by omega)))
  refine ⟨vp_in_nI hc (by decide), nm_r (e' := nI (g c)) (by rw [nI_clamp (by omega)]; exact hG c hc) (nm_r (e' := nI (k + 1)) (nI_1 k) (pk_lt (g c) 1 (fun h => J39 (Or.inl h)) (fun h => pk_lt 9 (g c) (fun h1 => J39 (Or.inr h1)) (fun h1 => ?_))))⟩
  refine bf_x_push hs hp (fun s' e' a' E L P => ?_)
  exact J g c d s' e' w a_output a_grid a' a_key (bf_bo_pb (by omega) (by rw [bf_pb_dig h h1, E])) hG P hT
end
end
section
/-! what entering a code does to the trace that is being made -/
theorem bf_sub {x y : Int32} (h1 : -1000 ≤ x.toInt) (h2 : x.toInt ≤ 1000) (h3 : -1000 ≤ y.toInt) (h4 : y.toInt ≤ 1000) : (x - y).toInt = x.toInt - y.toInt := by
  rw [Int32.toInt_sub]
  exact Int.bmod_eq_of_le (by omega) (by omega)
theorem bf_add {x y : Int32} (h1 : -10000 ≤ x.toInt) (h2 : x.toInt ≤ 10000) (h3 : -10000 ≤ y.toInt) (h4 : y.toInt ≤ 10000) : (x + y).toInt = x.toInt + y.toInt := by
  rw [Int32.toInt_add]
  exact Int.bmod_eq_of_le (by omega) (by omega)
def bf_ac (t off on : Nat) (l : Int32) (nd rs : Nat → Int32) (l' : Int32) (nd' rs' : Nat → Int32) : Prop :=
  (∀ j, j ≠ t → nd' j = nd j ∧ rs' j = rs j) ∧ (nd t).toInt ≤ (nd' t).toInt ∧ off - l.toInt ≤ (nd' t).toInt ∧ (rs t).toInt ≤ (rs' t).toInt ∧ l'.toInt = l.toInt - off + on ∧ l'.toInt ≤ (rs' t).toInt ∧ (rs' t = rs t ∨ rs' t = l')
def bf_fx (t q m : Nat) (l : Int32) (nd rs op val : Nat → Int32) (m' : Nat) (l' : Int32) (nd' rs' op' val' : Nat → Int32) : Prop :=
  m' ≤ m + 1 ∧ (∀ j, j ≠ t → nd' j = nd j ∧ rs' j = rs j) ∧ (nd t).toInt ≤ (nd' t).toInt ∧ (rs t).toInt ≤ (rs' t).toInt ∧ (l.toInt - 1 ≤ l'.toInt ∧ l'.toInt ≤ l.toInt + 1) ∧ (rs' t = rs t ∨ rs' t = l') ∧
  (∀ j, (j < t * 16 ∨ t * 16 + 16 ≤ j) → op' j = op j ∧ val' j = val j) ∧ ((∀ j, j < m → bf_ov (op (t * 16 + j)) (val (t * 16 + j))) → ∀ j, j < m' → bf_ov (op' (t * 16 + j)) (val' (t * 16 + j))) ∧
  bf_px (t * 16) q m m' (nd' t).toInt (rs' t).toInt l.toInt l'.toInt op val op' val'
theorem bf_fx_mk {t q m off on m' : Nat} {l l' : Int32} {nd rs op val nd' rs' op' val' : Nat → Int32} (A : bf_ac t off on l nd rs l' nd' rs') (h1 : off ≤ on + 1) (h2 : on ≤ off + 1) (hm : m' ≤ m + 1)
    (hf : ∀ j, (j < t * 16 ∨ t * 16 + 16 ≤ j) → op' j = op j ∧ val' j = val j) (hv : (∀ j, j < m → bf_ov (op (t * 16 + j)) (val (t * 16 + j))) → ∀ j, j < m' → bf_ov (op' (t * 16 + j)) (val' (t * 16 + j)))
    (hp : bf_px (t * 16) q m m' (nd' t).toInt (rs' t).toInt l.toInt l'.toInt op val op' val') : bf_fx t q m l nd rs op val m' l' nd' rs' op' val' := by
  obtain ⟨a1, a2, a3, a4, a5, a6, a7⟩ := A
  exact ⟨hm, a1, a2, a4, ⟨by omega, by omega⟩, a7, hf, hv, hp⟩
theorem bf_on_off {q : Nat} (h : bf_wq q) : bf_off q ≤ bf_on q + 1 ∧ bf_on q ≤ bf_off q + 1 := by
  unfold bf_wq at h
  unfold bf_off bf_on
  split <;> split <;> (try split) <;> omega
theorem bf_fx_add {t q m off on : Nat} {l l' v : Int32} {nd rs op val nd' rs' : Nat → Int32} (hq : bf_wq q) (hm : m < 16) (eo : bf_off q = off) (en : bf_on q = on) (A : bf_ac t off on l nd rs l' nd' rs') :
    bf_fx t q m l nd rs op val (m + 1) l' nd' rs' (upd op (t * 16 + m) (nI q)) (upd val (t * 16 + m) v) := by
  subst eo en
  have hA := A
  obtain ⟨a1, a2, a3, a4, a5, a6, a7⟩ := A
  refine bf_fx_mk hA (bf_on_off hq).1 (bf_on_off hq).2 (Nat.le_refl _) (fun j hj => ⟨pk_un (by omega), pk_un (by omega)⟩) (fun h j hj => ?_) (bf_px_add hq a5 a3 a6 (fun i hi => ⟨pk_un (by omega), pk_un (by omega)⟩) pk_us)
  by_cases hjm : j = m
  · subst hjm
    rw [pk_us]
    exact Or.inr (Or.inr (Or.inr ⟨q, rfl, hq⟩))
  · rw [pk_un (by omega), pk_un (by omega)]
    exact h j (by omega)
theorem bf_fx_con {t q m : Nat} {l l' v : Int32} {nd rs op val nd' rs' : Nat → Int32} (hm : m < 16) (off on : Nat) (A : bf_ac t off on l nd rs l' nd' rs') (h1 : off ≤ on + 1) (h2 : on ≤ off + 1)
    (P : bf_px (t * 16) q m (m + 1) (nd' t).toInt (rs' t).toInt l.toInt l'.toInt op val (upd op (t * 16 + m) 40) (upd val (t * 16 + m) v)) :
    bf_fx t q m l nd rs op val (m + 1) l' nd' rs' (upd op (t * 16 + m) 40) (upd val (t * 16 + m) v) := by
  refine bf_fx_mk A h1 h2 (Nat.le_refl _) (fun j hj => ⟨pk_un (by omega), pk_un (by omega)⟩) (fun h j hj => ?_) P
  by_cases hjm : j = m
  · subst hjm
    rw [pk_us]
    exact Or.inl rfl
  · rw [pk_un (by omega), pk_un (by omega)]
    exact h j (by omega)
section
variable {f_cell f_way f_end f_done f_height f_written f_last f_made f_level : Int32} {a_grid a_given a_pile a_output a_key a_over a_steps a_need a_rise a_goalCell a_goalWay a_length a_op a_value : Nat → Int32}
theorem bf_x_account {post : SX → Prop} {t off on : Nat} (ht : t < 16) (ho : off ≤ 2) (hn : on ≤ 2) (hl : -100 ≤ f_level.toInt ∧ f_level.toInt ≤ 100)
    (K : ∀ (l' : Int32) (nd' rs' : Nat → Int32), bf_ac t off on f_level a_need a_rise l' nd' rs' → post (f_cell, f_way, f_end, f_done, f_height, f_written, f_last, f_made, l', a_grid, a_given, a_pile, a_output, a_key, a_over, a_steps, nd', rs', a_goalCell, a_goalWay, a_length, a_op, a_value)) : wpX_account post (f_cell, f_way, f_end, f_done, f_height, f_written, f_last, f_made, f_level, a_grid, a_given, a_pile, a_output, a_key, a_over, a_steps, a_need, a_rise, a_goalCell, a_goalWay, a_length, a_op, a_value) (nI t) (nI off) (nI on) := by
  have ho' : (nI off).toInt = off := nI_toInt (by omega)
  have hn' : (nI on).toInt = on := nI_toInt (by omega)
  have e1 : (nI off - f_level).toInt = off - f_level.toInt := by
    rw [bf_sub (by omega) (by omega) (by omega) (by omega), ho']
  have e0 : (f_level - nI off).toInt = f_level.toInt - off := by
    rw [bf_sub (by omega) (by omega) (by omega) (by omega), ho']
  have e2 : (f_level - nI off + nI on).toInt = f_level.toInt - off + on := by
    rw [bf_add (by omega) (by omega) (by omega) (by omega), e0, hn']
  have hin : vp_in (nI t) 16 := vp_in_nI ht (by decide)
  have hcl : (nI t).toNatClampNeg = t := nI_clamp (by omega)
  have J : ∀ nd' : Nat → Int32, (∀ j, j ≠ t → nd' j = a_need j) → (a_need t).toInt ≤ (nd' t).toInt → off - f_level.toInt ≤ (nd' t).toInt → wX_account_27 post (nI t) (nI off) (nI on) f_cell f_way f_end f_done f_height f_written f_last f_made f_level a_grid a_given a_pile a_output a_key a_over a_steps nd' a_rise a_goalCell a_goalWay a_length a_op a_value := by
    intro nd' h1 h2 h3
    unfold wX_account_27
    refine nm_r (e' := f_level - nI off + nI on) rfl ⟨hin, br_c (fun h => ?_) (fun h => ⟨hin, nm_r (e' := upd a_rise t (f_level - nI off + nI on)) (by rw [hcl]) ?_⟩)⟩
    · rw [hcl, Int32.le_iff_toInt_le, e2] at h
      exact K _ _ _ ⟨fun j hj => ⟨h1 j hj, rfl⟩, h2, h3, Int.le_refl _, e2, by rw [e2]; exact h, Or.inl rfl⟩
    · rw [hcl, Int32.le_iff_toInt_le, e2] at h
      exact K _ _ _ ⟨fun j hj => ⟨h1 j hj, pk_un hj⟩, h2, h3, by rw [pk_us, e2]; omega, e2, by rw [pk_us]; exact Int.le_refl _, Or.inr pk_us⟩
  refine ⟨hin, br_c (fun h => ?_) (fun h => ⟨hin, nm_r (e' := upd a_need t (nI off - f_level)) (by rw [hcl]) ?_⟩)⟩
  · rw [hcl, Int32.le_iff_toInt_le, e1] at h
    exact J a_need (fun _ _ => rfl) (Int.le_refl _) h
  · rw [hcl, Int32.le_iff_toInt_le, e1] at h
    exact J _ (fun j hj => pk_un hj) (by rw [pk_us, e1]; omega) (by rw [pk_us, e1]; exact Int.le_refl _)
theorem bf_b (t m : Nat) : nI t * 16 + nI m = nI (t * 16 + m) := by
  rw [show (16 : Int32) = nI 16 from rfl, pk_mul, nI_add]
theorem bf_i1 (t j : Nat) : nI t * 16 + nI (j + 1) - 1 = nI (t * 16 + j) := by
  rw [bf_b, ← Nat.add_assoc, nI_pred]
theorem bf_i2 (t j : Nat) : nI t * 16 + nI (j + 2) - 2 = nI (t * 16 + j) := by
  rw [bf_b, show (2 : Int32) = nI 2 from rfl, pk_sub (by omega)]
  exact congrArg nI (by omega)
theorem bf_x_known_0 {post : Int32 → Prop} {x1 x2 x4 : Int32} {n : Nat} (K0 : post 0) : wX_known_17 post x1 x2 f_cell f_way f_end f_done f_height f_written f_last f_made f_level a_grid a_given a_pile a_output a_key a_over a_steps a_need a_rise a_goalCell a_goalWay a_length a_op a_value (n + 1) 0 x4 :=
  br_c (fun _ => ⟨narrow_b0, K0⟩) (fun _ => br_t rfl ⟨narrow_b0, K0⟩)
theorem bf_x_known1 {post : Int32 → Prop} {t m : Nat} (ht : t < 16) (hm : m < 16) (K0 : post 0) (K1 : ∀ j, m = j + 1 → a_op (t * 16 + j) = 40 → post 1) : wpX_known post (f_cell, f_way, f_end, f_done, f_height, f_written, f_last, nI m, f_level, a_grid, a_given, a_pile, a_output, a_key, a_over, a_steps, a_need, a_rise, a_goalCell, a_goalWay, a_length, a_op, a_value) (nI t) 1 := by
  refine pk_lt m 1 (fun h => ⟨1, bf_x_known_0 K0⟩) (fun h => ⟨3, ?_⟩)
  obtain ⟨j, rfl⟩ : ∃ j, m = j + 1 := ⟨m - 1, by omega⟩
  refine br_f (by decide) (br_f (by decide) ⟨?_, br_c (fun h => nm_r (e' := 2) (by decide) ?_) (fun h => nm_r (e' := 2) (by decide) (bf_x_known_0 K0))⟩)
  · rw [bf_i1]
    exact vp_in_nI (by omega) (by decide)
  · rw [bf_i1, nI_clamp (by omega)] at h
    exact br_t (by decide) ⟨narrow_b1, K1 j rfl h⟩
theorem bf_x_known2 {post : Int32 → Prop} {t m : Nat} (ht : t < 16) (hm : m < 16) (K0 : post 0) (K1 : ∀ j, m = j + 2 → a_op (t * 16 + (j + 1)) = 40 → a_op (t * 16 + j) = 40 → post 1) : wpX_known post (f_cell, f_way, f_end, f_done, f_height, f_written, f_last, nI m, f_level, a_grid, a_given, a_pile, a_output, a_key, a_over, a_steps, a_need, a_rise, a_goalCell, a_goalWay, a_length, a_op, a_value) (nI t) 2 := by
  refine pk_lt m 2 (fun h => ⟨1, bf_x_known_0 K0⟩) (fun h => ⟨4, ?_⟩)
  obtain ⟨j, rfl⟩ : ∃ j, m = j + 2 := ⟨m - 2, by omega⟩
  refine br_f (by decide) (br_f (by decide) ⟨?_, br_c (fun h1 => nm_r (e' := 2) (by decide) ?_) (fun h => nm_r (e' := 2) (by decide) (bf_x_known_0 K0))⟩)
  · rw [bf_i1 t (j + 1)]
    exact vp_in_nI (by omega) (by decide)
  · rw [bf_i1 t (j + 1), nI_clamp (by omega)] at h1
    refine br_f (by decide) (br_f (by decide) ⟨?_, br_c (fun h2 => nm_r (e' := 3) (by decide) ?_) (fun h => nm_r (e' := 3) (by decide) (bf_x_known_0 K0))⟩)
    · rw [bf_i2]
      exact vp_in_nI (by omega) (by decide)
    · rw [bf_i2, nI_clamp (by omega)] at h2
      exact br_t (by decide) ⟨narrow_b1, K1 j rfl h1 h2⟩
theorem bf_x_add {post : SX → Prop} {t m : Nat} {w v : Int32} (ht : t < 16) (hm : m < 16) (K : post (f_cell, f_way, f_end, f_done, f_height, f_written, f_last, nI (m + 1), f_level, a_grid, a_given, a_pile, a_output, a_key, a_over, a_steps, a_need, a_rise, a_goalCell, a_goalWay, a_length, upd a_op (t * 16 + m) w, upd a_value (t * 16 + m) v)) : wpX_add post (f_cell, f_way, f_end, f_done, f_height, f_written, f_last, nI m, f_level, a_grid, a_given, a_pile, a_output, a_key, a_over, a_steps, a_need, a_rise, a_goalCell, a_goalWay, a_length, a_op, a_value) (nI t) w v := by
  have hi : vp_in (nI t * 16 + nI m) 256 := by
    rw [bf_b]
    exact vp_in_nI (by omega) (by decide)
  have hcl : (nI t * 16 + nI m).toNatClampNeg = t * 16 + m := by rw [bf_b, nI_clamp (by omega)]
  exact ⟨hi, nm_r (e' := upd a_op (t * 16 + m) w) (by rw [hcl]) ⟨hi, nm_r (e' := upd a_value (t * 16 + m) v) (by rw [hcl]) (nm_r (e' := nI (m + 1)) (nI_1 m) K)⟩⟩
theorem bf_x_foldTwo {post : SX → Prop} {t q m : Nat} (ht : t < 16) (hm : m < 16) (hl : -100 ≤ f_level.toInt ∧ f_level.toInt ≤ 100) (h1 : 10 ≤ q) (h2 : q ≤ 13)
    (K : ∀ (m' : Nat) (l' : Int32) (nd' rs' op' val' : Nat → Int32), bf_fx t q m f_level a_need a_rise a_op a_value m' l' nd' rs' op' val' → post (f_cell, f_way, f_end, f_done, f_height, f_written, f_last, nI m', l', a_grid, a_given, a_pile, a_output, a_key, a_over, a_steps, nd', rs', a_goalCell, a_goalWay, a_length, op', val')) :
    wpX_foldTwo post (f_cell, f_way, f_end, f_done, f_height, f_written, f_last, nI m, f_level, a_grid, a_given, a_pile, a_output, a_key, a_over, a_steps, a_need, a_rise, a_goalCell, a_goalWay, a_length, a_op, a_value) (nI t) (nI q) := by
  have hq : bf_wq q := Or.inl ⟨h1, by omega⟩
  have eo : bf_off q = 2 := if_pos (Or.inl (by omega))
  have en : bf_on q = 1 := by unfold bf_on; rw [if_neg (by omega), if_neg (by omega)]
  unfold wpX_foldTwo
  refine bf_x_account (off := 2) (on := 1) ht (by decide) (by decide) hl (fun l' nd' rs' A => ?_)
  refine bf_x_known2 ht hm ?_ (fun j hj o1 o0 => ?_)
  · refine br_t rfl ?_
    refine bf_x_add ht hm ?_
    exact K (m + 1) l' nd' rs' _ _ (bf_fx_add hq hm eo en A)
  · subst hj
    have hi : vp_in (nI (t * 16 + j)) 256 := vp_in_nI (by omega) (by decide)
    have hcl : (nI (t * 16 + j)).toNatClampNeg = t * 16 + j := nI_clamp (by omega)
    have hcl1 : (nI (t * 16 + j) + 1).toNatClampNeg = t * 16 + (j + 1) := by rw [nI_1, nI_clamp (by omega)]; rfl
    refine br_f (by decide) (nm_r (e' := nI (t * 16 + j)) (bf_i2 t j) ⟨hi, by rw [nI_1]; exact vp_in_nI (by omega) (by decide), ?_⟩)
    rw [hcl, hcl1]
    refine bf_x_comb (by omega) ⟨hi, nm_r (e' := upd a_value (t * 16 + j) (bf_cb q (a_value (t * 16 + j)) (a_value (t * 16 + (j + 1))))) rfl (nm_r (e' := nI (j + 1)) (nI_pred (j + 1)) ?_)⟩
    refine K (j + 1) l' nd' rs' _ _ (bf_fx_mk A (by decide) (by decide) (by omega) (fun i hi => ⟨rfl, pk_un (by omega)⟩) (fun h i hi => ?_) (bf_px_two h1 h2 o1 o0 (fun i hi => ⟨rfl, pk_un (by omega)⟩) o0 pk_us ?_))
    · by_cases hij : i = j
      · subst hij
        exact Or.inl o0
      · rw [pk_un (by omega)]
        exact h i (by omega)
    · have := A.2.2.2.2.1
      omega
end
end
section
section
variable {f_cell f_way f_end f_done f_height f_written f_last f_made f_level : Int32} {a_grid a_given a_pile a_output a_key a_over a_steps a_need a_rise a_goalCell a_goalWay a_length a_op a_value : Nat → Int32}
theorem bf_x_foldOne {post : SX → Prop} {t q m : Nat} (ht : t < 16) (hm : m < 16) (hl : -100 ≤ f_level.toInt ∧ f_level.toInt ≤ 100) (hq : q = 14 ∨ q = 16 ∨ q = 17 ∨ q = 28)
    (K : ∀ (m' : Nat) (l' : Int32) (nd' rs' op' val' : Nat → Int32), bf_fx t q m f_level a_need a_rise a_op a_value m' l' nd' rs' op' val' → post (f_cell, f_way, f_end, f_done, f_height, f_written, f_last, nI m', l', a_grid, a_given, a_pile, a_output, a_key, a_over, a_steps, nd', rs', a_goalCell, a_goalWay, a_length, op', val')) :
    wpX_foldOne post (f_cell, f_way, f_end, f_done, f_height, f_written, f_last, nI m, f_level, a_grid, a_given, a_pile, a_output, a_key, a_over, a_steps, a_need, a_rise, a_goalCell, a_goalWay, a_length, a_op, a_value) (nI t) (nI q) := by
  intro x3 hx3
  refine bf_x_known1 ht hm ?_ (fun j hj o1 => ?_)
  · refine pk_eq q 14 (fun h => ?_) (fun h => pk_eq q 16 (fun h' => ?_) (fun h' => pk_eq q 17 (fun h'' => ?_) (fun h'' => ?_)))
    · subst h
      refine bf_x_account (off := 1) (on := 2) ht (by decide) (by decide) hl (fun l' nd' rs' A => ?_)
      refine br_t rfl (br_t rfl ?_)
      exact bf_x_add ht hm (K (m + 1) l' nd' rs' _ _ (bf_fx_add (Or.inl ⟨by decide, by decide⟩) hm (by decide) (by decide) A))
    · subst h'
      refine bf_x_account (off := 1) (on := 0) ht (by decide) (by decide) hl (fun l' nd' rs' A => ?_)
      refine br_t rfl ?_
      exact bf_x_add ht hm (K (m + 1) l' nd' rs' _ _ (bf_fx_add (Or.inl ⟨by decide, by decide⟩) hm (by decide) (by decide) A))
    · subst h''
      refine bf_x_account (off := 1) (on := 1) ht (by decide) (by decide) hl (fun l' nd' rs' A => ?_)
      refine br_t rfl ?_
      exact bf_x_add ht hm (K (m + 1) l' nd' rs' _ _ (bf_fx_add (Or.inl ⟨by decide, by decide⟩) hm (by decide) (by decide) A))
    · have h28 : q = 28 := by omega
      subst h28
      refine bf_x_account (off := 1) (on := 1) ht (by decide) (by decide) hl (fun l' nd' rs' A => ?_)
      refine br_t rfl ?_
      exact bf_x_add ht hm (K (m + 1) l' nd' rs' _ _ (bf_fx_add (Or.inr (Or.inr rfl)) hm (by decide) (by decide) A))
  · subst hj
    have ex : x3 = nI (t * 16 + j) := hx3.trans (bf_i1 t j)
    clear hx3
    subst ex
    have hi : vp_in (nI (t * 16 + j)) 256 := vp_in_nI (by omega) (by decide)
    have hcl : (nI (t * 16 + j)).toNatClampNeg = t * 16 + j := nI_clamp (by omega)
    refine pk_eq q 14 (fun h => ?_) (fun h => pk_eq q 16 (fun h' => ?_) (fun h' => pk_eq q 17 (fun h'' => ?_) (fun h'' => ?_)))
    · subst h
      refine bf_x_account (off := 1) (on := 2) ht (by decide) (by decide) hl (fun l' nd' rs' A => ?_)
      refine br_f (by decide) (br_f (by decide) ⟨hi, ?_⟩)
      rw [hcl]
      refine bf_x_add ht hm (K (j + 1 + 1) l' nd' rs' _ _ (bf_fx_con hm 1 2 A (by decide) (by decide) (bf_px_dup o1 (fun i hi => ⟨pk_un (by omega), pk_un (by omega)⟩) pk_us pk_us ?_ A.2.2.2.2.2.1)))
      have := A.2.2.2.2.1
      omega
    · subst h'
      refine bf_x_account (off := 1) (on := 0) ht (by decide) (by decide) hl (fun l' nd' rs' A => ?_)
      refine br_f (by decide) (nm_r (e' := nI j) (nI_pred j) (K j l' nd' rs' a_op a_value (bf_fx_mk A (by decide) (by decide) (by omega) (fun _ _ => ⟨rfl, rfl⟩) (fun h i hi => h i (by omega)) (bf_px_drop o1 ?_))))
      have := A.2.2.2.2.1
      omega
    · subst h''
      refine bf_x_account (off := 1) (on := 1) ht (by decide) (by decide) hl (fun l' nd' rs' A => ?_)
      have el : l'.toInt = f_level.toInt := by
        have := A.2.2.2.2.1
        omega
      have G : ∀ v : Int32, v = (if a_value (t * 16 + j) = 0 then 1 else 0) → bf_fx t 17 (j + 1) f_level a_need a_rise a_op a_value (j + 1) l' nd' rs' a_op (upd a_value (t * 16 + j) v) := by
        intro v hv
        refine bf_fx_mk A (by decide) (by decide) (by omega) (fun i hi => ⟨rfl, pk_un (by omega)⟩) (fun h i hi => ?_) (bf_px_not o1 (fun i hi => ⟨rfl, pk_un (by omega)⟩) o1 (pk_us.trans hv) el)
        by_cases hij : i = j
        · subst hij
          exact Or.inl o1
        · rw [pk_un (by omega)]
          exact h i (by omega)
      refine br_f (by decide) ⟨hi, br_c (fun hz => ⟨hi, nm_r (e' := upd a_value (t * 16 + j) 1) (by rw [hcl]) ?_⟩) (fun hz => ⟨hi, nm_r (e' := upd a_value (t * 16 + j) 0) (by rw [hcl]) ?_⟩)⟩
      · rw [hcl] at hz
        exact K (j + 1) l' nd' rs' _ _ (G 1 (by rw [if_pos hz]))
      · rw [hcl] at hz
        exact K (j + 1) l' nd' rs' _ _ (G 0 (by rw [if_neg hz]))
    · have h28 : q = 28 := by omega
      subst h28
      refine bf_x_account (off := 1) (on := 1) ht (by decide) (by decide) hl (fun l' nd' rs' A => ?_)
      have el : l'.toInt = f_level.toInt := by
        have := A.2.2.2.2.1
        omega
      refine br_f (by decide) ⟨hi, nm_r (e' := upd a_op (t * 16 + j) 42) (by rw [hcl]) ⟨hi, hi, nm_r (e' := upd a_value (t * 16 + j) (a_value (t * 16 + j) &&& 3)) (by rw [hcl]) ?_⟩⟩
      refine K (j + 1) l' nd' rs' _ _ (bf_fx_mk A (by decide) (by decide) (by omega) (fun i hi => ⟨pk_un (by omega), pk_un (by omega)⟩) (fun h i hi => ?_) (bf_px_giv o1 (fun i hi => ⟨pk_un (by omega), pk_un (by omega)⟩) pk_us pk_us el))
      by_cases hij : i = j
      · subst hij
        rw [pk_us, pk_us]
        exact Or.inr (Or.inr (Or.inl ⟨rfl, _, (bf_3 _).1, (bf_3 _).2⟩))
      · rw [pk_un (by omega), pk_un (by omega)]
        exact h i (by omega)
theorem bf_x_foldPlaces_14 {post : SX → Prop} {t q m on : Nat} (ht : t < 16) (hm : m < 16) (hl : -100 ≤ f_level.toInt ∧ f_level.toInt ≤ 100) (hq : q = 15 ∧ on = 2 ∨ q = 27 ∧ on = 1)
    (K : ∀ (m' : Nat) (l' : Int32) (nd' rs' op' val' : Nat → Int32), bf_fx t q m f_level a_need a_rise a_op a_value m' l' nd' rs' op' val' → post (f_cell, f_way, f_end, f_done, f_height, f_written, f_last, nI m', l', a_grid, a_given, a_pile, a_output, a_key, a_over, a_steps, nd', rs', a_goalCell, a_goalWay, a_length, op', val')) :
    wX_foldPlaces_14 post (nI t) (nI q) (nI on) 2 (nI t) f_cell f_way f_end f_done f_height f_written f_last (nI m) f_level a_grid a_given a_pile a_output a_key a_over a_steps a_need a_rise a_goalCell a_goalWay a_length a_op a_value := by
  unfold wX_foldPlaces_14
  have hwq : bf_wq q := by unfold bf_wq; omega
  have eo : bf_off q = 2 := if_pos (by omega)
  have en : bf_on q = on := by
    rcases hq with ⟨rfl, rfl⟩ | ⟨rfl, rfl⟩ <;> decide
  refine bf_x_account (off := 2) (on := on) ht (by decide) (by omega) hl (fun l' nd' rs' A => ?_)
  have el := A.2.2.2.2.1
  intro x3 hx3
  refine bf_x_known2 ht hm ?_ (fun j hj o1 o0 => ?_)
  · refine br_t rfl ?_
    exact bf_x_add ht hm (K (m + 1) l' nd' rs' _ _ (bf_fx_add hwq hm eo en A))
  · subst hj
    have ex : x3 = nI (t * 16 + j) := hx3.trans (bf_i2 t j)
    clear hx3
    subst ex
    have hi : vp_in (nI (t * 16 + j)) 256 := vp_in_nI (by omega) (by decide)
    have hi1 : vp_in (nI (t * 16 + j) + 1) 256 := by
      rw [nI_1]
      exact vp_in_nI (by omega) (by decide)
    have hcl : (nI (t * 16 + j)).toNatClampNeg = t * 16 + j := nI_clamp (by omega)
    have hcl1 : (nI (t * 16 + j) + 1).toNatClampNeg = t * 16 + (j + 1) := by rw [nI_1, nI_clamp (by omega)]; rfl
    refine br_f (by decide) (pk_eq q 15 (fun h => ?_) (fun h => ?_))
    · obtain ⟨rfl, rfl⟩ : q = 15 ∧ on = 2 := by omega
      refine ⟨hi, nm_r (e' := a_value (t * 16 + j)) (by rw [hcl]) ⟨hi1, hi, nm_r (e' := upd a_value (t * 16 + j) (a_value (t * 16 + (j + 1)))) (by rw [hcl, hcl1]) ⟨hi1, nm_r (e' := upd (upd a_value (t * 16 + j) (a_value (t * 16 + (j + 1)))) (t * 16 + (j + 1)) (a_value (t * 16 + j))) (by rw [hcl1]) ?_⟩⟩⟩
      refine K (j + 2) l' nd' rs' _ _ (bf_fx_mk A (by decide) (by decide) (by omega) (fun i hi => ⟨rfl, (pk_un (by omega)).trans (pk_un (by omega))⟩) (fun h i hi => ?_) (bf_px_swap o1 o0 (fun i hi => ⟨rfl, (pk_un (by omega)).trans (pk_un (by omega))⟩) o1 o0 ((pk_un (by omega)).trans pk_us) pk_us (by omega)))
      by_cases hij : i = j
      · subst hij
        exact Or.inl o0
      · by_cases hij1 : i = j + 1
        · subst hij1
          exact Or.inl o1
        · rw [pk_un (by omega), pk_un (by omega)]
          exact h i (by omega)
    · obtain ⟨rfl, rfl⟩ : q = 27 ∧ on = 1 := by omega
      refine ⟨hi, nm_r (e' := upd a_op (t * 16 + j) 41) (by rw [hcl]) ⟨hi, hi1, hi, nm_r (e' := upd a_value (t * 16 + j) ((a_value (t * 16 + j) &&& 7) + (8 * (a_value (t * 16 + (j + 1)) &&& 3)))) (by rw [hcl, hcl1]) (nm_r (e' := nI (j + 1)) (nI_pred (j + 1)) ?_)⟩⟩
      refine K (j + 1) l' nd' rs' _ _ (bf_fx_mk A (by decide) (by decide) (by omega) (fun i hi => ⟨pk_un (by omega), pk_un (by omega)⟩) (fun h i hi => ?_) (bf_px_cell o1 o0 (fun i hi => ⟨pk_un (by omega), pk_un (by omega)⟩) pk_us pk_us (by omega)))
      by_cases hij : i = j
      · subst hij
        rw [pk_us, pk_us]
        exact Or.inr (Or.inl ⟨rfl, _, bf_ix_lt _ _, bf_ix_X _ _⟩)
      · rw [pk_un (by omega), pk_un (by omega)]
        exact h i (by omega)
theorem bf_x_enter {post : SX → Prop} {t q m : Nat} (ht : t < 16) (hm : m < 16) (hl : -100 ≤ f_level.toInt ∧ f_level.toInt ≤ 100) (hq : q < 32)
    (K : ∀ (m' : Nat) (l' : Int32) (nd' rs' op' val' : Nat → Int32), bf_fx t q m f_level a_need a_rise a_op a_value m' l' nd' rs' op' val' → post (f_cell, f_way, f_end, f_done, f_height, f_written, f_last, nI m', l', a_grid, a_given, a_pile, a_output, a_key, a_over, a_steps, nd', rs', a_goalCell, a_goalWay, a_length, op', val')) :
    wpX_enter post (f_cell, f_way, f_end, f_done, f_height, f_written, f_last, nI m, f_level, a_grid, a_given, a_pile, a_output, a_key, a_over, a_steps, a_need, a_rise, a_goalCell, a_goalWay, a_length, a_op, a_value) (nI t) (nI q) := by
  have J74 : (q = 14 ∨ q = 16 ∨ q = 17 ∨ q = 28) → wX_enter_74 post (nI t) (nI q) f_cell f_way f_end f_done f_height f_written f_last (nI m) f_level a_grid a_given a_pile a_output a_key a_over a_steps a_need a_rise a_goalCell a_goalWay a_length a_op a_value := by
    intro h
    unfold wX_enter_74
    exact bf_x_foldOne ht hm hl h K
  have J95 : (q = 15 ∨ q = 27) → wX_enter_95 post (nI t) (nI q) f_cell f_way f_end f_done f_height f_written f_last (nI m) f_level a_grid a_given a_pile a_output a_key a_over a_steps a_need a_rise a_goalCell a_goalWay a_length a_op a_value := by
    intro h
    unfold wX_enter_95
    refine pk_eq q 15 (fun h1 => ?_) (fun h1 => ?_)
    · exact bf_x_foldPlaces_14 (on := 2) ht hm hl (by omega) K
    · exact bf_x_foldPlaces_14 (on := 1) ht hm hl (by omega) K
  have J50 : (q < 1 ∨ 13 < q) → wX_enter_50 post (nI t) (nI q) f_cell f_way f_end f_done f_height f_written f_last (nI m) f_level a_grid a_given a_pile a_output a_key a_over a_steps a_need a_rise a_goalCell a_goalWay a_length a_op a_value := by
    intro h
    unfold wX_enter_50
    refine pk_eq q 14 (fun h1 => J74 (by omega)) (fun h1 => pk_eq q 16 (fun h2 => J74 (by omega)) (fun h2 => pk_eq q 17 (fun h3 => J74 (by omega)) (fun h3 => pk_eq q 28 (fun h4 => J74 (by omega)) (fun h4 => pk_eq q 15 (fun h5 => J95 (by omega)) (fun h5 => pk_eq q 27 (fun h6 => J95 (by omega)) (fun h6 => ?_))))))
    refine K m f_level a_need a_rise a_op a_value ⟨by omega, fun _ _ => ⟨rfl, rfl⟩, Int.le_refl _, Int.le_refl _, ⟨by omega, by omega⟩, Or.inl rfl, fun _ _ => ⟨rfl, rfl⟩, fun z => z, bf_px_id (by omega) (by unfold bf_wq; omega)⟩
  have J29 : (q < 1 ∨ 9 < q) → wX_enter_29 post (nI t) (nI q) f_cell f_way f_end f_done f_height f_written f_last (nI m) f_level a_grid a_given a_pile a_output a_key a_over a_steps a_need a_rise a_goalCell a_goalWay a_length a_op a_value := by
    intro h
    unfold wX_enter_29
    refine pk_lt q 10 (fun h1 => J50 (by omega)) (fun h1 => pk_lt 13 q (fun h2 => J50 (by omega)) (fun h2 => ?_))
    exact bf_x_foldTwo ht hm hl h1 h2 K
  refine pk_lt q 1 (fun h => J29 (by omega)) (fun h => pk_lt 9 q (fun h1 => J29 (by omega)) (fun h1 => ?_))
  refine bf_x_account (off := 0) (on := 1) ht (by decide) (by decide) hl (fun l' nd' rs' A => ?_)
  refine bf_x_add ht hm (K (m + 1) l' nd' rs' _ _ (bf_fx_con hm 0 1 A (by decide) (by decide) (bf_px_dig h h1 ?_ A.2.2.2.2.2.1 (fun i hi => ⟨pk_un (by omega), pk_un (by omega)⟩) pk_us pk_us)))
  have := A.2.2.2.2.1
  omega
end
end
section
/-! following the grid -/
theorem bf_nd_lt {q d : Nat} (h : d < 4) : bf_nd q d < 4 := by
  unfold bf_nd
  split <;> omega
theorem bf_nc_lt {q c d : Nat} (h : c < 32) : bf_nc q c d < 32 := by
  unfold bf_nc
  split
  · exact bf_mv_lt (bf_mv_lt h)
  · exact bf_mv_lt h
theorem bf_nn_dir {q c d : Nat} (h : 18 ≤ q) (h' : q ≤ 21) : bf_nd q d = q - 18 ∧ bf_nc q c d = bf_mv c (q - 18) := by
  unfold bf_nc bf_nd
  rw [if_pos ⟨h, h'⟩, if_neg (by omega)]
  exact ⟨rfl, rfl⟩
theorem bf_nn_24 {q c d : Nat} (h : q = 24) : bf_nd q d = d ∧ bf_nc q c d = bf_mv (bf_mv c d) d := by
  unfold bf_nc bf_nd
  rw [if_neg (by omega), if_pos h]
  exact ⟨rfl, rfl⟩
theorem bf_nn_o {q c d : Nat} (h : q < 18 ∨ 21 < q) (h' : ¬ q = 24) : bf_nd q d = d ∧ bf_nc q c d = bf_mv c d := by
  unfold bf_nc bf_nd
  rw [if_neg (by omega), if_neg h']
  exact ⟨rfl, rfl⟩
theorem bf_fx_id {t q m : Nat} {l : Int32} {nd rs op val : Nat → Int32} (h1 : ¬ (1 ≤ q ∧ q ≤ 9)) (h2 : ¬ bf_wq q) : bf_fx t q m l nd rs op val m l nd rs op val :=
  ⟨by omega, fun _ _ => ⟨rfl, rfl⟩, Int.le_refl _, Int.le_refl _, ⟨by omega, by omega⟩, Or.inl rfl, fun _ _ => ⟨rfl, rfl⟩, fun z => z, bf_px_id h1 h2⟩
theorem bf_or_l {x : Int32} {c i : Nat} (h : bt x i = true) : bt (x ||| ((1 : Int32) <<< (nI c &&& 31))) i = true := by
  rw [b_or, h]
  rfl
theorem bf_or_r {x : Int32} {c : Nat} (hc : c < 32) : bt (x ||| ((1 : Int32) <<< (nI c &&& 31))) c = true := by
  rw [b_or, b_shl c hc 1 hc, Nat.sub_self, show bt 1 0 = true from by decide, decide_eq_true (Nat.le_refl c), Bool.and_self, Bool.or_true]
def bf_fr (t : Nat) (ov stp nd rs gC gW len op val ov' stp' nd' rs' gC' gW' len' op' val' : Nat → Int32) : Prop :=
  (∀ j, j ≠ t → ov' j = ov j ∧ stp' j = stp j ∧ nd' j = nd j ∧ rs' j = rs j ∧ gC' j = gC j ∧ gW' j = gW j ∧ len' j = len j) ∧ ∀ j, (j < t * 16 ∨ t * 16 + 16 ≤ j) → op' j = op j ∧ val' j = val j
theorem bf_fr_tv {g : Nat → Nat} {t u : Nat} {key key' ov stp nd rs gC gW len op val ov' stp' nd' rs' gC' gW' len' op' val' : Nat → Int32} (h : bf_tv g u key ov stp nd rs gC gW len op val) (hu : u ≠ t) (hk : key' u = key u)
    (F : bf_fr t ov stp nd rs gC gW len op val ov' stp' nd' rs' gC' gW' len' op' val') : bf_tv g u key' ov' stp' nd' rs' gC' gW' len' op' val' := by
  obtain ⟨a1, a2, a3, a4, a5, a6, a7⟩ := F.1 u hu
  exact bf_tv_fr h hk a1 a2 a3 a4 a5 a6 a7 (fun j h1 h2 => F.2 j (by omega))
section
variable {f_cell f_way f_end f_done f_height f_written f_last f_made f_level : Int32} {a_grid a_given a_pile a_output a_key a_over a_steps a_need a_rise a_goalCell a_goalWay a_length a_op a_value : Nat → Int32}
theorem bf_x_breaks {post : Int32 → Prop} {q : Nat} (hq : q < 32) (K1 : post 1) (K0 : bf_nb q → post 0) : wpX_breaks post (f_cell, f_way, f_end, f_done, f_height, f_written, f_last, f_made, f_level, a_grid, a_given, a_pile, a_output, a_key, a_over, a_steps, a_need, a_rise, a_goalCell, a_goalWay, a_length, a_op, a_value) (nI q) :=
  pk_eq q 22 (fun _ => K1) (fun h1 => pk_eq q 23 (fun _ => K1) (fun h2 => pk_eq q 25 (fun _ => K1) (fun h3 => pk_eq q 26 (fun _ => K1) (fun h4 => pk_eq q 29 (fun _ => K1) (fun h5 => K0 ⟨h1, h2, h3, h4, h5⟩)))))
theorem bf_x_follow_172 {post : SX → Prop} {g : Nat → Nat} {t c0 d0 c d i m : Nat} (ht : t < 16) (hc0 : c0 < 32) (hd0 : d0 < 4) (hc : c < 32) (hd : d < 4) (hi : i ≤ 12) (hm : m ≤ i) (hkey : a_key t = nI (c0 + 32 * d0))
    (hr : 0 ≤ (a_rise t).toInt ∧ (a_rise t).toInt ≤ i) (hv : ∀ j, j < m → bf_ov (a_op (t * 16 + j)) (a_value (t * 16 + j))) (hs : bf_sem g (a_over t) c0 d0 i c d (a_need t).toInt (a_rise t).toInt f_level.toInt a_op a_value (t * 16) m)
    (K : ∀ (made' l' : Int32) (ov' stp' nd' rs' gC' gW' len' op' val' : Nat → Int32), bf_fr t a_over a_steps a_need a_rise a_goalCell a_goalWay a_length a_op a_value ov' stp' nd' rs' gC' gW' len' op' val' → bf_tv g t a_key ov' stp' nd' rs' gC' gW' len' op' val' →
      post (f_cell, f_way, f_end, f_done, f_height, f_written, f_last, made', l', a_grid, a_given, a_pile, a_output, a_key, ov', stp', nd', rs', gC', gW', len', op', val')) :
    wX_follow_172 post (nI t) (nI c) (nI d) (nI i) f_cell f_way f_end f_done f_height f_written f_last (nI m) f_level a_grid a_given a_pile a_output a_key a_over a_steps a_need a_rise a_goalCell a_goalWay a_length a_op a_value := by
  have hin : vp_in (nI t) 16 := vp_in_nI ht (by decide)
  have hcl : (nI t).toNatClampNeg = t := nI_clamp (by omega)
  unfold wX_follow_172
  refine ⟨hin, hin, nm_r (e' := upd a_over t (a_over t ||| ((1 : Int32) <<< (nI c &&& 31)))) (by rw [hcl]) ⟨hin, nm_r (e' := upd a_steps t (nI i)) (by rw [hcl]) ⟨hin, nm_r (e' := upd a_goalCell t (nI c)) (by rw [hcl]) ⟨hin, nm_r (e' := upd a_goalWay t (nI d)) (by rw [hcl]) ⟨hin, nm_r (e' := upd a_length t (nI m)) (by rw [hcl]) ?_⟩⟩⟩⟩⟩
  refine K _ _ _ _ _ _ _ _ _ _ _ ⟨fun j hj => ⟨pk_un hj, pk_un hj, rfl, rfl, pk_un hj, pk_un hj, pk_un hj⟩, fun _ _ => ⟨rfl, rfl⟩⟩ ⟨c0, d0, i, c, d, m, f_level.toInt, ⟨hc0, hd0, hc, hd, hi, by omega⟩, ⟨hkey, pk_us, pk_us, pk_us, pk_us⟩, ⟨hr.1, by omega⟩, hv, ?_⟩
  rw [pk_us]
  exact bf_sem_mask hs (fun i _ hb => bf_or_l hb)
theorem bf_x_follow_55 {post : SX → Prop} {g : Nat → Nat} {t c0 d0 : Nat} (ht : t < 16) (hc0 : c0 < 32) (hd0 : d0 < 4) (hg : ∀ i, i < 32 → g i < 32) (hG : bf_Gr a_grid g) (hkey : a_key t = nI (c0 + 32 * d0)) :
    ∀ (r i n c d m : Nat) (l : Int32) (ov nd rs op val : Nat → Int32), i + r = 12 → r < n → c < 32 → d < 4 → m ≤ i → (-(i : Int) ≤ l.toInt ∧ l.toInt ≤ i) → (0 ≤ (rs t).toInt ∧ (rs t).toInt ≤ i) →
    (∀ j, j < m → bf_ov (op (t * 16 + j)) (val (t * 16 + j))) → bf_sem g (ov t) c0 d0 i c d (nd t).toInt (rs t).toInt l.toInt op val (t * 16) m →
    (∀ (made' l' : Int32) (ov' stp' nd' rs' gC' gW' len' op' val' : Nat → Int32), bf_fr t ov a_steps nd rs a_goalCell a_goalWay a_length op val ov' stp' nd' rs' gC' gW' len' op' val' → bf_tv g t a_key ov' stp' nd' rs' gC' gW' len' op' val' →
      post (f_cell, f_way, f_end, f_done, f_height, f_written, f_last, made', l', a_grid, a_given, a_pile, a_output, a_key, ov', stp', nd', rs', gC', gW', len', op', val')) →
    wX_follow_55 post (nI t) n (nI c) (nI d) (nI i) (nI i) f_cell f_way f_end f_done f_height f_written f_last (nI m) l a_grid a_given a_pile a_output a_key ov a_steps nd rs a_goalCell a_goalWay a_length op val := by
  intro r
  have hin : vp_in (nI t) 16 := vp_in_nI ht (by decide)
  have hcl : (nI t).toNatClampNeg = t := nI_clamp (by omega)
  induction r with
  | zero =>
    intro i n c d m l ov nd rs op val hi hn hc hd hm hl hr hv hs K
    obtain ⟨n', rfl⟩ : ∃ n', n = n' + 1 := ⟨n - 1, by omega⟩
    exact br_t (nI_le (a := 12) (by omega) (by omega)) (bf_x_follow_172 ht hc0 hd0 hc hd (by omega) hm hkey hr hv hs K)
  | succ r ih =>
    intro i n c d m l ov nd rs op val hi hn hc hd hm hl hr hv hs K
    obtain ⟨n', rfl⟩ : ∃ n', n = n' + 1 := ⟨n - 1, by omega⟩
    have hq := hg c hc
    have hinc : vp_in (nI c) 32 := vp_in_nI hc (by decide)
    have hgc : a_grid (nI c).toNatClampNeg = nI (g c) := by
      rw [nI_clamp (by omega)]
      exact hG c hc
    have S : ∀ (m' : Nat) (l' : Int32) (nd' rs' op' val' : Nat → Int32), bf_fx t (g c) m l nd rs op val m' l' nd' rs' op' val' → bf_nb (g c) →
        wX_follow_55 post (nI t) n' (nI (bf_nc (g c) c d)) (nI (bf_nd (g c) d)) (nI (i + 1)) (nI (i + 1)) f_cell f_way f_end f_done f_height f_written f_last (nI m') l' a_grid a_given a_pile a_output a_key (upd ov t (ov t ||| ((1 : Int32) <<< (nI c &&& 31)))) a_steps nd' rs' a_goalCell a_goalWay a_length op' val' := by
      intro m' l' nd' rs' op' val' F hnb
      obtain ⟨f1, f2, f3, f4, f5, f6, f7, f8, f9⟩ := F
      refine ih (i + 1) n' _ _ m' l' _ nd' rs' op' val' (by omega) (by omega) (bf_nc_lt hc) (bf_nd_lt hd) (by omega) ⟨by omega, by omega⟩ ⟨by omega, ?_⟩ (f8 hv) ?_ (fun made'' l'' ov'' stp'' nd'' rs'' gC'' gW'' len'' op'' val'' F'' T'' => K made'' l'' ov'' stp'' nd'' rs'' gC'' gW'' len'' op'' val'' ⟨fun j hj => ?_, fun j hj => ?_⟩ T'')
      · rcases f6 with e | e
        · rw [e]; omega
        · rw [e]; omega
      · rw [pk_us]
        exact bf_sem_ext hs hc (fun i _ hb => bf_or_l hb) (bf_or_r hc) f3 f4 hnb f9
      · obtain ⟨a1, a2, a3, a4, a5, a6, a7⟩ := F''.1 j hj
        exact ⟨a1.trans (pk_un hj), a2, a3.trans (f2 j hj).1, a4.trans (f2 j hj).2, a5, a6, a7⟩
      · exact ⟨(F''.2 j hj).1.trans (f7 j hj).1, (F''.2 j hj).2.trans (f7 j hj).2⟩
    refine br_f (nI_ge (b := 12) (by omega) (by decide)) ⟨hinc, ?_⟩
    rw [hgc]
    refine bf_x_breaks hq (br_f (by decide) (bf_x_follow_172 ht hc0 hd0 hc hd (by omega) hm hkey hr hv hs K)) (fun hnb => ?_)
    have J126 : g c < 18 ∨ 21 < g c → wX_follow_126 post (wX_follow_55 post (nI t) n') (nI t) (nI c) (nI d) (nI i) (nI i) (nI (g c)) f_cell f_way f_end f_done f_height f_written f_last (nI m) l a_grid a_given a_pile a_output a_key (upd ov t (ov t ||| ((1 : Int32) <<< (nI c &&& 31)))) a_steps nd rs a_goalCell a_goalWay a_length op val := by
      intro h
      unfold wX_follow_126
      refine pk_eq (g c) 24 (fun h1 => ?_) (fun h1 => ?_)
      · refine bf_x_moved hc hd ?_
        refine bf_x_moved (bf_mv_lt hc) hd (nm_r (e' := nI (i + 1)) (nI_1 i) (nm_r (e' := nI (i + 1)) (nI_1 i) ?_))
        have e := bf_nn_24 (c := c) (d := d) h1
        have := S m l nd rs op val (bf_fx_id (by omega) (by unfold bf_wq; omega)) hnb
        rw [e.1, e.2] at this
        exact this
      · refine bf_x_enter ht (by omega) (by omega) hq (fun m' l' nd' rs' op' val' F => ?_)
        refine bf_x_moved hc hd (nm_r (e' := nI (i + 1)) (nI_1 i) (nm_r (e' := nI (i + 1)) (nI_1 i) ?_))
        have e := bf_nn_o (c := c) (d := d) h h1
        have := S m' l' nd' rs' op' val' F hnb
        rw [e.1, e.2] at this
        exact this
    refine br_t rfl ⟨hinc, nm_r (e' := nI (g c)) rfl ⟨hin, hin, nm_r (e' := upd ov t (ov t ||| ((1 : Int32) <<< (nI c &&& 31)))) (by rw [hcl]) (pk_lt (g c) 18 (fun h => J126 (Or.inl h)) (fun h => pk_lt 21 (g c) (fun h1 => J126 (Or.inr h1)) (fun h1 => nm_r (e' := nI (g c - 18)) (pk_sub h) ?_)))⟩⟩
    refine bf_x_moved hc (by omega) (nm_r (e' := nI (i + 1)) (nI_1 i) (nm_r (e' := nI (i + 1)) (nI_1 i) ?_))
    have e := bf_nn_dir (c := c) (d := d) h h1
    have := S m l nd rs op val (bf_fx_id (by omega) (by unfold bf_wq; omega)) hnb
    rw [e.1, e.2] at this
    exact this
theorem bf_32 (a b : Nat) : nI a + 32 * nI b = nI (a + 32 * b) := by
  rw [show (32 : Int32) = nI 32 from rfl, pk_mul, nI_add]
theorem bf_x_follow {post : SX → Prop} {g : Nat → Nat} {t c d : Nat} (ht : t < 16) (hc : c < 32) (hd : d < 4) (hg : ∀ i, i < 32 → g i < 32) (hG : bf_Gr a_grid g) (hT : bf_tr g a_key a_over a_steps a_need a_rise a_goalCell a_goalWay a_length a_op a_value)
    (K : ∀ (made' l' : Int32) (key' ov' stp' nd' rs' gC' gW' len' op' val' : Nat → Int32), bf_tr g key' ov' stp' nd' rs' gC' gW' len' op' val' → key' t = nI (c + 32 * d) →
      post (f_cell, f_way, f_end, f_done, f_height, f_written, f_last, made', l', a_grid, a_given, a_pile, a_output, key', ov', stp', nd', rs', gC', gW', len', op', val')) :
    wpX_follow post (f_cell, f_way, f_end, f_done, f_height, f_written, f_last, f_made, f_level, a_grid, a_given, a_pile, a_output, a_key, a_over, a_steps, a_need, a_rise, a_goalCell, a_goalWay, a_length, a_op, a_value) (nI t) (nI c) (nI d) := by
  have hin : vp_in (nI t) 16 := vp_in_nI ht (by decide)
  have hcl : (nI t).toNatClampNeg = t := nI_clamp (by omega)
  have hz : (0 : Int32).toInt = 0 := by decide
  refine ⟨hin, nm_r (e' := upd a_key t (nI (c + 32 * d))) (by rw [hcl, bf_32]) ⟨hin, nm_r (e' := upd a_over t 0) (by rw [hcl]) ⟨hin, nm_r (e' := upd a_need t 0) (by rw [hcl]) ⟨hin, nm_r (e' := upd a_rise t 0) (by rw [hcl]) ⟨13, ?_⟩⟩⟩⟩⟩
  refine bf_x_follow_55 (a_key := upd a_key t (nI (c + 32 * d))) ht hc hd hg hG pk_us 12 0 13 c d 0 0 _ _ _ a_op a_value (by decide) (by decide) hc hd (Nat.le_refl _) (by rw [hz]; decide) (by rw [pk_us, hz]; decide) (fun j hj => absurd hj (by omega)) (by rw [hz]; exact bf_sem_0) (fun made' l' ov' stp' nd' rs' gC' gW' len' op' val' F T => ?_)
  refine K made' l' _ ov' stp' nd' rs' gC' gW' len' op' val' (fun u hu hk => ?_) pk_us
  by_cases h : u = t
  · subst h
    exact T
  · rw [pk_un h] at hk
    refine bf_fr_tv (hT u hu hk) h (pk_un h) ⟨fun j hj => ?_, F.2⟩
    obtain ⟨a1, a2, a3, a4, a5, a6, a7⟩ := F.1 j hj
    exact ⟨a1.trans (pk_un hj), a2, a3.trans (pk_un hj), a4.trans (pk_un hj), a5, a6, a7⟩
end
end
section
/-! X's run -/
theorem bf_ok_0 {g : Nat → Nat} {out : Nat → Int32} (hg : ∀ i, i < 32 → g i < 32) : bf_ok (g, 0, 0, [], 0, 0, 0, out) :=
  ⟨Nat.zero_lt_succ _, Nat.zero_lt_succ _, Nat.zero_le _, Nat.zero_le _, Nat.zero_le _, hg⟩
section
variable {f_cell f_way f_end f_done f_height f_written f_last f_made f_level : Int32} {a_grid a_given a_pile a_output a_key a_over a_steps a_need a_rise a_goalCell a_goalWay a_length a_op a_value : Nat → Int32}
theorem bf_x_traceHere {post : Int32 → SX → Prop} {g : Nat → Nat} {c d : Nat} (hc : c < 32) (hd : d < 4) (hg : ∀ i, i < 32 → g i < 32) (hG : bf_Gr a_grid g) (hT : bf_tr g a_key a_over a_steps a_need a_rise a_goalCell a_goalWay a_length a_op a_value)
    (K : ∀ (t : Nat) (made' l' : Int32) (key' ov' stp' nd' rs' gC' gW' len' op' val' : Nat → Int32), t < 16 → bf_tr g key' ov' stp' nd' rs' gC' gW' len' op' val' → key' t = nI (c + 32 * d) →
      post (nI t) (nI c, nI d, f_end, f_done, f_height, f_written, f_last, made', l', a_grid, a_given, a_pile, a_output, key', ov', stp', nd', rs', gC', gW', len', op', val')) :
    wpX_traceHere post (nI c, nI d, f_end, f_done, f_height, f_written, f_last, f_made, f_level, a_grid, a_given, a_pile, a_output, a_key, a_over, a_steps, a_need, a_rise, a_goalCell, a_goalWay, a_length, a_op, a_value) := by
  obtain ⟨t, ht, e⟩ := pk_andE (nI c ^^^ (nI d * 5)) (m := 15) 4 (by decide)
  have ht' : t < 16 := ht
  have hcl : (nI t).toNatClampNeg = t := nI_clamp (by omega)
  refine nm_r (e' := nI (c + 32 * d)) (bf_32 c d) (nm_r (e' := nI t) e ⟨vp_in_nI ht' (by decide), br_c (fun h => ?_) (fun h => ?_)⟩)
  · rw [hcl] at h
    exact K t _ _ _ _ _ _ _ _ _ _ _ _ ht' hT h
  · exact bf_x_follow ht' hc hd hg hG hT (fun made' l' key' ov' stp' nd' rs' gC' gW' len' op' val' T hk => K t made' l' key' ov' stp' nd' rs' gC' gW' len' op' val' ht' T hk)
theorem bf_x_runnable {post : Int32 → Prop} {t k n : Nat} {s : List Int32} (ht : t < 16) (hs : s.length ≤ 10) (hk : k ≤ 400) (hn : n ≤ 12) (hstp : a_steps t = nI n) (hr : 0 ≤ (a_rise t).toInt ∧ (a_rise t).toInt ≤ 24) (K0 : post 0)
    (K1 : 0 < n → (a_need t).toInt ≤ s.length → s.length + (a_rise t).toInt ≤ 10 → k + n ≤ 400 → post 1) : wpX_runnable post (f_cell, f_way, f_end, nI k, nI s.length, f_written, f_last, f_made, f_level, a_grid, a_given, a_pile, a_output, a_key, a_over, a_steps, a_need, a_rise, a_goalCell, a_goalWay, a_length, a_op, a_value) (nI t) := by
  have hin : vp_in (nI t) 16 := vp_in_nI ht (by decide)
  have hcl : (nI t).toNatClampNeg = t := nI_clamp (by omega)
  have hsl : (nI s.length).toInt = s.length := nI_toInt (by omega)
  have h10 : (10 : Int32).toInt = 10 := by decide
  refine ⟨hin, br_c (fun _ => K0) (fun h1 => ⟨hin, br_c (fun _ => K0) (fun h2 => ⟨hin, br_c (fun _ => K0) (fun h3 => ⟨hin, br_c (fun _ => K0) (fun h4 => ?_)⟩)⟩)⟩)⟩
  rw [hcl, hstp] at h1
  rw [hcl, Int32.lt_iff_toInt_lt, hsl] at h2
  rw [hcl, Int32.lt_iff_toInt_lt, bf_add (by omega) (by omega) (by omega) (by omega), hsl, h10] at h3
  rw [hcl, hstp, nI_add] at h4
  have h4' : ¬ nI 400 < nI (k + n) := h4
  rw [nI_ltI (by omega) (by omega)] at h4'
  refine K1 (Nat.pos_of_ne_zero (fun z => h1 ?_)) (by omega) (by omega) (by omega)
  rw [z]
  decide
theorem bf_x_runTrace_2 {post : SX → Prop} {g : Nat → Nat} {t L n1 c1 d1 k : Nat} {p0 : List Int32 × Int32} (ht : t < 16) (hL : L ≤ 12) (hG : bf_Gr a_grid g) (hlen : a_length t = nI L) (hstp : a_steps t = nI n1) (hgc : a_goalCell t = nI c1) (hgw : a_goalWay t = nI d1)
    (hv : ∀ j, j < L → bf_ov (a_op (t * 16 + j)) (a_value (t * 16 + j)))
    (K : ∀ (s' : List Int32) (e' : Int32) (a' : Nat → Int32), bf_ro g a_given a_op a_value (t * 16) L p0 = (s', e') → s'.length ≤ 10 → bf_Pl a' s' → post (nI c1, nI d1, e', nI (k + n1), nI s'.length, f_written, f_last, f_made, f_level, a_grid, a_given, a', a_output, a_key, a_over, a_steps, a_need, a_rise, a_goalCell, a_goalWay, a_length, a_op, a_value)) :
    ∀ (r i n : Nat) (s : List Int32) (e : Int32) (a : Nat → Int32), i + r = L → r < n → s.length ≤ 10 → bf_Pl a s → bf_ro g a_given a_op a_value (t * 16) i p0 = (s, e) →
    wX_runTrace_2 post (nI t) n (nI i) f_cell f_way e (nI k) (nI s.length) f_written f_last f_made f_level a_grid a_given a a_output a_key a_over a_steps a_need a_rise a_goalCell a_goalWay a_length a_op a_value := by
  intro r
  have hin : vp_in (nI t) 16 := vp_in_nI ht (by decide)
  have hcl : (nI t).toNatClampNeg = t := nI_clamp (by omega)
  induction r with
  | zero =>
    intro i n s e a hi hn hs hp h
    obtain ⟨n', rfl⟩ : ∃ n', n = n' + 1 := ⟨n - 1, by omega⟩
    have hiL : i = L := by omega
    subst hiL
    refine ⟨hin, br_t (by rw [hcl, hlen]; exact nI_le (Nat.le_refl _) (by omega)) ⟨hin, nm_r (e' := nI (k + n1)) (by rw [hcl, hstp, nI_add]) ⟨hin, nm_r (e' := nI c1) (by rw [hcl, hgc]) ⟨hin, nm_r (e' := nI d1) (by rw [hcl, hgw]) (K s e a h hs hp)⟩⟩⟩⟩
  | succ r ih =>
    intro i n s e a hi hn hs hp h
    obtain ⟨n', rfl⟩ : ∃ n', n = n' + 1 := ⟨n - 1, by omega⟩
    have hiv : vp_in (nI t * 16 + nI i) 256 := by
      rw [bf_b]
      exact vp_in_nI (by omega) (by decide)
    have hic : (nI t * 16 + nI i).toNatClampNeg = t * 16 + i := by rw [bf_b, nI_clamp (by omega)]
    have hro : bf_ro g a_given a_op a_value (t * 16) (i + 1) p0 = bf_op g a_given (a_op (t * 16 + i)) (a_value (t * 16 + i)) (s, e) := by
      rw [← h]
      rfl
    refine ⟨hin, br_f (by rw [hcl, hlen]; exact nI_ge (by omega) (by omega)) ⟨hiv, nm_r (e' := a_op (t * 16 + i)) (by rw [hic]) ⟨hiv, nm_r (e' := a_value (t * 16 + i)) (by rw [hic]) ?_⟩⟩⟩
    rcases hv i (by omega) with o | ⟨o, j, hj, v⟩ | ⟨o, j, hj, v⟩ | ⟨q, o, hq⟩
    · rw [o, bf_op_40] at hro
      refine br_t o ?_
      exact bf_x_push hs hp (fun s1 e1 a1 E1 L1 P1 => nm_r (e' := nI (i + 1)) (nI_1 i) (ih (i + 1) n' s1 e1 a1 (by omega) (by omega) L1 P1 (hro.trans E1)))
    · rw [o, v, bf_op_41, nI_clamp (by omega)] at hro
      refine br_f (by rw [o]; decide) (br_t o ⟨by rw [v]; exact vp_in_nI hj (by decide), ?_⟩)
      rw [v, nI_clamp (by omega), hG j hj]
      exact bf_x_push hs hp (fun s1 e1 a1 E1 L1 P1 => nm_r (e' := nI (i + 1)) (nI_1 i) (ih (i + 1) n' s1 e1 a1 (by omega) (by omega) L1 P1 (hro.trans E1)))
    · rw [o, v, bf_op_42, nI_clamp (by omega)] at hro
      refine br_f (by rw [o]; decide) (br_f (by rw [o]; decide) (br_t o ⟨by rw [v]; exact vp_in_nI hj (by decide), ?_⟩))
      rw [v, nI_clamp (by omega)]
      exact bf_x_push hs hp (fun s1 e1 a1 E1 L1 P1 => nm_r (e' := nI (i + 1)) (nI_1 i) (ih (i + 1) n' s1 e1 a1 (by omega) (by omega) L1 P1 (hro.trans E1)))
    · rw [o, bf_op_wk hq] at hro
      rw [o]
      refine br_f (bf_wq_ne (j := 40) hq (by decide) (by decide)) (br_f (bf_wq_ne (j := 41) hq (by decide) (by decide)) (br_f (bf_wq_ne (j := 42) hq (by decide) (by decide)) ?_))
      exact bf_x_work hq hs hp hG (fun s1 e1 a1 E1 L1 P1 => nm_r (e' := nI (i + 1)) (nI_1 i) (ih (i + 1) n' s1 e1 a1 (by omega) (by omega) L1 P1 (hro.trans E1)))
theorem bf_x_runTrace {post : SX → Prop} {g : Nat → Nat} {t L n1 c1 d1 k : Nat} {s : List Int32} (ht : t < 16) (hL : L ≤ 12) (hG : bf_Gr a_grid g) (hlen : a_length t = nI L) (hstp : a_steps t = nI n1) (hgc : a_goalCell t = nI c1) (hgw : a_goalWay t = nI d1)
    (hv : ∀ j, j < L → bf_ov (a_op (t * 16 + j)) (a_value (t * 16 + j))) (hs : s.length ≤ 10) (hp : bf_Pl a_pile s)
    (K : ∀ (s' : List Int32) (e' : Int32) (a' : Nat → Int32), bf_ro g a_given a_op a_value (t * 16) L (s, f_end) = (s', e') → s'.length ≤ 10 → bf_Pl a' s' → post (nI c1, nI d1, e', nI (k + n1), nI s'.length, f_written, f_last, f_made, f_level, a_grid, a_given, a', a_output, a_key, a_over, a_steps, a_need, a_rise, a_goalCell, a_goalWay, a_length, a_op, a_value)) :
    wpX_runTrace post (f_cell, f_way, f_end, nI k, nI s.length, f_written, f_last, f_made, f_level, a_grid, a_given, a_pile, a_output, a_key, a_over, a_steps, a_need, a_rise, a_goalCell, a_goalWay, a_length, a_op, a_value) (nI t) :=
  ⟨L + 1, bf_x_runTrace_2 ht hL hG hlen hstp hgc hgw hv K L 0 (L + 1) s f_end a_pile (by omega) (by omega) hs hp rfl⟩
def bf_fe (e : Int32) : Int32 := if e = 0 then 2 else e
theorem bf_x_run_32 {post : Int32 → SX → Prop} {m0 : bf_M} (h0 : bf_ok m0)
    (K : ∀ (g : Nat → Nat) (c d : Nat) (s : List Int32) (e : Int32) (k w : Nat) (out : Nat → Int32) (made l : Int32) (aG aP aK ov stp nd rs gC gW len op val : Nat → Int32), bf_it a_given 400 m0 = (g, c, d, s, e, k, w, out) → bf_Gr aG g → bf_Pl aP s → bf_tr g aK ov stp nd rs gC gW len op val →
      post (bf_fe e) (nI c, nI d, bf_fe e, nI k, nI s.length, nI w, bf_fe e, made, l, aG, a_given, aP, out, aK, ov, stp, nd, rs, gC, gW, len, op, val)) :
    ∀ (r i n k : Nat) (g : Nat → Nat) (c d : Nat) (s : List Int32) (e : Int32) (w : Nat) (out : Nat → Int32) (made l : Int32) (aG aP aK ov stp nd rs gC gW len op val : Nat → Int32), k + r = 400 → r + 2 ≤ n → i ≤ k →
    bf_it a_given k m0 = (g, c, d, s, e, k, w, out) → bf_Gr aG g → bf_Pl aP s → bf_tr g aK ov stp nd rs gC gW len op val →
    wX_run_32 post n (nI i) (nI c) (nI d) e (nI k) (nI s.length) (nI w) f_last made l aG a_given aP out aK ov stp nd rs gC gW len op val := by
  intro r
  induction r using Nat.strongRecOn with
  | ind r ih =>
    intro i n k g c d s e w out made l aG aP aK ov stp nd rs gC gW len op val hkr hn hik hm hG hp hT
    obtain ⟨n', rfl⟩ : ∃ n', n = n' + 1 := ⟨n - 1, by omega⟩
    have ok : bf_ok (g, c, d, s, e, k, w, out) := by
      rw [← hm]
      exact bf_ok_it h0 k
    obtain ⟨hc, hd, hs, hk, hw, hg⟩ := ok
    refine br_f (nI_nlt (a := 400) (b := i) (by omega) (by decide)) ?_
    by_cases he : e = 0
    · subst he
      refine br_t rfl (pk_eq k 400 (fun h => ?_) (fun h => ?_))
      · subst h
        have K' := K g c d s 0 400 w out made l aG aP aK ov stp nd rs gC gW len op val hm hG hp hT
        rw [show bf_fe 0 = 2 from by decide] at K'
        refine nm_r (e' := nI (i + 1)) (nI_1 i) ?_
        obtain ⟨n'', rfl⟩ : ∃ n'', n' = n'' + 1 := ⟨n' - 1, by omega⟩
        exact br_c (fun _ => K') (fun _ => br_f (by decide) K')
      · refine bf_x_traceHere hc hd hg hG hT (fun t made' l' key' ov' stp' nd' rs' gC' gW' len' op' val' ht T hkey => ?_)
        have hnn : ¬ key' t < 0 := by
          rw [hkey]
          exact nI_pos (by omega)
        obtain ⟨c0, d0, n1, c1, d1, L, lv, ⟨b1, b2, b3, b4, b5, b6⟩, ⟨k1, k2, k3, k4, k5⟩, hr, hv, hsem⟩ := T t ht hnn
        have hcd : c0 + 32 * d0 = c + 32 * d := (nI_eq (by omega) (by omega)).mp (k1.symm.trans hkey)
        obtain ⟨rfl, rfl⟩ : c0 = c ∧ d0 = d := by omega
        refine bf_x_runnable ht hs hk b5 k2 hr (br_t rfl ?_) (fun q1 q2 q3 q4 => br_f (by decide) ?_)
        · refine bf_x_step hc hd hs (by omega) hw hg hG hp T (fun g' c' d' s' e' w' out' aG' aP' aK' hst hG' hP' hT' => ?_)
          refine nm_r (e' := nI (i + 1)) (nI_1 i) ?_
          refine ih (r - 1) (by omega) (i + 1) n' (k + 1) g' c' d' s' e' w' out' made' l' aG' aP' aK' ov' stp' nd' rs' gC' gW' len' op' val' (by omega) (by omega) (by omega) ?_ hG' hP' hT'
          show bf_st a_given (bf_it a_given k m0) = _
          rw [hm, hst]
        · obtain ⟨s', _, hit, hro⟩ := hsem g a_given s k w out (fun _ _ _ => rfl) q2 q3 q4
          refine bf_x_runTrace ht b6 hG k5 k2 k3 k4 hv hs hp (fun s'' e'' a'' E L1 P1 => ?_)
          obtain ⟨rfl, rfl⟩ := Prod.mk.inj (hro.symm.trans E)
          refine nm_r (e' := nI (i + 1)) (nI_1 i) ?_
          refine ih (r - n1) (by omega) (i + 1) n' (k + n1) g c1 d1 s' 0 w out made' l' aG a'' key' ov' stp' nd' rs' gC' gW' len' op' val' (by omega) (by omega) (by omega) ?_ hG P1 T
          rw [bf_it_add, hm, hit]
    · refine br_f he ?_
      have K' := K g c d s e k w out made l aG aP aK ov stp nd rs gC gW len op val ?_ hG hp hT
      · rw [show bf_fe e = e from if_neg he] at K'
        exact K'
      · rw [← hkr, bf_it_add, hm, bf_it_fix (bf_st_no he)]
theorem bf_x_run {post : Int32 → SX → Prop} {g : Nat → Nat} (hg : ∀ i, i < 32 → g i < 32) (hG : bf_Gr a_grid g) (hT : bf_tr g a_key a_over a_steps a_need a_rise a_goalCell a_goalWay a_length a_op a_value)
    (K : ∀ (g' : Nat → Nat) (c d : Nat) (s : List Int32) (e : Int32) (k w : Nat) (out : Nat → Int32) (made l : Int32) (aG aP aK ov stp nd rs gC gW len op val : Nat → Int32), bf_it a_given 400 (g, 0, 0, [], 0, 0, 0, a_output) = (g', c, d, s, e, k, w, out) → bf_Gr aG g' → bf_Pl aP s → bf_tr g' aK ov stp nd rs gC gW len op val →
      post (bf_fe e) (nI c, nI d, bf_fe e, nI k, nI s.length, nI w, bf_fe e, made, l, aG, a_given, aP, out, aK, ov, stp, nd, rs, gC, gW, len, op, val)) :
    wpX_run post (f_cell, f_way, f_end, f_done, f_height, f_written, f_last, f_made, f_level, a_grid, a_given, a_pile, a_output, a_key, a_over, a_steps, a_need, a_rise, a_goalCell, a_goalWay, a_length, a_op, a_value) := by
  refine ⟨402, ?_⟩
  exact bf_x_run_32 (bf_ok_0 hg) K 400 0 402 0 g 0 0 [] 0 0 a_output f_made f_level a_grid a_pile a_key a_over a_steps a_need a_rise a_goalCell a_goalWay a_length a_op a_value (by decide) (by decide) (by decide) rfl hG rfl hT
end
end
section
/-! Y's run -/
section
variable {f_height f_outputs f_ending f_steps f_x f_y f_direction : Int32} {a_codes a_inputs a_pile a_output : Nat → Int32}
theorem bf_y_pop {post : Int32 → SY → Prop} {s : List Int32} (hs : s.length ≤ 10) (hp : bf_Pl a_pile s) (K : post (s.headD 0) (nI s.tail.length, f_outputs, f_ending, f_steps, f_x, f_y, f_direction, a_codes, a_inputs, a_pile, a_output)) : wpY_pop post (nI s.length, f_outputs, f_ending, f_steps, f_x, f_y, f_direction, a_codes, a_inputs, a_pile, a_output) := by
  cases s with
  | nil => exact br_t rfl K
  | cons b r =>
    have hl : r.length + 1 ≤ 10 := hs
    refine br_f (nI_ne0 (n := r.length + 1) (by omega) (by omega)) (nm_r (e' := nI r.length) (nI_pred _) ⟨vp_in_nI (by omega) (by decide), ?_⟩)
    rw [nI_clamp (by omega), (bf_Pl_cons hp).1]
    exact K
theorem bf_y_push {post : SY → Prop} {s : List Int32} {v : Int32} (hs : s.length ≤ 10) (hp : bf_Pl a_pile s)
    (K : ∀ (s' : List Int32) (e' : Int32) (a' : Nat → Int32), bf_ps v (s, f_ending) = (s', e') → s'.length ≤ 10 → bf_Pl a' s' → post (nI s'.length, f_outputs, e', f_steps, f_x, f_y, f_direction, a_codes, a_inputs, a', a_output)) : wpY_push post (nI s.length, f_outputs, f_ending, f_steps, f_x, f_y, f_direction, a_codes, a_inputs, a_pile, a_output) v := by
  by_cases h : s.length = 10
  · exact br_t (show nI s.length = 10 by rw [h]; rfl) (K s 3 a_pile (bf_ps_t h) hs hp)
  · refine br_f (show ¬ nI s.length = nI 10 by rw [nI_eq (by omega) (by omega)]; exact h) ⟨vp_in_nI (by omega) (by decide), nm_r (e' := upd a_pile s.length v) (by rw [nI_clamp (by omega)]) (nm_r (e' := nI (s.length + 1)) (nI_1 _) ?_)⟩
    exact K (v :: s) f_ending _ (bf_ps_f h) (by show s.length + 1 ≤ 10; omega) (bf_Pl_push hp)
theorem bf_tab3 : ∀ c, c < 32 → (nI (c % 8) + 7) &&& 7 = nI ((c % 8 + 7) % 8) ∧ (nI (c / 8) + 3) &&& 3 = nI ((c / 8 + 3) % 4) := by decide +kernel
theorem bf_mv_0 {c : Nat} (hc : c < 32) : bf_mv c 0 % 8 = (c % 8 + 1) % 8 ∧ bf_mv c 0 / 8 = c / 8 := by
  unfold bf_mv; rw [if_pos rfl]; omega
theorem bf_mv_1 {c : Nat} (hc : c < 32) : bf_mv c 1 % 8 = (c % 8 + 7) % 8 ∧ bf_mv c 1 / 8 = c / 8 := by
  unfold bf_mv; rw [if_neg (by decide), if_pos rfl]; omega
theorem bf_mv_2 {c : Nat} (hc : c < 32) : bf_mv c 2 % 8 = c % 8 ∧ bf_mv c 2 / 8 = (c / 8 + 1) % 4 := by
  unfold bf_mv; rw [if_neg (by decide), if_neg (by decide), if_pos rfl]; omega
theorem bf_mv_3 {c : Nat} (hc : c < 32) : bf_mv c 3 % 8 = c % 8 ∧ bf_mv c 3 / 8 = (c / 8 + 3) % 4 := by
  unfold bf_mv; rw [if_neg (by decide), if_neg (by decide), if_neg (by decide)]; omega
theorem bf_y_move {post : SY → Prop} {c d : Nat} (hc : c < 32) (hd : d < 4) (K : post (f_height, f_outputs, f_ending, f_steps, nI (bf_mv c d % 8), nI (bf_mv c d / 8), nI d, a_codes, a_inputs, a_pile, a_output)) : wpY_move post (f_height, f_outputs, f_ending, f_steps, nI (c % 8), nI (c / 8), nI d, a_codes, a_inputs, a_pile, a_output) := by
  obtain ⟨_, _, t3, _⟩ := bf_tab c hc
  obtain ⟨t5, _⟩ := bf_tab2 c hc
  obtain ⟨t7, t8⟩ := bf_tab3 c hc
  refine pk_eq d 0 (fun h => ?_) (fun h => pk_eq d 1 (fun h1 => ?_) (fun h1 => pk_eq d 2 (fun h2 => ?_) (fun h2 => ?_)))
  · subst h
    rw [(bf_mv_0 hc).1, (bf_mv_0 hc).2] at K
    exact nm_r t3 K
  · subst h1
    rw [(bf_mv_1 hc).1, (bf_mv_1 hc).2] at K
    exact nm_r t7 K
  · subst h2
    rw [(bf_mv_2 hc).1, (bf_mv_2 hc).2] at K
    exact nm_r t5 K
  · have h3 : d = 3 := by omega
    subst h3
    rw [(bf_mv_3 hc).1, (bf_mv_3 hc).2] at K
    exact nm_r t8 K
theorem bf_y_operate {post : SY → Prop} {g : Nat → Nat} {q : Nat} {s : List Int32} (hq : 10 ≤ q ∧ q ≤ 13 ∨ q = 15) (hs : s.length ≤ 10) (hp : bf_Pl a_pile s)
    (K : ∀ (s' : List Int32) (e' : Int32) (a' : Nat → Int32), bf_wk g a_inputs q (s, f_ending) = (s', e') → s'.length ≤ 10 → bf_Pl a' s' → post (nI s'.length, f_outputs, e', f_steps, f_x, f_y, f_direction, a_codes, a_inputs, a', a_output)) : wpY_operate post (nI s.length, f_outputs, f_ending, f_steps, f_x, f_y, f_direction, a_codes, a_inputs, a_pile, a_output) (nI q) := by
  have h1 := bf_tl hs
  have h2 := bf_tl h1
  have p1 := bf_Pl_tail hp
  have p2 := bf_Pl_tail p1
  unfold wpY_operate
  refine bf_y_pop hs hp ?_
  refine bf_y_pop h1 p1 ?_
  refine pk_eq q 10 (fun h => ?_) (fun h => pk_eq q 11 (fun h' => ?_) (fun h' => pk_eq q 12 (fun h'' => ?_) (fun h'' => pk_eq q 13 (fun h3 => ?_) (fun h3 => ?_))))
  · subst h
    refine bf_y_push h2 p2 (fun s1 e1 a1 E1 L1 P1 => ?_)
    refine K s1 e1 a1 ?_ L1 P1
    rw [bf_wk_lo (by decide)]
    exact E1
  · subst h'
    refine bf_y_push h2 p2 (fun s1 e1 a1 E1 L1 P1 => ?_)
    refine K s1 e1 a1 ?_ L1 P1
    rw [bf_wk_lo (by decide)]
    exact E1
  · subst h''
    refine bf_y_push h2 p2 (fun s1 e1 a1 E1 L1 P1 => ?_)
    refine K s1 e1 a1 ?_ L1 P1
    rw [bf_wk_lo (by decide)]
    exact E1
  · subst h3
    refine br_c (fun hz => ?_) (fun hz => ?_)
    · refine bf_y_push h2 p2 (fun s1 e1 a1 E1 L1 P1 => ?_)
      refine K s1 e1 a1 ?_ L1 P1
      rw [bf_wk_lo (by decide)]
      unfold bf_cb
      rw [if_neg (by decide), if_neg (by decide), if_neg (by decide), if_pos hz]
      exact E1
    · refine bf_y_push h2 p2 (fun s1 e1 a1 E1 L1 P1 => ?_)
      refine K s1 e1 a1 ?_ L1 P1
      rw [bf_wk_lo (by decide)]
      unfold bf_cb
      rw [if_neg (by decide), if_neg (by decide), if_neg (by decide), if_neg hz]
      exact E1
  · have h15 : q = 15 := by omega
    subst h15
    refine bf_y_push h2 p2 (fun s1 e1 a1 E1 L1 P1 => ?_)
    refine bf_y_push L1 P1 (fun s2 e2 a2 E2 L2 P2 => ?_)
    refine K s2 e2 a2 ?_ L2 P2
    rw [bf_wk_15]
    show bf_ps (s.tail.headD 0) (bf_ps (s.headD 0) (s.tail.tail, f_ending)) = _
    rw [E1, E2]
theorem bf_y_twice {post : SY → Prop} {g : Nat → Nat} {s : List Int32} (hs : s.length ≤ 10) (hp : bf_Pl a_pile s)
    (K : ∀ (s' : List Int32) (e' : Int32) (a' : Nat → Int32), bf_wk g a_inputs 14 (s, 0) = (s', e') → s'.length ≤ 10 → bf_Pl a' s' → post (nI s'.length, f_outputs, e', f_steps, f_x, f_y, f_direction, a_codes, a_inputs, a', a_output)) : wpY_twice post (nI s.length, f_outputs, 0, f_steps, f_x, f_y, f_direction, a_codes, a_inputs, a_pile, a_output) := by
  unfold wpY_twice
  refine bf_y_pop hs hp ?_
  refine bf_y_push (bf_tl hs) (bf_Pl_tail hp) (fun s1 e1 a1 E1 L1 P1 => ?_)
  have hn : ¬ s.tail.length = 10 := by
    rw [List.length_tail]
    omega
  have E0 := E1
  rw [bf_ps_f hn] at E0
  obtain ⟨_, he⟩ := Prod.mk.inj E0
  subst he
  refine br_t rfl ?_
  refine bf_y_push L1 P1 (fun s2 e2 a2 E2 L2 P2 => ?_)
  refine K s2 e2 a2 ?_ L2 P2
  rw [bf_wk_14]
  show bf_ps (s.headD 0) (bf_ps (s.headD 0) (s.tail, 0)) = _
  rw [E1, E2]
theorem bf_y_work {post : SY → Prop} {g : Nat → Nat} {c d k w : Nat} {s : List Int32} (hc : c < 32) (hd : d < 4) (hs : s.length ≤ 10) (hw : w ≤ 16) (hq : g c < 32) (hG : bf_Gr a_codes g) (hp : bf_Pl a_pile s)
    (K : ∀ (g' : Nat → Nat) (c' d' : Nat) (s' : List Int32) (e' : Int32) (w' : Nat) (out' aG aP : Nat → Int32), bf_bo a_inputs (g, c, d, s, 0, k, w, a_output) = (g', c', d', s', e', k, w', out') → bf_Gr aG g' → bf_Pl aP s' →
      post (nI s'.length, nI w', e', f_steps, nI (c' % 8), nI (c' / 8), nI d', aG, a_inputs, aP, out')) :
    wpY_work post (nI s.length, nI w, 0, f_steps, nI (c % 8), nI (c / 8), nI d, a_codes, a_inputs, a_pile, a_output) (nI (g c)) := by
  have h1 := bf_tl hs
  have h2 := bf_tl h1
  have p1 := bf_Pl_tail hp
  have p2 := bf_Pl_tail p1
  have JP : ∀ (s' : List Int32) (e' : Int32) (aP : Nat → Int32), (g c ≤ 17 ∨ g c = 27 ∨ g c = 28 ∨ 29 < g c) → bf_pb g a_inputs (g c) (s, 0) = (s', e') → bf_Pl aP s' →
      post (nI s'.length, nI w, e', f_steps, nI (c % 8), nI (c / 8), nI d, a_codes, a_inputs, aP, a_output) := by
    intro s' e' aP h hb hP
    exact K g c d s' e' w a_output a_codes aP (bf_bo_pb h hb) hG hP
  have J37 : (10 ≤ g c ∧ g c ≤ 13 ∨ g c = 15) → wY_work_37 post (nI (g c)) (nI s.length) (nI w) 0 f_steps (nI (c % 8)) (nI (c / 8)) (nI d) a_codes a_inputs a_pile a_output := by
    intro h
    unfold wY_work_37
    refine bf_y_operate (g := g) h hs hp (fun s' e' a' E L P => ?_)
    exact JP s' e' a' (by omega) (by rw [bf_pb_wk (by unfold bf_wq; omega), E]) P
  have J116 : (g c = 26 ∨ g c = 27) → wY_work_116 post (nI (g c)) (nI s.length) (nI w) 0 f_steps (nI (c % 8)) (nI (c / 8)) (nI d) a_codes a_inputs a_pile a_output := by
    intro h
    unfold wY_work_116 wpY_access
    refine bf_y_pop hs hp ?_
    refine bf_y_pop h1 p1 ?_
    have hi := bf_ix_lt (s.tail.headD 0) (s.headD 0)
    refine nm_r (e' := nI (bf_ix (s.tail.headD 0) (s.headD 0))) (bf_ix_Y _ _) (pk_eq (g c) 26 (fun h3 => ?_) (fun h3 => ?_))
    · refine bf_y_pop h2 p2 ?_
      refine ⟨vp_in_nI hi (by decide), nm_r (e' := upd a_codes (bf_ix (s.tail.headD 0) (s.headD 0)) (nI (s.tail.tail.headD 0 &&& 31).toNatClampNeg)) (by rw [nI_clamp (by omega), ← (bf_31 (s.tail.tail.headD 0)).2]) ?_⟩
      exact K _ c d s.tail.tail.tail 0 w a_output _ a_pile (bf_bo_26 h3) (bf_Gr_upd hG) (bf_Pl_tail p2)
    · refine ⟨vp_in_nI hi (by decide), ?_⟩
      rw [nI_clamp (by omega), hG _ hi]
      refine bf_y_push h2 p2 (fun s' e' a' E L P => ?_)
      refine JP s' e' a' (by omega) ?_ P
      have h27 : g c = 27 := by omega
      rw [h27, bf_pb_wk (Or.inr (Or.inl rfl)), bf_wk_27]
      exact E
  have JS : (g c < 1 ∨ g c = 16 ∨ g c = 17 ∨ g c = 28 ∨ 29 < g c) → wpY_single post (nI s.length, nI w, 0, f_steps, nI (c % 8), nI (c / 8), nI d, a_codes, a_inputs, a_pile, a_output) (nI (g c)) := by
    intro h
    refine pk_eq (g c) 16 (fun h3 => ?_) (fun h3 => pk_eq (g c) 17 (fun h4 => ?_) (fun h4 => pk_eq (g c) 28 (fun h5 => ?_) (fun h5 => ?_)))
    · refine bf_y_pop hs hp ?_
      refine JP s.tail 0 a_pile (by omega) ?_ p1
      rw [h3, bf_pb_wk (Or.inl ⟨by decide, by decide⟩), bf_wk_16]
    · refine bf_y_pop hs hp ?_
      refine br_c (fun hz => ?_) (fun hz => ?_)
      · refine bf_y_push h1 p1 (fun s' e' a' E L P => ?_)
        refine JP s' e' a' (by omega) ?_ P
        rw [h4, bf_pb_wk (Or.inl ⟨by decide, by decide⟩), bf_wk_17]
        show bf_ps (if s.headD 0 = 0 then 1 else 0) (s.tail, 0) = _
        rw [if_pos hz, E]
      · refine bf_y_push h1 p1 (fun s' e' a' E L P => ?_)
        refine JP s' e' a' (by omega) ?_ P
        rw [h4, bf_pb_wk (Or.inl ⟨by decide, by decide⟩), bf_wk_17]
        show bf_ps (if s.headD 0 = 0 then 1 else 0) (s.tail, 0) = _
        rw [if_neg hz, E]
    · refine bf_y_pop hs hp ?_
      refine ⟨by rw [(bf_3 (s.headD 0)).2]; exact vp_in_nI (bf_3 _).1 (by decide), ?_⟩
      refine bf_y_push h1 p1 (fun s' e' a' E L P => ?_)
      refine JP s' e' a' (by omega) ?_ P
      rw [h5, bf_pb_wk (Or.inr (Or.inr rfl)), bf_wk_28]
      exact E
    · exact JP s 0 a_pile (by omega) (bf_pb_id (by omega) (by unfold bf_wq; omega)) hp
  have J78 : (g c < 1 ∨ g c = 16 ∨ g c = 17 ∨ 23 < g c) → wY_work_78 post (nI (g c)) (nI s.length) (nI w) 0 f_steps (nI (c % 8)) (nI (c / 8)) (nI d) a_codes a_inputs a_pile a_output := by
    intro h
    unfold wY_work_78
    refine pk_eq (g c) 24 (fun h3 => ?_) (fun h3 => pk_eq (g c) 25 (fun h4 => ?_) (fun h4 => pk_eq (g c) 26 (fun h5 => J116 (Or.inl h5)) (fun h5 => pk_eq (g c) 27 (fun h6 => J116 (Or.inr h6)) (fun h6 => pk_eq (g c) 29 (fun h7 => ?_) (fun h7 => ?_)))))
    · refine bf_y_move hc hd ?_
      exact K g _ d s 0 w a_output a_codes a_pile (bf_bo_24 h3) hG hp
    · unfold wpY_write
      refine bf_y_pop hs hp ?_
      refine pk_eq w 16 (fun h8 => ?_) (fun h8 => ⟨vp_in_nI (by omega) (by decide), nm_r (e' := upd a_output w (s.headD 0)) (by rw [nI_clamp (by omega)]) (nm_r (e' := nI (w + 1)) (nI_1 w) ?_)⟩)
      · exact K g c d s.tail 4 w a_output a_codes a_pile (bf_bo_25t h4 h8) hG p1
      · exact K g c d s.tail 0 (w + 1) _ a_codes a_pile (bf_bo_25f h4 h8) hG p1
    · exact K g c d s 1 w a_output a_codes a_pile (bf_bo_29 h7) hG hp
    · exact JS (by omega)
  have J31 : (g c < 1 ∨ 13 < g c) → wY_work_31 post (nI (g c)) (nI s.length) (nI w) 0 f_steps (nI (c % 8)) (nI (c / 8)) (nI d) a_codes a_inputs a_pile a_output := by
    intro h
    unfold wY_work_31
    refine pk_eq (g c) 15 (fun h3 => J37 (Or.inr h3)) (fun h3 => pk_eq (g c) 14 (fun h4 => ?_) (fun h4 => pk_lt (g c) 18 (fun h5 => J78 (by omega)) (fun h5 => pk_lt 23 (g c) (fun h6 => J78 (by omega)) (fun h6 => ?_))))
    · refine bf_y_twice (g := g) hs hp (fun s' e' a' E L P => ?_)
      refine JP s' e' a' (by omega) ?_ P
      rw [h4, bf_pb_wk (Or.inl ⟨by decide, by decide⟩), E]
    · refine pk_le 22 (g c) (fun h7 => ?_) (fun h7 => nm_r (e' := nI (g c - 18)) (pk_sub h5) ?_)
      · refine bf_y_pop hs hp ?_
        refine pk_eq (g c) 22 (fun h8 => ?_) (fun h8 => ?_)
        · refine br_c (fun hz => nm_r (e' := nI 0) (by decide) ?_) (fun hz => nm_r (e' := nI 1) (by decide) ?_)
          · refine K g c 0 s.tail 0 w a_output a_codes a_pile ?_ hG p1
            rw [bf_bo_br (Or.inl h8), if_pos hz, h8]
          · refine K g c 1 s.tail 0 w a_output a_codes a_pile ?_ hG p1
            rw [bf_bo_br (Or.inl h8), if_neg hz, h8]
        · have h9 : g c = 23 := by omega
          refine br_c (fun hz => nm_r (e' := nI 2) (by decide) ?_) (fun hz => nm_r (e' := nI 3) (by decide) ?_)
          · refine K g c 2 s.tail 0 w a_output a_codes a_pile ?_ hG p1
            rw [bf_bo_br (Or.inr h9), if_pos hz, h9]
          · refine K g c 3 s.tail 0 w a_output a_codes a_pile ?_ hG p1
            rw [bf_bo_br (Or.inr h9), if_neg hz, h9]
      · exact K g c _ s 0 w a_output a_codes a_pile (bf_bo_dir h5 (by omega)) hG hp
  have J19 : (g c < 1 ∨ 9 < g c) → wY_work_19 post (nI (g c)) (nI s.length) (nI w) 0 f_steps (nI (c % 8)) (nI (c / 8)) (nI d) a_codes a_inputs a_pile a_output := by
    intro h
    unfold wY_work_19
    exact pk_lt (g c) 10 (fun h3 => J31 (by omega)) (fun h3 => pk_le (g c) 13 (fun h4 => J37 (Or.inl ⟨h3, h4⟩)) (fun h4 => J31 (by omega)))
  refine pk_lt (g c) 1 (fun h => J19 (by omega)) (fun h => pk_lt 9 (g c) (fun h3 => J19 (by omega)) (fun h3 => ?_))
  refine bf_y_push hs hp (fun s' e' a' E L P => ?_)
  exact JP s' e' a' (by omega) (by rw [bf_pb_dig h h3, E]) P
theorem bf_y_run_35 {post : Int32 → SY → Prop} {m0 : bf_M} (h0 : bf_ok m0)
    (K : ∀ (g : Nat → Nat) (c d : Nat) (s : List Int32) (e : Int32) (k w : Nat) (out aG aP : Nat → Int32), bf_it a_inputs 400 m0 = (g, c, d, s, e, k, w, out) → bf_Gr aG g → bf_Pl aP s →
      post (bf_fe e) (nI s.length, nI w, bf_fe e, nI k, nI (c % 8), nI (c / 8), nI d, aG, a_inputs, aP, out)) :
    ∀ (r n k : Nat) (g : Nat → Nat) (c d : Nat) (s : List Int32) (e : Int32) (w : Nat) (out aG aP : Nat → Int32), k + r = 400 → r < n → bf_it a_inputs k m0 = (g, c, d, s, e, k, w, out) → bf_Gr aG g → bf_Pl aP s →
    wY_run_35 post n (nI s.length) (nI w) e (nI k) (nI (c % 8)) (nI (c / 8)) (nI d) aG a_inputs aP out := by
  intro r
  induction r with
  | zero =>
    intro n k g c d s e w out aG aP hkr hn hm hG hp
    obtain ⟨n', rfl⟩ : ∃ n', n = n' + 1 := ⟨n - 1, by omega⟩
    have hk : k = 400 := by omega
    subst hk
    have K' := K g c d s e 400 w out aG aP hm hG hp
    refine br_t (nI_le (a := 400) (Nat.le_refl _) (by decide)) (br_c (fun he => ?_) (fun he => ?_))
    · rw [show bf_fe e = 2 from if_pos he] at K'
      exact K'
    · rw [show bf_fe e = e from if_neg he] at K'
      exact K'
  | succ r ih =>
    intro n k g c d s e w out aG aP hkr hn hm hG hp
    obtain ⟨n', rfl⟩ : ∃ n', n = n' + 1 := ⟨n - 1, by omega⟩
    have ok : bf_ok (g, c, d, s, e, k, w, out) := by
      rw [← hm]
      exact bf_ok_it h0 k
    obtain ⟨hc, hd, hs, hk, hw, hg⟩ := ok
    refine br_f (nI_ge (b := 400) (by omega) (by decide)) (br_c (fun he => ?_) (fun he => ?_))
    · subst he
      have ec : 8 * nI (c / 8) + nI (c % 8) = nI c := by
        rw [bf_8']
        exact congrArg nI (by omega)
      refine ⟨by rw [ec]; exact vp_in_nI hc (by decide), nm_r (e' := nI (g c)) (by rw [ec, nI_clamp (by omega)]; exact hG c hc) (nm_r (e' := nI (k + 1)) (nI_1 k) ?_)⟩
      refine bf_y_work (k := k + 1) hc hd hs hw (hg c hc) hG hp (fun g' c' d' s' e' w' out' aG' aP' hb hG' hP' => ?_)
      have ok' : bf_ok (g', c', d', s', e', k + 1, w', out') := by
        rw [← hb]
        exact bf_ok_bo ⟨hc, hd, hs, by omega, hw, hg⟩
      refine br_c (fun he => ?_) (fun he => ?_)
      · refine bf_y_move ok'.1 ok'.2.1 ?_
        refine ih n' (k + 1) g' _ d' s' e' w' out' aG' aP' (by omega) (by omega) ?_ hG' hP'
        show bf_st a_inputs (bf_it a_inputs k m0) = _
        rw [hm, bf_st, if_pos ⟨rfl, by omega⟩, hb, bf_go, if_pos he]
      · refine ih n' (k + 1) g' c' d' s' e' w' out' aG' aP' (by omega) (by omega) ?_ hG' hP'
        show bf_st a_inputs (bf_it a_inputs k m0) = _
        rw [hm, bf_st, if_pos ⟨rfl, by omega⟩, hb, bf_go, if_neg he]
    · have K' := K g c d s e k w out aG aP ?_ hG hp
      · rw [show bf_fe e = e from if_neg he] at K'
        exact br_f he K'
      · rw [← hkr, bf_it_add, hm, bf_it_fix (bf_st_no he)]
theorem bf_y_run {post : Int32 → SY → Prop} {g : Nat → Nat} (hg : ∀ i, i < 32 → g i < 32) (hG : bf_Gr a_codes g)
    (K : ∀ (g' : Nat → Nat) (c d : Nat) (s : List Int32) (e : Int32) (k w : Nat) (out aG aP : Nat → Int32), bf_it a_inputs 400 (g, 0, 0, [], 0, 0, 0, a_output) = (g', c, d, s, e, k, w, out) → bf_Gr aG g' → bf_Pl aP s →
      post (bf_fe e) (nI s.length, nI w, bf_fe e, nI k, nI (c % 8), nI (c / 8), nI d, aG, a_inputs, aP, out)) : wpY_run post (f_height, f_outputs, f_ending, f_steps, f_x, f_y, f_direction, a_codes, a_inputs, a_pile, a_output) := by
  refine ⟨401, ?_⟩
  exact bf_y_run_35 (bf_ok_0 hg) K 400 401 0 g 0 0 [] 0 0 a_output a_codes a_pile (by decide) (by decide) rfl hG rfl
end
end
section
/-! the public methods, each side against the abstract state -/
def bf_cell (p q : Int32) : Prop := ∃ x y : Nat, x < 8 ∧ y < 4 ∧ p = nI x ∧ q = nI y
theorem bf_cell_of {p q : Int32} (h1 : ¬ p < 0) (h2 : ¬ 7 < p) (h3 : ¬ q < 0) (h4 : ¬ 3 < q) : bf_cell p q := by
  obtain ⟨x, hx, e1⟩ := nI_of2 (M := 7) (n := 7) (by decide) h1 (Int32.not_lt.mp h2)
  obtain ⟨y, hy, e2⟩ := nI_of2 (M := 3) (n := 3) (by decide) h3 (Int32.not_lt.mp h4)
  exact ⟨x, y, by omega, by omega, e1, e2⟩
def bf_p3 (g : Nat → Nat) (x y : Nat) (P : Int32) : Nat → Nat → Nat
  | 0 => g
  | i + 1 => bf_un (bf_p3 g x y P i) ((x + i) % 8 + 8 * y) ((P >>> ((5 * nI i) &&& 31)) &&& 31).toNatClampNeg
theorem bf_p3_lt {g : Nat → Nat} {x y : Nat} {P : Int32} (h : ∀ i, i < 32 → g i < 32) : ∀ n i, i < 32 → bf_p3 g x y P n i < 32 := by
  intro n
  induction n with
  | zero => exact h
  | succ n ih => exact bf_un_lt ih (bf_31 _).1
def bf_dg (g : Nat → Nat) : Nat → Nat → Int32 → Int32
  | 0, _, z => z
  | r + 1, i, z => bf_dg g r (i + 1) (z + (nI i + 1) * nI (g i))
theorem bf_Pl_eq {a a' : Nat → Int32} : ∀ {s : List Int32}, bf_Pl a s → bf_Pl a' s → ∀ j, j < s.length → a j = a' j := by
  intro s
  induction s with
  | nil => intro _ _ j hj; exact absurd hj (by simp)
  | cons b r ih =>
    intro h h' j hj
    have hj' : j < r.length + 1 := hj
    by_cases e : j = r.length
    · rw [e, (bf_Pl_cons h).1, (bf_Pl_cons h').1]
    · exact ih (bf_Pl_cons h).2 (bf_Pl_cons h').2 j (by omega)
theorem bf_x7 {x i y : Nat} (hx : x < 8) (hi : i < 3) : ((nI x + nI i) &&& 7) + 8 * nI y = nI ((x + i) % 8 + 8 * y) := by
  rw [nI_add, pk_andN (n := x + i) (m := 7) (by omega) 3 (by decide), bf_8]
theorem bf_y7 {x i y : Nat} (hx : x < 8) (hi : i < 3) : 8 * nI y + ((nI x + nI i) &&& 7) = nI ((x + i) % 8 + 8 * y) := by
  rw [nI_add, pk_andN (n := x + i) (m := 7) (by omega) 3 (by decide), bf_8']
section
variable {f_cell f_way f_end f_done f_height f_written f_last f_made f_level : Int32} {a_grid a_given a_pile a_output a_key a_over a_steps a_need a_rise a_goalCell a_goalWay a_length a_op a_value : Nat → Int32}
theorem bf_x_good {post : Int32 → Prop} {x y : Nat} (hx : x < 8) (hy : y < 4) (K : post 0) : wpX_badCell post (f_cell, f_way, f_end, f_done, f_height, f_written, f_last, f_made, f_level, a_grid, a_given, a_pile, a_output, a_key, a_over, a_steps, a_need, a_rise, a_goalCell, a_goalWay, a_length, a_op, a_value) (nI x) (nI y) :=
  br_f (nI_pos (by omega)) (br_f (nI_nlt (b := x) (a := 7) (by omega) (by decide)) (br_f (nI_pos (by omega)) (br_t (nI_le (b := 3) (by omega) (by decide)) K)))
theorem bf_x_bad {post : Int32 → Prop} {p q : Int32} (h : ¬ bf_cell p q) (K : post 1) : wpX_badCell post (f_cell, f_way, f_end, f_done, f_height, f_written, f_last, f_made, f_level, a_grid, a_given, a_pile, a_output, a_key, a_over, a_steps, a_need, a_rise, a_goalCell, a_goalWay, a_length, a_op, a_value) p q :=
  br_c (fun _ => K) (fun h1 => br_c (fun _ => K) (fun h2 => br_c (fun _ => K) (fun h3 => br_c (fun h4 => absurd (bf_cell_of h1 h2 h3 (Int32.not_lt.mpr h4)) h) (fun _ => K))))
theorem bf_x_putThree_25 {post : Int32 → SX → Prop} {g : Nat → Nat} {x y : Nat} {P : Int32} (hx : x < 8) (hy : y < 4)
    (K : ∀ aG aK : Nat → Int32, bf_Gr aG (bf_p3 g x y P 3) → bf_tr (bf_p3 g x y P 3) aK a_over a_steps a_need a_rise a_goalCell a_goalWay a_length a_op a_value → post 0 (f_cell, f_way, f_end, f_done, f_height, f_written, f_last, f_made, f_level, aG, a_given, a_pile, a_output, aK, a_over, a_steps, a_need, a_rise, a_goalCell, a_goalWay, a_length, a_op, a_value)) :
    ∀ (r i n : Nat) (aG aK : Nat → Int32), i + r = 3 → r < n → bf_Gr aG (bf_p3 g x y P i) → bf_tr (bf_p3 g x y P i) aK a_over a_steps a_need a_rise a_goalCell a_goalWay a_length a_op a_value →
    wX_putThree_25 post (nI x) (nI y) P n (nI i) f_cell f_way f_end f_done f_height f_written f_last f_made f_level aG a_given a_pile a_output aK a_over a_steps a_need a_rise a_goalCell a_goalWay a_length a_op a_value := by
  intro r
  induction r with
  | zero =>
    intro i n aG aK hi hn hG hT
    obtain ⟨n', rfl⟩ : ∃ n', n = n' + 1 := ⟨n - 1, by omega⟩
    have e : i = 3 := by omega
    subst e
    exact br_t (nI_le (a := 3) (by omega) (by omega)) (K aG aK hG hT)
  | succ r ih =>
    intro i n aG aK hi hn hG hT
    obtain ⟨n', rfl⟩ : ∃ n', n = n' + 1 := ⟨n - 1, by omega⟩
    refine br_f (nI_ge (b := 3) (by omega) (by decide)) ?_
    rw [bf_x7 hx (by omega), (bf_31 (P >>> ((5 * nI i) &&& 31))).2]
    exact bf_x_write (by omega) hG hT (fun aG' aK' hG' hT' => nm_r (e' := nI (i + 1)) (nI_1 i) (ih (i + 1) n' aG' aK' (by omega) (by omega) hG' hT'))
theorem bf_x_clear_2 {post : SX → Prop} (K : ∀ aG aK : Nat → Int32, bf_Gr aG (fun _ => 0) → (∀ t, t < 16 → aK t < 0) → post (f_cell, f_way, f_end, f_done, f_height, f_written, f_last, f_made, f_level, aG, a_given, a_pile, a_output, aK, a_over, a_steps, a_need, a_rise, a_goalCell, a_goalWay, a_length, a_op, a_value)) :
    ∀ (r i n : Nat) (aG : Nat → Int32), i + r = 32 → r < n → (∀ j, j < i → aG j = 0) → wX_clear_2 post f_cell f_way f_end f_done f_height f_written f_last f_made f_level n (nI i) aG a_given a_pile a_output a_key a_over a_steps a_need a_rise a_goalCell a_goalWay a_length a_op a_value := by
  intro r
  induction r with
  | zero =>
    intro i n aG hi hn h
    obtain ⟨n', rfl⟩ : ∃ n', n = n' + 1 := ⟨n - 1, by omega⟩
    refine br_t (nI_le (a := 32) (by omega) (by omega)) ?_
    exact bf_x_dropAll (fun key' hk => K aG key' (fun j hj => h j (by omega)) hk)
  | succ r ih =>
    intro i n aG hi hn h
    obtain ⟨n', rfl⟩ : ∃ n', n = n' + 1 := ⟨n - 1, by omega⟩
    refine br_f (nI_ge (b := 32) (by omega) (by decide)) ⟨vp_in_nI (by omega) (by decide), nm_r (e' := upd aG i 0) (by rw [nI_clamp (by omega)]) (nm_r (e' := nI (i + 1)) (nI_1 i) (ih (i + 1) n' _ (by omega) (by omega) (fun j hj => ?_)))⟩
    by_cases e : j = i
    · subst e
      exact pk_us
    · rw [pk_un e]
      exact h j (by omega)
theorem bf_x_digest_4 {post : Int32 → Prop} {g : Nat → Nat} (hG : bf_Gr a_grid g) : ∀ (r i n : Nat) (z : Int32), i + r = 32 → r < n → post (bf_dg g r i z) → wX_digest_4 post f_cell f_way f_end f_done f_height f_written f_last f_made f_level a_grid a_given a_pile a_output a_key a_over a_steps a_need a_rise a_goalCell a_goalWay a_length a_op a_value n z (nI i) := by
  intro r
  induction r with
  | zero =>
    intro i n z hi hn K
    obtain ⟨n', rfl⟩ : ∃ n', n = n' + 1 := ⟨n - 1, by omega⟩
    exact br_t (nI_le (a := 32) (by omega) (by omega)) K
  | succ r ih =>
    intro i n z hi hn K
    obtain ⟨n', rfl⟩ : ∃ n', n = n' + 1 := ⟨n - 1, by omega⟩
    exact br_f (nI_ge (b := 32) (by omega) (by decide)) ⟨vp_in_nI (by omega) (by decide), nm_r (e' := z + (nI i + 1) * nI (g i)) (by rw [nI_clamp (by omega), hG i (by omega)]) (nm_r (e' := nI (i + 1)) (nI_1 i) (ih (i + 1) n' _ (by omega) (by omega) K))⟩
end
section
variable {f_height f_outputs f_ending f_steps f_x f_y f_direction : Int32} {a_codes a_inputs a_pile a_output : Nat → Int32}
theorem bf_y_good {post : Int32 → Prop} {x y : Nat} (hx : x < 8) (hy : y < 4) (K : post 1) : wpY_isCell post (f_height, f_outputs, f_ending, f_steps, f_x, f_y, f_direction, a_codes, a_inputs, a_pile, a_output) (nI x) (nI y) :=
  br_f (nI_pos (by omega)) (br_f (nI_nlt (b := x) (a := 7) (by omega) (by decide)) (br_f (nI_pos (by omega)) (br_f (nI_nlt (b := y) (a := 3) (by omega) (by decide)) K)))
theorem bf_y_bad {post : Int32 → Prop} {p q : Int32} (h : ¬ bf_cell p q) (K : post 0) : wpY_isCell post (f_height, f_outputs, f_ending, f_steps, f_x, f_y, f_direction, a_codes, a_inputs, a_pile, a_output) p q :=
  br_c (fun _ => K) (fun h1 => br_c (fun _ => K) (fun h2 => br_c (fun _ => K) (fun h3 => br_c (fun _ => K) (fun h4 => absurd (bf_cell_of h1 h2 h3 h4) h))))
theorem bf_y_putThree_25 {post : Int32 → SY → Prop} {g : Nat → Nat} {x y : Nat} {P : Int32} (hx : x < 8) (hy : y < 4)
    (K : ∀ aG : Nat → Int32, bf_Gr aG (bf_p3 g x y P 3) → post 0 (f_height, f_outputs, f_ending, f_steps, f_x, f_y, f_direction, aG, a_inputs, a_pile, a_output)) :
    ∀ (r i n : Nat) (aG : Nat → Int32), i + r = 3 → r < n → bf_Gr aG (bf_p3 g x y P i) → wY_putThree_25 post (nI x) (nI y) P f_height f_outputs f_ending f_steps f_x f_y f_direction n (nI i) aG a_inputs a_pile a_output := by
  intro r
  induction r with
  | zero =>
    intro i n aG hi hn hG
    obtain ⟨n', rfl⟩ : ∃ n', n = n' + 1 := ⟨n - 1, by omega⟩
    have e : i = 3 := by omega
    subst e
    exact br_t (nI_le (a := 3) (by omega) (by omega)) (K aG hG)
  | succ r ih =>
    intro i n aG hi hn hG
    obtain ⟨n', rfl⟩ : ∃ n', n = n' + 1 := ⟨n - 1, by omega⟩
    have ej := bf_y7 (y := y) (i := i) hx (by omega)
    refine br_f (nI_ge (b := 3) (by omega) (by decide)) ⟨by rw [ej]; exact vp_in_nI (by omega) (by decide), nm_r (e' := upd aG ((x + i) % 8 + 8 * y) (nI ((P >>> ((5 * nI i) &&& 31)) &&& 31).toNatClampNeg)) (by rw [ej, nI_clamp (by omega), ← (bf_31 (P >>> ((5 * nI i) &&& 31))).2]) (nm_r (e' := nI (i + 1)) (nI_1 i) (ih (i + 1) n' _ (by omega) (by omega) (bf_Gr_upd hG)))⟩
theorem bf_y_clear_2 {post : SY → Prop} (K : ∀ aG : Nat → Int32, bf_Gr aG (fun _ => 0) → post (f_height, f_outputs, f_ending, f_steps, f_x, f_y, f_direction, aG, a_inputs, a_pile, a_output)) :
    ∀ (r i n : Nat) (aG : Nat → Int32), i + r = 32 → r < n → (∀ j, j < i → aG j = 0) → wY_clear_2 post f_height f_outputs f_ending f_steps f_x f_y f_direction n (nI i) aG a_inputs a_pile a_output := by
  intro r
  induction r with
  | zero =>
    intro i n aG hi hn h
    obtain ⟨n', rfl⟩ : ∃ n', n = n' + 1 := ⟨n - 1, by omega⟩
    exact br_t (nI_le (a := 32) (by omega) (by omega)) (K aG (fun j hj => h j (by omega)))
  | succ r ih =>
    intro i n aG hi hn h
    obtain ⟨n', rfl⟩ : ∃ n', n = n' + 1 := ⟨n - 1, by omega⟩
    refine br_f (nI_ge (b := 32) (by omega) (by decide)) ⟨vp_in_nI (by omega) (by decide), nm_r (e' := upd aG i 0) (by rw [nI_clamp (by omega)]) (nm_r (e' := nI (i + 1)) (nI_1 i) (ih (i + 1) n' _ (by omega) (by omega) (fun j hj => ?_)))⟩
    by_cases e : j = i
    · subst e
      exact pk_us
    · rw [pk_un e]
      exact h j (by omega)
theorem bf_y_digest_4 {post : Int32 → Prop} {g : Nat → Nat} (hG : bf_Gr a_codes g) : ∀ (r i n : Nat) (z : Int32), i + r = 32 → r < n → post (bf_dg g r i z) → wY_digest_4 post f_height f_outputs f_ending f_steps f_x f_y f_direction a_codes a_inputs a_pile a_output n z (nI i) := by
  intro r
  induction r with
  | zero =>
    intro i n z hi hn K
    obtain ⟨n', rfl⟩ : ∃ n', n = n' + 1 := ⟨n - 1, by omega⟩
    exact br_t (nI_le (a := 32) (by omega) (by omega)) K
  | succ r ih =>
    intro i n z hi hn K
    obtain ⟨n', rfl⟩ : ∃ n', n = n' + 1 := ⟨n - 1, by omega⟩
    exact br_f (nI_ge (b := 32) (by omega) (by decide)) ⟨vp_in_nI (by omega) (by decide), nm_r (e' := z + (nI i + 1) * nI (g i)) (by rw [nI_clamp (by omega), hG i (by omega)]) (nm_r (e' := nI (i + 1)) (nI_1 i) (ih (i + 1) n' _ (by omega) (by omega) K))⟩
end
end
section
def bf_R (g : Nat → Nat) (c d : Nat) (s : List Int32) (e : Int32) (dn w : Nat) (gv out gX gY pX pY : Nat → Int32) (u : SX) (v : SY) : Prop :=
  ∃ (f_made f_level : Int32) (a_key a_over a_steps a_need a_rise a_goalCell a_goalWay a_length a_op a_value : Nat → Int32), bf_tr g a_key a_over a_steps a_need a_rise a_goalCell a_goalWay a_length a_op a_value ∧ u = (nI c, nI d, e, nI dn, nI s.length, nI w, e, f_made, f_level, gX, gv, pX, out, a_key, a_over, a_steps, a_need, a_rise, a_goalCell, a_goalWay, a_length, a_op, a_value) ∧ v = (nI s.length, nI w, e, nI dn, nI (c % 8), nI (c / 8), nI d, gY, gv, pY, out)
/-- both states picture one abstract state; X's stored traces hold -/
def i_Rel (k : Nat) (u : SX) (v : SY) : Prop :=
  ∃ (g : Nat → Nat) (c d : Nat) (s : List Int32) (e : Int32) (dn w : Nat) (gv out gX gY pX pY : Nat → Int32), bf_ok (g, c, d, s, e, dn, w, out) ∧ bf_Gr gX g ∧ bf_Gr gY g ∧ bf_Pl pX s ∧ bf_Pl pY s ∧ bf_R g c d s e dn w gv out gX gY pX pY u v
theorem i_up {k : Nat} {u : SX} {v : SY} (h : i_Rel k u v) : i_Rel (k + 4) u v := h
section
variable {g : Nat → Nat} {c d : Nat} {s : List Int32} {e : Int32} {dn w : Nat} {gv out gX gY pX pY : Nat → Int32} {f_made f_level : Int32} {a_key a_over a_steps a_need a_rise a_goalCell a_goalWay a_length a_op a_value : Nat → Int32}
theorem bf_in (k : Nat) (h1 : bf_ok (g, c, d, s, e, dn, w, out)) (h2 : bf_Gr gX g) (h3 : bf_Gr gY g) (h4 : bf_Pl pX s) (h5 : bf_Pl pY s) (h6 : bf_tr g a_key a_over a_steps a_need a_rise a_goalCell a_goalWay a_length a_op a_value) : i_Rel k (nI c, nI d, e, nI dn, nI s.length, nI w, e, f_made, f_level, gX, gv, pX, out, a_key, a_over, a_steps, a_need, a_rise, a_goalCell, a_goalWay, a_length, a_op, a_value) (nI s.length, nI w, e, nI dn, nI (c % 8), nI (c / 8), nI d, gY, gv, pY, out) :=
  ⟨g, c, d, s, e, dn, w, gv, out, gX, gY, pX, pY, h1, h2, h3, h4, h5, f_made, f_level, a_key, a_over, a_steps, a_need, a_rise, a_goalCell, a_goalWay, a_length, a_op, a_value, h6, rfl, rfl⟩
end
theorem bf_el {P : SX → SY → Prop} {k : Nat} {u : SX} {v : SY} (I : i_Rel k u v)
    (h : ∀ (g : Nat → Nat) (c d : Nat) (s : List Int32) (e : Int32) (dn w : Nat) (gv out gX gY pX pY : Nat → Int32) (f_made f_level : Int32) (a_key a_over a_steps a_need a_rise a_goalCell a_goalWay a_length a_op a_value : Nat → Int32),
      bf_ok (g, c, d, s, e, dn, w, out) → bf_Gr gX g → bf_Gr gY g → bf_Pl pX s → bf_Pl pY s → bf_tr g a_key a_over a_steps a_need a_rise a_goalCell a_goalWay a_length a_op a_value → P (nI c, nI d, e, nI dn, nI s.length, nI w, e, f_made, f_level, gX, gv, pX, out, a_key, a_over, a_steps, a_need, a_rise, a_goalCell, a_goalWay, a_length, a_op, a_value) (nI s.length, nI w, e, nI dn, nI (c % 8), nI (c / 8), nI d, gY, gv, pY, out)) : P u v := by
  obtain ⟨g, c, d, s, e, dn, w, gv, out, gX, gY, pX, pY, h1, h2, h3, h4, h5, R⟩ := I
  obtain ⟨f_made, f_level, a_key, a_over, a_steps, a_need, a_rise, a_goalCell, a_goalWay, a_length, a_op, a_value, h6, hu, hv⟩ := R
  rw [hu, hv]
  exact h g c d s e dn w gv out gX gY pX pY f_made f_level a_key a_over a_steps a_need a_rise a_goalCell a_goalWay a_length a_op a_value h1 h2 h3 h4 h5 h6
theorem bf_ok_run {gv : Nat → Int32} {g : Nat → Nat} {out : Nat → Int32} {n : Nat} {t : bf_M} (hg : ∀ i, i < 32 → g i < 32) (hm : bf_it gv n (g, 0, 0, [], 0, 0, 0, out) = t) : bf_ok t := by
  rw [← hm]
  exact bf_ok_it (bf_ok_0 hg) n
theorem i_vc0 : wpX_init (fun u => wpY_init (fun v => i_Rel 0 u v)) := by
  refine bf_x_dropAll (fun key' hk => ?_)
  exact bf_in 0 (g := fun _ => 0) (c := 0) (d := 0) (s := []) (e := 0) (dn := 0) (w := 0) (bf_ok_0 (fun _ _ => Nat.zero_lt_succ _)) (fun _ _ => rfl) (fun _ _ => rfl) rfl rfl (bf_tr_none hk)
theorem i_vc_put {k : Nat} {u : SX} {v : SY} (I : i_Rel k u v) (hk : k + 4 ≤ 2048) (v1 : Int32) (v2 : Int32) (v3 : Int32) : wpX_put (fun r u' => wpY_put (fun r' v' => r' = r ∧ i_Rel (k + 4) u' v') v v1 v2 v3) u v1 v2 v3 := by
  refine bf_el (P := fun u v => wpX_put (fun r u' => wpY_put (fun r' v' => r' = r ∧ i_Rel (k + 4) u' v') v v1 v2 v3) u v1 v2 v3) I ?_
  intro g c d s e dn w gv out gX gY pX pY f_made f_level a_key a_over a_steps a_need a_rise a_goalCell a_goalWay a_length a_op a_value h1 h2 h3 h4 h5 h6
  by_cases hb : bf_cell v1 v2
  · obtain ⟨x, y, hx, hy, rfl, rfl⟩ := hb
    unfold wpX_put
    refine bf_x_good hx hy ?_
    refine br_t rfl (br_c (fun q1 => ?_) (fun q1 => br_c (fun q2 => ?_) (fun q2 => ?_)))
    · unfold wpY_put
      refine bf_y_good hx hy ?_
      exact br_f (by decide) (br_t q1 ⟨rfl, bf_in (k + 4) h1 h2 h3 h4 h5 h6⟩)
    · obtain ⟨j, hj, rfl⟩ := nI_of2 (M := 31) (n := 31) (by decide) q1 q2
      have hi : x + 8 * y < 32 := by omega
      have hcl : (nI (x + 8 * y)).toNatClampNeg = x + 8 * y := nI_clamp (by omega)
      rw [bf_8]
      refine ⟨vp_in_nI hi (by decide), nm_r (e' := nI (g (x + 8 * y))) (by rw [hcl]; exact h2 _ hi) ?_⟩
      refine bf_x_write hi h2 h6 (fun aG aK hG hT => ?_)
      unfold wpY_put
      refine bf_y_good hx hy ?_
      refine br_f (by decide) (br_f q1 (br_t q2 ?_))
      rw [bf_8']
      refine ⟨vp_in_nI hi (by decide), nm_r (e' := nI (g (x + 8 * y))) (by rw [hcl]; exact h3 _ hi) ⟨vp_in_nI hi (by decide), nm_r (e' := upd gY (x + 8 * y) (nI j)) (by rw [hcl]) ⟨rfl, ?_⟩⟩⟩
      obtain ⟨o1, o2, o3, o4, o5, o6⟩ := h1
      exact bf_in (k + 4) ⟨o1, o2, o3, o4, o5, bf_un_lt o6 (by omega)⟩ hG (bf_Gr_upd h3) h4 h5 hT
    · unfold wpY_put
      refine bf_y_good hx hy ?_
      exact br_f (by decide) (br_f q1 (br_f q2 ⟨rfl, bf_in (k + 4) h1 h2 h3 h4 h5 h6⟩))
  · unfold wpX_put
    refine bf_x_bad hb ?_
    refine br_f (by decide) ?_
    unfold wpY_put
    refine bf_y_bad hb ?_
    exact br_t rfl ⟨rfl, bf_in (k + 4) h1 h2 h3 h4 h5 h6⟩
theorem i_vc_putThree {k : Nat} {u : SX} {v : SY} (I : i_Rel k u v) (hk : k + 4 ≤ 2048) (v1 : Int32) (v2 : Int32) (v3 : Int32) : wpX_putThree (fun r u' => wpY_putThree (fun r' v' => r' = r ∧ i_Rel (k + 4) u' v') v v1 v2 v3) u v1 v2 v3 := by
  refine bf_el (P := fun u v => wpX_putThree (fun r u' => wpY_putThree (fun r' v' => r' = r ∧ i_Rel (k + 4) u' v') v v1 v2 v3) u v1 v2 v3) I ?_
  intro g c d s e dn w gv out gX gY pX pY f_made f_level a_key a_over a_steps a_need a_rise a_goalCell a_goalWay a_length a_op a_value h1 h2 h3 h4 h5 h6
  by_cases hb : bf_cell v1 v2
  · obtain ⟨x, y, hx, hy, rfl, rfl⟩ := hb
    unfold wpX_putThree
    refine bf_x_good hx hy ?_
    refine br_t rfl (br_c (fun q1 => ?_) (fun q1 => br_c (fun q2 => ⟨4, ?_⟩) (fun q2 => ?_)))
    · unfold wpY_putThree
      refine bf_y_good hx hy ?_
      exact br_f (by decide) (br_t q1 ⟨rfl, bf_in (k + 4) h1 h2 h3 h4 h5 h6⟩)
    · refine bf_x_putThree_25 (g := g) hx hy (fun aG aK hG hT => ?_) 3 0 4 gX a_key (by decide) (by decide) h2 h6
      unfold wpY_putThree
      refine bf_y_good hx hy ?_
      refine br_f (by decide) (br_f q1 (br_t q2 ⟨4, ?_⟩))
      refine bf_y_putThree_25 (g := g) hx hy (fun aG' hG' => ⟨rfl, ?_⟩) 3 0 4 gY (by decide) (by decide) h3
      obtain ⟨o1, o2, o3, o4, o5, o6⟩ := h1
      exact bf_in (k + 4) ⟨o1, o2, o3, o4, o5, bf_p3_lt o6 3⟩ hG hG' h4 h5 hT
    · unfold wpY_putThree
      refine bf_y_good hx hy ?_
      exact br_f (by decide) (br_f q1 (br_f q2 ⟨rfl, bf_in (k + 4) h1 h2 h3 h4 h5 h6⟩))
  · unfold wpX_putThree
    refine bf_x_bad hb ?_
    refine br_f (by decide) ?_
    unfold wpY_putThree
    refine bf_y_bad hb ?_
    exact br_t rfl ⟨rfl, bf_in (k + 4) h1 h2 h3 h4 h5 h6⟩
theorem i_vc_get {k : Nat} {u : SX} {v : SY} (I : i_Rel k u v) (hk : k + 4 ≤ 2048) (v1 : Int32) (v2 : Int32) : wpX_get (fun r => wpY_get (fun r' => r' = r ∧ i_Rel (k + 4) u v) v v1 v2) u v1 v2 := by
  refine bf_el (P := fun u v => wpX_get (fun r => wpY_get (fun r' => r' = r ∧ i_Rel (k + 4) u v) v v1 v2) u v1 v2) I ?_
  intro g c d s e dn w gv out gX gY pX pY f_made f_level a_key a_over a_steps a_need a_rise a_goalCell a_goalWay a_length a_op a_value h1 h2 h3 h4 h5 h6
  by_cases hb : bf_cell v1 v2
  · obtain ⟨x, y, hx, hy, rfl, rfl⟩ := hb
    have hi : x + 8 * y < 32 := by omega
    have hcl : (nI (x + 8 * y)).toNatClampNeg = x + 8 * y := nI_clamp (by omega)
    unfold wpX_get
    refine bf_x_good hx hy ?_
    refine br_t rfl ?_
    rw [bf_8]
    refine ⟨vp_in_nI hi (by decide), ?_⟩
    unfold wpY_get
    refine bf_y_good hx hy ?_
    refine br_f (by decide) ?_
    rw [bf_8']
    refine ⟨vp_in_nI hi (by decide), ?_, bf_in (k + 4) h1 h2 h3 h4 h5 h6⟩
    rw [hcl, h2 _ hi, h3 _ hi]
  · unfold wpX_get
    refine bf_x_bad hb ?_
    refine br_f (by decide) ?_
    unfold wpY_get
    refine bf_y_bad hb ?_
    exact br_t rfl ⟨rfl, bf_in (k + 4) h1 h2 h3 h4 h5 h6⟩
theorem i_vc_clear {k : Nat} {u : SX} {v : SY} (I : i_Rel k u v) (hk : k + 4 ≤ 2048) : wpX_clear (fun u' => wpY_clear (fun v' => i_Rel (k + 4) u' v') v) u := by
  refine bf_el (P := fun u v => wpX_clear (fun u' => wpY_clear (fun v' => i_Rel (k + 4) u' v') v) u) I ?_
  intro g c d s e dn w gv out gX gY pX pY f_made f_level a_key a_over a_steps a_need a_rise a_goalCell a_goalWay a_length a_op a_value h1 h2 h3 h4 h5 h6
  refine ⟨33, bf_x_clear_2 (fun aG aK hG hT => ⟨33, bf_y_clear_2 (fun aG' hG' => ?_) 32 0 33 gY (by decide) (by decide) (fun j hj => absurd hj (by omega))⟩) 32 0 33 gX (by decide) (by decide) (fun j hj => absurd hj (by omega))⟩
  obtain ⟨o1, o2, o3, o4, o5, o6⟩ := h1
  exact bf_in (k + 4) (g := fun _ => 0) ⟨o1, o2, o3, o4, o5, fun _ _ => Nat.zero_lt_succ _⟩ hG hG' h4 h5 (bf_tr_none hT)
theorem i_vc_input {k : Nat} {u : SX} {v : SY} (I : i_Rel k u v) (hk : k + 4 ≤ 2048) (v1 : Int32) (v2 : Int32) : wpX_input (fun r u' => wpY_input (fun r' v' => r' = r ∧ i_Rel (k + 4) u' v') v v1 v2) u v1 v2 := by
  refine bf_el (P := fun u v => wpX_input (fun r u' => wpY_input (fun r' v' => r' = r ∧ i_Rel (k + 4) u' v') v v1 v2) u v1 v2) I ?_
  intro g c d s e dn w gv out gX gY pX pY f_made f_level a_key a_over a_steps a_need a_rise a_goalCell a_goalWay a_length a_op a_value h1 h2 h3 h4 h5 h6
  refine br_c (fun q1 => ?_) (fun q1 => br_c (fun q2 => ?_) (fun q2 => ?_))
  · exact br_t q1 ⟨rfl, bf_in (k + 4) h1 h2 h3 h4 h5 h6⟩
  · have hi : vp_in v1 4 := by
      obtain ⟨j, hj, rfl⟩ := nI_of2 (M := 3) (n := 3) (by decide) q1 q2
      exact vp_in_nI (by omega) (by decide)
    exact ⟨hi, nm_e (br_f q1 (br_t q2 ⟨hi, nm_e ⟨rfl, bf_in (k + 4) h1 h2 h3 h4 h5 h6⟩⟩))⟩
  · exact br_f q1 (br_f q2 ⟨rfl, bf_in (k + 4) h1 h2 h3 h4 h5 h6⟩)
theorem i_vc_run {k : Nat} {u : SX} {v : SY} (I : i_Rel k u v) (hk : k + 4 ≤ 2048) : wpX_run (fun r u' => wpY_run (fun r' v' => r' = r ∧ i_Rel (k + 4) u' v') v) u := by
  refine bf_el (P := fun u v => wpX_run (fun r u' => wpY_run (fun r' v' => r' = r ∧ i_Rel (k + 4) u' v') v) u) I ?_
  intro g c d s e dn w gv out gX gY pX pY f_made f_level a_key a_over a_steps a_need a_rise a_goalCell a_goalWay a_length a_op a_value h1 h2 h3 h4 h5 h6
  have o6 : ∀ i, i < 32 → g i < 32 := h1.2.2.2.2.2
  refine bf_x_run o6 h2 h6 (fun g' c' d' s' e' k' w' out' made l aG aP aK ov stp nd rs gC gW len op val hm hG hp hT => ?_)
  refine bf_y_run o6 h3 (fun g'' c'' d'' s'' e'' k'' w'' out'' aG' aP' hm' hG' hp' => ?_)
  have ok : bf_ok (g', c', d', s', e', k', w', out') := bf_ok_run o6 hm
  have E := hm.symm.trans hm'
  simp only [Prod.mk.injEq] at E
  obtain ⟨rfl, rfl, rfl, rfl, rfl, rfl, rfl, rfl⟩ := E
  exact ⟨rfl, bf_in (k + 4) ok hG hG' hp hp' hT⟩
theorem i_vc_ending {k : Nat} {u : SX} {v : SY} (I : i_Rel k u v) (hk : k + 4 ≤ 2048) : wpX_ending (fun r => wpY_ending (fun r' => r' = r ∧ i_Rel (k + 4) u v) v) u := by
  refine bf_el (P := fun u v => wpX_ending (fun r => wpY_ending (fun r' => r' = r ∧ i_Rel (k + 4) u v) v) u) I ?_
  intro g c d s e dn w gv out gX gY pX pY f_made f_level a_key a_over a_steps a_need a_rise a_goalCell a_goalWay a_length a_op a_value h1 h2 h3 h4 h5 h6
  exact And.intro rfl (bf_in (k + 4) h1 h2 h3 h4 h5 h6)
theorem i_vc_steps {k : Nat} {u : SX} {v : SY} (I : i_Rel k u v) (hk : k + 4 ≤ 2048) : wpX_steps (fun r => wpY_steps (fun r' => r' = r ∧ i_Rel (k + 4) u v) v) u := by
  refine bf_el (P := fun u v => wpX_steps (fun r => wpY_steps (fun r' => r' = r ∧ i_Rel (k + 4) u v) v) u) I ?_
  intro g c d s e dn w gv out gX gY pX pY f_made f_level a_key a_over a_steps a_need a_rise a_goalCell a_goalWay a_length a_op a_value h1 h2 h3 h4 h5 h6
  exact And.intro rfl (bf_in (k + 4) h1 h2 h3 h4 h5 h6)
theorem i_vc_height {k : Nat} {u : SX} {v : SY} (I : i_Rel k u v) (hk : k + 4 ≤ 2048) : wpX_height (fun r => wpY_height (fun r' => r' = r ∧ i_Rel (k + 4) u v) v) u := by
  refine bf_el (P := fun u v => wpX_height (fun r => wpY_height (fun r' => r' = r ∧ i_Rel (k + 4) u v) v) u) I ?_
  intro g c d s e dn w gv out gX gY pX pY f_made f_level a_key a_over a_steps a_need a_rise a_goalCell a_goalWay a_length a_op a_value h1 h2 h3 h4 h5 h6
  exact And.intro rfl (bf_in (k + 4) h1 h2 h3 h4 h5 h6)
theorem i_vc_pile {k : Nat} {u : SX} {v : SY} (I : i_Rel k u v) (hk : k + 4 ≤ 2048) (v1 : Int32) : wpX_pile (fun r => wpY_pile (fun r' => r' = r ∧ i_Rel (k + 4) u v) v v1) u v1 := by
  refine bf_el (P := fun u v => wpX_pile (fun r => wpY_pile (fun r' => r' = r ∧ i_Rel (k + 4) u v) v v1) u v1) I ?_
  intro g c d s e dn w gv out gX gY pX pY f_made f_level a_key a_over a_steps a_need a_rise a_goalCell a_goalWay a_length a_op a_value h1 h2 h3 h4 h5 h6
  have hs : s.length ≤ 10 := h1.2.2.1
  by_cases q1 : v1 < 0
  · exact br_t q1 (br_t q1 ⟨rfl, bf_in (k + 4) h1 h2 h3 h4 h5 h6⟩)
  · obtain ⟨j, hj, rfl⟩ := nI_of q1
    refine br_f q1 (pk_lt j s.length (fun q2 => ⟨vp_in_nI (by omega) (by decide), ?_⟩) (fun q2 => ?_))
    · refine br_f q1 (br_f (nI_ge q2 (by omega)) ⟨vp_in_nI (by omega) (by decide), ?_, bf_in (k + 4) h1 h2 h3 h4 h5 h6⟩)
      rw [nI_clamp hj]
      exact bf_Pl_eq h5 h4 j q2
    · exact br_f q1 (br_t (nI_le q2 hj) ⟨rfl, bf_in (k + 4) h1 h2 h3 h4 h5 h6⟩)
theorem i_vc_outputs {k : Nat} {u : SX} {v : SY} (I : i_Rel k u v) (hk : k + 4 ≤ 2048) : wpX_outputs (fun r => wpY_outputs (fun r' => r' = r ∧ i_Rel (k + 4) u v) v) u := by
  refine bf_el (P := fun u v => wpX_outputs (fun r => wpY_outputs (fun r' => r' = r ∧ i_Rel (k + 4) u v) v) u) I ?_
  intro g c d s e dn w gv out gX gY pX pY f_made f_level a_key a_over a_steps a_need a_rise a_goalCell a_goalWay a_length a_op a_value h1 h2 h3 h4 h5 h6
  exact And.intro rfl (bf_in (k + 4) h1 h2 h3 h4 h5 h6)
theorem i_vc_output {k : Nat} {u : SX} {v : SY} (I : i_Rel k u v) (hk : k + 4 ≤ 2048) (v1 : Int32) : wpX_output (fun r => wpY_output (fun r' => r' = r ∧ i_Rel (k + 4) u v) v v1) u v1 := by
  refine bf_el (P := fun u v => wpX_output (fun r => wpY_output (fun r' => r' = r ∧ i_Rel (k + 4) u v) v v1) u v1) I ?_
  intro g c d s e dn w gv out gX gY pX pY f_made f_level a_key a_over a_steps a_need a_rise a_goalCell a_goalWay a_length a_op a_value h1 h2 h3 h4 h5 h6
  have hw : w ≤ 16 := h1.2.2.2.2.1
  by_cases q1 : v1 < 0
  · exact br_t q1 (br_t q1 ⟨rfl, bf_in (k + 4) h1 h2 h3 h4 h5 h6⟩)
  · obtain ⟨j, hj, rfl⟩ := nI_of q1
    refine br_f q1 (pk_lt j w (fun q2 => ⟨vp_in_nI (by omega) (by decide), ?_⟩) (fun q2 => ?_))
    · exact br_f q1 (br_f (nI_ge q2 (by omega)) ⟨vp_in_nI (by omega) (by decide), rfl, bf_in (k + 4) h1 h2 h3 h4 h5 h6⟩)
    · exact br_f q1 (br_t (nI_le q2 hj) ⟨rfl, bf_in (k + 4) h1 h2 h3 h4 h5 h6⟩)
theorem i_vc_where {k : Nat} {u : SX} {v : SY} (I : i_Rel k u v) (hk : k + 4 ≤ 2048) : wpX_where (fun r => wpY_where (fun r' => r' = r ∧ i_Rel (k + 4) u v) v) u := by
  refine bf_el (P := fun u v => wpX_where (fun r => wpY_where (fun r' => r' = r ∧ i_Rel (k + 4) u v) v) u) I ?_
  intro g c d s e dn w gv out gX gY pX pY f_made f_level a_key a_over a_steps a_need a_rise a_goalCell a_goalWay a_length a_op a_value h1 h2 h3 h4 h5 h6
  refine And.intro ?_ (bf_in (k + 4) h1 h2 h3 h4 h5 h6)
  rw [bf_8]
  exact congrArg (fun z => nI z + 32 * nI d) (by omega)
theorem i_vc_digest {k : Nat} {u : SX} {v : SY} (I : i_Rel k u v) (hk : k + 4 ≤ 2048) : wpX_digest (fun r => wpY_digest (fun r' => r' = r ∧ i_Rel (k + 4) u v) v) u := by
  refine bf_el (P := fun u v => wpX_digest (fun r => wpY_digest (fun r' => r' = r ∧ i_Rel (k + 4) u v) v) u) I ?_
  intro g c d s e dn w gv out gX gY pX pY f_made f_level a_key a_over a_steps a_need a_rise a_goalCell a_goalWay a_length a_op a_value h1 h2 h3 h4 h5 h6
  exact ⟨33, bf_x_digest_4 h2 32 0 33 0 (by decide) (by decide) ⟨33, bf_y_digest_4 h3 32 0 33 0 (by decide) (by decide) ⟨rfl, bf_in (k + 4) h1 h2 h3 h4 h5 h6⟩⟩⟩
end
