section
theorem pk_us {f : Nat → Int32} {k : Nat} {x : Int32} : upd f k x k = x := if_pos rfl
theorem pk_un {f : Nat → Int32} {k j : Nat} {x : Int32} (h : j ≠ k) : upd f k x j = f j := if_neg h
theorem pk_sub {a b : Nat} (h : b ≤ a) : nI a - nI b = nI (a - b) := by
  obtain ⟨c, rfl⟩ : ∃ c, a = c + b := ⟨a - b, by omega⟩
  rw [← nI_add, Int32.add_sub_cancel, Nat.add_sub_cancel]
theorem pk_m1 (n : Nat) : nI (n + 1) + (-1) = nI n := by
  rw [← nI_1, Int32.add_assoc, show (1 : Int32) + (-1) = 0 from rfl, Int32.add_zero]
theorem pk_mul (a b : Nat) : nI a * nI b = nI (a * b) := (Int32.ofNat_mul a b).symm
theorem pk_div {a d : Nat} (ha : a < 2 ^ 31) (h0 : 0 < d) (hd : d < 2 ^ 31) : nI a / nI d = nI (a / d) := by
  apply Int32.toInt_inj.mp
  rw [lg_idiv_nonneg (by rw [nI_toInt ha]; omega) (by rw [nI_toInt hd]; omega), nI_toInt ha, nI_toInt hd, nI_toInt (Nat.lt_of_le_of_lt (Nat.div_le_self a d) ha)]
  first | rfl | exact (Int.natCast_ediv _ _).symm
theorem pk_rem {a d : Nat} (ha : a < 2 ^ 31) (h0 : 0 < d) (hd : d < 2 ^ 31) : nI a - nI a / nI d * nI d = nI (a % d) := by
  rw [pk_div ha h0 hd, pk_mul, pk_sub (Nat.div_mul_le_self a d)]
  exact congrArg nI (by have := Nat.div_add_mod' a d; omega)
theorem pk_sub_toInt {a b : Nat} (ha : a < 2 ^ 30) (hb : b < 2 ^ 30) : (nI a - nI b).toInt = (a : Int) - b := by
  rw [Int32.toInt_sub, nI_toInt (by omega), nI_toInt (by omega)]
  exact Int.bmod_eq_of_le (by omega) (by omega)
theorem pk_sneg {a b : Nat} (hb : b < 2 ^ 30) (h : a < b) : nI a - nI b < 0 := by
  rw [Int32.lt_iff_toInt_lt, pk_sub_toInt (by omega) hb, show (0 : Int32).toInt = 0 from by decide]
  omega
theorem pk_ix (x : Int32) {n : Nat} (hn : n < 2 ^ 31) : x < 0 ∨ nI n ≤ x ∨ ∃ j : Nat, j < n ∧ x = nI j := by
  by_cases h : x < 0
  · exact Or.inl h
  · obtain ⟨j, hj, rfl⟩ := nI_of h
    by_cases h2 : j < n
    · exact Or.inr (Or.inr ⟨j, h2, rfl⟩)
    · exact Or.inr (Or.inl (nI_le (by omega) hj))
theorem pk_le {x y : Int32} {A B : Prop} (a b : Nat) (f : a ≤ b → A) (g : b < a → B) (hx : x = nI a := by rfl) (hy : y = nI b := by rfl) (ha : a < 2 ^ 31 := by omega) (hb : b < 2 ^ 31 := by omega) : (x ≤ y → A) ∧ (¬ x ≤ y → B) := by
  subst hx hy
  rw [nI_leI ha hb]
  exact ⟨f, fun z => g (by omega)⟩
theorem pk_lt {x y : Int32} {A B : Prop} (a b : Nat) (f : a < b → A) (g : b ≤ a → B) (hx : x = nI a := by rfl) (hy : y = nI b := by rfl) (ha : a < 2 ^ 31 := by omega) (hb : b < 2 ^ 31 := by omega) : (x < y → A) ∧ (¬ x < y → B) := by
  subst hx hy
  rw [nI_ltI ha hb]
  exact ⟨f, fun z => g (by omega)⟩
theorem pk_eq {x y : Int32} {A B : Prop} (a b : Nat) (f : a = b → A) (g : a ≠ b → B) (hx : x = nI a := by rfl) (hy : y = nI b := by rfl) (ha : a < 2 ^ 31 := by omega) (hb : b < 2 ^ 31 := by omega) : (x = y → A) ∧ (¬ x = y → B) := by
  subst hx hy
  rw [nI_eq ha hb]
  exact ⟨f, g⟩
theorem pk_in {x : Int32} (n N : Nat) (h : n < N) (hx : x = nI n := by rfl) (hN : N < 2 ^ 31 := by omega) : vp_in x N := by
  subst hx
  exact vp_in_nI h hN
theorem pk_cl {x : Int32} (n : Nat) (hx : x = nI n := by rfl) (h : n < 2 ^ 31 := by omega) : x.toNatClampNeg = n := by
  subst hx
  exact nI_clamp h
theorem pk_tn {n : Nat} (h : n < 2 ^ 32) : (nI n).toBitVec.toNat = n := Nat.mod_eq_of_lt h
theorem pk_and (x : Int32) {m : Int32} (k : Nat) (hm : m.toBitVec.toNat = 2 ^ k - 1) : x &&& m = nI (x.toBitVec.toNat % 2 ^ k) := by
  apply Int32.toBitVec_inj.mp
  apply BitVec.eq_of_toNat_eq
  rw [Int32.toBitVec_and, BitVec.toNat_and, hm, Nat.and_two_pow_sub_one_eq_mod]
  show _ = (BitVec.ofNat 32 _).toNat
  rw [BitVec.toNat_ofNat]
  exact (Nat.mod_eq_of_lt (Nat.lt_of_le_of_lt (Nat.mod_le _ _) x.toBitVec.isLt)).symm
theorem pk_andN {n : Nat} (h : n < 2 ^ 32) {m : Int32} (k : Nat) (hm : m.toBitVec.toNat = 2 ^ k - 1) : nI n &&& m = nI (n % 2 ^ k) := by
  rw [pk_and _ k hm, pk_tn h]
theorem pk_andE (x : Int32) {m : Int32} (k : Nat) (hm : m.toBitVec.toNat = 2 ^ k - 1) : ∃ j : Nat, j < 2 ^ k ∧ x &&& m = nI j := ⟨_, Nat.mod_lt _ (Nat.two_pow_pos k), pk_and x k hm⟩
theorem pk_andIn (x : Int32) {m : Int32} (k : Nat) (hm : m.toBitVec.toNat = 2 ^ k - 1) (hk : k ≤ 30) : vp_in (x &&& m) (2 ^ k) := by
  obtain ⟨j, hj, e⟩ := pk_andE x k hm
  rw [e]
  exact vp_in_nI hj (Nat.lt_of_le_of_lt (Nat.pow_le_pow_right (by decide) hk) (by decide))
theorem pk_shl (a s : Int32) (k : Nat) (hs : (s.toBitVec.smod 32).toNat = k) : (a <<< s).toBitVec.toNat = a.toBitVec.toNat * 2 ^ k % 2 ^ 32 := by
  show (a.toBitVec <<< (s.toBitVec.smod 32).toNat).toNat = _
  rw [hs, BitVec.toNat_shiftLeft, Nat.shiftLeft_eq]
theorem pk_shlN {n : Nat} (s : Int32) (k : Nat) (hs : (s.toBitVec.smod 32).toNat = k) (h : n * 2 ^ k < 2 ^ 32) : nI n <<< s = nI (n * 2 ^ k) := by
  apply Int32.toBitVec_inj.mp
  apply BitVec.eq_of_toNat_eq
  have hn : n < 2 ^ 32 := Nat.lt_of_le_of_lt (Nat.le_mul_of_pos_right n (Nat.two_pow_pos k)) h
  rw [pk_shl _ _ k hs, pk_tn hn, pk_tn h, Nat.mod_eq_of_lt h]
theorem pk_shr (a s : Int32) (k : Nat) (hs : (s.toBitVec.smod 32).toNat = k) : (a >>> s).toInt = a.toInt >>> k := by
  show (a.toBitVec.sshiftRight (s.toBitVec.smod 32).toNat).toInt = _
  rw [hs, BitVec.toInt_sshiftRight]
  rfl
theorem pk_shrN {n : Nat} (h : n < 2 ^ 31) (s : Int32) (k : Nat) (hs : (s.toBitVec.smod 32).toNat = k) : nI n >>> s = nI (n / 2 ^ k) := by
  apply Int32.toInt_inj.mp
  have h2 : n / 2 ^ k ≤ n := Nat.div_le_self _ _
  rw [pk_shr _ _ k hs, nI_toInt h, nI_toInt (by omega), Int.shiftRight_eq_div_pow]
  rfl
end
section
/-! numbers of any sign: iI z, a ring homomorphism; bounds only at comparisons and divisions -/
def iI (z : Int) : Int32 := Int32.ofInt z
theorem ii_add (a b : Int) : iI a + iI b = iI (a + b) := (Int32.ofInt_add a b).symm
theorem ii_sub (a b : Int) : iI a - iI b = iI (a - b) := (Int32.ofInt_sub a b).symm
theorem ii_mul (a b : Int) : iI a * iI b = iI (a * b) := (Int32.ofInt_mul a b).symm
theorem ii_n (n : Nat) : nI n = iI (n : Int) := (Int32.ofInt_eq_ofNat).symm
theorem ii_t (x : Int32) : iI x.toInt = x := Int32.ofInt_toInt x
theorem ii_toInt {z : Int} (h1 : -2147483648 ≤ z) (h2 : z < 2147483648) : (iI z).toInt = z := Int32.toInt_ofInt_of_le (by omega) (by omega)
theorem ii_eq {a b : Int} (ha1 : -2147483648 ≤ a) (ha2 : a < 2147483648) (hb1 : -2147483648 ≤ b) (hb2 : b < 2147483648) : iI a = iI b ↔ a = b := by
  rw [← Int32.toInt_inj, ii_toInt ha1 ha2, ii_toInt hb1 hb2]
theorem ii_le {a b : Int} (ha1 : -2147483648 ≤ a) (ha2 : a < 2147483648) (hb1 : -2147483648 ≤ b) (hb2 : b < 2147483648) : iI a ≤ iI b ↔ a ≤ b := by
  rw [Int32.le_iff_toInt_le, ii_toInt ha1 ha2, ii_toInt hb1 hb2]
theorem ii_lt {a b : Int} (ha1 : -2147483648 ≤ a) (ha2 : a < 2147483648) (hb1 : -2147483648 ≤ b) (hb2 : b < 2147483648) : iI a < iI b ↔ a < b := by
  rw [Int32.lt_iff_toInt_lt, ii_toInt ha1 ha2, ii_toInt hb1 hb2]
theorem ii_0 : iI 0 = 0 := by decide
theorem ii_eq0 {a : Int} (ha1 : -2147483648 ≤ a) (ha2 : a < 2147483648) : iI a = 0 ↔ a = 0 := by
  rw [← ii_0, ii_eq ha1 ha2 (by omega) (by omega)]
theorem ii_lt0 {a : Int} (ha1 : -2147483648 ≤ a) (ha2 : a < 2147483648) : iI a < 0 ↔ a < 0 := by
  rw [← ii_0, ii_lt ha1 ha2 (by omega) (by omega)]
theorem ii_div {a b : Int} (ha1 : -2147483648 ≤ a) (ha2 : a < 2147483648) (hb1 : -2147483648 ≤ b) (hb2 : b < 2147483648) : iI a / iI b = iI (a.tdiv b) := by
  have h1 : Int32.minValue.toInt = -2147483648 := by decide
  have h2 : Int32.maxValue.toInt = 2147483647 := by decide
  exact (Int32.ofInt_tdiv (by omega) (by omega) (by omega) (by omega)).symm
/-- the remainder is 0: it divides -/
theorem ii_rem0 {a b : Int} (ha1 : -2147483648 < a) (ha2 : a < 2147483648) (hb1 : -2147483648 ≤ b) (hb2 : b < 2147483648) : iI a - iI a / iI b * iI b = 0 ↔ a.tdiv b * b = a := by
  rw [ii_div (by omega) ha2 hb1 hb2, ii_mul, ii_sub]
  have e : a - a.tdiv b * b = a.tmod b := by rw [Int.tmod_def, Int.mul_comm]
  have hb : (a.tmod b).natAbs ≤ a.natAbs := by
    rw [Int.natAbs_tmod]; exact Nat.mod_le _ _
  rw [e, ii_eq0 (by omega) (by omega), ← e]
  omega
theorem ii_mb {x y : Int} (a b : Nat) (hx1 : -(a : Int) ≤ x) (hx2 : x ≤ a) (hy1 : -(b : Int) ≤ y) (hy2 : y ≤ b) : -((a * b : Nat) : Int) ≤ x * y ∧ x * y ≤ ((a * b : Nat) : Int) := by
  have h : (x * y).natAbs ≤ a * b := by
    rw [Int.natAbs_mul]; exact Nat.mul_le_mul (by omega) (by omega)
  omega
theorem ii_td {x y : Int} (a : Nat) (hx1 : -(a : Int) ≤ x) (hx2 : x ≤ a) : -(a : Int) ≤ x.tdiv y ∧ x.tdiv y ≤ a := by
  have h := Int.natAbs_tdiv_le_natAbs x y
  omega
theorem ii_mbN {x : Int} {k : Nat} (a b : Nat) (hx1 : -(a : Int) ≤ x) (hx2 : x ≤ a) (hk : k ≤ b) : -((a * b : Nat) : Int) ≤ x * (k : Int) ∧ x * (k : Int) ≤ ((a * b : Nat) : Int) := ii_mb a b hx1 hx2 (by omega) (by omega)
end
section
/-! places, and the lists of turns that touch a place: plain laws -/
def lc_bd (L : Int) (a : Nat → Int32) : Prop := ∀ j, -L ≤ (a j).toInt ∧ (a j).toInt ≤ L
theorem lc_bd_upd {L : Int} {a : Nat → Int32} {k : Nat} {x : Int32} (h : lc_bd L a) (h1 : -L ≤ x.toInt) (h2 : x.toInt ≤ L) : lc_bd L (upd a k x) := by
  intro j
  by_cases e : j = k
  · subst e; rw [pk_us]; exact ⟨h1, h2⟩
  · rw [pk_un e]; exact h j
theorem lc_bd_0 {L : Int} (h : 0 ≤ L) : lc_bd L (fun _ => 0) := by
  intro j
  have e : (0 : Int32).toInt = 0 := by decide
  show -L ≤ (0 : Int32).toInt ∧ (0 : Int32).toInt ≤ L
  omega
def lc_af (N : Nat) (a b c : Nat → Int32) (r t : Nat) : Int := (a r).toInt * ((t / N : Nat) : Int) + (b r).toInt * ((t % N : Nat) : Int) + (c r).toInt
def lc_pl (N : Nat) (aA aB aC aD aE aF : Nat → Int32) (r t : Nat) : Int × Int := (lc_af N aA aB aC r t, lc_af N aD aE aF r t)
def lc_sp (N : Nat) (aA aB aC aD aE aF : Nat → Int32) (r t : Nat) : Int := 1000 * lc_af N aA aB aC r t + lc_af N aD aE aF r t
theorem lc_af_bd {N : Nat} {a b c : Nat → Int32} {r t : Nat} (ha : lc_bd 4 a) (hb : lc_bd 4 b) (hc : lc_bd 20 c) (h1 : t / N ≤ 7) (h2 : t % N ≤ 7) : -76 ≤ lc_af N a b c r t ∧ lc_af N a b c r t ≤ 76 := by
  have e1 := ii_mbN (x := (a r).toInt) (k := t / N) 4 7 (ha r).1 (ha r).2 h1
  have e2 := ii_mbN (x := (b r).toInt) (k := t % N) 4 7 (hb r).1 (hb r).2 h2
  have e3 := hc r
  unfold lc_af
  omega
/-- the object's arrays and counts are as they must be -/
def lc_ok (M N C : Nat) (aA aB aC aD aE aF : Nat → Int32) : Prop := 1 ≤ M ∧ M ≤ 8 ∧ 1 ≤ N ∧ N ≤ 8 ∧ C ≤ 6 ∧ lc_bd 4 aA ∧ lc_bd 4 aB ∧ lc_bd 20 aC ∧ lc_bd 4 aD ∧ lc_bd 4 aE ∧ lc_bd 20 aF
theorem lc_tu {M N t : Nat} (hN : 1 ≤ N) (ht : t < M * N) : t / N < M ∧ t % N < N := ⟨(Nat.div_lt_iff_lt_mul hN).mpr ht, Nat.mod_lt _ hN⟩
theorem lc_64 {M N : Nat} (hM : M ≤ 8) (hN : N ≤ 8) : M * N ≤ 64 := Nat.mul_le_mul hM hN
section
variable {M N C : Nat} {aA aB aC aD aE aF : Nat → Int32}
theorem lc_pb (ok : lc_ok M N C aA aB aC aD aE aF) (r : Nat) {t : Nat} (ht : t < M * N) : (-76 ≤ lc_af N aA aB aC r t ∧ lc_af N aA aB aC r t ≤ 76) ∧ (-76 ≤ lc_af N aD aE aF r t ∧ lc_af N aD aE aF r t ≤ 76) := by
  obtain ⟨h1, h2, h3, h4, h5, b1, b2, b3, b4, b5, b6⟩ := ok
  have h := lc_tu h3 ht
  exact ⟨lc_af_bd b1 b2 b3 (by omega) (by omega), lc_af_bd b4 b5 b6 (by omega) (by omega)⟩
theorem lc_spb (ok : lc_ok M N C aA aB aC aD aE aF) (r : Nat) {t : Nat} (ht : t < M * N) : -80000 ≤ lc_sp N aA aB aC aD aE aF r t ∧ lc_sp N aA aB aC aD aE aF r t ≤ 80000 := by
  have h := lc_pb ok r ht
  unfold lc_sp
  omega
theorem lc_sp_eq (ok : lc_ok M N C aA aB aC aD aE aF) (r s : Nat) {t u : Nat} (ht : t < M * N) (hu : u < M * N) : iI (lc_sp N aA aB aC aD aE aF r t) = iI (lc_sp N aA aB aC aD aE aF s u) ↔ lc_pl N aA aB aC aD aE aF r t = lc_pl N aA aB aC aD aE aF s u := by
  have b1 := lc_spb ok r ht
  have b2 := lc_spb ok s hu
  rw [ii_eq (by omega) (by omega) (by omega) (by omega)]
  have h1 := lc_pb ok r ht
  have h2 := lc_pb ok s hu
  unfold lc_sp lc_pl
  rw [Prod.mk.injEq]
  omega
end
/-! lists -/
def lc_L (f : Nat → Bool) (q : Nat) : List Nat := (List.range q).filter f
theorem lc_L0 (f : Nat → Bool) : lc_L f 0 = [] := rfl
theorem lc_L1 {f : Nat → Bool} {q : Nat} (h : f q = true) : lc_L f (q + 1) = lc_L f q ++ [q] := by
  unfold lc_L
  rw [List.range_succ, List.filter_append]
  simp [h]
theorem lc_Lf {f : Nat → Bool} {q : Nat} (h : f q = false) : lc_L f (q + 1) = lc_L f q := by
  unfold lc_L
  rw [List.range_succ, List.filter_append]
  simp [h]
theorem lc_Ll (f : Nat → Bool) (q : Nat) : (lc_L f q).length ≤ q := by
  unfold lc_L
  have h := List.length_filter_le f (List.range q)
  rw [List.length_range] at h
  exact h
theorem lc_blk0 {f : Nat → Bool} {q : Nat} : ∀ n : Nat, (∀ j, j < n → f (q + j) = false) → lc_L f (q + n) = lc_L f q := by
  intro n
  induction n with
  | zero => intro _; rfl
  | succ n ih =>
    intro h
    rw [← Nat.add_assoc, lc_Lf (h n (by omega))]
    exact ih (fun j hj => h j (by omega))
theorem lc_blk1 {f : Nat → Bool} {q n w : Nat} (hw : w < n) (h1 : f (q + w) = true) (h : ∀ j, j < n → f (q + j) = true → j = w) : lc_L f (q + n) = lc_L f q ++ [q + w] := by
  have e1 : lc_L f (q + w) = lc_L f q := lc_blk0 w (fun j hj => by
    cases e : f (q + j) with
    | false => rfl
    | true => exact absurd (h j (by omega) e) (by omega))
  have e2 : lc_L f (q + w + 1 + (n - w - 1)) = lc_L f (q + w + 1) := lc_blk0 _ (fun j hj => by
    cases e : f (q + w + 1 + j) with
    | false => rfl
    | true =>
      have := h (w + 1 + j) (by omega) (by rw [← e]; congr 1; omega)
      omega)
  rw [show q + n = q + w + 1 + (n - w - 1) by omega, e2, lc_L1 h1, e1]
/-- the array holds the list from its first cell on -/
def lc_en (L : List Nat) (P : Nat → Int32) : Prop := ∀ k u, L[k]? = some u → P k = nI u
theorem lc_en0 (P : Nat → Int32) : lc_en [] P := by
  intro k u h
  simp at h
theorem lc_en1 {L : List Nat} {P : Nat → Int32} {w : Nat} (h : lc_en L P) : lc_en (L ++ [w]) (upd P L.length (nI w)) := by
  intro k u e
  by_cases hk : k < L.length
  · rw [List.getElem?_append_left hk] at e
    rw [pk_un (by omega)]
    exact h k u e
  · rw [List.getElem?_append_right (by omega)] at e
    by_cases h2 : k = L.length
    · subst h2
      rw [Nat.sub_self, List.getElem?_cons_zero] at e
      rw [pk_us, Option.some.inj e]
    · obtain ⟨m, hm⟩ : ∃ m, k - L.length = m + 1 := ⟨k - L.length - 1, by omega⟩
      rw [hm, List.getElem?_cons_succ] at e
      simp at e
/-! two linear equations -/
theorem lc_det1 {a b d e x y i j : Int} (h1 : a * i + b * j = x) (h2 : d * i + e * j = y) : (a * e - b * d) * i = x * e - b * y ∧ (a * e - b * d) * j = a * y - x * d := by
  subst h1 h2
  constructor <;> grind
theorem lc_det2 {a b d e x y i j : Int} (hd : a * e - b * d ≠ 0) (h1 : (a * e - b * d) * i = x * e - b * y) (h2 : (a * e - b * d) * j = a * y - x * d) : a * i + b * j = x ∧ d * i + e * j = y := by
  constructor
  · apply Int.eq_of_mul_eq_mul_left hd
    have : (a * e - b * d) * (a * i + b * j) = a * ((a * e - b * d) * i) + b * ((a * e - b * d) * j) := by grind
    rw [this, h1, h2]; grind
  · apply Int.eq_of_mul_eq_mul_left hd
    have : (a * e - b * d) * (d * i + e * j) = d * ((a * e - b * d) * i) + e * ((a * e - b * d) * j) := by grind
    rw [this, h1, h2]; grind
theorem lc_q {g h j : Int} (hg : g ≠ 0) (e : g * j = h) : h.tdiv g = j ∧ h.tdiv g * g = h := by
  have : h.tdiv g = j := by rw [← e]; exact Int.mul_tdiv_cancel_left j hg
  exact ⟨this, by rw [this, Int.mul_comm]; exact e⟩
end
section
/-! X: rowOf, columnOf, enlist, solveInner, solve -/
section
variable {M N C : Nat} {fo cc ds ls ms ft og ig sm : Int32} {aA aB aC aD aE aF aW pp lv : Nat → Int32}
theorem xs_row {post : Int32 → Prop} {r t : Nat} (hr : r < 6) (hN1 : 1 ≤ N) (hN : N ≤ 8) (ht : t < 1000) (K : post (iI (lc_af N aA aB aC r t))) : wpX_rowOf post ((nI M), (nI N), (nI C), fo, cc, ds, ls, ms, ft, og, ig, sm, aA, aB, aC, aD, aE, aF, aW, pp, lv) (nI r) (nI t) := by
  have hn : ¬ nI N = 0 := nI_ne0 (by omega) (by omega)
  have hi : vp_in (nI r) 6 := vp_in_nI hr (by omega)
  refine ⟨hi, hn, hi, hn, hi, ?_⟩
  rw [nI_clamp (by omega), pk_rem (by omega) (by omega) (by omega), pk_div (by omega) (by omega) (by omega)]
  have e : aA r * nI (t / N) + aB r * nI (t % N) + aC r = iI (lc_af N aA aB aC r t) := by
    unfold lc_af
    rw [← ii_add, ← ii_add, ← ii_mul, ← ii_mul, ii_t, ii_t, ii_t, ii_n, ii_n]
  rw [e]
  exact K
theorem xs_col {post : Int32 → Prop} {r t : Nat} (hr : r < 6) (hN1 : 1 ≤ N) (hN : N ≤ 8) (ht : t < 1000) (K : post (iI (lc_af N aD aE aF r t))) : wpX_columnOf post ((nI M), (nI N), (nI C), fo, cc, ds, ls, ms, ft, og, ig, sm, aA, aB, aC, aD, aE, aF, aW, pp, lv) (nI r) (nI t) := by
  have hn : ¬ nI N = 0 := nI_ne0 (by omega) (by omega)
  have hi : vp_in (nI r) 6 := vp_in_nI hr (by omega)
  refine ⟨hi, hn, hi, hn, hi, ?_⟩
  rw [nI_clamp (by omega), pk_rem (by omega) (by omega) (by omega), pk_div (by omega) (by omega) (by omega)]
  have e : aD r * nI (t / N) + aE r * nI (t % N) + aF r = iI (lc_af N aD aE aF r t) := by
    unfold lc_af
    rw [← ii_add, ← ii_add, ← ii_mul, ← ii_mul, ii_t, ii_t, ii_t, ii_n, ii_n]
  rw [e]
  exact K
theorem xs_enl {post : SX → Prop} {k : Nat} {p0 p1 : Int32} (i j : Int) (e0 : p0 = iI i) (e1 : p1 = iI j) (hM : M ≤ 8) (hN : N ≤ 8) (bi1 : -1000 ≤ i) (bi2 : i ≤ 1000) (bj1 : -1000 ≤ j) (bj2 : j ≤ 1000)
    (h1 : 0 ≤ i → i < M → 0 ≤ j → j < N → k < 64 ∧ post ((nI M), (nI N), (nI C), (nI (k + 1)), cc, ds, ls, ms, ft, og, ig, sm, aA, aB, aC, aD, aE, aF, aW, (upd pp k (iI (N * i + j))), lv)) (h2 : ¬ (0 ≤ i ∧ i < M ∧ 0 ≤ j ∧ j < N) → post ((nI M), (nI N), (nI C), (nI k), cc, ds, ls, ms, ft, og, ig, sm, aA, aB, aC, aD, aE, aF, aW, pp, lv)) : wpX_enlist post ((nI M), (nI N), (nI C), (nI k), cc, ds, ls, ms, ft, og, ig, sm, aA, aB, aC, aD, aE, aF, aW, pp, lv) p0 p1 := by
  subst e0 e1
  have a1 : iI i < 0 ↔ i < 0 := ii_lt0 (by omega) (by omega)
  have a2 : iI j < 0 ↔ j < 0 := ii_lt0 (by omega) (by omega)
  have a3 : nI M ≤ iI i ↔ (M : Int) ≤ i := by rw [ii_n]; exact ii_le (by omega) (by omega) (by omega) (by omega)
  have a4 : nI N ≤ iI j ↔ (N : Int) ≤ j := by rw [ii_n]; exact ii_le (by omega) (by omega) (by omega) (by omega)
  refine br_c (fun z => h2 (by rw [a1] at z; omega)) (fun z1 => br_c (fun z => h2 (by rw [a3] at z; omega)) (fun z2 => br_c (fun z => h2 (by rw [a2] at z; omega)) (fun z3 => br_c (fun z => h2 (by rw [a4] at z; omega)) (fun z4 => ?_))))
  rw [a1] at z1
  rw [a3] at z2
  rw [a2] at z3
  rw [a4] at z4
  obtain ⟨hk, hp⟩ := h1 (by omega) (by omega) (by omega) (by omega)
  refine ⟨vp_in_nI hk (by omega), nm_r (e' := upd pp k (iI (N * i + j))) ?_ (nm_r (nI_1 k) hp)⟩
  rw [nI_clamp (by omega), ii_n, ii_mul, ii_add]
theorem xs_l29 {post : SX → Prop} {f : Nat → Bool} {i : Nat} {x3 x4 : Int32} (h3 : x3 = 0) (h4 : x4 = 0) (hM : M ≤ 8) (hN : N ≤ 8) (hi : i < M) (hall : ∀ j, j < N → f (N * i + j) = true)
    (K : ∀ pp', lc_en (lc_L f (N * i + N)) pp' → post ((nI M), (nI N), (nI C), (nI (lc_L f (N * i + N)).length), cc, ds, ls, ms, ft, og, ig, sm, aA, aB, aC, aD, aE, aF, aW, pp', lv)) :
    ∀ (d j n : Nat) (pp : Nat → Int32), j + d = N → d < n → lc_en (lc_L f (N * i + j)) pp → wX_solveInner_29 post (nI i) x3 x4 n (nI j) (nI M) (nI N) (nI C) (nI (lc_L f (N * i + j)).length) cc ds ls ms ft og ig sm aA aB aC aD aE aF aW pp lv := by
  intro d
  induction d with
  | zero =>
    intro j n pp hj hn he
    obtain ⟨n, rfl⟩ : ∃ m, n = m + 1 := ⟨n - 1, by omega⟩
    obtain rfl : j = N := by omega
    exact br_t (nI_le (by omega) (by omega)) (K pp he)
  | succ d ih =>
    intro j n pp hj hn he
    obtain ⟨n, rfl⟩ : ∃ m, n = m + 1 := ⟨n - 1, by omega⟩
    have hb : N * i + N ≤ 64 := by
      have := Nat.mul_le_mul hN (show i + 1 ≤ 8 by omega)
      rw [Nat.mul_add, Nat.mul_one] at this
      omega
    have e : lc_L f (N * i + (j + 1)) = lc_L f (N * i + j) ++ [N * i + j] := lc_L1 (hall j (by omega))
    have hk : (lc_L f (N * i + (j + 1))).length = (lc_L f (N * i + j)).length + 1 := by rw [e, List.length_append]; rfl
    have hl := lc_Ll f (N * i + j)
    refine br_f (nI_ge (by omega) (by omega)) (br_t h3 (br_t h4 ?_))
    refine xs_enl (i : Int) (j : Int) (ii_n i) (ii_n j) hM hN (by omega) (by omega) (by omega) (by omega) (fun _ _ _ _ => ⟨by omega, ?_⟩) (fun z => absurd (show (0 : Int) ≤ i ∧ (i : Int) < M ∧ (0 : Int) ≤ j ∧ (j : Int) < N by omega) z)
    intro x ex
    subst ex
    rw [nI_1 j, ← hk]
    refine ih (j + 1) n _ (by omega) (by omega) ?_
    rw [e]
    have ev : iI ((N : Int) * (i : Int) + (j : Int)) = nI (N * i + j) := by rw [ii_n]; congr 1
    rw [ev]
    exact lc_en1 he
theorem xs_86 {post : SX → Prop} {f : Nat → Bool} {i : Nat} {b e x y g h : Int} (hM : M ≤ 8) (hN : N ≤ 8) (hi : i < M) (bb1 : -4 ≤ b) (bb2 : b ≤ 4) (be1 : -4 ≤ e) (be2 : e ≤ 4) (bx1 : -500 ≤ x) (bx2 : x ≤ 500) (by1 : -500 ≤ y) (by2 : y ≤ 500) (hg : g ≠ 0) (bg1 : -4 ≤ g) (bg2 : g ≤ 4) (bh1 : -500 ≤ h) (bh2 : h ≤ 500)
    (hu : ∀ j : Int, b * j = x → e * j = y → g * j = h)
    (hf : ∀ j : Nat, j < N → (f (N * i + j) = true ↔ (b * (j : Int) = x ∧ e * (j : Int) = y)))
    (he : lc_en (lc_L f (N * i)) pp)
    (K : ∀ pp', lc_en (lc_L f (N * i + N)) pp' → post ((nI M), (nI N), (nI C), (nI (lc_L f (N * i + N)).length), cc, ds, ls, ms, ft, og, ig, sm, aA, aB, aC, aD, aE, aF, aW, pp', lv)) :
    wX_solveInner_86 post (nI i) (iI x) (iI y) (iI b) (iI e) (iI g) (iI h) (nI M) (nI N) (nI C) (nI (lc_L f (N * i)).length) cc ds ls ms ft og ig sm aA aB aC aD aE aF aW pp lv := by
  have hx7 : ¬ iI g = 0 := by rw [ii_eq0 (by omega) (by omega)]; exact hg
  have hl := lc_Ll f (N * i)
  have hb : N * i + N ≤ 64 := by
    have := Nat.mul_le_mul hN (show i + 1 ≤ 8 by omega)
    rw [Nat.mul_add, Nat.mul_one] at this
    omega
  have none : (∀ j : Nat, j < N → ¬ (b * (j : Int) = x ∧ e * (j : Int) = y)) → post ((nI M), (nI N), (nI C), (nI (lc_L f (N * i)).length), cc, ds, ls, ms, ft, og, ig, sm, aA, aB, aC, aD, aE, aF, aW, pp, lv) := by
    intro hn
    have e0 : lc_L f (N * i + N) = lc_L f (N * i) := lc_blk0 N (fun j hj => by
      cases e1 : f (N * i + j) with
      | false => rfl
      | true => exact absurd ((hf j hj).mp e1) (hn j hj))
    have k0 := K pp (by rw [e0]; exact he)
    rw [e0] at k0
    exact k0
  have bq := ii_td (x := h) (y := g) 500 (by omega) (by omega)
  by_cases hdv : h.tdiv g * g = h
  · refine br_f hx7 ⟨hx7, br_t ((ii_rem0 (by omega) (by omega) (by omega) (by omega)).mpr hdv) ⟨hx7, nm_r (ii_div (by omega) (by omega) (by omega) (by omega)) ?_⟩⟩
    have uq : ∀ j : Int, b * j = x ∧ e * j = y → j = h.tdiv g := fun j hj => ((lc_q hg (hu j hj.1 hj.2)).1).symm
    generalize hq : h.tdiv g = q at *
    have b1 := ii_mb (x := b) (y := q) 4 500 (by omega) (by omega) (by omega) (by omega)
    have b2 := ii_mb (x := e) (y := q) 4 500 (by omega) (by omega) (by omega) (by omega)
    by_cases h1 : b * q = x
    · refine br_t (by rw [ii_mul, h1]) ?_
      by_cases h2 : e * q = y
      · refine br_t (by rw [ii_mul, h2]) ?_
        refine xs_enl (i : Int) q (ii_n i) rfl hM hN (by omega) (by omega) (by omega) (by omega) (fun _ _ z1 z2 => ?_) (fun z => ?_)
        · obtain ⟨w, rfl⟩ := Int.eq_ofNat_of_zero_le z1
          have hw : w < N := by omega
          refine ⟨by omega, ?_⟩
          have e0 : lc_L f (N * i + N) = lc_L f (N * i) ++ [N * i + w] := lc_blk1 hw ((hf w hw).mpr ⟨h1, h2⟩) (fun j hj hfj => by
            have := uq (j : Int) ((hf j hj).mp hfj)
            omega)
          have ev : iI ((N : Int) * (i : Int) + (w : Int)) = nI (N * i + w) := by rw [ii_n]; congr 1
          have k0 := K (upd pp (lc_L f (N * i)).length (nI (N * i + w))) (by rw [e0]; exact lc_en1 he)
          rw [e0, List.length_append] at k0
          rw [ev]
          exact k0
        · exact none (fun j hj hjj => by
            have := uq (j : Int) hjj
            omega)
      · refine br_f (by rw [ii_mul, ii_eq (by omega) (by omega) (by omega) (by omega)]; exact h2) (none (fun j hj hjj => ?_))
        have := uq (j : Int) hjj
        subst this
        exact h2 hjj.2
    · refine br_f (by rw [ii_mul, ii_eq (by omega) (by omega) (by omega) (by omega)]; exact h1) (none (fun j hj hjj => ?_))
      have := uq (j : Int) hjj
      subst this
      exact h1 hjj.1
  · refine br_f hx7 ⟨hx7, br_f (fun z => hdv ((ii_rem0 (by omega) (by omega) (by omega) (by omega)).mp z)) (none (fun j hj hjj => ?_))⟩
    exact hdv (lc_q hg (hu _ hjj.1 hjj.2)).2
theorem xs_inner {post : SX → Prop} {f : Nat → Bool} {i s : Nat} {x y : Int} {p2 p3 : Int32} (hM : M ≤ 8) (hN1 : 1 ≤ N) (hN : N ≤ 8) (hi : i < M) (hs : s < 6) (hB : lc_bd 4 aB) (hE : lc_bd 4 aE) (bx1 : -500 ≤ x) (bx2 : x ≤ 500) (by1 : -500 ≤ y) (by2 : y ≤ 500) (e2 : p2 = iI x) (e3 : p3 = iI y)
    (hf : ∀ j : Nat, j < N → (f (N * i + j) = true ↔ ((aB s).toInt * (j : Int) = x ∧ (aE s).toInt * (j : Int) = y)))
    (he : lc_en (lc_L f (N * i)) pp)
    (K : ∀ pp', lc_en (lc_L f (N * i + N)) pp' → post ((nI M), (nI N), (nI C), (nI (lc_L f (N * i + N)).length), cc, ds, ls, ms, ft, og, ig, sm, aA, aB, aC, aD, aE, aF, aW, pp', lv)) :
    wpX_solveInner post ((nI M), (nI N), (nI C), (nI (lc_L f (N * i)).length), cc, ds, ls, ms, ft, og, ig, sm, aA, aB, aC, aD, aE, aF, aW, pp, lv) (nI s) (nI i) p2 p3 := by
  subst e2 e3
  have hv : vp_in (nI s) 6 := vp_in_nI hs (by omega)
  have bb := hB s
  have be := hE s
  refine ⟨hv, nm_r (e' := iI (aB s).toInt) (by rw [nI_clamp (by omega), ii_t]) ⟨hv, nm_r (e' := iI (aE s).toInt) (by rw [nI_clamp (by omega), ii_t]) ?_⟩⟩
  generalize (aB s).toInt = b at *
  generalize (aE s).toInt = e at *
  by_cases hb : b = 0
  · have hb' : iI b = 0 := by rw [hb]; exact ii_0
    refine br_t hb' ?_
    by_cases h0 : e = 0
    · refine br_t (by rw [h0]; exact ii_0) ?_
      have none : ¬ (x = 0 ∧ y = 0) → post ((nI M), (nI N), (nI C), (nI (lc_L f (N * i)).length), cc, ds, ls, ms, ft, og, ig, sm, aA, aB, aC, aD, aE, aF, aW, pp, lv) := by
        intro hn
        have e0 : lc_L f (N * i + N) = lc_L f (N * i) := lc_blk0 N (fun j hj => by
          cases e1 : f (N * i + j) with
          | false => rfl
          | true =>
            have := (hf j hj).mp e1
            rw [hb, h0, Int.zero_mul] at this
            exact absurd ⟨this.1.symm, this.2.symm⟩ hn)
        have k0 := K pp (by rw [e0]; exact he)
        rw [e0] at k0
        exact k0
      by_cases hx : x = 0
      · by_cases hy : y = 0
        · exact ⟨N + 1, xs_l29 (by rw [hx]; exact ii_0) (by rw [hy]; exact ii_0) hM hN hi (fun j hj => (hf j hj).mpr (by rw [hb, h0, hx, hy, Int.zero_mul]; exact ⟨rfl, rfl⟩)) K N 0 (N + 1) pp (by omega) (by omega) he⟩
        · exact ⟨1, br_f (nI_nle (by omega) (by omega)) (br_t (by rw [hx]; exact ii_0) (br_f (by rw [ii_eq0 (by omega) (by omega)]; exact hy) (none (fun z => hy z.2))))⟩
      · exact ⟨1, br_f (nI_nle (by omega) (by omega)) (br_f (by rw [ii_eq0 (by omega) (by omega)]; exact hx) (none (fun z => hx z.1)))⟩
    · refine br_f (by rw [ii_eq0 (by omega) (by omega)]; exact h0) (br_t hb' (br_t hb' ?_))
      exact xs_86 hM hN hi bb.1 bb.2 be.1 be.2 bx1 bx2 by1 by2 h0 be.1 be.2 by1 by2 (fun _ _ z => z) hf he K
  · have hb' : ¬ iI b = 0 := by rw [ii_eq0 (by omega) (by omega)]; exact hb
    refine br_f hb' (br_f hb' (br_f hb' ?_))
    exact xs_86 hM hN hi bb.1 bb.2 be.1 be.2 bx1 bx2 by1 by2 hb bb.1 bb.2 bx1 bx2 (fun _ z _ => z) hf he K
theorem xs_l145 {post : SX → Prop} {f : Nat → Bool} {s : Nat} {x y : Int} (hM : M ≤ 8) (hN1 : 1 ≤ N) (hN : N ≤ 8) (hs : s < 6) (hA : lc_bd 4 aA) (hB : lc_bd 4 aB) (hD : lc_bd 4 aD) (hE : lc_bd 4 aE) (bx1 : -100 ≤ x) (bx2 : x ≤ 100) (by1 : -100 ≤ y) (by2 : y ≤ 100)
    (hf : ∀ i j : Nat, i < M → j < N → (f (N * i + j) = true ↔ ((aB s).toInt * (j : Int) = x - (aA s).toInt * (i : Int) ∧ (aE s).toInt * (j : Int) = y - (aD s).toInt * (i : Int))))
    (K : ∀ pp', lc_en (lc_L f (N * M)) pp' → post ((nI M), (nI N), (nI C), (nI (lc_L f (N * M)).length), cc, ds, ls, ms, ft, og, ig, sm, aA, aB, aC, aD, aE, aF, aW, pp', lv)) :
    ∀ (d i n : Nat) (pp : Nat → Int32), i + d = M → d < n → lc_en (lc_L f (N * i)) pp → wX_solve_145 post (nI s) (iI x) (iI y) n (nI i) (nI M) (nI N) (nI C) (nI (lc_L f (N * i)).length) cc ds ls ms ft og ig sm aA aB aC aD aE aF aW pp lv := by
  intro d
  induction d with
  | zero =>
    intro i n pp hi hn he
    obtain ⟨n, rfl⟩ : ∃ m, n = m + 1 := ⟨n - 1, by omega⟩
    obtain rfl : i = M := by omega
    exact br_t (nI_le (by omega) (by omega)) (K pp he)
  | succ d ih =>
    intro i n pp hi hn he
    obtain ⟨n, rfl⟩ : ∃ m, n = m + 1 := ⟨n - 1, by omega⟩
    have hv : vp_in (nI s) 6 := vp_in_nI hs (by omega)
    have c1 := ii_mb (x := (aA s).toInt) (y := (i : Int)) 4 8 (hA s).1 (hA s).2 (by omega) (by omega)
    have c2 := ii_mb (x := (aD s).toInt) (y := (i : Int)) 4 8 (hD s).1 (hD s).2 (by omega) (by omega)
    refine br_f (nI_ge (by omega) (by omega)) ⟨hv, hv, ?_⟩
    refine xs_inner (x := x - (aA s).toInt * (i : Int)) (y := y - (aD s).toInt * (i : Int)) hM hN1 hN (by omega) hs hB hE (by omega) (by omega) (by omega) (by omega) ?_ ?_ (fun j hj => hf i j (by omega) hj) he ?_
    · rw [nI_clamp (by omega), ← ii_sub, ← ii_mul, ii_t, ii_n]
    · rw [nI_clamp (by omega), ← ii_sub, ← ii_mul, ii_t, ii_n]
    · intro pp' hp x ex
      subst ex
      rw [nI_1 i]
      exact ih (i + 1) n pp' (by omega) (by omega) hp
/-- the turns in which s touches what r touches in turn t -/
def lc_f (N : Nat) (aA aB aC aD aE aF : Nat → Int32) (r t s u : Nat) : Bool := decide (lc_pl N aA aB aC aD aE aF r t = lc_pl N aA aB aC aD aE aF s u)
theorem lc_ft {r t s u : Nat} : lc_f N aA aB aC aD aE aF r t s u = true ↔ ((aA s).toInt * ((u / N : Nat) : Int) + (aB s).toInt * ((u % N : Nat) : Int) = lc_af N aA aB aC r t - (aC s).toInt ∧ (aD s).toInt * ((u / N : Nat) : Int) + (aE s).toInt * ((u % N : Nat) : Int) = lc_af N aD aE aF r t - (aF s).toInt) := by
  unfold lc_f lc_pl
  rw [decide_eq_true_eq, Prod.mk.injEq]
  generalize lc_af N aA aB aC r t = v1
  generalize lc_af N aD aE aF r t = v2
  unfold lc_af
  omega
theorem lc_du {i j : Nat} (hj : j < N) : (N * i + j) / N = i ∧ (N * i + j) % N = j := by
  have h0 : 0 < N := by omega
  rw [Nat.mul_add_div h0, Nat.div_eq_of_lt hj, Nat.mul_add_mod, Nat.mod_eq_of_lt hj]
  exact ⟨rfl, rfl⟩
set_option maxHeartbeats 4000000 in
theorem xs_solve {post : SX → Prop} {r t s : Nat} (ok : lc_ok M N C aA aB aC aD aE aF) (hr : r < 6) (hs : s < 6) (ht : t < M * N)
    (K : ∀ pp', lc_en (lc_L (lc_f N aA aB aC aD aE aF r t s) (M * N)) pp' → post ((nI M), (nI N), (nI C), (nI (lc_L (lc_f N aA aB aC aD aE aF r t s) (M * N)).length), cc, ds, ls, ms, ft, og, ig, sm, aA, aB, aC, aD, aE, aF, aW, pp', lv)) :
    wpX_solve post ((nI M), (nI N), (nI C), fo, cc, ds, ls, ms, ft, og, ig, sm, aA, aB, aC, aD, aE, aF, aW, pp, lv) (nI r) (nI t) (nI s) := by
  have hb := lc_pb ok r ht
  obtain ⟨hM1, hM, hN1, hN, hC, b1, b2, b3, b4, b5, b6⟩ := ok
  have h64 := lc_64 hM hN
  have hv : vp_in (nI s) 6 := vp_in_nI hs (by omega)
  have q1 := b1 s
  have q2 := b2 s
  have q3 := b3 s
  have q4 := b4 s
  have q5 := b5 s
  have q6 := b6 s
  have ec : (nI s).toNatClampNeg = s := nI_clamp (by omega)
  have hf : ∀ u, lc_f N aA aB aC aD aE aF r t s u = true ↔ ((aA s).toInt * ((u / N : Nat) : Int) + (aB s).toInt * ((u % N : Nat) : Int) = lc_af N aA aB aC r t - (aC s).toInt ∧ (aD s).toInt * ((u / N : Nat) : Int) + (aE s).toInt * ((u % N : Nat) : Int) = lc_af N aD aE aF r t - (aF s).toInt) := fun u => lc_ft
  unfold wpX_solve
  refine xs_row hr hN1 hN (by omega) ⟨hv, nm_r (e' := iI (lc_af N aA aB aC r t - (aC s).toInt)) (by rw [ec, ← ii_sub, ii_t]) ?_⟩
  refine xs_col hr hN1 hN (by omega) ⟨hv, nm_r (e' := iI (lc_af N aD aE aF r t - (aF s).toInt)) (by rw [ec, ← ii_sub, ii_t]) ⟨hv, hv, hv, hv, nm_r (e' := iI ((aA s).toInt * (aE s).toInt - (aB s).toInt * (aD s).toInt)) (by rw [ec, ← ii_sub, ← ii_mul, ← ii_mul, ii_t, ii_t, ii_t, ii_t]) ?_⟩⟩
  generalize lc_f N aA aB aC aD aE aF r t s = f at *
  generalize hx : lc_af N aA aB aC r t - (aC s).toInt = x at *
  generalize hy : lc_af N aD aE aF r t - (aF s).toInt = y at *
  have bx1 : -100 ≤ x := by omega
  have bx2 : x ≤ 100 := by omega
  have by1 : -100 ≤ y := by omega
  have by2 : y ≤ 100 := by omega
  have m1 := ii_mb (x := (aA s).toInt) (y := (aE s).toInt) 4 4 q1.1 q1.2 q5.1 q5.2
  have m2 := ii_mb (x := (aB s).toInt) (y := (aD s).toInt) 4 4 q2.1 q2.2 q4.1 q4.2
  have m3 := ii_mb (x := x) (y := (aE s).toInt) 100 4 bx1 bx2 q5.1 q5.2
  have m4 := ii_mb (x := (aB s).toInt) (y := y) 4 100 q2.1 q2.2 by1 by2
  have m5 := ii_mb (x := (aA s).toInt) (y := y) 4 100 q1.1 q1.2 by1 by2
  have m6 := ii_mb (x := x) (y := (aD s).toInt) 100 4 bx1 bx2 q4.1 q4.2
  by_cases hd : (aA s).toInt * (aE s).toInt - (aB s).toInt * (aD s).toInt = 0
  · refine br_t (by rw [hd]; exact ii_0) ⟨M + 1, ?_⟩
    refine xs_l145 (f := f) hM hN1 hN hs b1 b2 b4 b5 bx1 bx2 by1 by2 ?_ ?_ M 0 (M + 1) pp (by omega) (by omega) (lc_en0 pp)
    · intro i j hi hj
      rw [hf, (lc_du hj).1, (lc_du hj).2]
      omega
    · intro pp' hp
      rw [Nat.mul_comm N M] at hp ⊢
      exact K pp' hp
  · have hd' : ¬ iI ((aA s).toInt * (aE s).toInt - (aB s).toInt * (aD s).toInt) = 0 := by rw [ii_eq0 (by omega) (by omega)]; exact hd
    refine br_f hd' ⟨hv, hv, nm_r (e' := iI (x * (aE s).toInt - (aB s).toInt * y)) (by rw [ec, ← ii_sub, ← ii_mul, ← ii_mul, ii_t, ii_t]) ⟨hv, hv, nm_r (e' := iI ((aA s).toInt * y - x * (aD s).toInt)) (by rw [ec, ← ii_sub, ← ii_mul, ← ii_mul, ii_t, ii_t]) ⟨hd', ?_⟩⟩⟩
    have none : (∀ u, u < M * N → ¬ (((aA s).toInt * (aE s).toInt - (aB s).toInt * (aD s).toInt) * ((u / N : Nat) : Int) = x * (aE s).toInt - (aB s).toInt * y ∧ ((aA s).toInt * (aE s).toInt - (aB s).toInt * (aD s).toInt) * ((u % N : Nat) : Int) = (aA s).toInt * y - x * (aD s).toInt)) → post ((nI M), (nI N), (nI C), 0, cc, ds, ls, ms, ft, og, ig, sm, aA, aB, aC, aD, aE, aF, aW, pp, lv) := by
      intro hn
      have e0 : lc_L f (0 + M * N) = lc_L f 0 := lc_blk0 (M * N) (fun j hj => by
        rw [Nat.zero_add]
        cases e1 : f j with
        | false => rfl
        | true =>
          have := (hf j).mp e1
          exact absurd (lc_det1 this.1 this.2) (hn j hj))
      rw [Nat.zero_add, lc_L0] at e0
      have k0 := K pp (by rw [e0]; exact lc_en0 pp)
      rw [e0] at k0
      exact k0
    have hit : ∀ u, (f u = true ↔ (((aA s).toInt * (aE s).toInt - (aB s).toInt * (aD s).toInt) * ((u / N : Nat) : Int) = x * (aE s).toInt - (aB s).toInt * y ∧ ((aA s).toInt * (aE s).toInt - (aB s).toInt * (aD s).toInt) * ((u % N : Nat) : Int) = (aA s).toInt * y - x * (aD s).toInt)) := fun u => ⟨fun z => lc_det1 ((hf u).mp z).1 ((hf u).mp z).2, fun z => (hf u).mpr (lc_det2 hd z.1 z.2)⟩
    have v1 : -100 ≤ (aA s).toInt * (aE s).toInt - (aB s).toInt * (aD s).toInt ∧ (aA s).toInt * (aE s).toInt - (aB s).toInt * (aD s).toInt ≤ 100 := by omega
    have v2 : -800 ≤ x * (aE s).toInt - (aB s).toInt * y ∧ x * (aE s).toInt - (aB s).toInt * y ≤ 800 := by omega
    have v3 : -800 ≤ (aA s).toInt * y - x * (aD s).toInt ∧ (aA s).toInt * y - x * (aD s).toInt ≤ 800 := by omega
    clear m1 m2 m3 m4 m5 m6 hx hy hb
    generalize (aA s).toInt * (aE s).toInt - (aB s).toInt * (aD s).toInt = det at *
    generalize x * (aE s).toInt - (aB s).toInt * y = g1 at *
    generalize (aA s).toInt * y - x * (aD s).toInt = g2 at *
    have n1 := ii_td (x := g1) (y := det) 800 (by omega) (by omega)
    have n2 := ii_td (x := g2) (y := det) 800 (by omega) (by omega)
    by_cases d1 : g1.tdiv det * det = g1
    · refine br_t ((ii_rem0 (by omega) (by omega) (by omega) (by omega)).mpr d1) ⟨hd', ?_⟩
      by_cases d2 : g2.tdiv det * det = g2
      · refine br_t ((ii_rem0 (by omega) (by omega) (by omega) (by omega)).mpr d2) ⟨hd', hd', ?_⟩
        refine xs_enl (k := 0) (g1.tdiv det) (g2.tdiv det) (ii_div (by omega) (by omega) (by omega) (by omega)) (ii_div (by omega) (by omega) (by omega) (by omega)) hM hN (by omega) (by omega) (by omega) (by omega) (fun z1 z2 z3 z4 => ⟨by omega, ?_⟩) (fun z => none ?_)
        · obtain ⟨i, hi⟩ := Int.eq_ofNat_of_zero_le z1
          obtain ⟨j, hj⟩ := Int.eq_ofNat_of_zero_le z3
          rw [hi] at d1 z2 ⊢
          rw [hj] at d2 z4 ⊢
          have hj' : j < N := by omega
          have hi' : i < M := by omega
          have hu : N * i + j < M * N := by
            have := Nat.mul_le_mul_left N (show i + 1 ≤ M by omega)
            rw [Nat.mul_add, Nat.mul_one, Nat.mul_comm N M] at this
            omega
          have e0 : lc_L f (0 + M * N) = lc_L f 0 ++ [0 + (N * i + j)] := lc_blk1 hu (by
            rw [Nat.zero_add, hit, (lc_du hj').1, (lc_du hj').2, Int.mul_comm, Int.mul_comm det]
            exact ⟨d1, d2⟩) (fun u hu2 hfu => by
            rw [Nat.zero_add, hit] at hfu
            have t1 := (lc_q hd hfu.1).1
            have t2 := (lc_q hd hfu.2).1
            rw [hi] at t1
            rw [hj] at t2
            have := Nat.div_add_mod u N
            have s1 : u / N = i := by omega
            have s2 : u % N = j := by omega
            rw [s1, s2] at this
            exact this.symm)
          rw [Nat.zero_add, Nat.zero_add, lc_L0] at e0
          have ev : iI ((N : Int) * (i : Int) + (j : Int)) = nI (N * i + j) := by rw [ii_n]; congr 1
          rw [ev]
          have k0 := K (upd pp 0 (nI (N * i + j))) (by rw [e0]; exact lc_en1 (L := []) (lc_en0 pp))
          rw [e0] at k0
          exact k0
        · intro u hu hh
          have t1 := (lc_q hd hh.1).1
          have t2 := (lc_q hd hh.2).1
          have hu2 := lc_tu hN1 hu
          rw [t1, t2] at z
          clear t1 t2 hh
          generalize u / N = i' at *
          generalize u % N = j' at *
          omega
      · refine br_f (fun z => d2 ((ii_rem0 (by omega) (by omega) (by omega) (by omega)).mp z)) (none (fun u hu hh => ?_))
        exact d2 (lc_q hd hh.2).2
    · refine br_f (fun z => d1 ((ii_rem0 (by omega) (by omega) (by omega) (by omega)).mp z)) (none (fun u hu hh => ?_))
      exact d1 (lc_q hd hh.1).2
end
end
section
/-! the history of clashes (newest first), what both sides gather of it, and note on both sides -/
def lc_sg (a b : Nat) : Int32 := if a = b then 0 else if b ≤ a then 2 else 1
def lc_bit (N t u : Nat) : Int32 := (1 : Int32) <<< (((3 * lc_sg (t / N) (u / N)) + lc_sg (t % N) (u % N)) &&& 31)
def lc_dx (N t u : Nat) : Int32 := nI (u / N) - nI (t / N)
def lc_dy (N t u : Nat) : Int32 := nI (u % N) - nI (t % N)
def lc_dS (N : Nat) : List (Nat × Nat) → Int32
  | [] => 0
  | p :: h => lc_dS N h ||| lc_bit N p.1 p.2
def lc_oG (N : Nat) : List (Nat × Nat) → Int32
  | [] => 0
  | p :: h => if h = [] then lc_dx N p.1 p.2 else lc_oG N h
def lc_iG (N : Nat) : List (Nat × Nat) → Int32
  | [] => 0
  | p :: h => if h = [] then lc_dy N p.1 p.2 else lc_iG N h
def lc_fT : List (Nat × Nat) → Int32
  | [] => 0
  | p :: h => if h = [] then nI p.1 else lc_fT h
def lc_lS : List (Nat × Nat) → Int32
  | [] => 0
  | p :: h => if h = [] then nI p.2 - nI p.1 else if lc_lS h ≤ nI p.2 - nI p.1 then lc_lS h else nI p.2 - nI p.1
def lc_mS : List (Nat × Nat) → Int32
  | [] => 0
  | p :: h => if h = [] then nI p.2 - nI p.1 else if nI p.2 - nI p.1 ≤ lc_mS h then lc_mS h else nI p.2 - nI p.1
def lc_sM (N : Nat) : List (Nat × Nat) → Int32
  | [] => 1
  | p :: h => if h = [] then 1 else if lc_sM N h = 0 then 0 else if lc_dx N p.1 p.2 = lc_oG N h ∧ lc_dy N p.1 p.2 = lc_iG N h then 1 else 0
theorem lc_sM01 (N : Nat) : ∀ h : List (Nat × Nat), lc_sM N h = 0 ∨ lc_sM N h = 1
  | [] => Or.inr rfl
  | p :: h => by
    unfold lc_sM
    by_cases h1 : h = []
    · rw [if_pos h1]; exact Or.inr rfl
    · rw [if_neg h1]
      by_cases h2 : lc_sM N h = 0
      · rw [if_pos h2]; exact Or.inl rfl
      · rw [if_neg h2]
        by_cases h3 : lc_dx N p.1 p.2 = lc_oG N h ∧ lc_dy N p.1 p.2 = lc_iG N h
        · rw [if_pos h3]; exact Or.inr rfl
        · rw [if_neg h3]; exact Or.inl rfl
/-- what X holds after the history h -/
def lc_RX (N : Nat) (h : List (Nat × Nat)) (cc ds ls ms ft og ig sm : Int32) : Prop := cc = nI h.length ∧ ds = lc_dS N h ∧ sm = lc_sM N h ∧ (h ≠ [] → ls = lc_lS h ∧ ms = lc_mS h ∧ ft = lc_fT h ∧ og = lc_oG N h ∧ ig = lc_iG N h)
/-- what Y holds after it -/
def lc_RY (N : Nat) (h : List (Nat × Nat)) (cc ds ls ms ft og ig sm : Int32) : Prop := lc_RX N h cc ds ls ms ft og ig sm ∧ (h = [] → ls = -2 ∧ ms = -2 ∧ ft = -2)
theorem lc_len0 {h : List (Nat × Nat)} (hl : h.length < 2 ^ 30) : nI h.length = 0 ↔ h = [] := by
  constructor
  · intro e
    by_cases z : h.length = 0
    · exact List.length_eq_zero_iff.mp z
    · exact absurd e (nI_ne0 (by omega) (by omega))
  · intro e; subst e; rfl
/-- the values after one more clash, on X's and on Y's side -/
theorem lc_RXs {N t u : Nat} {h : List (Nat × Nat)} {cc ds ls ms ft og ig sm : Int32} (R : lc_RX N h cc ds ls ms ft og ig sm) (hh : h ≠ []) : lc_RX N ((t, u) :: h) (cc + 1) (ds ||| lc_bit N t u) (if ls ≤ nI u - nI t then ls else nI u - nI t) (if nI u - nI t ≤ ms then ms else nI u - nI t) ft og ig (if sm = 0 then 0 else if lc_dx N t u = og ∧ lc_dy N t u = ig then 1 else 0) := by
  obtain ⟨e1, e2, e3, e4⟩ := R
  obtain ⟨f1, f2, f3, f4, f5⟩ := e4 hh
  subst e1 e2 e3 f1 f2 f3 f4 f5
  refine ⟨nI_1 _, rfl, ?_, fun _ => ⟨?_, ?_, ?_, ?_, ?_⟩⟩
  · show _ = if h = [] then _ else _
    rw [if_neg hh]
  · show _ = if h = [] then _ else _
    rw [if_neg hh]
  · show _ = if h = [] then _ else _
    rw [if_neg hh]
  · show _ = if h = [] then _ else _
    rw [if_neg hh]
  · show _ = if h = [] then _ else _
    rw [if_neg hh]
  · show _ = if h = [] then _ else _
    rw [if_neg hh]
theorem lc_RX0 {N t u : Nat} {cc ds ls ms ft og ig sm : Int32} (R : lc_RX N [] cc ds ls ms ft og ig sm) : lc_RX N [(t, u)] (cc + 1) (ds ||| lc_bit N t u) (if nI u - nI t ≤ nI u - nI t then nI u - nI t else nI u - nI t) (if nI u - nI t ≤ nI u - nI t then nI u - nI t else nI u - nI t) (nI t) (lc_dx N t u) (lc_dy N t u) (if sm = 0 then 0 else if lc_dx N t u = lc_dx N t u ∧ lc_dy N t u = lc_dy N t u then 1 else 0) := by
  obtain ⟨e1, e2, e3, _⟩ := R
  subst e1 e2 e3
  have d1 : ¬ (1 : Int32) = 0 := by decide
  rw [ite_self]
  refine ⟨nI_1 _, rfl, ?_, fun _ => ⟨rfl, rfl, rfl, rfl, rfl⟩⟩
  show (if (1 : Int32) = 0 then (0 : Int32) else if lc_dx N t u = lc_dx N t u ∧ lc_dy N t u = lc_dy N t u then 1 else 0) = 1
  rw [if_neg d1, if_pos ⟨rfl, rfl⟩]
section
variable {M N C : Nat} {fo cc ds ls ms ft og ig sm : Int32} {aA aB aC aD aE aF aW pp lv : Nat → Int32}
theorem xn_sign {post : Int32 → Prop} {a b : Nat} (ha : a < 1000) (hb : b < 1000) (K : post (lc_sg a b)) : wpX_signOf post (nI b - nI a) := by
  unfold lc_sg at K
  have e := pk_sub_toInt (a := b) (b := a) (by omega) (by omega)
  have z : (0 : Int32).toInt = 0 := by decide
  by_cases h : a = b
  · rw [if_pos h] at K
    refine br_t ?_ K
    rw [← Int32.toInt_inj, e, z]; omega
  · rw [if_neg h] at K
    refine br_f ?_ ?_
    · rw [← Int32.toInt_inj, e, z]; omega
    · by_cases h2 : b ≤ a
      · rw [if_pos h2] at K
        refine br_t ?_ K
        rw [Int32.le_iff_toInt_le, e, z]; omega
      · rw [if_neg h2] at K
        refine br_f ?_ K
        rw [Int32.le_iff_toInt_le, e, z]; omega
theorem xn_144 {post : SX → Prop} {t u : Nat} {z0 : Int32} (hN : 1 ≤ N) (ht : t < 1000) (hu : u < 1000) (K : post ((nI M), (nI N), (nI C), fo, (cc + 1), (ds ||| lc_bit N t u), ls, z0, ft, og, ig, sm, aA, aB, aC, aD, aE, aF, aW, pp, lv)) : wX_note_144 post (lc_dx N t u) (lc_dy N t u) z0 (nI M) (nI N) (nI C) fo cc ds ls ms ft og ig sm aA aB aC aD aE aF aW pp lv := by
  have t1 := Nat.div_le_self t N
  have t2 := Nat.mod_le t N
  have u1 := Nat.div_le_self u N
  have u2 := Nat.mod_le u N
  unfold wX_note_144 lc_dx lc_dy
  refine xn_sign (by omega) (by omega) ?_
  refine xn_sign (by omega) (by omega) ?_
  exact nm_e (nm_e K)
theorem xn_120 {post : SX → Prop} {t u : Nat} {z0 : Int32} (hN : 1 ≤ N) (ht : t < 1000) (hu : u < 1000) (K : post ((nI M), (nI N), (nI C), fo, (cc + 1), (ds ||| lc_bit N t u), z0, (if nI u - nI t ≤ ms then ms else nI u - nI t), ft, og, ig, sm, aA, aB, aC, aD, aE, aF, aW, pp, lv)) : wX_note_120 post (nI t) (nI u) (lc_dx N t u) (lc_dy N t u) z0 (nI M) (nI N) (nI C) fo cc ds ls ms ft og ig sm aA aB aC aD aE aF aW pp lv := by
  by_cases h : nI u - nI t ≤ ms
  · rw [if_pos h] at K
    exact br_t h (xn_144 hN ht hu K)
  · rw [if_neg h] at K
    exact br_f h (xn_144 hN ht hu K)
theorem xn_nf0 : narrow .boolean (.int 0) = .int 0 ∧ fits .boolean (.int 0) = true := by decide
theorem xn_nf1 : narrow .boolean (.int 1) = .int 1 ∧ fits .boolean (.int 1) = true := by decide
theorem xn_96 {post : SX → Prop} {t u : Nat} {z0 : Int32} (hz : narrow .boolean (.int z0) = .int z0 ∧ fits .boolean (.int z0) = true) (hN : 1 ≤ N) (ht : t < 1000) (hu : u < 1000) (K : post ((nI M), (nI N), (nI C), fo, (cc + 1), (ds ||| lc_bit N t u), (if ls ≤ nI u - nI t then ls else nI u - nI t), (if nI u - nI t ≤ ms then ms else nI u - nI t), ft, og, ig, z0, aA, aB, aC, aD, aE, aF, aW, pp, lv)) : wX_note_96 post (nI t) (nI u) (lc_dx N t u) (lc_dy N t u) z0 (nI M) (nI N) (nI C) fo cc ds ls ms ft og ig sm aA aB aC aD aE aF aW pp lv := by
  refine ⟨hz.1, hz.2, ?_⟩
  by_cases h : ls ≤ nI u - nI t
  · rw [if_pos h] at K
    exact br_t h (xn_120 hN ht hu K)
  · rw [if_neg h] at K
    exact br_f h (xn_120 hN ht hu K)
theorem xn_66 {post : SX → Prop} {t u : Nat} (hN : 1 ≤ N) (ht : t < 1000) (hu : u < 1000) (K : post ((nI M), (nI N), (nI C), fo, (cc + 1), (ds ||| lc_bit N t u), (if ls ≤ nI u - nI t then ls else nI u - nI t), (if nI u - nI t ≤ ms then ms else nI u - nI t), ft, og, ig, (if sm = 0 then 0 else if lc_dx N t u = og ∧ lc_dy N t u = ig then 1 else 0), aA, aB, aC, aD, aE, aF, aW, pp, lv)) : wX_note_66 post (nI t) (nI u) (lc_dx N t u) (lc_dy N t u) (nI M) (nI N) (nI C) fo cc ds ls ms ft og ig sm aA aB aC aD aE aF aW pp lv := by
  by_cases h : sm = 0
  · rw [if_pos h] at K
    exact br_t h (xn_96 xn_nf0 hN ht hu K)
  · rw [if_neg h] at K
    refine br_f h ?_
    by_cases h1 : lc_dx N t u = og
    · refine br_t h1 ?_
      by_cases h2 : lc_dy N t u = ig
      · rw [if_pos (show lc_dx N t u = og ∧ lc_dy N t u = ig from ⟨h1, h2⟩)] at K
        exact br_t h2 (xn_96 xn_nf1 hN ht hu K)
      · rw [if_neg (show ¬ (lc_dx N t u = og ∧ lc_dy N t u = ig) from fun z => h2 z.2)] at K
        exact br_f h2 (xn_96 xn_nf0 hN ht hu K)
    · rw [if_neg (show ¬ (lc_dx N t u = og ∧ lc_dy N t u = ig) from fun z => h1 z.1)] at K
      exact br_f h1 (xn_96 xn_nf0 hN ht hu K)
theorem xn_note {post : SX → Prop} {t u : Nat} {h : List (Nat × Nat)} (hN1 : 1 ≤ N) (hN : N ≤ 8) (ht : t < 1000) (hu : u < 1000) (hl : h.length < 2 ^ 30) (R : lc_RX N h cc ds ls ms ft og ig sm) (K : ∀ cc' ds' ls' ms' ft' og' ig' sm', lc_RX N ((t, u) :: h) cc' ds' ls' ms' ft' og' ig' sm' → post ((nI M), (nI N), (nI C), fo, cc', ds', ls', ms', ft', og', ig', sm', aA, aB, aC, aD, aE, aF, aW, pp, lv)) : wpX_note post ((nI M), (nI N), (nI C), fo, cc, ds, ls, ms, ft, og, ig, sm, aA, aB, aC, aD, aE, aF, aW, pp, lv) (nI t) (nI u) := by
  have hn : ¬ nI N = 0 := nI_ne0 (by omega) (by omega)
  refine ⟨hn, hn, nm_r (e' := lc_dx N t u) (by rw [pk_div (by omega) (by omega) (by omega), pk_div (by omega) (by omega) (by omega)]; rfl) ⟨hn, hn, nm_r (e' := lc_dy N t u) (by rw [pk_rem (by omega) (by omega) (by omega), pk_rem (by omega) (by omega) (by omega)]; rfl) ?_⟩⟩
  by_cases hh : h = []
  · subst hh
    refine br_t (by rw [R.1]; rfl) (nm_e (nm_e ?_))
    exact xn_66 hN1 ht hu (K _ _ _ _ _ _ _ _ (lc_RX0 R))
  · refine br_f (by rw [R.1, lc_len0 hl]; exact hh) ?_
    exact xn_66 hN1 ht hu (K _ _ _ _ _ _ _ _ (lc_RXs R hh))
end
section
variable {M N C : Nat} {cc ds ls ms ft og ig sm : Int32} {aA aB aC aD aE aF aW mn th sp : Nat → Int32}
theorem yn_side {post : Int32 → Prop} {a b : Nat} (ha : a < 1000) (hb : b < 1000) (K : post (lc_sg a b)) : wpY_side post ((nI M), (nI N), (nI C), cc, ds, ls, ms, ft, sm, og, ig, aA, aB, aC, aD, aE, aF, aW, mn, th, sp) (nI a) (nI b) := by
  unfold lc_sg at K
  by_cases h : a = b
  · rw [if_pos h] at K
    exact br_t (by rw [h]) K
  · rw [if_neg h] at K
    refine br_f (by rw [nI_eq (by omega) (by omega)]; exact h) ?_
    by_cases h2 : b ≤ a
    · rw [if_pos h2] at K
      exact br_t (nI_le h2 (by omega)) K
    · rw [if_neg h2] at K
      exact br_f (nI_ge (by omega) (by omega)) K
theorem yn_164 {post : SY → Prop} {dx dy : Int32} (hs : sm = 0 ∨ sm = 1) (K : post ((nI M), (nI N), (nI C), cc, ds, ls, ms, ft, (if sm = 0 then 0 else if dx = og ∧ dy = ig then 1 else 0), og, ig, aA, aB, aC, aD, aE, aF, aW, mn, th, sp)) : wY_note_164 post dx dy (nI M) (nI N) (nI C) cc ds ls ms ft sm og ig aA aB aC aD aE aF aW mn th sp := by
  by_cases h1 : dx = og
  · refine br_t h1 ?_
    by_cases h2 : dy = ig
    · refine br_t h2 ?_
      rw [if_pos (show dx = og ∧ dy = ig from ⟨h1, h2⟩)] at K
      rcases hs with e | e
      · subst e; exact K
      · subst e; exact K
    · refine br_f h2 ?_
      rw [if_neg (show ¬ (dx = og ∧ dy = ig) from fun z => h2 z.2), ite_self] at K
      exact K
  · refine br_f h1 ?_
    rw [if_neg (show ¬ (dx = og ∧ dy = ig) from fun z => h1 z.1), ite_self] at K
    exact K
theorem yn_147 {post : SY → Prop} {t u : Nat} {dx dy : Int32} (hs : sm = 0 ∨ sm = 1) (K : post ((nI M), (nI N), (nI C), cc, ds, ls, (if nI u - nI t ≤ ms then ms else nI u - nI t), ft, (if sm = 0 then 0 else if dx = og ∧ dy = ig then 1 else 0), og, ig, aA, aB, aC, aD, aE, aF, aW, mn, th, sp)) : wY_note_147 post (nI t) (nI u) dx dy (nI M) (nI N) (nI C) cc ds ls ms ft sm og ig aA aB aC aD aE aF aW mn th sp := by
  by_cases h : nI u - nI t ≤ ms
  · rw [if_pos h] at K
    exact br_t h (yn_164 hs K)
  · rw [if_neg h] at K
    exact br_f h (nm_e (yn_164 hs K))
theorem yn_66 {post : SY → Prop} {t u : Nat} (hs : sm = 0 ∨ sm = 1) (hN1 : 1 ≤ N) (hN : N ≤ 8) (ht : t < 1000) (hu : u < 1000) (K : post ((nI M), (nI N), (nI C), (cc + 1), (ds ||| lc_bit N t u), (if ls ≤ nI u - nI t then ls else nI u - nI t), (if nI u - nI t ≤ ms then ms else nI u - nI t), ft, (if sm = 0 then 0 else if lc_dx N t u = og ∧ lc_dy N t u = ig then 1 else 0), og, ig, aA, aB, aC, aD, aE, aF, aW, mn, th, sp)) : wY_note_66 post (nI t) (nI u) (lc_dx N t u) (lc_dy N t u) (nI M) (nI N) (nI C) cc ds ls ms ft sm og ig aA aB aC aD aE aF aW mn th sp := by
  have hn : ¬ nI N = 0 := nI_ne0 (by omega) (by omega)
  have t1 := Nat.div_le_self t N
  have t2 := Nat.mod_le t N
  have u1 := Nat.div_le_self u N
  have u2 := Nat.mod_le u N
  refine nm_e ⟨hn, hn, ?_⟩
  rw [pk_rem (by omega) (by omega) (by omega), pk_rem (by omega) (by omega) (by omega), pk_div (by omega) (by omega) (by omega), pk_div (by omega) (by omega) (by omega)]
  refine yn_side (by omega) (by omega) ⟨hn, hn, ?_⟩
  refine yn_side (by omega) (by omega) (nm_e ?_)
  by_cases h : ls ≤ nI u - nI t
  · rw [if_pos h] at K
    exact br_t h (yn_147 hs K)
  · rw [if_neg h] at K
    exact br_f h (nm_e (yn_147 hs K))
theorem yn_note {post : SY → Prop} {t u : Nat} {h : List (Nat × Nat)} (hN1 : 1 ≤ N) (hN : N ≤ 8) (ht : t < 1000) (hu : u < 1000) (hl : h.length < 2 ^ 30) (R : lc_RY N h cc ds ls ms ft og ig sm) (K : ∀ cc' ds' ls' ms' ft' og' ig' sm', lc_RY N ((t, u) :: h) cc' ds' ls' ms' ft' og' ig' sm' → post ((nI M), (nI N), (nI C), cc', ds', ls', ms', ft', sm', og', ig', aA, aB, aC, aD, aE, aF, aW, mn, th, sp)) : wpY_note post ((nI M), (nI N), (nI C), cc, ds, ls, ms, ft, sm, og, ig, aA, aB, aC, aD, aE, aF, aW, mn, th, sp) (nI t) (nI u) := by
  have hn : ¬ nI N = 0 := nI_ne0 (by omega) (by omega)
  obtain ⟨R, _⟩ := R
  have hs : sm = 0 ∨ sm = 1 := by rw [R.2.2.1]; exact lc_sM01 N h
  refine ⟨hn, hn, nm_r (e' := lc_dx N t u) (by rw [pk_div (by omega) (by omega) (by omega), pk_div (by omega) (by omega) (by omega)]; rfl) ⟨hn, hn, nm_r (e' := lc_dy N t u) (by rw [pk_rem (by omega) (by omega) (by omega), pk_rem (by omega) (by omega) (by omega)]; rfl) ?_⟩⟩
  by_cases hh : h = []
  · subst hh
    refine br_t (by rw [R.1]; rfl) (nm_e (nm_e ?_))
    exact yn_66 hs hN1 hN ht hu (K _ _ _ _ _ _ _ _ ⟨lc_RX0 R, fun z => nomatch z⟩)
  · refine br_f (by rw [R.1, lc_len0 hl]; exact hh) ?_
    exact yn_66 hs hN1 hN ht hu (K _ _ _ _ _ _ _ _ ⟨lc_RXs R hh, fun z => nomatch z⟩)
end
end
section
/-! gather and compare: the same history -/
def lc_st (r s t : Nat) (h : List (Nat × Nat)) (u : Nat) : List (Nat × Nat) := if t < u ∨ (t = u ∧ r < s) then (t, u) :: h else h
def lc_sy (f : Nat → Bool) (r s t : Nat) (h : List (Nat × Nat)) (u : Nat) : List (Nat × Nat) := if f u = true ∧ (t < u ∨ r < s) then (t, u) :: h else h
def lc_hs (T : Nat) (f : Nat → Nat → Bool) (r s t d : Nat) (h : List (Nat × Nat)) : List (Nat × Nat) := (List.range' t d).foldl (fun h t => (lc_L (f t) T).foldl (lc_st r s t) h) h
def lc_hist (T : Nat) (f : Nat → Nat → Nat → Nat → Bool) (aW : Nat → Int32) (r s : Nat) : List (Nat × Nat) := if aW r = 0 ∧ aW s = 0 then [] else lc_hs T (fun t => f r t s) r s 0 T []
theorem lc_st_len {r s t : Nat} : ∀ (l : List Nat) (h : List (Nat × Nat)), (l.foldl (lc_st r s t) h).length ≤ h.length + l.length := by
  intro l
  induction l with
  | nil => intro h; exact Nat.le_refl _
  | cons u l ih =>
    intro h
    rw [List.foldl_cons, List.length_cons]
    have h1 := ih (lc_st r s t h u)
    have h2 : (lc_st r s t h u).length ≤ h.length + 1 := by
      unfold lc_st
      by_cases hc : t < u ∨ (t = u ∧ r < s)
      · rw [if_pos hc, List.length_cons]; omega
      · rw [if_neg hc]; omega
    omega
theorem lc_sy_eq {f : Nat → Bool} {r s t T : Nat} (ht : t ≤ T) (h : List (Nat × Nat)) : (List.range' t (T - t)).foldl (lc_sy f r s t) h = (lc_L f T).foldl (lc_st r s t) h := by
  unfold lc_L
  rw [List.foldl_filter, List.range_eq_range']
  have e : List.range' 0 T = List.range' 0 t ++ List.range' t (T - t) := by
    have := @List.range'_append_1 0 t (T - t)
    rw [Nat.zero_add] at this
    rw [this]
    congr 1
    omega
  rw [e, List.foldl_append]
  have p1 : ∀ (d q : Nat), q + d = t → (List.range' q d).foldl (fun x y => if f y = true then lc_st r s t x y else x) h = h := by
    intro d
    induction d with
    | zero => intro q _; rfl
    | succ d ih =>
      intro q hq
      rw [List.range'_succ, List.foldl_cons]
      have e2 : (if f q = true then lc_st r s t h q else h) = h := by
        by_cases z : f q = true
        · rw [if_pos z]; unfold lc_st; rw [if_neg (by omega)]
        · rw [if_neg z]
      rw [e2]
      exact ih (q + 1) (by omega)
  rw [p1 t 0 (by omega)]
  have p2 : ∀ (d q : Nat) (h : List (Nat × Nat)), t ≤ q → (List.range' q d).foldl (lc_sy f r s t) h = (List.range' q d).foldl (fun x y => if f y = true then lc_st r s t x y else x) h := by
    intro d
    induction d with
    | zero => intro q h _; rfl
    | succ d ih =>
      intro q h hq
      rw [List.range'_succ, List.foldl_cons, List.foldl_cons]
      have e2 : lc_sy f r s t h q = (if f q = true then lc_st r s t h q else h) := by
        unfold lc_sy lc_st
        by_cases z : f q = true
        · rw [if_pos z]
          by_cases c : t < q ∨ r < s
          · rw [if_pos ⟨z, c⟩, if_pos (by omega)]
          · rw [if_neg (fun w => c w.2), if_neg (by omega)]
        · rw [if_neg z, if_neg (fun w => z w.1)]
      rw [e2]
      exact ih (q + 1) _ (by omega)
  exact p2 (T - t) t h (by omega)
section
variable {M N C : Nat} {fo cc ds ls ms ft og ig sm : Int32} {aA aB aC aD aE aF aW pp lv : Nat → Int32}
theorem xg_cf1 {post : Int32 → Prop} {r t s u : Nat} (hr : r < 1000) (ht : t < 1000) (hs : s < 1000) (hu : u < 1000) (hc : t < u ∨ (t = u ∧ r < s)) (K : post 1) : wpX_comesFirst post ((nI M), (nI N), (nI C), fo, cc, ds, ls, ms, ft, og, ig, sm, aA, aB, aC, aD, aE, aF, aW, pp, lv) (nI r) (nI t) (nI s) (nI u) := by
  by_cases h : t < u
  · exact br_t (nI_lt h (by omega)) K
  · exact br_f (nI_nlt (by omega) (by omega)) (br_t (congrArg nI (by omega)) (br_f (nI_ge (by omega) (by omega)) K))
theorem xg_cf0 {post : Int32 → Prop} {r t s u : Nat} (hr : r < 1000) (ht : t < 1000) (hs : s < 1000) (hu : u < 1000) (hc : ¬ (t < u ∨ (t = u ∧ r < s))) (K : post 0) : wpX_comesFirst post ((nI M), (nI N), (nI C), fo, cc, ds, ls, ms, ft, og, ig, sm, aA, aB, aC, aD, aE, aF, aW, pp, lv) (nI r) (nI t) (nI s) (nI u) := by
  refine br_f (nI_nlt (by omega) (by omega)) ?_
  by_cases h : t = u
  · exact br_t (congrArg nI h) (br_t (nI_le (by omega) (by omega)) K)
  · exact br_f (by rw [nI_eq (by omega) (by omega)]; exact h) K
theorem xg_74 {post : SX → Prop} {J51 : Int32 → Int32 → Int32 → Int32 → Int32 → Int32 → Int32 → Int32 → Int32 → Int32 → Int32 → Int32 → Int32 → (Nat → Int32) → (Nat → Int32) → (Nat → Int32) → (Nat → Int32) → (Nat → Int32) → (Nat → Int32) → (Nat → Int32) → (Nat → Int32) → (Nat → Int32) → Prop} {r s t Q : Nat} (hN1 : 1 ≤ N) (hN : N ≤ 8) (hr : r < 6) (hs : s < 6) (ht : t < 64) (hQ : Q ≤ 64) :
    ∀ (l : List Nat) (k n : Nat) (h : List (Nat × Nat)) (cc ds ls ms ft og ig sm : Int32), l.length < n → k + l.length = Q → (∀ i u, l[i]? = some u → pp (k + i) = nI u) → (∀ u, u ∈ l → u < 64) → h.length + l.length ≤ 10000 → lc_RX N h cc ds ls ms ft og ig sm →
    (∀ cc' ds' ls' ms' ft' og' ig' sm', lc_RX N (l.foldl (lc_st r s t) h) cc' ds' ls' ms' ft' og' ig' sm' → J51 (nI (t + 1)) (nI M) (nI N) (nI C) (nI Q) cc' ds' ls' ms' ft' og' ig' sm' aA aB aC aD aE aF aW pp lv) →
    wX_gather_74 post J51 (nI r) (nI s) (nI t) n (nI k) (nI M) (nI N) (nI C) (nI Q) cc ds ls ms ft og ig sm aA aB aC aD aE aF aW pp lv := by
  intro l
  induction l with
  | nil =>
    intro k n h cc ds ls ms ft og ig sm hn hk hp hu hl R HJ
    rw [List.length_nil] at hn hk
    obtain ⟨n, rfl⟩ : ∃ m, n = m + 1 := ⟨n - 1, by omega⟩
    obtain rfl : k = Q := by omega
    exact br_t (nI_le (by omega) (by omega)) (nm_r (nI_1 t) (HJ cc ds ls ms ft og ig sm R))
  | cons u l ih =>
    intro k n h cc ds ls ms ft og ig sm hn hk hp hu hl R HJ
    rw [List.length_cons] at hn hk hl
    obtain ⟨n, rfl⟩ : ∃ m, n = m + 1 := ⟨n - 1, by omega⟩
    have hv : vp_in (nI k) 64 := vp_in_nI (by omega) (by omega)
    have ep : pp (nI k).toNatClampNeg = nI u := by
      rw [nI_clamp (by omega)]
      exact hp 0 u rfl
    have hu0 : u < 64 := hu u List.mem_cons_self
    have hp' : ∀ i w, l[i]? = some w → pp (k + 1 + i) = nI w := by
      intro i w hw
      rw [Nat.add_assoc, Nat.add_comm 1 i]
      exact hp (i + 1) w hw
    have hu' : ∀ w, w ∈ l → w < 64 := fun w hw => hu w (List.mem_cons_of_mem u hw)
    refine br_f (nI_ge (by omega) (by omega)) ⟨hv, ?_⟩
    rw [ep]
    by_cases hc : t < u ∨ (t = u ∧ r < s)
    · refine xg_cf1 (by omega) (by omega) (by omega) (by omega) hc (br_f (by decide) ⟨hv, ?_⟩)
      refine xn_note hN1 hN (by omega) (by omega) (by omega) R ?_
      intro cc' ds' ls' ms' ft' og' ig' sm' R'
      refine nm_r (nI_1 k) ?_
      refine ih (k + 1) n ((t, u) :: h) cc' ds' ls' ms' ft' og' ig' sm' (by omega) (by omega) hp' hu' (by rw [List.length_cons]; omega) R' ?_
      rw [List.foldl_cons, show lc_st r s t h u = (t, u) :: h from if_pos hc] at HJ
      exact HJ
    · refine xg_cf0 (by omega) (by omega) (by omega) (by omega) hc (br_t rfl (nm_r (nI_1 k) ?_))
      refine ih (k + 1) n h cc ds ls ms ft og ig sm (by omega) (by omega) hp' hu' (by omega) R ?_
      rw [List.foldl_cons, show lc_st r s t h u = h from if_neg hc] at HJ
      exact HJ
theorem xg_51 {post : SX → Prop} {r s : Nat} (ok : lc_ok M N C aA aB aC aD aE aF) (hr : r < 6) (hs : s < 6) :
    ∀ (d t n : Nat) (h : List (Nat × Nat)) (fo : Int32) (pp : Nat → Int32) (cc ds ls ms ft og ig sm : Int32), t + d = M * N → d < n → h.length ≤ 64 * t → lc_RX N h cc ds ls ms ft og ig sm →
    (∀ fo' pp' cc' ds' ls' ms' ft' og' ig' sm', lc_RX N (lc_hs (M * N) (fun t => lc_f N aA aB aC aD aE aF r t s) r s t d h) cc' ds' ls' ms' ft' og' ig' sm' → post ((nI M), (nI N), (nI C), fo', cc', ds', ls', ms', ft', og', ig', sm', aA, aB, aC, aD, aE, aF, aW, pp', lv)) →
    wX_gather_51 post (nI r) (nI s) n (nI t) (nI M) (nI N) (nI C) fo cc ds ls ms ft og ig sm aA aB aC aD aE aF aW pp lv := by
  have h64 := lc_64 ok.2.1 ok.2.2.2.1
  intro d
  induction d with
  | zero =>
    intro t n h fo pp cc ds ls ms ft og ig sm hd hn hl R K
    obtain ⟨n, rfl⟩ : ∃ m, n = m + 1 := ⟨n - 1, by omega⟩
    refine br_t (by rw [pk_mul]; exact nI_le (by omega) (by omega)) ?_
    exact K fo pp cc ds ls ms ft og ig sm R
  | succ d ih =>
    intro t n h fo pp cc ds ls ms ft og ig sm hd hn hl R K
    obtain ⟨n, rfl⟩ : ∃ m, n = m + 1 := ⟨n - 1, by omega⟩
    refine br_f (by rw [pk_mul]; exact nI_ge (by omega) (by omega)) ?_
    refine xs_solve ok hr hs (by omega) ?_
    intro pp' hp
    have hq := lc_Ll (lc_f N aA aB aC aD aE aF r t s) (M * N)
    have hm : ∀ u, u ∈ lc_L (lc_f N aA aB aC aD aE aF r t s) (M * N) → u < 64 := by
      intro u hu
      have := List.mem_range.mp (List.mem_filter.mp hu).1
      omega
    refine ⟨(lc_L (lc_f N aA aB aC aD aE aF r t s) (M * N)).length + 1, ?_⟩
    refine xg_74 (Q := (lc_L (lc_f N aA aB aC aD aE aF r t s) (M * N)).length) ok.2.2.1 ok.2.2.2.1 hr hs (by omega) (by omega) (lc_L (lc_f N aA aB aC aD aE aF r t s) (M * N)) 0 _ h cc ds ls ms ft og ig sm (by omega) (by omega) (fun i u z => by rw [Nat.zero_add]; exact hp i u z) hm (by omega) R ?_
    intro cc' ds' ls' ms' ft' og' ig' sm' R'
    have hl2 := lc_st_len (r := r) (s := s) (t := t) (lc_L (lc_f N aA aB aC aD aE aF r t s) (M * N)) h
    exact ih (t + 1) n _ _ pp' cc' ds' ls' ms' ft' og' ig' sm' (by omega) (by omega) (by omega) R' K
theorem xg_gather {post : SX → Prop} {r s : Nat} (ok : lc_ok M N C aA aB aC aD aE aF) (hr : r < 6) (hs : s < 6)
    (K : ∀ fo' pp' cc' ds' ls' ms' ft' og' ig' sm', lc_RX N (lc_hist (M * N) (lc_f N aA aB aC aD aE aF) aW r s) cc' ds' ls' ms' ft' og' ig' sm' → post ((nI M), (nI N), (nI C), fo', cc', ds', ls', ms', ft', og', ig', sm', aA, aB, aC, aD, aE, aF, aW, pp', lv)) :
    wpX_gather post ((nI M), (nI N), (nI C), fo, cc, ds, ls, ms, ft, og, ig, sm, aA, aB, aC, aD, aE, aF, aW, pp, lv) (nI r) (nI s) := by
  have e1 : (nI r).toNatClampNeg = r := nI_clamp (by omega)
  have e2 : (nI s).toNatClampNeg = s := nI_clamp (by omega)
  have h1 : vp_in (nI r) 6 := vp_in_nI hr (by omega)
  have h2 : vp_in (nI s) 6 := vp_in_nI hs (by omega)
  have R0 : ∀ ls ms ft og ig : Int32, lc_RX N [] 0 0 ls ms ft og ig 1 := fun _ _ _ _ _ => ⟨rfl, rfl, rfl, fun z => absurd rfl z⟩
  have hrun : ¬ (aW r = 0 ∧ aW s = 0) → ∃ n51 : Nat, wX_gather_51 post (nI r) (nI s) n51 0 (nI M) (nI N) (nI C) fo 0 0 0 0 (-1) og ig 1 aA aB aC aD aE aF aW pp lv := by
    intro hw
    unfold lc_hist at K
    rw [if_neg hw] at K
    exact ⟨M * N + 1, xg_51 ok hr hs (M * N) 0 (M * N + 1) [] fo pp 0 0 0 0 (-1) og ig 1 (by omega) (by omega) (by rw [List.length_nil]; omega) (R0 _ _ _ _ _) K⟩
  refine ⟨h1, ?_⟩
  rw [e1]
  by_cases w1 : aW r = 0
  · refine br_t w1 ⟨h2, ?_⟩
    rw [e2]
    by_cases w2 : aW s = 0
    · refine br_t w2 ?_
      unfold lc_hist at K
      rw [if_pos ⟨w1, w2⟩] at K
      exact K fo pp 0 0 0 0 (-1) og ig 1 (R0 _ _ _ _ _)
    · exact br_f w2 (hrun (fun z => w2 z.2))
  · exact br_f w1 (hrun (fun z => w1 z.1))
end
section
variable {M N C : Nat} {cc ds ls ms ft og ig sm : Int32} {aA aB aC aD aE aF aW mn th sp : Nat → Int32}
theorem ys_spot {post : Int32 → Prop} {r t : Nat} (hr : r < 6) (hN1 : 1 ≤ N) (hN : N ≤ 8) (ht : t < 1000) (K : post (iI (lc_sp N aA aB aC aD aE aF r t))) : wpY_spot post ((nI M), (nI N), (nI C), cc, ds, ls, ms, ft, sm, og, ig, aA, aB, aC, aD, aE, aF, aW, mn, th, sp) (nI r) (nI t) := by
  have hn : ¬ nI N = 0 := nI_ne0 (by omega) (by omega)
  have hi : vp_in (nI r) 6 := vp_in_nI hr (by omega)
  have ec : (nI r).toNatClampNeg = r := nI_clamp (by omega)
  refine ⟨hn, nm_r (pk_div (by omega) (by omega) (by omega)) ⟨hn, nm_r (pk_rem (by omega) (by omega) (by omega)) ⟨hi, hi, hi, nm_r (e' := iI (lc_af N aA aB aC r t)) ?_ ⟨hi, hi, hi, nm_r (e' := iI (lc_af N aD aE aF r t)) ?_ ?_⟩⟩⟩⟩
  · unfold lc_af
    rw [ec, ← ii_add, ← ii_add, ← ii_mul, ← ii_mul, ii_t, ii_t, ii_t, ii_n, ii_n]
  · unfold lc_af
    rw [ec, ← ii_add, ← ii_add, ← ii_mul, ← ii_mul, ii_t, ii_t, ii_t, ii_n, ii_n]
  · have e : (1000 : Int32) * iI (lc_af N aA aB aC r t) + iI (lc_af N aD aE aF r t) = iI (lc_sp N aA aB aC aD aE aF r t) := by
      unfold lc_sp
      rw [← ii_add, ← ii_mul]
      rfl
    rw [e]
    exact K
/-- both tables of places are filled up to t -/
def lc_fill (N : Nat) (aA aB aC aD aE aF : Nat → Int32) (r s t : Nat) (mn th : Nat → Int32) : Prop := ∀ j, j < t → mn j = iI (lc_sp N aA aB aC aD aE aF r j) ∧ th j = iI (lc_sp N aA aB aC aD aE aF s j)
theorem yc_65 {post : SY → Prop} {r s T : Nat} (hT : T ≤ 64) (hN1 : 1 ≤ N) (hN : N ≤ 8) (hr : r < 6) (hs : s < 6)
    (K : ∀ mn' th', lc_fill N aA aB aC aD aE aF r s T mn' th' → ∃ n108 : Nat, wY_compare_108 post (nI r) (nI s) (nI T) n108 0 (nI M) (nI N) (nI C) cc ds ls ms ft sm og ig aA aB aC aD aE aF aW mn' th' sp) :
    ∀ (d t n : Nat) (mn th : Nat → Int32), t + d = T → d < n → lc_fill N aA aB aC aD aE aF r s t mn th → wY_compare_65 post (nI r) (nI s) (nI T) (nI M) (nI N) (nI C) cc ds ls ms ft sm og ig n (nI t) aA aB aC aD aE aF aW mn th sp := by
  intro d
  induction d with
  | zero =>
    intro t n mn th hd hn hf
    obtain ⟨n, rfl⟩ : ∃ m, n = m + 1 := ⟨n - 1, by omega⟩
    obtain rfl : t = T := by omega
    exact br_t (nI_le (by omega) (by omega)) (K mn th hf)
  | succ d ih =>
    intro t n mn th hd hn hf
    obtain ⟨n, rfl⟩ : ∃ m, n = m + 1 := ⟨n - 1, by omega⟩
    have hv : vp_in (nI t) 64 := vp_in_nI (by omega) (by omega)
    have ec : (nI t).toNatClampNeg = t := nI_clamp (by omega)
    refine br_f (nI_ge (by omega) (by omega)) ?_
    refine ys_spot hr hN1 hN (by omega) ⟨hv, nm_r (e' := upd mn t (iI (lc_sp N aA aB aC aD aE aF r t))) (by rw [ec]) ?_⟩
    refine ys_spot hs hN1 hN (by omega) ⟨hv, nm_r (e' := upd th t (iI (lc_sp N aA aB aC aD aE aF s t))) (by rw [ec]) (nm_r (nI_1 t) ?_)⟩
    refine ih (t + 1) n _ _ (by omega) (by omega) ?_
    intro j hj
    by_cases e : j = t
    · subst e; rw [pk_us, pk_us]; exact ⟨rfl, rfl⟩
    · rw [pk_un e, pk_un e]; exact hf j (by omega)
theorem yc_118 {post : SY → Prop} {J108 : Int32 → Int32 → Int32 → Int32 → Int32 → Int32 → Int32 → Int32 → Int32 → Int32 → Int32 → Int32 → (Nat → Int32) → (Nat → Int32) → (Nat → Int32) → (Nat → Int32) → (Nat → Int32) → (Nat → Int32) → (Nat → Int32) → (Nat → Int32) → (Nat → Int32) → (Nat → Int32) → Prop} {r s t : Nat} (ok : lc_ok M N C aA aB aC aD aE aF) (hr : r < 6) (hs : s < 6) (ht : t < M * N) (hf : lc_fill N aA aB aC aD aE aF r s (M * N) mn th) :
    ∀ (d u n : Nat) (h : List (Nat × Nat)) (cc ds ls ms ft og ig sm : Int32), u + d = M * N → d < n → t ≤ u → h.length + d ≤ 10000 → lc_RY N h cc ds ls ms ft og ig sm →
    (∀ cc' ds' ls' ms' ft' og' ig' sm', lc_RY N ((List.range' u d).foldl (lc_sy (lc_f N aA aB aC aD aE aF r t s) r s t) h) cc' ds' ls' ms' ft' og' ig' sm' → J108 (nI (t + 1)) (nI M) (nI N) (nI C) cc' ds' ls' ms' ft' sm' og' ig' aA aB aC aD aE aF aW mn th sp) →
    wY_compare_118 post J108 (nI r) (nI s) (nI (M * N)) (nI t) n (nI u) (nI M) (nI N) (nI C) cc ds ls ms ft sm og ig aA aB aC aD aE aF aW mn th sp := by
  have h64 := lc_64 ok.2.1 ok.2.2.2.1
  intro d
  induction d with
  | zero =>
    intro u n h cc ds ls ms ft og ig sm hd hn htu hl R HJ
    obtain ⟨n, rfl⟩ : ∃ m, n = m + 1 := ⟨n - 1, by omega⟩
    exact br_t (nI_le (by omega) (by omega)) (nm_r (nI_1 t) (HJ cc ds ls ms ft og ig sm R))
  | succ d ih =>
    intro u n h cc ds ls ms ft og ig sm hd hn htu hl R HJ
    obtain ⟨n, rfl⟩ : ∃ m, n = m + 1 := ⟨n - 1, by omega⟩
    have hvt : vp_in (nI t) 64 := vp_in_nI (by omega) (by omega)
    have hvu : vp_in (nI u) 64 := vp_in_nI (by omega) (by omega)
    have ect : (nI t).toNatClampNeg = t := nI_clamp (by omega)
    have ecu : (nI u).toNatClampNeg = u := nI_clamp (by omega)
    have cond : mn (nI t).toNatClampNeg = th (nI u).toNatClampNeg ↔ lc_f N aA aB aC aD aE aF r t s u = true := by
      rw [ect, ecu, (hf t ht).1, (hf u (by omega)).2, lc_sp_eq ok r s ht (by omega)]
      unfold lc_f
      rw [decide_eq_true_eq]
    rw [List.range'_succ, List.foldl_cons] at HJ
    have go : ∀ h' cc' ds' ls' ms' ft' og' ig' sm', lc_sy (lc_f N aA aB aC aD aE aF r t s) r s t h u = h' → h'.length ≤ h.length + 1 → lc_RY N h' cc' ds' ls' ms' ft' og' ig' sm' → wY_compare_118 post J108 (nI r) (nI s) (nI (M * N)) (nI t) n (nI (u + 1)) (nI M) (nI N) (nI C) cc' ds' ls' ms' ft' sm' og' ig' aA aB aC aD aE aF aW mn th sp := by
      intro h' cc' ds' ls' ms' ft' og' ig' sm' e hl' R'
      subst e
      exact ih (u + 1) n _ cc' ds' ls' ms' ft' og' ig' sm' (by omega) (by omega) (by omega) (by omega) R' HJ
    have hnote : lc_sy (lc_f N aA aB aC aD aE aF r t s) r s t h u = (t, u) :: h → wY_compare_153 post J108 (wY_compare_118 post J108 (nI r) (nI s) (nI (M * N)) (nI t) n) (nI r) (nI s) (nI (M * N)) (nI t) (nI u) (nI M) (nI N) (nI C) cc ds ls ms ft sm og ig aA aB aC aD aE aF aW mn th sp := by
      intro e
      unfold wY_compare_153
      refine yn_note ok.2.2.1 ok.2.2.2.1 (by omega) (by omega) (by omega) R ?_
      intro cc' ds' ls' ms' ft' og' ig' sm' R'
      exact nm_r (nI_1 u) (go _ cc' ds' ls' ms' ft' og' ig' sm' e (by rw [List.length_cons]; omega) R')
    refine br_f (nI_ge (by omega) (by omega)) ⟨hvt, hvu, ?_⟩
    by_cases hc : lc_f N aA aB aC aD aE aF r t s u = true
    · refine br_t (cond.mpr hc) ?_
      by_cases h1 : t < u
      · exact br_t (nI_lt h1 (by omega)) (hnote (if_pos ⟨hc, Or.inl h1⟩))
      · refine br_f (nI_nlt (by omega) (by omega)) ?_
        by_cases h2 : s ≤ r
        · exact br_t (nI_le h2 (by omega)) (nm_r (nI_1 u) (go h cc ds ls ms ft og ig sm (if_neg (by omega)) (by omega) R))
        · exact br_f (nI_ge (by omega) (by omega)) (hnote (if_pos ⟨hc, Or.inr (by omega)⟩))
    · exact br_f (fun z => hc (cond.mp z)) (nm_r (nI_1 u) (go h cc ds ls ms ft og ig sm (if_neg (fun z => hc z.1)) (by omega) R))
theorem yc_108 {post : SY → Prop} {r s : Nat} (ok : lc_ok M N C aA aB aC aD aE aF) (hr : r < 6) (hs : s < 6) (hf : lc_fill N aA aB aC aD aE aF r s (M * N) mn th) :
    ∀ (d t n : Nat) (h : List (Nat × Nat)) (cc ds ls ms ft og ig sm : Int32), t + d = M * N → d < n → h.length ≤ 64 * t → lc_RY N h cc ds ls ms ft og ig sm →
    (∀ cc' ds' ls' ms' ft' og' ig' sm', lc_RY N (lc_hs (M * N) (fun t => lc_f N aA aB aC aD aE aF r t s) r s t d h) cc' ds' ls' ms' ft' og' ig' sm' → post ((nI M), (nI N), (nI C), cc', ds', ls', ms', ft', sm', og', ig', aA, aB, aC, aD, aE, aF, aW, mn, th, sp)) →
    wY_compare_108 post (nI r) (nI s) (nI (M * N)) n (nI t) (nI M) (nI N) (nI C) cc ds ls ms ft sm og ig aA aB aC aD aE aF aW mn th sp := by
  have h64 := lc_64 ok.2.1 ok.2.2.2.1
  intro d
  induction d with
  | zero =>
    intro t n h cc ds ls ms ft og ig sm hd hn hl R K
    obtain ⟨n, rfl⟩ : ∃ m, n = m + 1 := ⟨n - 1, by omega⟩
    exact br_t (nI_le (by omega) (by omega)) (K cc ds ls ms ft og ig sm R)
  | succ d ih =>
    intro t n h cc ds ls ms ft og ig sm hd hn hl R K
    obtain ⟨n, rfl⟩ : ∃ m, n = m + 1 := ⟨n - 1, by omega⟩
    refine br_f (nI_ge (by omega) (by omega)) ⟨M * N - t + 1, ?_⟩
    refine yc_118 ok hr hs (by omega) hf (M * N - t) t _ h cc ds ls ms ft og ig sm (by omega) (by omega) (by omega) (by omega) R ?_
    rw [lc_sy_eq (by omega)]
    intro cc' ds' ls' ms' ft' og' ig' sm' R'
    have hq := lc_Ll (lc_f N aA aB aC aD aE aF r t s) (M * N)
    have hl2 := lc_st_len (r := r) (s := s) (t := t) (lc_L (lc_f N aA aB aC aD aE aF r t s) (M * N)) h
    exact ih (t + 1) n _ cc' ds' ls' ms' ft' og' ig' sm' (by omega) (by omega) (by omega) R' K
theorem yc_compare {post : SY → Prop} {r s : Nat} (ok : lc_ok M N C aA aB aC aD aE aF) (hr : r < 6) (hs : s < 6)
    (K : ∀ mn' th' cc' ds' ls' ms' ft' og' ig' sm', lc_RY N (lc_hist (M * N) (lc_f N aA aB aC aD aE aF) aW r s) cc' ds' ls' ms' ft' og' ig' sm' → post ((nI M), (nI N), (nI C), cc', ds', ls', ms', ft', sm', og', ig', aA, aB, aC, aD, aE, aF, aW, mn', th', sp)) :
    wpY_compare post ((nI M), (nI N), (nI C), cc, ds, ls, ms, ft, sm, og, ig, aA, aB, aC, aD, aE, aF, aW, mn, th, sp) (nI r) (nI s) := by
  have h64 := lc_64 ok.2.1 ok.2.2.2.1
  have e1 : (nI r).toNatClampNeg = r := nI_clamp (by omega)
  have e2 : (nI s).toNatClampNeg = s := nI_clamp (by omega)
  have h1 : vp_in (nI r) 6 := vp_in_nI hr (by omega)
  have h2 : vp_in (nI s) 6 := vp_in_nI hs (by omega)
  have R0 : ∀ og ig : Int32, lc_RY N [] 0 0 (-2) (-2) (-2) og ig 1 := fun _ _ => ⟨⟨rfl, rfl, rfl, fun z => absurd rfl z⟩, fun _ => ⟨rfl, rfl, rfl⟩⟩
  have hrun : ¬ (aW r = 0 ∧ aW s = 0) → ∃ n65 : Nat, wY_compare_65 post (nI r) (nI s) (nI (M * N)) (nI M) (nI N) (nI C) 0 0 (-2) (-2) (-2) 1 og ig n65 0 aA aB aC aD aE aF aW mn th sp := by
    intro hw
    unfold lc_hist at K
    rw [if_neg hw] at K
    refine ⟨M * N + 1, yc_65 h64 ok.2.2.1 ok.2.2.2.1 hr hs ?_ (M * N) 0 (M * N + 1) mn th (by omega) (by omega) (fun j hj => absurd hj (by omega))⟩
    intro mn' th' hf
    exact ⟨M * N + 1, yc_108 ok hr hs hf (M * N) 0 (M * N + 1) [] 0 0 (-2) (-2) (-2) og ig 1 (by omega) (by omega) (by rw [List.length_nil]; omega) (R0 _ _) (K mn' th')⟩
  refine nm_r (pk_mul M N) ⟨h1, ?_⟩
  rw [e1]
  by_cases w1 : aW r = 0
  · refine br_t w1 ⟨h2, ?_⟩
    rw [e2]
    by_cases w2 : aW s = 0
    · refine br_t w2 ?_
      unfold lc_hist at K
      rw [if_pos ⟨w1, w2⟩] at K
      exact K mn th 0 0 (-2) (-2) (-2) og ig 1 (R0 _ _)
    · exact br_f w2 (hrun (fun z => w2 z.2))
  · exact br_f w1 (hrun (fun z => w1 z.1))
end
end
section
/-! allDirections on both sides; footprint on both sides -/
def lc_Q (D : Nat → Nat → Int32) (C : Nat) : Nat → Int32
  | 0 => 0
  | k + 1 => lc_Q D C k ||| D (k / C) (k % C)
/-- the directions of one pair -/
def lc_D (M N : Nat) (aA aB aC aD aE aF aW : Nat → Int32) (r s : Nat) : Int32 := lc_dS N (lc_hist (M * N) (lc_f N aA aB aC aD aE aF) aW r s)
theorem lc_or (a b : Nat) : nI a ||| nI b = nI (a ||| b) := by
  apply Int32.toBitVec_inj.1
  show BitVec.ofNat 32 a ||| BitVec.ofNat 32 b = BitVec.ofNat 32 (a ||| b)
  apply BitVec.eq_of_getLsbD_eq
  intro i hi
  simp [hi]
theorem lc_or512 {x y : Int32} (hx : ∃ q, q < 512 ∧ x = nI q) (hy : ∃ q, q < 512 ∧ y = nI q) : ∃ q, q < 512 ∧ x ||| y = nI q := by
  obtain ⟨a, ha, rfl⟩ := hx
  obtain ⟨b, hb, rfl⟩ := hy
  exact ⟨a ||| b, Nat.or_lt_two_pow (n := 9) ha hb, lc_or a b⟩
theorem lc_sg3 (a b : Nat) : lc_sg a b = 0 ∨ lc_sg a b = 1 ∨ lc_sg a b = 2 := by
  unfold lc_sg
  by_cases h : a = b
  · rw [if_pos h]; exact Or.inl rfl
  · rw [if_neg h]
    by_cases h2 : b ≤ a
    · rw [if_pos h2]; exact Or.inr (Or.inr rfl)
    · rw [if_neg h2]; exact Or.inr (Or.inl rfl)
theorem lc_bit512 (N t u : Nat) : ∃ q, q < 512 ∧ lc_bit N t u = nI q := by
  unfold lc_bit
  rcases lc_sg3 (t / N) (u / N) with e | e | e <;> rcases lc_sg3 (t % N) (u % N) with e2 | e2 | e2 <;> rw [e, e2]
  · exact ⟨1, by decide, by decide⟩
  · exact ⟨2, by decide, by decide⟩
  · exact ⟨4, by decide, by decide⟩
  · exact ⟨8, by decide, by decide⟩
  · exact ⟨16, by decide, by decide⟩
  · exact ⟨32, by decide, by decide⟩
  · exact ⟨64, by decide, by decide⟩
  · exact ⟨128, by decide, by decide⟩
  · exact ⟨256, by decide, by decide⟩
theorem lc_dS512 (N : Nat) : ∀ h : List (Nat × Nat), ∃ q, q < 512 ∧ lc_dS N h = nI q
  | [] => ⟨0, by decide, rfl⟩
  | p :: h => lc_or512 (lc_dS512 N h) (lc_bit512 N p.1 p.2)
theorem lc_Q512 {D : Nat → Nat → Int32} {C : Nat} (hD : ∀ r s, ∃ q, q < 512 ∧ D r s = nI q) : ∀ k : Nat, ∃ q, q < 512 ∧ lc_Q D C k = nI q
  | 0 => ⟨0, by decide, rfl⟩
  | k + 1 => lc_or512 (lc_Q512 hD k) (hD _ _)
theorem lc_b1 : ∀ q, q < 512 → ((nI q >>> ((3 : Int32) &&& 31) = 0) ↔ ¬ (8 : Int32) ≤ nI q) := by decide +kernel
theorem lc_b2 : ∀ q, q < 512 → (((nI q >>> ((5 : Int32) &&& 31)) &&& 1 = 0) ↔ (nI q &&& 32 = 0)) := by decide +kernel
theorem lc_cc {C k : Nat} (hk : k < C * C) : 0 < C ∧ k / C < C ∧ k % C < C := by
  have h0 : 0 < C := by
    cases C with
    | zero => exact absurd hk (by omega)
    | succ C => omega
  exact ⟨h0, (Nat.div_lt_iff_lt_mul h0).mpr hk, Nat.mod_lt _ h0⟩
theorem lc_36 {C : Nat} (h : C ≤ 6) : C * C ≤ 36 := Nat.mul_le_mul h h
section
variable {M N C : Nat} {fo cc ds ls ms ft og ig sm : Int32} {aA aB aC aD aE aF aW pp lv : Nat → Int32}
theorem xd_14 {post : Int32 → SX → Prop} {J4 : Int32 → Int32 → Int32 → Int32 → Int32 → Int32 → Int32 → Int32 → Int32 → Int32 → Int32 → Int32 → Int32 → Int32 → (Nat → Int32) → (Nat → Int32) → (Nat → Int32) → (Nat → Int32) → (Nat → Int32) → (Nat → Int32) → (Nat → Int32) → (Nat → Int32) → (Nat → Int32) → Prop} {r : Nat} (ok : lc_ok M N C aA aB aC aD aE aF) (hr : r < C)
    (HJ : ∀ fo' pp' cc' ds' ls' ms' ft' og' ig' sm', J4 (lc_Q (lc_D M N aA aB aC aD aE aF aW) C (C * r + C)) (nI (r + 1)) (nI M) (nI N) (nI C) fo' cc' ds' ls' ms' ft' og' ig' sm' aA aB aC aD aE aF aW pp' lv) :
    ∀ (d s n : Nat) (fo : Int32) (pp : Nat → Int32) (cc ds ls ms ft og ig sm : Int32), s + d = C → d < n → wX_allDirections_14 post J4 (nI r) n (lc_Q (lc_D M N aA aB aC aD aE aF aW) C (C * r + s)) (nI s) (nI M) (nI N) (nI C) fo cc ds ls ms ft og ig sm aA aB aC aD aE aF aW pp lv := by
  have hC : C ≤ 6 := ok.2.2.2.2.1
  intro d
  induction d with
  | zero =>
    intro s n fo pp cc ds ls ms ft og ig sm hd hn
    obtain ⟨n, rfl⟩ : ∃ m, n = m + 1 := ⟨n - 1, by omega⟩
    obtain rfl : s = C := by omega
    exact br_t (nI_le (by omega) (by omega)) (nm_r (nI_1 r) (HJ fo pp cc ds ls ms ft og ig sm))
  | succ d ih =>
    intro s n fo pp cc ds ls ms ft og ig sm hd hn
    obtain ⟨n, rfl⟩ : ∃ m, n = m + 1 := ⟨n - 1, by omega⟩
    refine br_f (nI_ge (by omega) (by omega)) ?_
    refine xg_gather ok (by omega) (by omega) ?_
    intro fo' pp' cc' ds' ls' ms' ft' og' ig' sm' R'
    refine nm_r (e' := lc_Q (lc_D M N aA aB aC aD aE aF aW) C (C * r + (s + 1))) ?_ (nm_r (nI_1 s) (ih (s + 1) n fo' pp' cc' ds' ls' ms' ft' og' ig' sm' (by omega) (by omega)))
    show _ = lc_Q (lc_D M N aA aB aC aD aE aF aW) C (C * r + s) ||| lc_D M N aA aB aC aD aE aF aW ((C * r + s) / C) ((C * r + s) % C)
    rw [(lc_du (N := C) (i := r) (j := s) (by omega)).1, (lc_du (N := C) (i := r) (j := s) (by omega)).2, R'.2.1]
    rfl
theorem xd_4 {post : Int32 → SX → Prop} (ok : lc_ok M N C aA aB aC aD aE aF)
    (K : ∀ fo' pp' cc' ds' ls' ms' ft' og' ig' sm', post (lc_Q (lc_D M N aA aB aC aD aE aF aW) C (C * C)) ((nI M), (nI N), (nI C), fo', cc', ds', ls', ms', ft', og', ig', sm', aA, aB, aC, aD, aE, aF, aW, pp', lv)) :
    ∀ (d r n : Nat) (fo : Int32) (pp : Nat → Int32) (cc ds ls ms ft og ig sm : Int32), r + d = C → d < n → wX_allDirections_4 post n (lc_Q (lc_D M N aA aB aC aD aE aF aW) C (C * r)) (nI r) (nI M) (nI N) (nI C) fo cc ds ls ms ft og ig sm aA aB aC aD aE aF aW pp lv := by
  have hC : C ≤ 6 := ok.2.2.2.2.1
  intro d
  induction d with
  | zero =>
    intro r n fo pp cc ds ls ms ft og ig sm hd hn
    obtain ⟨n, rfl⟩ : ∃ m, n = m + 1 := ⟨n - 1, by omega⟩
    obtain rfl : r = C := by omega
    exact br_t (nI_le (by omega) (by omega)) (K fo pp cc ds ls ms ft og ig sm)
  | succ d ih =>
    intro r n fo pp cc ds ls ms ft og ig sm hd hn
    obtain ⟨n, rfl⟩ : ∃ m, n = m + 1 := ⟨n - 1, by omega⟩
    refine br_f (nI_ge (by omega) (by omega)) ⟨C + 1, ?_⟩
    exact xd_14 ok (by omega) (fun fo' pp' cc' ds' ls' ms' ft' og' ig' sm' => ih (r + 1) n fo' pp' cc' ds' ls' ms' ft' og' ig' sm' (by omega) (by omega)) C 0 (C + 1) fo pp cc ds ls ms ft og ig sm (by omega) (by omega)
theorem xd_all {post : Int32 → SX → Prop} (ok : lc_ok M N C aA aB aC aD aE aF)
    (K : ∀ fo' pp' cc' ds' ls' ms' ft' og' ig' sm', post (lc_Q (lc_D M N aA aB aC aD aE aF aW) C (C * C)) ((nI M), (nI N), (nI C), fo', cc', ds', ls', ms', ft', og', ig', sm', aA, aB, aC, aD, aE, aF, aW, pp', lv)) :
    wpX_allDirections post ((nI M), (nI N), (nI C), fo, cc, ds, ls, ms, ft, og, ig, sm, aA, aB, aC, aD, aE, aF, aW, pp, lv) := ⟨C + 1, xd_4 ok K C 0 (C + 1) fo pp cc ds ls ms ft og ig sm (by omega) (by omega)⟩
end
section
variable {M N C : Nat} {cc ds ls ms ft og ig sm : Int32} {aA aB aC aD aE aF aW mn th sp : Nat → Int32}
theorem yd_4 {post : Int32 → SY → Prop} (ok : lc_ok M N C aA aB aC aD aE aF)
    (K : ∀ mn' th' cc' ds' ls' ms' ft' og' ig' sm', post (lc_Q (lc_D M N aA aB aC aD aE aF aW) C (C * C)) ((nI M), (nI N), (nI C), cc', ds', ls', ms', ft', sm', og', ig', aA, aB, aC, aD, aE, aF, aW, mn', th', sp)) :
    ∀ (d k n : Nat) (mn th : Nat → Int32) (cc ds ls ms ft og ig sm : Int32), k + d = C * C → d < n → wY_allDirections_4 post n (lc_Q (lc_D M N aA aB aC aD aE aF aW) C k) (nI k) (nI M) (nI N) (nI C) cc ds ls ms ft sm og ig aA aB aC aD aE aF aW mn th sp := by
  have hC : C ≤ 6 := ok.2.2.2.2.1
  have h36 := lc_36 hC
  intro d
  induction d with
  | zero =>
    intro k n mn th cc ds ls ms ft og ig sm hd hn
    obtain ⟨n, rfl⟩ : ∃ m, n = m + 1 := ⟨n - 1, by omega⟩
    obtain rfl : k = C * C := by omega
    exact br_t (by rw [pk_mul]; exact nI_le (by omega) (by omega)) (K mn th cc ds ls ms ft og ig sm)
  | succ d ih =>
    intro k n mn th cc ds ls ms ft og ig sm hd hn
    obtain ⟨n, rfl⟩ : ∃ m, n = m + 1 := ⟨n - 1, by omega⟩
    obtain ⟨h0, h1, h2⟩ := lc_cc (C := C) (k := k) (by omega)
    have hn0 : ¬ nI C = 0 := nI_ne0 h0 (by omega)
    refine br_f (by rw [pk_mul]; exact nI_ge (by omega) (by omega)) ⟨hn0, hn0, ?_⟩
    rw [pk_rem (by omega) h0 (by omega), pk_div (by omega) h0 (by omega)]
    refine yc_compare ok (by omega) (by omega) ?_
    intro mn' th' cc' ds' ls' ms' ft' og' ig' sm' R'
    refine nm_r (e' := lc_Q (lc_D M N aA aB aC aD aE aF aW) C (k + 1)) ?_ (nm_r (nI_1 k) (ih (k + 1) n mn' th' cc' ds' ls' ms' ft' og' ig' sm' (by omega) (by omega)))
    rw [R'.1.2.1]
    rfl
theorem yd_all {post : Int32 → SY → Prop} (ok : lc_ok M N C aA aB aC aD aE aF)
    (K : ∀ mn' th' cc' ds' ls' ms' ft' og' ig' sm', post (lc_Q (lc_D M N aA aB aC aD aE aF aW) C (C * C)) ((nI M), (nI N), (nI C), cc', ds', ls', ms', ft', sm', og', ig', aA, aB, aC, aD, aE, aF, aW, mn', th', sp)) :
    wpY_allDirections post ((nI M), (nI N), (nI C), cc, ds, ls, ms, ft, sm, og, ig, aA, aB, aC, aD, aE, aF, aW, mn, th, sp) := ⟨C * C + 1, yd_4 ok K (C * C) 0 (C * C + 1) mn th cc ds ls ms ft og ig sm (by omega) (by omega)⟩
end
/-! footprint -/
def lc_b (b : Bool) : Int32 := match b with
  | true => 1
  | false => 0
def lc_ct (c : Nat) (b : Bool) : Nat := match b with
  | true => c + 1
  | false => c
def lc_fr (f : Nat → Nat → Bool) (t : Nat) : Bool := (List.range' 0 t).all (fun u => !(f t u))
def lc_fp (f : Nat → Nat → Bool) : Nat → Nat
  | 0 => 0
  | t + 1 => lc_ct (lc_fp f t) (lc_fr f t)
theorem lc_frX {f : Nat → Nat → Bool} {t T : Nat} (ht : t < T) : (lc_L (f t) T).all (fun u => decide (t ≤ u)) = lc_fr f t := by
  rw [Bool.eq_iff_iff, lc_fr, List.all_eq_true, List.all_eq_true]
  unfold lc_L
  constructor
  · intro h u hu
    have hu2 := List.mem_range'_1.mp hu
    cases e : f t u with
    | false => rfl
    | true =>
      have := of_decide_eq_true (h u (List.mem_filter.mpr ⟨List.mem_range.mpr (by omega), e⟩))
      omega
  · intro h u hu
    obtain ⟨h1, h2⟩ := List.mem_filter.mp hu
    apply decide_eq_true
    by_cases z : t ≤ u
    · exact z
    · have := h u (List.mem_range'_1.mpr (by omega))
      rw [h2] at this
      exact absurd this (by decide)
section
variable {M N C : Nat} {fo cc ds ls ms ft og ig sm : Int32} {aA aB aC aD aE aF aW pp lv : Nat → Int32}
theorem xf_40 {post : Int32 → SX → Prop} {J14 : Int32 → Int32 → Int32 → Int32 → Int32 → Int32 → Int32 → Int32 → Int32 → Int32 → Int32 → Int32 → Int32 → Int32 → (Nat → Int32) → (Nat → Int32) → (Nat → Int32) → (Nat → Int32) → (Nat → Int32) → (Nat → Int32) → (Nat → Int32) → (Nat → Int32) → (Nat → Int32) → Prop} {r t c Q : Nat} (ht : t < 64) (hQ : Q ≤ 64) :
    ∀ (l : List Nat) (k n : Nat) (b : Bool), l.length < n → k + l.length = Q → (∀ i u, l[i]? = some u → pp (k + i) = nI u) → (∀ u, u ∈ l → u < 64) →
    J14 (nI (lc_ct c (b && l.all (fun u => decide (t ≤ u))))) (nI (t + 1)) (nI M) (nI N) (nI C) (nI Q) cc ds ls ms ft og ig sm aA aB aC aD aE aF aW pp lv →
    wX_footprint_40 post J14 (nI r) (nI c) (nI t) (nI M) (nI N) (nI C) (nI Q) cc ds ls ms ft og ig sm aA aB aC aD aE aF aW pp lv n (lc_b b) (nI k) := by
  intro l
  induction l with
  | nil =>
    intro k n b hn hk hp hu HJ
    rw [List.length_nil] at hn hk
    obtain ⟨n, rfl⟩ : ∃ m, n = m + 1 := ⟨n - 1, by omega⟩
    refine br_t (nI_le (by omega) (by omega)) ?_
    cases b with
    | true => exact br_f (by decide) (nm_r (nI_1 c) (nm_r (nI_1 t) HJ))
    | false => exact br_t rfl (nm_r (Int32.add_zero (nI c)) (nm_r (nI_1 t) HJ))
  | cons u l ih =>
    intro k n b hn hk hp hu HJ
    rw [List.length_cons] at hn hk
    obtain ⟨n, rfl⟩ : ∃ m, n = m + 1 := ⟨n - 1, by omega⟩
    have ep : pp (nI k).toNatClampNeg = nI u := by
      rw [nI_clamp (by omega)]
      exact hp 0 u rfl
    have hu0 : u < 64 := hu u List.mem_cons_self
    have hp' : ∀ i w, l[i]? = some w → pp (k + 1 + i) = nI w := by
      intro i w hw
      rw [Nat.add_assoc, Nat.add_comm 1 i]
      exact hp (i + 1) w hw
    have hu' : ∀ w, w ∈ l → w < 64 := fun w hw => hu w (List.mem_cons_of_mem u hw)
    refine br_f (nI_ge (by omega) (by omega)) ?_
    cases b with
    | false => exact br_t rfl (nm_r (nI_1 k) (ih (k + 1) n false (by omega) (by omega) hp' hu' HJ))
    | true =>
      refine br_f (by decide) ⟨vp_in_nI (by omega) (by omega), ?_⟩
      rw [ep]
      rw [List.all_cons, Bool.true_and] at HJ
      by_cases h : t ≤ u
      · rw [decide_eq_true h] at HJ
        exact br_f (nI_nlt h (by omega)) (nm_r (nI_1 k) (ih (k + 1) n true (by omega) (by omega) hp' hu' HJ))
      · rw [decide_eq_false h, Bool.false_and] at HJ
        exact br_t (nI_lt (by omega) (by omega)) (nm_r (nI_1 k) (ih (k + 1) n false (by omega) (by omega) hp' hu' HJ))
theorem xf_14 {post : Int32 → SX → Prop} {r : Nat} (ok : lc_ok M N C aA aB aC aD aE aF) (hr : r < 6)
    (K : ∀ fo' pp', post (nI (lc_fp (fun t => lc_f N aA aB aC aD aE aF r t r) (M * N))) ((nI M), (nI N), (nI C), fo', cc, ds, ls, ms, ft, og, ig, sm, aA, aB, aC, aD, aE, aF, aW, pp', lv)) :
    ∀ (d t n : Nat) (fo : Int32) (pp : Nat → Int32), t + d = M * N → d < n → wX_footprint_14 post (nI r) n (nI (lc_fp (fun t => lc_f N aA aB aC aD aE aF r t r) t)) (nI t) (nI M) (nI N) (nI C) fo cc ds ls ms ft og ig sm aA aB aC aD aE aF aW pp lv := by
  have h64 := lc_64 ok.2.1 ok.2.2.2.1
  intro d
  induction d with
  | zero =>
    intro t n fo pp hd hn
    obtain ⟨n, rfl⟩ : ∃ m, n = m + 1 := ⟨n - 1, by omega⟩
    obtain rfl : t = M * N := by omega
    exact br_t (by rw [pk_mul]; exact nI_le (by omega) (by omega)) (K fo pp)
  | succ d ih =>
    intro t n fo pp hd hn
    obtain ⟨n, rfl⟩ : ∃ m, n = m + 1 := ⟨n - 1, by omega⟩
    refine br_f (by rw [pk_mul]; exact nI_ge (by omega) (by omega)) ?_
    refine xs_solve ok hr hr (by omega) ?_
    intro pp' hp
    have hq := lc_Ll (lc_f N aA aB aC aD aE aF r t r) (M * N)
    have hm : ∀ u, u ∈ lc_L (lc_f N aA aB aC aD aE aF r t r) (M * N) → u < 64 := by
      intro u hu
      have := List.mem_range.mp (List.mem_filter.mp hu).1
      omega
    refine ⟨(lc_L (lc_f N aA aB aC aD aE aF r t r) (M * N)).length + 1, ?_⟩
    refine xf_40 (Q := (lc_L (lc_f N aA aB aC aD aE aF r t r) (M * N)).length) (by omega) (by omega) (lc_L (lc_f N aA aB aC aD aE aF r t r) (M * N)) 0 _ true (by omega) (by omega) (fun i u z => by rw [Nat.zero_add]; exact hp i u z) hm ?_
    rw [lc_frX (f := fun t => lc_f N aA aB aC aD aE aF r t r) (show t < M * N by omega), Bool.true_and]
    exact ih (t + 1) n _ pp' (by omega) (by omega)
end
section
variable {M N C : Nat} {cc ds ls ms ft og ig sm : Int32} {aA aB aC aD aE aF aW mn th sp : Nat → Int32}
theorem yf_51 {post : Int32 → SY → Prop} {J25 : Int32 → Int32 → (Nat → Int32) → (Nat → Int32) → (Nat → Int32) → (Nat → Int32) → (Nat → Int32) → (Nat → Int32) → (Nat → Int32) → (Nat → Int32) → (Nat → Int32) → (Nat → Int32) → Prop} {r t c : Nat} (ok : lc_ok M N C aA aB aC aD aE aF) (ht : t < M * N) (hf : ∀ j, j < t + 1 → mn j = iI (lc_sp N aA aB aC aD aE aF r j)) :
    ∀ (d u n : Nat) (b : Bool), u + d = t → d < n →
    J25 (nI (lc_ct c (!(b || (List.range' u d).any (fun u => lc_f N aA aB aC aD aE aF r t r u))))) (nI (t + 1)) aA aB aC aD aE aF aW mn th sp →
    wY_footprint_51 post J25 (nI r) (nI (M * N)) (nI c) (nI t) (nI M) (nI N) (nI C) cc ds ls ms ft sm og ig aA aB aC aD aE aF aW mn th sp n (lc_b b) (nI u) := by
  have h64 := lc_64 ok.2.1 ok.2.2.2.1
  intro d
  induction d with
  | zero =>
    intro u n b hd hn HJ
    obtain ⟨n, rfl⟩ : ∃ m, n = m + 1 := ⟨n - 1, by omega⟩
    refine br_t (nI_le (by omega) (by omega)) ?_
    cases b with
    | true => exact br_f (by decide) (nm_r (nI_1 t) HJ)
    | false => exact br_t rfl (nm_r (nI_1 c) (nm_r (nI_1 t) HJ))
  | succ d ih =>
    intro u n b hd hn HJ
    obtain ⟨n, rfl⟩ : ∃ m, n = m + 1 := ⟨n - 1, by omega⟩
    rw [List.range'_succ, List.any_cons] at HJ
    have cond : mn (nI u).toNatClampNeg = mn (nI t).toNatClampNeg ↔ lc_f N aA aB aC aD aE aF r t r u = true := by
      rw [nI_clamp (by omega), nI_clamp (by omega), hf u (by omega), hf t (by omega), lc_sp_eq ok r r (by omega) ht]
      unfold lc_f
      rw [decide_eq_true_eq]
      exact eq_comm
    refine br_f (nI_ge (by omega) (by omega)) ⟨vp_in_nI (by omega) (by omega), vp_in_nI (by omega) (by omega), ?_⟩
    by_cases h : lc_f N aA aB aC aD aE aF r t r u = true
    · rw [h, Bool.true_or, Bool.or_true] at HJ
      refine br_t (cond.mpr h) (nm_r (nI_1 u) (ih (u + 1) n true (by omega) (by omega) ?_))
      rw [Bool.true_or]
      exact HJ
    · have h' : lc_f N aA aB aC aD aE aF r t r u = false := by
        cases e : lc_f N aA aB aC aD aE aF r t r u with
        | false => rfl
        | true => exact absurd e h
      rw [h', Bool.false_or] at HJ
      exact br_f (fun z => h (cond.mp z)) (nm_r (nI_1 u) (ih (u + 1) n b (by omega) (by omega) HJ))
theorem yf_25 {post : Int32 → SY → Prop} {r : Nat} (ok : lc_ok M N C aA aB aC aD aE aF) (hr : r < 6)
    (K : ∀ mn', post (nI (lc_fp (fun t => lc_f N aA aB aC aD aE aF r t r) (M * N))) ((nI M), (nI N), (nI C), cc, ds, ls, ms, ft, sm, og, ig, aA, aB, aC, aD, aE, aF, aW, mn', th, sp)) :
    ∀ (d t n : Nat) (mn : Nat → Int32), t + d = M * N → d < n → (∀ j, j < t → mn j = iI (lc_sp N aA aB aC aD aE aF r j)) → wY_footprint_25 post (nI r) (nI (M * N)) (nI M) (nI N) (nI C) cc ds ls ms ft sm og ig n (nI (lc_fp (fun t => lc_f N aA aB aC aD aE aF r t r) t)) (nI t) aA aB aC aD aE aF aW mn th sp := by
  have h64 := lc_64 ok.2.1 ok.2.2.2.1
  intro d
  induction d with
  | zero =>
    intro t n mn hd hn hf
    obtain ⟨n, rfl⟩ : ∃ m, n = m + 1 := ⟨n - 1, by omega⟩
    obtain rfl : t = M * N := by omega
    exact br_t (nI_le (by omega) (by omega)) (K mn)
  | succ d ih =>
    intro t n mn hd hn hf
    obtain ⟨n, rfl⟩ : ∃ m, n = m + 1 := ⟨n - 1, by omega⟩
    have hf' : ∀ j, j < t + 1 → upd mn t (iI (lc_sp N aA aB aC aD aE aF r t)) j = iI (lc_sp N aA aB aC aD aE aF r j) := by
      intro j hj
      by_cases e : j = t
      · subst e; rw [pk_us]
      · rw [pk_un e]; exact hf j (by omega)
    refine br_f (nI_ge (by omega) (by omega)) ?_
    refine ys_spot hr ok.2.2.1 ok.2.2.2.1 (by omega) ⟨vp_in_nI (by omega) (by omega), nm_r (e' := upd mn t (iI (lc_sp N aA aB aC aD aE aF r t))) (by rw [nI_clamp (by omega)]) ⟨t + 1, ?_⟩⟩
    refine yf_51 ok (by omega) hf' t 0 (t + 1) false (by omega) (by omega) ?_
    rw [Bool.false_or, List.not_any_eq_all_not]
    exact ih (t + 1) n _ (by omega) (by omega) hf'
end
end
section
/-! depth: X pushes levels forward, Y draws them; the same pure table -/
/-- all u behind t with p run later than t -/
noncomputable def lc_lr (t : Nat) (p : Nat → Prop) (L : Nat → Nat) : Nat → Nat := fun u => @ite Nat (p u ∧ t < u ∧ L u ≤ L t) (Classical.propDecidable _) (L t + 1) (L u)
theorem lc_lrt {t u : Nat} {p : Nat → Prop} {L : Nat → Nat} (h : p u ∧ t < u ∧ L u ≤ L t) : lc_lr t p L u = L t + 1 := by
  unfold lc_lr
  exact @if_pos _ (Classical.propDecidable _) h Nat _ _
theorem lc_lrf {t u : Nat} {p : Nat → Prop} {L : Nat → Nat} (h : ¬ (p u ∧ t < u ∧ L u ≤ L t)) : lc_lr t p L u = L u := by
  unfold lc_lr
  exact @if_neg _ (Classical.propDecidable _) h Nat _ _
theorem lc_lr_t {t : Nat} {p : Nat → Prop} {L : Nat → Nat} : lc_lr t p L t = L t := lc_lrf (fun z => absurd z.2.1 (by omega))
theorem lc_lr_b {t B : Nat} {p : Nat → Prop} {L : Nat → Nat} (h : ∀ j, L j ≤ B) (ht : L t < B) (j : Nat) : lc_lr t p L j ≤ B := by
  by_cases c : p j ∧ t < j ∧ L j ≤ L t
  · rw [lc_lrt c]; omega
  · rw [lc_lrf c]; exact h j
theorem lc_lr_c {t j : Nat} {p q : Nat → Prop} {L L' : Nat → Nat} (hp : p j ↔ q j) (hj : L j = L' j) (ht : L t = L' t) : lc_lr t p L j = lc_lr t q L' j := by
  by_cases c : p j ∧ t < j ∧ L j ≤ L t
  · rw [lc_lrt c, lc_lrt (p := q) (L := L') ⟨hp.mp c.1, c.2.1, by rw [← hj, ← ht]; exact c.2.2⟩, ht]
  · rw [lc_lrf c, lc_lrf (p := q) (L := L') (fun z => c ⟨hp.mpr z.1, z.2.1, by rw [hj, ht]; exact z.2.2⟩), hj]
theorem lc_lr_2 {t j : Nat} {p q : Nat → Prop} {L : Nat → Nat} : lc_lr t q (lc_lr t p L) j = lc_lr t (fun u => p u ∨ q u) L j := by
  by_cases c : p j ∧ t < j ∧ L j ≤ L t
  · have e1 : lc_lr t p L j = L t + 1 := lc_lrt c
    rw [lc_lrt (p := fun u => p u ∨ q u) ⟨Or.inl c.1, c.2⟩, lc_lrf (p := q) (by rw [e1, lc_lr_t]; omega), e1]
  · have e1 : lc_lr t p L j = L j := lc_lrf c
    by_cases c2 : q j ∧ t < j ∧ L j ≤ L t
    · rw [lc_lrt (p := fun u => p u ∨ q u) ⟨Or.inr c2.1, c2.2⟩, lc_lrt (p := q) (by rw [e1, lc_lr_t]; exact c2), lc_lr_t]
    · rw [lc_lrf (p := fun u => p u ∨ q u) (fun z => z.1.elim (fun y => c ⟨y, z.2⟩) (fun y => c2 ⟨y, z.2⟩)), lc_lrf (p := q) (by rw [e1, lc_lr_t]; exact c2), e1]
theorem lc_lr_0 {t j : Nat} {p : Nat → Prop} {L : Nat → Nat} (h : ¬ p j) : lc_lr t p L j = L j := lc_lrf (fun z => h z.1)
/-- the level of u after all turns below t -/
noncomputable def lc_G (w : Nat → Nat → Prop) : Nat → Nat → Nat
  | 0 => fun _ => 1
  | t + 1 => lc_lr t (w t) (lc_G w t)
theorem lc_G_b (w : Nat → Nat → Prop) : ∀ t u : Nat, lc_G w t u ≤ t + 1 := by
  intro t
  induction t with
  | zero => intro u; exact Nat.le_refl 1
  | succ t ih =>
    intro u
    exact lc_lr_b (fun j => by have := ih j; omega) (by have := ih t; omega) u
/-- the greatest level -/
noncomputable def lc_mx (w : Nat → Nat → Prop) : Nat → Nat → Nat → Nat
  | 0, _, m => m
  | d + 1, t, m => lc_mx w d (t + 1) (if lc_G w t t ≤ m then m else lc_G w t t)
/-- two references clash in the turns t and u -/
def lc_cf (N : Nat) (aA aB aC aD aE aF aW : Nat → Int32) (r t s u : Nat) : Prop := (¬ aW r = 0 ∨ ¬ aW s = 0) ∧ lc_f N aA aB aC aD aE aF r t s u = true
def lc_w (N C : Nat) (aA aB aC aD aE aF aW : Nat → Int32) (t u : Nat) : Prop := ∃ r s, r < C ∧ s < C ∧ lc_cf N aA aB aC aD aE aF aW r t s u
/-- the array holds the levels of all turns -/
def lc_LV (T : Nat) (L : Nat → Nat) (lv : Nat → Int32) : Prop := ∀ j, j < T → lv j = nI (L j)
section
variable {M N C : Nat} {fo cc ds ls ms ft og ig sm : Int32} {aA aB aC aD aE aF aW pp lv : Nat → Int32}
theorem xr_29 {post : SX → Prop} {t T Q : Nat} (hT : T ≤ 64) (ht : t < T) (hQ : Q ≤ 64) :
    ∀ (l : List Nat) (k n : Nat) (L : Nat → Nat) (lv : Nat → Int32), l.length < n → k + l.length = Q → (∀ i u, l[i]? = some u → pp (k + i) = nI u) → (∀ u, u ∈ l → u < T) → (∀ j, L j ≤ 1000) → L t < 1000 → lc_LV T L lv →
    (∀ lv', lc_LV T (lc_lr t (fun u => u ∈ l) L) lv' → post ((nI M), (nI N), (nI C), (nI Q), cc, ds, ls, ms, ft, og, ig, sm, aA, aB, aC, aD, aE, aF, aW, pp, lv')) →
    wX_raise_29 post (nI t) (nI M) (nI N) (nI C) (nI Q) cc ds ls ms ft og ig sm n (nI k) aA aB aC aD aE aF aW pp lv := by
  intro l
  induction l with
  | nil =>
    intro k n L lv hn hk hp hu hb hbt hL K
    rw [List.length_nil] at hn hk
    obtain ⟨n, rfl⟩ : ∃ m, n = m + 1 := ⟨n - 1, by omega⟩
    refine br_t (nI_le (by omega) (by omega)) (K lv ?_)
    intro j hj
    rw [lc_lr_0 (by simp)]
    exact hL j hj
  | cons u l ih =>
    intro k n L lv hn hk hp hu hb hbt hL K
    rw [List.length_cons] at hn hk
    obtain ⟨n, rfl⟩ : ∃ m, n = m + 1 := ⟨n - 1, by omega⟩
    have ep : pp (nI k).toNatClampNeg = nI u := by
      rw [nI_clamp (by omega)]
      exact hp 0 u rfl
    have hu0 : u < T := hu u List.mem_cons_self
    have hp' : ∀ i w, l[i]? = some w → pp (k + 1 + i) = nI w := by
      intro i w hw
      rw [Nat.add_assoc, Nat.add_comm 1 i]
      exact hp (i + 1) w hw
    have hu' : ∀ w, w ∈ l → w < T := fun w hw => hu w (List.mem_cons_of_mem u hw)
    have go : ∀ lv1, lc_LV T (lc_lr t (fun x => x = u) L) lv1 → wX_raise_29 post (nI t) (nI M) (nI N) (nI C) (nI Q) cc ds ls ms ft og ig sm n (nI (k + 1)) aA aB aC aD aE aF aW pp lv1 := by
      intro lv1 h1
      refine ih (k + 1) n (lc_lr t (fun x => x = u) L) lv1 (by omega) (by omega) hp' hu' (fun j => lc_lr_b hb hbt j) (by rw [lc_lr_t]; exact hbt) h1 ?_
      intro lv' h2
      refine K lv' (fun j hj => ?_)
      rw [h2 j hj, lc_lr_2]
      exact congrArg nI (lc_lr_c List.mem_cons.symm rfl rfl)
    have stay : ¬ (t < u ∧ L u ≤ L t) → lc_LV T (lc_lr t (fun x => x = u) L) lv := by
      intro hc j hj
      rw [lc_lrf (by intro z; obtain ⟨z1, z2⟩ := z; rw [z1] at z2; exact hc z2)]
      exact hL j hj
    have hvk : vp_in (nI k) 64 := vp_in_nI (by omega) (by omega)
    have hvu : vp_in (nI u) 64 := vp_in_nI (by omega) (by omega)
    have hvt : vp_in (nI t) 64 := vp_in_nI (by omega) (by omega)
    have ecu : (nI u).toNatClampNeg = u := nI_clamp (by omega)
    have ect : (nI t).toNatClampNeg = t := nI_clamp (by omega)
    have b1 := hb u
    refine br_f (nI_ge (by omega) (by omega)) ⟨hvk, nm_r ep ?_⟩
    by_cases h1 : u ≤ t
    · exact br_t (nI_le h1 (by omega)) (nm_r (nI_1 k) (go lv (stay (fun z => absurd z.1 (by omega)))))
    · refine br_f (nI_ge (by omega) (by omega)) ⟨hvu, hvt, ?_⟩
      rw [ecu, ect, hL u hu0, hL t ht]
      by_cases h2 : L t < L u
      · exact br_t (nI_lt h2 (by omega)) (nm_r (nI_1 k) (go lv (stay (fun z => absurd z.2 (by omega)))))
      · refine br_f (nI_nlt (by omega) (by omega)) ⟨hvt, hvu, nm_r (e' := upd lv u (nI (L t + 1))) (by rw [nI_1]) (nm_r (nI_1 k) (go _ ?_))⟩
        intro j hj
        by_cases e : j = u
        · subst e
          rw [pk_us, lc_lrt (p := fun x => x = j) ⟨rfl, by omega, by omega⟩]
        · rw [pk_un e, lc_lr_0 (p := fun x => x = u) e]
          exact hL j hj
theorem xr_19 {post : SX → Prop} {r t s : Nat} {L : Nat → Nat} (ok : lc_ok M N C aA aB aC aD aE aF) (hr : r < 6) (hs : s < 6) (ht : t < M * N) (hb : ∀ j, L j ≤ 1000) (hbt : L t < 1000) (hL : lc_LV (M * N) L lv)
    (K : ∀ fo' pp' lv', lc_LV (M * N) (lc_lr t (fun u => lc_f N aA aB aC aD aE aF r t s u = true) L) lv' → post ((nI M), (nI N), (nI C), fo', cc, ds, ls, ms, ft, og, ig, sm, aA, aB, aC, aD, aE, aF, aW, pp', lv')) :
    wX_raise_19 post (nI t) (nI r) (nI s) (nI M) (nI N) (nI C) fo cc ds ls ms ft og ig sm aA aB aC aD aE aF aW pp lv := by
  have h64 := lc_64 ok.2.1 ok.2.2.2.1
  unfold wX_raise_19
  refine xs_solve ok hr hs ht ?_
  intro pp' hp
  have hq := lc_Ll (lc_f N aA aB aC aD aE aF r t s) (M * N)
  have hm : ∀ u, u ∈ lc_L (lc_f N aA aB aC aD aE aF r t s) (M * N) → u < M * N := by
    intro u hu
    exact List.mem_range.mp (List.mem_filter.mp hu).1
  refine ⟨(lc_L (lc_f N aA aB aC aD aE aF r t s) (M * N)).length + 1, ?_⟩
  refine xr_29 (T := M * N) (Q := (lc_L (lc_f N aA aB aC aD aE aF r t s) (M * N)).length) (by omega) ht (by omega) (lc_L (lc_f N aA aB aC aD aE aF r t s) (M * N)) 0 _ L lv (by omega) (by omega) (fun i u z => by rw [Nat.zero_add]; exact hp i u z) hm hb hbt hL ?_
  intro lv' h
  refine K _ pp' lv' (fun j hj => ?_)
  rw [h j hj]
  refine congrArg nI (lc_lr_c ?_ rfl rfl)
  exact ⟨fun z => (List.mem_filter.mp z).2, fun z => List.mem_filter.mpr ⟨List.mem_range.mpr hj, z⟩⟩
theorem xr_raise {post : SX → Prop} {r t s : Nat} {L : Nat → Nat} (ok : lc_ok M N C aA aB aC aD aE aF) (hr : r < 6) (hs : s < 6) (ht : t < M * N) (hb : ∀ j, L j ≤ 1000) (hbt : L t < 1000) (hL : lc_LV (M * N) L lv)
    (K : ∀ fo' pp' lv', lc_LV (M * N) (lc_lr t (fun u => lc_cf N aA aB aC aD aE aF aW r t s u) L) lv' → post ((nI M), (nI N), (nI C), fo', cc, ds, ls, ms, ft, og, ig, sm, aA, aB, aC, aD, aE, aF, aW, pp', lv')) :
    wpX_raise post ((nI M), (nI N), (nI C), fo, cc, ds, ls, ms, ft, og, ig, sm, aA, aB, aC, aD, aE, aF, aW, pp, lv) (nI t) (nI r) (nI s) := by
  have e1 : (nI r).toNatClampNeg = r := nI_clamp (by omega)
  have e2 : (nI s).toNatClampNeg = s := nI_clamp (by omega)
  have h1 : vp_in (nI r) 6 := vp_in_nI hr (by omega)
  have h2 : vp_in (nI s) 6 := vp_in_nI hs (by omega)
  have hrun : (¬ aW r = 0 ∨ ¬ aW s = 0) → wX_raise_19 post (nI t) (nI r) (nI s) (nI M) (nI N) (nI C) fo cc ds ls ms ft og ig sm aA aB aC aD aE aF aW pp lv := by
    intro hw
    refine xr_19 ok hr hs ht hb hbt hL ?_
    intro fo' pp' lv' h
    refine K fo' pp' lv' (fun j hj => ?_)
    rw [h j hj]
    exact congrArg nI (lc_lr_c ⟨fun z => ⟨hw, z⟩, fun z => z.2⟩ rfl rfl)
  refine ⟨h1, ?_⟩
  rw [e1]
  by_cases w1 : aW r = 0
  · refine br_t w1 ⟨h2, ?_⟩
    rw [e2]
    by_cases w2 : aW s = 0
    · refine br_t w2 (K fo pp lv (fun j hj => ?_))
      rw [lc_lr_0 (fun z => z.1.elim (fun y => y w1) (fun y => y w2))]
      exact hL j hj
    · exact br_f w2 (hrun (Or.inr w2))
  · exact br_f w1 (hrun (Or.inl w1))
theorem xt_61 {post : Int32 → SX → Prop} {J25 : Int32 → Int32 → Int32 → Int32 → Int32 → Int32 → Int32 → Int32 → Int32 → Int32 → Int32 → Int32 → Int32 → Int32 → (Nat → Int32) → (Nat → Int32) → (Nat → Int32) → (Nat → Int32) → (Nat → Int32) → (Nat → Int32) → (Nat → Int32) → (Nat → Int32) → (Nat → Int32) → Prop} {x1 : Int32} {t : Nat} (ok : lc_ok M N C aA aB aC aD aE aF) (ht : t < M * N) :
    ∀ (d k n : Nat) (L : Nat → Nat) (fo : Int32) (pp lv : Nat → Int32), k + d = C * C → d < n → (∀ j, L j ≤ 1000) → L t < 1000 → lc_LV (M * N) L lv →
    (∀ fo' pp' lv', lc_LV (M * N) (lc_lr t (fun u => ∃ k', k ≤ k' ∧ k' < C * C ∧ lc_cf N aA aB aC aD aE aF aW (k' / C) t (k' % C) u) L) lv' → J25 x1 (nI (t + 1)) (nI M) (nI N) (nI C) fo' cc ds ls ms ft og ig sm aA aB aC aD aE aF aW pp' lv') →
    wX_depth_61 post J25 x1 (nI t) n (nI k) (nI M) (nI N) (nI C) fo cc ds ls ms ft og ig sm aA aB aC aD aE aF aW pp lv := by
  have hC : C ≤ 6 := ok.2.2.2.2.1
  have h36 := lc_36 hC
  intro d
  induction d with
  | zero =>
    intro k n L fo pp lv hd hn hb hbt hL HJ
    obtain ⟨n, rfl⟩ : ∃ m, n = m + 1 := ⟨n - 1, by omega⟩
    refine br_t (by rw [pk_mul]; exact nI_le (by omega) (by omega)) (nm_r (nI_1 t) (HJ fo pp lv ?_))
    intro j hj
    rw [lc_lr_0 (fun z => by obtain ⟨k', z1, z2, _⟩ := z; omega)]
    exact hL j hj
  | succ d ih =>
    intro k n L fo pp lv hd hn hb hbt hL HJ
    obtain ⟨n, rfl⟩ : ∃ m, n = m + 1 := ⟨n - 1, by omega⟩
    obtain ⟨h0, h1, h2⟩ := lc_cc (C := C) (k := k) (by omega)
    have hn0 : ¬ nI C = 0 := nI_ne0 h0 (by omega)
    refine br_f (by rw [pk_mul]; exact nI_ge (by omega) (by omega)) ⟨hn0, hn0, ?_⟩
    rw [pk_rem (by omega) h0 (by omega), pk_div (by omega) h0 (by omega)]
    refine xr_raise ok (by omega) (by omega) ht hb hbt hL ?_
    intro fo' pp' lv' hL'
    refine nm_r (nI_1 k) (ih (k + 1) n _ fo' pp' lv' (by omega) (by omega) (fun j => lc_lr_b hb hbt j) (by rw [lc_lr_t]; exact hbt) hL' ?_)
    intro fo2 pp2 lv2 h3
    refine HJ fo2 pp2 lv2 (fun j hj => ?_)
    rw [h3 j hj, lc_lr_2]
    refine congrArg nI (lc_lr_c ⟨?_, ?_⟩ rfl rfl)
    · intro z
      rcases z with z | ⟨k', z1, z2, z3⟩
      · exact ⟨k, by omega, by omega, z⟩
      · exact ⟨k', by omega, z2, z3⟩
    · intro z
      obtain ⟨k', z1, z2, z3⟩ := z
      by_cases e : k' = k
      · subst e; exact Or.inl z3
      · exact Or.inr ⟨k', by omega, z2, z3⟩
theorem lc_w_k {t u : Nat} : (∃ k', 0 ≤ k' ∧ k' < C * C ∧ lc_cf N aA aB aC aD aE aF aW (k' / C) t (k' % C) u) ↔ lc_w N C aA aB aC aD aE aF aW t u := by
  constructor
  · intro z
    obtain ⟨k', _, z2, z3⟩ := z
    obtain ⟨_, h1, h2⟩ := lc_cc z2
    exact ⟨_, _, h1, h2, z3⟩
  · intro z
    obtain ⟨r, s, h1, h2, h3⟩ := z
    refine ⟨C * r + s, by omega, ?_, ?_⟩
    · have := Nat.mul_le_mul_left C (show r + 1 ≤ C by omega)
      rw [Nat.mul_add, Nat.mul_one] at this
      omega
    · rw [(lc_du (N := C) h2).1, (lc_du (N := C) h2).2]
      exact h3
theorem xt_25 {post : Int32 → SX → Prop} (ok : lc_ok M N C aA aB aC aD aE aF) :
    ∀ (d t n m : Nat) (fo : Int32) (pp lv : Nat → Int32), t + d = M * N → d < n → m ≤ 1000 → lc_LV (M * N) (lc_G (lc_w N C aA aB aC aD aE aF aW) t) lv →
    (∀ fo' pp' lv', post (nI (lc_mx (lc_w N C aA aB aC aD aE aF aW) d t m)) ((nI M), (nI N), (nI C), fo', cc, ds, ls, ms, ft, og, ig, sm, aA, aB, aC, aD, aE, aF, aW, pp', lv')) →
    wX_depth_25 post n (nI m) (nI t) (nI M) (nI N) (nI C) fo cc ds ls ms ft og ig sm aA aB aC aD aE aF aW pp lv := by
  have h64 := lc_64 ok.2.1 ok.2.2.2.1
  have hC : C ≤ 6 := ok.2.2.2.2.1
  intro d
  induction d with
  | zero =>
    intro t n m fo pp lv hd hn hm hL K
    obtain ⟨n, rfl⟩ : ∃ m, n = m + 1 := ⟨n - 1, by omega⟩
    exact br_t (by rw [pk_mul]; exact nI_le (by omega) (by omega)) (K fo pp lv)
  | succ d ih =>
    intro t n m fo pp lv hd hn hm hL K
    obtain ⟨n, rfl⟩ : ∃ m, n = m + 1 := ⟨n - 1, by omega⟩
    have hv : vp_in (nI t) 64 := vp_in_nI (by omega) (by omega)
    have ec : (nI t).toNatClampNeg = t := nI_clamp (by omega)
    have hG := lc_G_b (lc_w N C aA aB aC aD aE aF aW) t
    have hGt := hG t
    have run : ∀ m', m' = (if lc_G (lc_w N C aA aB aC aD aE aF aW) t t ≤ m then m else lc_G (lc_w N C aA aB aC aD aE aF aW) t t) → m' ≤ 1000 → ∃ n61 : Nat, wX_depth_61 post (wX_depth_25 post n) (nI m') (nI t) n61 0 (nI M) (nI N) (nI C) fo cc ds ls ms ft og ig sm aA aB aC aD aE aF aW pp lv := by
      intro m' em hm'
      refine ⟨C * C + 1, xt_61 ok (by omega) (C * C) 0 (C * C + 1) _ fo pp lv (by omega) (by omega) (fun j => by have := hG j; omega) (by omega) hL ?_⟩
      intro fo' pp' lv' h
      refine ih (t + 1) n m' fo' pp' lv' (by omega) (by omega) hm' ?_ ?_
      · intro j hj
        rw [h j hj]
        exact congrArg nI (lc_lr_c lc_w_k rfl rfl)
      · subst em
        exact K
    refine br_f (by rw [pk_mul]; exact nI_ge (by omega) (by omega)) ⟨hv, ?_⟩
    rw [ec, hL t (by omega)]
    by_cases h : lc_G (lc_w N C aA aB aC aD aE aF aW) t t ≤ m
    · exact br_t (nI_le h (by omega)) (run m (if_pos h).symm hm)
    · exact br_f (nI_ge (by omega) (by omega)) ⟨hv, nm_e (run _ (if_neg h).symm (by omega))⟩
theorem xt_2 {post : Int32 → SX → Prop} (K : ∀ lv', (∀ j, j < 64 → lv' j = 1) → ∃ n25 : Nat, wX_depth_25 post n25 1 0 (nI M) (nI N) (nI C) fo cc ds ls ms ft og ig sm aA aB aC aD aE aF aW pp lv') :
    ∀ (d t n : Nat) (lv : Nat → Int32), t + d = 64 → d < n → (∀ j, j < t → lv j = 1) → wX_depth_2 post (nI M) (nI N) (nI C) fo cc ds ls ms ft og ig sm n (nI t) aA aB aC aD aE aF aW pp lv := by
  intro d
  induction d with
  | zero =>
    intro t n lv hd hn hL
    obtain ⟨n, rfl⟩ : ∃ m, n = m + 1 := ⟨n - 1, by omega⟩
    obtain rfl : t = 64 := by omega
    exact br_t (nI_le (a := 64) (b := 64) (by omega) (by omega)) (K lv hL)
  | succ d ih =>
    intro t n lv hd hn hL
    obtain ⟨n, rfl⟩ : ∃ m, n = m + 1 := ⟨n - 1, by omega⟩
    refine br_f (nI_ge (b := 64) (by omega) (by omega)) ⟨vp_in_nI (by omega) (by omega), nm_r (e' := upd lv t 1) (by rw [nI_clamp (by omega)]) (nm_r (nI_1 t) (ih (t + 1) n _ (by omega) (by omega) ?_))⟩
    intro j hj
    by_cases e : j = t
    · subst e; rw [pk_us]
    · rw [pk_un e]; exact hL j (by omega)
theorem xt_depth {post : Int32 → SX → Prop} (ok : lc_ok M N C aA aB aC aD aE aF)
    (K : ∀ fo' pp' lv', post (nI (lc_mx (lc_w N C aA aB aC aD aE aF aW) (M * N) 0 1)) ((nI M), (nI N), (nI C), fo', cc, ds, ls, ms, ft, og, ig, sm, aA, aB, aC, aD, aE, aF, aW, pp', lv')) :
    wpX_depth post ((nI M), (nI N), (nI C), fo, cc, ds, ls, ms, ft, og, ig, sm, aA, aB, aC, aD, aE, aF, aW, pp, lv) := by
  have h64 := lc_64 ok.2.1 ok.2.2.2.1
  refine ⟨65, xt_2 ?_ 64 0 65 lv (by omega) (by omega) (fun j hj => absurd hj (by omega))⟩
  intro lv' h
  exact ⟨M * N + 1, xt_25 ok (M * N) 0 (M * N + 1) 1 fo pp lv' (by omega) (by omega) (by omega) (fun j hj => h j (by omega)) K⟩
end
section
variable {M N C : Nat} {cc ds ls ms ft og ig sm : Int32} {aA aB aC aD aE aF aW mn th sp : Nat → Int32}
theorem yt_13 {post : Int32 → Prop} {J2 : Int32 → Prop} {t u r : Nat} (ok : lc_ok M N C aA aB aC aD aE aF) (hr : r < C) (ht : t < M * N) (hu : u < M * N) :
    ∀ (d s n : Nat), s + d = C → d < n →
    (∀ s', s ≤ s' → s' < C → lc_cf N aA aB aC aD aE aF aW r t s' u → post 1) →
    ((∀ s', s ≤ s' → s' < C → ¬ lc_cf N aA aB aC aD aE aF aW r t s' u) → J2 (nI (r + 1))) →
    wY_waits_13 post J2 (nI t) (nI u) (nI r) (nI M) (nI N) (nI C) cc ds ls ms ft sm og ig aA aB aC aD aE aF aW mn th sp n (nI s) := by
  have h64 := lc_64 ok.2.1 ok.2.2.2.1
  have hC : C ≤ 6 := ok.2.2.2.2.1
  intro d
  induction d with
  | zero =>
    intro s n hd hn H1 H0
    obtain ⟨n, rfl⟩ : ∃ m, n = m + 1 := ⟨n - 1, by omega⟩
    exact br_t (nI_le (by omega) (by omega)) (nm_r (nI_1 r) (H0 (fun s' a b => absurd b (by omega))))
  | succ d ih =>
    intro s n hd hn H1 H0
    obtain ⟨n, rfl⟩ : ∃ m, n = m + 1 := ⟨n - 1, by omega⟩
    have hvr : vp_in (nI r) 6 := vp_in_nI (by omega) (by omega)
    have hvs : vp_in (nI s) 6 := vp_in_nI (by omega) (by omega)
    have ecr : (nI r).toNatClampNeg = r := nI_clamp (by omega)
    have ecs : (nI s).toNatClampNeg = s := nI_clamp (by omega)
    have next : ¬ lc_cf N aA aB aC aD aE aF aW r t s u → wY_waits_13 post J2 (nI t) (nI u) (nI r) (nI M) (nI N) (nI C) cc ds ls ms ft sm og ig aA aB aC aD aE aF aW mn th sp n (nI (s + 1)) := by
      intro hc
      refine ih (s + 1) n (by omega) (by omega) (fun s' a b c => H1 s' (by omega) b c) (fun z => H0 (fun s' a b => ?_))
      by_cases e : s' = s
      · subst e; exact hc
      · exact z s' (by omega) b
    have run : (¬ aW r = 0 ∨ ¬ aW s = 0) → wY_waits_41 post J2 (wY_waits_13 post J2 (nI t) (nI u) (nI r) (nI M) (nI N) (nI C) cc ds ls ms ft sm og ig aA aB aC aD aE aF aW mn th sp n) (nI t) (nI u) (nI r) (nI s) (nI M) (nI N) (nI C) cc ds ls ms ft sm og ig aA aB aC aD aE aF aW mn th sp := by
      intro hw
      unfold wY_waits_41
      refine ys_spot (by omega) ok.2.2.1 ok.2.2.2.1 (by omega) ?_
      refine ys_spot (by omega) ok.2.2.1 ok.2.2.2.1 (by omega) ?_
      by_cases hc : lc_f N aA aB aC aD aE aF r t s u = true
      · refine br_t ?_ (H1 s (by omega) (by omega) ⟨hw, hc⟩)
        rw [lc_sp_eq ok r s ht hu]
        exact of_decide_eq_true hc
      · refine br_f ?_ (nm_r (nI_1 s) (next (fun z => hc z.2)))
        rw [lc_sp_eq ok r s ht hu]
        exact fun z => hc (decide_eq_true z)
    refine br_f (nI_ge (by omega) (by omega)) ⟨hvr, ?_⟩
    rw [ecr]
    by_cases w1 : aW r = 0
    · refine br_t w1 ⟨hvs, ?_⟩
      rw [ecs]
      by_cases w2 : aW s = 0
      · exact br_t w2 (nm_r (nI_1 s) (next (fun z => z.1.elim (fun y => y w1) (fun y => y w2))))
      · exact br_f w2 (run (Or.inr w2))
    · exact br_f w1 (run (Or.inl w1))
theorem yt_2 {post : Int32 → Prop} {t u : Nat} (ok : lc_ok M N C aA aB aC aD aE aF) (ht : t < M * N) (hu : u < M * N) :
    ∀ (d r n : Nat), r + d = C → d < n →
    (∀ r', r ≤ r' → r' < C → ∀ s', s' < C → lc_cf N aA aB aC aD aE aF aW r' t s' u → post 1) →
    ((∀ r', r ≤ r' → r' < C → ∀ s', s' < C → ¬ lc_cf N aA aB aC aD aE aF aW r' t s' u) → post 0) →
    wY_waits_2 post (nI t) (nI u) (nI M) (nI N) (nI C) cc ds ls ms ft sm og ig aA aB aC aD aE aF aW mn th sp n (nI r) := by
  have hC : C ≤ 6 := ok.2.2.2.2.1
  intro d
  induction d with
  | zero =>
    intro r n hd hn H1 H0
    obtain ⟨n, rfl⟩ : ∃ m, n = m + 1 := ⟨n - 1, by omega⟩
    exact br_t (nI_le (by omega) (by omega)) (H0 (fun s' a b => absurd b (by omega)))
  | succ d ih =>
    intro r n hd hn H1 H0
    obtain ⟨n, rfl⟩ : ∃ m, n = m + 1 := ⟨n - 1, by omega⟩
    refine br_f (nI_ge (by omega) (by omega)) ⟨C + 1, ?_⟩
    refine yt_13 ok (by omega) ht hu C 0 (C + 1) (by omega) (by omega) (fun s' _ b c => H1 r (by omega) (by omega) s' b c) ?_
    intro z
    refine ih (r + 1) n (by omega) (by omega) (fun r' a b => H1 r' (by omega) b) (fun y => H0 (fun r' a b s' c => ?_))
    by_cases e : r' = r
    · subst e; exact z s' (by omega) c
    · exact y r' (by omega) b s' c
theorem yt_waits {post : Int32 → Prop} {t u : Nat} (ok : lc_ok M N C aA aB aC aD aE aF) (ht : t < M * N) (hu : u < M * N) (H1 : lc_w N C aA aB aC aD aE aF aW t u → post 1) (H0 : ¬ lc_w N C aA aB aC aD aE aF aW t u → post 0) : wpY_waits post ((nI M), (nI N), (nI C), cc, ds, ls, ms, ft, sm, og, ig, aA, aB, aC, aD, aE, aF, aW, mn, th, sp) (nI t) (nI u) :=
  ⟨C + 1, yt_2 ok ht hu C 0 (C + 1) (by omega) (by omega) (fun r' _ b s' c z => H1 ⟨r', s', b, c, z⟩) (fun y => H0 (fun z => by
    obtain ⟨r', s', b, c, z⟩ := z
    exact y r' (by omega) b s' c z))⟩
theorem yt_29 {post : Int32 → SY → Prop} {J14 : Int32 → Int32 → (Nat → Int32) → (Nat → Int32) → (Nat → Int32) → (Nat → Int32) → (Nat → Int32) → (Nat → Int32) → (Nat → Int32) → (Nat → Int32) → (Nat → Int32) → (Nat → Int32) → Prop} {u m : Nat} (ok : lc_ok M N C aA aB aC aD aE aF) (hu : u < M * N) (hm : m ≤ 1000)
    (HJ : ∀ sp', (∀ j, j < u + 1 → sp' j = nI (lc_G (lc_w N C aA aB aC aD aE aF aW) j j)) → J14 (nI (if lc_G (lc_w N C aA aB aC aD aE aF aW) u u ≤ m then m else lc_G (lc_w N C aA aB aC aD aE aF aW) u u)) (nI (u + 1)) aA aB aC aD aE aF aW mn th sp') :
    ∀ (d t n : Nat) (sp : Nat → Int32), t + d = u → d < n → (∀ j, j < u → sp j = nI (lc_G (lc_w N C aA aB aC aD aE aF aW) j j)) → sp u = nI (lc_G (lc_w N C aA aB aC aD aE aF aW) t u) →
    wY_depth_29 post J14 (nI (M * N)) (nI m) (nI u) (nI M) (nI N) (nI C) cc ds ls ms ft sm og ig n (nI t) aA aB aC aD aE aF aW mn th sp := by
  have h64 := lc_64 ok.2.1 ok.2.2.2.1
  intro d
  induction d with
  | zero =>
    intro t n sp hd hn hS hu0
    obtain ⟨n, rfl⟩ : ∃ m, n = m + 1 := ⟨n - 1, by omega⟩
    obtain rfl : t = u := by omega
    have hv : vp_in (nI t) 64 := vp_in_nI (by omega) (by omega)
    have ec : (nI t).toNatClampNeg = t := nI_clamp (by omega)
    have hG := lc_G_b (lc_w N C aA aB aC aD aE aF aW) t t
    have hS' : ∀ j, j < t + 1 → sp j = nI (lc_G (lc_w N C aA aB aC aD aE aF aW) j j) := by
      intro j hj
      by_cases e : j = t
      · subst e; exact hu0
      · exact hS j (by omega)
    have h0 := HJ sp hS'
    refine br_t (nI_le (by omega) (by omega)) ⟨hv, ?_⟩
    rw [ec, hu0]
    by_cases h : lc_G (lc_w N C aA aB aC aD aE aF aW) t t ≤ m
    · rw [if_pos h] at h0
      exact br_t (nI_le h (by omega)) (nm_r (nI_1 t) h0)
    · rw [if_neg h] at h0
      exact br_f (nI_ge (by omega) (by omega)) ⟨hv, nm_e (nm_r (nI_1 t) h0)⟩
  | succ d ih =>
    intro t n sp hd hn hS hu0
    obtain ⟨n, rfl⟩ : ∃ m, n = m + 1 := ⟨n - 1, by omega⟩
    have hvt : vp_in (nI t) 64 := vp_in_nI (by omega) (by omega)
    have hvu : vp_in (nI u) 64 := vp_in_nI (by omega) (by omega)
    have ect : (nI t).toNatClampNeg = t := nI_clamp (by omega)
    have ecu : (nI u).toNatClampNeg = u := nI_clamp (by omega)
    have hGt := lc_G_b (lc_w N C aA aB aC aD aE aF aW) t t
    have hGu := lc_G_b (lc_w N C aA aB aC aD aE aF aW) t u
    have stay : ¬ (lc_w N C aA aB aC aD aE aF aW t u ∧ t < u ∧ lc_G (lc_w N C aA aB aC aD aE aF aW) t u ≤ lc_G (lc_w N C aA aB aC aD aE aF aW) t t) → wY_depth_29 post J14 (nI (M * N)) (nI m) (nI u) (nI M) (nI N) (nI C) cc ds ls ms ft sm og ig n (nI (t + 1)) aA aB aC aD aE aF aW mn th sp := by
      intro hc
      refine ih (t + 1) n sp (by omega) (by omega) hS ?_
      rw [hu0]
      exact congrArg nI (lc_lrf hc).symm
    refine br_f (nI_ge (by omega) (by omega)) ⟨hvt, hvu, ?_⟩
    rw [ect, ecu, hS t (by omega), hu0]
    by_cases h : lc_G (lc_w N C aA aB aC aD aE aF aW) t t < lc_G (lc_w N C aA aB aC aD aE aF aW) t u
    · exact br_t (nI_lt h (by omega)) (nm_r (nI_1 t) (stay (fun z => absurd z.2.2 (by omega))))
    · refine br_f (nI_nlt (by omega) (by omega)) ?_
      refine yt_waits ok (by omega) hu ?_ ?_
      · intro hw
        refine br_f (by decide) ⟨hvt, hvu, nm_r (e' := upd sp u (nI (lc_G (lc_w N C aA aB aC aD aE aF aW) t t + 1))) (by rw [nI_1]) (nm_r (nI_1 t) (ih (t + 1) n _ (by omega) (by omega) ?_ ?_))⟩
        · intro j hj
          rw [pk_un (by omega)]
          exact hS j hj
        · rw [pk_us]
          exact congrArg nI (lc_lrt ⟨hw, by omega, by omega⟩).symm
      · intro hw
        exact br_t rfl (nm_r (nI_1 t) (stay (fun z => hw z.1)))
theorem yt_14 {post : Int32 → SY → Prop} (ok : lc_ok M N C aA aB aC aD aE aF) :
    ∀ (d t n m : Nat) (sp : Nat → Int32), t + d = M * N → d < n → m ≤ 1000 → (∀ j, j < t → sp j = nI (lc_G (lc_w N C aA aB aC aD aE aF aW) j j)) →
    (∀ sp', post (nI (lc_mx (lc_w N C aA aB aC aD aE aF aW) d t m)) ((nI M), (nI N), (nI C), cc, ds, ls, ms, ft, sm, og, ig, aA, aB, aC, aD, aE, aF, aW, mn, th, sp')) →
    wY_depth_14 post (nI (M * N)) (nI M) (nI N) (nI C) cc ds ls ms ft sm og ig n (nI m) (nI t) aA aB aC aD aE aF aW mn th sp := by
  have h64 := lc_64 ok.2.1 ok.2.2.2.1
  intro d
  induction d with
  | zero =>
    intro t n m sp hd hn hm hS K
    obtain ⟨n, rfl⟩ : ∃ m, n = m + 1 := ⟨n - 1, by omega⟩
    exact br_t (nI_le (by omega) (by omega)) (K sp)
  | succ d ih =>
    intro t n m sp hd hn hm hS K
    obtain ⟨n, rfl⟩ : ∃ m, n = m + 1 := ⟨n - 1, by omega⟩
    have hG := lc_G_b (lc_w N C aA aB aC aD aE aF aW) t t
    refine br_f (nI_ge (by omega) (by omega)) ⟨vp_in_nI (by omega) (by omega), nm_r (e' := upd sp t 1) (by rw [nI_clamp (by omega)]) ⟨t + 1, ?_⟩⟩
    refine yt_29 ok (by omega) hm ?_ t 0 (t + 1) _ (by omega) (by omega) ?_ ?_
    · intro sp' h
      refine ih (t + 1) n _ sp' (by omega) (by omega) ?_ h K
      by_cases c : lc_G (lc_w N C aA aB aC aD aE aF aW) t t ≤ m
      · rw [if_pos c]; exact hm
      · rw [if_neg c]; omega
    · intro j hj
      rw [pk_un (by omega)]
      exact hS j hj
    · rw [pk_us]
      rfl
theorem lc_mx0 {w : Nat → Nat → Prop} {T : Nat} (h : 1 ≤ T) : lc_mx w T 0 0 = lc_mx w T 0 1 := by
  obtain ⟨n, rfl⟩ : ∃ m, T = m + 1 := ⟨T - 1, by omega⟩
  have e : lc_G w 0 0 = 1 := rfl
  show lc_mx w n (0 + 1) (if lc_G w 0 0 ≤ 0 then 0 else lc_G w 0 0) = lc_mx w n (0 + 1) (if lc_G w 0 0 ≤ 1 then 1 else lc_G w 0 0)
  rw [e]
  rfl
theorem yt_depth {post : Int32 → SY → Prop} (ok : lc_ok M N C aA aB aC aD aE aF)
    (K : ∀ sp', post (nI (lc_mx (lc_w N C aA aB aC aD aE aF aW) (M * N) 0 1)) ((nI M), (nI N), (nI C), cc, ds, ls, ms, ft, sm, og, ig, aA, aB, aC, aD, aE, aF, aW, mn, th, sp')) :
    wpY_depth post ((nI M), (nI N), (nI C), cc, ds, ls, ms, ft, sm, og, ig, aA, aB, aC, aD, aE, aF, aW, mn, th, sp) := by
  have hp : 1 ≤ M * N := Nat.mul_le_mul ok.1 ok.2.2.1
  refine nm_r (pk_mul M N) ⟨M * N + 1, yt_14 ok (M * N) 0 (M * N + 1) 0 sp (by omega) (by omega) (by omega) (fun j hj => absurd hj (by omega)) ?_⟩
  rw [lc_mx0 hp]
  exact K
end
end
section
/-! the relation: the same counts and references; all else is scratch -/
def i_Rel (_ : Nat) (u : SX) (v : SY) : Prop := ∃ (M N C : Nat) (aA aB aC aD aE aF aW pp lv mn th sp : Nat → Int32) (fo cc ds ls ms ft og ig sm cc' ds' ls' ms' ft' og' ig' sm' : Int32), lc_ok M N C aA aB aC aD aE aF ∧ u = ((nI M), (nI N), (nI C), fo, cc, ds, ls, ms, ft, og, ig, sm, aA, aB, aC, aD, aE, aF, aW, pp, lv) ∧ v = ((nI M), (nI N), (nI C), cc', ds', ls', ms', ft', sm', og', ig', aA, aB, aC, aD, aE, aF, aW, mn, th, sp)
theorem zz_el {P : SX → SY → Prop} {k : Nat} {u : SX} {v : SY} (h : ∀ (M N C : Nat) (aA aB aC aD aE aF aW pp lv mn th sp : Nat → Int32) (fo cc ds ls ms ft og ig sm cc' ds' ls' ms' ft' og' ig' sm' : Int32), lc_ok M N C aA aB aC aD aE aF → P ((nI M), (nI N), (nI C), fo, cc, ds, ls, ms, ft, og, ig, sm, aA, aB, aC, aD, aE, aF, aW, pp, lv) ((nI M), (nI N), (nI C), cc', ds', ls', ms', ft', sm', og', ig', aA, aB, aC, aD, aE, aF, aW, mn, th, sp)) (I : i_Rel k u v) : P u v :=
  Exists.elim I fun M I => Exists.elim I fun N I => Exists.elim I fun C I => Exists.elim I fun aA I => Exists.elim I fun aB I => Exists.elim I fun aC I => Exists.elim I fun aD I => Exists.elim I fun aE I => Exists.elim I fun aF I => Exists.elim I fun aW I => Exists.elim I fun pp I => Exists.elim I fun lv I => Exists.elim I fun mn I => Exists.elim I fun th I => Exists.elim I fun sp I => Exists.elim I fun fo I => Exists.elim I fun cc I => Exists.elim I fun ds I => Exists.elim I fun ls I => Exists.elim I fun ms I => Exists.elim I fun ft I => Exists.elim I fun og I => Exists.elim I fun ig I => Exists.elim I fun sm I => Exists.elim I fun cc' I => Exists.elim I fun ds' I => Exists.elim I fun ls' I => Exists.elim I fun ms' I => Exists.elim I fun ft' I => Exists.elim I fun og' I => Exists.elim I fun ig' I => Exists.elim I fun sm' I => by
    obtain ⟨ok, e1, e2⟩ := I
    subst e1 e2
    exact h M N C aA aB aC aD aE aF aW pp lv mn th sp fo cc ds ls ms ft og ig sm cc' ds' ls' ms' ft' og' ig' sm' ok
theorem zz_in {k M N C : Nat} {aA aB aC aD aE aF aW pp lv mn th sp : Nat → Int32} {fo cc ds ls ms ft og ig sm cc' ds' ls' ms' ft' og' ig' sm' : Int32} (ok : lc_ok M N C aA aB aC aD aE aF) : i_Rel k ((nI M), (nI N), (nI C), fo, cc, ds, ls, ms, ft, og, ig, sm, aA, aB, aC, aD, aE, aF, aW, pp, lv) ((nI M), (nI N), (nI C), cc', ds', ls', ms', ft', sm', og', ig', aA, aB, aC, aD, aE, aF, aW, mn, th, sp) :=
  ⟨M, N, C, aA, aB, aC, aD, aE, aF, aW, pp, lv, mn, th, sp, fo, cc, ds, ls, ms, ft, og, ig, sm, cc', ds', ls', ms', ft', og', ig', sm', ok, rfl, rfl⟩
/-! the constructors -/
theorem zi_cl (x : Int32) : ∃ m : Nat, 1 ≤ m ∧ m ≤ 8 ∧ ((1 ≤ x ∧ x ≤ 8 ∧ x = nI m) ∨ (1 ≤ x ∧ ¬ x ≤ 8 ∧ m = 8) ∨ (¬ 1 ≤ x ∧ m = 1)) := by
  by_cases h1 : 1 ≤ x
  · by_cases h2 : x ≤ 8
    · have h0 : ¬ x < 0 := by
        rw [Int32.lt_iff_toInt_lt]
        rw [Int32.le_iff_toInt_le] at h1
        have e1 : (1 : Int32).toInt = 1 := by decide
        have e0 : (0 : Int32).toInt = 0 := by decide
        omega
      obtain ⟨j, hj, e⟩ := nI_of h0
      subst e
      rw [show (1 : Int32) = nI 1 from rfl, nI_leI (by omega) hj] at h1
      rw [show (8 : Int32) = nI 8 from rfl, nI_leI hj (by omega)] at h2
      exact ⟨j, h1, h2, Or.inl ⟨nI_le (a := 1) h1 hj, nI_le (b := 8) h2 (by decide), rfl⟩⟩
    · exact ⟨8, by omega, by omega, Or.inr (Or.inl ⟨h1, h2, rfl⟩)⟩
  · exact ⟨1, by omega, by omega, Or.inr (Or.inr ⟨h1, rfl⟩)⟩
def zi_C (x : Int32) (m : Nat) : Prop := (1 ≤ x ∧ x ≤ 8 ∧ x = nI m) ∨ (1 ≤ x ∧ ¬ x ≤ 8 ∧ m = 8) ∨ (¬ 1 ≤ x ∧ m = 1)
section
variable {M N C : Nat} {mm nn fo ct cc ds ls ms ft og ig sm : Int32} {aA aB aC aD aE aF aW pp lv mn th sp : Nat → Int32}
theorem zi_105 {post : SX → Prop} {x : Int32} (h : zi_C x N) (K : post (mm, (nI N), ct, fo, cc, ds, ls, ms, ft, og, ig, sm, aA, aB, aC, aD, aE, aF, aW, pp, lv)) : wX_init_105 post x mm nn ct fo cc ds ls ms ft og ig sm aA aB aC aD aE aF aW pp lv := by
  rcases h with ⟨h1, h2, h3⟩ | ⟨h1, h2, h3⟩ | ⟨h1, h3⟩
  · subst h3; exact br_t h1 (br_t h2 K)
  · subst h3; exact br_t h1 (br_f h2 K)
  · subst h3; exact br_f h1 (br_t (by decide) K)
theorem zi_X {post : SX → Prop} {x y : Int32} (h : zi_C x M) (h' : zi_C y N) (K : post ((nI M), (nI N), 0, 0, 0, 0, 0, 0, 0, 0, 0, 0, (fun _ => 0), (fun _ => 0), (fun _ => 0), (fun _ => 0), (fun _ => 0), (fun _ => 0), (fun _ => 0), (fun _ => 0), (fun _ => 0))) : wpX_init post x y := by
  rcases h with ⟨h1, h2, h3⟩ | ⟨h1, h2, h3⟩ | ⟨h1, h3⟩
  · subst h3; exact br_t h1 (br_t h2 (zi_105 h' K))
  · subst h3; exact br_t h1 (br_f h2 (zi_105 h' K))
  · subst h3; exact br_f h1 (br_t (by decide) (zi_105 h' K))
theorem zi_106 {post : SY → Prop} {x : Int32} (h : zi_C x N) (K : post (mm, (nI N), ct, cc, ds, ls, ms, ft, sm, og, ig, aA, aB, aC, aD, aE, aF, aW, mn, th, sp)) : wY_init_106 post x mm 0 nn ct cc ds ls ms ft sm og ig aA aB aC aD aE aF aW mn th sp := by
  rcases h with ⟨h1, h2, h3⟩ | ⟨h1, h2, h3⟩ | ⟨h1, h3⟩
  · subst h3; exact br_t h1 (br_t h2 K)
  · subst h3; exact br_t h1 (br_f h2 K)
  · subst h3; exact br_f h1 K
theorem zi_Y {post : SY → Prop} {x y : Int32} (h : zi_C x M) (h' : zi_C y N) (K : post ((nI M), (nI N), 0, 0, 0, 0, 0, 0, 0, 0, 0, (fun _ => 0), (fun _ => 0), (fun _ => 0), (fun _ => 0), (fun _ => 0), (fun _ => 0), (fun _ => 0), (fun _ => 0), (fun _ => 0), (fun _ => 0))) : wpY_init post x y := by
  rcases h with ⟨h1, h2, h3⟩ | ⟨h1, h2, h3⟩ | ⟨h1, h3⟩
  · subst h3; exact br_t h1 (br_t h2 (zi_106 h' K))
  · subst h3; exact br_t h1 (br_f h2 (zi_106 h' K))
  · subst h3; exact br_f h1 (zi_106 h' K)
end
theorem zi_0 {M N : Nat} (h1 : 1 ≤ M) (h2 : M ≤ 8) (h3 : 1 ≤ N) (h4 : N ≤ 8) : lc_ok M N 0 (fun _ => 0) (fun _ => 0) (fun _ => 0) (fun _ => 0) (fun _ => 0) (fun _ => 0) :=
  ⟨h1, h2, h3, h4, by omega, lc_bd_0 (by omega), lc_bd_0 (by omega), lc_bd_0 (by omega), lc_bd_0 (by omega), lc_bd_0 (by omega), lc_bd_0 (by omega)⟩
/-! isGood, bad, isForm, badCode -/
section
variable {M N C : Nat} {fo cc ds ls ms ft og ig sm : Int32} {aA aB aC aD aE aF aW pp lv mn th sp : Nat → Int32}
theorem zg_X1 {post : Int32 → Prop} {r : Nat} (hC : C ≤ 6) (hr : r < C) (K : post 1) : wpX_isGood post ((nI M), (nI N), (nI C), fo, cc, ds, ls, ms, ft, og, ig, sm, aA, aB, aC, aD, aE, aF, aW, pp, lv) (nI r) :=
  br_f (nI_pos (by omega)) (br_f (nI_ge (by omega) (by omega)) K)
theorem zg_X0 {post : Int32 → Prop} {p : Int32} (h : p < 0 ∨ nI C ≤ p) (K : post 0) : wpX_isGood post ((nI M), (nI N), (nI C), fo, cc, ds, ls, ms, ft, og, ig, sm, aA, aB, aC, aD, aE, aF, aW, pp, lv) p := by
  by_cases h0 : p < 0
  · exact br_t h0 K
  · exact br_f h0 (br_t (h.resolve_left h0) K)
theorem zg_Y1 {post : Int32 → Prop} {r : Nat} (hC : C ≤ 6) (hr : r < C) (K : post 0) : wpY_bad post ((nI M), (nI N), (nI C), cc, ds, ls, ms, ft, sm, og, ig, aA, aB, aC, aD, aE, aF, aW, mn, th, sp) (nI r) :=
  br_f (nI_pos (by omega)) (br_t (nI_lt (by omega) (by omega)) K)
theorem zg_Y0 {post : Int32 → Prop} {p : Int32} (h : p < 0 ∨ nI C ≤ p) (K : post 1) : wpY_bad post ((nI M), (nI N), (nI C), cc, ds, ls, ms, ft, sm, og, ig, aA, aB, aC, aD, aE, aF, aW, mn, th, sp) p := by
  by_cases h0 : p < 0
  · exact br_t h0 K
  · exact br_f h0 (br_f (Int32.not_lt.mpr (h.resolve_left h0)) K)
def zg_ok (p : Int32) : Prop := ¬ p < 0 ∧ ¬ 8 < p / 2048 ∧ ¬ 8 < ((p / 128) - (p / 128) / 16 * 16) ∧ ¬ 40 < (p - p / 128 * 128)
theorem zg_XF1 {post : Int32 → Prop} {p : Int32} (h : zg_ok p) (K : post 1) : wpX_isForm post p :=
  br_f h.1 ⟨by decide, br_f h.2.1 ⟨by decide, by decide, br_f h.2.2.1 ⟨by decide, br_f h.2.2.2 K⟩⟩⟩
theorem zg_XF0 {post : Int32 → Prop} {p : Int32} (h : ¬ zg_ok p) (K : post 0) : wpX_isForm post p := by
  by_cases h1 : p < 0
  · exact br_t h1 K
  · refine br_f h1 ⟨by decide, ?_⟩
    by_cases h2 : 8 < p / 2048
    · exact br_t h2 K
    · refine br_f h2 ⟨by decide, by decide, ?_⟩
      by_cases h3 : 8 < ((p / 128) - (p / 128) / 16 * 16)
      · exact br_t h3 K
      · refine br_f h3 ⟨by decide, ?_⟩
        by_cases h4 : 40 < (p - p / 128 * 128)
        · exact br_t h4 K
        · exact absurd ⟨h1, h2, h3, h4⟩ h
theorem zg_YF1 {post : Int32 → Prop} {p : Int32} (h : zg_ok p) (K : post 0) : wpY_badCode post ((nI M), (nI N), (nI C), cc, ds, ls, ms, ft, sm, og, ig, aA, aB, aC, aD, aE, aF, aW, mn, th, sp) p :=
  br_f h.1 ⟨by decide, br_f h.2.1 ⟨by decide, by decide, br_f h.2.2.1 ⟨by decide, br_t (Int32.not_lt.mp h.2.2.2) K⟩⟩⟩
theorem zg_YF0 {post : Int32 → Prop} {p : Int32} (h : ¬ zg_ok p) (K : post 1) : wpY_badCode post ((nI M), (nI N), (nI C), cc, ds, ls, ms, ft, sm, og, ig, aA, aB, aC, aD, aE, aF, aW, mn, th, sp) p := by
  by_cases h1 : p < 0
  · exact br_t h1 K
  · refine br_f h1 ⟨by decide, ?_⟩
    by_cases h2 : 8 < p / 2048
    · exact br_t h2 K
    · refine br_f h2 ⟨by decide, by decide, ?_⟩
      by_cases h3 : 8 < ((p / 128) - (p / 128) / 16 * 16)
      · exact br_t h3 K
      · refine br_f h3 ⟨by decide, ?_⟩
        by_cases h4 : 40 < (p - p / 128 * 128)
        · exact br_f (Int32.not_le.mpr h4) K
        · exact absurd ⟨h1, h2, h3, h4⟩ h
end
theorem zg_bd {p : Int32} (h : zg_ok p) : (-4 ≤ (p / 2048 - 4).toInt ∧ (p / 2048 - 4).toInt ≤ 4) ∧ (-4 ≤ ((p / 128) - (p / 128) / 16 * 16 - 4).toInt ∧ ((p / 128) - (p / 128) / 16 * 16 - 4).toInt ≤ 4) ∧ (-20 ≤ (p - p / 128 * 128 - 20).toInt ∧ (p - p / 128 * 128 - 20).toInt ≤ 20) := by
  obtain ⟨h1, h2, h3, h4⟩ := h
  obtain ⟨q, hq, rfl⟩ := nI_of h1
  have e1 : nI q / 2048 = nI (q / 2048) := pk_div (d := 2048) hq (by omega) (by omega)
  have e2 : nI q / 128 = nI (q / 128) := pk_div (d := 128) hq (by omega) (by omega)
  have e3 : nI (q / 128) - nI (q / 128) / 16 * 16 = nI (q / 128 % 16) := pk_rem (d := 16) (by omega) (by omega) (by omega)
  have e4 : nI q - nI q / 128 * 128 = nI (q % 128) := pk_rem (d := 128) hq (by omega) (by omega)
  rw [e4] at h4 ⊢
  rw [e1] at h2 ⊢
  rw [e2, e3] at h3 ⊢
  rw [show (8 : Int32) = nI 8 from rfl, nI_ltI (by omega) (by omega)] at h2 h3
  rw [show (40 : Int32) = nI 40 from rfl, nI_ltI (by omega) (by omega)] at h4
  have t1 : (nI (q / 2048) - 4).toInt = ((q / 2048 : Nat) : Int) - ((4 : Nat) : Int) := pk_sub_toInt (b := 4) (by omega) (by omega)
  have t2 : (nI (q / 128 % 16) - 4).toInt = ((q / 128 % 16 : Nat) : Int) - ((4 : Nat) : Int) := pk_sub_toInt (b := 4) (by omega) (by omega)
  have t3 : (nI (q % 128) - 20).toInt = ((q % 128 : Nat) : Int) - ((20 : Nat) : Int) := pk_sub_toInt (b := 20) (by omega) (by omega)
  rw [t1, t2, t3]
  omega
/-! refer -/
section
variable {M N C : Nat} {fo cc ds ls ms ft og ig sm : Int32} {aA aB aC aD aE aF aW pp lv mn th sp : Nat → Int32}
def zr_w (aW : Nat → Int32) (C : Nat) (p2 : Int32) : Nat → Int32 := upd aW C (vp_nar .boolean (if p2 = 0 then 0 else 1))
theorem zr_X {post : Int32 → SX → Prop} {p0 p1 p2 : Int32} (h0 : zg_ok p0) (h1 : zg_ok p1) (hC : C < 6)
    (K : post (nI (C + 1) - 1) ((nI M), (nI N), (nI (C + 1)), fo, cc, ds, ls, ms, ft, og, ig, sm, (upd aA C (p0 / 2048 - 4)), (upd aB C ((p0 / 128) - (p0 / 128) / 16 * 16 - 4)), (upd aC C (p0 - p0 / 128 * 128 - 20)), (upd aD C (p1 / 2048 - 4)), (upd aE C ((p1 / 128) - (p1 / 128) / 16 * 16 - 4)), (upd aF C (p1 - p1 / 128 * 128 - 20)), (zr_w aW C p2), pp, lv)) : wpX_refer post ((nI M), (nI N), (nI C), fo, cc, ds, ls, ms, ft, og, ig, sm, aA, aB, aC, aD, aE, aF, aW, pp, lv) p0 p1 p2 := by
  have hv : vp_in (nI C) 6 := vp_in_nI hC (by omega)
  have ec : (nI C).toNatClampNeg = C := nI_clamp (by omega)
  have d1 : ¬ (2048 : Int32) = 0 := by decide
  have d2 : ¬ (128 : Int32) = 0 := by decide
  have d3 : ¬ (16 : Int32) = 0 := by decide
  have d4 : ¬ (1 : Int32) = 0 := by decide
  have hc6 : ¬ nI C = 6 := by rw [show (6 : Int32) = nI 6 from rfl, nI_eq (by omega) (by omega)]; omega
  unfold wpX_refer
  refine zg_XF1 h0 (br_f d4 ?_)
  refine zg_XF1 h1 (br_f d4 (br_f hc6 ?_))
  rw [ec]
  refine ⟨d1, hv, nm_e ⟨d2, d3, hv, nm_e ⟨d2, hv, nm_e ⟨d1, hv, nm_e ⟨d2, d3, hv, nm_e ⟨d2, hv, nm_e ?_⟩⟩⟩⟩⟩⟩
  unfold zr_w at K
  by_cases h : p2 = 0
  · rw [if_pos h] at K
    refine br_t h ⟨hv, nm_r (e' := upd aW C (vp_nar .boolean 0)) (by rw [ec]) (nm_r (nI_1 C) K)⟩
  · rw [if_neg h] at K
    refine br_f h ⟨hv, nm_r (e' := upd aW C (vp_nar .boolean 1)) (by rw [ec]) (nm_r (nI_1 C) K)⟩
theorem zr_Y {post : Int32 → SY → Prop} {p0 p1 p2 : Int32} (h0 : zg_ok p0) (h1 : zg_ok p1) (hC : C < 6)
    (K : post (nI (C + 1) - 1) ((nI M), (nI N), (nI (C + 1)), cc, ds, ls, ms, ft, sm, og, ig, (upd aA C (p0 / 2048 - 4)), (upd aB C ((p0 / 128) - (p0 / 128) / 16 * 16 - 4)), (upd aC C (p0 - p0 / 128 * 128 - 20)), (upd aD C (p1 / 2048 - 4)), (upd aE C ((p1 / 128) - (p1 / 128) / 16 * 16 - 4)), (upd aF C (p1 - p1 / 128 * 128 - 20)), (zr_w aW C p2), mn, th, sp)) : wpY_refer post ((nI M), (nI N), (nI C), cc, ds, ls, ms, ft, sm, og, ig, aA, aB, aC, aD, aE, aF, aW, mn, th, sp) p0 p1 p2 := by
  have hv : vp_in (nI C) 6 := vp_in_nI hC (by omega)
  have ec : (nI C).toNatClampNeg = C := nI_clamp (by omega)
  have d1 : ¬ (2048 : Int32) = 0 := by decide
  have d2 : ¬ (128 : Int32) = 0 := by decide
  have d3 : ¬ (16 : Int32) = 0 := by decide
  unfold wpY_refer
  refine zg_YF1 h0 (br_t rfl ?_)
  refine zg_YF1 h1 (br_t rfl (br_t (nI_lt (b := 6) hC (by omega)) ?_))
  rw [ec]
  refine ⟨d1, hv, nm_e ⟨d2, d3, hv, nm_e ⟨d2, hv, nm_e ⟨d1, hv, nm_e ⟨d2, d3, hv, nm_e ⟨d2, hv, nm_e ?_⟩⟩⟩⟩⟩⟩
  unfold zr_w at K
  by_cases h : p2 = 0
  · rw [if_pos h] at K
    refine br_t h ⟨hv, nm_r (e' := upd aW C (vp_nar .boolean 0)) (by rw [ec]) (nm_r (nI_1 C) K)⟩
  · rw [if_neg h] at K
    refine br_f h ⟨hv, nm_r (e' := upd aW C (vp_nar .boolean 1)) (by rw [ec]) (nm_r (nI_1 C) K)⟩
end
/-! drop -/
def zd_f : Nat → Nat → (Nat → Int32) → Nat → Int32
  | 0, _, a => a
  | d + 1, k, a => zd_f d (k + 1) (upd a k (a (k + 1)))
def zd_w : Nat → Nat → (Nat → Int32) → Nat → Int32
  | 0, _, a => a
  | d + 1, k, a => zd_w d (k + 1) (upd a k (vp_nar .boolean (a (k + 1))))
theorem zd_bd {L : Int} : ∀ (d k : Nat) (a : Nat → Int32), lc_bd L a → lc_bd L (zd_f d k a) := by
  intro d
  induction d with
  | zero => intro k a h; exact h
  | succ d ih => intro k a h; exact ih (k + 1) _ (lc_bd_upd h (h (k + 1)).1 (h (k + 1)).2)
section
variable {M N C : Nat} {fo cc ds ls ms ft og ig sm : Int32} {pp lv mn th sp : Nat → Int32}
theorem zd_X {post : Int32 → SX → Prop} (hC : C ≤ 6) : ∀ (d k n : Nat) (aA aB aC aD aE aF aW : Nat → Int32), k + 1 + d = C → d < n →
    post (nI C - 1) ((nI M), (nI N), (nI C - 1), fo, cc, ds, ls, ms, ft, og, ig, sm, (zd_f d k aA), (zd_f d k aB), (zd_f d k aC), (zd_f d k aD), (zd_f d k aE), (zd_f d k aF), (zd_w d k aW), pp, lv) → wX_drop_14 post (nI M) (nI N) (nI C) fo cc ds ls ms ft og ig sm n (nI (k + 1)) aA aB aC aD aE aF aW pp lv := by
  intro d
  induction d with
  | zero =>
    intro k n aA aB aC aD aE aF aW hd hn K
    obtain ⟨n, rfl⟩ : ∃ m, n = m + 1 := ⟨n - 1, by omega⟩
    exact br_t (nI_le (by omega) (by omega)) (nm_e K)
  | succ d ih =>
    intro k n aA aB aC aD aE aF aW hd hn K
    obtain ⟨n, rfl⟩ : ∃ m, n = m + 1 := ⟨n - 1, by omega⟩
    have h1 : vp_in (nI (k + 1)) 6 := vp_in_nI (by omega) (by omega)
    have h2 : vp_in (nI (k + 1) - 1) 6 := by rw [nI_pred]; exact vp_in_nI (by omega) (by omega)
    have e1 : (nI (k + 1)).toNatClampNeg = k + 1 := nI_clamp (by omega)
    have e2 : (nI (k + 1) - 1).toNatClampNeg = k := by rw [nI_pred]; exact nI_clamp (by omega)
    refine br_f (nI_ge (by omega) (by omega)) ?_
    rw [e1, e2]
    exact ⟨h1, h2, nm_e ⟨h1, h2, nm_e ⟨h1, h2, nm_e ⟨h1, h2, nm_e ⟨h1, h2, nm_e ⟨h1, h2, nm_e ⟨h1, h2, nm_e (nm_r (nI_1 (k + 1)) (ih (k + 1) n _ _ _ _ _ _ _ (by omega) (by omega) K))⟩⟩⟩⟩⟩⟩⟩
theorem zd_Y {post : Int32 → SY → Prop} (hC : C ≤ 6) : ∀ (d k n : Nat) (aA aB aC aD aE aF aW : Nat → Int32), k + 1 + d = C → d < n →
    post (nI C - 1) ((nI M), (nI N), (nI C - 1), cc, ds, ls, ms, ft, sm, og, ig, (zd_f d k aA), (zd_f d k aB), (zd_f d k aC), (zd_f d k aD), (zd_f d k aE), (zd_f d k aF), (zd_w d k aW), mn, th, sp) → wY_drop_12 post (nI M) (nI N) (nI C) cc ds ls ms ft sm og ig n (nI k) aA aB aC aD aE aF aW mn th sp := by
  intro d
  induction d with
  | zero =>
    intro k n aA aB aC aD aE aF aW hd hn K
    obtain ⟨n, rfl⟩ : ∃ m, n = m + 1 := ⟨n - 1, by omega⟩
    refine br_t (by rw [nI_1]; exact nI_le (by omega) (by omega)) (nm_e K)
  | succ d ih =>
    intro k n aA aB aC aD aE aF aW hd hn K
    obtain ⟨n, rfl⟩ : ∃ m, n = m + 1 := ⟨n - 1, by omega⟩
    have h1 : vp_in (nI k + 1) 6 := by rw [nI_1]; exact vp_in_nI (by omega) (by omega)
    have h2 : vp_in (nI k) 6 := vp_in_nI (by omega) (by omega)
    have e1 : (nI k + 1).toNatClampNeg = k + 1 := by rw [nI_1]; exact nI_clamp (by omega)
    have e2 : (nI k).toNatClampNeg = k := nI_clamp (by omega)
    refine br_f (by rw [nI_1]; exact nI_ge (by omega) (by omega)) ?_
    rw [e1, e2]
    exact ⟨h1, h2, nm_e ⟨h1, h2, nm_e ⟨h1, h2, nm_e ⟨h1, h2, nm_e ⟨h1, h2, nm_e ⟨h1, h2, nm_e ⟨h1, h2, nm_e (nm_r (nI_1 k) (ih (k + 1) n _ _ _ _ _ _ _ (by omega) (by omega) K))⟩⟩⟩⟩⟩⟩⟩
end
/-! what the two histories' holders answer -/
theorem zq_len {T : Nat} {f : Nat → Nat → Bool} {r s : Nat} : ∀ (d t : Nat) (h : List (Nat × Nat)), (lc_hs T f r s t d h).length ≤ h.length + d * T := by
  intro d
  induction d with
  | zero => intro t h; rw [Nat.zero_mul]; exact Nat.le_refl _
  | succ d ih =>
    intro t h
    have e : lc_hs T f r s t (d + 1) h = lc_hs T f r s (t + 1) d ((lc_L (f t) T).foldl (lc_st r s t) h) := rfl
    rw [e, Nat.succ_mul]
    have h1 := ih (t + 1) ((lc_L (f t) T).foldl (lc_st r s t) h)
    have h2 := lc_st_len (r := r) (s := s) (t := t) (lc_L (f t) T) h
    have h3 := lc_Ll (f t) T
    omega
theorem zq_hist {T : Nat} {f : Nat → Nat → Nat → Nat → Bool} {aW : Nat → Int32} {r s : Nat} (hT : T ≤ 64) : (lc_hist T f aW r s).length < 2 ^ 30 := by
  unfold lc_hist
  by_cases c : aW r = 0 ∧ aW s = 0
  · rw [if_pos c, List.length_nil]; omega
  · rw [if_neg c]
    have h := zq_len (T := T) (f := fun t => f r t s) (r := r) (s := s) T 0 []
    have h2 : T * T ≤ 64 * 64 := Nat.mul_le_mul hT hT
    rw [List.length_nil] at h
    omega
theorem zq_ans {N : Nat} {h : List (Nat × Nat)} {cc ds ls ms ft og ig sm cc' ds' ls' ms' ft' og' ig' sm' : Int32} (hl : h.length < 2 ^ 30) (R : lc_RX N h cc ds ls ms ft og ig sm) (R' : lc_RY N h cc' ds' ls' ms' ft' og' ig' sm') : cc' = cc ∧ ds' = ds ∧ sm' = sm ∧ (cc = 0 → ls' = -2 ∧ ms' = -2 ∧ ft' = -2) ∧ (¬ cc = 0 → ls' = ls ∧ ms' = ms ∧ ft' = ft) := by
  obtain ⟨a1, a2, a3, a4⟩ := R
  obtain ⟨⟨b1, b2, b3, b4⟩, b5⟩ := R'
  refine ⟨b1.trans a1.symm, b2.trans a2.symm, b3.trans a3.symm, fun z => b5 ((lc_len0 hl).mp (a1.symm.trans z)), fun z => ?_⟩
  have hh : h ≠ [] := fun e => z (a1.trans ((lc_len0 hl).mpr e))
  obtain ⟨c1, c2, c3, _⟩ := a4 hh
  obtain ⟨d1, d2, d3, _⟩ := b4 hh
  exact ⟨d1.trans c1.symm, d2.trans c2.symm, d3.trans c3.symm⟩
end
section
/-! what is owed -/
theorem i_up {k : Nat} {u : SX} {v : SY} (h : i_Rel k u v) : i_Rel (k + 4) u v := h
theorem i_vc0 (k0 : Int32) (k1 : Int32) : wpX_init (fun u => wpY_init (fun v => i_Rel 2 u v) k0 k1) k0 k1 := by
  obtain ⟨M, m1, m2, hM⟩ := zi_cl k0
  obtain ⟨N, n1, n2, hN⟩ := zi_cl k1
  refine zi_X (M := M) (N := N) hM hN ?_
  refine zi_Y (M := M) (N := N) hM hN ?_
  exact zz_in (C := 0) (zi_0 m1 m2 n1 n2)
theorem i_vc_refer {k : Nat} {u : SX} {v : SY} (I : i_Rel k u v) (hk : k + 4 ≤ 2050) (v1 : Int32) (v2 : Int32) (v3 : Int32) : wpX_refer (fun r u' => wpY_refer (fun r' v' => r' = r ∧ i_Rel (k + 4) u' v') v v1 v2 v3) u v1 v2 v3 := by
  refine zz_el (P := fun u v => wpX_refer (fun r u' => wpY_refer (fun r' v' => r' = r ∧ i_Rel (k + 4) u' v') v v1 v2 v3) u v1 v2 v3) ?_ I
  intro M N C aA aB aC aD aE aF aW pp lv mn th sp fo cc ds ls ms ft og ig sm cc' ds' ls' ms' ft' og' ig' sm' ok
  by_cases h0 : zg_ok v1
  · by_cases h1 : zg_ok v2
    · by_cases hC : C < 6
      · refine zr_X h0 h1 hC ?_
        refine zr_Y h0 h1 hC ⟨rfl, zz_in (C := C + 1) ?_⟩
        obtain ⟨o1, o2, o3, o4, o5, b1, b2, b3, b4, b5, b6⟩ := ok
        obtain ⟨p1, p2, p3⟩ := zg_bd h0
        obtain ⟨q1, q2, q3⟩ := zg_bd h1
        exact ⟨o1, o2, o3, o4, by omega, lc_bd_upd b1 p1.1 p1.2, lc_bd_upd b2 p2.1 p2.2, lc_bd_upd b3 p3.1 p3.2, lc_bd_upd b4 q1.1 q1.2, lc_bd_upd b5 q2.1 q2.2, lc_bd_upd b6 q3.1 q3.2⟩
      · have h6 : C ≤ 6 := ok.2.2.2.2.1
        obtain rfl : C = 6 := by omega
        unfold wpX_refer
        refine zg_XF1 h0 (br_f (by decide) ?_)
        refine zg_XF1 h1 (br_f (by decide) (br_t rfl ?_))
        unfold wpY_refer
        refine zg_YF1 h0 (br_t rfl ?_)
        refine zg_YF1 h1 (br_t rfl (br_f (by decide) ⟨rfl, zz_in ok⟩))
    · unfold wpX_refer
      refine zg_XF1 h0 (br_f (by decide) ?_)
      refine zg_XF0 h1 (br_t rfl ?_)
      unfold wpY_refer
      refine zg_YF1 h0 (br_t rfl ?_)
      exact zg_YF0 h1 (br_f (by decide) ⟨rfl, zz_in ok⟩)
  · unfold wpX_refer
    refine zg_XF0 h0 (br_t rfl ?_)
    unfold wpY_refer
    exact zg_YF0 h0 (br_f (by decide) ⟨rfl, zz_in ok⟩)
theorem i_vc_drop {k : Nat} {u : SX} {v : SY} (I : i_Rel k u v) (hk : k + 4 ≤ 2050) (v1 : Int32) : wpX_drop (fun r u' => wpY_drop (fun r' v' => r' = r ∧ i_Rel (k + 4) u' v') v v1) u v1 := by
  refine zz_el (P := fun u v => wpX_drop (fun r u' => wpY_drop (fun r' v' => r' = r ∧ i_Rel (k + 4) u' v') v v1) u v1) ?_ I
  intro M N C aA aB aC aD aE aF aW pp lv mn th sp fo cc ds ls ms ft og ig sm cc' ds' ls' ms' ft' og' ig' sm' ok
  have hC : C ≤ 6 := ok.2.2.2.2.1
  rcases pk_ix v1 (n := C) (by omega) with h | h | ⟨r, hr, rfl⟩
  · unfold wpX_drop
    refine zg_X0 (Or.inl h) (br_t rfl ?_)
    unfold wpY_drop
    exact zg_Y0 (Or.inl h) (br_f (by decide) ⟨rfl, zz_in ok⟩)
  · unfold wpX_drop
    refine zg_X0 (Or.inr h) (br_t rfl ?_)
    unfold wpY_drop
    exact zg_Y0 (Or.inr h) (br_f (by decide) ⟨rfl, zz_in ok⟩)
  · unfold wpX_drop
    refine zg_X1 hC hr (br_f (by decide) (nm_r (nI_1 r) ⟨C - r, zd_X hC (C - r - 1) r (C - r) _ _ _ _ _ _ _ (by omega) (by omega) ?_⟩))
    unfold wpY_drop
    refine zg_Y1 hC hr (br_t rfl ⟨C - r, zd_Y hC (C - r - 1) r (C - r) _ _ _ _ _ _ _ (by omega) (by omega) ⟨rfl, ?_⟩⟩)
    obtain ⟨n, rfl⟩ : ∃ n, C = n + 1 := ⟨C - 1, by omega⟩
    rw [nI_pred]
    obtain ⟨o1, o2, o3, o4, o5, b1, b2, b3, b4, b5, b6⟩ := ok
    exact zz_in ⟨o1, o2, o3, o4, by omega, zd_bd _ _ _ b1, zd_bd _ _ _ b2, zd_bd _ _ _ b3, zd_bd _ _ _ b4, zd_bd _ _ _ b5, zd_bd _ _ _ b6⟩
theorem i_vc_mode {k : Nat} {u : SX} {v : SY} (I : i_Rel k u v) (hk : k + 4 ≤ 2050) (v1 : Int32) (v2 : Int32) : wpX_mode (fun r u' => wpY_mode (fun r' v' => r' = r ∧ i_Rel (k + 4) u' v') v v1 v2) u v1 v2 := by
  refine zz_el (P := fun u v => wpX_mode (fun r u' => wpY_mode (fun r' v' => r' = r ∧ i_Rel (k + 4) u' v') v v1 v2) u v1 v2) ?_ I
  intro M N C aA aB aC aD aE aF aW pp lv mn th sp fo cc ds ls ms ft og ig sm cc' ds' ls' ms' ft' og' ig' sm' ok
  have hC : C ≤ 6 := ok.2.2.2.2.1
  rcases pk_ix v1 (n := C) (by omega) with h | h | ⟨r, hr, rfl⟩
  · unfold wpX_mode
    refine zg_X0 (Or.inl h) (br_t rfl ?_)
    unfold wpY_mode
    exact zg_Y0 (Or.inl h) (br_f (by decide) ⟨rfl, zz_in ok⟩)
  · unfold wpX_mode
    refine zg_X0 (Or.inr h) (br_t rfl ?_)
    unfold wpY_mode
    exact zg_Y0 (Or.inr h) (br_f (by decide) ⟨rfl, zz_in ok⟩)
  · have hv : vp_in (nI r) 6 := vp_in_nI (by omega) (by omega)
    unfold wpX_mode
    refine zg_X1 hC hr (br_f (by decide) ⟨hv, ?_⟩)
    unfold wpY_mode
    by_cases w : aW (nI r).toNatClampNeg = 0
    · refine br_t w ?_
      by_cases z : v2 = 0
      · refine br_t z ⟨hv, nm_e ?_⟩
        exact zg_Y1 hC hr (br_t rfl ⟨hv, br_t w (br_t z ⟨hv, nm_e ⟨rfl, zz_in ok⟩⟩)⟩)
      · refine br_f z ⟨hv, nm_e ?_⟩
        exact zg_Y1 hC hr (br_t rfl ⟨hv, br_t w (br_f z ⟨hv, nm_e ⟨rfl, zz_in ok⟩⟩)⟩)
    · refine br_f w ?_
      by_cases z : v2 = 0
      · refine br_t z ⟨hv, nm_e ?_⟩
        exact zg_Y1 hC hr (br_t rfl ⟨hv, br_f w (br_t z ⟨hv, nm_e ⟨rfl, zz_in ok⟩⟩)⟩)
      · refine br_f z ⟨hv, nm_e ?_⟩
        exact zg_Y1 hC hr (br_t rfl ⟨hv, br_f w (br_f z ⟨hv, nm_e ⟨rfl, zz_in ok⟩⟩)⟩)
theorem i_vc_references {k : Nat} {u : SX} {v : SY} (I : i_Rel k u v) (hk : k + 4 ≤ 2050) : wpX_references (fun r => wpY_references (fun r' => r' = r ∧ i_Rel (k + 4) u v) v) u := by
  refine zz_el (P := fun u v => wpX_references (fun r => wpY_references (fun r' => r' = r ∧ i_Rel (k + 4) u v) v) u) ?_ I
  intro M N C aA aB aC aD aE aF aW pp lv mn th sp fo cc ds ls ms ft og ig sm cc' ds' ls' ms' ft' og' ig' sm' ok
  exact ⟨rfl, zz_in ok⟩
theorem i_vc_place {k : Nat} {u : SX} {v : SY} (I : i_Rel k u v) (hk : k + 4 ≤ 2050) (v1 : Int32) (v2 : Int32) : wpX_place (fun r => wpY_place (fun r' => r' = r ∧ i_Rel (k + 4) u v) v v1 v2) u v1 v2 := by
  refine zz_el (P := fun u v => wpX_place (fun r => wpY_place (fun r' => r' = r ∧ i_Rel (k + 4) u v) v v1 v2) u v1 v2) ?_ I
  intro M N C aA aB aC aD aE aF aW pp lv mn th sp fo cc ds ls ms ft og ig sm cc' ds' ls' ms' ft' og' ig' sm' ok
  have hC : C ≤ 6 := ok.2.2.2.2.1
  have h64 := lc_64 ok.2.1 ok.2.2.2.1
  rcases pk_ix v1 (n := C) (by omega) with h | h | ⟨r, hr, rfl⟩
  · unfold wpX_place
    refine zg_X0 (Or.inl h) (br_t rfl ?_)
    unfold wpY_place
    exact zg_Y0 (Or.inl h) (br_f (by decide) ⟨rfl, zz_in ok⟩)
  · unfold wpX_place
    refine zg_X0 (Or.inr h) (br_t rfl ?_)
    unfold wpY_place
    exact zg_Y0 (Or.inr h) (br_f (by decide) ⟨rfl, zz_in ok⟩)
  · unfold wpX_place
    refine zg_X1 hC hr (br_f (by decide) ?_)
    by_cases h0 : v2 < 0
    · refine br_t h0 ?_
      unfold wpY_place
      exact zg_Y1 hC hr (br_t rfl (br_t h0 ⟨rfl, zz_in ok⟩))
    · refine br_f h0 ?_
      obtain ⟨t, ht, rfl⟩ := nI_of h0
      by_cases h1 : t < M * N
      · have hlt : nI t < nI M * nI N := by rw [pk_mul]; exact nI_lt h1 (by omega)
        refine br_t hlt ?_
        refine xs_row (by omega) ok.2.2.1 ok.2.2.2.1 (by omega) ?_
        refine xs_col (by omega) ok.2.2.1 ok.2.2.2.1 (by omega) ?_
        unfold wpY_place
        refine zg_Y1 hC hr (br_t rfl (br_f h0 (br_t hlt ?_)))
        refine ys_spot (by omega) ok.2.2.1 ok.2.2.2.1 (by omega) ⟨?_, zz_in ok⟩
        unfold lc_sp
        rw [← ii_add, ← ii_mul]
        rfl
      · have hlt : ¬ nI t < nI M * nI N := by rw [pk_mul]; exact nI_nlt (by omega) ht
        refine br_f hlt ?_
        unfold wpY_place
        exact zg_Y1 hC hr (br_t rfl (br_f h0 (br_f hlt ⟨rfl, zz_in ok⟩)))
theorem i_vc_clashes {k : Nat} {u : SX} {v : SY} (I : i_Rel k u v) (hk : k + 4 ≤ 2050) (v1 : Int32) (v2 : Int32) : wpX_clashes (fun r u' => wpY_clashes (fun r' v' => r' = r ∧ i_Rel (k + 4) u' v') v v1 v2) u v1 v2 := by
  refine zz_el (P := fun u v => wpX_clashes (fun r u' => wpY_clashes (fun r' v' => r' = r ∧ i_Rel (k + 4) u' v') v v1 v2) u v1 v2) ?_ I
  intro M N C aA aB aC aD aE aF aW pp lv mn th sp fo cc ds ls ms ft og ig sm cc' ds' ls' ms' ft' og' ig' sm' ok
  have hC : C ≤ 6 := ok.2.2.2.2.1
  have h64 := lc_64 ok.2.1 ok.2.2.2.1
  have bad1 : v1 < 0 ∨ nI C ≤ v1 → wpX_clashes (fun r u' => wpY_clashes (fun r' v' => r' = r ∧ i_Rel (k + 4) u' v') ((nI M), (nI N), (nI C), cc', ds', ls', ms', ft', sm', og', ig', aA, aB, aC, aD, aE, aF, aW, mn, th, sp) v1 v2) ((nI M), (nI N), (nI C), fo, cc, ds, ls, ms, ft, og, ig, sm, aA, aB, aC, aD, aE, aF, aW, pp, lv) v1 v2 := by
    intro h
    unfold wpX_clashes
    refine zg_X0 h (br_t rfl ?_)
    unfold wpY_clashes
    exact zg_Y0 h (br_f (by decide) ⟨rfl, zz_in ok⟩)
  rcases pk_ix v1 (n := C) (by omega) with h | h | ⟨r, hr, e⟩
  · exact bad1 (Or.inl h)
  · exact bad1 (Or.inr h)
  · clear bad1
    have bad2 : v2 < 0 ∨ nI C ≤ v2 → wpX_clashes (fun r u' => wpY_clashes (fun r' v' => r' = r ∧ i_Rel (k + 4) u' v') ((nI M), (nI N), (nI C), cc', ds', ls', ms', ft', sm', og', ig', aA, aB, aC, aD, aE, aF, aW, mn, th, sp) v1 v2) ((nI M), (nI N), (nI C), fo, cc, ds, ls, ms, ft, og, ig, sm, aA, aB, aC, aD, aE, aF, aW, pp, lv) v1 v2 := by
      intro h
      subst e
      unfold wpX_clashes
      refine zg_X1 hC hr (br_f (by decide) ?_)
      refine zg_X0 h (br_t rfl ?_)
      unfold wpY_clashes
      refine zg_Y1 hC hr (br_t rfl ?_)
      exact zg_Y0 h (br_f (by decide) ⟨rfl, zz_in ok⟩)
    rcases pk_ix v2 (n := C) (by omega) with h | h | ⟨s, hs, e2⟩
    · exact bad2 (Or.inl h)
    · exact bad2 (Or.inr h)
    · clear bad2
      subst e e2
      have hl := zq_hist (T := M * N) (f := lc_f N aA aB aC aD aE aF) (aW := aW) (r := r) (s := s) h64
      unfold wpX_clashes
      refine zg_X1 hC hr (br_f (by decide) ?_)
      refine zg_X1 hC hs (br_f (by decide) ?_)
      refine xg_gather ok (by omega) (by omega) ?_
      intro fo1 pp1 cc1 ds1 ls1 ms1 ft1 og1 ig1 sm1 R1
      unfold wpY_clashes
      refine zg_Y1 hC hr (br_t rfl ?_)
      refine zg_Y1 hC hs (br_t rfl ?_)
      refine yc_compare ok (by omega) (by omega) ?_
      intro mn2 th2 cc2 ds2 ls2 ms2 ft2 og2 ig2 sm2 R2
      obtain ⟨q1, q2, q3, q4, q5⟩ := zq_ans hl R1 R2
      exact ⟨q1, zz_in ok⟩
theorem i_vc_directions {k : Nat} {u : SX} {v : SY} (I : i_Rel k u v) (hk : k + 4 ≤ 2050) (v1 : Int32) (v2 : Int32) : wpX_directions (fun r u' => wpY_directions (fun r' v' => r' = r ∧ i_Rel (k + 4) u' v') v v1 v2) u v1 v2 := by
  refine zz_el (P := fun u v => wpX_directions (fun r u' => wpY_directions (fun r' v' => r' = r ∧ i_Rel (k + 4) u' v') v v1 v2) u v1 v2) ?_ I
  intro M N C aA aB aC aD aE aF aW pp lv mn th sp fo cc ds ls ms ft og ig sm cc' ds' ls' ms' ft' og' ig' sm' ok
  have hC : C ≤ 6 := ok.2.2.2.2.1
  have h64 := lc_64 ok.2.1 ok.2.2.2.1
  have bad1 : v1 < 0 ∨ nI C ≤ v1 → wpX_directions (fun r u' => wpY_directions (fun r' v' => r' = r ∧ i_Rel (k + 4) u' v') ((nI M), (nI N), (nI C), cc', ds', ls', ms', ft', sm', og', ig', aA, aB, aC, aD, aE, aF, aW, mn, th, sp) v1 v2) ((nI M), (nI N), (nI C), fo, cc, ds, ls, ms, ft, og, ig, sm, aA, aB, aC, aD, aE, aF, aW, pp, lv) v1 v2 := by
    intro h
    unfold wpX_directions
    refine zg_X0 h (br_t rfl ?_)
    unfold wpY_directions
    exact zg_Y0 h (br_f (by decide) ⟨rfl, zz_in ok⟩)
  rcases pk_ix v1 (n := C) (by omega) with h | h | ⟨r, hr, e⟩
  · exact bad1 (Or.inl h)
  · exact bad1 (Or.inr h)
  · clear bad1
    have bad2 : v2 < 0 ∨ nI C ≤ v2 → wpX_directions (fun r u' => wpY_directions (fun r' v' => r' = r ∧ i_Rel (k + 4) u' v') ((nI M), (nI N), (nI C), cc', ds', ls', ms', ft', sm', og', ig', aA, aB, aC, aD, aE, aF, aW, mn, th, sp) v1 v2) ((nI M), (nI N), (nI C), fo, cc, ds, ls, ms, ft, og, ig, sm, aA, aB, aC, aD, aE, aF, aW, pp, lv) v1 v2 := by
      intro h
      subst e
      unfold wpX_directions
      refine zg_X1 hC hr (br_f (by decide) ?_)
      refine zg_X0 h (br_t rfl ?_)
      unfold wpY_directions
      refine zg_Y1 hC hr (br_t rfl ?_)
      exact zg_Y0 h (br_f (by decide) ⟨rfl, zz_in ok⟩)
    rcases pk_ix v2 (n := C) (by omega) with h | h | ⟨s, hs, e2⟩
    · exact bad2 (Or.inl h)
    · exact bad2 (Or.inr h)
    · clear bad2
      subst e e2
      have hl := zq_hist (T := M * N) (f := lc_f N aA aB aC aD aE aF) (aW := aW) (r := r) (s := s) h64
      unfold wpX_directions
      refine zg_X1 hC hr (br_f (by decide) ?_)
      refine zg_X1 hC hs (br_f (by decide) ?_)
      refine xg_gather ok (by omega) (by omega) ?_
      intro fo1 pp1 cc1 ds1 ls1 ms1 ft1 og1 ig1 sm1 R1
      unfold wpY_directions
      refine zg_Y1 hC hr (br_t rfl ?_)
      refine zg_Y1 hC hs (br_t rfl ?_)
      refine yc_compare ok (by omega) (by omega) ?_
      intro mn2 th2 cc2 ds2 ls2 ms2 ft2 og2 ig2 sm2 R2
      obtain ⟨q1, q2, q3, q4, q5⟩ := zq_ans hl R1 R2
      exact ⟨q2, zz_in ok⟩
theorem i_vc_nearest {k : Nat} {u : SX} {v : SY} (I : i_Rel k u v) (hk : k + 4 ≤ 2050) (v1 : Int32) (v2 : Int32) : wpX_nearest (fun r u' => wpY_nearest (fun r' v' => r' = r ∧ i_Rel (k + 4) u' v') v v1 v2) u v1 v2 := by
  refine zz_el (P := fun u v => wpX_nearest (fun r u' => wpY_nearest (fun r' v' => r' = r ∧ i_Rel (k + 4) u' v') v v1 v2) u v1 v2) ?_ I
  intro M N C aA aB aC aD aE aF aW pp lv mn th sp fo cc ds ls ms ft og ig sm cc' ds' ls' ms' ft' og' ig' sm' ok
  have hC : C ≤ 6 := ok.2.2.2.2.1
  have h64 := lc_64 ok.2.1 ok.2.2.2.1
  have bad1 : v1 < 0 ∨ nI C ≤ v1 → wpX_nearest (fun r u' => wpY_nearest (fun r' v' => r' = r ∧ i_Rel (k + 4) u' v') ((nI M), (nI N), (nI C), cc', ds', ls', ms', ft', sm', og', ig', aA, aB, aC, aD, aE, aF, aW, mn, th, sp) v1 v2) ((nI M), (nI N), (nI C), fo, cc, ds, ls, ms, ft, og, ig, sm, aA, aB, aC, aD, aE, aF, aW, pp, lv) v1 v2 := by
    intro h
    unfold wpX_nearest
    refine zg_X0 h (br_t rfl ?_)
    unfold wpY_nearest
    exact zg_Y0 h (br_f (by decide) ⟨rfl, zz_in ok⟩)
  rcases pk_ix v1 (n := C) (by omega) with h | h | ⟨r, hr, e⟩
  · exact bad1 (Or.inl h)
  · exact bad1 (Or.inr h)
  · clear bad1
    have bad2 : v2 < 0 ∨ nI C ≤ v2 → wpX_nearest (fun r u' => wpY_nearest (fun r' v' => r' = r ∧ i_Rel (k + 4) u' v') ((nI M), (nI N), (nI C), cc', ds', ls', ms', ft', sm', og', ig', aA, aB, aC, aD, aE, aF, aW, mn, th, sp) v1 v2) ((nI M), (nI N), (nI C), fo, cc, ds, ls, ms, ft, og, ig, sm, aA, aB, aC, aD, aE, aF, aW, pp, lv) v1 v2 := by
      intro h
      subst e
      unfold wpX_nearest
      refine zg_X1 hC hr (br_f (by decide) ?_)
      refine zg_X0 h (br_t rfl ?_)
      unfold wpY_nearest
      refine zg_Y1 hC hr (br_t rfl ?_)
      exact zg_Y0 h (br_f (by decide) ⟨rfl, zz_in ok⟩)
    rcases pk_ix v2 (n := C) (by omega) with h | h | ⟨s, hs, e2⟩
    · exact bad2 (Or.inl h)
    · exact bad2 (Or.inr h)
    · clear bad2
      subst e e2
      have hl := zq_hist (T := M * N) (f := lc_f N aA aB aC aD aE aF) (aW := aW) (r := r) (s := s) h64
      unfold wpX_nearest
      refine zg_X1 hC hr (br_f (by decide) ?_)
      refine zg_X1 hC hs (br_f (by decide) ?_)
      refine xg_gather ok (by omega) (by omega) ?_
      intro fo1 pp1 cc1 ds1 ls1 ms1 ft1 og1 ig1 sm1 R1
      by_cases hc : cc1 = 0
      · refine br_t hc ?_
        unfold wpY_nearest
        refine zg_Y1 hC hr (br_t rfl ?_)
        refine zg_Y1 hC hs (br_t rfl ?_)
        refine yc_compare ok (by omega) (by omega) ?_
        intro mn2 th2 cc2 ds2 ls2 ms2 ft2 og2 ig2 sm2 R2
        obtain ⟨q1, q2, q3, q4, q5⟩ := zq_ans hl R1 R2
        exact ⟨(q4 hc).1, zz_in ok⟩
      · refine br_f hc ?_
        unfold wpY_nearest
        refine zg_Y1 hC hr (br_t rfl ?_)
        refine zg_Y1 hC hs (br_t rfl ?_)
        refine yc_compare ok (by omega) (by omega) ?_
        intro mn2 th2 cc2 ds2 ls2 ms2 ft2 og2 ig2 sm2 R2
        obtain ⟨q1, q2, q3, q4, q5⟩ := zq_ans hl R1 R2
        exact ⟨(q5 hc).1, zz_in ok⟩
theorem i_vc_farthest {k : Nat} {u : SX} {v : SY} (I : i_Rel k u v) (hk : k + 4 ≤ 2050) (v1 : Int32) (v2 : Int32) : wpX_farthest (fun r u' => wpY_farthest (fun r' v' => r' = r ∧ i_Rel (k + 4) u' v') v v1 v2) u v1 v2 := by
  refine zz_el (P := fun u v => wpX_farthest (fun r u' => wpY_farthest (fun r' v' => r' = r ∧ i_Rel (k + 4) u' v') v v1 v2) u v1 v2) ?_ I
  intro M N C aA aB aC aD aE aF aW pp lv mn th sp fo cc ds ls ms ft og ig sm cc' ds' ls' ms' ft' og' ig' sm' ok
  have hC : C ≤ 6 := ok.2.2.2.2.1
  have h64 := lc_64 ok.2.1 ok.2.2.2.1
  have bad1 : v1 < 0 ∨ nI C ≤ v1 → wpX_farthest (fun r u' => wpY_farthest (fun r' v' => r' = r ∧ i_Rel (k + 4) u' v') ((nI M), (nI N), (nI C), cc', ds', ls', ms', ft', sm', og', ig', aA, aB, aC, aD, aE, aF, aW, mn, th, sp) v1 v2) ((nI M), (nI N), (nI C), fo, cc, ds, ls, ms, ft, og, ig, sm, aA, aB, aC, aD, aE, aF, aW, pp, lv) v1 v2 := by
    intro h
    unfold wpX_farthest
    refine zg_X0 h (br_t rfl ?_)
    unfold wpY_farthest
    exact zg_Y0 h (br_f (by decide) ⟨rfl, zz_in ok⟩)
  rcases pk_ix v1 (n := C) (by omega) with h | h | ⟨r, hr, e⟩
  · exact bad1 (Or.inl h)
  · exact bad1 (Or.inr h)
  · clear bad1
    have bad2 : v2 < 0 ∨ nI C ≤ v2 → wpX_farthest (fun r u' => wpY_farthest (fun r' v' => r' = r ∧ i_Rel (k + 4) u' v') ((nI M), (nI N), (nI C), cc', ds', ls', ms', ft', sm', og', ig', aA, aB, aC, aD, aE, aF, aW, mn, th, sp) v1 v2) ((nI M), (nI N), (nI C), fo, cc, ds, ls, ms, ft, og, ig, sm, aA, aB, aC, aD, aE, aF, aW, pp, lv) v1 v2 := by
      intro h
      subst e
      unfold wpX_farthest
      refine zg_X1 hC hr (br_f (by decide) ?_)
      refine zg_X0 h (br_t rfl ?_)
      unfold wpY_farthest
      refine zg_Y1 hC hr (br_t rfl ?_)
      exact zg_Y0 h (br_f (by decide) ⟨rfl, zz_in ok⟩)
    rcases pk_ix v2 (n := C) (by omega) with h | h | ⟨s, hs, e2⟩
    · exact bad2 (Or.inl h)
    · exact bad2 (Or.inr h)
    · clear bad2
      subst e e2
      have hl := zq_hist (T := M * N) (f := lc_f N aA aB aC aD aE aF) (aW := aW) (r := r) (s := s) h64
      unfold wpX_farthest
      refine zg_X1 hC hr (br_f (by decide) ?_)
      refine zg_X1 hC hs (br_f (by decide) ?_)
      refine xg_gather ok (by omega) (by omega) ?_
      intro fo1 pp1 cc1 ds1 ls1 ms1 ft1 og1 ig1 sm1 R1
      by_cases hc : cc1 = 0
      · refine br_t hc ?_
        unfold wpY_farthest
        refine zg_Y1 hC hr (br_t rfl ?_)
        refine zg_Y1 hC hs (br_t rfl ?_)
        refine yc_compare ok (by omega) (by omega) ?_
        intro mn2 th2 cc2 ds2 ls2 ms2 ft2 og2 ig2 sm2 R2
        obtain ⟨q1, q2, q3, q4, q5⟩ := zq_ans hl R1 R2
        exact ⟨(q4 hc).2.1, zz_in ok⟩
      · refine br_f hc ?_
        unfold wpY_farthest
        refine zg_Y1 hC hr (br_t rfl ?_)
        refine zg_Y1 hC hs (br_t rfl ?_)
        refine yc_compare ok (by omega) (by omega) ?_
        intro mn2 th2 cc2 ds2 ls2 ms2 ft2 og2 ig2 sm2 R2
        obtain ⟨q1, q2, q3, q4, q5⟩ := zq_ans hl R1 R2
        exact ⟨(q5 hc).2.1, zz_in ok⟩
theorem i_vc_first {k : Nat} {u : SX} {v : SY} (I : i_Rel k u v) (hk : k + 4 ≤ 2050) (v1 : Int32) (v2 : Int32) : wpX_first (fun r u' => wpY_first (fun r' v' => r' = r ∧ i_Rel (k + 4) u' v') v v1 v2) u v1 v2 := by
  refine zz_el (P := fun u v => wpX_first (fun r u' => wpY_first (fun r' v' => r' = r ∧ i_Rel (k + 4) u' v') v v1 v2) u v1 v2) ?_ I
  intro M N C aA aB aC aD aE aF aW pp lv mn th sp fo cc ds ls ms ft og ig sm cc' ds' ls' ms' ft' og' ig' sm' ok
  have hC : C ≤ 6 := ok.2.2.2.2.1
  have h64 := lc_64 ok.2.1 ok.2.2.2.1
  have bad1 : v1 < 0 ∨ nI C ≤ v1 → wpX_first (fun r u' => wpY_first (fun r' v' => r' = r ∧ i_Rel (k + 4) u' v') ((nI M), (nI N), (nI C), cc', ds', ls', ms', ft', sm', og', ig', aA, aB, aC, aD, aE, aF, aW, mn, th, sp) v1 v2) ((nI M), (nI N), (nI C), fo, cc, ds, ls, ms, ft, og, ig, sm, aA, aB, aC, aD, aE, aF, aW, pp, lv) v1 v2 := by
    intro h
    unfold wpX_first
    refine zg_X0 h (br_t rfl ?_)
    unfold wpY_first
    exact zg_Y0 h (br_f (by decide) ⟨rfl, zz_in ok⟩)
  rcases pk_ix v1 (n := C) (by omega) with h | h | ⟨r, hr, e⟩
  · exact bad1 (Or.inl h)
  · exact bad1 (Or.inr h)
  · clear bad1
    have bad2 : v2 < 0 ∨ nI C ≤ v2 → wpX_first (fun r u' => wpY_first (fun r' v' => r' = r ∧ i_Rel (k + 4) u' v') ((nI M), (nI N), (nI C), cc', ds', ls', ms', ft', sm', og', ig', aA, aB, aC, aD, aE, aF, aW, mn, th, sp) v1 v2) ((nI M), (nI N), (nI C), fo, cc, ds, ls, ms, ft, og, ig, sm, aA, aB, aC, aD, aE, aF, aW, pp, lv) v1 v2 := by
      intro h
      subst e
      unfold wpX_first
      refine zg_X1 hC hr (br_f (by decide) ?_)
      refine zg_X0 h (br_t rfl ?_)
      unfold wpY_first
      refine zg_Y1 hC hr (br_t rfl ?_)
      exact zg_Y0 h (br_f (by decide) ⟨rfl, zz_in ok⟩)
    rcases pk_ix v2 (n := C) (by omega) with h | h | ⟨s, hs, e2⟩
    · exact bad2 (Or.inl h)
    · exact bad2 (Or.inr h)
    · clear bad2
      subst e e2
      have hl := zq_hist (T := M * N) (f := lc_f N aA aB aC aD aE aF) (aW := aW) (r := r) (s := s) h64
      unfold wpX_first
      refine zg_X1 hC hr (br_f (by decide) ?_)
      refine zg_X1 hC hs (br_f (by decide) ?_)
      refine xg_gather ok (by omega) (by omega) ?_
      intro fo1 pp1 cc1 ds1 ls1 ms1 ft1 og1 ig1 sm1 R1
      by_cases hc : cc1 = 0
      · refine br_t hc ?_
        unfold wpY_first
        refine zg_Y1 hC hr (br_t rfl ?_)
        refine zg_Y1 hC hs (br_t rfl ?_)
        refine yc_compare ok (by omega) (by omega) ?_
        intro mn2 th2 cc2 ds2 ls2 ms2 ft2 og2 ig2 sm2 R2
        obtain ⟨q1, q2, q3, q4, q5⟩ := zq_ans hl R1 R2
        exact ⟨(q4 hc).2.2, zz_in ok⟩
      · refine br_f hc ?_
        unfold wpY_first
        refine zg_Y1 hC hr (br_t rfl ?_)
        refine zg_Y1 hC hs (br_t rfl ?_)
        refine yc_compare ok (by omega) (by omega) ?_
        intro mn2 th2 cc2 ds2 ls2 ms2 ft2 og2 ig2 sm2 R2
        obtain ⟨q1, q2, q3, q4, q5⟩ := zq_ans hl R1 R2
        exact ⟨(q5 hc).2.2, zz_in ok⟩
theorem i_vc_uniform {k : Nat} {u : SX} {v : SY} (I : i_Rel k u v) (hk : k + 4 ≤ 2050) (v1 : Int32) (v2 : Int32) : wpX_uniform (fun r u' => wpY_uniform (fun r' v' => r' = r ∧ i_Rel (k + 4) u' v') v v1 v2) u v1 v2 := by
  refine zz_el (P := fun u v => wpX_uniform (fun r u' => wpY_uniform (fun r' v' => r' = r ∧ i_Rel (k + 4) u' v') v v1 v2) u v1 v2) ?_ I
  intro M N C aA aB aC aD aE aF aW pp lv mn th sp fo cc ds ls ms ft og ig sm cc' ds' ls' ms' ft' og' ig' sm' ok
  have hC : C ≤ 6 := ok.2.2.2.2.1
  have h64 := lc_64 ok.2.1 ok.2.2.2.1
  have bad1 : v1 < 0 ∨ nI C ≤ v1 → wpX_uniform (fun r u' => wpY_uniform (fun r' v' => r' = r ∧ i_Rel (k + 4) u' v') ((nI M), (nI N), (nI C), cc', ds', ls', ms', ft', sm', og', ig', aA, aB, aC, aD, aE, aF, aW, mn, th, sp) v1 v2) ((nI M), (nI N), (nI C), fo, cc, ds, ls, ms, ft, og, ig, sm, aA, aB, aC, aD, aE, aF, aW, pp, lv) v1 v2 := by
    intro h
    unfold wpX_uniform
    refine zg_X0 h (br_t rfl ?_)
    unfold wpY_uniform
    exact zg_Y0 h (br_f (by decide) ⟨rfl, zz_in ok⟩)
  rcases pk_ix v1 (n := C) (by omega) with h | h | ⟨r, hr, e⟩
  · exact bad1 (Or.inl h)
  · exact bad1 (Or.inr h)
  · clear bad1
    have bad2 : v2 < 0 ∨ nI C ≤ v2 → wpX_uniform (fun r u' => wpY_uniform (fun r' v' => r' = r ∧ i_Rel (k + 4) u' v') ((nI M), (nI N), (nI C), cc', ds', ls', ms', ft', sm', og', ig', aA, aB, aC, aD, aE, aF, aW, mn, th, sp) v1 v2) ((nI M), (nI N), (nI C), fo, cc, ds, ls, ms, ft, og, ig, sm, aA, aB, aC, aD, aE, aF, aW, pp, lv) v1 v2 := by
      intro h
      subst e
      unfold wpX_uniform
      refine zg_X1 hC hr (br_f (by decide) ?_)
      refine zg_X0 h (br_t rfl ?_)
      unfold wpY_uniform
      refine zg_Y1 hC hr (br_t rfl ?_)
      exact zg_Y0 h (br_f (by decide) ⟨rfl, zz_in ok⟩)
    rcases pk_ix v2 (n := C) (by omega) with h | h | ⟨s, hs, e2⟩
    · exact bad2 (Or.inl h)
    · exact bad2 (Or.inr h)
    · clear bad2
      subst e e2
      have hl := zq_hist (T := M * N) (f := lc_f N aA aB aC aD aE aF) (aW := aW) (r := r) (s := s) h64
      unfold wpX_uniform
      refine zg_X1 hC hr (br_f (by decide) ?_)
      refine zg_X1 hC hs (br_f (by decide) ?_)
      refine xg_gather ok (by omega) (by omega) ?_
      intro fo1 pp1 cc1 ds1 ls1 ms1 ft1 og1 ig1 sm1 R1
      by_cases hc : sm1 = 0
      · refine br_t hc ?_
        unfold wpY_uniform
        refine zg_Y1 hC hr (br_t rfl ?_)
        refine zg_Y1 hC hs (br_t rfl ?_)
        refine yc_compare ok (by omega) (by omega) ?_
        intro mn2 th2 cc2 ds2 ls2 ms2 ft2 og2 ig2 sm2 R2
        obtain ⟨q1, q2, q3, q4, q5⟩ := zq_ans hl R1 R2
        exact br_t (q3.trans hc) ⟨rfl, zz_in ok⟩
      · refine br_f hc ?_
        unfold wpY_uniform
        refine zg_Y1 hC hr (br_t rfl ?_)
        refine zg_Y1 hC hs (br_t rfl ?_)
        refine yc_compare ok (by omega) (by omega) ?_
        intro mn2 th2 cc2 ds2 ls2 ms2 ft2 og2 ig2 sm2 R2
        obtain ⟨q1, q2, q3, q4, q5⟩ := zq_ans hl R1 R2
        exact br_f (fun z => hc (q3.symm.trans z)) ⟨rfl, zz_in ok⟩
theorem i_vc_outerFree {k : Nat} {u : SX} {v : SY} (I : i_Rel k u v) (hk : k + 4 ≤ 2050) : wpX_outerFree (fun r u' => wpY_outerFree (fun r' v' => r' = r ∧ i_Rel (k + 4) u' v') v) u := by
  refine zz_el (P := fun u v => wpX_outerFree (fun r u' => wpY_outerFree (fun r' v' => r' = r ∧ i_Rel (k + 4) u' v') v) u) ?_ I
  intro M N C aA aB aC aD aE aF aW pp lv mn th sp fo cc ds ls ms ft og ig sm cc' ds' ls' ms' ft' og' ig' sm' ok
  have hD : ∀ r s, ∃ q, q < 512 ∧ lc_D M N aA aB aC aD aE aF aW r s = nI q := fun r s => lc_dS512 N _
  obtain ⟨q, hq, eq⟩ := lc_Q512 (C := C) hD (C * C)
  unfold wpX_outerFree
  refine xd_all ok ?_
  intro fo1 pp1 cc1 ds1 ls1 ms1 ft1 og1 ig1 sm1
  by_cases hc : (lc_Q (lc_D M N aA aB aC aD aE aF aW) C (C * C) >>> ((3 : Int32) &&& 31)) = 0
  · refine br_t hc ?_
    unfold wpY_outerFree
    refine yd_all ok ?_
    intro mn2 th2 cc2 ds2 ls2 ms2 ft2 og2 ig2 sm2
    exact br_f (by rw [eq] at hc ⊢; exact (lc_b1 q hq).mp hc) ⟨rfl, zz_in ok⟩
  · refine br_f hc ?_
    unfold wpY_outerFree
    refine yd_all ok ?_
    intro mn2 th2 cc2 ds2 ls2 ms2 ft2 og2 ig2 sm2
    exact br_t (by rw [eq] at hc ⊢; exact Decidable.not_not.mp (fun z => hc ((lc_b1 q hq).mpr z))) ⟨rfl, zz_in ok⟩
theorem i_vc_innerFree {k : Nat} {u : SX} {v : SY} (I : i_Rel k u v) (hk : k + 4 ≤ 2050) : wpX_innerFree (fun r u' => wpY_innerFree (fun r' v' => r' = r ∧ i_Rel (k + 4) u' v') v) u := by
  refine zz_el (P := fun u v => wpX_innerFree (fun r u' => wpY_innerFree (fun r' v' => r' = r ∧ i_Rel (k + 4) u' v') v) u) ?_ I
  intro M N C aA aB aC aD aE aF aW pp lv mn th sp fo cc ds ls ms ft og ig sm cc' ds' ls' ms' ft' og' ig' sm' ok
  have hD : ∀ r s, ∃ q, q < 512 ∧ lc_D M N aA aB aC aD aE aF aW r s = nI q := fun r s => lc_dS512 N _
  obtain ⟨q, hq, eq⟩ := lc_Q512 (C := C) hD (C * C)
  unfold wpX_innerFree
  refine xd_all ok ?_
  intro fo1 pp1 cc1 ds1 ls1 ms1 ft1 og1 ig1 sm1
  by_cases hc : (lc_Q (lc_D M N aA aB aC aD aE aF aW) C (C * C) &&& 6) = 0
  · refine br_t hc ?_
    unfold wpY_innerFree
    refine yd_all ok ?_
    intro mn2 th2 cc2 ds2 ls2 ms2 ft2 og2 ig2 sm2
    exact br_t hc ⟨rfl, zz_in ok⟩
  · refine br_f hc ?_
    unfold wpY_innerFree
    refine yd_all ok ?_
    intro mn2 th2 cc2 ds2 ls2 ms2 ft2 og2 ig2 sm2
    exact br_f hc ⟨rfl, zz_in ok⟩
theorem i_vc_exchangeable {k : Nat} {u : SX} {v : SY} (I : i_Rel k u v) (hk : k + 4 ≤ 2050) : wpX_exchangeable (fun r u' => wpY_exchangeable (fun r' v' => r' = r ∧ i_Rel (k + 4) u' v') v) u := by
  refine zz_el (P := fun u v => wpX_exchangeable (fun r u' => wpY_exchangeable (fun r' v' => r' = r ∧ i_Rel (k + 4) u' v') v) u) ?_ I
  intro M N C aA aB aC aD aE aF aW pp lv mn th sp fo cc ds ls ms ft og ig sm cc' ds' ls' ms' ft' og' ig' sm' ok
  have hD : ∀ r s, ∃ q, q < 512 ∧ lc_D M N aA aB aC aD aE aF aW r s = nI q := fun r s => lc_dS512 N _
  obtain ⟨q, hq, eq⟩ := lc_Q512 (C := C) hD (C * C)
  unfold wpX_exchangeable
  refine xd_all ok ?_
  intro fo1 pp1 cc1 ds1 ls1 ms1 ft1 og1 ig1 sm1
  by_cases hc : ((lc_Q (lc_D M N aA aB aC aD aE aF aW) C (C * C) >>> ((5 : Int32) &&& 31)) &&& 1) = 0
  · refine br_t hc ?_
    unfold wpY_exchangeable
    refine yd_all ok ?_
    intro mn2 th2 cc2 ds2 ls2 ms2 ft2 og2 ig2 sm2
    exact br_t (by rw [eq] at hc ⊢; exact (lc_b2 q hq).mp hc) ⟨rfl, zz_in ok⟩
  · refine br_f hc ?_
    unfold wpY_exchangeable
    refine yd_all ok ?_
    intro mn2 th2 cc2 ds2 ls2 ms2 ft2 og2 ig2 sm2
    exact br_f (by rw [eq] at hc ⊢; exact (fun z => hc ((lc_b2 q hq).mpr z))) ⟨rfl, zz_in ok⟩
theorem i_vc_footprint {k : Nat} {u : SX} {v : SY} (I : i_Rel k u v) (hk : k + 4 ≤ 2050) (v1 : Int32) : wpX_footprint (fun r u' => wpY_footprint (fun r' v' => r' = r ∧ i_Rel (k + 4) u' v') v v1) u v1 := by
  refine zz_el (P := fun u v => wpX_footprint (fun r u' => wpY_footprint (fun r' v' => r' = r ∧ i_Rel (k + 4) u' v') v v1) u v1) ?_ I
  intro M N C aA aB aC aD aE aF aW pp lv mn th sp fo cc ds ls ms ft og ig sm cc' ds' ls' ms' ft' og' ig' sm' ok
  have hC : C ≤ 6 := ok.2.2.2.2.1
  rcases pk_ix v1 (n := C) (by omega) with h | h | ⟨r, hr, rfl⟩
  · unfold wpX_footprint
    refine zg_X0 (Or.inl h) (br_t rfl ?_)
    unfold wpY_footprint
    exact zg_Y0 (Or.inl h) (br_f (by decide) ⟨rfl, zz_in ok⟩)
  · unfold wpX_footprint
    refine zg_X0 (Or.inr h) (br_t rfl ?_)
    unfold wpY_footprint
    exact zg_Y0 (Or.inr h) (br_f (by decide) ⟨rfl, zz_in ok⟩)
  · unfold wpX_footprint
    refine zg_X1 hC hr (br_f (by decide) ⟨M * N + 1, xf_14 ok (by omega) ?_ (M * N) 0 (M * N + 1) fo pp (by omega) (by omega)⟩)
    intro fo1 pp1
    unfold wpY_footprint
    refine zg_Y1 hC hr (br_t rfl (nm_r (pk_mul M N) ⟨M * N + 1, yf_25 ok (by omega) ?_ (M * N) 0 (M * N + 1) mn (by omega) (by omega) (fun j hj => absurd hj (by omega))⟩))
    intro mn1
    exact ⟨rfl, zz_in ok⟩
theorem i_vc_depth {k : Nat} {u : SX} {v : SY} (I : i_Rel k u v) (hk : k + 4 ≤ 2050) : wpX_depth (fun r u' => wpY_depth (fun r' v' => r' = r ∧ i_Rel (k + 4) u' v') v) u := by
  refine zz_el (P := fun u v => wpX_depth (fun r u' => wpY_depth (fun r' v' => r' = r ∧ i_Rel (k + 4) u' v') v) u) ?_ I
  intro M N C aA aB aC aD aE aF aW pp lv mn th sp fo cc ds ls ms ft og ig sm cc' ds' ls' ms' ft' og' ig' sm' ok
  refine xt_depth ok ?_
  intro fo1 pp1 lv1
  refine yt_depth ok ?_
  intro sp1
  exact ⟨rfl, zz_in ok⟩
end
