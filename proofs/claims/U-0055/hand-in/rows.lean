section
/-! pure rows to paste: stores, nI and lN arithmetic, masks, shifts, narrowing, branches by naturals (pk_le, pk_lt, pk_eq), loops (lp1 .. lp16: the measure of the state; rp1 ..: recursion), negatives. Take what you need -/
theorem pk_us {f : Nat → Int32} {k : Nat} {x : Int32} : upd f k x k = x := if_pos rfl
theorem pk_un {f : Nat → Int32} {k j : Nat} {x : Int32} (h : j ≠ k) : upd f k x j = f j := if_neg h
theorem pk_uLs {f : Nat → Int64} {k : Nat} {x : Int64} : vp_updL f k x k = x := if_pos rfl
theorem pk_uLn {f : Nat → Int64} {k j : Nat} {x : Int64} (h : j ≠ k) : vp_updL f k x j = f j := if_neg h
theorem pk_sub {a b : Nat} (h : b ≤ a) : nI a - nI b = nI (a - b) := by
  obtain ⟨c, rfl⟩ : ∃ c, a = c + b := ⟨a - b, by omega⟩
  rw [← nI_add, Int32.add_sub_cancel, Nat.add_sub_cancel]
theorem pk_m1 (n : Nat) : nI (n + 1) + (-1) = nI n := by
  rw [← nI_1, Int32.add_assoc, show (1 : Int32) + (-1) = 0 from rfl, Int32.add_zero]
theorem pk_mul (a b : Nat) : nI a * nI b = nI (a * b) := (Int32.ofNat_mul a b).symm
theorem pk_div {a d : Nat} (ha : a < 2 ^ 31) (h0 : 0 < d) (hd : d < 2 ^ 31) : nI a / nI d = nI (a / d) := by
  apply Int32.toInt_inj.mp
  rw [lg_idiv_nonneg (by rw [nI_toInt ha]; omega) (by rw [nI_toInt hd]; omega), nI_toInt ha, nI_toInt hd, nI_toInt (Nat.lt_of_le_of_lt (Nat.div_le_self a d) ha)]
  first | rfl | exact (Int.natCast_ediv _ _).symm
theorem pk_rem {a d : Nat} (ha : a < 2 ^ 31) (h0 : 0 < d) (hd : d < 2 ^ 31) : nI a - nI a / nI d * nI d = nI (a % d) := by
  rw [pk_div ha h0 hd, pk_mul, pk_sub (Nat.div_mul_le_self a d)]
  exact congrArg nI (by have := Nat.div_add_mod' a d; omega)
theorem pk_sub_toInt {a b : Nat} (ha : a < 2 ^ 30) (hb : b < 2 ^ 30) : (nI a - nI b).toInt = (a : Int) - b := by
  rw [Int32.toInt_sub, nI_toInt (by omega), nI_toInt (by omega)]
  exact Int.bmod_eq_of_le (by omega) (by omega)
theorem pk_sneg {a b : Nat} (hb : b < 2 ^ 30) (h : a < b) : nI a - nI b < 0 := by
  rw [Int32.lt_iff_toInt_lt, pk_sub_toInt (by omega) hb, show (0 : Int32).toInt = 0 from by decide]
  omega
theorem pk_ix (x : Int32) {n : Nat} (hn : n < 2 ^ 31) : x < 0 ∨ nI n ≤ x ∨ ∃ j : Nat, j < n ∧ x = nI j := by
  by_cases h : x < 0
  · exact Or.inl h
  · obtain ⟨j, hj, rfl⟩ := nI_of h
    by_cases h2 : j < n
    · exact Or.inr (Or.inr ⟨j, h2, rfl⟩)
    · exact Or.inr (Or.inl (nI_le (by omega) hj))
theorem pk_le {x y : Int32} {A B : Prop} (a b : Nat) (f : a ≤ b → A) (g : b < a → B) (hx : x = nI a := by rfl) (hy : y = nI b := by rfl) (ha : a < 2 ^ 31 := by omega) (hb : b < 2 ^ 31 := by omega) : (x ≤ y → A) ∧ (¬ x ≤ y → B) := by
  subst hx hy
  rw [nI_leI ha hb]
  exact ⟨f, fun z => g (by omega)⟩
theorem pk_lt {x y : Int32} {A B : Prop} (a b : Nat) (f : a < b → A) (g : b ≤ a → B) (hx : x = nI a := by rfl) (hy : y = nI b := by rfl) (ha : a < 2 ^ 31 := by omega) (hb : b < 2 ^ 31 := by omega) : (x < y → A) ∧ (¬ x < y → B) := by
  subst hx hy
  rw [nI_ltI ha hb]
  exact ⟨f, fun z => g (by omega)⟩
theorem pk_eq {x y : Int32} {A B : Prop} (a b : Nat) (f : a = b → A) (g : a ≠ b → B) (hx : x = nI a := by rfl) (hy : y = nI b := by rfl) (ha : a < 2 ^ 31 := by omega) (hb : b < 2 ^ 31 := by omega) : (x = y → A) ∧ (¬ x = y → B) := by
  subst hx hy
  rw [nI_eq ha hb]
  exact ⟨f, g⟩
theorem pk_in {x : Int32} (n N : Nat) (h : n < N) (hx : x = nI n := by rfl) (hN : N < 2 ^ 31 := by omega) : vp_in x N := by
  subst hx
  exact vp_in_nI h hN
theorem pk_cl {x : Int32} (n : Nat) (hx : x = nI n := by rfl) (h : n < 2 ^ 31 := by omega) : x.toNatClampNeg = n := by
  subst hx
  exact nI_clamp h
theorem pk_tn {n : Nat} (h : n < 2 ^ 32) : (nI n).toBitVec.toNat = n := Nat.mod_eq_of_lt h
theorem pk_and (x : Int32) {m : Int32} (k : Nat) (hm : m.toBitVec.toNat = 2 ^ k - 1) : x &&& m = nI (x.toBitVec.toNat % 2 ^ k) := by
  apply Int32.toBitVec_inj.mp
  apply BitVec.eq_of_toNat_eq
  rw [Int32.toBitVec_and, BitVec.toNat_and, hm, Nat.and_two_pow_sub_one_eq_mod]
  show _ = (BitVec.ofNat 32 _).toNat
  rw [BitVec.toNat_ofNat]
  exact (Nat.mod_eq_of_lt (Nat.lt_of_le_of_lt (Nat.mod_le _ _) x.toBitVec.isLt)).symm
theorem pk_andN {n : Nat} (h : n < 2 ^ 32) {m : Int32} (k : Nat) (hm : m.toBitVec.toNat = 2 ^ k - 1) : nI n &&& m = nI (n % 2 ^ k) := by
  rw [pk_and _ k hm, pk_tn h]
theorem pk_andE (x : Int32) {m : Int32} (k : Nat) (hm : m.toBitVec.toNat = 2 ^ k - 1) : ∃ j : Nat, j < 2 ^ k ∧ x &&& m = nI j := ⟨_, Nat.mod_lt _ (Nat.two_pow_pos k), pk_and x k hm⟩
theorem pk_andIn (x : Int32) {m : Int32} (k : Nat) (hm : m.toBitVec.toNat = 2 ^ k - 1) (hk : k ≤ 30) : vp_in (x &&& m) (2 ^ k) := by
  obtain ⟨j, hj, e⟩ := pk_andE x k hm
  rw [e]
  exact vp_in_nI hj (Nat.lt_of_le_of_lt (Nat.pow_le_pow_right (by decide) hk) (by decide))
theorem pk_shl (a s : Int32) (k : Nat) (hs : (s.toBitVec.smod 32).toNat = k) : (a <<< s).toBitVec.toNat = a.toBitVec.toNat * 2 ^ k % 2 ^ 32 := by
  show (a.toBitVec <<< (s.toBitVec.smod 32).toNat).toNat = _
  rw [hs, BitVec.toNat_shiftLeft, Nat.shiftLeft_eq]
theorem pk_shlN {n : Nat} (s : Int32) (k : Nat) (hs : (s.toBitVec.smod 32).toNat = k) (h : n * 2 ^ k < 2 ^ 32) : nI n <<< s = nI (n * 2 ^ k) := by
  apply Int32.toBitVec_inj.mp
  apply BitVec.eq_of_toNat_eq
  have hn : n < 2 ^ 32 := Nat.lt_of_le_of_lt (Nat.le_mul_of_pos_right n (Nat.two_pow_pos k)) h
  rw [pk_shl _ _ k hs, pk_tn hn, pk_tn h, Nat.mod_eq_of_lt h]
theorem pk_shr (a s : Int32) (k : Nat) (hs : (s.toBitVec.smod 32).toNat = k) : (a >>> s).toInt = a.toInt >>> k := by
  show (a.toBitVec.sshiftRight (s.toBitVec.smod 32).toNat).toInt = _
  rw [hs, BitVec.toInt_sshiftRight]
  rfl
theorem pk_shrN {n : Nat} (h : n < 2 ^ 31) (s : Int32) (k : Nat) (hs : (s.toBitVec.smod 32).toNat = k) : nI n >>> s = nI (n / 2 ^ k) := by
  apply Int32.toInt_inj.mp
  have h2 : n / 2 ^ k ≤ n := Nat.div_le_self _ _
  rw [pk_shr _ _ k hs, nI_toInt h, nI_toInt (by omega), Int.shiftRight_eq_div_pow]
  rfl
end
section
section
/-! numbers of this claim -/
theorem fi_b0 : vp_nar .boolean 0 = 0 := by decide
theorem fi_b1 : vp_nar .boolean 1 = 1 := by decide
theorem fi_sh4 {b : Nat} (h : b < 2 ^ 31) : nI b >>> ((4 : Int32) &&& 31) = nI (b / 16) := pk_shrN h _ 4 (by decide)
theorem fi_sh6 {b : Nat} (h : b < 2 ^ 31) : nI b >>> ((6 : Int32) &&& 31) = nI (b / 64) := pk_shrN h _ 6 (by decide)
theorem fi_sh2 {b : Nat} (h : b < 2 ^ 31) : nI b >>> ((2 : Int32) &&& 31) = nI (b / 4) := pk_shrN h _ 2 (by decide)
theorem fi_a3 {b : Nat} (h : b < 2 ^ 31) : nI b &&& 3 = nI (b % 4) := pk_andN (by omega) 2 (by decide)
theorem fi_a15 {b : Nat} (h : b < 2 ^ 31) : nI b &&& 15 = nI (b % 16) := pk_andN (by omega) 4 (by decide)
theorem fi_a63 {b : Nat} (h : b < 2 ^ 31) : nI b &&& 63 = nI (b % 64) := pk_andN (by omega) 6 (by decide)
theorem fi_a255 {b : Nat} (h : b < 2 ^ 31) : nI b &&& 255 = nI (b % 256) := pk_andN (by omega) 8 (by decide)
theorem fi_fa {b : Nat} (h : b < 2 ^ 31) : (nI b >>> ((2 : Int32) &&& 31)) &&& 3 = nI (b / 4 % 4) := by
  rw [fi_sh2 h, fi_a3 (by omega)]
theorem fi_m4 : ∀ a, a < 512 → nI a &&& (-4) = nI (a / 4 * 4) := by decide +kernel
theorem fi_m64 : ∀ a, a < 256 → nI a &&& (-64) = nI (a / 64 * 64) := by decide +kernel
theorem fi_n12 : ∀ j, j < 16 → nI j &&& 12 = nI (4 * (j / 4)) := by decide +kernel
theorem fi_x12 (x : Int32) : ∃ j : Nat, j < 4 ∧ x &&& 12 = nI (4 * j) := by
  obtain ⟨j, hj, e⟩ := pk_andE x (m := 15) 4 (by decide)
  refine ⟨j / 4, by omega, ?_⟩
  have h : x &&& 12 = (x &&& 15) &&& 12 := by
    rw [Int32.and_assoc]; rfl
  rw [h, e]
  exact fi_n12 j (by omega)
theorem fi_x7 (x : Int32) : ∃ j : Nat, j < 8 ∧ x &&& 7 = nI j := pk_andE x 3 (by decide)
theorem fi_x31 (x : Int32) : ∃ j : Nat, j < 32 ∧ x &&& 31 = nI j := pk_andE x 5 (by decide)
theorem fi_sg : ∀ i, i < 256 → (nI i).toInt8.toInt32 = if i ≤ 127 then nI i else nI i - 256 := by decide +kernel
theorem fi_sw {w : Nat} (h : w < 65536) : (nI w).toInt16.toInt32 = if w ≤ 32767 then nI w else nI w - 65536 := by
  apply Int32.toInt_inj.mp
  rw [Int16.toInt_toInt32, Int32.toInt_toInt16, nI_toInt (by omega)]
  split
  · rw [nI_toInt (by omega), Int.bmod_eq_of_le (by omega) (by omega)]
  · rw [show (65536 : Int32) = nI 65536 from rfl, pk_sub_toInt (by omega) (by omega)]
    rw [Int.bmod_def]; omega
theorem fi_rd {a : Nat → Int32} {p : Nat} (hp : p < 2 ^ 31) : a (nI p).toNatClampNeg = a p := by rw [nI_clamp hp]
theorem fi_uu {f : Nat → Int32} {k : Nat} {x y : Int32} : upd (upd f k x) k y = upd f k y := by
  funext j; unfold upd; split <;> rfl
theorem fi_u3 {f : Nat → Int32} {k : Nat} {y : Int32} (h : f k = y) : upd f k y = f := by
  funext j; unfold upd; split
  · next e => rw [e, h]
  · rfl
def fi_ad : Bool → Int32
  | true => 1
  | false => 0
theorem fi_ad_bz (v : Int32) : ∃ ad, lw_bz v = fi_ad ad := by
  rcases lw_bz_01 v with h | h
  · exact ⟨false, h⟩
  · exact ⟨true, h⟩

/-! loops by a counter -/
theorem fi_for (W : Nat → Nat → Prop) (e : Nat) (hx : ∀ n, W (n + 1) e) (hs : ∀ n p, p < e → W n (p + 1) → W (n + 1) p) : W (e + 1) 0 := by
  have H : ∀ d p, p + d = e → W (d + 1) p := by
    intro d
    induction d with
    | zero => intro p hp; rw [show p = e by omega]; exact hx 0
    | succ d ih => intro p hp; exact hs _ p (by omega) (ih (p + 1) (by omega))
  exact H e 0 (by omega)
theorem fi_any (W : Nat → Nat → Prop) (P : Nat → Prop) (e : Nat) (hx : (∀ q, q < e → ¬ P q) → ∀ n, W (n + 1) e) (hs : ∀ n p, p < e → (¬ P p → W n (p + 1)) → W (n + 1) p) : W (e + 1) 0 := by
  have H : ∀ d p, p + d = e → (∀ q, q < p → ¬ P q) → W (d + 1) p := by
    intro d
    induction d with
    | zero => intro p hp hq; rw [show p = e by omega] at hq ⊢; exact hx hq 0
    | succ d ih =>
      intro p hp hq
      exact hs _ p (by omega) (fun hn => ih (p + 1) (by omega) (lt_s hq hn))
  exact H e 0 (by omega) (fun q hq => absurd hq (Nat.not_lt_zero q))

/-! the code: lengths, starts -/
def fi_lo (m : Nat) : Nat := if m = 6 then 3 else if m = 5 ∨ m = 7 ∨ m = 13 ∨ m = 14 then 2 else 1
abbrev fi_len (b : Nat) : Nat := fi_lo (b / 16)
theorem fi_lo_b (m : Nat) : 1 ≤ fi_lo m ∧ fi_lo m ≤ 3 := by
  unfold fi_lo; split
  · omega
  · split <;> omega
theorem fi_len_b (b : Nat) : 1 ≤ fi_len b ∧ fi_len b ≤ 3 := fi_lo_b (b / 16)
theorem fi_lo_1 {m : Nat} (h : m ≠ 6) (h1 : m ≠ 5) (h2 : m ≠ 7) (h3 : m ≠ 13) (h4 : m ≠ 14) : fi_lo m = 1 := by
  unfold fi_lo; rw [if_neg h, if_neg (by omega)]
def fi_nx (B : Nat → Nat) : Nat → Nat
  | 0 => 0
  | p + 1 => if fi_nx B p = p then p + fi_len (B p) else fi_nx B p
abbrev fi_St (B : Nat → Nat) (p : Nat) : Prop := fi_nx B p = p
def fi_ls (B : Nat → Nat) : Nat → Nat
  | 0 => 0
  | p + 1 => if fi_St B p then p else fi_ls B p
variable {B : Nat → Nat}
theorem fi_nx_s {p : Nat} (h : fi_St B p) : fi_nx B (p + 1) = p + fi_len (B p) := by
  show (if fi_nx B p = p then _ else _) = _
  rw [if_pos h]
theorem fi_nx_n {p : Nat} (h : ¬ fi_St B p) : fi_nx B (p + 1) = fi_nx B p := by
  show (if fi_nx B p = p then _ else _) = _
  rw [if_neg h]
theorem fi_ls_s {p : Nat} (h : fi_St B p) : fi_ls B (p + 1) = p := by
  show (if fi_St B p then _ else _) = _
  rw [if_pos h]
theorem fi_ls_n {p : Nat} (h : ¬ fi_St B p) : fi_ls B (p + 1) = fi_ls B p := by
  show (if fi_St B p then _ else _) = _
  rw [if_neg h]
theorem fi_St0 : fi_St B 0 := rfl
theorem fi_nx_ge (p : Nat) : p ≤ fi_nx B p := by
  induction p with
  | zero => exact Nat.zero_le _
  | succ p ih =>
    by_cases h : fi_St B p
    · rw [fi_nx_s h]; have := fi_len_b (B p); omega
    · rw [fi_nx_n h]
      have : fi_nx B p ≠ p := h
      omega
theorem fi_nx_le (p : Nat) : fi_nx B p ≤ p + 2 := by
  induction p with
  | zero => exact Nat.zero_le _
  | succ p ih =>
    by_cases h : fi_St B p
    · rw [fi_nx_s h]; have := fi_len_b (B p); omega
    · rw [fi_nx_n h]; omega
theorem fi_nx_gap {p : Nat} (h : fi_St B p) : ∀ d, d < fi_len (B p) → fi_nx B (p + 1 + d) = p + fi_len (B p) := by
  intro d
  induction d with
  | zero => intro _; exact fi_nx_s h
  | succ d ih =>
    intro hd
    have e := ih (by omega)
    have hn : ¬ fi_St B (p + 1 + d) := by
      intro z
      have z' : fi_nx B (p + 1 + d) = p + 1 + d := z
      omega
    rw [show p + 1 + (d + 1) = (p + 1 + d) + 1 by omega, fi_nx_n hn, e]
theorem fi_St_next {p : Nat} (h : fi_St B p) : fi_St B (p + fi_len (B p)) := by
  have hl := fi_len_b (B p)
  have e := fi_nx_gap h (fi_len (B p) - 1) (by omega)
  rw [show p + 1 + (fi_len (B p) - 1) = p + fi_len (B p) by omega] at e
  exact e
theorem fi_St_gap {p j : Nat} (h : fi_St B p) (h1 : p < j) (h2 : j < p + fi_len (B p)) : ¬ fi_St B j := by
  intro z
  have z' : fi_nx B j = j := z
  have e := fi_nx_gap h (j - p - 1) (by omega)
  rw [show p + 1 + (j - p - 1) = j by omega] at e
  omega
theorem fi_ls_st : ∀ p, fi_St B (fi_ls B p) ∧ fi_ls B p ≤ p - 1 := by
  intro p
  induction p with
  | zero => exact ⟨fi_St0, Nat.le_refl _⟩
  | succ p ih =>
    by_cases h : fi_St B p
    · rw [fi_ls_s h]; exact ⟨h, by omega⟩
    · rw [fi_ls_n h]; exact ⟨ih.1, by omega⟩
theorem fi_ls_ge : ∀ p q, q < p → fi_St B q → q ≤ fi_ls B p := by
  intro p
  induction p with
  | zero => intro q hq; omega
  | succ p ih =>
    intro q hq hs
    by_cases h : fi_St B p
    · rw [fi_ls_s h]; omega
    · rw [fi_ls_n h]
      have : q ≠ p := fun e => h (e ▸ hs)
      exact ih q (by omega) hs

/-! the rules -/
abbrev fi_use (b : Nat) : Prop := b / 16 = 9 ∨ b / 16 = 12
abbrev fi_dj (b : Nat) : Prop := b / 16 = 13 ∨ b / 16 = 14
abbrev fi_mal (ad : Bool) (B : Nat → Nat) (p : Nat) : Prop := (3 < B p ∧ B p < 16) ∨ 16 < p + fi_len (B p) ∨ (ad = false ∧ 4 < p % 4 + fi_len (B p))
abbrev fi_nA (m : Nat) : Prop := (1 ≤ m ∧ m ≤ 9) ∨ m = 12 ∨ m = 14
abbrev fi_nB (m : Nat) : Prop := (1 ≤ m ∧ m ≤ 4) ∨ m = 8 ∨ m = 9
abbrev fi_res (b : Nat) : Prop := b / 16 = 10 ∨ b / 16 = 11 ∨ (fi_nA (b / 16) ∧ b / 4 % 4 = 3) ∨ (fi_nB (b / 16) ∧ b % 4 = 3)
abbrev fi_msk (B : Nat → Nat) (p : Nat) : Prop := p % 4 ≠ 0 ∧ fi_St B (p - 1) ∧ B (p - 1) / 16 = (if B p / 16 = 9 then 10 else 11) ∧ B (p - 1) / 4 % 4 = B p / 4 % 4
abbrev fi_unm (B : Nat → Nat) (p : Nat) : Prop := fi_use (B p) ∧ ¬ fi_msk B p
abbrev fi_bt (ad : Bool) (B : Nat → Nat) (p : Nat) : Prop := fi_dj (B p) ∧ (15 < B (p + 1) ∨ ¬ fi_St B (B (p + 1)) ∨ (ad = false ∧ fi_use (B (B (p + 1)))))
abbrev fi_cl (b : Nat) : Prop := b = 0 ∨ b = 2 ∨ b = 3 ∨ b / 16 = 12 ∨ b / 16 = 13
def fi_E (B : Nat → Nat) (P : Nat → Prop) : Prop := ∃ q, q < 16 ∧ fi_St B q ∧ P q
def fi_N (B : Nat → Nat) (P : Nat → Prop) : Prop := ∀ q, q < 16 → fi_St B q → ¬ P q
theorem fi_EN {P : Nat → Prop} (h : fi_E B P) (n : fi_N B P) : False := by
  obtain ⟨q, h1, h2, h3⟩ := h
  exact n q h1 h2 h3
/-- r is the verdict on the bytes B -/
def fi_V (ad : Bool) (B : Nat → Nat) (r : Nat) : Prop :=
  (r = 1 ∧ fi_E B (fi_mal ad B)) ∨ (fi_N B (fi_mal ad B) ∧
    ((r = 2 ∧ fi_E B (fun p => ad = true ∧ fi_res (B p))) ∨ (fi_N B (fun p => ad = true ∧ fi_res (B p)) ∧
      ((r = 3 ∧ fi_E B (fun p => ad = false ∧ fi_unm B p)) ∨ (fi_N B (fun p => ad = false ∧ fi_unm B p) ∧
        ((r = 4 ∧ fi_E B (fi_bt ad B)) ∨ (fi_N B (fi_bt ad B) ∧
          ((r = 5 ∧ ¬ fi_cl (B (fi_ls B 16))) ∨ (r = 0 ∧ fi_cl (B (fi_ls B 16)))))))))))
theorem fi_V_u {ad : Bool} {r r' : Nat} (h : fi_V ad B r) (h' : fi_V ad B r') : r' = r := by
  rcases h with ⟨e, h⟩ | ⟨n, h⟩ <;> rcases h' with ⟨e', h'⟩ | ⟨n', h'⟩
  · omega
  · exact (fi_EN h n').elim
  · exact (fi_EN h' n).elim
  rcases h with ⟨e, h⟩ | ⟨n, h⟩ <;> rcases h' with ⟨e', h'⟩ | ⟨n', h'⟩
  · omega
  · exact (fi_EN h n').elim
  · exact (fi_EN h' n).elim
  rcases h with ⟨e, h⟩ | ⟨n, h⟩ <;> rcases h' with ⟨e', h'⟩ | ⟨n', h'⟩
  · omega
  · exact (fi_EN h n').elim
  · exact (fi_EN h' n).elim
  rcases h with ⟨e, h⟩ | ⟨n, h⟩ <;> rcases h' with ⟨e', h'⟩ | ⟨n', h'⟩
  · omega
  · exact (fi_EN h n').elim
  · exact (fi_EN h' n).elim
  rcases h with ⟨e, h⟩ | ⟨e, h⟩ <;> rcases h' with ⟨e', h'⟩ | ⟨e', h'⟩
  · omega
  · exact absurd h' h
  · exact absurd h h'
  · omega
/-- what an admitted module keeps -/
def fi_OK (ad : Bool) (B : Nat → Nat) : Prop := fi_N B (fi_mal ad B) ∧ fi_N B (fun p => ad = true ∧ fi_res (B p)) ∧ fi_N B (fun p => ad = false ∧ fi_unm B p) ∧ fi_N B (fi_bt ad B) ∧ fi_cl (B (fi_ls B 16))
theorem fi_V0 {ad : Bool} (h : fi_V ad B 0) : fi_OK ad B := by
  rcases h with ⟨e, _⟩ | ⟨n1, h⟩
  · omega
  rcases h with ⟨e, _⟩ | ⟨n2, h⟩
  · omega
  rcases h with ⟨e, _⟩ | ⟨n3, h⟩
  · omega
  rcases h with ⟨e, _⟩ | ⟨n4, h⟩
  · omega
  rcases h with ⟨e, _⟩ | ⟨_, h⟩
  · omega
  exact ⟨n1, n2, n3, n4, h⟩
theorem fi_V_le {ad : Bool} {r : Nat} (h : fi_V ad B r) : r ≤ 5 := by
  rcases h with ⟨e, _⟩ | ⟨n1, h⟩
  · omega
  rcases h with ⟨e, _⟩ | ⟨n2, h⟩
  · omega
  rcases h with ⟨e, _⟩ | ⟨n3, h⟩
  · omega
  rcases h with ⟨e, _⟩ | ⟨n4, h⟩
  · omega
  rcases h with ⟨e, _⟩ | ⟨e, h⟩ <;> omega

/-! what a module that was admitted does on its way -/
theorem fi_end {ad : Bool} (h : fi_OK ad B) {p : Nat} (hp : p < 16) (hs : fi_St B p) : p + fi_len (B p) ≤ 16 := by
  have := h.1 p hp hs
  omega
theorem fi_fall {ad : Bool} (h : fi_OK ad B) {p : Nat} (hp : p < 16) (hs : fi_St B p) (hc : ¬ fi_cl (B p)) : p + fi_len (B p) < 16 ∧ fi_St B (p + fi_len (B p)) := by
  refine ⟨?_, fi_St_next hs⟩
  have hl := fi_ls_st (B := B) 16
  have hg := fi_ls_ge (B := B) 16 p hp hs
  have hcl := h.2.2.2.2
  have hne : fi_ls B 16 ≠ p := fun e => hc (e ▸ hcl)
  have hb := hl.2
  rcases Nat.lt_or_ge (p + fi_len (B p)) 16 with z | z
  · exact z
  · exact absurd hl.1 (fi_St_gap hs (by omega) (by omega))
theorem fi_nx16 {ad : Bool} (h : fi_OK ad B) : fi_nx B 16 = 16 := by
  have hl := fi_ls_st (B := B) 16
  have he := fi_end h (by omega) hl.1
  have hnext := fi_St_next hl.1
  have hb := hl.2
  have hlo := fi_len_b (B (fi_ls B 16))
  rcases Nat.lt_or_ge (fi_ls B 16 + fi_len (B (fi_ls B 16))) 16 with z | z
  · have := fi_ls_ge (B := B) 16 _ z hnext
    omega
  · have e : fi_ls B 16 + fi_len (B (fi_ls B 16)) = 16 := by omega
    rw [e] at hnext
    exact hnext
/-- in a checked module every bundle begins with a start -/
theorem fi_al4 (h : fi_OK false B) {k : Nat} (hk : k < 4) : fi_St B (4 * k) := by
  have H : ∀ p, p ≤ 16 → fi_nx B p ≤ (p + 3) / 4 * 4 := by
    intro p
    induction p with
    | zero => intro _; exact Nat.zero_le _
    | succ p ih =>
      intro hp
      have i := ih (by omega)
      by_cases hs : fi_St B p
      · rw [fi_nx_s hs]
        have := h.1 p (by omega) hs
        have hm : ¬ 4 < p % 4 + fi_len (B p) := fun z => this (Or.inr (Or.inr ⟨rfl, z⟩))
        omega
      · rw [fi_nx_n hs]; omega
  have h1 := H (4 * k) (by omega)
  have h2 := fi_nx_ge (B := B) (4 * k)
  show fi_nx B (4 * k) = 4 * k
  omega
/-- falling onto a use of a checked module, one comes from its mask -/
theorem fi_from {p : Nat} (h : fi_OK false B) (hs : fi_St B p) (hq : p + fi_len (B p) < 16) (hu : B (p + fi_len (B p)) / 16 = 12) : B p / 16 = 11 ∧ B p / 4 % 4 = B (p + fi_len (B p)) / 4 % 4 ∧ fi_len (B p) = 1 := by
  have hn := h.2.2.1 _ hq (fi_St_next hs)
  have hlo := fi_len_b (B p)
  have hm : fi_msk B (p + fi_len (B p)) := by
    rcases Classical.em (fi_msk B (p + fi_len (B p))) with z | z
    · exact z
    · exact absurd ⟨rfl, Or.inr hu, z⟩ hn
  obtain ⟨_, m2, m3, m4⟩ := hm
  have e : fi_len (B p) = 1 := by
    rcases Nat.lt_or_ge 1 (fi_len (B p)) with z | z
    · exact absurd m2 (fi_St_gap hs (by omega) (by omega))
    · omega
  rw [e] at m3 m4 hu ⊢
  rw [if_neg (by omega)] at m3
  exact ⟨m3, m4, rfl⟩
/-- .. and no jump, no entry, no return goes there -/
theorem fi_no0 (h : fi_OK false B) {k : Nat} (hk : k < 4) : ¬ B (4 * k) / 16 = 12 := by
  intro z
  have hn := h.2.2.1 (4 * k) (by omega) (fi_al4 h hk)
  exact hn ⟨rfl, Or.inr z, fun m => m.1 (by omega)⟩
theorem fi_noj (h : fi_OK false B) {p : Nat} (hp : p < 16) (hs : fi_St B p) (hd : fi_dj (B p)) : ¬ B (B (p + 1)) / 16 = 12 := by
  intro z
  exact h.2.2.2.1 p hp hs ⟨hd, Or.inr (Or.inr ⟨rfl, Or.inr z⟩)⟩
theorem fi_tgt {ad : Bool} (h : fi_OK ad B) {p : Nat} (hp : p < 16) (hs : fi_St B p) (hd : fi_dj (B p)) : B (p + 1) < 16 ∧ fi_St B (B (p + 1)) := by
  have hn := h.2.2.2.1 p hp hs
  refine ⟨?_, ?_⟩
  · rcases Nat.lt_or_ge (B (p + 1)) 16 with z | z
    · exact z
    · exact absurd ⟨hd, Or.inl (by omega)⟩ hn
  · rcases Classical.em (fi_St B (B (p + 1))) with z | z
    · exact z
    · exact absurd ⟨hd, Or.inr (Or.inl z)⟩ hn
end
end
section
section
variable {ln ls fc dl ru oc pc : Int32} {xb xs kd so im na sa la ga ce rg fr : Nat → Int32} {B : Nat → Nat}
/-! X: the verdict -/
theorem xl_len {post : Int32 → Prop} {x : Int32} (b : Nat) (e : x = nI b) (hb : b < 256) (H : post (nI (fi_len b))) : wpX_lengthOf post (ln, ls, fc, dl, ru, oc, pc, xb, xs, kd, so, im, na, sa, la, ga, ce, rg, fr) x := by
  subst e
  unfold wpX_lengthOf
  refine nm_r (fi_sh4 (by omega)) ?_
  have hm : b / 16 < 16 := by omega
  revert H
  show post (nI (fi_lo (b / 16))) → _
  generalize b / 16 = m at hm ⊢
  intro H
  have hc : m = 0 ∨ m = 1 ∨ m = 2 ∨ m = 3 ∨ m = 4 ∨ m = 5 ∨ m = 6 ∨ m = 7 ∨ m = 8 ∨ m = 9 ∨ m = 10 ∨ m = 11 ∨ m = 12 ∨ m = 13 ∨ m = 14 ∨ m = 15 := by omega
  rcases hc with h | h | h | h | h | h | h | h | h | h | h | h | h | h | h | h <;> subst h <;> (repeat first | exact H | refine br_t (by decide) ?_ | refine br_f (by decide) ?_)
theorem xu_use {post : Int32 → Prop} {x : Int32} (b : Nat) (e : x = nI b) (hb : b < 256) (h1 : fi_use b → post 1) (h0 : ¬ fi_use b → post 0) : wpX_isUse post (ln, ls, fc, dl, ru, oc, pc, xb, xs, kd, so, im, na, sa, la, ga, ce, rg, fr) x := by
  subst e
  unfold wpX_isUse
  refine nm_r (fi_sh4 (by omega)) ?_
  exact pk_eq (b / 16) 9 (fun z => h1 (Or.inl z)) (fun z => pk_eq (b / 16) 12 (fun z2 => h1 (Or.inr z2)) (fun z2 => h0 (fun u => u.elim z z2)))
theorem xd_dj {post : Int32 → Prop} {x : Int32} (b : Nat) (e : x = nI b) (hb : b < 256) (h1 : fi_dj b → post 1) (h0 : ¬ fi_dj b → post 0) : wpX_isDirectJump post (ln, ls, fc, dl, ru, oc, pc, xb, xs, kd, so, im, na, sa, la, ga, ce, rg, fr) x := by
  subst e
  unfold wpX_isDirectJump
  refine nm_r (fi_sh4 (by omega)) ?_
  exact pk_eq (b / 16) 13 (fun z => h1 (Or.inl z)) (fun z => pk_eq (b / 16) 14 (fun z2 => h1 (Or.inr z2)) (fun z2 => h0 (fun u => u.elim z z2)))
theorem xm_20 {post : Int32 → Prop} (ad : Bool) {p b : Nat} (hp : p < 16) (hb : b < 256) (h1 : 16 < p + fi_len b ∨ (ad = false ∧ 4 < p % 4 + fi_len b) → post 1) (h0 : ¬ (16 < p + fi_len b ∨ (ad = false ∧ 4 < p % 4 + fi_len b)) → post 0) : wX_malformed_20 post (nI p) (fi_ad ad) (nI b) ln ls fc dl ru oc pc xb xs kd so im na sa la ga ce rg fr := by
  unfold wX_malformed_20
  have hl := fi_len_b (b)
  refine xl_len b rfl hb ?_
  refine pk_lt 16 (p + fi_len b) (fun z => h1 (Or.inl z)) (fun z => ?_) rfl (nI_add _ _)
  cases ad with
  | true => exact br_f (by decide) (h0 (by intro u; rcases u with u | u; omega; exact absurd u.1 (by decide)))
  | false =>
    refine br_t rfl ?_
    refine pk_le (p % 4 + fi_len b) 4 (fun z2 => h0 (by omega)) (fun z2 => h1 (Or.inr ⟨rfl, z2⟩)) ?_ rfl
    rw [fi_a3 (by omega), nI_add]
theorem xm_mal {post : Int32 → Prop} (ad : Bool) (hB : ∀ j, j < 16 → xb j = nI (B j)) (hb : ∀ j, j < 16 → B j < 256) {p : Nat} (hp : p < 16) (h1 : fi_mal ad B p → post 1) (h0 : ¬ fi_mal ad B p → post 0) : wpX_malformed post (ln, ls, fc, dl, ru, oc, pc, xb, xs, kd, so, im, na, sa, la, ga, ce, rg, fr) (nI p) (fi_ad ad) := by
  unfold wpX_malformed
  have hbp := hb p hp
  refine ⟨vp_in_nI hp (by decide), nm_r (e' := nI (B p)) (by rw [nI_clamp (by omega)]; exact hB p hp) ?_⟩
  refine pk_le (B p) 3 (fun z => ?_) (fun z => pk_le 16 (B p) (fun z2 => ?_) (fun z2 => h1 (Or.inl ⟨z, z2⟩)))
  · exact xm_20 ad hp hbp (fun u => h1 (Or.inr u)) (fun u => h0 (fun m => m.elim (fun y => absurd y.1 (by omega)) u))
  · exact xm_20 ad hp hbp (fun u => h1 (Or.inr u)) (fun u => h0 (fun m => m.elim (fun y => absurd y.2 (by omega)) u))
theorem xw_25 {post : Int32 → SX → Prop} (ad : Bool) (hB : ∀ j, j < 16 → xb j = nI (B j)) (hb : ∀ j, j < 16 → B j < 256)
    (A0 : fi_N B (fi_mal ad B) → ∀ st : Nat → Int32, (∀ j, j < 16 → st j = if fi_St B j then 1 else 0) → post 1 (ln, nI (fi_ls B 16), fc, dl, ru, oc, pc, xb, st, kd, so, im, na, sa, la, ga, ce, rg, fr))
    (A1 : fi_E B (fi_mal ad B) → ∀ (lt : Int32) (st : Nat → Int32), post 0 (ln, lt, fc, dl, ru, oc, pc, xb, st, kd, so, im, na, sa, la, ga, ce, rg, fr)) (h00 : ∀ j, j < 16 → xs j = 0) :
    wX_walk_25 post (fi_ad ad) ln fc dl ru oc pc 17 0 0 ls xb xs kd so im na sa la ga ce rg fr := by
  have K := fi_any (fun n p => ∀ (lt : Int32) (st : Nat → Int32), (p = 0 ∨ lt = nI (fi_ls B p)) → (∀ j, j < 16 → st j = if j < p ∧ fi_St B j then 1 else 0) → wX_walk_25 post (fi_ad ad) ln fc dl ru oc pc n (nI (fi_nx B p)) (nI p) lt xb st kd so im na sa la ga ce rg fr) (fun p => fi_St B p ∧ fi_mal ad B p) 16 ?_ ?_
  · exact K ls xs (Or.inl rfl) (fun j hj => by rw [if_neg (by omega)]; exact h00 j hj)
  · intro hN n lt st hl hst
    refine br_t (by decide) ?_
    rcases hl with hl | hl
    · exact absurd hl (by decide)
    rw [hl]
    refine A0 (fun q hq hs hm => hN q hq ⟨hs, hm⟩) st (fun j hj => ?_)
    rw [hst j hj]
    by_cases z : fi_St B j
    · rw [if_pos z, if_pos ⟨hj, z⟩]
    · rw [if_neg z, if_neg (fun y => z y.2)]
  · intro n p hp IH lt st hl hst
    refine br_f (nI_ge (b := 16) hp (by decide)) ?_
    by_cases hs : fi_St B p
    · refine br_t (congrArg nI hs.symm) ?_
      refine xm_mal ad hB hb hp (fun hm => br_f (by decide) (A1 ⟨p, hp, hs, hm⟩ lt st)) (fun hm => br_t rfl ?_)
      refine ⟨vp_in_nI hp (by decide), nm_r (e' := upd st p 1) (by rw [nI_clamp (by omega), fi_b1]) ⟨vp_in_nI hp (by decide), ?_⟩⟩
      refine xl_len (B p) (by rw [nI_clamp (by omega)]; exact hB p hp) (hb p hp) ?_
      refine nm_r (e' := nI (fi_nx B (p + 1))) (by rw [nI_add, fi_nx_s hs]) (nm_r (nI_1 p) ?_)
      refine IH (fun y => hm y.2) (nI p) (upd st p 1) (Or.inr (by rw [fi_ls_s hs])) (fun j hj => ?_)
      by_cases e : j = p
      · subst e; rw [pk_us, if_pos ⟨by omega, hs⟩]
      · rw [pk_un e, hst j hj]
        by_cases z : j < p ∧ fi_St B j
        · rw [if_pos z, if_pos ⟨by omega, z.2⟩]
        · rw [if_neg z, if_neg (fun y => z ⟨by omega, y.2⟩)]
    · have hne : ¬ nI p = nI (fi_nx B p) := by
        have := fi_nx_le (B := B) p
        rw [nI_eq (by omega) (by omega)]
        exact fun y => hs y.symm
      refine br_f hne (nm_r (nI_1 p) ?_)
      have K2 := IH (fun y => hs y.1) lt st (Or.inr (by
        rcases hl with hl | hl
        · exact absurd (hl ▸ fi_St0) hs
        · rw [fi_ls_n hs]; exact hl)) (fun j hj => by
          rw [hst j hj]
          by_cases z : j < p ∧ fi_St B j
          · rw [if_pos z, if_pos ⟨by omega, z.2⟩]
          · rw [if_neg z, if_neg (fun y => by
              rcases Nat.lt_or_ge j p with w | w
              · exact z ⟨w, y.2⟩
              · exact hs ((show j = p by omega) ▸ y.2))])
      rw [fi_nx_n hs] at K2
      exact K2
theorem xw_walk {post : Int32 → SX → Prop} (ad : Bool) (hB : ∀ j, j < 16 → xb j = nI (B j)) (hb : ∀ j, j < 16 → B j < 256)
    (A0 : fi_N B (fi_mal ad B) → ∀ st : Nat → Int32, (∀ j, j < 16 → st j = if fi_St B j then 1 else 0) → post 1 (ln, nI (fi_ls B 16), fc, dl, ru, oc, pc, xb, st, kd, so, im, na, sa, la, ga, ce, rg, fr))
    (A1 : fi_E B (fi_mal ad B) → ∀ (lt : Int32) (st : Nat → Int32), post 0 (ln, lt, fc, dl, ru, oc, pc, xb, st, kd, so, im, na, sa, la, ga, ce, rg, fr)) : wpX_walk post (ln, ls, fc, dl, ru, oc, pc, xb, xs, kd, so, im, na, sa, la, ga, ce, rg, fr) (fi_ad ad) := by
  refine ⟨17, ?_⟩
  have K := fi_for (fun n p => ∀ st : Nat → Int32, (∀ j, j < p → st j = 0) → wX_walk_2 post (fi_ad ad) ln ls fc dl ru oc pc n (nI p) xb st kd so im na sa la ga ce rg fr) 16 ?_ ?_
  · exact K xs (fun j hj => absurd hj (Nat.not_lt_zero j))
  · intro n st hst
    exact br_t (by decide) ⟨17, xw_25 ad hB hb A0 A1 hst⟩
  · intro n p hp IH st hst
    refine br_f (nI_ge (b := 16) hp (by decide)) ⟨vp_in_nI hp (by decide), nm_r (e' := upd st p 0) (by rw [nI_clamp (by omega), fi_b0]) (nm_r (nI_1 p) ?_)⟩
    refine IH (upd st p 0) (lt_s (fun j hj => ?_) pk_us)
    rw [pk_un (by omega)]; exact hst j hj
end
section
variable {ln ls fc dl ru oc pc : Int32} {xb xs kd so im na sa la ga ce rg fr : Nat → Int32} {B : Nat → Nat}
/-! X: reserved names -/
theorem xt_89 {post : Int32 → Prop} {b : Nat} (hb : b < 256) {z : Int32} {Q : Prop} (hz : Q → z = 1) (hz0 : ¬ Q → z = 0) (h1 : Q ∧ b % 4 = 3 → post 1) (h0 : ¬ (Q ∧ b % 4 = 3) → post 0) : wX_touchesReserved_89 post (nI b) z ln ls fc dl ru oc pc xb xs kd so im na sa la ga ce rg fr := by
  unfold wX_touchesReserved_89
  rcases Classical.em Q with q | q
  · rw [hz q]
    refine br_f (by decide) ?_
    exact pk_eq (b % 4) 3 (fun y => h1 ⟨q, y⟩) (fun y => h0 (fun w => y w.2)) (fi_a3 (by omega))
  · rw [hz0 q]
    exact br_t rfl (h0 (fun w => q w.1))
theorem xt_74 {post : Int32 → Prop} {b : Nat} (hb : b < 256) {z w : Int32} {Q P : Prop} (hw : P → w = 1) (hw0 : ¬ P → w = 0) (hz : Q → z = 1) (hz0 : ¬ Q → z = 0) (h1 : (P ∧ b / 4 % 4 = 3) ∨ (Q ∧ b % 4 = 3) → post 1) (h0 : ¬ ((P ∧ b / 4 % 4 = 3) ∨ (Q ∧ b % 4 = 3)) → post 0) : wX_touchesReserved_74 post (nI b) w z ln ls fc dl ru oc pc xb xs kd so im na sa la ga ce rg fr := by
  unfold wX_touchesReserved_74
  rcases Classical.em P with q | q
  · rw [hw q]
    refine br_f (by decide) ?_
    refine pk_eq (b / 4 % 4) 3 (fun y => h1 (Or.inl ⟨q, y⟩)) (fun y => ?_) (fi_fa (by omega))
    exact xt_89 hb hz hz0 (fun u => h1 (Or.inr u)) (fun u => h0 (fun v => v.elim (fun t => y t.2) u))
  · rw [hw0 q]
    refine br_t rfl ?_
    exact xt_89 hb hz hz0 (fun u => h1 (Or.inr u)) (fun u => h0 (fun v => v.elim (fun t => q t.1) u))
theorem xt_46 {post : Int32 → Prop} {b : Nat} (hb : b < 256) {w : Int32} {P : Prop} (hw : P → w = 1) (hw0 : ¬ P → w = 0) (h1 : (P ∧ b / 4 % 4 = 3) ∨ (fi_nB (b / 16) ∧ b % 4 = 3) → post 1) (h0 : ¬ ((P ∧ b / 4 % 4 = 3) ∨ (fi_nB (b / 16) ∧ b % 4 = 3)) → post 0) : wX_touchesReserved_46 post (nI b) (nI (b / 16)) w ln ls fc dl ru oc pc xb xs kd so im na sa la ga ce rg fr := by
  have K1 : fi_nB (b / 16) → wX_touchesReserved_69 post (nI b) w ln ls fc dl ru oc pc xb xs kd so im na sa la ga ce rg fr := fun h => by
    unfold wX_touchesReserved_69
    exact xt_74 hb (Q := fi_nB (b / 16)) hw hw0 (fun _ => rfl) (fun y => absurd h y) h1 h0
  have K0 : ¬ fi_nB (b / 16) → wX_touchesReserved_74 post (nI b) w 0 ln ls fc dl ru oc pc xb xs kd so im na sa la ga ce rg fr := fun h =>
    xt_74 hb (Q := fi_nB (b / 16)) hw hw0 (fun y => absurd y h) (fun _ => rfl) h1 h0
  have K57 : ¬ (1 ≤ b / 16 ∧ b / 16 ≤ 4) → wX_touchesReserved_57 post (nI b) (nI (b / 16)) w ln ls fc dl ru oc pc xb xs kd so im na sa la ga ce rg fr := fun h => by
    unfold wX_touchesReserved_57
    exact pk_eq (b / 16) 8 (fun y => K1 (Or.inr (Or.inl y))) (fun y => pk_eq (b / 16) 9 (fun y2 => K1 (Or.inr (Or.inr y2))) (fun y2 => K0 (by intro u; rcases u with u | u | u; exact h u; exact y u; exact y2 u)))
  unfold wX_touchesReserved_46
  exact pk_lt (b / 16) 1 (fun y => K57 (by omega)) (fun y => pk_le (b / 16) 4 (fun y2 => K1 (Or.inl ⟨y, y2⟩)) (fun y2 => K57 (by omega)))
theorem xt_res {post : Int32 → Prop} {x : Int32} (b : Nat) (e : x = nI b) (hb : b < 256) (h1 : fi_res b → post 1) (h0 : ¬ fi_res b → post 0) : wpX_touchesReserved post (ln, ls, fc, dl, ru, oc, pc, xb, xs, kd, so, im, na, sa, la, ga, ce, rg, fr) x := by
  subst e
  unfold wpX_touchesReserved
  refine nm_r (fi_sh4 (by omega)) ?_
  refine pk_eq (b / 16) 10 (fun y => h1 (Or.inl y)) (fun y => pk_eq (b / 16) 11 (fun y2 => h1 (Or.inr (Or.inl y2))) (fun y2 => ?_))
  have K1 : fi_nA (b / 16) → wX_touchesReserved_41 post (nI b) (nI (b / 16)) ln ls fc dl ru oc pc xb xs kd so im na sa la ga ce rg fr := fun h => by
    unfold wX_touchesReserved_41
    exact xt_46 hb (P := fi_nA (b / 16)) (fun _ => rfl) (fun z => absurd h z) (fun u => h1 (Or.inr (Or.inr u))) (fun u => h0 (by intro v; rcases v with v | v | v; exact y v; exact y2 v; exact u v))
  have K0 : ¬ fi_nA (b / 16) → wX_touchesReserved_46 post (nI b) (nI (b / 16)) 0 ln ls fc dl ru oc pc xb xs kd so im na sa la ga ce rg fr := fun h =>
    xt_46 hb (P := fi_nA (b / 16)) (fun z => absurd z h) (fun _ => rfl) (fun u => h1 (Or.inr (Or.inr u))) (fun u => h0 (by intro v; rcases v with v | v | v; exact y v; exact y2 v; exact u v))
  have K29 : ¬ (1 ≤ b / 16 ∧ b / 16 ≤ 9) → wX_touchesReserved_29 post (nI b) (nI (b / 16)) ln ls fc dl ru oc pc xb xs kd so im na sa la ga ce rg fr := fun h => by
    unfold wX_touchesReserved_29
    exact pk_eq (b / 16) 12 (fun z => K1 (Or.inr (Or.inl z))) (fun z => pk_eq (b / 16) 14 (fun z2 => K1 (Or.inr (Or.inr z2))) (fun z2 => K0 (by intro u; rcases u with u | u | u; exact h u; exact z u; exact z2 u)))
  exact pk_lt (b / 16) 1 (fun z => K29 (by omega)) (fun z => pk_le (b / 16) 9 (fun z2 => K1 (Or.inl ⟨z, z2⟩)) (fun z2 => K29 (by omega)))
theorem xr_any {post : Int32 → Prop} (hB : ∀ j, j < 16 → xb j = nI (B j)) (hb : ∀ j, j < 16 → B j < 256) (hst : ∀ j, j < 16 → xs j = if fi_St B j then 1 else 0)
    (h1 : fi_E B (fun p => fi_res (B p)) → post 1) (h0 : fi_N B (fun p => fi_res (B p)) → post 0) : wpX_anyReserved post (ln, ls, fc, dl, ru, oc, pc, xb, xs, kd, so, im, na, sa, la, ga, ce, rg, fr) := by
  refine ⟨17, ?_⟩
  refine fi_any (fun n p => wX_anyReserved_2 post ln ls fc dl ru oc pc xb xs kd so im na sa la ga ce rg fr n (nI p)) (fun p => fi_St B p ∧ fi_res (B p)) 16 ?_ ?_
  · intro hN n
    exact br_t (by decide) (h0 (fun q hq hs hm => hN q hq ⟨hs, hm⟩))
  · intro n p hp IH
    refine br_f (nI_ge (b := 16) hp (by decide)) ⟨vp_in_nI hp (by decide), ?_⟩
    rw [nI_clamp (by omega), hst p hp]
    by_cases hs : fi_St B p
    · rw [if_pos hs]
      refine br_f (by decide) ⟨vp_in_nI hp (by decide), ?_⟩
      exact xt_res (B p) (hB p hp) (hb p hp) (fun z => br_f (by decide) (h1 ⟨p, hp, hs, z⟩)) (fun z => br_t rfl (nm_r (nI_1 p) (IH (fun y => z y.2))))
    · rw [if_neg hs]
      exact br_t rfl (nm_r (nI_1 p) (IH (fun y => hs y.1)))
end
section
variable {ln ls fc dl ru oc pc : Int32} {xb xs kd so im na sa la ga ce rg fr : Nat → Int32} {B : Nat → Nat}
/-! X: masks and targets -/
theorem xk_50 {post : Int32 → Prop} {b m w : Nat} (hb : b < 256) (hm : m < 256) (hw : w < 256) {z : Int32} (hz : z = nI w) (h1 : m / 16 = w ∧ m / 4 % 4 = b / 4 % 4 → post 1) (h0 : ¬ (m / 16 = w ∧ m / 4 % 4 = b / 4 % 4) → post 0) : wX_maskedAt_50 post (nI b) (nI m) z ln ls fc dl ru oc pc xb xs kd so im na sa la ga ce rg fr := by
  unfold wX_maskedAt_50
  refine pk_eq (m / 16) w (fun y => ?_) (fun y => h0 (fun u => y u.1)) (fi_sh4 (by omega)) hz
  exact pk_eq (m / 4 % 4) (b / 4 % 4) (fun y2 => h1 ⟨y, y2⟩) (fun y2 => h0 (fun u => y2 u.2)) (fi_fa (by omega)) (fi_fa (by omega))
theorem xk_msk {post : Int32 → Prop} (hB : ∀ j, j < 16 → xb j = nI (B j)) (hb : ∀ j, j < 16 → B j < 256) (hst : ∀ j, j < 16 → xs j = if fi_St B j then 1 else 0) {p : Nat} (hp : p < 16)
    (h1 : fi_msk B p → post 1) (h0 : ¬ fi_msk B p → post 0) : wpX_maskedAt post (ln, ls, fc, dl, ru, oc, pc, xb, xs, kd, so, im, na, sa, la, ga, ce, rg, fr) (nI p) := by
  unfold wpX_maskedAt
  refine pk_eq (p % 4) 0 (fun y => h0 (fun u => u.1 y)) (fun y => ?_) (fi_a3 (by omega))
  have e1 : nI p - 1 = nI (p - 1) := pk_sub (b := 1) (by omega)
  have hb1 := hb (p - 1) (by omega)
  have hb0 := hb p hp
  rw [e1]
  refine ⟨vp_in_nI (by omega) (by decide), ?_⟩
  rw [nI_clamp (by omega), hst (p - 1) (by omega)]
  by_cases hs : fi_St B (p - 1)
  · rw [if_pos hs]
    refine br_f (by decide) ⟨vp_in_nI hp (by decide), nm_r (e' := nI (B p)) (by rw [nI_clamp (by omega)]; exact hB p hp) ⟨vp_in_nI (by omega) (by decide), nm_r (e' := nI (B (p - 1))) (hB (p - 1) (by omega)) ?_⟩⟩
    refine pk_eq (B p / 16) 9 (fun z => ?_) (fun z => ?_) (fi_sh4 (by omega))
    · refine xk_50 (w := 10) hb0 hb1 (by decide) rfl (fun u => h1 ⟨y, hs, ?_, u.2⟩) (fun u => h0 (fun v => u ⟨?_, v.2.2.2⟩))
      · rw [if_pos z]; exact u.1
      · have := v.2.2.1; rw [if_pos z] at this; exact this
    · refine xk_50 (w := 11) hb0 hb1 (by decide) rfl (fun u => h1 ⟨y, hs, ?_, u.2⟩) (fun u => h0 (fun v => u ⟨?_, v.2.2.2⟩))
      · rw [if_neg z]; exact u.1
      · have := v.2.2.1; rw [if_neg z] at this; exact this
  · rw [if_neg hs]
    exact br_t rfl (h0 (fun u => hs u.2.1))
theorem xu_any {post : Int32 → Prop} (hB : ∀ j, j < 16 → xb j = nI (B j)) (hb : ∀ j, j < 16 → B j < 256) (hst : ∀ j, j < 16 → xs j = if fi_St B j then 1 else 0)
    (h1 : fi_E B (fi_unm B) → post 1) (h0 : fi_N B (fi_unm B) → post 0) : wpX_anyUnmasked post (ln, ls, fc, dl, ru, oc, pc, xb, xs, kd, so, im, na, sa, la, ga, ce, rg, fr) := by
  refine ⟨17, ?_⟩
  refine fi_any (fun n p => wX_anyUnmasked_2 post ln ls fc dl ru oc pc xb xs kd so im na sa la ga ce rg fr n (nI p)) (fun p => fi_St B p ∧ fi_unm B p) 16 ?_ ?_
  · intro hN n
    exact br_t (by decide) (h0 (fun q hq hs hm => hN q hq ⟨hs, hm⟩))
  · intro n p hp IH
    refine br_f (nI_ge (b := 16) hp (by decide)) ⟨vp_in_nI hp (by decide), ?_⟩
    rw [nI_clamp (by omega), hst p hp]
    by_cases hs : fi_St B p
    · rw [if_pos hs]
      refine br_f (by decide) ⟨vp_in_nI hp (by decide), ?_⟩
      refine xu_use (B p) (hB p hp) (hb p hp) (fun z => br_f (by decide) ?_) (fun z => br_t rfl (nm_r (nI_1 p) (IH (fun y => z y.2.1))))
      exact xk_msk hB hb hst hp (fun m => br_f (by decide) (nm_r (nI_1 p) (IH (fun y => y.2.2 m)))) (fun m => br_t rfl (h1 ⟨p, hp, hs, z, m⟩))
    · rw [if_neg hs]
      exact br_t rfl (nm_r (nI_1 p) (IH (fun y => hs y.1)))
theorem xb_any {post : Int32 → Prop} (ad : Bool) (hB : ∀ j, j < 16 → xb j = nI (B j)) (hb : ∀ j, j < 16 → B j < 256) (hst : ∀ j, j < 16 → xs j = if fi_St B j then 1 else 0) (hN0 : fi_N B (fi_mal ad B))
    (h1 : fi_E B (fi_bt ad B) → post 1) (h0 : fi_N B (fi_bt ad B) → post 0) : wpX_anyBadTarget post (ln, ls, fc, dl, ru, oc, pc, xb, xs, kd, so, im, na, sa, la, ga, ce, rg, fr) (fi_ad ad) := by
  refine ⟨17, ?_⟩
  refine fi_any (fun n p => wX_anyBadTarget_2 post (fi_ad ad) ln ls fc dl ru oc pc xb xs kd so im na sa la ga ce rg fr n (nI p)) (fun p => fi_St B p ∧ fi_bt ad B p) 16 ?_ ?_
  · intro hN n
    exact br_t (by decide) (h0 (fun q hq hs hm => hN q hq ⟨hs, hm⟩))
  · intro n p hp IH
    refine br_f (nI_ge (b := 16) hp (by decide)) ⟨vp_in_nI hp (by decide), ?_⟩
    rw [nI_clamp (by omega), hst p hp]
    by_cases hs : fi_St B p
    · rw [if_pos hs]
      refine br_f (by decide) ⟨vp_in_nI hp (by decide), ?_⟩
      refine xd_dj (B p) (hB p hp) (hb p hp) (fun z => br_f (by decide) ?_) (fun z => br_t rfl (nm_r (nI_1 p) (IH (fun y => z y.2.1))))
      have hp1 : p + 1 < 16 := by
        have hm := hN0 p hp hs
        have hl : fi_len (B p) = 2 := by
          show fi_lo (B p / 16) = 2
          rcases z with z | z <;> rw [z] <;> rfl
        rcases Nat.lt_or_ge 16 (p + fi_len (B p)) with w | w
        · exact absurd (Or.inr (Or.inl w)) hm
        · omega
      have e1 : (nI p + 1) &&& 15 = nI (p + 1) := by rw [nI_1, fi_a15 (by omega)]; exact congrArg nI (by omega)
      rw [e1]
      have hbt := hb (p + 1) hp1
      refine ⟨vp_in_nI hp1 (by decide), nm_r (e' := nI (B (p + 1))) (by rw [nI_clamp (by omega)]; exact hB _ hp1) ?_⟩
      refine pk_lt 15 (B (p + 1)) (fun y => h1 ⟨p, hp, hs, z, Or.inl y⟩) (fun y => ⟨vp_in_nI (by omega) (by decide), ?_⟩)
      rw [nI_clamp (by omega), hst _ (by omega)]
      by_cases ht : fi_St B (B (p + 1))
      · rw [if_pos ht]
        refine br_f (by decide) ?_
        cases ad with
        | true =>
          refine br_f (by decide) (nm_r (nI_1 p) (IH (fun v => ?_)))
          rcases v.2.2 with w | w | w
          · omega
          · exact w ht
          · exact absurd w.1 (by decide)
        | false =>
          refine br_t rfl ⟨vp_in_nI (by omega) (by decide), ?_⟩
          refine xu_use (B (B (p + 1))) (hB _ (by omega)) (hb _ (by omega)) (fun u => br_f (by decide) (h1 ⟨p, hp, hs, z, Or.inr (Or.inr ⟨rfl, u⟩)⟩)) (fun u => br_t rfl (nm_r (nI_1 p) (IH (fun v => ?_))))
          rcases v.2.2 with w | w | w
          · omega
          · exact w ht
          · exact u w.2
      · rw [if_neg ht]
        exact br_t rfl (h1 ⟨p, hp, hs, z, Or.inr (Or.inl ht)⟩)
    · rw [if_neg hs]
      exact br_t rfl (nm_r (nI_1 p) (IH (fun y => hs y.1)))
theorem xc_cl {post : Int32 → Prop} {b : Nat} {q : Nat} (hq : q < 16) (hl : ls = nI q) (hB : xb q = nI b) (hb : b < 256) (hm : ¬ (3 < b ∧ b < 16)) (h1 : fi_cl b → post 1) (h0 : ¬ fi_cl b → post 0) : wpX_endsClosed post (ln, ls, fc, dl, ru, oc, pc, xb, xs, kd, so, im, na, sa, la, ga, ce, rg, fr) := by
  subst hl
  unfold wpX_endsClosed
  refine ⟨vp_in_nI hq (by decide), nm_r (e' := nI b) (by rw [nI_clamp (by omega)]; exact hB) (nm_r (fi_sh4 (by omega)) ?_)⟩
  have K : ¬ (b = 0 ∨ b = 2 ∨ b = 3) → wX_endsClosed_23 post (nI (b / 16)) ln (nI q) fc dl ru oc pc xb xs kd so im na sa la ga ce rg fr := fun h => by
    unfold wX_endsClosed_23
    exact pk_eq (b / 16) 12 (fun y => h1 (by omega)) (fun y => pk_eq (b / 16) 13 (fun y2 => h1 (by omega)) (fun y2 => h0 (by omega)))
  exact pk_eq (b / 16) 0 (fun y => pk_eq b 1 (fun y2 => K (by omega)) (fun y2 => h1 (by omega))) (fun y => K (by omega))
theorem xv_36 {post : Int32 → SX → Prop} (ad : Bool) (hB : ∀ j, j < 16 → xb j = nI (B j)) (hb : ∀ j, j < 16 → B j < 256) (hst : ∀ j, j < 16 → xs j = if fi_St B j then 1 else 0) (hl : ls = nI (fi_ls B 16))
    (n1 : fi_N B (fi_mal ad B)) (n2 : fi_N B (fun p => ad = true ∧ fi_res (B p))) (n3 : fi_N B (fun p => ad = false ∧ fi_unm B p)) (H : ∀ r, fi_V ad B r → post (nI r) (ln, ls, fc, dl, ru, oc, pc, xb, xs, kd, so, im, na, sa, la, ga, ce, rg, fr)) : wX_verdict_36 post (fi_ad ad) ln ls fc dl ru oc pc xb xs kd so im na sa la ga ce rg fr := by
  unfold wX_verdict_36
  refine xb_any ad hB hb hst n1 (fun h => br_f (by decide) (H 4 (Or.inr ⟨n1, Or.inr ⟨n2, Or.inr ⟨n3, Or.inl ⟨rfl, h⟩⟩⟩⟩))) (fun n4 => br_t rfl ?_)
  have hq := fi_ls_st (B := B) 16
  have hq1 : fi_ls B 16 < 16 := by omega
  have hm := n1 _ hq1 hq.1
  exact xc_cl hq1 hl (hB _ hq1) (hb _ hq1) (fun y => hm (Or.inl y)) (fun c => br_f (by decide) (H 0 (Or.inr ⟨n1, Or.inr ⟨n2, Or.inr ⟨n3, Or.inr ⟨n4, Or.inr ⟨rfl, c⟩⟩⟩⟩⟩))) (fun c => br_t rfl (H 5 (Or.inr ⟨n1, Or.inr ⟨n2, Or.inr ⟨n3, Or.inr ⟨n4, Or.inl ⟨rfl, c⟩⟩⟩⟩⟩)))
theorem xv_verdict {post : Int32 → SX → Prop} (ad : Bool) (hB : ∀ j, j < 16 → xb j = nI (B j)) (hb : ∀ j, j < 16 → B j < 256)
    (H : ∀ (r : Nat) (lt : Int32) (st : Nat → Int32), fi_V ad B r → (r = 0 → ∀ j, j < 16 → st j = if fi_St B j then 1 else 0) → post (nI r) (ln, lt, fc, dl, ru, oc, pc, xb, st, kd, so, im, na, sa, la, ga, ce, rg, fr)) : wpX_verdict post (ln, ls, fc, dl, ru, oc, pc, xb, xs, kd, so, im, na, sa, la, ga, ce, rg, fr) (fi_ad ad) := by
  unfold wpX_verdict
  refine xw_walk ad hB hb (fun n1 st hst => br_f (by decide) ?_) (fun e lt st => br_t rfl (H 1 lt st (Or.inl ⟨rfl, e⟩) (fun z => absurd z (by decide))))
  have HH : ∀ r, fi_V ad B r → post (nI r) (ln, nI (fi_ls B 16), fc, dl, ru, oc, pc, xb, st, kd, so, im, na, sa, la, ga, ce, rg, fr) := fun r hr => H r _ st hr (fun _ => hst)
  cases ad with
  | true =>
    refine br_f (by decide) ?_
    refine xr_any hB hb hst (fun h => br_f (by decide) (HH 2 (Or.inr ⟨n1, Or.inl ⟨rfl, ?_⟩⟩))) (fun n2 => br_t rfl ?_)
    · obtain ⟨q, a, b, c⟩ := h; exact ⟨q, a, b, rfl, c⟩
    · unfold wX_verdict_23
      refine br_f (by decide) ?_
      exact xv_36 true hB hb hst rfl n1 (fun q hq hs z => n2 q hq hs z.2) (fun q hq hs z => absurd z.1 (by decide)) HH
  | false =>
    refine br_t rfl ?_
    unfold wX_verdict_23
    refine br_t rfl ?_
    have n2 : fi_N B (fun p => false = true ∧ fi_res (B p)) := fun q hq hs z => absurd z.1 (by decide)
    refine xu_any hB hb hst (fun h => br_f (by decide) (HH 3 (Or.inr ⟨n1, Or.inr ⟨n2, Or.inl ⟨rfl, ?_⟩⟩⟩))) (fun n3 => br_t rfl ?_)
    · obtain ⟨q, a, b, c⟩ := h; exact ⟨q, a, b, rfl, c⟩
    · exact xv_36 false hB hb hst rfl n1 n2 (fun q hq hs z => n3 q hq hs z.2) HH
end
end
section
section
variable {yf yl yn ys : Int32} {yb yk yg ym yr yw : Nat → Int32} {B : Nat → Nat}
/-! Y: the verdict -/
theorem yl_len {post : Int32 → Prop} {x : Int32} (b : Nat) (e : x = nI b) (hb : b < 256) (H : post (nI (fi_len b))) : wpY_size post (yf, yl, yn, ys, yb, yk, yg, ym, yr, yw) x := by
  subst e
  unfold wpY_size
  refine nm_r (fi_sh4 (by omega)) ?_
  have hm : b / 16 < 16 := by omega
  revert H
  show post (nI (fi_lo (b / 16))) → _
  generalize b / 16 = m at hm ⊢
  intro H
  have hc : m = 0 ∨ m = 1 ∨ m = 2 ∨ m = 3 ∨ m = 4 ∨ m = 5 ∨ m = 6 ∨ m = 7 ∨ m = 8 ∨ m = 9 ∨ m = 10 ∨ m = 11 ∨ m = 12 ∨ m = 13 ∨ m = 14 ∨ m = 15 := by omega
  rcases hc with h | h | h | h | h | h | h | h | h | h | h | h | h | h | h | h <;> subst h <;> (repeat first | exact H | refine br_t (by decide) ?_ | refine br_f (by decide) ?_)
theorem yi_48 {post : Int32 → Prop} {p q : Nat} (hq : q < 16) (hp : p ≤ 18) (hpq : q ≤ p) (hI : (p ≤ q ∧ fi_St B p) ∨ (q < p ∧ ¬ fi_St B q)) (h1 : fi_St B q → post 1) (h0 : ¬ fi_St B q → post 0) : wY_isStart_48 post (nI q) (nI p) yf yl yn ys yb yk yg ym yr yw := by
  unfold wY_isStart_48
  refine br_f (nI_ge (b := 16) hq (by decide)) ?_
  refine pk_eq p q (fun e => ?_) (fun e => ?_)
  · rcases hI with h | h
    · exact h1 (e ▸ h.2)
    · omega
  · rcases hI with h | h
    · omega
    · exact h0 h.2
theorem yi_5 {post : Int32 → Prop} {base q : Nat} (hbase : base ≤ 64) (hq : q < 16) (hB : ∀ j, j < 16 → yb (base + j) = nI (B j)) (hb : ∀ j, j < 16 → B j < 256) (h1 : fi_St B q → post 1) (h0 : ¬ fi_St B q → post 0) :
    ∀ n p k, k ≤ p → p ≤ 18 → 19 < n + p → ((p ≤ q ∧ fi_St B p) ∨ (q < p ∧ ¬ fi_St B q)) → wY_isStart_5 post (nI base) (nI q) yf yl yn ys yb yk yg ym yr yw n (nI p) (nI k) := by
  intro n
  induction n with
  | zero => intro p k _ h _ _; omega
  | succ n ih =>
    intro p k hk hp hn hI
    refine pk_le 16 k (fun z => yi_48 hq hp (by omega) hI h1 h0) (fun z => ?_)
    refine pk_le q p (fun z2 => yi_48 hq hp z2 hI h1 h0) (fun z2 => ?_)
    refine br_f (nI_ge (b := 16) (by omega) (by decide)) ?_
    have hp16 : p < 16 := by omega
    have hbp := hb p hp16
    have hl := fi_len_b (B p)
    rw [nI_add]
    refine ⟨vp_in_nI (by omega) (by decide), nm_r (e' := nI (B p)) (by rw [nI_clamp (by omega)]; exact hB p hp16) ?_⟩
    refine yl_len (B p) rfl hbp ?_
    refine nm_r (nI_add _ _) (nm_r (nI_1 k) ?_)
    have hS : fi_St B p := by
      rcases hI with h | h
      · exact h.2
      · omega
    refine ih (p + fi_len (B p)) (k + 1) (by omega) (by omega) (by omega) ?_
    rcases Nat.lt_or_ge q (p + fi_len (B p)) with w | w
    · exact Or.inr ⟨w, fi_St_gap hS z2 w⟩
    · exact Or.inl ⟨w, fi_St_next hS⟩
theorem yi_st {post : Int32 → Prop} {x1 x2 : Int32} (base q : Nat) (e1 : x1 = nI base) (e2 : x2 = nI q) (hbase : base ≤ 64) (hq : q < 16) (hB : ∀ j, j < 16 → yb (base + j) = nI (B j)) (hb : ∀ j, j < 16 → B j < 256) (h1 : fi_St B q → post 1) (h0 : ¬ fi_St B q → post 0) : wpY_isStart post (yf, yl, yn, ys, yb, yk, yg, ym, yr, yw) x1 x2 := by
  subst e1 e2
  refine ⟨20, ?_⟩
  exact yi_5 hbase hq hB hb h1 h0 20 0 0 (Nat.le_refl _) (by decide) (by decide) (Or.inl ⟨Nat.zero_le _, fi_St0⟩)
theorem yb_43 {post : Int32 → Prop} (ad : Bool) {p b : Nat} (hp : p < 16) (hb : b < 256) (h1 : 16 < p + fi_len b ∨ (ad = false ∧ 4 < p % 4 + fi_len b) → post 1) (h0 : ¬ (16 < p + fi_len b ∨ (ad = false ∧ 4 < p % 4 + fi_len b)) → post 0) : wY_breaks_43 post (nI p) (fi_ad ad) (nI b) yf yl yn ys yb yk yg ym yr yw := by
  unfold wY_breaks_43
  have hl := fi_len_b (b)
  refine yl_len b rfl hb ?_
  refine pk_lt 16 (p + fi_len b) (fun z => h1 (Or.inl z)) (fun z => ?_) rfl (nI_add _ _)
  cases ad with
  | true => exact br_f (by decide) (h0 (by intro u; rcases u with u | u; omega; exact absurd u.1 (by decide)))
  | false =>
    refine br_t rfl ⟨by decide, ?_⟩
    refine yl_len b rfl hb ?_
    refine pk_le (p % 4 + fi_len b) 4 (fun z2 => h0 (by omega)) (fun z2 => h1 (Or.inr ⟨rfl, z2⟩)) ?_ rfl
    rw [show (4 : Int32) = nI 4 from rfl, pk_rem (by omega) (by decide) (by decide), nI_add]
theorem yb_181 {post : Int32 → Prop} {b : Nat} (hb : b < 256) {z : Int32} {Q : Prop} (hz : Q → z = 1) (hz0 : ¬ Q → z = 0) (h1 : Q ∧ b % 4 = 3 → post 1) (h0 : ¬ (Q ∧ b % 4 = 3) → post 0) : wY_breaks_181 post (nI b) z yf yl yn ys yb yk yg ym yr yw := by
  unfold wY_breaks_181
  rcases Classical.em Q with q | q
  · rw [hz q]
    refine br_f (by decide) ?_
    exact pk_eq (b % 4) 3 (fun y => h1 ⟨q, y⟩) (fun y => h0 (fun w => y w.2)) (fi_a3 (by omega))
  · rw [hz0 q]
    exact br_t rfl (h0 (fun w => q w.1))
theorem yb_150 {post : Int32 → Prop} (ad : Bool) {b : Nat} (hb : b < 256) {z w : Int32} {Q P : Prop} (hw : P → w = 1) (hw0 : ¬ P → w = 0) (hz : Q → z = 1) (hz0 : ¬ Q → z = 0)
    (h1 : ad = true ∧ (b / 16 = 10 ∨ b / 16 = 11 ∨ (P ∧ b / 4 % 4 = 3) ∨ (Q ∧ b % 4 = 3)) → post 1) (h0 : ¬ (ad = true ∧ (b / 16 = 10 ∨ b / 16 = 11 ∨ (P ∧ b / 4 % 4 = 3) ∨ (Q ∧ b % 4 = 3))) → post 0) : wY_breaks_150 post (fi_ad ad) (nI b) (nI (b / 16)) (nI (b / 4 % 4)) w z yf yl yn ys yb yk yg ym yr yw := by
  unfold wY_breaks_150
  cases ad with
  | false => exact br_t rfl (h0 (fun u => absurd u.1 (by decide)))
  | true =>
    refine br_f (by decide) ?_
    refine pk_eq (b / 16) 10 (fun y => h1 ⟨rfl, Or.inl y⟩) (fun y => pk_eq (b / 16) 11 (fun y2 => h1 ⟨rfl, Or.inr (Or.inl y2)⟩) (fun y2 => ?_))
    have K : ¬ (P ∧ b / 4 % 4 = 3) → wY_breaks_181 post (nI b) z yf yl yn ys yb yk yg ym yr yw := fun h =>
      yb_181 hb hz hz0 (fun u => h1 ⟨rfl, Or.inr (Or.inr (Or.inr u))⟩) (fun u => h0 (by intro v; rcases v.2 with v | v | v | v; exact y v; exact y2 v; exact h v; exact u v))
    rcases Classical.em P with q | q
    · rw [hw q]
      refine br_f (by decide) ?_
      exact pk_eq (b / 4 % 4) 3 (fun t => h1 ⟨rfl, Or.inr (Or.inr (Or.inl ⟨q, t⟩))⟩) (fun t => K (fun u => t u.2))
    · rw [hw0 q]
      exact br_t rfl (K (fun u => q u.1))
theorem yb_117 {post : Int32 → Prop} (ad : Bool) {b : Nat} (hb : b < 256) {w : Int32} {P : Prop} (hw : P → w = 1) (hw0 : ¬ P → w = 0)
    (h1 : ad = true ∧ (b / 16 = 10 ∨ b / 16 = 11 ∨ (P ∧ b / 4 % 4 = 3) ∨ (fi_nB (b / 16) ∧ b % 4 = 3)) → post 1) (h0 : ¬ (ad = true ∧ (b / 16 = 10 ∨ b / 16 = 11 ∨ (P ∧ b / 4 % 4 = 3) ∨ (fi_nB (b / 16) ∧ b % 4 = 3))) → post 0) : wY_breaks_117 post (fi_ad ad) (nI b) (nI (b / 16)) (nI (b / 4 % 4)) w yf yl yn ys yb yk yg ym yr yw := by
  have K1 : fi_nB (b / 16) → wY_breaks_145 post (fi_ad ad) (nI b) (nI (b / 16)) (nI (b / 4 % 4)) w yf yl yn ys yb yk yg ym yr yw := fun h => by
    unfold wY_breaks_145
    exact yb_150 ad hb (Q := fi_nB (b / 16)) hw hw0 (fun _ => rfl) (fun y => absurd h y) h1 h0
  have K0 : ¬ fi_nB (b / 16) → wY_breaks_150 post (fi_ad ad) (nI b) (nI (b / 16)) (nI (b / 4 % 4)) w 0 yf yl yn ys yb yk yg ym yr yw := fun h =>
    yb_150 ad hb (Q := fi_nB (b / 16)) hw hw0 (fun y => absurd y h) (fun _ => rfl) h1 h0
  have K57 : ¬ (1 ≤ b / 16 ∧ b / 16 ≤ 4) → wY_breaks_131 post (fi_ad ad) (nI b) (nI (b / 16)) (nI (b / 4 % 4)) w yf yl yn ys yb yk yg ym yr yw := fun h => by
    unfold wY_breaks_131
    exact pk_eq (b / 16) 8 (fun y => K1 (Or.inr (Or.inl y))) (fun y => pk_eq (b / 16) 9 (fun y2 => K1 (Or.inr (Or.inr y2))) (fun y2 => K0 (by intro u; rcases u with u | u | u; exact h u; exact y u; exact y2 u)))
  unfold wY_breaks_117
  exact pk_lt (b / 16) 1 (fun y => K57 (by omega)) (fun y => pk_le (b / 16) 4 (fun y2 => K1 (Or.inl ⟨y, y2⟩)) (fun y2 => K57 (by omega)))
theorem yb_225 {post : Int32 → Prop} (hB : ∀ j, j < 16 → yb (64 + j) = nI (B j)) (hb : ∀ j, j < 16 → B j < 256) {p : Nat} (hp : p < 16)
    (h1 : ¬ fi_msk B p → post 1) (h0 : fi_msk B p → post 0) : wY_breaks_225 post (nI p) (nI (B p / 16)) (nI (B p / 4 % 4)) yf yl yn ys yb yk yg ym yr yw := by
  unfold wY_breaks_225
  refine ⟨by decide, ?_⟩
  have hb0 := hb p hp
  refine pk_eq (p % 4) 0 (fun y => h1 (fun u => u.1 y)) (fun y => ?_) (by rw [show (4 : Int32) = nI 4 from rfl, pk_rem (by omega) (by decide) (by decide)])
  have e1 : nI p - 1 = nI (p - 1) := pk_sub (b := 1) (by omega)
  have hb1 := hb (p - 1) (by omega)
  refine yi_st 64 (p - 1) rfl e1 (by decide) (by omega) hB hb (fun hs => br_f (by decide) ?_) (fun hs => br_t rfl (h1 (fun u => hs u.2.1)))
  have e2 : (64 : Int32) + nI p - 1 = nI (64 + (p - 1)) := by
    rw [show (64 : Int32) = nI 64 from rfl, nI_add, show (1 : Int32) = nI 1 from rfl, pk_sub (by omega)]
    exact congrArg nI (by omega)
  rw [e2]
  refine ⟨vp_in_nI (by omega) (by decide), nm_r (e' := nI (B (p - 1))) (by rw [nI_clamp (by omega)]; exact hB (p - 1) (by omega)) ?_⟩
  have K : ∀ (w : Nat), w < 256 → (if B p / 16 = 9 then 10 else 11) = w → ∀ z1 : Int32, z1 = nI w → wY_breaks_276 post (nI (B p / 4 % 4)) (nI (B (p - 1))) z1 (nI (B (p - 1)) >>> ((4 : Int32) &&& 31)) yf yl yn ys yb yk yg ym yr yw := fun w hw ew z1 ez => by
    unfold wY_breaks_276
    refine pk_eq (B (p - 1) / 16) w (fun t => ?_) (fun t => h1 (fun u => t (u.2.2.1.trans ew))) (fi_sh4 (by omega)) ez
    exact pk_eq (B (p - 1) / 4 % 4) (B p / 4 % 4) (fun t2 => h0 ⟨y, hs, t.trans ew.symm, t2⟩) (fun t2 => h1 (fun u => t2 u.2.2.2)) (fi_fa (by omega))
  exact pk_eq (B p / 16) 9 (fun t => K 10 (by decide) (if_pos t) 10 rfl) (fun t => K 11 (by decide) (if_neg t) 11 rfl)
theorem yb_310 {post : Int32 → Prop} (ad : Bool) (hB : ∀ j, j < 16 → yb (64 + j) = nI (B j)) (hb : ∀ j, j < 16 → B j < 256) {p : Nat} (hp : p + 1 < 16) (hd : fi_dj (B p))
    (h1 : fi_bt ad B p → post 1) (h0 : ¬ fi_bt ad B p → post 0) : wY_breaks_310 post (nI p) (fi_ad ad) yf yl yn ys yb yk yg ym yr yw := by
  unfold wY_breaks_310
  refine br_t (nI_le (b := 14) (by omega) (by decide)) ?_
  have hbt := hb (p + 1) hp
  have e2 : (64 : Int32) + nI p + 1 = nI (64 + (p + 1)) := by
    rw [show (64 : Int32) = nI 64 from rfl, nI_add, nI_1]; rfl
  rw [e2]
  refine ⟨vp_in_nI (by omega) (by decide), nm_r (e' := nI (B (p + 1))) (by rw [nI_clamp (by omega)]; exact hB (p + 1) hp) ?_⟩
  refine pk_lt 15 (B (p + 1)) (fun y => h1 ⟨hd, Or.inl y⟩) (fun y => ?_)
  refine yi_st 64 (B (p + 1)) rfl rfl (by decide) (by omega) hB hb (fun hs => br_f (by decide) ?_) (fun hs => br_t rfl (h1 ⟨hd, Or.inr (Or.inl hs)⟩))
  have hbb := hb (B (p + 1)) (by omega)
  have e3 : (64 : Int32) + nI (B (p + 1)) = nI (64 + B (p + 1)) := nI_add 64 _
  rw [e3]
  refine ⟨vp_in_nI (by omega) (by decide), nm_r (e' := nI (B (B (p + 1)) / 16)) (by rw [nI_clamp (by omega), hB _ (by omega), fi_sh4 (by omega)]) ?_⟩
  cases ad with
  | true =>
    refine br_f (by decide) (h0 (fun v => ?_))
    rcases v.2 with w | w | w
    · omega
    · exact w hs
    · exact absurd w.1 (by decide)
  | false =>
    refine br_t rfl ?_
    refine pk_eq (B (B (p + 1)) / 16) 9 (fun t => h1 ⟨hd, Or.inr (Or.inr ⟨rfl, Or.inl t⟩)⟩) (fun t => pk_eq (B (B (p + 1)) / 16) 12 (fun t2 => h1 ⟨hd, Or.inr (Or.inr ⟨rfl, Or.inr t2⟩)⟩) (fun t2 => h0 (fun v => ?_)))
    rcases v.2 with w | w | w
    · omega
    · exact w hs
    · exact w.2.elim t t2
end
section
variable {yf yl yn ys : Int32} {yb yk yg ym yr yw : Nat → Int32} {B : Nat → Nat}
/-! Y: the rules one by one -/
theorem yb_hd {post : Int32 → Prop} {r p : Nat} {z : Int32} (hB : ∀ j, j < 16 → yb (64 + j) = nI (B j)) (hb : ∀ j, j < 16 → B j < 256) (hp : p < 16)
    (H : (((nI r = 1 → ((nI (B p) ≤ 3 → wY_breaks_43 post (nI p) z (nI (B p)) yf yl yn ys yb yk yg ym yr yw) ∧ (¬ nI (B p) ≤ 3 → ((nI (B p) < 16 → post 1) ∧ (¬ nI (B p) < 16 → wY_breaks_43 post (nI p) z (nI (B p)) yf yl yn ys yb yk yg ym yr yw))))) ∧
      (¬ nI r = 1 → ((nI r = 2 → ((nI (B p / 16) < 1 → wY_breaks_98 post z (nI (B p)) (nI (B p / 16)) (nI (B p / 4 % 4)) yf yl yn ys yb yk yg ym yr yw) ∧ (¬ nI (B p / 16) < 1 → ((nI (B p / 16) ≤ 9 → wY_breaks_112 post z (nI (B p)) (nI (B p / 16)) (nI (B p / 4 % 4)) yf yl yn ys yb yk yg ym yr yw) ∧ (¬ nI (B p / 16) ≤ 9 → wY_breaks_98 post z (nI (B p)) (nI (B p / 16)) (nI (B p / 4 % 4)) yf yl yn ys yb yk yg ym yr yw))))) ∧
      (¬ nI r = 2 → ((nI r = 3 → ((z = 0 → ((nI (B p / 16) = 9 → wY_breaks_225 post (nI p) (nI (B p / 16)) (nI (B p / 4 % 4)) yf yl yn ys yb yk yg ym yr yw) ∧ (¬ nI (B p / 16) = 9 → ((nI (B p / 16) = 12 → wY_breaks_225 post (nI p) (nI (B p / 16)) (nI (B p / 4 % 4)) yf yl yn ys yb yk yg ym yr yw) ∧ (¬ nI (B p / 16) = 12 → post 0))))) ∧ (¬ z = 0 → post 0))) ∧
      (¬ nI r = 3 → ((nI (B p / 16) = 13 → wY_breaks_310 post (nI p) z yf yl yn ys yb yk yg ym yr yw) ∧ (¬ nI (B p / 16) = 13 → ((nI (B p / 16) = 14 → wY_breaks_310 post (nI p) z yf yl yn ys yb yk yg ym yr yw) ∧ (¬ nI (B p / 16) = 14 → post 0)))))))))))) : wpY_breaks post (yf, yl, yn, ys, yb, yk, yg, ym, yr, yw) (nI r) (nI p) z := by
  unfold wpY_breaks
  have e3 : (64 : Int32) + nI p = nI (64 + p) := nI_add 64 _
  have hbp := hb p hp
  dsimp only
  rw [e3]
  refine ⟨vp_in_nI (by omega) (by decide), nm_r (e' := nI (B p)) (by rw [nI_clamp (by omega)]; exact hB p hp) (nm_r (fi_sh4 (by omega)) (nm_r (fi_fa (by omega)) ?_))⟩
  exact H
theorem yb_1 {post : Int32 → Prop} (ad : Bool) {p : Nat} (hB : ∀ j, j < 16 → yb (64 + j) = nI (B j)) (hb : ∀ j, j < 16 → B j < 256) (hp : p < 16) (h1 : fi_mal ad B p → post 1) (h0 : ¬ fi_mal ad B p → post 0) : wpY_breaks post (yf, yl, yn, ys, yb, yk, yg, ym, yr, yw) (nI 1) (nI p) (fi_ad ad) := by
  have hbp := hb p hp
  refine yb_hd hB hb hp (br_t rfl ?_)
  refine pk_le (B p) 3 (fun z => ?_) (fun z => pk_lt (B p) 16 (fun z2 => h1 (Or.inl ⟨z, z2⟩)) (fun z2 => ?_))
  · exact yb_43 ad hp hbp (fun u => h1 (Or.inr u)) (fun u => h0 (fun m => m.elim (fun y => absurd y.1 (by omega)) u))
  · exact yb_43 ad hp hbp (fun u => h1 (Or.inr u)) (fun u => h0 (fun m => m.elim (fun y => absurd y.2 (by omega)) u))
theorem yb_2 {post : Int32 → Prop} (ad : Bool) {p : Nat} (hB : ∀ j, j < 16 → yb (64 + j) = nI (B j)) (hb : ∀ j, j < 16 → B j < 256) (hp : p < 16) (h1 : ad = true ∧ fi_res (B p) → post 1) (h0 : ¬ (ad = true ∧ fi_res (B p)) → post 0) : wpY_breaks post (yf, yl, yn, ys, yb, yk, yg, ym, yr, yw) (nI 2) (nI p) (fi_ad ad) := by
  have hbp := hb p hp
  refine yb_hd hB hb hp (br_f (by decide) (br_t rfl ?_))
  generalize hbe : B p = b at *
  have K1 : fi_nA (b / 16) → wY_breaks_112 post (fi_ad ad) (nI b) (nI (b / 16)) (nI (b / 4 % 4)) yf yl yn ys yb yk yg ym yr yw := fun h => by
    unfold wY_breaks_112
    exact yb_117 ad hbp (P := fi_nA (b / 16)) (fun _ => rfl) (fun z => absurd h z) h1 h0
  have K0 : ¬ fi_nA (b / 16) → wY_breaks_117 post (fi_ad ad) (nI b) (nI (b / 16)) (nI (b / 4 % 4)) 0 yf yl yn ys yb yk yg ym yr yw := fun h =>
    yb_117 ad hbp (P := fi_nA (b / 16)) (fun z => absurd z h) (fun _ => rfl) h1 h0
  have K29 : ¬ (1 ≤ b / 16 ∧ b / 16 ≤ 9) → wY_breaks_98 post (fi_ad ad) (nI b) (nI (b / 16)) (nI (b / 4 % 4)) yf yl yn ys yb yk yg ym yr yw := fun h => by
    unfold wY_breaks_98
    exact pk_eq (b / 16) 12 (fun z => K1 (Or.inr (Or.inl z))) (fun z => pk_eq (b / 16) 14 (fun z2 => K1 (Or.inr (Or.inr z2))) (fun z2 => K0 (by intro u; rcases u with u | u | u; exact h u; exact z u; exact z2 u)))
  exact pk_lt (b / 16) 1 (fun z => K29 (by omega)) (fun z => pk_le (b / 16) 9 (fun z2 => K1 (Or.inl ⟨z, z2⟩)) (fun z2 => K29 (by omega)))
theorem yb_3 {post : Int32 → Prop} (ad : Bool) {p : Nat} (hB : ∀ j, j < 16 → yb (64 + j) = nI (B j)) (hb : ∀ j, j < 16 → B j < 256) (hp : p < 16) (h1 : ad = false ∧ fi_unm B p → post 1) (h0 : ¬ (ad = false ∧ fi_unm B p) → post 0) : wpY_breaks post (yf, yl, yn, ys, yb, yk, yg, ym, yr, yw) (nI 3) (nI p) (fi_ad ad) := by
  have hbp := hb p hp
  refine yb_hd hB hb hp (br_f (by decide) (br_f (by decide) (br_t rfl ?_)))
  cases ad with
  | true => exact br_f (by decide) (h0 (fun u => absurd u.1 (by decide)))
  | false =>
    refine br_t rfl ?_
    have K : fi_use (B p) → wY_breaks_225 post (nI p) (nI (B p / 16)) (nI (B p / 4 % 4)) yf yl yn ys yb yk yg ym yr yw := fun h =>
      yb_225 hB hb hp (fun m => h1 ⟨rfl, h, m⟩) (fun m => h0 (fun u => u.2.2 m))
    exact pk_eq (B p / 16) 9 (fun t => K (Or.inl t)) (fun t => pk_eq (B p / 16) 12 (fun t2 => K (Or.inr t2)) (fun t2 => h0 (fun u => u.2.1.elim t t2)))
theorem yb_4 {post : Int32 → Prop} (ad : Bool) {p : Nat} (hB : ∀ j, j < 16 → yb (64 + j) = nI (B j)) (hb : ∀ j, j < 16 → B j < 256) (hp : p < 16) (hm : ¬ fi_mal ad B p) (h1 : fi_bt ad B p → post 1) (h0 : ¬ fi_bt ad B p → post 0) : wpY_breaks post (yf, yl, yn, ys, yb, yk, yg, ym, yr, yw) (nI 4) (nI p) (fi_ad ad) := by
  have hbp := hb p hp
  refine yb_hd hB hb hp (br_f (by decide) (br_f (by decide) (br_f (by decide) ?_)))
  have K : fi_dj (B p) → wY_breaks_310 post (nI p) (fi_ad ad) yf yl yn ys yb yk yg ym yr yw := fun h => by
    have hl : fi_len (B p) = 2 := by
      show fi_lo (B p / 16) = 2
      rcases h with z | z <;> rw [z] <;> rfl
    have hp1 : p + 1 < 16 := by
      rcases Nat.lt_or_ge 16 (p + fi_len (B p)) with w | w
      · exact absurd (Or.inr (Or.inl w)) hm
      · omega
    exact yb_310 ad hB hb hp1 h h1 h0
  exact pk_eq (B p / 16) 13 (fun t => K (Or.inl t)) (fun t => pk_eq (B p / 16) 14 (fun t2 => K (Or.inr t2)) (fun t2 => h0 (fun u => u.1.elim t t2)))
theorem yv_12 {post : Int32 → Prop} {J : Int32 → Int32 → Prop} {z lt : Int32} (r : Nat) (P : Nat → Prop) (hB : ∀ j, j < 16 → yb (64 + j) = nI (B j)) (hb : ∀ j, j < 16 → B j < 256)
    (hbr : ∀ (p : Nat) (po : Int32 → Prop), p < 16 → fi_St B p → (P p → po 1) → (¬ P p → po 0) → wpY_breaks po (yf, yl, yn, ys, yb, yk, yg, ym, yr, yw) (nI r) (nI p) z)
    (h0 : fi_N B P → J (nI (fi_ls B 16)) (nI (r + 1))) (h1 : fi_E B P → post (nI r)) : wY_verdict_12 post J z (nI r) yf yl yn ys yb yk yg ym yr yw 17 lt 0 := by
  have K := fi_any (fun n p => ∀ l : Int32, (p = 0 ∨ l = nI (fi_ls B p)) → wY_verdict_12 post J z (nI r) yf yl yn ys yb yk yg ym yr yw n l (nI p)) (fun p => fi_St B p ∧ P p) 16 ?_ ?_
  · exact K lt (Or.inl rfl)
  · intro hN n l hl
    refine br_t (by decide) (nm_r (nI_1 r) ?_)
    rcases hl with hl | hl
    · exact absurd hl (by decide)
    rw [hl]
    exact h0 (fun q hq hs hm => hN q hq ⟨hs, hm⟩)
  · intro n p hp IH l hl
    refine br_f (nI_ge (b := 16) hp (by decide)) ?_
    refine yi_st 64 p rfl rfl (by decide) hp hB hb (fun hs => br_f (by decide) ?_) (fun hs => br_t rfl (nm_r (nI_1 p) (IH (fun y => hs y.1) l (Or.inr ?_))))
    · refine hbr p _ hp hs (fun q => br_f (by decide) (h1 ⟨p, hp, hs, q⟩)) (fun q => br_t rfl (nm_r (nI_1 p) (IH (fun y => q y.2) (nI p) (Or.inr ?_))))
      rw [fi_ls_s hs]
    · rcases hl with hl | hl
      · exact absurd (hl ▸ fi_St0) hs
      · rw [fi_ls_n hs]; exact hl
theorem yv_verdict {post : Int32 → Prop} (ad : Bool) (hB : ∀ j, j < 16 → yb (64 + j) = nI (B j)) (hb : ∀ j, j < 16 → B j < 256) (H : ∀ r, fi_V ad B r → post (nI r)) : wpY_verdict post (yf, yl, yn, ys, yb, yk, yg, ym, yr, yw) (fi_ad ad) := by
  refine ⟨5, ?_⟩
  refine br_f (by decide) ⟨17, yv_12 1 (fi_mal ad B) hB hb (fun p po hp hs a b => yb_1 ad hB hb hp a b) (fun n1 => ?_) (fun e => H 1 (Or.inl ⟨rfl, e⟩))⟩
  refine br_f (by decide) ⟨17, yv_12 2 (fun p => ad = true ∧ fi_res (B p)) hB hb (fun p po hp hs a b => yb_2 ad hB hb hp a b) (fun n2 => ?_) (fun e => H 2 (Or.inr ⟨n1, Or.inl ⟨rfl, e⟩⟩))⟩
  refine br_f (by decide) ⟨17, yv_12 3 (fun p => ad = false ∧ fi_unm B p) hB hb (fun p po hp hs a b => yb_3 ad hB hb hp a b) (fun n3 => ?_) (fun e => H 3 (Or.inr ⟨n1, Or.inr ⟨n2, Or.inl ⟨rfl, e⟩⟩⟩))⟩
  refine br_f (by decide) ⟨17, yv_12 4 (fi_bt ad B) hB hb (fun p po hp hs a b => yb_4 ad hB hb hp (n1 p hp hs) a b) (fun n4 => ?_) (fun e => H 4 (Or.inr ⟨n1, Or.inr ⟨n2, Or.inr ⟨n3, Or.inl ⟨rfl, e⟩⟩⟩⟩))⟩
  have hq := fi_ls_st (B := B) 16
  have hq1 : fi_ls B 16 < 16 := by omega
  have hbp := hb _ hq1
  have e3 : (64 : Int32) + nI (fi_ls B 16) = nI (64 + fi_ls B 16) := nI_add 64 _
  refine br_t (by decide) ?_
  rw [e3]
  refine ⟨vp_in_nI (by omega) (by decide), nm_r (e' := nI (B (fi_ls B 16))) (by rw [nI_clamp (by omega)]; exact hB _ hq1) ?_⟩
  have HH : fi_cl (B (fi_ls B 16)) → post 0 := fun c => H 0 (Or.inr ⟨n1, Or.inr ⟨n2, Or.inr ⟨n3, Or.inr ⟨n4, Or.inr ⟨rfl, c⟩⟩⟩⟩⟩)
  have H5 : ¬ fi_cl (B (fi_ls B 16)) → post 5 := fun c => H 5 (Or.inr ⟨n1, Or.inr ⟨n2, Or.inr ⟨n3, Or.inr ⟨n4, Or.inl ⟨rfl, c⟩⟩⟩⟩⟩)
  generalize B (fi_ls B 16) = b at hbp HH H5 ⊢
  exact pk_eq b 0 (fun y => HH (by omega)) (fun y => pk_eq b 2 (fun y => HH (by omega)) (fun y => pk_eq b 3 (fun y => HH (by omega)) (fun y => pk_eq (b / 16) 12 (fun y => HH (by omega)) (fun y => pk_eq (b / 16) 13 (fun y => HH (by omega)) (fun y => H5 (by omega)) (fi_sh4 (by omega))) (fi_sh4 (by omega)))))
end
end
section
section
variable {B : Nat → Nat}
/-! the layout of a rewritten module -/
abbrev fi_sz (b : Nat) : Nat := if fi_use b then 2 else fi_len b
def fi_al (a m : Nat) : Nat := if 4 < a % 4 + m then (a + 3) / 4 * 4 else a
def fi_lay (B : Nat → Nat) : Nat → Nat
  | 0 => 0
  | p + 1 => if fi_St B p then fi_al (fi_lay B p) (fi_sz (B p)) + fi_sz (B p) else fi_lay B p
def fi_na (B : Nat → Nat) (p : Nat) : Nat := fi_al (fi_lay B p) (fi_sz (B p))
def fi_pad (B : Nat → Nat) : Nat := (fi_lay B 16 + 3) / 4 * 4
theorem fi_sz_b (b : Nat) : 1 ≤ fi_sz b ∧ fi_sz b ≤ 3 := by
  have := fi_len_b (b)
  show 1 ≤ (if fi_use b then 2 else fi_len b) ∧ (if fi_use b then 2 else fi_len b) ≤ 3
  split
  · omega
  · exact this
theorem fi_al_b {a m : Nat} (hm : m ≤ 3) : a ≤ fi_al a m ∧ fi_al a m + m ≤ a + 2 * m ∧ fi_al a m ≤ a + 3 := by
  unfold fi_al
  split <;> omega
theorem fi_lay_s {p : Nat} (h : fi_St B p) : fi_lay B (p + 1) = fi_na B p + fi_sz (B p) := by
  show (if fi_St B p then _ else _) = _
  rw [if_pos h]; rfl
theorem fi_lay_n {p : Nat} (h : ¬ fi_St B p) : fi_lay B (p + 1) = fi_lay B p := by
  show (if fi_St B p then _ else _) = _
  rw [if_neg h]
theorem fi_al_3 {a b : Nat} : fi_al a (fi_sz b) + fi_sz b ≤ a + 3 * fi_len b := by
  have h := fi_len_b (b)
  show fi_al a (if fi_use b then 2 else fi_len b) + (if fi_use b then 2 else fi_len b) ≤ a + 3 * fi_len b
  split
  · unfold fi_al
    split <;> omega
  · have := fi_al_b (a := a) (m := fi_len b) h.2
    omega
theorem fi_lay_le (p : Nat) : fi_lay B p ≤ 3 * fi_nx B p := by
  induction p with
  | zero => exact Nat.zero_le _
  | succ p ih =>
    by_cases h : fi_St B p
    · rw [fi_lay_s h, fi_nx_s h]
      have h1 := fi_al_3 (a := fi_lay B p) (b := B p)
      have h2 : fi_nx B p = p := h
      unfold fi_na
      omega
    · rw [fi_lay_n h, fi_nx_n h]; exact ih
theorem fi_na_ge (p : Nat) : fi_lay B p ≤ fi_na B p := (fi_al_b (fi_sz_b (B p)).2).1
theorem fi_na_le (p : Nat) : fi_na B p ≤ fi_lay B p + 3 := (fi_al_b (fi_sz_b (B p)).2).2.2
theorem fi_lay_mono1 (p : Nat) : fi_lay B p ≤ fi_lay B (p + 1) := by
  by_cases h : fi_St B p
  · rw [fi_lay_s h]; have := fi_na_ge (B := B) p; omega
  · rw [fi_lay_n h]; exact Nat.le_refl _
theorem fi_lay_mono {p q : Nat} (h : p ≤ q) : fi_lay B p ≤ fi_lay B q := by
  obtain ⟨d, rfl⟩ : ∃ d, q = p + d := ⟨q - p, by omega⟩
  clear h
  induction d with
  | zero => exact Nat.le_refl _
  | succ d ih => exact Nat.le_trans ih (fi_lay_mono1 (p + d))
theorem fi_lay_gap {p : Nat} (h : fi_St B p) : fi_lay B (p + fi_len (B p)) = fi_na B p + fi_sz (B p) := by
  have H : ∀ d, d < fi_len (B p) → fi_lay B (p + 1 + d) = fi_na B p + fi_sz (B p) := by
    intro d
    induction d with
    | zero => intro _; exact fi_lay_s h
    | succ d ih =>
      intro hd
      rw [show p + 1 + (d + 1) = (p + 1 + d) + 1 by omega, fi_lay_n (fi_St_gap h (by omega) (by omega))]
      exact ih (by omega)
  have hl := fi_len_b (B p)
  have e := H (fi_len (B p) - 1) (by omega)
  rw [show p + 1 + (fi_len (B p) - 1) = p + fi_len (B p) by omega] at e
  exact e
theorem fi_lay16 {ad : Bool} (h : fi_OK ad B) : fi_lay B 16 ≤ 48 := by
  have h1 := fi_lay_le (B := B) 16
  rw [fi_nx16 h] at h1
  omega
theorem fi_na_48 {ad : Bool} (h : fi_OK ad B) {p : Nat} (hp : p < 16) (hs : fi_St B p) : fi_na B p + fi_sz (B p) ≤ fi_lay B 16 := by
  rw [← fi_lay_s hs]
  exact fi_lay_mono (by omega)
/-- two starts: the first one's bytes lie ahead of the second -/
theorem fi_na_lt {p q : Nat} (hs : fi_St B p) (h : p < q) : fi_na B p + fi_sz (B p) ≤ fi_na B q := by
  rw [← fi_lay_s hs]
  exact Nat.le_trans (fi_lay_mono (by omega)) (fi_na_ge q)

/-! what an admitted slot holds -/
abbrev fi_nz (ad : Bool) (b : Nat) : Nat := if ad = true ∧ fi_use b then 2 else fi_len b
/-- the native bytes of the start p at N p -/
def fi_C (ad : Bool) (B : Nat → Nat) (s : Nat) (N : Nat → Nat) (im : Nat → Int32) (p : Nat) : Prop :=
  (ad = true → B p / 16 = 9 → im (64 * s + N p) = nI (172 + B p / 4 % 4) ∧ im (64 * s + N p + 1) = nI (156 + B p % 4)) ∧
  (ad = true → B p / 16 = 12 → im (64 * s + N p) = nI (188 + B p / 4 % 4) ∧ im (64 * s + N p + 1) = nI 204) ∧
  (¬ (ad = true ∧ fi_use (B p)) → im (64 * s + N p) = nI (B p) ∧ (fi_dj (B p) → im (64 * s + N p + 1) = nI (N (B (p + 1)))) ∧
    (¬ fi_dj (B p) → ∀ k, k < fi_len (B p) → im (64 * s + N p + k) = nI (B (p + k))))
def fi_LN (ad : Bool) (B : Nat → Nat) (s : Nat) (im na sa la : Nat → Int32) (N : Nat → Nat) : Prop :=
  (∀ p, p < 16 → fi_St B p → N p + fi_nz ad (B p) ≤ 64 ∧ na (16 * s + p) = nI (64 * s + N p) ∧ sa (64 * s + N p) = nI p) ∧
  (∀ p, p < 16 → ¬ fi_St B p → na (16 * s + p) = -1) ∧ N 0 = 0 ∧
  (∀ p, p < 16 → fi_St B p → p + fi_len (B p) < 16 → N p + fi_nz ad (B p) ≤ N (p + fi_len (B p)) ∧ N (p + fi_len (B p)) ≤ N p + fi_nz ad (B p) + 3 ∧
    ∀ i, N p + fi_nz ad (B p) ≤ i → i < N (p + fi_len (B p)) → im (64 * s + i) = 1 ∧ sa (64 * s + i) = -1) ∧
  (∀ p, p < 16 → fi_St B p → fi_C ad B s N im p) ∧ (∀ p, p < 16 → fi_St B p → ad = true → fi_use (B p) → sa (64 * s + N p + 1) = -1) ∧
  (∀ k, k < 4 → (fi_St B (4 * k) → la (4 * s + k) = nI (64 * s + N (4 * k))) ∧ (¬ fi_St B (4 * k) → ∃ pd, pd < 64 ∧ la (4 * s + k) = nI (64 * s + pd) ∧ im (64 * s + pd) = 3 ∧ sa (64 * s + pd) = -1))
def fi_L (ad : Bool) (B : Nat → Nat) (s : Nat) (im na sa la : Nat → Int32) : Prop := ∃ N : Nat → Nat, fi_LN ad B s im na sa la N
def fi_out (w s : Nat) (a a' : Nat → Int32) : Prop := ∀ j, (j < w * s ∨ w * s + w ≤ j) → a' j = a j
theorem fi_out_r {w s : Nat} {a : Nat → Int32} : fi_out w s a a := fun _ _ => rfl
theorem fi_out_t {w s : Nat} {a b c : Nat → Int32} (h : fi_out w s a b) (k : fi_out w s b c) : fi_out w s a c := fun j hj => (k j hj).trans (h j hj)
theorem fi_out_u {w s : Nat} {a b : Nat → Int32} (h : fi_out w s a b) {k : Nat} (x : Int32) (h1 : w * s ≤ k) (h2 : k < w * s + w) : fi_out w s a (upd b k x) := fun j hj => by
  rw [pk_un (by omega)]; exact h j hj
/-- a slot is seen in its own parts of the arrays alone -/
theorem fi_L_out {ad : Bool} {s t : Nat} {im na sa la im' na' sa' la' : Nat → Int32} (hst : s ≠ t) (h1 : fi_out 64 s im im') (h2 : fi_out 16 s na na') (h3 : fi_out 64 s sa sa') (h4 : fi_out 4 s la la') (h : fi_L ad B t im na sa la) : fi_L ad B t im' na' sa' la' := by
  obtain ⟨N, a, b, c, d, e, f, g⟩ := h
  have i1 : ∀ i, i < 64 → im' (64 * t + i) = im (64 * t + i) := fun i hi => h1 _ (by omega)
  have i2 : ∀ i, i < 16 → na' (16 * t + i) = na (16 * t + i) := fun i hi => h2 _ (by omega)
  have i3 : ∀ i, i < 64 → sa' (64 * t + i) = sa (64 * t + i) := fun i hi => h3 _ (by omega)
  have i4 : ∀ i, i < 4 → la' (4 * t + i) = la (4 * t + i) := fun i hi => h4 _ (by omega)
  have hnz : ∀ b, 1 ≤ fi_nz ad b := fun b => by
    have := fi_len_b (b)
    show 1 ≤ (if ad = true ∧ fi_use b then 2 else fi_len b)
    split <;> omega
  refine ⟨N, ?_, ?_, c, ?_, ?_, ?_, ?_⟩
  · intro p hp hs
    have := a p hp hs
    have := hnz (B p)
    rw [i2 p hp, i3 _ (by omega)]
    exact a p hp hs
  · intro p hp hs
    rw [i2 p hp]; exact b p hp hs
  · intro p hp hs hq
    have k := d p hp hs hq
    refine ⟨k.1, k.2.1, fun i u v => ?_⟩
    have := (a _ hq (fi_St_next hs)).1
    rw [i1 i (by omega), i3 i (by omega)]
    exact k.2.2 i u v
  · intro p hp hs
    have k := e p hp hs
    have ha := (a p hp hs).1
    have hn := hnz (B p)
    refine ⟨fun u v => ?_, fun u v => ?_, fun u => ?_⟩
    · have hz : fi_nz ad (B p) = 2 := if_pos ⟨u, Or.inl v⟩
      rw [i1 _ (by omega), Nat.add_assoc, i1 _ (by omega), ← Nat.add_assoc]
      exact k.1 u v
    · have hz : fi_nz ad (B p) = 2 := if_pos ⟨u, Or.inr v⟩
      rw [i1 _ (by omega), Nat.add_assoc, i1 _ (by omega), ← Nat.add_assoc]
      exact k.2.1 u v
    · have hz : fi_nz ad (B p) = fi_len (B p) := if_neg u
      have kk := k.2.2 u
      refine ⟨?_, fun w => ?_, fun w i hi => ?_⟩
      · rw [i1 _ (by omega)]; exact kk.1
      · have hl : fi_len (B p) = 2 := by
          show fi_lo (B p / 16) = 2
          rcases w with z | z <;> rw [z] <;> rfl
        rw [Nat.add_assoc, i1 _ (by omega), ← Nat.add_assoc]
        exact kk.2.1 w
      · rw [Nat.add_assoc, i1 _ (by omega), ← Nat.add_assoc]
        exact kk.2.2 w i hi
  · intro p hp hs u v
    have ha := (a p hp hs).1
    have hz : fi_nz ad (B p) = 2 := if_pos ⟨u, v⟩
    rw [Nat.add_assoc, i3 _ (by omega), ← Nat.add_assoc]
    exact f p hp hs u v
  · intro k hk
    rw [i4 k hk]
    refine ⟨(g k hk).1, fun u => ?_⟩
    obtain ⟨pd, q1, q2, q3, q4⟩ := (g k hk).2 u
    exact ⟨pd, q1, q2, by rw [i1 _ q1]; exact q3, by rw [i3 _ q1]; exact q4⟩
end
end
section
section
variable {ln ls fc dl ru oc pc : Int32} {xb xs kd so im na sa la ga ce rg fr : Nat → Int32} {B : Nat → Nat}
/-! X: wipe and copyRaw -/
theorem fi_i16 (s p : Nat) : (16 : Int32) * nI s + nI p = nI (16 * s + p) := by
  rw [show (16 : Int32) = nI 16 from rfl, pk_mul, nI_add]
theorem fi_i64 (s p : Nat) : (64 : Int32) * nI s + nI p = nI (64 * s + p) := by
  rw [show (64 : Int32) = nI 64 from rfl, pk_mul, nI_add]
theorem fi_i4 (s p : Nat) : (4 : Int32) * nI s + nI p = nI (4 * s + p) := by
  rw [show (4 : Int32) = nI 4 from rfl, pk_mul, nI_add]
theorem fi_i8 (s p : Nat) : (8 : Int32) * nI s + nI p = nI (8 * s + p) := by
  rw [show (8 : Int32) = nI 8 from rfl, pk_mul, nI_add]
theorem fi_4m (k : Nat) : (4 : Int32) * nI k = nI (4 * k) := pk_mul 4 k
theorem fi_16m (k : Nat) : (16 : Int32) * nI k = nI (16 * k) := pk_mul 16 k
theorem fi_64m (k : Nat) : (64 : Int32) * nI k = nI (64 * k) := pk_mul 64 k
theorem xa_wipe {post : SX → Prop} {s : Nat} (hs : s < 4)
    (H : ∀ so' im' na' sa' : Nat → Int32, (∀ j, j < 16 → so' (16 * s + j) = xb j) → fi_out 16 s so so' → (∀ j, j < 16 → na' (16 * s + j) = -1) → fi_out 16 s na na' →
      (∀ i, i < 64 → im' (64 * s + i) = 1) → fi_out 64 s im im' → (∀ i, i < 64 → sa' (64 * s + i) = -1) → fi_out 64 s sa sa' → post (ln, ls, fc, dl, ru, oc, pc, xb, xs, kd, so', im', na', sa', la, ga, ce, rg, fr)) : wpX_wipe post (ln, ls, fc, dl, ru, oc, pc, xb, xs, kd, so, im, na, sa, la, ga, ce, rg, fr) (nI s) := by
  refine ⟨17, ?_⟩
  have K := fi_for (fun n p => ∀ so' na' : Nat → Int32, (∀ j, j < p → so' (16 * s + j) = xb j) → fi_out 16 s so so' → (∀ j, j < p → na' (16 * s + j) = -1) → fi_out 16 s na na' →
    wX_wipe_2 post (nI s) ln ls fc dl ru oc pc n (nI p) xb xs kd so' im na' sa la ga ce rg fr) 16 ?_ ?_
  · exact K so na (fun j hj => absurd hj (Nat.not_lt_zero j)) fi_out_r (fun j hj => absurd hj (Nat.not_lt_zero j)) fi_out_r
  · intro n so' na' a1 a2 a3 a4
    refine br_t (by decide) ⟨65, ?_⟩
    have K2 := fi_for (fun n p => ∀ im' sa' : Nat → Int32, (∀ j, j < p → im' (64 * s + j) = 1) → fi_out 64 s im im' → (∀ j, j < p → sa' (64 * s + j) = -1) → fi_out 64 s sa sa' →
      wX_wipe_45 post (nI s) ln ls fc dl ru oc pc n (nI p) xb xs kd so' im' na' sa' la ga ce rg fr) 64 ?_ ?_
    · exact K2 im sa (fun j hj => absurd hj (Nat.not_lt_zero j)) fi_out_r (fun j hj => absurd hj (Nat.not_lt_zero j)) fi_out_r
    · intro n im' sa' b1 b2 b3 b4
      exact br_t (by decide) (H so' im' na' sa' a1 a2 a3 a4 b1 b2 b3 b4)
    · intro n p hp IH im' sa' b1 b2 b3 b4
      refine br_f (nI_ge (b := 64) hp (by decide)) ⟨by rw [fi_i64]; exact vp_in_nI (by omega) (by decide), nm_r (e' := upd im' (64 * s + p) 1) (by rw [fi_i64, nI_clamp (by omega)]) ⟨by rw [fi_i64]; exact vp_in_nI (by omega) (by decide), nm_r (e' := upd sa' (64 * s + p) (-1)) (by rw [fi_i64, nI_clamp (by omega)]) (nm_r (nI_1 p) ?_)⟩⟩
      refine IH _ _ (lt_s (fun j hj => ?_) pk_us) (fi_out_u b2 _ (by omega) (by omega)) (lt_s (fun j hj => ?_) pk_us) (fi_out_u b4 _ (by omega) (by omega))
      · rw [pk_un (by omega)]; exact b1 j hj
      · rw [pk_un (by omega)]; exact b3 j hj
  · intro n p hp IH so' na' a1 a2 a3 a4
    refine br_f (nI_ge (b := 16) hp (by decide)) ⟨vp_in_nI hp (by decide), by rw [fi_i16]; exact vp_in_nI (by omega) (by decide), nm_r (e' := upd so' (16 * s + p) (xb p)) (by rw [fi_i16, nI_clamp (by omega), nI_clamp (by omega)]) ⟨by rw [fi_i16]; exact vp_in_nI (by omega) (by decide), nm_r (e' := upd na' (16 * s + p) (-1)) (by rw [fi_i16, nI_clamp (by omega)]) (nm_r (nI_1 p) ?_)⟩⟩
    refine IH _ _ (lt_s (fun j hj => ?_) pk_us) (fi_out_u a2 _ (by omega) (by omega)) (lt_s (fun j hj => ?_) pk_us) (fi_out_u a4 _ (by omega) (by omega))
    · rw [pk_un (by omega)]; exact a1 j hj
    · rw [pk_un (by omega)]; exact a3 j hj
theorem xa_bind {post : SX → Prop} {x : Int32} {s p : Nat} (hs : s < 4) (hp : p < 16) (a : Nat) (e : x = nI a) (ha : a < 256) (H : post (ln, ls, fc, dl, ru, oc, pc, xb, xs, kd, so, im, upd na (16 * s + p) (nI a), upd sa a (nI p), la, ga, ce, rg, fr)) : wpX_bind post (ln, ls, fc, dl, ru, oc, pc, xb, xs, kd, so, im, na, sa, la, ga, ce, rg, fr) (nI s) (nI p) x := by
  subst e
  unfold wpX_bind
  exact ⟨by rw [fi_i16]; exact vp_in_nI (by omega) (by decide), nm_r (e' := upd na (16 * s + p) (nI a)) (by rw [fi_i16, nI_clamp (by omega)]) ⟨vp_in_nI ha (by decide), nm_r (e' := upd sa a (nI p)) (by rw [nI_clamp (by omega)]) H⟩⟩
theorem xa_54 {post : SX → Prop} {s : Nat} (hs : s < 4) (H : ∀ la' : Nat → Int32, (∀ k, k < 4 → la' (4 * s + k) = nI (64 * s + 4 * k)) → fi_out 4 s la la' → post (ln, ls, fc, dl, ru, oc, pc, xb, xs, kd, so, im, na, sa, la', ga, ce, rg, fr)) :
    wX_copyRaw_54 post (nI s) ln ls fc dl ru oc pc 5 0 xb xs kd so im na sa la ga ce rg fr := by
  have K := fi_for (fun n p => ∀ la' : Nat → Int32, (∀ k, k < p → la' (4 * s + k) = nI (64 * s + 4 * k)) → fi_out 4 s la la' → wX_copyRaw_54 post (nI s) ln ls fc dl ru oc pc n (nI p) xb xs kd so im na sa la' ga ce rg fr) 4 ?_ ?_
  · exact K la (fun j hj => absurd hj (Nat.not_lt_zero j)) fi_out_r
  · intro n la' a1 a2
    exact br_t (by decide) (H la' a1 a2)
  · intro n p hp IH la' a1 a2
    refine br_f (nI_ge (b := 4) hp (by decide)) ⟨by rw [fi_i4]; exact vp_in_nI (by omega) (by decide), nm_r (e' := upd la' (4 * s + p) (nI (64 * s + 4 * p))) (by rw [fi_i4, nI_clamp (by omega), fi_4m, fi_i64]) (nm_r (nI_1 p) ?_)⟩
    refine IH _ (lt_s (fun j hj => ?_) pk_us) (fi_out_u a2 _ (by omega) (by omega))
    rw [pk_un (by omega)]; exact a1 j hj
theorem xa_copy {post : SX → Prop} {s : Nat} (hs : s < 4) (hB : ∀ j, j < 16 → xb j = nI (B j)) (hst : ∀ j, j < 16 → xs j = if fi_St B j then 1 else 0) (hok : fi_OK false B)
    (w1 : ∀ j, j < 16 → na (16 * s + j) = -1) (w2 : ∀ i, i < 64 → sa (64 * s + i) = -1)
    (H : ∀ im' na' sa' la' : Nat → Int32, fi_L false B s im' na' sa' la' → fi_out 64 s im im' → fi_out 16 s na na' → fi_out 64 s sa sa' → fi_out 4 s la la' → post (ln, ls, fc, dl, ru, oc, pc, xb, xs, kd, so, im', na', sa', la', ga, ce, rg, fr)) : wpX_copyRaw post (ln, ls, fc, dl, ru, oc, pc, xb, xs, kd, so, im, na, sa, la, ga, ce, rg, fr) (nI s) := by
  refine ⟨17, ?_⟩
  have K := fi_for (fun n p => ∀ im' na' sa' : Nat → Int32, (∀ j, j < p → im' (64 * s + j) = nI (B j)) → fi_out 64 s im im' →
    (∀ j, j < 16 → na' (16 * s + j) = if j < p ∧ fi_St B j then nI (64 * s + j) else -1) → fi_out 16 s na na' →
    (∀ j, j < 16 → sa' (64 * s + j) = if j < p ∧ fi_St B j then nI j else -1) → fi_out 64 s sa sa' →
    wX_copyRaw_2 post (nI s) n (nI p) ln ls fc dl ru oc pc xb xs kd so im' na' sa' la ga ce rg fr) 16 ?_ ?_
  · exact K im na sa (fun j hj => absurd hj (Nat.not_lt_zero j)) fi_out_r (fun j hj => by rw [if_neg (fun z => absurd z.1 (Nat.not_lt_zero j))]; exact w1 j hj) fi_out_r (fun j hj => by rw [if_neg (fun z => absurd z.1 (Nat.not_lt_zero j))]; exact w2 j (by omega)) fi_out_r
  · intro n im' na' sa' a1 a2 a3 a4 a5 a6
    refine br_t (by decide) ⟨5, xa_54 hs (fun la' b1 b2 => H im' na' sa' la' ?_ a2 a4 a6 b2)⟩
    have hz : ∀ b, fi_nz false b = fi_len b := fun b => if_neg (fun z => absurd z.1 (by decide))
    refine ⟨fun p => p, ?_, ?_, rfl, ?_, ?_, ?_, ?_⟩
    · intro p hp hp2
      have he := fi_end hok hp hp2
      rw [hz, a3 p hp, a5 p hp, if_pos ⟨hp, hp2⟩, if_pos ⟨hp, hp2⟩]
      exact ⟨by show p + fi_len (B p) ≤ 64; omega, rfl, rfl⟩
    · intro p hp hp2
      rw [a3 p hp, if_neg (fun z => hp2 z.2)]
    · intro p hp hp2 hq
      rw [hz]
      exact ⟨Nat.le_refl _, Nat.le_add_right _ _, fun i u v => absurd (show p + fi_len (B p) ≤ i from u) (Nat.not_le.mpr v)⟩
    · intro p hp hp2
      have he := fi_end hok hp hp2
      refine ⟨fun u => absurd u (by decide), fun u => absurd u (by decide), fun _ => ⟨a1 p hp, fun hd => ?_, fun hd k hk => ?_⟩⟩
      · have hl : fi_len (B p) = 2 := by
          show fi_lo (B p / 16) = 2
          rcases hd with z | z <;> rw [z] <;> rfl
        rw [Nat.add_assoc]
        exact a1 (p + 1) (by omega)
      · rw [Nat.add_assoc]
        exact a1 (p + k) (by omega)
    · intro p hp hp2 u
      exact absurd u (by decide)
    · intro k hk
      exact ⟨fun _ => b1 k hk, fun z => absurd (fi_al4 hok hk) z⟩
  · intro n p hp IH im' na' sa' a1 a2 a3 a4 a5 a6
    have a1' : ∀ j, j < p + 1 → upd im' (64 * s + p) (nI (B p)) (64 * s + j) = nI (B j) := lt_s (fun j hj => by rw [pk_un (by omega)]; exact a1 j hj) pk_us
    refine br_f (nI_ge (b := 16) hp (by decide)) ⟨vp_in_nI hp (by decide), by rw [fi_i64]; exact vp_in_nI (by omega) (by decide), nm_r (e' := upd im' (64 * s + p) (nI (B p))) (by rw [fi_i64, nI_clamp (by omega), nI_clamp (by omega), hB p hp]) ⟨vp_in_nI hp (by decide), ?_⟩⟩
    rw [nI_clamp (by omega), hst p hp]
    by_cases h : fi_St B p
    · rw [if_pos h]
      refine br_f (by decide) (xa_bind hs hp (64 * s + p) (fi_i64 s p) (by omega) (nm_r (nI_1 p) ?_))
      refine IH _ _ _ a1' (fi_out_u a2 _ (by omega) (by omega)) (fun j hj => ?_) (fi_out_u a4 _ (by omega) (by omega)) (fun j hj => ?_) (fi_out_u a6 _ (by omega) (by omega))
      · by_cases e : j = p
        · subst e; rw [pk_us, if_pos ⟨by omega, h⟩]
        · rw [pk_un (by omega), a3 j hj]
          by_cases z : j < p ∧ fi_St B j
          · rw [if_pos z, if_pos ⟨by omega, z.2⟩]
          · rw [if_neg z, if_neg (fun y => z ⟨by omega, y.2⟩)]
      · by_cases e : j = p
        · subst e; rw [pk_us, if_pos ⟨by omega, h⟩]
        · rw [pk_un (by omega), a5 j hj]
          by_cases z : j < p ∧ fi_St B j
          · rw [if_pos z, if_pos ⟨by omega, z.2⟩]
          · rw [if_neg z, if_neg (fun y => z ⟨by omega, y.2⟩)]
    · rw [if_neg h]
      have g : ∀ j, (j < p + 1 ∧ fi_St B j) ↔ (j < p ∧ fi_St B j) := fun j => ⟨fun y => ⟨by
        rcases Nat.lt_or_ge j p with w | w
        · exact w
        · exact absurd ((show j = p by omega) ▸ y.2) h, y.2⟩, fun y => ⟨by omega, y.2⟩⟩
      refine br_t rfl (nm_r (nI_1 p) (IH _ _ _ a1' (fi_out_u a2 _ (by omega) (by omega)) (fun j hj => ?_) a4 (fun j hj => ?_) a6))
      · rw [a3 j hj]; simp only [g j]
      · rw [a5 j hj]; simp only [g j]
end
end
section
section
variable {ln ls fc dl ru oc pc : Int32} {xb xs kd so im na sa la ga ce rg fr : Nat → Int32} {B : Nat → Nat}
/-! X: layOut -/
theorem xy_68 {post : Int32 → SX → Prop} {J : Int32 → Int32 → Int32 → Int32 → Int32 → Int32 → Int32 → Int32 → Int32 → (Nat → Int32) → (Nat → Int32) → (Nat → Int32) → (Nat → Int32) → (Nat → Int32) → (Nat → Int32) → (Nat → Int32) → (Nat → Int32) → (Nat → Int32) → (Nat → Int32) → (Nat → Int32) → (Nat → Int32) → Prop} {x : Int32} {s p m : Nat} (hs : s < 4) (hp : p < 16) (a : Nat) (e : x = nI (64 * s + a)) (ha : a < 64)
    (H : J (nI (64 * s + (a + m))) (nI (p + 1)) ln ls fc dl ru oc pc xb xs kd so im (upd na (16 * s + p) (nI (64 * s + a))) (upd sa (64 * s + a) (nI p)) la ga ce rg fr) : wX_layOut_68 post J (nI s) x (nI p) (nI m) ln ls fc dl ru oc pc xb xs kd so im na sa la ga ce rg fr := by
  unfold wX_layOut_68
  refine xa_bind hs hp (64 * s + a) e (by omega) ?_
  refine nm_r (e' := nI (64 * s + (a + m))) (by rw [e, nI_add, Nat.add_assoc]) (nm_r (nI_1 p) H)
theorem xy_49 {post : Int32 → SX → Prop} {J : Int32 → Int32 → Int32 → Int32 → Int32 → Int32 → Int32 → Int32 → Int32 → (Nat → Int32) → (Nat → Int32) → (Nat → Int32) → (Nat → Int32) → (Nat → Int32) → (Nat → Int32) → (Nat → Int32) → (Nat → Int32) → (Nat → Int32) → (Nat → Int32) → (Nat → Int32) → (Nat → Int32) → Prop} {s p m l : Nat} (hs : s < 4) (hp : p < 16) (hm : m ≤ 3) (hl : l ≤ 48)
    (H : J (nI (64 * s + (fi_al l m + m))) (nI (p + 1)) ln ls fc dl ru oc pc xb xs kd so im (upd na (16 * s + p) (nI (64 * s + fi_al l m))) (upd sa (64 * s + fi_al l m) (nI p)) la ga ce rg fr) : wX_layOut_49 post J (nI s) (nI (64 * s + l)) (nI p) (nI m) ln ls fc dl ru oc pc xb xs kd so im na sa la ga ce rg fr := by
  unfold wX_layOut_49
  have hal := fi_al_b (a := l) hm
  refine pk_le (l % 4 + m) 4 (fun z => ?_) (fun z => ?_) ?_ rfl
  · refine xy_68 hs hp (fi_al l m) ?_ (by omega) H
    unfold fi_al
    rw [if_neg (by omega)]
  · refine nm_r (e' := nI (64 * s + fi_al l m)) ?_ (xy_68 hs hp (fi_al l m) rfl (by omega) H)
    rw [show (3 : Int32) = nI 3 from rfl, nI_add, fi_m4 _ (by omega)]
    unfold fi_al
    rw [if_pos (by omega)]
    exact congrArg nI (by omega)
  · rw [fi_a3 (by omega), nI_add]
    exact congrArg nI (by omega)
theorem xy_lay {post : Int32 → SX → Prop} {s : Nat} (hs : s < 4) (hB : ∀ j, j < 16 → xb j = nI (B j)) (hb : ∀ j, j < 16 → B j < 256) (hst : ∀ j, j < 16 → xs j = if fi_St B j then 1 else 0) (hok : fi_OK true B)
    (w1 : ∀ j, j < 16 → na (16 * s + j) = -1) (w2 : ∀ i, i < 64 → sa (64 * s + i) = -1)
    (H : ∀ na' sa' : Nat → Int32, (∀ j, j < 16 → na' (16 * s + j) = if fi_St B j then nI (64 * s + fi_na B j) else -1) → fi_out 16 s na na' →
      (∀ j, j < 16 → fi_St B j → sa' (64 * s + fi_na B j) = nI j) → (∀ i, i < 64 → (∀ j, j < 16 → fi_St B j → fi_na B j ≠ i) → sa' (64 * s + i) = -1) → fi_out 64 s sa sa' → post (nI (64 * s + fi_pad B)) (ln, ls, fc, dl, ru, oc, pc, xb, xs, kd, so, im, na', sa', la, ga, ce, rg, fr)) : wpX_layOut post (ln, ls, fc, dl, ru, oc, pc, xb, xs, kd, so, im, na, sa, la, ga, ce, rg, fr) (nI s) := by
  unfold wpX_layOut
  refine nm_r (fi_64m s) ⟨17, ?_⟩
  have hl16 := fi_lay16 hok
  have K := fi_for (fun n p => ∀ na' sa' : Nat → Int32, (∀ j, j < 16 → na' (16 * s + j) = if j < p ∧ fi_St B j then nI (64 * s + fi_na B j) else -1) → fi_out 16 s na na' →
      (∀ j, j < p → fi_St B j → sa' (64 * s + fi_na B j) = nI j) → (∀ i, i < 64 → (∀ j, j < p → fi_St B j → fi_na B j ≠ i) → sa' (64 * s + i) = -1) → fi_out 64 s sa sa' →
      wX_layOut_7 post (nI s) n (nI (64 * s + fi_lay B p)) (nI p) ln ls fc dl ru oc pc xb xs kd so im na' sa' la ga ce rg fr) 16 ?_ ?_
  · exact K na sa (fun j hj => by rw [if_neg (fun z => absurd z.1 (Nat.not_lt_zero j))]; exact w1 j hj) fi_out_r (fun j hj => absurd hj (Nat.not_lt_zero j)) (fun i hi _ => w2 i hi) fi_out_r
  · intro n na' sa' a1 a2 a3 a4 a5
    refine br_t (by decide) ?_
    have e : (nI (64 * s + fi_lay B 16) + 3) &&& (-4) = nI (64 * s + fi_pad B) := by
      rw [show (3 : Int32) = nI 3 from rfl, nI_add, fi_m4 _ (by omega)]
      unfold fi_pad
      exact congrArg nI (by omega)
    rw [e]
    refine H na' sa' (fun j hj => ?_) a2 a3 a4 a5
    rw [a1 j hj]
    by_cases z : fi_St B j
    · rw [if_pos z, if_pos ⟨hj, z⟩]
    · rw [if_neg z, if_neg (fun y => z y.2)]
  · intro n p hp IH na' sa' a1 a2 a3 a4 a5
    have hbp := hb p hp
    refine br_f (nI_ge (b := 16) hp (by decide)) ⟨vp_in_nI hp (by decide), ?_⟩
    rw [nI_clamp (by omega), hst p hp]
    by_cases h : fi_St B p
    · rw [if_pos h]
      refine br_f (by decide) ⟨vp_in_nI hp (by decide), ?_⟩
      have hlp : fi_lay B p ≤ 48 := Nat.le_trans (fi_lay_mono (by omega)) hl16
      have hend := fi_na_48 hok hp h
      have hsz := fi_sz_b (B p)
      have KK : wX_layOut_49 post (wX_layOut_7 post (nI s) n) (nI s) (nI (64 * s + fi_lay B p)) (nI p) (nI (fi_sz (B p))) ln ls fc dl ru oc pc xb xs kd so im na' sa' la ga ce rg fr := by
        refine xy_49 hs hp hsz.2 hlp ?_
        have e : fi_al (fi_lay B p) (fi_sz (B p)) + fi_sz (B p) = fi_lay B (p + 1) := (fi_lay_s h).symm
        rw [e]
        refine IH (upd na' (16 * s + p) (nI (64 * s + fi_na B p))) (upd sa' (64 * s + fi_na B p) (nI p)) (fun j hj => ?_) (fi_out_u a2 _ (by omega) (by omega)) (fun j hj hsj => ?_) (fun i hi hno => ?_) (fi_out_u a5 _ (by omega) (by omega))
        · by_cases e : j = p
          · subst e; rw [pk_us, if_pos ⟨by omega, h⟩]
          · rw [pk_un (by omega), a1 j hj]
            by_cases z : j < p ∧ fi_St B j
            · rw [if_pos z, if_pos ⟨by omega, z.2⟩]
            · rw [if_neg z, if_neg (fun y => z ⟨by omega, y.2⟩)]
        · by_cases e : j = p
          · subst e; rw [pk_us]
          · have hlt : j < p := by omega
            have := fi_na_lt (q := p) hsj hlt
            have := fi_sz_b (B j)
            rw [pk_un (by omega)]
            exact a3 j hlt hsj
        · have := hno p (by omega) h
          rw [pk_un (by omega)]
          exact a4 i hi (fun j hj hsj => hno j (by omega) hsj)
      refine xu_use (B p) (hB p hp) hbp (fun u => br_f (by decide) ?_) (fun u => br_t rfl ⟨vp_in_nI hp (by decide), ?_⟩)
      · have e : fi_sz (B p) = 2 := if_pos u
        rw [e] at KK
        exact KK
      · have e : fi_sz (B p) = fi_len (B p) := if_neg u
        rw [e] at KK
        exact xl_len (B p) (hB p hp) hbp KK
    · rw [if_neg h]
      have g : ∀ j, (j < p + 1 ∧ fi_St B j) ↔ (j < p ∧ fi_St B j) := fun j => ⟨fun y => ⟨by
        rcases Nat.lt_or_ge j p with w | w
        · exact w
        · exact absurd ((show j = p by omega) ▸ y.2) h, y.2⟩, fun y => ⟨by omega, y.2⟩⟩
      have K2 := IH na' sa' (fun j hj => by rw [a1 j hj]; simp only [g j]) a2 (fun j hj hsj => a3 j ((g j).mp ⟨hj, hsj⟩).1 hsj) (fun i hi hno => a4 i hi (fun j hj hsj => hno j (by omega) hsj)) a5
      rw [fi_lay_n h] at K2
      exact br_t rfl (nm_r (nI_1 p) K2)
end
section
variable {ln ls fc dl ru oc pc : Int32} {xb xs kd so im na sa la ga ce rg fr : Nat → Int32} {B : Nat → Nat}
/-! X: emit -/
theorem xe_copy {post : SX → Prop} {s p a : Nat} (hs : s < 4) (hp : p < 16) (hB : ∀ j, j < 16 → xb j = nI (B j)) (hb : ∀ j, j < 16 → B j < 256) (hok : fi_OK true B) (hp2 : fi_St B p) (ha : a + fi_len (B p) ≤ 64)
    (hna : ∀ j, j < 16 → na (16 * s + j) = if fi_St B j then nI (64 * s + fi_na B j) else -1)
    (H : ∀ im' : Nat → Int32, (∀ i, i < 64 * s + a ∨ 64 * s + a + fi_len (B p) ≤ i → im' i = im i) → im' (64 * s + a) = nI (B p) → (fi_dj (B p) → im' (64 * s + a + 1) = nI (fi_na B (B (p + 1)))) → (¬ fi_dj (B p) → ∀ k, k < fi_len (B p) → im' (64 * s + a + k) = nI (B (p + k))) → post (ln, ls, fc, dl, ru, oc, pc, xb, xs, kd, so, im', na, sa, la, ga, ce, rg, fr)) :
    wpX_emitCopy post (ln, ls, fc, dl, ru, oc, pc, xb, xs, kd, so, im, na, sa, la, ga, ce, rg, fr) (nI s) (nI p) (nI (64 * s + a)) := by
  unfold wpX_emitCopy
  have hend := fi_end hok hp hp2
  have hbp := hb p hp
  have hl := fi_len_b (B p)
  refine ⟨vp_in_nI hp (by decide), xl_len (B p) (by rw [nI_clamp (by omega)]; exact hB p hp) hbp ⟨fi_len (B p) + 1, ?_⟩⟩
  have K := fi_for (fun n k => ∀ im' : Nat → Int32, (∀ i, i < 64 * s + a ∨ 64 * s + a + fi_len (B p) ≤ i → im' i = im i) → (∀ i, i < k → im' (64 * s + a + i) = nI (B (p + i))) →
    wX_emitCopy_15 post (nI s) (nI p) (nI (64 * s + a)) (nI (fi_len (B p))) ln ls fc dl ru oc pc n (nI k) xb xs kd so im' na sa la ga ce rg fr) (fi_len (B p)) ?_ ?_
  · exact K im (fun i _ => rfl) (fun i hi => absurd hi (Nat.not_lt_zero i))
  · intro n im' a1 a2
    refine br_t (nI_le (Nat.le_refl _) (by omega)) ?_
    unfold wX_emitCopy_55
    refine ⟨vp_in_nI hp (by decide), ?_⟩
    refine xd_dj (B p) (by rw [nI_clamp (by omega)]; exact hB p hp) hbp (fun u => br_f (by decide) ?_) (fun u => br_t rfl (H im' a1 (a2 0 (by omega)) (fun y => absurd y u) (fun _ => a2)))
    have hl2 : fi_len (B p) = 2 := by
      show fi_lo (B p / 16) = 2
      rcases u with z | z <;> rw [z] <;> rfl
    have ht := fi_tgt hok hp hp2 u
    have htn := fi_na_48 hok ht.1 ht.2
    have hts := fi_sz_b (B (B (p + 1)))
    have h48 := fi_lay16 hok
    have e1 : (nI p + 1) &&& 15 = nI (p + 1) := by rw [nI_1, fi_a15 (by omega)]; exact congrArg nI (by omega)
    have e2 : nI (64 * s + a) + 1 = nI (64 * s + a + 1) := nI_1 _
    rw [e1, e2]
    refine ⟨vp_in_nI (by omega) (by decide), nm_r (e' := nI (B (p + 1))) (by rw [nI_clamp (by omega), hB _ (by omega), fi_a15 (by have := ht.1; omega)]; exact congrArg nI (Nat.mod_eq_of_lt ht.1)) ?_⟩
    rw [fi_i16]
    have ht1 := ht.1
    refine ⟨vp_in_nI (by omega) (by decide), vp_in_nI (by omega) (by decide), nm_r (e' := upd im' (64 * s + a + 1) (nI (fi_na B (B (p + 1))))) ?_ ?_⟩
    · rw [nI_clamp (by omega), nI_clamp (by omega), hna _ ht.1, if_pos ht.2, fi_a63 (by omega)]
      rw [show (64 * s + fi_na B (B (p + 1))) % 64 = fi_na B (B (p + 1)) by omega]
    · refine H _ (fun i hi => ?_) ?_ (fun _ => pk_us) (fun y => absurd u y)
      · rw [pk_un (by omega)]; exact a1 i hi
      · rw [pk_un (by omega)]; exact a2 0 (by omega)
  · intro n k hk IH im' a1 a2
    refine br_f (nI_ge hk (by omega)) ?_
    rw [nI_add, nI_add]
    refine br_f (nI_ge (b := 16) (by omega) (by decide)) ⟨vp_in_nI (by omega) (by decide), vp_in_nI (by omega) (by decide), nm_r (e' := upd im' (64 * s + a + k) (nI (B (p + k)))) (by rw [nI_clamp (by omega), nI_clamp (by omega), hB _ (by omega)]) (nm_r (nI_1 k) ?_)⟩
    refine IH _ (fun i hi => ?_) (lt_s (fun i hi => ?_) pk_us)
    · rw [pk_un (by omega)]; exact a1 i hi
    · rw [pk_un (by omega)]; exact a2 i hi
theorem xe_emit {post : SX → Prop} {s p : Nat} (hs : s < 4) (hp : p < 16) (hB : ∀ j, j < 16 → xb j = nI (B j)) (hb : ∀ j, j < 16 → B j < 256) (hok : fi_OK true B) (hp2 : fi_St B p)
    (hna : ∀ j, j < 16 → na (16 * s + j) = if fi_St B j then nI (64 * s + fi_na B j) else -1)
    (H : ∀ im' : Nat → Int32, (∀ i, i < 64 * s + fi_na B p ∨ 64 * s + fi_na B p + fi_sz (B p) ≤ i → im' i = im i) → fi_C true B s (fi_na B) im' p → post (ln, ls, fc, dl, ru, oc, pc, xb, xs, kd, so, im', na, sa, la, ga, ce, rg, fr)) : wpX_emit post (ln, ls, fc, dl, ru, oc, pc, xb, xs, kd, so, im, na, sa, la, ga, ce, rg, fr) (nI s) (nI p) := by
  unfold wpX_emit
  have hbp := hb p hp
  have h48 := fi_lay16 hok
  have hend := fi_na_48 hok hp hp2
  have hsz := fi_sz_b (B p)
  refine ⟨vp_in_nI hp (by decide), nm_r (e' := nI (B p)) (by rw [nI_clamp (by omega)]; exact hB p hp) ?_⟩
  rw [fi_i16]
  refine ⟨vp_in_nI (by omega) (by decide), nm_r (e' := nI (64 * s + fi_na B p)) (by rw [nI_clamp (by omega), hna p hp, if_pos hp2]) (nm_r (fi_fa (by omega)) ?_)⟩
  have e2 : nI (64 * s + fi_na B p) + 1 = nI (64 * s + fi_na B p + 1) := nI_1 _
  rw [e2]
  refine pk_eq (B p / 16) 9 (fun z => ?_) (fun z => pk_eq (B p / 16) 12 (fun z2 => ?_) (fun z2 => ?_) (fi_sh4 (by omega))) (fi_sh4 (by omega))
  · have hz : fi_sz (B p) = 2 := if_pos (Or.inl z)
    refine ⟨vp_in_nI (by omega) (by decide), nm_r (e' := upd im (64 * s + fi_na B p) (nI (172 + B p / 4 % 4))) (by rw [nI_clamp (by omega), show (172 : Int32) = nI 172 from rfl, nI_add]) ⟨vp_in_nI (by omega) (by decide), nm_r (e' := upd (upd im (64 * s + fi_na B p) (nI (172 + B p / 4 % 4))) (64 * s + fi_na B p + 1) (nI (156 + B p % 4))) (by rw [nI_clamp (by omega), fi_a3 (by omega), show (156 : Int32) = nI 156 from rfl, nI_add]) ?_⟩⟩
    refine H _ (fun i hi => ?_) ⟨fun _ _ => ⟨?_, pk_us⟩, fun _ y => absurd y (by omega), fun y => absurd ⟨rfl, Or.inl z⟩ y⟩
    · rw [pk_un (by omega), pk_un (by omega)]
    · rw [pk_un (by omega), pk_us]
  · have hz : fi_sz (B p) = 2 := if_pos (Or.inr z2)
    refine ⟨vp_in_nI (by omega) (by decide), nm_r (e' := upd im (64 * s + fi_na B p) (nI (188 + B p / 4 % 4))) (by rw [nI_clamp (by omega), show (188 : Int32) = nI 188 from rfl, nI_add]) ⟨vp_in_nI (by omega) (by decide), nm_r (e' := upd (upd im (64 * s + fi_na B p) (nI (188 + B p / 4 % 4))) (64 * s + fi_na B p + 1) (nI 204)) (by rw [nI_clamp (by omega)]; rfl) ?_⟩⟩
    refine H _ (fun i hi => ?_) ⟨fun _ y => absurd y (by omega), fun _ _ => ⟨?_, pk_us⟩, fun y => absurd ⟨rfl, Or.inr z2⟩ y⟩
    · rw [pk_un (by omega), pk_un (by omega)]
    · rw [pk_un (by omega), pk_us]
  · have hu : ¬ fi_use (B p) := fun y => y.elim z z2
    have hz : fi_sz (B p) = fi_len (B p) := if_neg hu
    refine xe_copy hs hp hB hb hok hp2 (by omega) hna (fun im' a1 a2 a3 a4 => ?_)
    refine H im' (fun i hi => a1 i (by omega)) ⟨fun _ y => absurd y z, fun _ y => absurd y z2, fun _ => ⟨a2, a3, a4⟩⟩
end
section
variable {ln ls fc dl ru oc pc : Int32} {xb xs kd so im na sa la ga ce rg fr : Nat → Int32} {B : Nat → Nat}
theorem fi_C_same {s p a : Nat} {im im' : Nat → Int32} (h : fi_C true B s (fi_na B) im p) (hs : fi_na B p + fi_sz (B p) ≤ a) (he : ∀ i, i < 64 * s + a → im' i = im i) : fi_C true B s (fi_na B) im' p := by
  have hb := fi_sz_b (B p)
  refine ⟨fun u v => ?_, fun u v => ?_, fun u => ?_⟩
  · have hz : fi_sz (B p) = 2 := if_pos (Or.inl v)
    rw [he _ (by omega), he _ (by omega)]
    exact h.1 u v
  · have hz : fi_sz (B p) = 2 := if_pos (Or.inr v)
    rw [he _ (by omega), he _ (by omega)]
    exact h.2.1 u v
  · have hz : fi_sz (B p) = fi_len (B p) := if_neg (fun y => u ⟨rfl, y⟩)
    have k := h.2.2 u
    refine ⟨by rw [he _ (by omega)]; exact k.1, fun w => ?_, fun w i hi => ?_⟩
    · have hl : fi_len (B p) = 2 := by
        show fi_lo (B p / 16) = 2
        rcases w with z | z <;> rw [z] <;> rfl
      rw [he _ (by omega)]; exact k.2.1 w
    · rw [he _ (by omega)]; exact k.2.2 w i hi
theorem xr_44 {post : SX → Prop} {s pd : Nat} (hs : s < 4) (N : Nat → Nat) (hN : ∀ k, k < 4 → N (4 * k) < 64) (hna : ∀ j, j < 16 → na (16 * s + j) = if fi_St B j then nI (64 * s + N j) else -1)
    (H : ∀ la' : Nat → Int32, (∀ k, k < 4 → (fi_St B (4 * k) → la' (4 * s + k) = nI (64 * s + N (4 * k))) ∧ (¬ fi_St B (4 * k) → la' (4 * s + k) = nI pd)) → fi_out 4 s la la' → post (ln, ls, fc, dl, ru, oc, pc, xb, xs, kd, so, im, na, sa, la', ga, ce, rg, fr)) :
    wX_rewrite_44 post (nI s) (nI pd) ln ls fc dl ru oc pc 5 0 xb xs kd so im na sa la ga ce rg fr := by
  have K := fi_for (fun n p => ∀ la' : Nat → Int32, (∀ k, k < p → (fi_St B (4 * k) → la' (4 * s + k) = nI (64 * s + N (4 * k))) ∧ (¬ fi_St B (4 * k) → la' (4 * s + k) = nI pd)) → fi_out 4 s la la' → wX_rewrite_44 post (nI s) (nI pd) ln ls fc dl ru oc pc n (nI p) xb xs kd so im na sa la' ga ce rg fr) 4 ?_ ?_
  · exact K la (fun j hj => absurd hj (Nat.not_lt_zero j)) fi_out_r
  · intro n la' a1 a2
    exact br_t (by decide) (H la' a1 a2)
  · intro n p hp IH la' a1 a2
    refine br_f (nI_ge (b := 4) hp (by decide)) ?_
    rw [fi_4m, fi_i16, fi_i4]
    refine ⟨vp_in_nI (by omega) (by decide), nm_r (e' := if fi_St B (4 * p) then nI (64 * s + N (4 * p)) else -1) (by rw [nI_clamp (by omega)]; exact hna _ (by omega)) ?_⟩
    by_cases h : fi_St B (4 * p)
    · rw [if_pos h]
      have hNp := hN p hp
      refine br_f (nI_pos (by omega)) ⟨vp_in_nI (by omega) (by decide), nm_r (e' := upd la' (4 * s + p) (nI (64 * s + N (4 * p)))) (by rw [nI_clamp (by omega)]) (nm_r (nI_1 p) ?_)⟩
      refine IH _ (lt_s (fun j hj => ?_) ⟨fun _ => pk_us, fun y => absurd h y⟩) (fi_out_u a2 _ (by omega) (by omega))
      rw [pk_un (by omega)]; exact a1 j hj
    · rw [if_neg h]
      refine br_t (by decide) ⟨vp_in_nI (by omega) (by decide), nm_r (e' := upd la' (4 * s + p) (nI pd)) (by rw [nI_clamp (by omega)]) (nm_r (nI_1 p) ?_)⟩
      refine IH _ (lt_s (fun j hj => ?_) ⟨fun y => absurd y h, fun _ => pk_us⟩) (fi_out_u a2 _ (by omega) (by omega))
      rw [pk_un (by omega)]; exact a1 j hj
theorem xr_15 {post : SX → Prop} {s : Nat} (hs : s < 4) (hB : ∀ j, j < 16 → xb j = nI (B j)) (hb : ∀ j, j < 16 → B j < 256) (hst : ∀ j, j < 16 → xs j = if fi_St B j then 1 else 0) (hok : fi_OK true B)
    (hna : ∀ j, j < 16 → na (16 * s + j) = if fi_St B j then nI (64 * s + fi_na B j) else -1)
    (w3 : ∀ i, i < 64 → im (64 * s + i) = if i = fi_pad B then 3 else 1)
    (H : ∀ im' la' : Nat → Int32, (∀ j, j < 16 → fi_St B j → fi_C true B s (fi_na B) im' j) → (∀ i, i < 64 → (∀ j, j < 16 → fi_St B j → i < fi_na B j ∨ fi_na B j + fi_sz (B j) ≤ i) → im' (64 * s + i) = if i = fi_pad B then 3 else 1) → fi_out 64 s im im' →
      (∀ k, k < 4 → (fi_St B (4 * k) → la' (4 * s + k) = nI (64 * s + fi_na B (4 * k))) ∧ (¬ fi_St B (4 * k) → la' (4 * s + k) = nI (64 * s + fi_pad B))) → fi_out 4 s la la' → post (ln, ls, fc, dl, ru, oc, pc, xb, xs, kd, so, im', na, sa, la', ga, ce, rg, fr)) :
    wX_rewrite_15 post (nI s) (nI (64 * s + fi_pad B)) 17 0 ln ls fc dl ru oc pc xb xs kd so im na sa la ga ce rg fr := by
  have h48 := fi_lay16 hok
  have K := fi_for (fun n p => ∀ im' : Nat → Int32, (∀ j, j < p → fi_St B j → fi_C true B s (fi_na B) im' j) → (∀ i, i < 64 → (∀ j, j < p → fi_St B j → i < fi_na B j ∨ fi_na B j + fi_sz (B j) ≤ i) → im' (64 * s + i) = if i = fi_pad B then 3 else 1) → fi_out 64 s im im' →
      wX_rewrite_15 post (nI s) (nI (64 * s + fi_pad B)) n (nI p) ln ls fc dl ru oc pc xb xs kd so im' na sa la ga ce rg fr) 16 ?_ ?_
  · exact K im (fun j hj => absurd hj (Nat.not_lt_zero j)) (fun i hi _ => w3 i hi) fi_out_r
  · intro n im' a1 a2 a3
    refine br_t (by decide) ⟨5, xr_44 hs (fi_na B) (fun k hk => ?_) hna (fun la' b1 b2 => H im' la' a1 a2 a3 b1 b2)⟩
    have h1 := fi_na_le (B := B) (4 * k)
    have h2 := fi_lay_mono (B := B) (p := 4 * k) (q := 16) (by omega)
    omega
  · intro n p hp IH im' a1 a2 a3
    refine br_f (nI_ge (b := 16) hp (by decide)) ⟨vp_in_nI hp (by decide), ?_⟩
    rw [nI_clamp (by omega), hst p hp]
    by_cases h : fi_St B p
    · rw [if_pos h]
      have hend := fi_na_48 hok hp h
      refine br_f (by decide) (xe_emit hs hp hB hb hok h hna (fun im2 b1 b2 => nm_r (nI_1 p) ?_))
      refine IH im2 (lt_s (fun j hj hsj => ?_) (fun _ => b2)) (fun i hi hno => ?_) (fun j hj => ?_)
      · exact fi_C_same (a1 j hj hsj) (fi_na_lt hsj hj) (fun i hi => b1 i (Or.inl hi))
      · have := hno p (by omega) h
        rw [b1 _ (by omega)]
        exact a2 i hi (fun j hj hsj => hno j (by omega) hsj)
      · rw [b1 _ (by omega)]; exact a3 j hj
    · rw [if_neg h]
      refine br_t rfl (nm_r (nI_1 p) (IH im' (lt_s a1 (fun y => absurd y h)) (fun i hi hno => a2 i hi (fun j hj hsj => hno j (by omega) hsj)) a3))
theorem xr_rewrite {post : SX → Prop} {s : Nat} (hs : s < 4) (hB : ∀ j, j < 16 → xb j = nI (B j)) (hb : ∀ j, j < 16 → B j < 256) (hst : ∀ j, j < 16 → xs j = if fi_St B j then 1 else 0) (hok : fi_OK true B)
    (w1 : ∀ j, j < 16 → na (16 * s + j) = -1) (w2 : ∀ i, i < 64 → sa (64 * s + i) = -1) (w3 : ∀ i, i < 64 → im (64 * s + i) = 1)
    (H : ∀ im' na' sa' la' : Nat → Int32, fi_L true B s im' na' sa' la' → fi_out 64 s im im' → fi_out 16 s na na' → fi_out 64 s sa sa' → fi_out 4 s la la' → post (ln, ls, fc, dl, ru, oc, pc, xb, xs, kd, so, im', na', sa', la', ga, ce, rg, fr)) : wpX_rewrite post (ln, ls, fc, dl, ru, oc, pc, xb, xs, kd, so, im, na, sa, la, ga, ce, rg, fr) (nI s) := by
  unfold wpX_rewrite
  have h48 := fi_lay16 hok
  have hpd : fi_pad B ≤ 48 ∧ fi_lay B 16 ≤ fi_pad B := by unfold fi_pad; omega
  refine xy_lay hs hB hb hst hok w1 w2 (fun na' sa' a1 a2 a3 a4 a5 => ?_)
  refine ⟨vp_in_nI (by omega) (by decide), nm_r (e' := upd im (64 * s + fi_pad B) 3) (by rw [nI_clamp (by omega)]) ⟨17, ?_⟩⟩
  refine xr_15 hs hB hb hst hok a1 (fun i hi => ?_) (fun im' la' b1 b2 b3 b4 b5 => ?_)
  · by_cases e : i = fi_pad B
    · rw [e, pk_us, if_pos rfl]
    · rw [pk_un (by omega), if_neg e]; exact w3 i hi
  · refine H im' na' sa' la' ?_ (fi_out_t (fi_out_u fi_out_r _ (by omega) (by omega)) b3) a2 a5 b5
    have hz : ∀ b, fi_nz true b = fi_sz b := fun b => by
      show (if true = true ∧ fi_use b then 2 else fi_len b) = (if fi_use b then 2 else fi_len b)
      by_cases u : fi_use b
      · rw [if_pos u, if_pos ⟨rfl, u⟩]
      · rw [if_neg u, if_neg (fun y => u y.2)]
    have hno : ∀ i, i < 64 → (∀ j, j < 16 → fi_St B j → i < fi_na B j ∨ fi_na B j + fi_sz (B j) ≤ i) → sa' (64 * s + i) = -1 := fun i hi h =>
      a4 i hi (fun j hj hsj => by have := h j hj hsj; have := fi_sz_b (B j); omega)
    refine ⟨fi_na B, ?_, ?_, ?_, ?_, b1, ?_, ?_⟩
    · intro p hp hsp
      have hend := fi_na_48 hok hp hsp
      rw [hz, a1 p hp, if_pos hsp]
      exact ⟨by omega, rfl, a3 p hp hsp⟩
    · intro p hp hsp
      rw [a1 p hp, if_neg hsp]
    · have hs0 := fi_sz_b (B 0)
      show fi_al 0 (fi_sz (B 0)) = 0
      unfold fi_al
      rw [if_neg (by omega)]
    · intro p hp hsp hq
      rw [hz]
      have g1 := fi_na_ge (B := B) (p + fi_len (B p))
      have g2 := fi_na_le (B := B) (p + fi_len (B p))
      have g3 := fi_lay_gap hsp
      have g4 := fi_na_48 hok hq (fi_St_next hsp)
      refine ⟨by omega, by omega, fun i u v => ?_⟩
      have hf : ∀ j, j < 16 → fi_St B j → i < fi_na B j ∨ fi_na B j + fi_sz (B j) ≤ i := fun j hj hsj => by
        rcases Nat.lt_or_ge j p with w | w
        · have := fi_na_lt hsj w
          have := fi_sz_b (B p)
          exact Or.inr (by omega)
        · rcases Nat.lt_or_ge p j with w2 | w2
          · rcases Nat.lt_or_ge j (p + fi_len (B p)) with w3 | w3
            · exact absurd hsj (fi_St_gap hsp w2 w3)
            · rcases Nat.lt_or_ge (p + fi_len (B p)) j with w4 | w4
              · have := fi_na_lt (fi_St_next hsp) w4
                exact Or.inl (by omega)
              · have e : j = p + fi_len (B p) := by omega
                rw [e]; exact Or.inl v
          · have e : j = p := by omega
            rw [e]; exact Or.inr u
      refine ⟨?_, hno i (by omega) hf⟩
      rw [b2 i (by omega) hf, if_neg (by omega)]
    · intro p hp hsp _ u
      have hz2 : fi_sz (B p) = 2 := if_pos u
      have hend := fi_na_48 hok hp hsp
      rw [Nat.add_assoc]
      refine a4 _ (by omega) (fun j hj hsj => ?_)
      have hsj2 := fi_sz_b (B j)
      rcases Nat.lt_or_ge j p with w | w
      · have := fi_na_lt hsj w; omega
      · rcases Nat.lt_or_ge p j with w2 | w2
        · have := fi_na_lt hsp w2; omega
        · have e : j = p := by omega
          rw [e]; omega
    · intro k hk
      refine ⟨(b4 k hk).1, fun u => ⟨fi_pad B, by omega, (b4 k hk).2 u, ?_, ?_⟩⟩
      · rw [b2 _ (by omega) (fun j hj hsj => Or.inr (by have := fi_na_48 hok hj hsj; omega)), if_pos rfl]
      · exact hno _ (by omega) (fun j hj hsj => Or.inr (by have := fi_na_48 hok hj hsj; omega))
end
end
section
section
/-! what an instruction that computes puts into its register -/
def fi_rv (op a b i w s : Nat) (rg ce : Nat → Int32) : Int32 := match op with
  | 1 => rg b
  | 2 => rg a + rg b
  | 3 => rg a - rg b
  | 4 => rg a &&& rg b
  | 5 => (nI i).toInt8.toInt32
  | 6 => (nI (i + 256 * w)).toInt16.toInt32
  | 7 => rg a + (nI i).toInt8.toInt32
  | 8 => ce (rg b &&& 31).toNatClampNeg
  | 10 => 8 * nI s + (rg b &&& 7)
  | _ => 16 * nI s + (rg b &&& 12)
abbrev fi_alu (m : Nat) : Prop := (1 ≤ m ∧ m ≤ 8) ∨ m = 10 ∨ m = 11
variable {ln ls fc dl ru oc pc : Int32} {xb xs kd so im na sa la ga ce rg fr : Nat → Int32}
/-! X: one native instruction -/
theorem xx_cmp {post : SX → Prop} {k a b i w s : Nat} (hk1 : 1 ≤ k) (hk : k ≤ 4) (ha : a < 4) (hb : b < 4) (H : post (ln, ls, fc, dl, ru, oc, pc, xb, xs, kd, so, im, na, sa, la, ga, ce, upd rg a (fi_rv k a b i w s rg ce), fr)) : wpX_compute post (ln, ls, fc, dl, ru, oc, pc, xb, xs, kd, so, im, na, sa, la, ga, ce, rg, fr) (nI k) (nI a) (nI b) := by
  unfold wpX_compute
  have ia : vp_in (nI a) 4 := vp_in_nI ha (by decide)
  refine ⟨vp_in_nI hb (by decide), nm_r (e' := rg b) (fi_rd (by omega)) ?_⟩
  have hc : k = 1 ∨ k = 2 ∨ k = 3 ∨ k = 4 := by omega
  rcases hc with h | h | h | h <;> subst h
  · exact br_f (by decide) (br_f (by decide) (br_t rfl ⟨ia, nm_r (e' := upd rg a (fi_rv 1 a b i w s rg ce)) (by rw [nI_clamp (by omega)]; rfl) H⟩))
  · exact br_f (by decide) (br_f (by decide) (br_f (by decide) (br_t rfl ⟨ia, ia, nm_r (e' := upd rg a (fi_rv 2 a b i w s rg ce)) (by rw [nI_clamp (by omega)]; rfl) H⟩)))
  · exact br_f (by decide) (br_f (by decide) (br_f (by decide) (br_f (by decide) (br_t rfl ⟨ia, ia, nm_r (e' := upd rg a (fi_rv 3 a b i w s rg ce)) (by rw [nI_clamp (by omega)]; rfl) H⟩))))
  · exact br_f (by decide) (br_t (by decide) ⟨ia, ia, nm_r (e' := upd rg a (fi_rv 4 a b i w s rg ce)) (by rw [nI_clamp (by omega)]; rfl) H⟩)
theorem xx_imm {post : SX → Prop} {k a b i w s q : Nat} (hk1 : 5 ≤ k) (hk : k ≤ 7) (ha : a < 4) (hq : q < 256) (hi : im ((q + 1) % 256) = nI i) (hw : k = 6 → im ((q + 2) % 256) = nI w) (H : post (ln, ls, fc, dl, ru, oc, pc, xb, xs, kd, so, im, na, sa, la, ga, ce, upd rg a (fi_rv k a b i w s rg ce), fr)) : wpX_immediate post (ln, ls, fc, dl, ru, oc, pc, xb, xs, kd, so, im, na, sa, la, ga, ce, rg, fr) (nI k) (nI a) (nI q) := by
  unfold wpX_immediate
  have ia : vp_in (nI a) 4 := vp_in_nI ha (by decide)
  have e1 : (nI q + 1) &&& 255 = nI ((q + 1) % 256) := by rw [nI_1, fi_a255 (by omega)]
  have e2 : (nI q + 2) &&& 255 = nI ((q + 2) % 256) := by rw [show (2 : Int32) = nI 2 from rfl, nI_add, fi_a255 (by omega)]
  dsimp only
  rw [e1, e2]
  refine ⟨vp_in_nI (by omega) (by decide), nm_r (e' := nI i) (by rw [nI_clamp (by omega)]; exact hi) ?_⟩
  have hc : k = 5 ∨ k = 6 ∨ k = 7 := by omega
  rcases hc with h | h | h <;> subst h
  · exact br_t rfl ⟨ia, nm_r (e' := upd rg a (fi_rv 5 a b i w s rg ce)) (by rw [nI_clamp (by omega)]; rfl) H⟩
  · refine br_f (by decide) (br_t rfl ⟨vp_in_nI (by omega) (by decide), ia, nm_r (e' := upd rg a (fi_rv 6 a b i w s rg ce)) ?_ H⟩)
    rw [nI_clamp (n := a) (by omega), nI_clamp (by omega), hw rfl, show (256 : Int32) = nI 256 from rfl, pk_mul, nI_add]
    rfl
  · exact br_f (by decide) (br_f (by decide) ⟨ia, ia, nm_r (e' := upd rg a (fi_rv 7 a b i w s rg ce)) (by rw [nI_clamp (by omega)]; rfl) H⟩)
theorem xx_acc {post : SX → Prop} {k a b i w s : Nat} (hk1 : k = 8 ∨ k = 10 ∨ k = 11) (ha : a < 4) (hb : b < 4) (H : post (ln, ls, fc, dl, ru, oc, pc, xb, xs, kd, so, im, na, sa, la, ga, ce, upd rg a (fi_rv k a b i w s rg ce), fr)) : wpX_access post (ln, ls, fc, dl, ru, oc, pc, xb, xs, kd, so, im, na, sa, la, ga, ce, rg, fr) (nI k) (nI a) (nI b) (nI s) := by
  unfold wpX_access
  have ia : vp_in (nI a) 4 := vp_in_nI ha (by decide)
  refine ⟨vp_in_nI hb (by decide), nm_r (e' := rg b) (fi_rd (by omega)) ?_⟩
  rcases hk1 with h | h | h <;> subst h
  · exact br_f (by decide) (br_f (by decide) (br_t rfl ⟨pk_andIn _ 5 (by decide) (by decide), ia, nm_r (e' := upd rg a (fi_rv 8 a b i w s rg ce)) (by rw [nI_clamp (n := a) (by omega)]; rfl) H⟩))
  · exact br_f (by decide) (br_f (by decide) (br_f (by decide) (br_f (by decide) (br_t rfl ⟨ia, nm_r (e' := upd rg a (fi_rv 10 a b i w s rg ce)) (by rw [nI_clamp (n := a) (by omega)]; rfl) H⟩))))
  · exact br_f (by decide) (br_t (by decide) ⟨ia, nm_r (e' := upd rg a (fi_rv 11 a b i w s rg ce)) (by rw [nI_clamp (n := a) (by omega)]; rfl) H⟩)
theorem xx_alu {post : SX → Prop} {q c i w s : Nat} (hqs : q / 64 = s) (hq : q < 256) (hc : c < 256) (him : im q = nI c) (hop : fi_alu (c / 16)) (hi : 5 ≤ c / 16 → c / 16 ≤ 7 → im ((q + 1) % 256) = nI i) (hw : c / 16 = 6 → im ((q + 2) % 256) = nI w)
    (H : post (ln, ls, fc, dl, ru, oc, nI ((q + fi_len c) % 256), xb, xs, kd, so, im, na, sa, la, ga, ce, upd rg (c / 4 % 4) (fi_rv (c / 16) (c / 4 % 4) (c % 4) i w s rg ce), fr)) : wpX_execute post (ln, ls, fc, dl, ru, oc, nI q, xb, xs, kd, so, im, na, sa, la, ga, ce, rg, fr) := by
  subst hqs
  unfold wpX_execute
  refine ⟨vp_in_nI hq (by decide), nm_r (e' := nI c) (by rw [nI_clamp (by omega)]; exact him) (nm_r (fi_sh4 (by omega)) (nm_r (fi_fa (by omega)) (nm_r (fi_a3 (by omega)) ?_)))⟩
  refine xl_len c rfl hc ?_
  refine nm_r (e' := nI ((q + fi_len c) % 256)) (by rw [nI_add, fi_a255 (by have := fi_len_b (c); omega)]) ?_
  refine br_f (nI_ne0 (by omega) (by omega)) ?_
  refine pk_lt 4 (c / 16) (fun z => pk_lt 7 (c / 16) (fun z2 => pk_lt 11 (c / 16) (fun z3 => absurd hop (by omega)) (fun z3 => ?_)) (fun z2 => ?_)) (fun z => ?_)
  · rw [fi_sh6 (by omega)]
    exact xx_acc (by omega) (by omega) (by omega) H
  · exact xx_imm (by omega) z2 (by omega) hq (hi (by omega) z2) hw H
  · exact xx_cmp (by omega) z (by omega) (by omega) H
theorem xx_nop {post : SX → Prop} {q c : Nat} (hq : q < 256) (hc1 : c = 1) (him : im q = nI c) (H : post (ln, ls, fc, dl, ru, oc, nI ((q + 1) % 256), xb, xs, kd, so, im, na, sa, la, ga, ce, rg, fr)) : wpX_execute post (ln, ls, fc, dl, ru, oc, nI q, xb, xs, kd, so, im, na, sa, la, ga, ce, rg, fr) := by
  subst hc1
  unfold wpX_execute
  refine ⟨vp_in_nI hq (by decide), nm_r (e' := nI 1) (by rw [nI_clamp (by omega)]; exact him) (nm_r (e' := (0 : Int32)) (by decide) (nm_e (nm_e ?_)))⟩
  refine xl_len 1 rfl (by decide) ?_
  refine nm_r (e' := nI ((q + 1) % 256)) (by rw [show fi_len 1 = 1 from rfl, nI_add, fi_a255 (by omega)]) ?_
  refine br_t rfl ?_
  unfold wpX_control
  exact br_f (by decide) (br_f (by decide) (br_f (by decide) H))
theorem xx_fin {post : SX → Prop} {q c : Nat} {how : Int32} (hq : q < 256) (hc : c < 256) (him : im q = nI c) (h : (c = 0 ∧ how = -2) ∨ (c = 3 ∧ how = -3) ∨ (c = 2 ∧ fc = 0 ∧ how = -2)) (H : post (ln, ls, 0, dl, 0, how, nI ((q + fi_len c) % 256), xb, xs, kd, so, im, na, sa, la, ga, ce, upd rg 3 0, fr)) : wpX_execute post (ln, ls, fc, dl, ru, oc, nI q, xb, xs, kd, so, im, na, sa, la, ga, ce, rg, fr) := by
  have ho : c / 16 = 0 := by omega
  unfold wpX_execute
  refine ⟨vp_in_nI hq (by decide), nm_r (e' := nI c) (by rw [nI_clamp (by omega)]; exact him) (nm_r (e' := (0 : Int32)) (by rw [fi_sh4 (by omega), ho]; rfl) (nm_r (fi_fa (by omega)) (nm_r (fi_a3 (by omega)) ?_)))⟩
  refine xl_len c rfl hc ?_
  refine nm_r (e' := nI ((q + fi_len c) % 256)) (by rw [nI_add, fi_a255 (by have := fi_len_b c; omega)]) ?_
  refine br_t rfl ?_
  unfold wpX_control
  rcases h with ⟨h, h2⟩ | ⟨h, h2⟩ | ⟨h, h3, h2⟩
  · subst h h2
    exact br_t rfl (nm_e H)
  · subst h h2
    exact br_f (by decide) (br_f (by decide) (br_t rfl (nm_e H)))
  · subst h h2 h3
    exact br_f (by decide) (br_t rfl (br_t rfl (nm_e H)))
theorem xx_ret {post : SX → Prop} {q c f t g : Nat} (hq : q < 256) (hc : c < 256) (him : im q = nI c) (h : c = 2) (hf : fc = nI (f + 1)) (hf8 : f < 8) (hfr : fr f = nI t) (ht : t < 64) (hn : na t = nI g) (H : post (ln, ls, nI f, dl, ru, oc, nI g, xb, xs, kd, so, im, na, sa, la, ga, ce, upd rg 3 0, fr)) : wpX_execute post (ln, ls, fc, dl, ru, oc, nI q, xb, xs, kd, so, im, na, sa, la, ga, ce, rg, fr) := by
  have ho : c / 16 = 0 := by omega
  unfold wpX_execute
  refine ⟨vp_in_nI hq (by decide), nm_r (e' := nI c) (by rw [nI_clamp (by omega)]; exact him) (nm_r (e' := (0 : Int32)) (by rw [fi_sh4 (by omega), ho]; rfl) (nm_r (fi_fa (by omega)) (nm_r (fi_a3 (by omega)) ?_)))⟩
  refine xl_len c rfl hc ?_
  refine nm_r (e' := nI ((q + fi_len c) % 256)) (by rw [nI_add, fi_a255 (by have := fi_len_b c; omega)]) ?_
  refine br_t rfl ?_
  unfold wpX_control
  subst h hf
  refine br_f (by decide) (br_t rfl ?_)
  unfold wpX_leave
  refine br_f (nI_ne0 (by omega) (by omega)) (nm_r (nI_pred f) (nm_e ⟨vp_in_nI hf8 (by decide), ?_⟩))
  rw [nI_clamp (by omega), hfr]
  refine ⟨vp_in_nI ht (by decide), nm_r (e' := nI g) (by rw [nI_clamp (by omega)]; exact hn) H⟩
theorem xx_st {post : SX → Prop} {q c j : Nat} (hq : q < 256) (hc : c < 256) (him : im q = nI c) (ho : c / 16 = 9) (hj : rg (c / 4 % 4) &&& 31 = nI j) (hj2 : j < 32) (H : post (ln, ls, fc, dl, ru, oc, nI ((q + fi_len c) % 256), xb, xs, kd, so, im, na, sa, la, ga, upd ce j (rg (c % 4)), rg, fr)) : wpX_execute post (ln, ls, fc, dl, ru, oc, nI q, xb, xs, kd, so, im, na, sa, la, ga, ce, rg, fr) := by
  unfold wpX_execute
  refine ⟨vp_in_nI hq (by decide), nm_r (e' := nI c) (by rw [nI_clamp (by omega)]; exact him) (nm_r (e' := (9 : Int32)) (by rw [fi_sh4 (by omega), ho]; rfl) (nm_r (fi_fa (by omega)) (nm_r (fi_a3 (by omega)) ?_)))⟩
  refine xl_len c rfl hc ?_
  refine nm_r (e' := nI ((q + fi_len c) % 256)) (by rw [nI_add, fi_a255 (by have := fi_len_b c; omega)]) ?_
  refine br_f (by decide) (br_t (by decide) (br_t (by decide) (br_f (by decide) ?_)))
  unfold wpX_access
  refine ⟨vp_in_nI (by omega) (by decide), nm_r (e' := rg (c % 4)) (fi_rd (by omega)) ?_⟩
  refine br_f (by decide) (br_f (by decide) (br_f (by decide) (br_t rfl ⟨vp_in_nI (by omega) (by decide), ?_⟩)))
  rw [nI_clamp (by omega), hj]
  exact ⟨vp_in_nI hj2 (by decide), nm_r (e' := upd ce j (rg (c % 4))) (by rw [nI_clamp (by omega)]) H⟩
theorem xx_jr {post : SX → Prop} {q c j g : Nat} (hq : q < 256) (hc : c < 256) (him : im q = nI c) (ho : c / 16 = 12) (hj : rg (c / 4 % 4) = nI j) (hj2 : j < 64) (hl : la (j / 4) = nI g) (H : post (ln, ls, fc, dl, ru, oc, nI g, xb, xs, kd, so, im, na, sa, la, ga, ce, rg, fr)) : wpX_execute post (ln, ls, fc, dl, ru, oc, nI q, xb, xs, kd, so, im, na, sa, la, ga, ce, rg, fr) := by
  unfold wpX_execute
  refine ⟨vp_in_nI hq (by decide), nm_r (e' := nI c) (by rw [nI_clamp (by omega)]; exact him) (nm_r (e' := (12 : Int32)) (by rw [fi_sh4 (by omega), ho]; rfl) (nm_r (fi_fa (by omega)) (nm_r (fi_a3 (by omega)) ?_)))⟩
  refine xl_len c rfl hc ?_
  refine nm_r (e' := nI ((q + fi_len c) % 256)) (by rw [nI_add, fi_a255 (by have := fi_len_b c; omega)]) ?_
  refine br_f (by decide) (br_t (by decide) (br_t (by decide) (br_t (by decide) ?_)))
  unfold wpX_transfer
  have e1 : (nI q + 1) &&& 255 = nI ((q + 1) % 256) := by rw [nI_1, fi_a255 (by omega)]
  dsimp only
  rw [e1]
  refine ⟨vp_in_nI (by omega) (by decide), nm_e ?_⟩
  refine br_f (by decide) (br_f (by decide) (br_t rfl ⟨vp_in_nI (by omega) (by decide), ?_⟩))
  rw [nI_clamp (n := c / 4 % 4) (by omega), hj, fi_sh2 (by omega), fi_a15 (by omega), Nat.mod_eq_of_lt (by omega)]
  exact ⟨vp_in_nI (by omega) (by decide), nm_r (e' := nI g) (by rw [nI_clamp (by omega)]; exact hl) H⟩
theorem xx_jmp {post : SX → Prop} {q c t s : Nat} (hqs : q / 64 = s) (hq : q < 256) (hc : c < 256) (him : im q = nI c) (ho : c / 16 = 13 ∨ (c / 16 = 14 ∧ ¬ rg (c / 4 % 4) = 0)) (ht : im ((q + 1) % 256) = nI t) (ht2 : t < 64) (H : post (ln, ls, fc, dl, ru, oc, nI (64 * s + t), xb, xs, kd, so, im, na, sa, la, ga, ce, rg, fr)) : wpX_execute post (ln, ls, fc, dl, ru, oc, nI q, xb, xs, kd, so, im, na, sa, la, ga, ce, rg, fr) := by
  subst hqs
  have e1 : (nI q + 1) &&& 255 = nI ((q + 1) % 256) := by rw [nI_1, fi_a255 (by omega)]
  have e2 : (nI q &&& (-64)) + (im (nI ((q + 1) % 256)).toNatClampNeg &&& 63) = nI (64 * (q / 64) + t) := by
    rw [nI_clamp (by omega), ht, fi_a63 (by omega), Nat.mod_eq_of_lt ht2, fi_m64 q hq, nI_add, Nat.mul_comm]
  rcases ho with ho | ⟨ho, hr⟩
  · unfold wpX_execute
    refine ⟨vp_in_nI hq (by decide), nm_r (e' := nI c) (by rw [nI_clamp (by omega)]; exact him) (nm_r (e' := (13 : Int32)) (by rw [fi_sh4 (by omega), ho]; rfl) (nm_r (fi_fa (by omega)) (nm_r (fi_a3 (by omega)) ?_)))⟩
    refine xl_len c rfl hc ?_
    refine nm_r (e' := nI ((q + fi_len c) % 256)) (by rw [nI_add, fi_a255 (by have := fi_len_b c; omega)]) ?_
    refine br_f (by decide) (br_t (by decide) (br_t (by decide) (br_t (by decide) ?_)))
    unfold wpX_transfer
    dsimp only
    rw [e1]
    refine ⟨vp_in_nI (by omega) (by decide), nm_r e2 ?_⟩
    exact br_f (by decide) (br_f (by decide) (br_f (by decide) (br_t rfl H)))
  · unfold wpX_execute
    refine ⟨vp_in_nI hq (by decide), nm_r (e' := nI c) (by rw [nI_clamp (by omega)]; exact him) (nm_r (e' := (14 : Int32)) (by rw [fi_sh4 (by omega), ho]; rfl) (nm_r (fi_fa (by omega)) (nm_r (fi_a3 (by omega)) ?_)))⟩
    refine xl_len c rfl hc ?_
    refine nm_r (e' := nI ((q + fi_len c) % 256)) (by rw [nI_add, fi_a255 (by have := fi_len_b c; omega)]) ?_
    refine br_f (by decide) (br_t (by decide) (br_t (by decide) (br_t (by decide) ?_)))
    unfold wpX_transfer
    dsimp only
    rw [e1]
    refine ⟨vp_in_nI (by omega) (by decide), nm_r e2 ?_⟩
    refine br_f (by decide) (br_f (by decide) (br_f (by decide) (br_f (by decide) (br_t rfl ⟨vp_in_nI (by omega) (by decide), ?_⟩))))
    rw [nI_clamp (n := c / 4 % 4) (by omega)]
    exact br_f hr H
theorem xx_jnz {post : SX → Prop} {q c : Nat} (hq : q < 256) (hc : c < 256) (him : im q = nI c) (ho : c / 16 = 14) (hr : rg (c / 4 % 4) = 0) (H : post (ln, ls, fc, dl, ru, oc, nI ((q + fi_len c) % 256), xb, xs, kd, so, im, na, sa, la, ga, ce, rg, fr)) : wpX_execute post (ln, ls, fc, dl, ru, oc, nI q, xb, xs, kd, so, im, na, sa, la, ga, ce, rg, fr) := by
  have e1 : (nI q + 1) &&& 255 = nI ((q + 1) % 256) := by rw [nI_1, fi_a255 (by omega)]
  unfold wpX_execute
  refine ⟨vp_in_nI hq (by decide), nm_r (e' := nI c) (by rw [nI_clamp (by omega)]; exact him) (nm_r (e' := (14 : Int32)) (by rw [fi_sh4 (by omega), ho]; rfl) (nm_r (fi_fa (by omega)) (nm_r (fi_a3 (by omega)) ?_)))⟩
  refine xl_len c rfl hc ?_
  refine nm_r (e' := nI ((q + fi_len c) % 256)) (by rw [nI_add, fi_a255 (by have := fi_len_b c; omega)]) ?_
  refine br_f (by decide) (br_t (by decide) (br_t (by decide) (br_t (by decide) ?_)))
  unfold wpX_transfer
  dsimp only
  rw [e1]
  refine ⟨vp_in_nI (by omega) (by decide), nm_e ?_⟩
  refine br_f (by decide) (br_f (by decide) (br_f (by decide) (br_f (by decide) (br_t rfl ⟨vp_in_nI (by omega) (by decide), ?_⟩))))
  rw [nI_clamp (n := c / 4 % 4) (by omega)]
  exact br_t hr H
theorem xx_gate {post : SX → Prop} {q c s p f d : Nat} (hq : q < 256) (hc : c < 256) (him : im q = nI c) (ho : c / 16 = 15) (hs : q / 64 = s) (hs4 : s < 4) (hp : sa q = nI p) (hf : fc = nI f) (hf8 : f ≤ d) (hd : dl = nI d) (hd8 : d ≤ 8)
    (H1 : (kd (c % 4) = 0 ∨ ga (4 * s + c % 4) = 0) → post (ln, ls, 0, dl, 0, -4, nI ((q + fi_len c) % 256), xb, xs, kd, so, im, na, sa, la, ga, ce, upd rg 3 0, fr))
    (H2 : ¬ (kd (c % 4) = 0 ∨ ga (4 * s + c % 4) = 0) → d ≤ f → post (ln, ls, 0, dl, 0, -5, nI ((q + fi_len c) % 256), xb, xs, kd, so, im, na, sa, la, ga, ce, upd rg 3 0, fr))
    (H3 : ¬ (kd (c % 4) = 0 ∨ ga (4 * s + c % 4) = 0) → f < d → post (ln, ls, nI (f + 1), dl, ru, oc, nI (64 * (c % 4)), xb, xs, kd, so, im, na, sa, la, ga, ce, upd rg 3 0, upd fr f (nI (16 * s + p + 1)))) : wpX_execute post (ln, ls, fc, dl, ru, oc, nI q, xb, xs, kd, so, im, na, sa, la, ga, ce, rg, fr) := by
  have e1 : (nI q + 1) &&& 255 = nI ((q + 1) % 256) := by rw [nI_1, fi_a255 (by omega)]
  unfold wpX_execute
  refine ⟨vp_in_nI hq (by decide), nm_r (e' := nI c) (by rw [nI_clamp (by omega)]; exact him) (nm_r (e' := (15 : Int32)) (by rw [fi_sh4 (by omega), ho]; rfl) (nm_r (fi_fa (by omega)) (nm_r (fi_a3 (by omega)) ?_)))⟩
  refine xl_len c rfl hc ?_
  refine nm_r (e' := nI ((q + fi_len c) % 256)) (by rw [nI_add, fi_a255 (by have := fi_len_b c; omega)]) ?_
  refine br_f (by decide) (br_t (by decide) (br_t (by decide) (br_t (by decide) ?_)))
  unfold wpX_transfer
  dsimp only
  rw [e1]
  refine ⟨vp_in_nI (by omega) (by decide), nm_e ?_⟩
  refine br_f (by decide) (br_t (by decide) ?_)
  unfold wpX_enter
  refine nm_r (e' := nI s) (by rw [fi_sh6 (by omega), hs]) ⟨vp_in_nI (by omega) (by decide), ?_⟩
  rw [fi_i4, nI_clamp (n := c % 4) (by omega)]
  subst hf hd
  refine br_c (fun z => ?_) (fun z => ⟨vp_in_nI (by omega) (by decide), ?_⟩)
  · unfold wX_enter_27
    exact nm_e (H1 (Or.inl z))
  rw [nI_clamp (n := 4 * s + c % 4) (by omega)]
  refine br_c (fun z2 => ?_) (fun z2 => ?_)
  · unfold wX_enter_27
    exact nm_e (H1 (Or.inr z2))
  have hn : ¬ (kd (c % 4) = 0 ∨ ga (4 * s + c % 4) = 0) := fun y => y.elim z z2
  refine pk_lt f d (fun w => ?_) (fun w => nm_e (H2 hn w))
  refine ⟨vp_in_nI hq (by decide), vp_in_nI (by omega) (by decide), nm_r (e' := upd fr f (nI (16 * s + p + 1))) (by rw [nI_clamp (n := f) (by omega), nI_clamp (n := q) (by omega), hp, fi_i16, nI_1]) (nm_r (nI_1 f) (nm_e (nm_r (fi_64m (c % 4)) (H3 hn w))))⟩
end
section
variable {ln ls fc dl ru oc pc : Int32} {xb xs kd so im na sa la ga ce rg fr : Nat → Int32}
/-! X: the end of a step -/
theorem xs_41 {post : SX → Prop} {q : Nat} (hq : q < 256) (h2 : kd (q / 64) = 2 → post (ln, ls, fc, dl, ru, oc, nI q, xb, xs, kd, so, im, na, sa, la, ga, ce, upd rg 3 0, fr)) (h1 : ¬ kd (q / 64) = 2 → post (ln, ls, fc, dl, ru, oc, nI q, xb, xs, kd, so, im, na, sa, la, ga, ce, rg, fr)) : wX_step_41 post ln ls fc dl ru oc (nI q) xb xs kd so im na sa la ga ce rg fr := by
  unfold wX_step_41
  rw [fi_sh6 (by omega)]
  refine ⟨vp_in_nI (by omega) (by decide), ?_⟩
  rw [nI_clamp (n := q / 64) (by omega)]
  exact br_c (fun z => nm_e (h2 z)) h1
theorem xs_end {post : SX → Prop} {q n j : Nat} {how : Int32} (hq : q < 256) (hj : j ≤ 64) (H : post (ln, ls, 0, dl, 0, how, nI q, xb, xs, kd, so, im, na, sa, la, ga, ce, upd rg 3 0, fr)) : wX_step_6 post (n + 1) (nI j) ln ls 0 dl 0 how (nI q) xb xs kd so im na sa la ga ce (upd rg 3 0) fr := by
  have K : wX_step_41 post ln ls 0 dl 0 how (nI q) xb xs kd so im na sa la ga ce (upd rg 3 0) fr := by
    refine xs_41 hq (fun z => ?_) (fun z => H)
    rw [fi_uu]
    exact H
  exact br_c (fun _ => K) (fun _ => br_t rfl K)
theorem xs_drain {post : SX → Prop} {s f p : Nat} (hs : s < 4) (hf : f < 64) (hru : ¬ ru = 0) (hsf : sa (64 * s + f) = nI p) (hp : p < 16) (H : wX_step_41 post ln ls fc dl ru oc (nI (64 * s + f)) xb xs kd so im na sa la ga ce rg fr) :
    ∀ d e j n, e + d = f → d < n → j + d < 64 → (∀ i, e ≤ i → i < f → im (64 * s + i) = 1 ∧ sa (64 * s + i) = -1) → wX_step_6 post n (nI j) ln ls fc dl ru oc (nI (64 * s + e)) xb xs kd so im na sa la ga ce rg fr := by
  intro d
  induction d with
  | zero =>
    intro e j n he hn hj hg
    obtain ⟨m, rfl⟩ : ∃ m, n = m + 1 := ⟨n - 1, by omega⟩
    have ee : e = f := by omega
    subst ee
    refine br_f (nI_ge (b := 64) (by omega) (by decide)) (br_f hru ⟨vp_in_nI (by omega) (by decide), ?_⟩)
    rw [nI_clamp (by omega), hsf]
    exact br_t (nI_pos' (by omega)) H
  | succ d ih =>
    intro e j n he hn hj hg
    obtain ⟨m, rfl⟩ : ∃ m, n = m + 1 := ⟨n - 1, by omega⟩
    have g := hg e (Nat.le_refl _) (by omega)
    refine br_f (nI_ge (b := 64) (by omega) (by decide)) (br_f hru ⟨vp_in_nI (by omega) (by decide), ?_⟩)
    rw [nI_clamp (by omega), g.2]
    refine br_f (by decide) (xx_nop (by omega) rfl g.1 (nm_r (nI_1 j) ?_))
    rw [Nat.mod_eq_of_lt (by omega), Nat.add_assoc]
    exact ih (e + 1) (j + 1) m (by omega) (by omega) (by omega) (fun i h1 h2 => hg i (by omega) h2)
end
end
section
section
variable {yf yl yn ys : Int32} {yb yk yg ym yr yw : Nat → Int32}
/-! Y: one step -/
theorem yt_hd {post : SY → Prop} {A c i w : Nat} (hA : A < 64) (hc : c < 256) (hi : i < 256) (hw : w < 256) (e0 : ys = nI A) (e1 : yb A = nI c) (e2 : yb (A + 1) = nI i) (e3 : yb (A + 2) = nI w)
    (H : ∀ z, (yk (A / 16) = 1 → z = 1) → (¬ yk (A / 16) = 1 → z = 0) → wY_step_98 post (nI A) (nI (A / 16)) (nI c) (nI (c / 16)) (nI (c / 4 % 4)) (nI (c % 4)) (nI i) ((nI i).toInt8.toInt32) (nI (i + 256 * w)) z yf yl yn ys yb yk yg ym yr yw) : wpY_step post (yf, yl, yn, ys, yb, yk, yg, ym, yr, yw) := by
  unfold wpY_step
  have a1 : nI A + 1 = nI (A + 1) := nI_1 A
  have a2 : nI A + 2 = nI (A + 2) := nI_add A 2
  refine nm_r (e' := nI A) (by rw [e0, fi_a63 (by omega), Nat.mod_eq_of_lt hA]) (nm_r (fi_sh4 (by omega)) ?_)
  refine ⟨vp_in_nI (by omega) (by decide), nm_r (e' := nI c) (by rw [nI_clamp (by omega)]; exact e1) (nm_r (fi_sh4 (by omega)) (nm_r (fi_fa (by omega)) (nm_r (fi_a3 (by omega)) ?_)))⟩
  rw [a1]
  refine ⟨vp_in_nI (by omega) (by decide), nm_r (e' := nI i) (by rw [nI_clamp (by omega)]; exact e2) ?_⟩
  have K : ∀ x : Int32, x = (nI i).toInt8.toInt32 → wY_step_64 post (nI A) (nI (A / 16)) (nI c) (nI (c / 16)) (nI (c / 4 % 4)) (nI (c % 4)) (nI i) x yf yl yn ys yb yk yg ym yr yw := fun x ex => by
    subst ex
    unfold wY_step_64
    rw [a2]
    refine ⟨vp_in_nI (by omega) (by decide), nm_r (e' := nI (i + 256 * w)) (by rw [nI_clamp (by omega), e3, show (256 : Int32) = nI 256 from rfl, pk_mul, nI_add]) ⟨vp_in_nI (by omega) (by decide), ?_⟩⟩
    rw [nI_clamp (n := A / 16) (by omega)]
    exact br_c (fun h => H 1 (fun _ => rfl) (fun y => absurd h y)) (fun h => H 0 (fun y => absurd y h) (fun _ => rfl))
  exact pk_le i 127 (fun h => K _ (by rw [fi_sg i hi, if_pos h])) (fun h => K _ (by rw [fi_sg i hi, if_neg (by omega)]))
/-- every instruction but STOP and RET comes here -/
theorem yt_98 {post : SY → Prop} {A c : Nat} {x2 x4 x5 x6 x7 x8 x9 z : Int32} (hc : c < 256) (h0 : c ≠ 0) (h2 : c ≠ 2) (H : wY_step_136 post (nI A) x2 (nI c) x4 x5 x6 x7 x8 x9 z yf yl yn (nI (A + fi_len c)) yb yk yg ym yr yw) : wY_step_98 post (nI A) x2 (nI c) x4 x5 x6 x7 x8 x9 z yf yl yn ys yb yk yg ym yr yw := by
  unfold wY_step_98
  refine yl_len c rfl hc (nm_r (nI_add _ _) ?_)
  exact pk_eq c 0 (fun y => absurd y h0) (fun _ => pk_eq c 2 (fun y => absurd y h2) (fun _ => H))
theorem yt_136 {post : SY → Prop} {A c : Nat} {x2 x4 x5 x6 x7 x8 x9 z : Int32} {Q : Prop} (hc : c < 256) (h3 : c ≠ 3) (h2 : c ≠ 2) (H : wY_step_136 post (nI A) x2 16 x4 x5 x6 x7 x8 x9 z yf yl yn ys yb yk yg ym yr yw) : wY_step_136 post (nI A) x2 (nI c) x4 x5 x6 x7 x8 x9 z yf yl yn ys yb yk yg ym yr yw := by
  have K := (H.2 (by decide)).2 (by decide)
  exact pk_eq c 3 (fun y => absurd y h3) (fun _ => pk_eq c 2 (fun y => absurd y h2) (fun _ => K))
theorem yt_st0 {post : SY → Prop} {A c i w : Nat} {how : Int32} (hA : A < 64) (hc : c < 256) (hi : i < 256) (hw : w < 256) (e0 : ys = nI A) (e1 : yb A = nI c) (e2 : yb (A + 1) = nI i) (e3 : yb (A + 2) = nI w)
    (h : (c = 0 ∧ how = -2) ∨ (c = 3 ∧ how = -3) ∨ (c = 2 ∧ yf = 0 ∧ how = -2)) (H : post (0, yl, yn, how, yb, yk, yg, ym, upd yr 3 0, yw)) : wpY_step post (yf, yl, yn, ys, yb, yk, yg, ym, yr, yw) := by
  refine yt_hd hA hc hi hw e0 e1 e2 e3 (fun z _ _ => ?_)
  rcases h with ⟨h, h2⟩ | ⟨h, h2⟩ | ⟨h, h3, h2⟩
  · subst h h2
    unfold wY_step_98
    refine yl_len 0 rfl hc (nm_r (nI_add _ _) (br_t rfl ?_))
    unfold wY_step_127
    exact nm_e H
  · subst h h2
    refine yt_98 hc (by decide) (by decide) ?_
    exact br_t rfl (nm_e H)
  · subst h h2 h3
    unfold wY_step_98
    refine yl_len 2 rfl hc (nm_r (nI_add _ _) (br_f (by decide) (br_t rfl (br_f (by decide) ?_))))
    unfold wY_step_127
    exact nm_e H
theorem yt_ret {post : SY → Prop} {A c i w f t : Nat} (hA : A < 64) (hc : c < 256) (hi : i < 256) (hw : w < 256) (e0 : ys = nI A) (e1 : yb A = nI c) (e2 : yb (A + 1) = nI i) (e3 : yb (A + 2) = nI w)
    (h : c = 2) (hf : yf = nI (f + 1)) (hf8 : f < 8) (hfr : yw f = nI t) (H : post (nI f, yl, yn, nI t, yb, yk, yg, ym, upd yr 3 0, yw)) : wpY_step post (yf, yl, yn, ys, yb, yk, yg, ym, yr, yw) := by
  refine yt_hd hA hc hi hw e0 e1 e2 e3 (fun z _ _ => ?_)
  subst h hf
  unfold wY_step_98
  refine yl_len 2 rfl hc (nm_r (nI_add _ _) (br_f (by decide) (br_t rfl (br_t (nI_lt (a := 0) (by omega) (by omega)) ?_))))
  refine br_f (by decide) (br_t rfl (nm_r (nI_pred f) (nm_e ⟨vp_in_nI hf8 (by decide), nm_r (e' := nI t) (by rw [nI_clamp (by omega)]; exact hfr) H⟩)))
/-- nothing more: NOP, and JNZ on zero -/
theorem yt_671 {post : SY → Prop} {x1 x2 x4 x6 : Int32} (h : ¬ x4 = 15) (H : post (yf, yl, yn, ys, yb, yk, yg, ym, yr, yw)) : wY_step_671 post x1 x2 x4 x6 yf yl yn ys yb yk yg ym yr yw := by
  unfold wY_step_671
  refine br_f h ?_
  unfold wY_step_711
  refine br_f h ?_
  unfold wY_step_738
  exact br_f h H
theorem yt_nop {post : SY → Prop} {A c i w : Nat} (hA : A < 64) (hc : c < 256) (hi : i < 256) (hw : w < 256) (e0 : ys = nI A) (e1 : yb A = nI c) (e2 : yb (A + 1) = nI i) (e3 : yb (A + 2) = nI w)
    (h : c = 1) (H : post (yf, yl, yn, nI (A + 1), yb, yk, yg, ym, yr, yw)) : wpY_step post (yf, yl, yn, ys, yb, yk, yg, ym, yr, yw) := by
  refine yt_hd hA hc hi hw e0 e1 e2 e3 (fun z _ _ => ?_)
  subst h
  refine yt_98 hc (by decide) (by decide) ?_
  refine br_f (by decide) (br_f (by decide) (br_f (by decide) (br_f (by decide) (br_f (by decide) (br_f (by decide) (br_f (by decide) (br_f (by decide) (br_f (by decide) (br_f (by decide) (br_f (by decide) (br_f (by decide) (br_f (by decide) (br_f (by decide) ?_)))))))))))))
  unfold wY_step_564
  refine br_f (by decide) ?_
  unfold wY_step_614
  refine br_f (by decide) (br_f (by decide) (br_f (by decide) ?_))
  exact yt_671 (by decide) H
end
end
section
section
variable {yf yl yn ys : Int32} {yb yk yg ym yr yw : Nat → Int32}
/-- an instruction that computes -/
theorem yt_136a {post : SY → Prop} {A k a b c i w s : Nat} {z : Int32} (hc : c < 256) (hc16 : 16 ≤ c) (hi : i < 256) (hw : w < 256) (ha : a < 4) (hb : b < 4) (hs : s < 4) (hk : fi_alu k) (H : post (yf, yl, yn, ys, yb, yk, yg, ym, upd yr a (fi_rv k a b i w s yr ym), yw)) : wY_step_136 post (nI A) (nI s) (nI c) (nI k) (nI a) (nI b) (nI i) ((nI i).toInt8.toInt32) (nI (i + 256 * w)) z yf yl yn ys yb yk yg ym yr yw := by
  have n3 : ¬ nI c = 3 := fun y => absurd ((nI_eq (b := 3) (by omega) (by decide)).mp y) (by omega)
  have n2 : ¬ nI c = 2 := fun y => absurd ((nI_eq (b := 2) (by omega) (by decide)).mp y) (by omega)
  have ja : vp_in (nI a) 4 := vp_in_nI ha (by decide)
  have jb : vp_in (nI b) 4 := vp_in_nI hb (by decide)
  have hcs : k = 1 ∨ k = 2 ∨ k = 3 ∨ k = 4 ∨ k = 5 ∨ k = 6 ∨ k = 7 ∨ k = 8 ∨ k = 10 ∨ k = 11 := by omega
  rcases hcs with h | h | h | h | h | h | h | h | h | h <;> subst h <;> refine br_f n3 (br_f n2 ?_)
  · exact br_t rfl ⟨jb, ja, nm_r (e' := upd yr a (fi_rv 1 a b i w s yr ym)) (by rw [nI_clamp (n := a) (by omega), nI_clamp (n := b) (by omega)]; rfl) H⟩
  · exact br_f (by decide) (br_t rfl ⟨ja, jb, ja, nm_r (e' := upd yr a (fi_rv 2 a b i w s yr ym)) (by rw [nI_clamp (n := a) (by omega), nI_clamp (n := b) (by omega)]; rfl) H⟩)
  · exact br_f (by decide) (br_f (by decide) (br_t rfl ⟨ja, jb, ja, nm_r (e' := upd yr a (fi_rv 3 a b i w s yr ym)) (by rw [nI_clamp (n := a) (by omega), nI_clamp (n := b) (by omega)]; rfl) H⟩))
  · exact br_f (by decide) (br_f (by decide) (br_f (by decide) (br_t rfl ⟨ja, jb, ja, nm_r (e' := upd yr a (fi_rv 4 a b i w s yr ym)) (by rw [nI_clamp (n := a) (by omega), nI_clamp (n := b) (by omega)]; rfl) H⟩)))
  · exact br_f (by decide) (br_f (by decide) (br_f (by decide) (br_f (by decide) (br_t rfl ⟨ja, nm_r (e' := upd yr a (fi_rv 5 a b i w s yr ym)) (by rw [nI_clamp (n := a) (by omega)]; rfl) H⟩))))
  · refine br_f (by decide) (br_f (by decide) (br_f (by decide) (br_f (by decide) (br_f (by decide) (br_t rfl (pk_le (i + 256 * w) 32767 (fun y => ⟨ja, nm_r (e' := upd yr a (fi_rv 6 a b i w s yr ym)) ?_ H⟩) (fun y => ⟨ja, nm_r (e' := upd yr a (fi_rv 6 a b i w s yr ym)) ?_ H⟩)))))))
    · rw [nI_clamp (n := a) (by omega)]
      show _ = upd yr a (nI (i + 256 * w)).toInt16.toInt32
      rw [fi_sw (by omega), if_pos y]
    · rw [nI_clamp (n := a) (by omega)]
      show _ = upd yr a (nI (i + 256 * w)).toInt16.toInt32
      rw [fi_sw (by omega), if_neg (by omega)]
  · exact br_f (by decide) (br_f (by decide) (br_f (by decide) (br_f (by decide) (br_f (by decide) (br_f (by decide) (br_t rfl ⟨ja, ja, nm_r (e' := upd yr a (fi_rv 7 a b i w s yr ym)) (by rw [nI_clamp (n := a) (by omega)]; rfl) H⟩))))))
  · exact br_f (by decide) (br_f (by decide) (br_f (by decide) (br_f (by decide) (br_f (by decide) (br_f (by decide) (br_f (by decide) (br_t rfl ⟨jb, by rw [nI_clamp (n := b) (by omega)]; exact pk_andIn _ 5 (by decide) (by decide), ja, nm_r (e' := upd yr a (fi_rv 8 a b i w s yr ym)) (by rw [nI_clamp (n := a) (by omega), nI_clamp (n := b) (by omega)]; rfl) H⟩)))))))
  · exact br_f (by decide) (br_f (by decide) (br_f (by decide) (br_f (by decide) (br_f (by decide) (br_f (by decide) (br_f (by decide) (br_f (by decide) (br_f (by decide) (br_t rfl ⟨jb, ja, nm_r (e' := upd yr a (fi_rv 10 a b i w s yr ym)) (by rw [nI_clamp (n := a) (by omega), nI_clamp (n := b) (by omega)]; rfl) H⟩)))))))))
  · exact br_f (by decide) (br_f (by decide) (br_f (by decide) (br_f (by decide) (br_f (by decide) (br_f (by decide) (br_f (by decide) (br_f (by decide) (br_f (by decide) (br_f (by decide) (br_t rfl ⟨jb, ja, nm_r (e' := upd yr a (fi_rv 11 a b i w s yr ym)) (by rw [nI_clamp (n := a) (by omega), nI_clamp (n := b) (by omega)]; rfl) H⟩))))))))))
theorem yt_alu {post : SY → Prop} {A c i w s : Nat} (hAs : A / 16 = s) (hA : A < 64) (hc : c < 256) (hi : i < 256) (hw : w < 256) (e0 : ys = nI A) (e1 : yb A = nI c) (e2 : yb (A + 1) = nI i) (e3 : yb (A + 2) = nI w) (hop : fi_alu (c / 16)) (H : post (yf, yl, yn, nI (A + fi_len c), yb, yk, yg, ym, upd yr (c / 4 % 4) (fi_rv (c / 16) (c / 4 % 4) (c % 4) i w (s) yr ym), yw)) : wpY_step post (yf, yl, yn, ys, yb, yk, yg, ym, yr, yw) := by
  subst hAs
  refine yt_hd hA hc hi hw e0 e1 e2 e3 (fun z _ _ => yt_98 hc (by omega) (by omega) ?_)
  exact yt_136a hc (by omega) hi hw (by omega) (by omega) (by omega) hop H
theorem yt_st {post : SY → Prop} {A c i w s : Nat} (hAs : A / 16 = s) (hA : A < 64) (hc : c < 256) (hi : i < 256) (hw : w < 256) (e0 : ys = nI A) (e1 : yb A = nI c) (e2 : yb (A + 1) = nI i) (e3 : yb (A + 2) = nI w) {j : Nat} (ho : c / 16 = 9) (hj2 : j < 32) (hj1 : yk (s) = 1 → yr (c / 4 % 4) &&& 31 = nI j) (hj0 : ¬ yk (s) = 1 → ∃ m, yr (c / 4 % 4) &&& 7 = nI m ∧ 8 * (s) + m = j) (H : post (yf, yl, yn, nI (A + fi_len c), yb, yk, yg, upd ym j (yr (c % 4)), yr, yw)) : wpY_step post (yf, yl, yn, ys, yb, yk, yg, ym, yr, yw) := by
  subst hAs
  refine yt_hd hA hc hi hw e0 e1 e2 e3 (fun z z1 z0 => yt_98 hc (by omega) (by omega) ?_)
  have n3 : ¬ nI c = 3 := fun y => absurd ((nI_eq (b := 3) (by omega) (by decide)).mp y) (by omega)
  have n2 : ¬ nI c = 2 := fun y => absurd ((nI_eq (b := 2) (by omega) (by decide)).mp y) (by omega)
  rw [ho]
  refine br_f n3 (br_f n2 (br_f (by decide) (br_f (by decide) (br_f (by decide) (br_f (by decide) (br_f (by decide) (br_f (by decide) (br_f (by decide) (br_f (by decide) (br_t rfl ?_))))))))))
  by_cases hk : yk (A / 16) = 1
  · rw [z1 hk]
    refine br_f (by decide) ⟨vp_in_nI (by omega) (by decide), vp_in_nI (by omega) (by decide), ?_⟩
    rw [nI_clamp (n := c / 4 % 4) (by omega), hj1 hk]
    exact ⟨vp_in_nI hj2 (by decide), nm_r (e' := upd ym j (yr (c % 4))) (by rw [nI_clamp (n := c % 4) (by omega), nI_clamp (n := j) (by omega)]) H⟩
  · rw [z0 hk]
    obtain ⟨m, m1, m2⟩ := hj0 hk
    refine br_t rfl ⟨vp_in_nI (by omega) (by decide), vp_in_nI (by omega) (by decide), ?_⟩
    rw [nI_clamp (n := c / 4 % 4) (by omega), m1, fi_i8, m2]
    exact ⟨vp_in_nI hj2 (by decide), nm_r (e' := upd ym j (yr (c % 4))) (by rw [nI_clamp (n := c % 4) (by omega), nI_clamp (n := j) (by omega)]) H⟩
theorem yt_jr1 {post : SY → Prop} {A c i w s : Nat} (hAs : A / 16 = s) (hA : A < 64) (hc : c < 256) (hi : i < 256) (hw : w < 256) (e0 : ys = nI A) (e1 : yb A = nI c) (e2 : yb (A + 1) = nI i) (e3 : yb (A + 2) = nI w) {j : Nat} (ho : c / 16 = 12) (hj2 : j < 64) (hk : yk (s) = 1) (hj : yr (c / 4 % 4) = nI j) (H : post (yf, yl, yn, nI j, yb, yk, yg, ym, yr, yw)) : wpY_step post (yf, yl, yn, ys, yb, yk, yg, ym, yr, yw) := by
  subst hAs
  refine yt_hd hA hc hi hw e0 e1 e2 e3 (fun z z1 z0 => yt_98 hc (by omega) (by omega) ?_)
  have n3 : ¬ nI c = 3 := fun y => absurd ((nI_eq (b := 3) (by omega) (by decide)).mp y) (by omega)
  have n2 : ¬ nI c = 2 := fun y => absurd ((nI_eq (b := 2) (by omega) (by decide)).mp y) (by omega)
  rw [ho, z1 hk]
  refine br_f n3 (br_f n2 (br_f (by decide) (br_f (by decide) (br_f (by decide) (br_f (by decide) (br_f (by decide) (br_f (by decide) (br_f (by decide) (br_f (by decide) (br_f (by decide) (br_f (by decide) (br_f (by decide) (br_t rfl (br_f (by decide) ⟨vp_in_nI (by omega) (by decide), nm_r (e' := nI j) (by rw [nI_clamp (n := c / 4 % 4) (by omega), hj, fi_a63 (by omega), Nat.mod_eq_of_lt hj2]) H⟩))))))))))))))
theorem yt_jr0 {post : SY → Prop} {A c i w s : Nat} (hAs : A / 16 = s) (hA : A < 64) (hc : c < 256) (hi : i < 256) (hw : w < 256) (e0 : ys = nI A) (e1 : yb A = nI c) (e2 : yb (A + 1) = nI i) (e3 : yb (A + 2) = nI w) {j : Nat} {B : Nat → Nat} (ho : c / 16 = 12) (hj4 : j < 4) (hk : ¬ yk (s) = 1) (hj : yr (c / 4 % 4) &&& 12 = nI (4 * j)) (hB : ∀ n, n < 16 → yb (16 * (s) + n) = nI (B n)) (hb : ∀ n, n < 16 → B n < 256)
    (H1 : fi_St B (4 * j) → post (yf, yl, yn, nI (16 * (s) + 4 * j), yb, yk, yg, ym, yr, yw)) (H0 : ¬ fi_St B (4 * j) → post (0, yl, yn, -3, yb, yk, yg, ym, upd yr 3 0, yw)) : wpY_step post (yf, yl, yn, ys, yb, yk, yg, ym, yr, yw) := by
  subst hAs
  refine yt_hd hA hc hi hw e0 e1 e2 e3 (fun z z1 z0 => yt_98 hc (by omega) (by omega) ?_)
  have n3 : ¬ nI c = 3 := fun y => absurd ((nI_eq (b := 3) (by omega) (by decide)).mp y) (by omega)
  have n2 : ¬ nI c = 2 := fun y => absurd ((nI_eq (b := 2) (by omega) (by decide)).mp y) (by omega)
  rw [ho, z0 hk]
  refine br_f n3 (br_f n2 (br_f (by decide) (br_f (by decide) (br_f (by decide) (br_f (by decide) (br_f (by decide) (br_f (by decide) (br_f (by decide) (br_f (by decide) (br_f (by decide) (br_f (by decide) (br_f (by decide) (br_t rfl (br_t rfl ?_))))))))))))))
  unfold wY_step_564
  refine br_t rfl ⟨vp_in_nI (by omega) (by decide), ?_⟩
  refine yi_st (16 * (A / 16)) (4 * j) (fi_16m _) (by rw [nI_clamp (n := c / 4 % 4) (by omega), hj]) (by omega) (by omega) hB hb (fun h => br_f (by decide) ⟨vp_in_nI (by omega) (by decide), nm_r (e' := nI (16 * (A / 16) + 4 * j)) (by rw [nI_clamp (n := c / 4 % 4) (by omega), hj, fi_i16]) (H1 h)⟩) (fun h => br_t rfl ?_)
  unfold wY_step_614
  exact br_t rfl (nm_e (H0 h))
theorem yt_jmp {post : SY → Prop} {A c i w s : Nat} (hAs : A / 16 = s) (hA : A < 64) (hc : c < 256) (hi : i < 256) (hw : w < 256) (e0 : ys = nI A) (e1 : yb A = nI c) (e2 : yb (A + 1) = nI i) (e3 : yb (A + 2) = nI w) (ho : c / 16 = 13 ∨ (c / 16 = 14 ∧ ¬ yr (c / 4 % 4) = 0)) (ht : i < 16) (H : post (yf, yl, yn, nI (16 * (s) + i), yb, yk, yg, ym, yr, yw)) : wpY_step post (yf, yl, yn, ys, yb, yk, yg, ym, yr, yw) := by
  subst hAs
  refine yt_hd hA hc hi hw e0 e1 e2 e3 (fun z z1 z0 => yt_98 hc (by omega) (by omega) ?_)
  have n3 : ¬ nI c = 3 := fun y => absurd ((nI_eq (b := 3) (by omega) (by decide)).mp y) (by omega)
  have n2 : ¬ nI c = 2 := fun y => absurd ((nI_eq (b := 2) (by omega) (by decide)).mp y) (by omega)

  have K : wY_step_654 post (nI (A / 16)) (nI i) yf yl yn (nI (A + fi_len c)) yb yk yg ym yr yw := by
    unfold wY_step_654
    exact nm_r (e' := nI (16 * (A / 16) + i)) (by rw [fi_a15 (by omega), Nat.mod_eq_of_lt ht, fi_i16]) H
  rcases ho with ho | ⟨ho, hr⟩
  · rw [ho]
    refine br_f n3 (br_f n2 (br_f (by decide) (br_f (by decide) (br_f (by decide) (br_f (by decide) (br_f (by decide) (br_f (by decide) (br_f (by decide) (br_f (by decide) (br_f (by decide) (br_f (by decide) (br_f (by decide) (br_f (by decide) (?_))))))))))))))
    unfold wY_step_564
    refine br_f (by decide) ?_
    unfold wY_step_614
    exact br_f (by decide) (br_t rfl K)
  · rw [ho]
    refine br_f n3 (br_f n2 (br_f (by decide) (br_f (by decide) (br_f (by decide) (br_f (by decide) (br_f (by decide) (br_f (by decide) (br_f (by decide) (br_f (by decide) (br_f (by decide) (br_f (by decide) (br_f (by decide) (br_f (by decide) (?_))))))))))))))
    unfold wY_step_564
    refine br_f (by decide) ?_
    unfold wY_step_614
    refine br_f (by decide) (br_f (by decide) (br_t rfl ⟨vp_in_nI (by omega) (by decide), ?_⟩))
    rw [nI_clamp (n := c / 4 % 4) (by omega)]
    exact br_f hr K
theorem yt_jnz {post : SY → Prop} {A c i w : Nat} (hA : A < 64) (hc : c < 256) (hi : i < 256) (hw : w < 256) (e0 : ys = nI A) (e1 : yb A = nI c) (e2 : yb (A + 1) = nI i) (e3 : yb (A + 2) = nI w) (ho : c / 16 = 14) (hr : yr (c / 4 % 4) = 0) (H : post (yf, yl, yn, nI (A + fi_len c), yb, yk, yg, ym, yr, yw)) : wpY_step post (yf, yl, yn, ys, yb, yk, yg, ym, yr, yw) := by
  refine yt_hd hA hc hi hw e0 e1 e2 e3 (fun z z1 z0 => yt_98 hc (by omega) (by omega) ?_)
  have n3 : ¬ nI c = 3 := fun y => absurd ((nI_eq (b := 3) (by omega) (by decide)).mp y) (by omega)
  have n2 : ¬ nI c = 2 := fun y => absurd ((nI_eq (b := 2) (by omega) (by decide)).mp y) (by omega)
  rw [ho]
  refine br_f n3 (br_f n2 (br_f (by decide) (br_f (by decide) (br_f (by decide) (br_f (by decide) (br_f (by decide) (br_f (by decide) (br_f (by decide) (br_f (by decide) (br_f (by decide) (br_f (by decide) (br_f (by decide) (br_f (by decide) (?_))))))))))))))
  unfold wY_step_564
  refine br_f (by decide) ?_
  unfold wY_step_614
  refine br_f (by decide) (br_f (by decide) (br_t rfl ⟨vp_in_nI (by omega) (by decide), ?_⟩))
  rw [nI_clamp (n := c / 4 % 4) (by omega)]
  exact br_t hr (yt_671 (by decide) H)
theorem yt_gate {post : SY → Prop} {A c i w s : Nat} (hAs : A / 16 = s) (hA : A < 64) (hc : c < 256) (hi : i < 256) (hw : w < 256) (e0 : ys = nI A) (e1 : yb A = nI c) (e2 : yb (A + 1) = nI i) (e3 : yb (A + 2) = nI w) {f d : Nat} (ho : c / 16 = 15) (hf : yf = nI f) (hf8 : f ≤ d) (hd : yl = nI d) (hd8 : d ≤ 8)
    (H1 : (yk (c % 4) = 0 ∨ yg (4 * (s) + c % 4) = 0) → post (0, yl, yn, -4, yb, yk, yg, ym, upd yr 3 0, yw))
    (H2 : ¬ (yk (c % 4) = 0 ∨ yg (4 * (s) + c % 4) = 0) → d ≤ f → post (0, yl, yn, -5, yb, yk, yg, ym, upd yr 3 0, yw))
    (H3 : ¬ (yk (c % 4) = 0 ∨ yg (4 * (s) + c % 4) = 0) → f < d → post (nI (f + 1), yl, yn, nI (16 * (c % 4)), yb, yk, yg, ym, upd yr 3 0, upd yw f (nI (A + 1)))) : wpY_step post (yf, yl, yn, ys, yb, yk, yg, ym, yr, yw) := by
  subst hAs
  refine yt_hd hA hc hi hw e0 e1 e2 e3 (fun z z1 z0 => yt_98 hc (by omega) (by omega) ?_)
  have n3 : ¬ nI c = 3 := fun y => absurd ((nI_eq (b := 3) (by omega) (by decide)).mp y) (by omega)
  have n2 : ¬ nI c = 2 := fun y => absurd ((nI_eq (b := 2) (by omega) (by decide)).mp y) (by omega)
  rw [ho]
  refine br_f n3 (br_f n2 (br_f (by decide) (br_f (by decide) (br_f (by decide) (br_f (by decide) (br_f (by decide) (br_f (by decide) (br_f (by decide) (br_f (by decide) (br_f (by decide) (br_f (by decide) (br_f (by decide) (br_f (by decide) (?_))))))))))))))
  unfold wY_step_564
  refine br_f (by decide) ?_
  unfold wY_step_614
  refine br_f (by decide) (br_f (by decide) (br_f (by decide) ?_))
  unfold wY_step_671
  refine br_t rfl ⟨vp_in_nI (by omega) (by decide), ?_⟩
  rw [fi_i4, nI_clamp (n := c % 4) (by omega)]
  subst hf hd
  refine br_c (fun y => ?_) (fun y => ⟨vp_in_nI (by omega) (by decide), ?_⟩)
  · unfold wY_step_702
    exact nm_e (H1 (Or.inl y))
  rw [nI_clamp (n := 4 * (A / 16) + c % 4) (by omega)]
  refine br_c (fun y2 => ?_) (fun y2 => ?_)
  · unfold wY_step_702
    exact nm_e (H1 (Or.inr y2))
  have hn : ¬ (yk (c % 4) = 0 ∨ yg (4 * (A / 16) + c % 4) = 0) := fun t => t.elim y y2
  unfold wY_step_711
  refine br_t rfl (pk_lt f d (fun t => ?_) (fun t => nm_e (H2 hn t)))
  unfold wY_step_738
  exact br_t rfl ⟨vp_in_nI (by omega) (by decide), nm_r (e' := upd yw f (nI (A + 1))) (by rw [nI_clamp (n := f) (by omega), nI_1]) (nm_r (nI_1 f) (nm_e (nm_r (fi_16m (c % 4)) (H3 hn t))))⟩
end
end
section
section
/-! the relation -/
def fi_B (a : Nat → Int32) (base : Nat) : Nat → Nat := fun j => if j < 16 then (a (base + j)).toNatClampNeg else 0
def fi_by (a : Nat → Int32) : Prop := ∀ j, j < 80 → ∃ m, m < 256 ∧ a j = nI m
theorem fi_B_at {a : Nat → Int32} (h : fi_by a) {base j : Nat} (hb : base ≤ 64) (hj : j < 16) : a (base + j) = nI (fi_B a base j) ∧ fi_B a base j < 256 := by
  obtain ⟨m, hm, e⟩ := h (base + j) (by omega)
  have e2 : fi_B a base j = m := by
    unfold fi_B
    rw [if_pos hj, e, nI_clamp (by omega)]
  rw [e2]
  exact ⟨e, hm⟩
def fi_kd : Bool → Int32
  | true => 2
  | false => 1
def fi_Slot (kd im na sa la yb : Nat → Int32) (s : Nat) : Prop := kd s = 0 ∨ ∃ ad : Bool, kd s = fi_kd ad ∧ fi_OK ad (fi_B yb (16 * s)) ∧ fi_L ad (fi_B yb (16 * s)) s im na sa la
/-- a place: a start of a slot that isn't empty -/
def fi_Pl (kd yb : Nat → Int32) (t q : Nat) : Prop := t < 4 ∧ q < 16 ∧ ¬ kd t = 0 ∧ fi_St (fi_B yb (16 * t)) q
/-- a place to which a return goes -/
def fi_Fr (kd yb : Nat → Int32) (x : Int32) : Prop := ∃ t q, fi_Pl kd yb t q ∧ (kd t = 1 → ¬ fi_B yb (16 * t) q / 16 = 12) ∧ x = nI (16 * t + q)
/-- what no run changes -/
def fi_Stat (ln dl : Int32) (xb kd so im na sa la yb : Nat → Int32) : Prop := (∃ l, l ≤ 16 ∧ ln = nI l) ∧ (∃ d, d ≤ 8 ∧ dl = nI d) ∧ fi_by yb ∧ (∀ j, j < 16 → xb j = yb (64 + j)) ∧ (∀ j, j < 64 → so j = yb j) ∧ ∀ s, s < 4 → fi_Slot kd im na sa la yb s
/-- the machine -/
def fi_Run (fc dl ru oc pc : Int32) (kd na rg fr : Nat → Int32) (ys : Int32) (yb : Nat → Int32) : Prop :=
  (ru = 0 ∧ fc = 0 ∧ ys = oc ∧ oc < 0) ∨
  (ru = 1 ∧ ∃ s p f d, fi_Pl kd yb s p ∧ ys = nI (16 * s + p) ∧ pc = na (16 * s + p) ∧ fc = nI f ∧ f ≤ d ∧ d ≤ 8 ∧ dl = nI d ∧ (∀ i, i < f → fi_Fr kd yb (fr i)) ∧ (kd s = 2 → rg 3 = 0) ∧
    (kd s = 1 → fi_B yb (16 * s) p / 16 = 12 → ∃ j, j < 4 ∧ rg (fi_B yb (16 * s) p / 4 % 4) = nI (16 * s + 4 * j)))
/-- the relation of the two states: all that both keep is the same; X's images and maps are those of Y's bytes; the machines stand at one place -/
def i_Rel (_k : Nat) (u : SX) (v : SY) : Prop := match u, v with
  | (ln, ls, fc, dl, ru, oc, pc, xb, xs, kd, so, im, na, sa, la, ga, ce, rg, fr), (yf, yl, yn, ys, yb, yk, yg, ym, yr, yw) => (yf = fc ∧ yl = dl ∧ yn = ln ∧ yk = kd ∧ yg = ga ∧ ym = ce ∧ yr = rg ∧ yw = fr) ∧ fi_Stat ln dl xb kd so im na sa la yb ∧ fi_Run fc dl ru oc pc kd na rg fr ys yb
theorem i_up {k : Nat} {u : SX} {v : SY} (h : i_Rel k u v) : i_Rel (k + 4) u v := h
theorem zz_el {k : Nat} {u : SX} {v : SY} {P : SX → SY → Prop}
    (h : ∀ (ln ls fc dl ru oc pc : Int32) (xb xs kd so im na sa la ga ce rg fr : Nat → Int32) (ys : Int32) (yb : Nat → Int32), fi_Stat ln dl xb kd so im na sa la yb → fi_Run fc dl ru oc pc kd na rg fr ys yb → P (ln, ls, fc, dl, ru, oc, pc, xb, xs, kd, so, im, na, sa, la, ga, ce, rg, fr) (fc, dl, ln, ys, yb, kd, ga, ce, rg, fr)) (I : i_Rel k u v) : P u v := by
  obtain ⟨ln, ls, fc, dl, ru, oc, pc, xb, xs, kd, so, im, na, sa, la, ga, ce, rg, fr⟩ := u
  obtain ⟨yf, yl, yn, ys, yb, yk, yg, ym, yr, yw⟩ := v
  obtain ⟨⟨e1, e2, e3, e4, e5, e6, e7, e8⟩, a, b⟩ := I
  subst e1 e2 e3 e4 e5 e6 e7 e8
  exact h _ _ _ _ _ _ _ _ _ _ _ _ _ _ _ _ _ _ _ _ _ a b
variable {ln ls fc dl ru oc pc : Int32} {xb xs kd so im na sa la ga ce rg fr : Nat → Int32} {ys : Int32} {yb : Nat → Int32}
theorem zz_in {k : Nat} (a : fi_Stat ln dl xb kd so im na sa la yb) (b : fi_Run fc dl ru oc pc kd na rg fr ys yb) : i_Rel k (ln, ls, fc, dl, ru, oc, pc, xb, xs, kd, so, im, na, sa, la, ga, ce, rg, fr) (fc, dl, ln, ys, yb, kd, ga, ce, rg, fr) := ⟨⟨rfl, rfl, rfl, rfl, rfl, rfl, rfl, rfl⟩, a, b⟩
theorem zz_end {k : Nat} (a : fi_Stat ln dl xb kd so im na sa la yb) {how : Int32} (h : how < 0) : i_Rel k (ln, ls, 0, dl, 0, how, pc, xb, xs, kd, so, im, na, sa, la, ga, ce, rg, fr) (0, dl, ln, how, yb, kd, ga, ce, rg, fr) := zz_in a (Or.inl ⟨rfl, rfl, rfl, h⟩)
theorem zz_slot (a : fi_Stat ln dl xb kd so im na sa la yb) {s : Nat} (hs : s < 4) (hk : ¬ kd s = 0) : ∃ (ad : Bool) (N : Nat → Nat), kd s = fi_kd ad ∧ fi_OK ad (fi_B yb (16 * s)) ∧ fi_LN ad (fi_B yb (16 * s)) s im na sa la N := by
  rcases a.2.2.2.2.2 s hs with h | ⟨ad, h1, h2, N, h3⟩
  · exact absurd h hk
  · exact ⟨ad, N, h1, h2, h3⟩
theorem fi_kd_t {ad : Bool} {x : Int32} (h : x = fi_kd ad) : (x = 2 ↔ ad = true) ∧ (x = 1 ↔ ad = false) ∧ ¬ x = 0 := by
  subst h
  cases ad <;> decide
/-- the state at a place of the running machine -/
theorem zz_at {k s p f d : Nat} {ad : Bool} {N : Nat → Nat} (hS : fi_Stat ln dl xb kd so im na sa la yb) (hs : s < 4) (hp : p < 16) (hst : fi_St (fi_B yb (16 * s)) p) (hkd : kd s = fi_kd ad)
    (hN : fi_LN ad (fi_B yb (16 * s)) s im na sa la N) (hys : ys = nI (16 * s + p)) (hpc : pc = nI (64 * s + N p)) (hfc : fc = nI f) (hfd : f ≤ d) (hd : dl = nI d) (hd8 : d ≤ 8)
    (hfr : ∀ i, i < f → fi_Fr kd yb (fr i)) (h3 : kd s = 2 → rg 3 = 0) (hm : kd s = 1 → fi_B yb (16 * s) p / 16 = 12 → ∃ j, j < 4 ∧ rg (fi_B yb (16 * s) p / 4 % 4) = nI (16 * s + 4 * j)) (hru : ru = 1) : i_Rel k (ln, ls, fc, dl, ru, oc, pc, xb, xs, kd, so, im, na, sa, la, ga, ce, rg, fr) (fc, dl, ln, ys, yb, kd, ga, ce, rg, fr) := by
  have e := (hN.1 p hp hst).2.1
  exact zz_in hS (Or.inr ⟨hru, s, p, f, d, ⟨hs, hp, (fi_kd_t hkd).2.2, hst⟩, hys, by rw [e]; exact hpc, hfc, hfd, hd8, hd, hfr, h3, hm⟩)
end
end
section
section
variable {ln ls fc dl ru oc pc : Int32} {xb xs kd so im na sa la ga ce rg fr : Nat → Int32} {ys : Int32} {yb : Nat → Int32}
/-! one step of both machines -/
/-- the outcome of one step -/
def fi_One (k : Nat) (u : SX) (v : SY) : Prop := ∃ (u' : SX) (v' : SY), i_Rel k u' v' ∧ (∀ post : SX → Prop, post u' → wpX_step post u) ∧ (∀ post : SY → Prop, post v' → wpY_step post v)
/-- from native offset e of slot s the step goes on to the start p at N p -/
theorem zs_dr {post : SX → Prop} {s p e j n : Nat} {ad : Bool} {N : Nat → Nat} {B : Nat → Nat} {R : Nat → Int32} (hs : s < 4) (hp : p < 16) (hst : fi_St B p) (hkd : kd s = fi_kd ad) (hN : fi_LN ad B s im na sa la N) (hru : ru = 1)
    (h1 : e ≤ N p) (h2 : N p ≤ e + 3) (hg : ∀ i, e ≤ i → i < N p → im (64 * s + i) = 1 ∧ sa (64 * s + i) = -1) (hj : j ≤ 1) (hn : 3 < n)
    (r2 : ad = true → upd rg 3 0 = R) (r1 : ad = false → rg = R) (H : post (ln, ls, fc, dl, ru, oc, nI (64 * s + N p), xb, xs, kd, so, im, na, sa, la, ga, ce, R, fr)) : wX_step_6 post n (nI j) ln ls fc dl ru oc (nI (64 * s + e)) xb xs kd so im na sa la ga ce rg fr := by
  have a := hN.1 p hp hst
  have hnz : 1 ≤ fi_nz ad (B p) := by
    have := fi_len_b (B p)
    show 1 ≤ (if ad = true ∧ fi_use (B p) then 2 else fi_len (B p))
    split <;> omega
  have hk := fi_kd_t hkd
  refine xs_drain (f := N p) (p := p) hs (by omega) (by rw [hru]; decide) a.2.2 hp ?_ (N p - e) e j n (by omega) (by omega) (by omega) hg
  have hq : (64 * s + N p) / 64 = s := by omega
  refine xs_41 (by omega) (fun z => ?_) (fun z => ?_)
  · rw [hq] at z
    rw [r2 (hk.1.mp z)]
    exact H
  · rw [hq] at z
    have : ad = false := by
      cases ad with
      | false => rfl
      | true => exact absurd (hk.1.mpr rfl) z
    rw [r1 this]
    exact H
/-- an execute that ends at the place itself: jumps, entries, returns -/
theorem zs_land {post : SX → Prop} {s p : Nat} {ad : Bool} {N : Nat → Nat} {B : Nat → Nat} {R : Nat → Int32} {j n : Nat} (hs : s < 4) (hp : p < 16) (hst : fi_St B p) (hkd : kd s = fi_kd ad) (hN : fi_LN ad B s im na sa la N) (hru : ru = 1) (hj : j ≤ 1) (hn : 3 < n)
    (r2 : ad = true → upd rg 3 0 = R) (r1 : ad = false → rg = R) (H : post (ln, ls, fc, dl, ru, oc, nI (64 * s + N p), xb, xs, kd, so, im, na, sa, la, ga, ce, R, fr)) : wX_step_6 post n (nI j) ln ls fc dl ru oc (nI (64 * s + N p)) xb xs kd so im na sa la ga ce rg fr :=
  zs_dr hs hp hst hkd hN hru (Nat.le_refl _) (by omega) (fun i a b => absurd a (by omega)) hj hn r2 r1 H
/-- what Y reads at the place -/
theorem zs_yb {s p : Nat} (hb : fi_by yb) (hs : s < 4) (hp : p < 16) : ∃ i w, i < 256 ∧ w < 256 ∧ yb (16 * s + p) = nI (fi_B yb (16 * s) p) ∧ fi_B yb (16 * s) p < 256 ∧ yb (16 * s + p + 1) = nI i ∧ yb (16 * s + p + 2) = nI w ∧ (p + 1 < 16 → i = fi_B yb (16 * s) (p + 1)) ∧ (p + 2 < 16 → w = fi_B yb (16 * s) (p + 2)) := by
  obtain ⟨i, hi, ei⟩ := hb (16 * s + p + 1) (by omega)
  obtain ⟨w, hw, ew⟩ := hb (16 * s + p + 2) (by omega)
  have h0 := fi_B_at hb (base := 16 * s) (by omega) hp
  refine ⟨i, w, hi, hw, h0.1, h0.2, ei, ew, fun h => ?_, fun h => ?_⟩
  · unfold fi_B
    rw [if_pos h, ← Nat.add_assoc, ei, nI_clamp (by omega)]
  · unfold fi_B
    rw [if_pos h, ← Nat.add_assoc, ew, nI_clamp (by omega)]
/-- the next place -/
theorem zs_next {R C : Nat → Int32} {k s p f d : Nat} {ad : Bool} {N : Nat → Nat} (hS : fi_Stat ln dl xb kd so im na sa la yb) (hs : s < 4) (hp : p < 16) (hst : fi_St (fi_B yb (16 * s)) p) (hkd : kd s = fi_kd ad) (hok : fi_OK ad (fi_B yb (16 * s))) (hN : fi_LN ad (fi_B yb (16 * s)) s im na sa la N) (hys : ys = nI (16 * s + p)) (hpc : pc = nI (64 * s + N p)) (hfc : fc = nI f) (hfd : f ≤ d) (hd : dl = nI d) (hd8 : d ≤ 8) (hfr : ∀ i, i < f → fi_Fr kd yb (fr i)) (h3 : kd s = 2 → rg 3 = 0) (hm : kd s = 1 → fi_B yb (16 * s) p / 16 = 12 → ∃ j, j < 4 ∧ rg (fi_B yb (16 * s) p / 4 % 4) = nI (16 * s + 4 * j)) (hru : ru = 1) (hc : ¬ fi_cl (fi_B yb (16 * s) p)) (hR3 : ad = true → R 3 = 0) (hRm : ad = false → fi_B yb (16 * s) p / 16 = 11 → ∃ j, j < 4 ∧ R (fi_B yb (16 * s) p / 4 % 4) = nI (16 * s + 4 * j)) :
    i_Rel k (ln, ls, fc, dl, ru, oc, nI (64 * s + N (p + fi_len (fi_B yb (16 * s) p))), xb, xs, kd, so, im, na, sa, la, ga, C, R, fr) (fc, dl, ln, nI (16 * s + p + fi_len (fi_B yb (16 * s) p)), yb, kd, ga, C, R, fr) := by
  have hf := fi_fall hok hp hst hc
  have hk := fi_kd_t hkd
  refine zz_at hS hs hf.1 hf.2 hkd hN (by rw [Nat.add_assoc]) rfl hfc hfd hd hd8 hfr (fun z => hR3 (hk.1.mp z)) (fun z hu => ?_) hru
  have ea := hk.2.1.mp z
  subst ea
  obtain ⟨m1, m2, _⟩ := fi_from hok hst hf.1 hu
  rw [← m2]
  exact hRm rfl m1
/-- falling through: X's step from the execute that ends behind the instruction -/
theorem zs_fall {R C G : Nat → Int32} {k s p f d : Nat} {ad : Bool} {N : Nat → Nat} (hS : fi_Stat ln dl xb kd so im na sa la yb) (hs : s < 4) (hp : p < 16) (hst : fi_St (fi_B yb (16 * s)) p) (hkd : kd s = fi_kd ad) (hok : fi_OK ad (fi_B yb (16 * s))) (hN : fi_LN ad (fi_B yb (16 * s)) s im na sa la N) (hys : ys = nI (16 * s + p)) (hpc : pc = nI (64 * s + N p)) (hfc : fc = nI f) (hfd : f ≤ d) (hd : dl = nI d) (hd8 : d ≤ 8) (hfr : ∀ i, i < f → fi_Fr kd yb (fr i)) (h3 : kd s = 2 → rg 3 = 0) (hm : kd s = 1 → fi_B yb (16 * s) p / 16 = 12 → ∃ j, j < 4 ∧ rg (fi_B yb (16 * s) p / 4 % 4) = nI (16 * s + 4 * j)) (hru : ru = 1) (hc : ¬ fi_cl (fi_B yb (16 * s) p)) (r2 : ad = true → upd G 3 0 = R) (r1 : ad = false → G = R) {post : SX → Prop} {j n : Nat} (hj : j ≤ 1) (hn : 3 < n)
    (H : post (ln, ls, fc, dl, ru, oc, nI (64 * s + N (p + fi_len (fi_B yb (16 * s) p))), xb, xs, kd, so, im, na, sa, la, ga, C, R, fr)) : wX_step_6 post n (nI j) ln ls fc dl ru oc (nI (64 * s + (N p + fi_nz ad (fi_B yb (16 * s) p)))) xb xs kd so im na sa la ga C G fr := by
  have hf := fi_fall hok hp hst hc
  have g := hN.2.2.2.1 p hp hst hf.1
  exact zs_dr hs hf.1 hf.2 hkd hN hru g.1 g.2.1 g.2.2 hj hn r2 r1 H
/-- the run ends -/
theorem zs_fin {how : Int32} {q : Nat} (k : Nat) (hS : fi_Stat ln dl xb kd so im na sa la yb) (hq : q < 256) (hhow : how < 0) (hX : ∀ post : SX → Prop, post (ln, ls, 0, dl, 0, how, nI q, xb, xs, kd, so, im, na, sa, la, ga, ce, upd rg 3 0, fr) → wpX_execute post (ln, ls, fc, dl, ru, oc, pc, xb, xs, kd, so, im, na, sa, la, ga, ce, rg, fr))
    (hY : ∀ post : SY → Prop, post (0, dl, ln, how, yb, kd, ga, ce, upd rg 3 0, fr) → wpY_step post (fc, dl, ln, ys, yb, kd, ga, ce, rg, fr)) : fi_One k (ln, ls, fc, dl, ru, oc, pc, xb, xs, kd, so, im, na, sa, la, ga, ce, rg, fr) (fc, dl, ln, ys, yb, kd, ga, ce, rg, fr) := by
  refine ⟨(ln, ls, 0, dl, 0, how, nI q, xb, xs, kd, so, im, na, sa, la, ga, ce, upd rg 3 0, fr), (0, dl, ln, how, yb, kd, ga, ce, upd rg 3 0, fr), zz_end hS hhow, fun post hpost => ?_, hY⟩
  unfold wpX_step
  exact hX _ ⟨1, xs_end (j := 0) hq (by decide) hpost⟩
end
end
section
section
variable {ln ls fc dl ru oc pc : Int32} {xb xs kd so im na sa la ga ce rg fr : Nat → Int32} {ys : Int32} {yb : Nat → Int32}
/-! the instructions one by one -/
theorem zs_np {k s p f d : Nat} {ad : Bool} {N : Nat → Nat} (hS : fi_Stat ln dl xb kd so im na sa la yb) (hs : s < 4) (hp : p < 16) (hst : fi_St (fi_B yb (16 * s)) p) (hkd : kd s = fi_kd ad) (hok : fi_OK ad (fi_B yb (16 * s))) (hN : fi_LN ad (fi_B yb (16 * s)) s im na sa la N) (hys : ys = nI (16 * s + p)) (hpc : pc = nI (64 * s + N p)) (hfc : fc = nI f) (hfd : f ≤ d) (hd : dl = nI d) (hd8 : d ≤ 8) (hfr : ∀ i, i < f → fi_Fr kd yb (fr i)) (h3 : kd s = 2 → rg 3 = 0) (hm : kd s = 1 → fi_B yb (16 * s) p / 16 = 12 → ∃ j, j < 4 ∧ rg (fi_B yb (16 * s) p / 4 % 4) = nI (16 * s + 4 * j)) (hru : ru = 1) : N p < 64 ∧ 1 ≤ fi_nz ad (fi_B yb (16 * s) p) ∧ N p + fi_nz ad (fi_B yb (16 * s) p) ≤ 64 := by
  have a := (hN.1 p hp hst).1
  have := fi_len_b (fi_B yb (16 * s) p)
  have h1 : 1 ≤ fi_nz ad (fi_B yb (16 * s) p) := by
    show 1 ≤ (if ad = true ∧ fi_use (fi_B yb (16 * s) p) then 2 else fi_len (fi_B yb (16 * s) p))
    split <;> omega
  exact ⟨by omega, h1, a⟩
/-- behind an instruction that falls through -/
theorem zs_pe {k s p f d : Nat} {ad : Bool} {N : Nat → Nat} (hS : fi_Stat ln dl xb kd so im na sa la yb) (hs : s < 4) (hp : p < 16) (hst : fi_St (fi_B yb (16 * s)) p) (hkd : kd s = fi_kd ad) (hok : fi_OK ad (fi_B yb (16 * s))) (hN : fi_LN ad (fi_B yb (16 * s)) s im na sa la N) (hys : ys = nI (16 * s + p)) (hpc : pc = nI (64 * s + N p)) (hfc : fc = nI f) (hfd : f ≤ d) (hd : dl = nI d) (hd8 : d ≤ 8) (hfr : ∀ i, i < f → fi_Fr kd yb (fr i)) (h3 : kd s = 2 → rg 3 = 0) (hm : kd s = 1 → fi_B yb (16 * s) p / 16 = 12 → ∃ j, j < 4 ∧ rg (fi_B yb (16 * s) p / 4 % 4) = nI (16 * s + 4 * j)) (hru : ru = 1) (hc : ¬ fi_cl (fi_B yb (16 * s) p)) : N p + fi_nz ad (fi_B yb (16 * s) p) < 64 ∧ p + fi_len (fi_B yb (16 * s) p) < 16 := by
  have hf := fi_fall hok hp hst hc
  have g := hN.2.2.2.1 p hp hst hf.1
  have a := (hN.1 _ hf.1 hf.2).1
  have := fi_len_b (fi_B yb (16 * s) (p + fi_len (fi_B yb (16 * s) p)))
  have h1 : 1 ≤ fi_nz ad (fi_B yb (16 * s) (p + fi_len (fi_B yb (16 * s) p))) := by
    show 1 ≤ (if ad = true ∧ fi_use (fi_B yb (16 * s) (p + fi_len (fi_B yb (16 * s) p))) then 2 else fi_len (fi_B yb (16 * s) (p + fi_len (fi_B yb (16 * s) p))))
    split <;> omega
  exact ⟨by omega, hf.1⟩
theorem zs_c0 {k s p f d : Nat} {ad : Bool} {N : Nat → Nat} (hS : fi_Stat ln dl xb kd so im na sa la yb) (hs : s < 4) (hp : p < 16) (hst : fi_St (fi_B yb (16 * s)) p) (hkd : kd s = fi_kd ad) (hok : fi_OK ad (fi_B yb (16 * s))) (hN : fi_LN ad (fi_B yb (16 * s)) s im na sa la N) (hys : ys = nI (16 * s + p)) (hpc : pc = nI (64 * s + N p)) (hfc : fc = nI f) (hfd : f ≤ d) (hd : dl = nI d) (hd8 : d ≤ 8) (hfr : ∀ i, i < f → fi_Fr kd yb (fr i)) (h3 : kd s = 2 → rg 3 = 0) (hm : kd s = 1 → fi_B yb (16 * s) p / 16 = 12 → ∃ j, j < 4 ∧ rg (fi_B yb (16 * s) p / 4 % 4) = nI (16 * s + 4 * j)) (hru : ru = 1) (h : fi_B yb (16 * s) p = 0 ∨ fi_B yb (16 * s) p = 3 ∨ (fi_B yb (16 * s) p = 2 ∧ f = 0)) : fi_One k (ln, ls, fc, dl, ru, oc, pc, xb, xs, kd, so, im, na, sa, la, ga, ce, rg, fr) (fc, dl, ln, ys, yb, kd, ga, ce, rg, fr) := by
  have hq := zs_np (k := k) hS hs hp hst hkd hok hN hys hpc hfc hfd hd hd8 hfr h3 hm hru
  obtain ⟨i, w, hi, hw, y0, hc, y1, y2, _, _⟩ := zs_yb hS.2.2.1 hs hp
  have hC := (hN.2.2.2.2.1 p hp hst).2.2 (by intro z; have := z.2; omega)
  subst hpc
  have K : ∀ how : Int32, how < 0 → ((fi_B yb (16 * s) p = 0 ∧ how = -2) ∨ (fi_B yb (16 * s) p = 3 ∧ how = -3) ∨ (fi_B yb (16 * s) p = 2 ∧ fc = 0 ∧ how = -2)) → fi_One k (ln, ls, fc, dl, ru, oc, nI (64 * s + N p), xb, xs, kd, so, im, na, sa, la, ga, ce, rg, fr) (fc, dl, ln, ys, yb, kd, ga, ce, rg, fr) := fun how h1 h2 =>
    zs_fin (how := how) (q := (64 * s + N p + fi_len (fi_B yb (16 * s) p)) % 256) k hS (Nat.mod_lt _ (by decide)) h1 (fun post H => xx_fin (by omega) hc hC.1 h2 H) (fun post H => yt_st0 (by omega) hc hi hw hys y0 y1 y2 h2 H)
  rcases h with h | h | h
  · exact K (-2) (by decide) (Or.inl ⟨h, rfl⟩)
  · exact K (-3) (by decide) (Or.inr (Or.inl ⟨h, rfl⟩))
  · exact K (-2) (by decide) (Or.inr (Or.inr ⟨h.1, by rw [hfc, h.2]; rfl, rfl⟩))
theorem zs_ret {k s p f d : Nat} {ad : Bool} {N : Nat → Nat} (hS : fi_Stat ln dl xb kd so im na sa la yb) (hs : s < 4) (hp : p < 16) (hst : fi_St (fi_B yb (16 * s)) p) (hkd : kd s = fi_kd ad) (hok : fi_OK ad (fi_B yb (16 * s))) (hN : fi_LN ad (fi_B yb (16 * s)) s im na sa la N) (hys : ys = nI (16 * s + p)) (hpc : pc = nI (64 * s + N p)) (hfc : fc = nI f) (hfd : f ≤ d) (hd : dl = nI d) (hd8 : d ≤ 8) (hfr : ∀ i, i < f → fi_Fr kd yb (fr i)) (h3 : kd s = 2 → rg 3 = 0) (hm : kd s = 1 → fi_B yb (16 * s) p / 16 = 12 → ∃ j, j < 4 ∧ rg (fi_B yb (16 * s) p / 4 % 4) = nI (16 * s + 4 * j)) (hru : ru = 1) (h : fi_B yb (16 * s) p = 2) (hf0 : 0 < f) : fi_One k (ln, ls, fc, dl, ru, oc, pc, xb, xs, kd, so, im, na, sa, la, ga, ce, rg, fr) (fc, dl, ln, ys, yb, kd, ga, ce, rg, fr) := by
  have hq := zs_np (k := k) hS hs hp hst hkd hok hN hys hpc hfc hfd hd hd8 hfr h3 hm hru
  obtain ⟨i, w, hi, hw, y0, hc, y1, y2, _, _⟩ := zs_yb hS.2.2.1 hs hp
  have hC := (hN.2.2.2.2.1 p hp hst).2.2 (by intro z; have := z.2; omega)
  obtain ⟨g, rfl⟩ : ∃ g, f = g + 1 := ⟨f - 1, by omega⟩
  obtain ⟨t, q, ⟨ht, hq16, hkt, hsq⟩, hnu, efr⟩ := hfr g (by omega)
  obtain ⟨ad2, N2, hk2, hok2, hN2⟩ := zz_slot hS ht hkt
  have a2 := hN2.1 q hq16 hsq
  subst hpc
  refine ⟨(ln, ls, nI g, dl, ru, oc, nI (64 * t + N2 q), xb, xs, kd, so, im, na, sa, la, ga, ce, upd rg 3 0, fr), (nI g, dl, ln, nI (16 * t + q), yb, kd, ga, ce, upd rg 3 0, fr), ?_, fun post H => ?_, fun post H => ?_⟩
  · exact zz_at hS ht hq16 hsq hk2 hN2 rfl rfl rfl (by omega) hd hd8 (fun i hi => hfr i (by omega)) (fun _ => pk_us) (fun z z2 => absurd z2 (hnu z)) hru
  · unfold wpX_step
    refine xx_ret (by omega) hc hC.1 h hfc (by omega) efr (by omega) a2.2.1 ⟨4, ?_⟩
    exact zs_land (j := 0) ht hq16 hsq hk2 hN2 hru (by decide) (by decide) (fun _ => fi_uu) (fun _ => rfl) H
  · exact yt_ret (by omega) hc hi hw hys y0 y1 y2 h hfc (by omega) efr H
/-- one execute, and on behind it -/
theorem zs_pass {G R C : Nat → Int32} {k s p f d : Nat} {ad : Bool} {N : Nat → Nat} (hS : fi_Stat ln dl xb kd so im na sa la yb) (hs : s < 4) (hp : p < 16) (hst : fi_St (fi_B yb (16 * s)) p) (hkd : kd s = fi_kd ad) (hok : fi_OK ad (fi_B yb (16 * s))) (hN : fi_LN ad (fi_B yb (16 * s)) s im na sa la N) (hys : ys = nI (16 * s + p)) (hpc : pc = nI (64 * s + N p)) (hfc : fc = nI f) (hfd : f ≤ d) (hd : dl = nI d) (hd8 : d ≤ 8) (hfr : ∀ i, i < f → fi_Fr kd yb (fr i)) (h3 : kd s = 2 → rg 3 = 0) (hm : kd s = 1 → fi_B yb (16 * s) p / 16 = 12 → ∃ j, j < 4 ∧ rg (fi_B yb (16 * s) p / 4 % 4) = nI (16 * s + 4 * j)) (hru : ru = 1) (hcl : ¬ fi_cl (fi_B yb (16 * s) p)) (hnu : ¬ (ad = true ∧ fi_use (fi_B yb (16 * s) p))) (r2 : ad = true → upd G 3 0 = R) (r1 : ad = false → G = R) (hR3 : ad = true → R 3 = 0)
    (hRm : ad = false → fi_B yb (16 * s) p / 16 = 11 → ∃ j, j < 4 ∧ R (fi_B yb (16 * s) p / 4 % 4) = nI (16 * s + 4 * j))
    (hX : ∀ post : SX → Prop, post (ln, ls, fc, dl, ru, oc, nI ((64 * s + N p + fi_len (fi_B yb (16 * s) p)) % 256), xb, xs, kd, so, im, na, sa, la, ga, C, G, fr) → wpX_execute post (ln, ls, fc, dl, ru, oc, pc, xb, xs, kd, so, im, na, sa, la, ga, ce, rg, fr))
    (hY : ∀ post : SY → Prop, post (fc, dl, ln, nI (16 * s + p + fi_len (fi_B yb (16 * s) p)), yb, kd, ga, C, R, fr) → wpY_step post (fc, dl, ln, ys, yb, kd, ga, ce, rg, fr)) : fi_One k (ln, ls, fc, dl, ru, oc, pc, xb, xs, kd, so, im, na, sa, la, ga, ce, rg, fr) (fc, dl, ln, ys, yb, kd, ga, ce, rg, fr) := by
  have hpe := zs_pe (k := k) hS hs hp hst hkd hok hN hys hpc hfc hfd hd hd8 hfr h3 hm hru hcl
  have hnz : fi_nz ad (fi_B yb (16 * s) p) = fi_len (fi_B yb (16 * s) p) := if_neg hnu
  refine ⟨(ln, ls, fc, dl, ru, oc, nI (64 * s + N (p + fi_len (fi_B yb (16 * s) p))), xb, xs, kd, so, im, na, sa, la, ga, C, R, fr), (fc, dl, ln, nI (16 * s + p + fi_len (fi_B yb (16 * s) p)), yb, kd, ga, C, R, fr), zs_next (R := R) (C := C) hS hs hp hst hkd hok hN hys hpc hfc hfd hd hd8 hfr h3 hm hru hcl hR3 hRm, fun post H => ?_, hY⟩
  unfold wpX_step
  refine hX _ ⟨4, ?_⟩
  rw [show (64 * s + N p + fi_len (fi_B yb (16 * s) p)) % 256 = 64 * s + (N p + fi_nz ad (fi_B yb (16 * s) p)) by omega]
  exact zs_fall (k := k) hS hs hp hst hkd hok hN hys hpc hfc hfd hd hd8 hfr h3 hm hru hcl r2 r1 (j := 0) (by decide) (by decide) H
theorem zs_alu {k s p f d : Nat} {ad : Bool} {N : Nat → Nat} (hS : fi_Stat ln dl xb kd so im na sa la yb) (hs : s < 4) (hp : p < 16) (hst : fi_St (fi_B yb (16 * s)) p) (hkd : kd s = fi_kd ad) (hok : fi_OK ad (fi_B yb (16 * s))) (hN : fi_LN ad (fi_B yb (16 * s)) s im na sa la N) (hys : ys = nI (16 * s + p)) (hpc : pc = nI (64 * s + N p)) (hfc : fc = nI f) (hfd : f ≤ d) (hd : dl = nI d) (hd8 : d ≤ 8) (hfr : ∀ i, i < f → fi_Fr kd yb (fr i)) (h3 : kd s = 2 → rg 3 = 0) (hm : kd s = 1 → fi_B yb (16 * s) p / 16 = 12 → ∃ j, j < 4 ∧ rg (fi_B yb (16 * s) p / 4 % 4) = nI (16 * s + 4 * j)) (hru : ru = 1) (hop : fi_alu (fi_B yb (16 * s) p / 16)) : fi_One k (ln, ls, fc, dl, ru, oc, pc, xb, xs, kd, so, im, na, sa, la, ga, ce, rg, fr) (fc, dl, ln, ys, yb, kd, ga, ce, rg, fr) := by
  have hq := zs_np (k := k) hS hs hp hst hkd hok hN hys hpc hfc hfd hd hd8 hfr h3 hm hru
  have hcl : ¬ fi_cl (fi_B yb (16 * s) p) := by omega
  have hpe := zs_pe (k := k) hS hs hp hst hkd hok hN hys hpc hfc hfd hd hd8 hfr h3 hm hru hcl
  obtain ⟨i, w, hi, hw, y0, hc, y1, y2, yi, yw⟩ := zs_yb hS.2.2.1 hs hp
  have hnu : ¬ (ad = true ∧ fi_use (fi_B yb (16 * s) p)) := by intro z; have := z.2; omega
  have hC := (hN.2.2.2.2.1 p hp hst).2.2 hnu
  have hres : ad = true → ¬ fi_res (fi_B yb (16 * s) p) := fun z y => hok.2.1 p hp hst ⟨z, y⟩
  have hk := fi_kd_t hkd
  have hR3 : ad = true → upd rg (fi_B yb (16 * s) p / 4 % 4) (fi_rv (fi_B yb (16 * s) p / 16) (fi_B yb (16 * s) p / 4 % 4) (fi_B yb (16 * s) p % 4) i w s rg ce) 3 = 0 := fun z => by
    have := hres z
    rw [pk_un (by omega)]
    exact h3 (hk.1.mpr z)
  subst hpc
  refine zs_pass (G := upd rg (fi_B yb (16 * s) p / 4 % 4) (fi_rv (fi_B yb (16 * s) p / 16) (fi_B yb (16 * s) p / 4 % 4) (fi_B yb (16 * s) p % 4) i w s rg ce)) (R := upd rg (fi_B yb (16 * s) p / 4 % 4) (fi_rv (fi_B yb (16 * s) p / 16) (fi_B yb (16 * s) p / 4 % 4) (fi_B yb (16 * s) p % 4) i w s rg ce)) (C := ce)
    hS hs hp hst hkd hok hN hys rfl hfc hfd hd hd8 hfr h3 hm hru hcl hnu (fun z => fi_u3 (hR3 z)) (fun _ => rfl) hR3 (fun z y => ?_) (fun post H => ?_) (fun post H => ?_)
  · obtain ⟨j, hj, ej⟩ := fi_x12 (rg (fi_B yb (16 * s) p % 4))
    refine ⟨j, hj, ?_⟩
    rw [pk_us, y]
    show 16 * nI s + (rg (fi_B yb (16 * s) p % 4) &&& 12) = _
    rw [ej, fi_i16]
  · refine xx_alu (s := s) (i := i) (w := w) (by omega) (by omega) hc hC.1 hop (fun z1 z2 => ?_) (fun z => ?_) H
    · have hl : 1 < fi_len (fi_B yb (16 * s) p) := by
        show 1 < fi_lo (fi_B yb (16 * s) p / 16)
        have : fi_B yb (16 * s) p / 16 = 5 ∨ fi_B yb (16 * s) p / 16 = 6 ∨ fi_B yb (16 * s) p / 16 = 7 := by omega
        rcases this with z | z | z <;> rw [z] <;> decide
      rw [Nat.mod_eq_of_lt (by omega), yi (by omega)]
      exact hC.2.2 (by omega) 1 hl
    · have hl : fi_len (fi_B yb (16 * s) p) = 3 := by
        show fi_lo (fi_B yb (16 * s) p / 16) = 3
        rw [z]; rfl
      have hnz : fi_nz ad (fi_B yb (16 * s) p) = fi_len (fi_B yb (16 * s) p) := if_neg hnu
      rw [Nat.mod_eq_of_lt (by omega), yw (by omega)]
      exact hC.2.2 (by omega) 2 (by omega)
  · exact yt_alu (by omega) (by omega) hc hi hw hys y0 y1 y2 hop H
/-- NOP, and JNZ on zero -/
theorem zs_nop {k s p f d : Nat} {ad : Bool} {N : Nat → Nat} (hS : fi_Stat ln dl xb kd so im na sa la yb) (hs : s < 4) (hp : p < 16) (hst : fi_St (fi_B yb (16 * s)) p) (hkd : kd s = fi_kd ad) (hok : fi_OK ad (fi_B yb (16 * s))) (hN : fi_LN ad (fi_B yb (16 * s)) s im na sa la N) (hys : ys = nI (16 * s + p)) (hpc : pc = nI (64 * s + N p)) (hfc : fc = nI f) (hfd : f ≤ d) (hd : dl = nI d) (hd8 : d ≤ 8) (hfr : ∀ i, i < f → fi_Fr kd yb (fr i)) (h3 : kd s = 2 → rg 3 = 0) (hm : kd s = 1 → fi_B yb (16 * s) p / 16 = 12 → ∃ j, j < 4 ∧ rg (fi_B yb (16 * s) p / 4 % 4) = nI (16 * s + 4 * j)) (hru : ru = 1) (h : fi_B yb (16 * s) p = 1 ∨ (fi_B yb (16 * s) p / 16 = 14 ∧ rg (fi_B yb (16 * s) p / 4 % 4) = 0)) : fi_One k (ln, ls, fc, dl, ru, oc, pc, xb, xs, kd, so, im, na, sa, la, ga, ce, rg, fr) (fc, dl, ln, ys, yb, kd, ga, ce, rg, fr) := by
  have hq := zs_np (k := k) hS hs hp hst hkd hok hN hys hpc hfc hfd hd hd8 hfr h3 hm hru
  have hcl : ¬ fi_cl (fi_B yb (16 * s) p) := by omega
  obtain ⟨i, w, hi, hw, y0, hc, y1, y2, yi, yw⟩ := zs_yb hS.2.2.1 hs hp
  have hnu : ¬ (ad = true ∧ fi_use (fi_B yb (16 * s) p)) := by intro z; have := z.2; omega
  have hC := (hN.2.2.2.2.1 p hp hst).2.2 hnu
  have hk := fi_kd_t hkd
  subst hpc
  refine zs_pass (G := rg) (R := rg) (C := ce) hS hs hp hst hkd hok hN hys rfl hfc hfd hd hd8 hfr h3 hm hru hcl hnu (fun z => fi_u3 (h3 (hk.1.mpr z))) (fun _ => rfl) (fun z => h3 (hk.1.mpr z)) (fun z y => absurd y (by omega)) (fun post H => ?_) (fun post H => ?_)
  · rcases h with h | h
    · have e : fi_len (fi_B yb (16 * s) p) = 1 := by rw [h]; rfl
      rw [e] at H
      exact xx_nop (by omega) h hC.1 H
    · exact xx_jnz (by omega) hc hC.1 h.1 h.2 H
  · rcases h with h | h
    · have e : fi_len (fi_B yb (16 * s) p) = 1 := by rw [h]; rfl
      rw [e] at H
      exact yt_nop (by omega) hc hi hw hys y0 y1 y2 h H
    · exact yt_jnz (by omega) hc hi hw hys y0 y1 y2 h.1 h.2 H
/-- ST of a checked module -/
theorem zs_st1 {k s p f d : Nat} {ad : Bool} {N : Nat → Nat} (hS : fi_Stat ln dl xb kd so im na sa la yb) (hs : s < 4) (hp : p < 16) (hst : fi_St (fi_B yb (16 * s)) p) (hkd : kd s = fi_kd ad) (hok : fi_OK ad (fi_B yb (16 * s))) (hN : fi_LN ad (fi_B yb (16 * s)) s im na sa la N) (hys : ys = nI (16 * s + p)) (hpc : pc = nI (64 * s + N p)) (hfc : fc = nI f) (hfd : f ≤ d) (hd : dl = nI d) (hd8 : d ≤ 8) (hfr : ∀ i, i < f → fi_Fr kd yb (fr i)) (h3 : kd s = 2 → rg 3 = 0) (hm : kd s = 1 → fi_B yb (16 * s) p / 16 = 12 → ∃ j, j < 4 ∧ rg (fi_B yb (16 * s) p / 4 % 4) = nI (16 * s + 4 * j)) (hru : ru = 1) (h : fi_B yb (16 * s) p / 16 = 9) (had : ad = false) : fi_One k (ln, ls, fc, dl, ru, oc, pc, xb, xs, kd, so, im, na, sa, la, ga, ce, rg, fr) (fc, dl, ln, ys, yb, kd, ga, ce, rg, fr) := by
  have hq := zs_np (k := k) hS hs hp hst hkd hok hN hys hpc hfc hfd hd hd8 hfr h3 hm hru
  have hcl : ¬ fi_cl (fi_B yb (16 * s) p) := by omega
  obtain ⟨i, w, hi, hw, y0, hc, y1, y2, yi, yw⟩ := zs_yb hS.2.2.1 hs hp
  have hnu : ¬ (ad = true ∧ fi_use (fi_B yb (16 * s) p)) := by intro z; rw [had] at z; exact absurd z.1 (by decide)
  have hC := (hN.2.2.2.2.1 p hp hst).2.2 hnu
  have hk := fi_kd_t hkd
  obtain ⟨j, hj, ej⟩ := fi_x31 (rg (fi_B yb (16 * s) p / 4 % 4))
  subst hpc
  refine zs_pass (G := rg) (R := rg) (C := upd ce j (rg (fi_B yb (16 * s) p % 4))) hS hs hp hst hkd hok hN hys rfl hfc hfd hd hd8 hfr h3 hm hru hcl hnu (fun z => fi_u3 (h3 (hk.1.mpr z))) (fun _ => rfl) (fun z => h3 (hk.1.mpr z)) (fun z y => absurd y (by omega)) (fun post H => ?_) (fun post H => ?_)
  · exact xx_st (by omega) hc hC.1 h ej hj H
  · exact yt_st (s := s) (by omega) (by omega) hc hi hw hys y0 y1 y2 h hj (fun _ => ej) (fun z => absurd (hk.2.1.mpr had) z) H
end
section
variable {ln ls fc dl ru oc pc : Int32} {xb xs kd so im na sa la ga ce rg fr : Nat → Int32} {ys : Int32} {yb : Nat → Int32}
/-- ST of a rewritten module: mask into r3, store -/
theorem zs_st0 {k s p f d : Nat} {ad : Bool} {N : Nat → Nat} (hS : fi_Stat ln dl xb kd so im na sa la yb) (hs : s < 4) (hp : p < 16) (hst : fi_St (fi_B yb (16 * s)) p) (hkd : kd s = fi_kd ad) (hok : fi_OK ad (fi_B yb (16 * s))) (hN : fi_LN ad (fi_B yb (16 * s)) s im na sa la N) (hys : ys = nI (16 * s + p)) (hpc : pc = nI (64 * s + N p)) (hfc : fc = nI f) (hfd : f ≤ d) (hd : dl = nI d) (hd8 : d ≤ 8) (hfr : ∀ i, i < f → fi_Fr kd yb (fr i)) (h3 : kd s = 2 → rg 3 = 0) (hm : kd s = 1 → fi_B yb (16 * s) p / 16 = 12 → ∃ j, j < 4 ∧ rg (fi_B yb (16 * s) p / 4 % 4) = nI (16 * s + 4 * j)) (hru : ru = 1) (h : fi_B yb (16 * s) p / 16 = 9) (had : ad = true) : fi_One k (ln, ls, fc, dl, ru, oc, pc, xb, xs, kd, so, im, na, sa, la, ga, ce, rg, fr) (fc, dl, ln, ys, yb, kd, ga, ce, rg, fr) := by
  have hq := zs_np (k := k) hS hs hp hst hkd hok hN hys hpc hfc hfd hd hd8 hfr h3 hm hru
  have hcl : ¬ fi_cl (fi_B yb (16 * s) p) := by omega
  have hpe := zs_pe (k := k) hS hs hp hst hkd hok hN hys hpc hfc hfd hd hd8 hfr h3 hm hru hcl
  obtain ⟨i, w, hi, hw, y0, hc, y1, y2, yi, yw⟩ := zs_yb hS.2.2.1 hs hp
  have hnz : fi_nz ad (fi_B yb (16 * s) p) = 2 := if_pos ⟨had, Or.inl h⟩
  have hC := (hN.2.2.2.2.1 p hp hst).1 had h
  have hsa := hN.2.2.2.2.2.1 p hp hst had (Or.inl h)
  have hres : ¬ fi_res (fi_B yb (16 * s) p) := fun y => hok.2.1 p hp hst ⟨had, y⟩
  have hk := fi_kd_t hkd
  have hr3 : rg 3 = 0 := h3 (hk.1.mpr had)
  obtain ⟨j, hj, ej⟩ := fi_x7 (rg (fi_B yb (16 * s) p / 4 % 4))
  subst hpc
  refine ⟨(ln, ls, fc, dl, ru, oc, nI (64 * s + N (p + fi_len (fi_B yb (16 * s) p))), xb, xs, kd, so, im, na, sa, la, ga, upd ce (8 * s + j) (rg (fi_B yb (16 * s) p % 4)), rg, fr), (fc, dl, ln, nI (16 * s + p + fi_len (fi_B yb (16 * s) p)), yb, kd, ga, upd ce (8 * s + j) (rg (fi_B yb (16 * s) p % 4)), rg, fr), zs_next (R := rg) (C := upd ce (8 * s + j) (rg (fi_B yb (16 * s) p % 4))) hS hs hp hst hkd hok hN hys rfl hfc hfd hd hd8 hfr h3 hm hru hcl (fun _ => hr3) (fun z => absurd (had.symm.trans z) (by decide)), fun post H => ?_, fun post H => ?_⟩
  · unfold wpX_step
    have f1 : (172 + fi_B yb (16 * s) p / 4 % 4) / 16 = 10 := by omega
    have f2 : (172 + fi_B yb (16 * s) p / 4 % 4) / 4 % 4 = 3 := by omega
    have f3 : (172 + fi_B yb (16 * s) p / 4 % 4) % 4 = fi_B yb (16 * s) p / 4 % 4 := by omega
    refine xx_alu (s := s) (c := 172 + fi_B yb (16 * s) p / 4 % 4) (i := 0) (w := 0) (by omega) (by omega) (by omega) hC.1 (by omega) (fun _ _ => by omega) (fun _ => by omega) ⟨5, ?_⟩
    have e1 : fi_len (172 + fi_B yb (16 * s) p / 4 % 4) = 1 := by
      show fi_lo ((172 + fi_B yb (16 * s) p / 4 % 4) / 16) = 1
      rw [f1]; rfl
    have e2 : fi_rv 10 3 (fi_B yb (16 * s) p / 4 % 4) 0 0 s rg ce = nI (8 * s + j) := by
      show 8 * nI s + (rg (fi_B yb (16 * s) p / 4 % 4) &&& 7) = _
      rw [ej, fi_i8]
    rw [f1, f2, f3, e1, e2, Nat.mod_eq_of_lt (by omega)]
    refine br_f (by decide) (br_f (by rw [hru]; decide) ⟨vp_in_nI (by omega) (by decide), ?_⟩)
    rw [nI_clamp (by omega), hsa]
    have g1 : (156 + fi_B yb (16 * s) p % 4) / 16 = 9 := by omega
    have g2 : (156 + fi_B yb (16 * s) p % 4) / 4 % 4 = 3 := by omega
    have g3 : (156 + fi_B yb (16 * s) p % 4) % 4 = fi_B yb (16 * s) p % 4 := by omega
    refine br_f (by decide) (xx_st (c := 156 + fi_B yb (16 * s) p % 4) (j := 8 * s + j) (by omega) (by omega) hC.2 g1 ?_ (by omega) (nm_r (nI_1 0) ?_))
    · rw [g2, pk_us, show (31 : Int32) = nI 31 from rfl, pk_andN (by omega) 5 (by decide), Nat.mod_eq_of_lt (by omega)]
    · have e3 : fi_len (156 + fi_B yb (16 * s) p % 4) = 1 := by
        show fi_lo ((156 + fi_B yb (16 * s) p % 4) / 16) = 1
        rw [g1]; rfl
      have e4 : (64 * s + N p + 1 + 1) % 256 = 64 * s + (N p + fi_nz ad (fi_B yb (16 * s) p)) := by omega
      have e5 : upd rg 3 (nI (8 * s + j)) (fi_B yb (16 * s) p % 4) = rg (fi_B yb (16 * s) p % 4) := pk_un (by omega)
      rw [g3, e3, e4, e5]
      exact zs_fall (k := k) hS hs hp hst hkd hok hN hys rfl hfc hfd hd hd8 hfr h3 hm hru hcl (fun _ => by rw [fi_uu]; exact fi_u3 hr3) (fun z => absurd (had.symm.trans z) (by decide)) (j := 1) (by decide) (by decide) H
  · have e1 : fi_len (fi_B yb (16 * s) p) = 1 := by
      show fi_lo (fi_B yb (16 * s) p / 16) = 1
      rw [h]; rfl
    refine yt_st (s := s) (j := 8 * s + j) (by omega) (by omega) hc hi hw hys y0 y1 y2 h (by omega) (fun z => absurd (had.symm.trans (hk.2.1.mp z)) (by decide)) (fun _ => ⟨j, ej, rfl⟩) H
/-- JR of a checked module -/
theorem zs_jr1 {k s p f d : Nat} {ad : Bool} {N : Nat → Nat} (hS : fi_Stat ln dl xb kd so im na sa la yb) (hs : s < 4) (hp : p < 16) (hst : fi_St (fi_B yb (16 * s)) p) (hkd : kd s = fi_kd ad) (hok : fi_OK ad (fi_B yb (16 * s))) (hN : fi_LN ad (fi_B yb (16 * s)) s im na sa la N) (hys : ys = nI (16 * s + p)) (hpc : pc = nI (64 * s + N p)) (hfc : fc = nI f) (hfd : f ≤ d) (hd : dl = nI d) (hd8 : d ≤ 8) (hfr : ∀ i, i < f → fi_Fr kd yb (fr i)) (h3 : kd s = 2 → rg 3 = 0) (hm : kd s = 1 → fi_B yb (16 * s) p / 16 = 12 → ∃ j, j < 4 ∧ rg (fi_B yb (16 * s) p / 4 % 4) = nI (16 * s + 4 * j)) (hru : ru = 1) (h : fi_B yb (16 * s) p / 16 = 12) (had : ad = false) : fi_One k (ln, ls, fc, dl, ru, oc, pc, xb, xs, kd, so, im, na, sa, la, ga, ce, rg, fr) (fc, dl, ln, ys, yb, kd, ga, ce, rg, fr) := by
  have hq := zs_np (k := k) hS hs hp hst hkd hok hN hys hpc hfc hfd hd hd8 hfr h3 hm hru
  obtain ⟨i, w, hi, hw, y0, hc, y1, y2, yi, yw⟩ := zs_yb hS.2.2.1 hs hp
  have hnu : ¬ (ad = true ∧ fi_use (fi_B yb (16 * s) p)) := by intro z; rw [had] at z; exact absurd z.1 (by decide)
  have hC := (hN.2.2.2.2.1 p hp hst).2.2 hnu
  have hk := fi_kd_t hkd
  have hk1 := hk.2.1.mpr had
  obtain ⟨j, hj, ej⟩ := hm hk1 h
  subst had
  have h4 := fi_al4 hok hj
  have hla := (hN.2.2.2.2.2.2 j hj).1 h4
  subst hpc
  refine ⟨(ln, ls, fc, dl, ru, oc, nI (64 * s + N (4 * j)), xb, xs, kd, so, im, na, sa, la, ga, ce, rg, fr), (fc, dl, ln, nI (16 * s + 4 * j), yb, kd, ga, ce, rg, fr), ?_, fun post H => ?_, fun post H => ?_⟩
  · exact zz_at hS hs (by omega) h4 hkd hN rfl rfl hfc hfd hd hd8 hfr h3 (fun _ z => absurd z (fi_no0 hok hj)) hru
  · unfold wpX_step
    refine xx_jr (j := 16 * s + 4 * j) (g := 64 * s + N (4 * j)) (by omega) hc hC.1 h ej (by omega) (by rw [show (16 * s + 4 * j) / 4 = 4 * s + j by omega]; exact hla) ⟨4, ?_⟩
    exact zs_land (j := 0) hs (by omega) h4 hkd hN hru (by decide) (by decide) (fun z => absurd z (by decide)) (fun _ => rfl) H
  · exact yt_jr1 (s := s) (by omega) (by omega) hc hi hw hys y0 y1 y2 h (by omega) hk1 ej H
/-- JR of a rewritten module: mask into r3, jump, or the pad -/
theorem zs_jr0 {k s p f d : Nat} {ad : Bool} {N : Nat → Nat} (hS : fi_Stat ln dl xb kd so im na sa la yb) (hs : s < 4) (hp : p < 16) (hst : fi_St (fi_B yb (16 * s)) p) (hkd : kd s = fi_kd ad) (hok : fi_OK ad (fi_B yb (16 * s))) (hN : fi_LN ad (fi_B yb (16 * s)) s im na sa la N) (hys : ys = nI (16 * s + p)) (hpc : pc = nI (64 * s + N p)) (hfc : fc = nI f) (hfd : f ≤ d) (hd : dl = nI d) (hd8 : d ≤ 8) (hfr : ∀ i, i < f → fi_Fr kd yb (fr i)) (h3 : kd s = 2 → rg 3 = 0) (hm : kd s = 1 → fi_B yb (16 * s) p / 16 = 12 → ∃ j, j < 4 ∧ rg (fi_B yb (16 * s) p / 4 % 4) = nI (16 * s + 4 * j)) (hru : ru = 1) (h : fi_B yb (16 * s) p / 16 = 12) (had : ad = true) : fi_One k (ln, ls, fc, dl, ru, oc, pc, xb, xs, kd, so, im, na, sa, la, ga, ce, rg, fr) (fc, dl, ln, ys, yb, kd, ga, ce, rg, fr) := by
  have hq := zs_np (k := k) hS hs hp hst hkd hok hN hys hpc hfc hfd hd hd8 hfr h3 hm hru
  obtain ⟨i, w, hi, hw, y0, hc, y1, y2, yi, yw⟩ := zs_yb hS.2.2.1 hs hp
  have hnz : fi_nz ad (fi_B yb (16 * s) p) = 2 := if_pos ⟨had, Or.inr h⟩
  have hC := (hN.2.2.2.2.1 p hp hst).2.1 had h
  have hsa := hN.2.2.2.2.2.1 p hp hst had (Or.inr h)
  have hk := fi_kd_t hkd
  have hr3 : rg 3 = 0 := h3 (hk.1.mpr had)
  have hk1 : ¬ kd s = 1 := fun z => absurd (had.symm.trans (hk.2.1.mp z)) (by decide)
  obtain ⟨j, hj, ej⟩ := fi_x12 (rg (fi_B yb (16 * s) p / 4 % 4))
  have hla := hN.2.2.2.2.2.2 j hj
  have hB : ∀ n, n < 16 → yb (16 * s + n) = nI (fi_B yb (16 * s) n) := fun n hn => (fi_B_at hS.2.2.1 (by omega) hn).1
  have hb : ∀ n, n < 16 → fi_B yb (16 * s) n < 256 := fun n hn => (fi_B_at hS.2.2.1 (by omega) hn).2
  subst hpc
  -- X: the mask, then the jump to g
  have KX : ∀ (post : SX → Prop) (g : Nat), la (4 * s + j) = nI g → wX_step_6 post 5 1 ln ls fc dl ru oc (nI g) xb xs kd so im na sa la ga ce (upd rg 3 (nI (16 * s + 4 * j))) fr → wpX_step post (ln, ls, fc, dl, ru, oc, nI (64 * s + N p), xb, xs, kd, so, im, na, sa, la, ga, ce, rg, fr) := fun post g hg H => by
    unfold wpX_step
    have f1 : (188 + fi_B yb (16 * s) p / 4 % 4) / 16 = 11 := by omega
    have f2 : (188 + fi_B yb (16 * s) p / 4 % 4) / 4 % 4 = 3 := by omega
    have f3 : (188 + fi_B yb (16 * s) p / 4 % 4) % 4 = fi_B yb (16 * s) p / 4 % 4 := by omega
    refine xx_alu (s := s) (c := 188 + fi_B yb (16 * s) p / 4 % 4) (i := 0) (w := 0) (by omega) (by omega) (by omega) hC.1 (by omega) (fun _ _ => by omega) (fun _ => by omega) ⟨6, ?_⟩
    have e1 : fi_len (188 + fi_B yb (16 * s) p / 4 % 4) = 1 := by
      show fi_lo ((188 + fi_B yb (16 * s) p / 4 % 4) / 16) = 1
      rw [f1]; rfl
    have e2 : fi_rv 11 3 (fi_B yb (16 * s) p / 4 % 4) 0 0 s rg ce = nI (16 * s + 4 * j) := by
      show 16 * nI s + (rg (fi_B yb (16 * s) p / 4 % 4) &&& 12) = _
      rw [ej, fi_i16]
    rw [f1, f2, f3, e1, e2, Nat.mod_eq_of_lt (by omega)]
    refine br_f (by decide) (br_f (by rw [hru]; decide) ⟨vp_in_nI (by omega) (by decide), ?_⟩)
    rw [nI_clamp (by omega), hsa]
    refine br_f (by decide) (xx_jr (c := 204) (j := 16 * s + 4 * j) (g := g) (by omega) (by decide) hC.2 (by decide) pk_us (by omega) (by rw [show (16 * s + 4 * j) / 4 = 4 * s + j by omega]; exact hg) (nm_r (nI_1 0) H))
  by_cases hst4 : fi_St (fi_B yb (16 * s)) (4 * j)
  · refine ⟨(ln, ls, fc, dl, ru, oc, nI (64 * s + N (4 * j)), xb, xs, kd, so, im, na, sa, la, ga, ce, rg, fr), (fc, dl, ln, nI (16 * s + 4 * j), yb, kd, ga, ce, rg, fr), ?_, fun post H => ?_, fun post H => ?_⟩
    · exact zz_at hS hs (by omega) hst4 hkd hN rfl rfl hfc hfd hd hd8 hfr h3 (fun z => absurd z hk1) hru
    · refine KX post (64 * s + N (4 * j)) (hla.1 hst4) ?_
      exact zs_land (j := 1) hs (by omega) hst4 hkd hN hru (by decide) (by decide) (fun _ => by rw [fi_uu]; exact fi_u3 hr3) (fun z => absurd (had.symm.trans z) (by decide)) H
    · exact yt_jr0 (s := s) (B := fi_B yb (16 * s)) (by omega) (by omega) hc hi hw hys y0 y1 y2 h hj hk1 ej hB hb (fun _ => H) (fun z => absurd hst4 z)
  · obtain ⟨pd, q1, q2, q3, q4⟩ := hla.2 hst4
    refine ⟨(ln, ls, 0, dl, 0, -3, nI ((64 * s + pd + fi_len 3) % 256), xb, xs, kd, so, im, na, sa, la, ga, ce, upd rg 3 0, fr), (0, dl, ln, -3, yb, kd, ga, ce, upd rg 3 0, fr), zz_end hS (by decide), fun post H => ?_, fun post H => ?_⟩
    · refine KX post (64 * s + pd) q2 ?_
      refine br_f (by decide) (br_f (by rw [hru]; decide) ⟨vp_in_nI (by omega) (by decide), ?_⟩)
      rw [nI_clamp (by omega), q4]
      refine br_f (by decide) (xx_fin (c := 3) (how := -3) (by omega) (by decide) q3 (Or.inr (Or.inl ⟨rfl, rfl⟩)) (nm_r (nI_1 1) ?_))
      rw [fi_uu]
      exact xs_end (j := 2) (Nat.mod_lt _ (by decide)) (by decide) H
    · exact yt_jr0 (s := s) (B := fi_B yb (16 * s)) (by omega) (by omega) hc hi hw hys y0 y1 y2 h hj hk1 ej hB hb (fun z => absurd z hst4) (fun _ => H)
/-- JMP, and JNZ on a number -/
theorem zs_jmp {k s p f d : Nat} {ad : Bool} {N : Nat → Nat} (hS : fi_Stat ln dl xb kd so im na sa la yb) (hs : s < 4) (hp : p < 16) (hst : fi_St (fi_B yb (16 * s)) p) (hkd : kd s = fi_kd ad) (hok : fi_OK ad (fi_B yb (16 * s))) (hN : fi_LN ad (fi_B yb (16 * s)) s im na sa la N) (hys : ys = nI (16 * s + p)) (hpc : pc = nI (64 * s + N p)) (hfc : fc = nI f) (hfd : f ≤ d) (hd : dl = nI d) (hd8 : d ≤ 8) (hfr : ∀ i, i < f → fi_Fr kd yb (fr i)) (h3 : kd s = 2 → rg 3 = 0) (hm : kd s = 1 → fi_B yb (16 * s) p / 16 = 12 → ∃ j, j < 4 ∧ rg (fi_B yb (16 * s) p / 4 % 4) = nI (16 * s + 4 * j)) (hru : ru = 1) (h : fi_B yb (16 * s) p / 16 = 13 ∨ (fi_B yb (16 * s) p / 16 = 14 ∧ ¬ rg (fi_B yb (16 * s) p / 4 % 4) = 0)) : fi_One k (ln, ls, fc, dl, ru, oc, pc, xb, xs, kd, so, im, na, sa, la, ga, ce, rg, fr) (fc, dl, ln, ys, yb, kd, ga, ce, rg, fr) := by
  have hq := zs_np (k := k) hS hs hp hst hkd hok hN hys hpc hfc hfd hd hd8 hfr h3 hm hru
  obtain ⟨i, w, hi, hw, y0, hc, y1, y2, yi, yw⟩ := zs_yb hS.2.2.1 hs hp
  have hdj : fi_dj (fi_B yb (16 * s) p) := by omega
  have hnu : ¬ (ad = true ∧ fi_use (fi_B yb (16 * s) p)) := by intro z; have := z.2; omega
  have hC := (hN.2.2.2.2.1 p hp hst).2.2 hnu
  have hnz : fi_nz ad (fi_B yb (16 * s) p) = fi_len (fi_B yb (16 * s) p) := if_neg hnu
  have hl : fi_len (fi_B yb (16 * s) p) = 2 := by
    show fi_lo (fi_B yb (16 * s) p / 16) = 2
    rcases hdj with z | z <;> rw [z] <;> rfl
  have hend := fi_end hok hp hst
  have ht := fi_tgt hok hp hst hdj
  have hat := hN.1 _ ht.1 ht.2
  have hk := fi_kd_t hkd
  have ei : i = fi_B yb (16 * s) (p + 1) := yi (by omega)
  have hr : ad = true → upd rg 3 0 = rg := fun z => fi_u3 (h3 (hk.1.mpr z))
  have hnz2 : 1 ≤ fi_nz ad (fi_B yb (16 * s) (fi_B yb (16 * s) (p + 1))) := by
    have := fi_len_b (fi_B yb (16 * s) (fi_B yb (16 * s) (p + 1)))
    show 1 ≤ (if ad = true ∧ fi_use (fi_B yb (16 * s) (fi_B yb (16 * s) (p + 1))) then 2 else fi_len (fi_B yb (16 * s) (fi_B yb (16 * s) (p + 1))))
    split <;> omega
  subst hpc
  refine ⟨(ln, ls, fc, dl, ru, oc, nI (64 * s + N (fi_B yb (16 * s) (p + 1))), xb, xs, kd, so, im, na, sa, la, ga, ce, rg, fr), (fc, dl, ln, nI (16 * s + fi_B yb (16 * s) (p + 1)), yb, kd, ga, ce, rg, fr), ?_, fun post H => ?_, fun post H => ?_⟩
  · refine zz_at hS hs ht.1 ht.2 hkd hN rfl rfl hfc hfd hd hd8 hfr h3 (fun z => ?_) hru
    have ea := hk.2.1.mp z
    subst ea
    exact fun y => absurd y (fi_noj hok hp hst hdj)
  · unfold wpX_step
    refine xx_jmp (s := s) (t := N (fi_B yb (16 * s) (p + 1))) (by omega) (by omega) hc hC.1 h (by rw [Nat.mod_eq_of_lt (by omega)]; exact hC.2.1 hdj) (by omega) ⟨4, ?_⟩
    exact zs_land (j := 0) hs ht.1 ht.2 hkd hN hru (by decide) (by decide) hr (fun _ => rfl) H
  · exact yt_jmp (s := s) (by omega) (by omega) hc hi hw hys y0 y1 y2 h (by omega) (by rw [ei]; exact H)
/-- GATE -/
theorem zs_gate {k s p f d : Nat} {ad : Bool} {N : Nat → Nat} (hS : fi_Stat ln dl xb kd so im na sa la yb) (hs : s < 4) (hp : p < 16) (hst : fi_St (fi_B yb (16 * s)) p) (hkd : kd s = fi_kd ad) (hok : fi_OK ad (fi_B yb (16 * s))) (hN : fi_LN ad (fi_B yb (16 * s)) s im na sa la N) (hys : ys = nI (16 * s + p)) (hpc : pc = nI (64 * s + N p)) (hfc : fc = nI f) (hfd : f ≤ d) (hd : dl = nI d) (hd8 : d ≤ 8) (hfr : ∀ i, i < f → fi_Fr kd yb (fr i)) (h3 : kd s = 2 → rg 3 = 0) (hm : kd s = 1 → fi_B yb (16 * s) p / 16 = 12 → ∃ j, j < 4 ∧ rg (fi_B yb (16 * s) p / 4 % 4) = nI (16 * s + 4 * j)) (hru : ru = 1) (h : fi_B yb (16 * s) p / 16 = 15) : fi_One k (ln, ls, fc, dl, ru, oc, pc, xb, xs, kd, so, im, na, sa, la, ga, ce, rg, fr) (fc, dl, ln, ys, yb, kd, ga, ce, rg, fr) := by
  have hq := zs_np (k := k) hS hs hp hst hkd hok hN hys hpc hfc hfd hd hd8 hfr h3 hm hru
  have hcl : ¬ fi_cl (fi_B yb (16 * s) p) := by omega
  obtain ⟨i, w, hi, hw, y0, hc, y1, y2, yi, yw⟩ := zs_yb hS.2.2.1 hs hp
  have hnu : ¬ (ad = true ∧ fi_use (fi_B yb (16 * s) p)) := by intro z; have := z.2; omega
  have hC := (hN.2.2.2.2.1 p hp hst).2.2 hnu
  have hsa := (hN.1 p hp hst).2.2
  have hl : fi_len (fi_B yb (16 * s) p) = 1 := by
    show fi_lo (fi_B yb (16 * s) p / 16) = 1
    rw [h]; rfl
  have hf := fi_fall hok hp hst hcl
  have hk := fi_kd_t hkd
  have hqs : (64 * s + N p) / 64 = s := by omega
  have hAs : (16 * s + p) / 16 = s := by omega
  have hqm : (64 * s + N p + fi_len (fi_B yb (16 * s) p)) % 256 < 256 := Nat.mod_lt _ (by decide)
  subst hpc
  by_cases z1 : kd (fi_B yb (16 * s) p % 4) = 0 ∨ ga (4 * s + fi_B yb (16 * s) p % 4) = 0
  · exact zs_fin (how := -4) k hS hqm (by decide) (fun post H => xx_gate (by omega) hc hC.1 h hqs hs hsa hfc hfd hd hd8 (fun _ => H) (fun y => absurd z1 y) (fun y => absurd z1 y)) (fun post H => yt_gate hAs (by omega) hc hi hw hys y0 y1 y2 h hfc hfd hd hd8 (fun _ => H) (fun y => absurd z1 y) (fun y => absurd z1 y))
  · rcases Nat.lt_or_ge f d with z2 | z2
    · have hk0 : ¬ kd (fi_B yb (16 * s) p % 4) = 0 := fun y => z1 (Or.inl y)
      have hm4 : fi_B yb (16 * s) p % 4 < 4 := Nat.mod_lt _ (by decide)
      obtain ⟨ad2, N2, hk2, hok2, hN2⟩ := zz_slot hS hm4 hk0
      have hN0 : N2 0 = 0 := hN2.2.2.1
      have epc : nI (64 * (fi_B yb (16 * s) p % 4)) = nI (64 * (fi_B yb (16 * s) p % 4) + N2 0) := by rw [hN0]; rfl
      refine ⟨(ln, ls, nI (f + 1), dl, ru, oc, nI (64 * (fi_B yb (16 * s) p % 4) + N2 0), xb, xs, kd, so, im, na, sa, la, ga, ce, upd rg 3 0, upd fr f (nI (16 * s + p + 1))), (nI (f + 1), dl, ln, nI (16 * (fi_B yb (16 * s) p % 4)), yb, kd, ga, ce, upd rg 3 0, upd fr f (nI (16 * s + p + 1))), ?_, fun post H => ?_, fun post H => ?_⟩
      · refine zz_at hS hm4 (by decide : 0 < 16) fi_St0 hk2 hN2 rfl rfl rfl (by omega) hd hd8 (fun i hi => ?_) (fun _ => pk_us) (fun z y => ?_) hru
        · by_cases e : i = f
          · subst e
            rw [pk_us]
            rw [hl] at hf
            refine ⟨s, p + 1, ⟨hs, hf.1, hk.2.2, hf.2⟩, fun z y => ?_, rfl⟩
            have ea := hk.2.1.mp z
            subst ea
            have hfr2 := fi_from hok hst (by rw [hl]; exact hf.1) (by rw [hl]; exact y)
            omega
          · rw [pk_un e]; exact hfr i (by omega)
        · have ea := (fi_kd_t hk2).2.1.mp z
          subst ea
          exact absurd y (fi_no0 hok2 (k := 0) (by decide))
      · unfold wpX_step
        refine xx_gate (by omega) hc hC.1 h hqs hs hsa hfc hfd hd hd8 (fun y => absurd y z1) (fun _ y => absurd z2 (by omega)) (fun _ _ => ⟨4, ?_⟩)
        rw [epc]
        exact zs_land (j := 0) hm4 (by decide : 0 < 16) fi_St0 hk2 hN2 hru (by decide) (by decide) (fun _ => fi_uu) (fun _ => rfl) H
      · exact yt_gate hAs (by omega) hc hi hw hys y0 y1 y2 h hfc hfd hd hd8 (fun y => absurd y z1) (fun _ y => absurd z2 (by omega)) (fun _ _ => H)
    · exact zs_fin (how := -5) k hS hqm (by decide) (fun post H => xx_gate (by omega) hc hC.1 h hqs hs hsa hfc hfd hd hd8 (fun y => absurd y z1) (fun _ _ => H) (fun _ y => absurd y (by omega))) (fun post H => yt_gate hAs (by omega) hc hi hw hys y0 y1 y2 h hfc hfd hd hd8 (fun y => absurd y z1) (fun _ _ => H) (fun _ y => absurd y (by omega)))
end
section
variable {ln ls fc dl ru oc pc : Int32} {xb xs kd so im na sa la ga ce rg fr : Nat → Int32} {ys : Int32} {yb : Nat → Int32}
theorem zs_step {k s p f d : Nat} {ad : Bool} {N : Nat → Nat} (hS : fi_Stat ln dl xb kd so im na sa la yb) (hs : s < 4) (hp : p < 16) (hst : fi_St (fi_B yb (16 * s)) p) (hkd : kd s = fi_kd ad) (hok : fi_OK ad (fi_B yb (16 * s))) (hN : fi_LN ad (fi_B yb (16 * s)) s im na sa la N) (hys : ys = nI (16 * s + p)) (hpc : pc = nI (64 * s + N p)) (hfc : fc = nI f) (hfd : f ≤ d) (hd : dl = nI d) (hd8 : d ≤ 8) (hfr : ∀ i, i < f → fi_Fr kd yb (fr i)) (h3 : kd s = 2 → rg 3 = 0) (hm : kd s = 1 → fi_B yb (16 * s) p / 16 = 12 → ∃ j, j < 4 ∧ rg (fi_B yb (16 * s) p / 4 % 4) = nI (16 * s + 4 * j)) (hru : ru = 1) : fi_One k (ln, ls, fc, dl, ru, oc, pc, xb, xs, kd, so, im, na, sa, la, ga, ce, rg, fr) (fc, dl, ln, ys, yb, kd, ga, ce, rg, fr) := by
  have hc := (fi_B_at hS.2.2.1 (base := 16 * s) (by omega) hp).2
  have hmal := hok.1 p hp hst
  have hlow : ¬ (3 < fi_B yb (16 * s) p ∧ fi_B yb (16 * s) p < 16) := fun y => hmal (Or.inl y)
  by_cases c1 : fi_alu (fi_B yb (16 * s) p / 16)
  · exact zs_alu hS hs hp hst hkd hok hN hys hpc hfc hfd hd hd8 hfr h3 hm hru c1
  by_cases c2 : fi_B yb (16 * s) p = 2 ∧ 0 < f
  · exact zs_ret hS hs hp hst hkd hok hN hys hpc hfc hfd hd hd8 hfr h3 hm hru c2.1 c2.2
  by_cases c3 : fi_B yb (16 * s) p = 0 ∨ fi_B yb (16 * s) p = 3 ∨ (fi_B yb (16 * s) p = 2 ∧ f = 0)
  · exact zs_c0 hS hs hp hst hkd hok hN hys hpc hfc hfd hd hd8 hfr h3 hm hru c3
  by_cases c4 : fi_B yb (16 * s) p = 1 ∨ (fi_B yb (16 * s) p / 16 = 14 ∧ rg (fi_B yb (16 * s) p / 4 % 4) = 0)
  · exact zs_nop hS hs hp hst hkd hok hN hys hpc hfc hfd hd hd8 hfr h3 hm hru c4
  by_cases c5 : fi_B yb (16 * s) p / 16 = 9
  · cases had : ad with
    | true => exact zs_st0 hS hs hp hst hkd hok hN hys hpc hfc hfd hd hd8 hfr h3 hm hru c5 had
    | false => exact zs_st1 hS hs hp hst hkd hok hN hys hpc hfc hfd hd hd8 hfr h3 hm hru c5 had
  by_cases c6 : fi_B yb (16 * s) p / 16 = 12
  · cases had : ad with
    | true => exact zs_jr0 hS hs hp hst hkd hok hN hys hpc hfc hfd hd hd8 hfr h3 hm hru c6 had
    | false => exact zs_jr1 hS hs hp hst hkd hok hN hys hpc hfc hfd hd hd8 hfr h3 hm hru c6 had
  by_cases c7 : fi_B yb (16 * s) p / 16 = 13 ∨ (fi_B yb (16 * s) p / 16 = 14 ∧ ¬ rg (fi_B yb (16 * s) p / 4 % 4) = 0)
  · exact zs_jmp hS hs hp hst hkd hok hN hys hpc hfc hfd hd hd8 hfr h3 hm hru c7
  refine zs_gate hS hs hp hst hkd hok hN hys hpc hfc hfd hd hd8 hfr h3 hm hru ?_
  by_cases c8 : rg (fi_B yb (16 * s) p / 4 % 4) = 0
  · have : ¬ fi_B yb (16 * s) p / 16 = 14 := fun y => c4 (Or.inr ⟨y, c8⟩)
    omega
  · have : ¬ fi_B yb (16 * s) p / 16 = 14 := fun y => c7 (Or.inr ⟨y, c8⟩)
    omega
end
end
section
section
/-! the owed statements: the beginning, the input -/
theorem zo_0 {d : Nat} {x : Int32} (hd : d ≤ 8) (e : x = nI d) : i_Rel 1 (0, 0, 0, x, 0, (-1), 0, (fun _ => 0), (fun _ => 0), (fun _ => 0), (fun _ => 0), (fun _ => 0), (fun _ => 0), (fun _ => 0), (fun _ => 0), (fun _ => 0), (fun _ => 0), (fun _ => 0), (fun _ => 0)) (0, x, 0, (-1), (fun _ => 0), (fun _ => 0), (fun _ => 0), (fun _ => 0), (fun _ => 0), (fun _ => 0)) :=
  zz_in ⟨⟨0, by decide, rfl⟩, ⟨d, hd, e⟩, fun _ _ => ⟨0, by decide, rfl⟩, fun _ _ => rfl, fun _ _ => rfl, fun _ _ => Or.inl rfl⟩ (Or.inl ⟨rfl, rfl, rfl, by decide⟩)
theorem i_vc0 (k0 : Int32) : wpX_init (fun u => wpY_init (fun v => i_Rel 1 u v) k0) k0 := by
  by_cases h1 : 1 ≤ k0
  · by_cases h8 : k0 ≤ 8
    · obtain ⟨d, hd, e⟩ := nI_of2 (M := 8) (n := 8) (by decide) (Int32.not_lt.mpr (Int32.le_trans (by decide) h1)) h8
      exact br_t h1 (br_t h8 (br_t h1 (br_t h8 (zo_0 hd e))))
    · exact br_t h1 (br_f h8 (br_t h1 (br_f h8 (zo_0 (d := 8) (by decide) rfl))))
  · exact br_f h1 (br_f h1 (zo_0 (d := 1) (by decide) rfl))
variable {ln ls fc dl ru oc pc : Int32} {xb xs kd so im na sa la ga ce rg fr : Nat → Int32} {ys : Int32} {yb yb' : Nat → Int32}
/-- the slots' bytes are what the relation sees of Y's bytes -/
theorem zo_B {t : Nat} (ht : t < 4) (h : ∀ j, j < 64 → yb' j = yb j) : fi_B yb' (16 * t) = fi_B yb (16 * t) := by
  funext j
  unfold fi_B
  split
  · rw [h _ (by omega)]
  · rfl
theorem zo_slot {s : Nat} (hs : s < 4) (h : ∀ j, j < 64 → yb' j = yb j) (a : fi_Slot kd im na sa la yb s) : fi_Slot kd im na sa la yb' s := by
  unfold fi_Slot at a ⊢
  rw [zo_B hs h]; exact a
theorem zo_fr {x : Int32} (h : ∀ j, j < 64 → yb' j = yb j) (a : fi_Fr kd yb x) : fi_Fr kd yb' x := by
  obtain ⟨t, q, ⟨ht, h2, h3, h4⟩, h5, h6⟩ := a
  refine ⟨t, q, ⟨ht, h2, h3, ?_⟩, ?_, h6⟩
  · rw [zo_B ht h]; exact h4
  · rw [zo_B ht h]; exact h5
theorem zo_run (h : ∀ j, j < 64 → yb' j = yb j) (a : fi_Run fc dl ru oc pc kd na rg fr ys yb) : fi_Run fc dl ru oc pc kd na rg fr ys yb' := by
  rcases a with a | ⟨a, s, p, f, d, ⟨p1, p2, p3, p4⟩, b1, b2, b3, b4, b5, b6, b7, b8, b9⟩
  · exact Or.inl a
  · refine Or.inr ⟨a, s, p, f, d, ⟨p1, p2, p3, ?_⟩, b1, b2, b3, b4, b5, b6, fun i hi => zo_fr h (b7 i hi), b8, ?_⟩
    · rw [zo_B p1 h]; exact p4
    · rw [zo_B p1 h]; exact b9
theorem i_vc_put {k : Nat} {u : SX} {v : SY} (I : i_Rel k u v) (hk : k + 4 ≤ 2049) (v1 : Int32) : wpX_put (fun r u' => wpY_put (fun r' v' => r' = r ∧ i_Rel (k + 4) u' v') v v1) u v1 := by
  refine zz_el (P := fun u v => wpX_put (fun r u' => wpY_put (fun r' v' => r' = r ∧ i_Rel (k + 4) u' v') v v1) u v1) ?_ I
  intro ln ls fc dl ru oc pc xb xs kd so im na sa la ga ce rg fr ys yb hS hR
  obtain ⟨⟨l, hl, el⟩, hd, hby, hxb, hso, hsl⟩ := hS
  have hS : fi_Stat ln dl xb kd so im na sa la yb := ⟨⟨l, hl, el⟩, hd, hby, hxb, hso, hsl⟩
  by_cases h0 : v1 < 0
  · exact br_t h0 (br_t h0 ⟨rfl, zz_in hS hR⟩)
  by_cases h255 : 255 < v1
  · exact br_f h0 (br_t h255 (br_f h0 (br_t h255 ⟨rfl, zz_in hS hR⟩)))
  obtain ⟨m, hm, em⟩ := nI_of2 (M := 255) (n := 255) (by decide) h0 (Int32.not_lt.mp h255)
  subst el
  by_cases h16 : nI l < 16
  · have hl16 : l < 16 := by
      rw [show (16 : Int32) = nI 16 from rfl, nI_ltI (by omega) (by decide)] at h16
      exact h16
    have e64 : (64 : Int32) + nI l = nI (64 + l) := nI_add 64 l
    refine br_f h0 (br_f h255 (br_t h16 ⟨vp_in_nI hl16 (by decide), nm_r (e' := upd xb l v1) (by rw [nI_clamp (by omega)]) (nm_r (nI_1 l) ?_)⟩))
    refine br_f h0 (br_f h255 (br_t h16 ⟨by rw [e64]; exact vp_in_nI (by omega) (by decide), nm_r (e' := upd yb (64 + l) v1) (by rw [e64, nI_clamp (by omega)]) (nm_r (nI_1 l) ⟨rfl, ?_⟩)⟩))
    have hy : ∀ j, j < 64 → upd yb (64 + l) v1 j = yb j := fun j hj => pk_un (by omega)
    refine zz_in ⟨⟨l + 1, by omega, rfl⟩, hd, fun j hj => ?_, fun j hj => ?_, fun j hj => ?_, fun s hs => zo_slot hs hy (hsl s hs)⟩ (zo_run hy hR)
    · by_cases e : j = 64 + l
      · subst e; rw [pk_us]; exact ⟨m, by omega, em⟩
      · rw [pk_un e]; exact hby j hj
    · by_cases e : j = l
      · subst e; rw [pk_us, pk_us]
      · rw [pk_un e, pk_un (by omega)]; exact hxb j hj
    · rw [hy j hj]; exact hso j hj
  · exact br_f h0 (br_f h255 (br_f h16 (br_f h0 (br_f h255 (br_f h16 ⟨rfl, zz_in hS hR⟩)))))
theorem zo_xcl {post : SX → Prop} (H : ∀ xb' : Nat → Int32, (∀ j, j < 16 → xb' j = 0) → post (0, ls, fc, dl, ru, oc, pc, xb', xs, kd, so, im, na, sa, la, ga, ce, rg, fr)) : wpX_clear post (ln, ls, fc, dl, ru, oc, pc, xb, xs, kd, so, im, na, sa, la, ga, ce, rg, fr) := by
  refine ⟨17, ?_⟩
  have K := fi_for (fun n p => ∀ xb' : Nat → Int32, (∀ j, j < p → xb' j = 0) → wX_clear_2 post ln ls fc dl ru oc pc n (nI p) xb' xs kd so im na sa la ga ce rg fr) 16 ?_ ?_
  · exact K xb (fun j hj => absurd hj (Nat.not_lt_zero j))
  · intro n xb' a
    exact br_t (by decide) (H xb' a)
  · intro n p hp IH xb' a
    refine br_f (nI_ge (b := 16) hp (by decide)) ⟨vp_in_nI hp (by decide), nm_r (e' := upd xb' p 0) (by rw [nI_clamp (by omega)]) (nm_r (nI_1 p) ?_)⟩
    refine IH _ (lt_s (fun j hj => ?_) pk_us)
    rw [pk_un (by omega)]; exact a j hj
end
section
variable {yf yl yn ys : Int32} {yb yk yg ym yr yw : Nat → Int32}
theorem zo_ycl {post : SY → Prop} (H : ∀ yb' : Nat → Int32, (∀ j, j < 16 → yb' (64 + j) = 0) → (∀ j, j < 64 → yb' j = yb j) → post (yf, yl, 0, ys, yb', yk, yg, ym, yr, yw)) : wpY_clear post (yf, yl, yn, ys, yb, yk, yg, ym, yr, yw) := by
  refine ⟨17, ?_⟩
  have K := fi_for (fun n p => ∀ yb' : Nat → Int32, (∀ j, j < p → yb' (64 + j) = 0) → (∀ j, j < 64 → yb' j = yb j) → wY_clear_2 post yf yl yn ys n (nI p) yb' yk yg ym yr yw) 16 ?_ ?_
  · exact K yb (fun j hj => absurd hj (Nat.not_lt_zero j)) (fun _ _ => rfl)
  · intro n yb' a b
    exact br_t (by decide) (H yb' a b)
  · intro n p hp IH yb' a b
    have e64 : (64 : Int32) + nI p = nI (64 + p) := nI_add 64 p
    refine br_f (nI_ge (b := 16) hp (by decide)) ⟨by rw [e64]; exact vp_in_nI (by omega) (by decide), nm_r (e' := upd yb' (64 + p) 0) (by rw [e64, nI_clamp (by omega)]) (nm_r (nI_1 p) ?_)⟩
    refine IH _ (lt_s (fun j hj => ?_) pk_us) (fun j hj => ?_)
    · rw [pk_un (by omega)]; exact a j hj
    · rw [pk_un (by omega)]; exact b j hj
end
section
theorem i_vc_clear {k : Nat} {u : SX} {v : SY} (I : i_Rel k u v) (hk : k + 4 ≤ 2049) : wpX_clear (fun u' => wpY_clear (fun v' => i_Rel (k + 4) u' v') v) u := by
  refine zz_el (P := fun u v => wpX_clear (fun u' => wpY_clear (fun v' => i_Rel (k + 4) u' v') v) u) ?_ I
  intro ln ls fc dl ru oc pc xb xs kd so im na sa la ga ce rg fr ys yb hS hR
  obtain ⟨_, hd, hby, hxb, hso, hsl⟩ := hS
  refine zo_xcl (fun xb' a => zo_ycl (fun yb' b c => ?_))
  refine zz_in ⟨⟨0, by decide, rfl⟩, hd, fun j hj => ?_, fun j hj => ?_, fun j hj => ?_, fun s hs => zo_slot hs c (hsl s hs)⟩ (zo_run c hR)
  · rcases Nat.lt_or_ge j 64 with z | z
    · rw [c j z]; exact hby j hj
    · obtain ⟨m, rfl⟩ : ∃ m, j = 64 + m := ⟨j - 64, by omega⟩
      rw [b m (by omega)]; exact ⟨0, by decide, rfl⟩
  · rw [a j hj, b j hj]
  · rw [c j hj]; exact hso j hj
theorem i_vc_input {k : Nat} {u : SX} {v : SY} (I : i_Rel k u v) (hk : k + 4 ≤ 2049) (v1 : Int32) : wpX_input (fun r => wpY_input (fun r' => r' = r ∧ i_Rel (k + 4) u v) v v1) u v1 := by
  refine zz_el (P := fun u v => wpX_input (fun r => wpY_input (fun r' => r' = r ∧ i_Rel (k + 4) u v) v v1) u v1) ?_ I
  intro ln ls fc dl ru oc pc xb xs kd so im na sa la ga ce rg fr ys yb hS hR
  obtain ⟨⟨l, hl, el⟩, hd, hby, hxb, hso, hsl⟩ := hS
  have hS : fi_Stat ln dl xb kd so im na sa la yb := ⟨⟨l, hl, el⟩, hd, hby, hxb, hso, hsl⟩
  by_cases h0 : v1 < 0
  · exact br_t h0 (br_t h0 ⟨rfl, zz_in hS hR⟩)
  by_cases h1 : v1 < ln
  · obtain ⟨j, hj, rfl⟩ := nI_of h0
    have hjl : j < 16 := by
      rw [el, nI_ltI hj (by omega)] at h1
      omega
    have e64 : (64 : Int32) + nI j = nI (64 + j) := nI_add 64 j
    refine br_f h0 (br_t h1 ⟨vp_in_nI hjl (by decide), br_f h0 (br_t h1 ⟨by rw [e64]; exact vp_in_nI (by omega) (by decide), ?_, zz_in hS hR⟩)⟩)
    rw [e64, nI_clamp (by omega), nI_clamp hj]
    exact (hxb j hjl).symm
  · exact br_f h0 (br_f h1 (br_f h0 (br_f h1 ⟨rfl, zz_in hS hR⟩)))
theorem i_vc_verdict {k : Nat} {u : SX} {v : SY} (I : i_Rel k u v) (hk : k + 4 ≤ 2049) (v1 : Int32) : wpX_verdict (fun r u' => wpY_verdict (fun r' => r' = r ∧ i_Rel (k + 4) u' v) v (lw_bz v1)) u (lw_bz v1) := by
  obtain ⟨ad, ea⟩ := fi_ad_bz v1
  rw [ea]
  refine zz_el (P := fun u v => wpX_verdict (fun r u' => wpY_verdict (fun r' => r' = r ∧ i_Rel (k + 4) u' v) v (fi_ad ad)) u (fi_ad ad)) ?_ I
  intro ln ls fc dl ru oc pc xb xs kd so im na sa la ga ce rg fr ys yb hS hR
  have hat : ∀ j, j < 16 → yb (64 + j) = nI (fi_B yb 64 j) ∧ fi_B yb 64 j < 256 := fun j hj => fi_B_at hS.2.2.1 (Nat.le_refl _) hj
  refine xv_verdict (B := fi_B yb 64) ad (fun j hj => (hS.2.2.2.1 j hj).trans (hat j hj).1) (fun j hj => (hat j hj).2) (fun r lt st V _ => ?_)
  refine yv_verdict (B := fi_B yb 64) ad (fun j hj => (hat j hj).1) (fun j hj => (hat j hj).2) (fun r' V' => ⟨congrArg nI (fi_V_u V V'), zz_in hS hR⟩)
end
end
section
section
variable {ln ls fc dl ru oc pc : Int32} {xb xs kd so im na sa la ga ce rg fr : Nat → Int32}
/-! the owed statements: views, gates, start, halt -/
theorem zo_sl {post : Int32 → Prop} {x : Int32} (hn : x < 0 → post 0) (h3 : ¬ x < 0 → 3 < x → post 0) (h1 : ∀ s, s < 4 → x = nI s → post 1) : wpX_isSlot post (ln, ls, fc, dl, ru, oc, pc, xb, xs, kd, so, im, na, sa, la, ga, ce, rg, fr) x := by
  by_cases h0 : x < 0
  · exact br_t h0 (hn h0)
  by_cases hb : 3 < x
  · exact br_f h0 (br_t hb (h3 h0 hb))
  obtain ⟨s, hs, e⟩ := nI_of2 (M := 3) (n := 3) (by decide) h0 (Int32.not_lt.mp hb)
  exact br_f h0 (br_f hb (h1 s (by omega) e))
theorem zo_s3 {s : Nat} (hs : s < 4) : ¬ nI s < 0 ∧ ¬ 3 < nI s ∧ nI s ≤ 3 := ⟨nI_pos (by omega), nI_nlt (a := 3) (by omega) (by decide), nI_le (b := 3) (by omega) (by decide)⟩
theorem i_vc_kind {k : Nat} {u : SX} {v : SY} (I : i_Rel k u v) (hk : k + 4 ≤ 2049) (v1 : Int32) : wpX_kind (fun r => wpY_kind (fun r' => r' = r ∧ i_Rel (k + 4) u v) v v1) u v1 := by
  refine zz_el (P := fun u v => wpX_kind (fun r => wpY_kind (fun r' => r' = r ∧ i_Rel (k + 4) u v) v v1) u v1) ?_ I
  intro ln ls fc dl ru oc pc xb xs kd so im na sa la ga ce rg fr ys yb hS hR
  unfold wpX_kind
  refine zo_sl (fun h => br_t rfl (br_t h ⟨rfl, zz_in hS hR⟩)) (fun h h2 => br_t rfl (br_f h (br_f (Int32.not_le.mpr h2) ⟨rfl, zz_in hS hR⟩))) (fun s hs e => ?_)
  subst e
  have z := zo_s3 hs
  exact br_f (by decide) ⟨vp_in_nI hs (by decide), br_f z.1 (br_t z.2.2 ⟨vp_in_nI hs (by decide), rfl, zz_in hS hR⟩)⟩
theorem i_vc_code {k : Nat} {u : SX} {v : SY} (I : i_Rel k u v) (hk : k + 4 ≤ 2049) (v1 : Int32) (v2 : Int32) : wpX_code (fun r => wpY_code (fun r' => r' = r ∧ i_Rel (k + 4) u v) v v1 v2) u v1 v2 := by
  refine zz_el (P := fun u v => wpX_code (fun r => wpY_code (fun r' => r' = r ∧ i_Rel (k + 4) u v) v v1 v2) u v1 v2) ?_ I
  intro ln ls fc dl ru oc pc xb xs kd so im na sa la ga ce rg fr ys yb hS hR
  unfold wpX_code
  refine zo_sl (fun h => br_t rfl (br_t h ⟨rfl, zz_in hS hR⟩)) (fun h h2 => br_t rfl (br_f h (br_t h2 ⟨rfl, zz_in hS hR⟩))) (fun s hs e => ?_)
  subst e
  have z := zo_s3 hs
  refine br_f (by decide) ?_
  by_cases h0 : v2 < 0
  · exact br_t h0 (br_f z.1 (br_f z.2.1 (br_t h0 ⟨rfl, zz_in hS hR⟩)))
  by_cases h15 : 15 < v2
  · exact br_f h0 (br_t h15 (br_f z.1 (br_f z.2.1 (br_f h0 (br_t h15 ⟨rfl, zz_in hS hR⟩)))))
  obtain ⟨i, hi, e⟩ := nI_of2 (M := 15) (n := 15) (by decide) h0 (Int32.not_lt.mp h15)
  subst e
  refine br_f h0 (br_f h15 ⟨vp_in_nI hs (by decide), ?_⟩)
  have hcl : (nI s).toNatClampNeg = s := nI_clamp (by omega)
  by_cases hk0 : kd s = 0
  · refine br_t (by rw [hcl]; exact hk0) (br_f z.1 (br_f z.2.1 (br_f h0 (br_f h15 ⟨vp_in_nI hs (by decide), br_t (by rw [hcl]; exact hk0) ⟨rfl, zz_in hS hR⟩⟩))))
  · have hi16 : i < 16 := by omega
    obtain ⟨ad, N, e1, e2, e3⟩ := zz_slot hS hs hk0
    have hso := hS.2.2.2.2.1 (16 * s + i) (by omega)
    have hat : ∀ j, j < 16 → yb (16 * s + j) = nI (fi_B yb (16 * s) j) ∧ fi_B yb (16 * s) j < 256 := fun j hj => fi_B_at hS.2.2.1 (by omega) hj
    refine br_f (by rw [hcl]; exact hk0) (nm_r (fi_i16 s i) ⟨vp_in_nI (by omega) (by decide), vp_in_nI (by omega) (by decide), ?_⟩)
    rw [nI_clamp (n := 16 * s + i) (by omega)]
    have KY : ∀ r : Int32, (fi_St (fi_B yb (16 * s)) i → r = so (16 * s + i) + 256) → (¬ fi_St (fi_B yb (16 * s)) i → r = so (16 * s + i) + 0) → wpY_code (fun r' => r' = r ∧ i_Rel (k + 4) (ln, ls, fc, dl, ru, oc, pc, xb, xs, kd, so, im, na, sa, la, ga, ce, rg, fr) (fc, dl, ln, ys, yb, kd, ga, ce, rg, fr)) (fc, dl, ln, ys, yb, kd, ga, ce, rg, fr) (nI s) (nI i) := fun r r1 r0 => by
      refine br_f z.1 (br_f z.2.1 (br_f h0 (br_f h15 ⟨vp_in_nI hs (by decide), br_f (by rw [hcl]; exact hk0) ⟨by rw [fi_i16]; exact vp_in_nI (by omega) (by decide), ?_⟩⟩)))
      refine yi_st (16 * s) i (fi_16m s) rfl (by omega) hi16 (fun j hj => (hat j hj).1) (fun j hj => (hat j hj).2) (fun h => br_f (by decide) ⟨?_, zz_in hS hR⟩) (fun h => br_t rfl ⟨?_, zz_in hS hR⟩)
      · rw [fi_i16, nI_clamp (by omega), r1 h, hso]
      · rw [fi_i16, nI_clamp (by omega), r0 h, hso]
    by_cases hst : fi_St (fi_B yb (16 * s)) i
    · have a := e3.1 i hi16 hst
      refine br_f ?_ (KY _ (fun _ => rfl) (fun y => absurd hst y))
      rw [a.2.1]
      exact nI_pos (by omega)
    · have a := e3.2.1 i hi16 hst
      refine br_t ?_ (KY _ (fun y => absurd y hst) (fun _ => rfl))
      rw [a]; decide
theorem i_vc_setGate {k : Nat} {u : SX} {v : SY} (I : i_Rel k u v) (hk : k + 4 ≤ 2049) (v1 : Int32) (v2 : Int32) (v3 : Int32) : wpX_setGate (fun r u' => wpY_setGate (fun r' v' => r' = r ∧ i_Rel (k + 4) u' v') v v1 v2 (lw_bz v3)) u v1 v2 (lw_bz v3) := by
  refine zz_el (P := fun u v => wpX_setGate (fun r u' => wpY_setGate (fun r' v' => r' = r ∧ i_Rel (k + 4) u' v') v v1 v2 (lw_bz v3)) u v1 v2 (lw_bz v3)) ?_ I
  intro ln ls fc dl ru oc pc xb xs kd so im na sa la ga ce rg fr ys yb hS hR
  unfold wpX_setGate
  refine zo_sl (fun h => br_t rfl (br_t h ⟨rfl, zz_in hS hR⟩)) (fun h h2 => br_t rfl (br_f h (br_t h2 ⟨rfl, zz_in hS hR⟩))) (fun s hs e => br_f (by decide) ?_)
  subst e
  have z := zo_s3 hs
  refine zo_sl (fun h => br_t rfl (br_f z.1 (br_f z.2.1 (br_t h ⟨rfl, zz_in hS hR⟩)))) (fun h h2 => br_t rfl (br_f z.1 (br_f z.2.1 (br_f h (br_f (Int32.not_le.mpr h2) ⟨rfl, zz_in hS hR⟩))))) (fun t ht e => br_f (by decide) ?_)
  subst e
  have z2 := zo_s3 ht
  refine ⟨by rw [fi_i4]; exact vp_in_nI (by omega) (by decide), nm_r (e' := upd ga (4 * s + t) (vp_nar .boolean (lw_bz v3))) (by rw [fi_i4, nI_clamp (by omega)]) ?_⟩
  exact br_f z.1 (br_f z.2.1 (br_f z2.1 (br_t z2.2.2 ⟨by rw [fi_i4]; exact vp_in_nI (by omega) (by decide), nm_r (e' := upd ga (4 * s + t) (vp_nar .boolean (lw_bz v3))) (by rw [fi_i4, nI_clamp (by omega)]) ⟨rfl, zz_in hS hR⟩⟩)))
theorem i_vc_gateOpen {k : Nat} {u : SX} {v : SY} (I : i_Rel k u v) (hk : k + 4 ≤ 2049) (v1 : Int32) (v2 : Int32) : wpX_gateOpen (fun r => wpY_gateOpen (fun r' => r' = r ∧ i_Rel (k + 4) u v) v v1 v2) u v1 v2 := by
  refine zz_el (P := fun u v => wpX_gateOpen (fun r => wpY_gateOpen (fun r' => r' = r ∧ i_Rel (k + 4) u v) v v1 v2) u v1 v2) ?_ I
  intro ln ls fc dl ru oc pc xb xs kd so im na sa la ga ce rg fr ys yb hS hR
  unfold wpX_gateOpen
  refine zo_sl (fun h => br_t rfl (br_t h ⟨rfl, zz_in hS hR⟩)) (fun h h2 => br_t rfl (br_f h (br_t h2 ⟨rfl, zz_in hS hR⟩))) (fun s hs e => br_f (by decide) ?_)
  subst e
  have z := zo_s3 hs
  refine zo_sl (fun h => br_t rfl (br_f z.1 (br_f z.2.1 (br_t h ⟨rfl, zz_in hS hR⟩)))) (fun h h2 => br_t rfl (br_f z.1 (br_f z.2.1 (br_f h (br_t h2 ⟨rfl, zz_in hS hR⟩))))) (fun t ht e => br_f (by decide) ?_)
  subst e
  have z2 := zo_s3 ht
  have hv : vp_in (4 * nI s + nI t) 16 := by rw [fi_i4]; exact vp_in_nI (by omega) (by decide)
  refine ⟨hv, br_c (fun h => ?_) (fun h => ?_)⟩
  · exact br_f z.1 (br_f z.2.1 (br_f z2.1 (br_f z2.2.1 ⟨hv, br_t h ⟨rfl, zz_in hS hR⟩⟩)))
  · exact br_f z.1 (br_f z.2.1 (br_f z2.1 (br_f z2.2.1 ⟨hv, br_f h ⟨rfl, zz_in hS hR⟩⟩)))
/-- the machine's state, seen from both sides -/
theorem zo_ys {fc dl ru oc pc ys : Int32} {kd na rg fr yb : Nat → Int32} (hR : fi_Run fc dl ru oc pc kd na rg fr ys yb) : (ru = 0 ∧ ys < 0 ∧ ¬ 0 ≤ ys ∧ ys = oc ∧ fc = 0) ∨ (ru = 1 ∧ ¬ ys < 0 ∧ 0 ≤ ys) := by
  rcases hR with ⟨a, b, c, d⟩ | ⟨a, s, p, f, d, ⟨p1, p2, _, _⟩, b1, _⟩
  · refine Or.inl ⟨a, c ▸ d, Int32.not_le.mpr (c ▸ d), c, b⟩
  · refine Or.inr ⟨a, ?_, ?_⟩
    · rw [b1]; exact nI_pos (by omega)
    · rw [b1]; exact nI_pos' (by omega)
theorem i_vc_start {k : Nat} {u : SX} {v : SY} (I : i_Rel k u v) (hk : k + 4 ≤ 2049) (v1 : Int32) (v2 : Int32) (v3 : Int32) : wpX_start (fun r u' => wpY_start (fun r' v' => r' = r ∧ i_Rel (k + 4) u' v') v v1 v2 v3) u v1 v2 v3 := by
  refine zz_el (P := fun u v => wpX_start (fun r u' => wpY_start (fun r' v' => r' = r ∧ i_Rel (k + 4) u' v') v v1 v2 v3) u v1 v2 v3) ?_ I
  intro ln ls fc dl ru oc pc xb xs kd so im na sa la ga ce rg fr ys yb hS hR
  rcases zo_ys hR with ⟨r1, _, r2, _, _⟩ | ⟨r1, _, r2⟩
  · subst r1
    refine br_t rfl ?_
    refine zo_sl (fun h => br_t rfl (br_f r2 (br_t h ⟨rfl, zz_in hS hR⟩))) (fun h h2 => br_t rfl (br_f r2 (br_f h (br_t h2 ⟨rfl, zz_in hS hR⟩)))) (fun s hs e => br_f (by decide) ?_)
    subst e
    have z := zo_s3 hs
    have hcl : (nI s).toNatClampNeg = s := nI_clamp (by omega)
    refine ⟨vp_in_nI hs (by decide), ?_⟩
    by_cases hk0 : kd s = 0
    · exact br_t (by rw [hcl]; exact hk0) (br_f r2 (br_f z.1 (br_f z.2.1 ⟨vp_in_nI hs (by decide), br_t (by rw [hcl]; exact hk0) ⟨rfl, zz_in hS hR⟩⟩)))
    · refine br_f (by rw [hcl]; exact hk0) (nm_e (nm_e (nm_e (nm_e (nm_r (fi_64m s) ?_)))))
      refine br_f r2 (br_f z.1 (br_f z.2.1 ⟨vp_in_nI hs (by decide), br_f (by rw [hcl]; exact hk0) (nm_e (nm_e (nm_e (nm_e (nm_r (fi_16m s) ⟨rfl, ?_⟩)))))⟩))
      obtain ⟨ad, N, e1, e2, e3⟩ := zz_slot hS hs hk0
      obtain ⟨d, hd8, hd⟩ := hS.2.1
      have hN0 : N 0 = 0 := e3.2.2.1
      refine zz_at (s := s) (p := 0) (f := 0) (d := d) (N := N) hS hs (by decide) fi_St0 e1 e3 rfl (by rw [hN0]; rfl) rfl (Nat.zero_le _) hd hd8 (fun i hi => absurd hi (Nat.not_lt_zero i)) (fun _ => pk_us) (fun y y2 => ?_) rfl
      have ea := (fi_kd_t e1).2.1.mp y
      subst ea
      exact absurd y2 (fi_no0 e2 (k := 0) (by decide))
  · subst r1
    exact br_f (by decide) (br_t r2 ⟨rfl, zz_in hS hR⟩)
theorem i_vc_halt {k : Nat} {u : SX} {v : SY} (I : i_Rel k u v) (hk : k + 4 ≤ 2049) : wpX_halt (fun r u' => wpY_halt (fun r' v' => r' = r ∧ i_Rel (k + 4) u' v') v) u := by
  refine zz_el (P := fun u v => wpX_halt (fun r u' => wpY_halt (fun r' v' => r' = r ∧ i_Rel (k + 4) u' v') v) u) ?_ I
  intro ln ls fc dl ru oc pc xb xs kd so im na sa la ga ce rg fr ys yb hS hR
  rcases zo_ys hR with ⟨r1, _, r2, _, _⟩ | ⟨r1, _, r2⟩
  · subst r1
    exact br_t rfl (br_f r2 ⟨rfl, zz_in hS hR⟩)
  · subst r1
    exact br_f (by decide) (nm_e (br_t r2 (nm_e ⟨rfl, zz_end hS (by decide)⟩)))
/-- X's where answers Y's state -/
theorem zo_where {ln ls fc dl ru oc pc ys : Int32} {xb xs kd so im na sa la ga ce rg fr yb : Nat → Int32} (hS : fi_Stat ln dl xb kd so im na sa la yb) (hR : fi_Run fc dl ru oc pc kd na rg fr ys yb) {post : Int32 → Prop} (H : post ys) : wpX_where post (ln, ls, fc, dl, ru, oc, pc, xb, xs, kd, so, im, na, sa, la, ga, ce, rg, fr) := by
  rcases hR with ⟨a, b, c, d⟩ | ⟨a, s, p, f, d, ⟨p1, p2, p3, p4⟩, b1, b2, _⟩
  · subst a c
    exact br_t rfl H
  · subst a b1
    obtain ⟨ad, N, e1, e2, e3⟩ := zz_slot hS p1 p3
    have a := e3.1 p p2 p4
    have hnz := fi_len_b (fi_B yb (16 * s) p)
    have h1 : 1 ≤ fi_nz ad (fi_B yb (16 * s) p) := by
      show 1 ≤ (if ad = true ∧ fi_use (fi_B yb (16 * s) p) then 2 else fi_len (fi_B yb (16 * s) p))
      split <;> omega
    rw [a.2.1] at b2
    subst b2
    refine br_f (by decide) ⟨vp_in_nI (by omega) (by decide), ?_⟩
    rw [fi_sh6 (by omega), nI_clamp (by omega), a.2.2, show (64 * s + N p) / 64 = s by omega, fi_i16]
    exact H
theorem i_vc_where {k : Nat} {u : SX} {v : SY} (I : i_Rel k u v) (hk : k + 4 ≤ 2049) : wpX_where (fun r => wpY_where (fun r' => r' = r ∧ i_Rel (k + 4) u v) v) u := by
  refine zz_el (P := fun u v => wpX_where (fun r => wpY_where (fun r' => r' = r ∧ i_Rel (k + 4) u v) v) u) ?_ I
  intro ln ls fc dl ru oc pc xb xs kd so im na sa la ga ce rg fr ys yb hS hR
  exact zo_where hS hR ⟨rfl, zz_in hS hR⟩
theorem i_vc_reg {k : Nat} {u : SX} {v : SY} (I : i_Rel k u v) (hk : k + 4 ≤ 2049) (v1 : Int32) : wpX_reg (fun r => wpY_reg (fun r' => r' = r ∧ i_Rel (k + 4) u v) v v1) u v1 := by
  refine zz_el (P := fun u v => wpX_reg (fun r => wpY_reg (fun r' => r' = r ∧ i_Rel (k + 4) u v) v v1) u v1) ?_ I
  intro ln ls fc dl ru oc pc xb xs kd so im na sa la ga ce rg fr ys yb hS hR
  by_cases h0 : v1 < 0
  · exact br_t h0 (br_t h0 ⟨rfl, zz_in hS hR⟩)
  by_cases h3 : 3 < v1
  · exact br_f h0 (br_t h3 (br_f h0 (br_f (Int32.not_le.mpr h3) ⟨rfl, zz_in hS hR⟩)))
  obtain ⟨s, hs, e⟩ := nI_of2 (M := 3) (n := 3) (by decide) h0 (Int32.not_lt.mp h3)
  subst e
  exact br_f h0 (br_f h3 ⟨vp_in_nI (by omega) (by decide), br_f h0 (br_t (Int32.not_lt.mp h3) ⟨vp_in_nI (by omega) (by decide), rfl, zz_in hS hR⟩)⟩)
theorem i_vc_frame {k : Nat} {u : SX} {v : SY} (I : i_Rel k u v) (hk : k + 4 ≤ 2049) (v1 : Int32) : wpX_frame (fun r => wpY_frame (fun r' => r' = r ∧ i_Rel (k + 4) u v) v v1) u v1 := by
  refine zz_el (P := fun u v => wpX_frame (fun r => wpY_frame (fun r' => r' = r ∧ i_Rel (k + 4) u v) v v1) u v1) ?_ I
  intro ln ls fc dl ru oc pc xb xs kd so im na sa la ga ce rg fr ys yb hS hR
  by_cases h0 : v1 < 0
  · exact br_t h0 (br_t h0 ⟨rfl, zz_in hS hR⟩)
  by_cases h1 : fc ≤ v1
  · exact br_f h0 (br_t h1 (br_f h0 (br_f (Int32.not_lt.mpr h1) ⟨rfl, zz_in hS hR⟩)))
  have hf : ∃ f, f ≤ 8 ∧ fc = nI f := by
    rcases hR with ⟨_, b, _⟩ | ⟨_, s, p, f, d, _, _, _, b3, b4, b5, _⟩
    · exact ⟨0, by decide, b⟩
    · exact ⟨f, by omega, b3⟩
  obtain ⟨f, hf8, ef⟩ := hf
  obtain ⟨j, hj, rfl⟩ := nI_of h0
  have hjf : j < 8 := by
    have h2 := Int32.not_le.mp h1
    rw [ef, nI_ltI hj (by omega)] at h2
    omega
  exact br_f h0 (br_f h1 ⟨vp_in_nI hjf (by decide), br_f h0 (br_t (Int32.not_le.mp h1) ⟨vp_in_nI hjf (by decide), rfl, zz_in hS hR⟩)⟩)
theorem i_vc_cell {k : Nat} {u : SX} {v : SY} (I : i_Rel k u v) (hk : k + 4 ≤ 2049) (v1 : Int32) : wpX_cell (fun r => wpY_cell (fun r' => r' = r ∧ i_Rel (k + 4) u v) v v1) u v1 := by
  refine zz_el (P := fun u v => wpX_cell (fun r => wpY_cell (fun r' => r' = r ∧ i_Rel (k + 4) u v) v v1) u v1) ?_ I
  intro ln ls fc dl ru oc pc xb xs kd so im na sa la ga ce rg fr ys yb hS hR
  by_cases h0 : v1 < 0
  · exact br_t h0 (br_t h0 ⟨rfl, zz_in hS hR⟩)
  by_cases h3 : 31 < v1
  · exact br_f h0 (br_t h3 (br_f h0 (br_f (Int32.not_le.mpr h3) ⟨rfl, zz_in hS hR⟩)))
  obtain ⟨s, hs, e⟩ := nI_of2 (M := 31) (n := 31) (by decide) h0 (Int32.not_lt.mp h3)
  subst e
  exact br_f h0 (br_f h3 ⟨vp_in_nI (by omega) (by decide), br_f h0 (br_t (Int32.not_lt.mp h3) ⟨vp_in_nI (by omega) (by decide), rfl, zz_in hS hR⟩)⟩)
end
end
section
section
variable {yf yl yn ys : Int32} {yb yk yg ym yr yw : Nat → Int32}
/-! the owed statements: admission -/
theorem zo_y37 {post : Int32 → SY → Prop} (ad : Bool) {s : Nat} (hs : s < 4) (H : ∀ yb' : Nat → Int32, (∀ j, j < 16 → yb' (16 * s + j) = yb (64 + j)) → fi_out 16 s yb yb' → post 0 (yf, yl, yn, ys, yb', upd yk s (fi_kd ad), yg, ym, yr, yw)) :
    wY_admit_37 post (nI s) (fi_ad ad) yf yl yn ys 17 0 yb yk yg ym yr yw := by
  have K := fi_for (fun n p => ∀ yb' : Nat → Int32, (∀ j, j < p → yb' (16 * s + j) = yb (64 + j)) → fi_out 16 s yb yb' → wY_admit_37 post (nI s) (fi_ad ad) yf yl yn ys n (nI p) yb' yk yg ym yr yw) 16 ?_ ?_
  · exact K yb (fun j hj => absurd hj (Nat.not_lt_zero j)) fi_out_r
  · intro n yb' a b
    refine br_t (by decide) ?_
    cases ad with
    | false => exact br_t rfl ⟨vp_in_nI hs (by decide), nm_r (e' := upd yk s (fi_kd false)) (by rw [nI_clamp (by omega)]; rfl) (H yb' a b)⟩
    | true => exact br_f (by decide) ⟨vp_in_nI hs (by decide), nm_r (e' := upd yk s (fi_kd true)) (by rw [nI_clamp (by omega)]; rfl) (H yb' a b)⟩
  · intro n p hp IH yb' a b
    have e64 : (64 : Int32) + nI p = nI (64 + p) := nI_add 64 p
    refine br_f (nI_ge (b := 16) hp (by decide)) ⟨by rw [e64]; exact vp_in_nI (by omega) (by decide), by rw [fi_i16]; exact vp_in_nI (by omega) (by decide), nm_r (e' := upd yb' (16 * s + p) (yb (64 + p))) (by rw [e64, fi_i16, nI_clamp (n := 16 * s + p) (by omega), nI_clamp (n := 64 + p) (by omega), b (64 + p) (by omega)]) (nm_r (nI_1 p) ?_)⟩
    refine IH _ (lt_s (fun j hj => ?_) pk_us) (fi_out_u b _ (by omega) (by omega))
    rw [pk_un (by omega)]; exact a j hj
end
section
variable {ln ls fc dl ru oc pc : Int32} {xb xs kd so im na sa la ga ce rg fr : Nat → Int32} {ys : Int32} {yb yb' so' im' na' sa' la' : Nat → Int32}
/-- the slot s anew -/
theorem zo_adm {k s : Nat} {ad : Bool} {lt : Int32} {st : Nat → Int32} (hs : s < 4) (hS : fi_Stat ln dl xb kd so im na sa la yb) (hr : ru = 0) (hf : fc = 0) (hys : ys = oc) (ho : oc < 0) (hok : fi_OK ad (fi_B yb 64))
    (a1 : ∀ j, j < 16 → so' (16 * s + j) = xb j) (a2 : fi_out 16 s so so') (hL : fi_L ad (fi_B yb 64) s im' na' sa' la') (b1 : fi_out 64 s im im') (b2 : fi_out 16 s na na') (b3 : fi_out 64 s sa sa') (b4 : fi_out 4 s la la')
    (c1 : ∀ j, j < 16 → yb' (16 * s + j) = yb (64 + j)) (c2 : fi_out 16 s yb yb') :
    i_Rel k (ln, lt, fc, dl, ru, oc, pc, xb, st, upd kd s (fi_kd ad), so', im', na', sa', la', ga, ce, rg, fr) (fc, dl, ln, ys, yb', upd kd s (fi_kd ad), ga, ce, rg, fr) := by
  obtain ⟨hl, hd, hby, hxb, hso, hsl⟩ := hS
  refine zz_in ⟨hl, hd, fun j hj => ?_, fun j hj => ?_, fun j hj => ?_, fun t ht => ?_⟩ (Or.inl ⟨hr, hf, hys, ho⟩)
  · by_cases z : 16 * s ≤ j ∧ j < 16 * s + 16
    · obtain ⟨m, rfl⟩ : ∃ m, j = 16 * s + m := ⟨j - 16 * s, by omega⟩
      rw [c1 m (by omega)]; exact hby _ (by omega)
    · rw [c2 j (by omega)]; exact hby j hj
  · rw [c2 _ (by omega)]; exact hxb j hj
  · by_cases z : 16 * s ≤ j ∧ j < 16 * s + 16
    · obtain ⟨m, rfl⟩ : ∃ m, j = 16 * s + m := ⟨j - 16 * s, by omega⟩
      rw [c1 m (by omega), a1 m (by omega)]; exact hxb m (by omega)
    · rw [c2 j (by omega), a2 j (by omega)]; exact hso j hj
  · by_cases e : t = s
    · subst e
      have eB : fi_B yb' (16 * t) = fi_B yb 64 := by
        funext j
        unfold fi_B
        split
        · next hj => rw [c1 j hj]
        · rfl
      unfold fi_Slot
      rw [eB, pk_us]
      exact Or.inr ⟨ad, rfl, hok, hL⟩
    · have eB : fi_B yb' (16 * t) = fi_B yb (16 * t) := by
        funext j
        unfold fi_B
        split
        · next hj => rw [c2 _ (by omega)]
        · rfl
      unfold fi_Slot
      rw [eB, pk_un e]
      rcases hsl t ht with h | ⟨ad2, h1, h2, h3⟩
      · exact Or.inl h
      · exact Or.inr ⟨ad2, h1, h2, fi_L_out (fun z => e z.symm) b1 b2 b3 b4 h3⟩
theorem zo_55 {post : Int32 → SX → Prop} (ad : Bool) {s : Nat} (hs : s < 4) (H : post 0 (ln, ls, fc, dl, ru, oc, pc, xb, xs, upd kd s (fi_kd ad), so, im, na, sa, la, ga, ce, rg, fr)) : wX_admit_55 post (nI s) (fi_ad ad) ln ls fc dl ru oc pc xb xs kd so im na sa la ga ce rg fr := by
  unfold wX_admit_55
  cases ad with
  | false => exact br_t rfl ⟨vp_in_nI hs (by decide), nm_r (e' := upd kd s (fi_kd false)) (by rw [nI_clamp (by omega)]; rfl) H⟩
  | true => exact br_f (by decide) ⟨vp_in_nI hs (by decide), nm_r (e' := upd kd s (fi_kd true)) (by rw [nI_clamp (by omega)]; rfl) H⟩
theorem i_vc_admit {k : Nat} {u : SX} {v : SY} (I : i_Rel k u v) (hk : k + 4 ≤ 2049) (v1 : Int32) (v2 : Int32) : wpX_admit (fun r u' => wpY_admit (fun r' v' => r' = r ∧ i_Rel (k + 4) u' v') v v1 (lw_bz v2)) u v1 (lw_bz v2) := by
  obtain ⟨ad, ea⟩ := fi_ad_bz v2
  rw [ea]
  refine zz_el (P := fun u v => wpX_admit (fun r u' => wpY_admit (fun r' v' => r' = r ∧ i_Rel (k + 4) u' v') v v1 (fi_ad ad)) u v1 (fi_ad ad)) ?_ I
  intro ln ls fc dl ru oc pc xb xs kd so im na sa la ga ce rg fr ys yb hS hR
  unfold wpX_admit
  refine zo_sl (fun h => br_t rfl (br_t h ⟨rfl, zz_in hS hR⟩)) (fun h h2 => br_t rfl (br_f h (br_f (Int32.not_le.mpr h2) ⟨rfl, zz_in hS hR⟩))) (fun s hs e => br_f (by decide) ?_)
  subst e
  have z := zo_s3 hs
  rcases zo_ys hR with ⟨r1, r2, _, r3, r4⟩ | ⟨r1, r2, _⟩
  · have hoc : oc < 0 := r3 ▸ r2
    refine br_t r1 ?_
    have hat : ∀ j, j < 16 → yb (64 + j) = nI (fi_B yb 64 j) ∧ fi_B yb 64 j < 256 := fun j hj => fi_B_at hS.2.2.1 (Nat.le_refl _) hj
    have hB : ∀ j, j < 16 → xb j = nI (fi_B yb 64 j) := fun j hj => (hS.2.2.2.1 j hj).trans (hat j hj).1
    have hb : ∀ j, j < 16 → fi_B yb 64 j < 256 := fun j hj => (hat j hj).2
    refine xv_verdict (B := fi_B yb 64) ad hB hb (fun r lt st V hst => ?_)
    have hr5 := fi_V_le V
    refine pk_eq r 0 (fun e0 => ?_) (fun e0 => ?_)
    · subst e0
      have hok := fi_V0 V
      have hst := hst rfl
      refine xa_wipe hs (fun so1 im1 na1 sa1 a1 a2 a3 a4 a5 a6 a7 a8 => ?_)
      have KF : ∀ im2 na2 sa2 la2 : Nat → Int32, fi_L ad (fi_B yb 64) s im2 na2 sa2 la2 → fi_out 64 s im1 im2 → fi_out 16 s na1 na2 → fi_out 64 s sa1 sa2 → fi_out 4 s la la2 →
          wX_admit_55 (fun r u' => wpY_admit (fun r' v' => r' = r ∧ i_Rel (k + 4) u' v') (fc, dl, ln, ys, yb, kd, ga, ce, rg, fr) (nI s) (fi_ad ad)) (nI s) (fi_ad ad) ln lt fc dl ru oc pc xb st kd so1 im2 na2 sa2 la2 ga ce rg fr := fun im2 na2 sa2 la2 hL c1 c2 c3 c4 => by
        refine zo_55 ad hs ?_
        refine br_f z.1 (br_t z.2.2 (br_t r2 ?_))
        refine yv_verdict (B := fi_B yb 64) ad (fun j hj => (hat j hj).1) hb (fun r' V' => ?_)
        have er : r' = 0 := fi_V_u V V'
        subst er
        refine br_t rfl ⟨17, zo_y37 ad hs (fun yb2 d1 d2 => ⟨rfl, ?_⟩)⟩
        exact zo_adm hs hS r1 r4 r3 hoc hok a1 a2 hL (fi_out_t a6 c1) (fi_out_t a4 c2) (fi_out_t a8 c3) c4 d1 d2
      cases ad with
      | false =>
        refine br_t rfl ?_
        exact xa_copy (B := fi_B yb 64) hs hB hst hok a3 a7 KF
      | true =>
        refine br_f (by decide) ?_
        exact xr_rewrite (B := fi_B yb 64) hs hB hb hst hok a3 a7 a5 KF
    · refine br_f z.1 (br_t z.2.2 (br_t r2 ?_))
      refine yv_verdict (B := fi_B yb 64) ad (fun j hj => (hat j hj).1) hb (fun r' V' => ?_)
      have er : r' = r := fi_V_u V V'
      subst er
      exact br_f (nI_ne0 (by omega) (by omega)) ⟨rfl, zz_in hS hR⟩
  · refine br_f (by rw [r1]; decide) (br_f z.1 (br_t z.2.2 (br_f r2 ⟨rfl, zz_in hS hR⟩)))
end
end
section
section
/-! the owed statements: run -/
/-- the outcome of the rest of a run -/
def fi_Go (k n d i : Nat) (u : SX) (v : SY) : Prop := ∃ (r : Int32) (u' : SX) (v' : SY), i_Rel k u' v' ∧
  (∀ post : Int32 → SX → Prop, post r u' → (match u with | (ln, ls, fc, dl, ru, oc, pc, xb, xs, kd, so, im, na, sa, la, ga, ce, rg, fr) => wX_run_13 post (nI n) (d + 1) (nI i) ln ls fc dl ru oc pc xb xs kd so im na sa la ga ce rg fr)) ∧
  (∀ post : Int32 → SY → Prop, post r v' → (match v with | (yf, yl, yn, ys, yb, yk, yg, ym, yr, yw) => wY_run_18 post (nI n) (d + 1) (nI i) yf yl yn ys yb yk yg ym yr yw))
variable {ln ls fc dl ru oc pc : Int32} {xb xs kd so im na sa la ga ce rg fr : Nat → Int32} {ys : Int32} {yb : Nat → Int32}
theorem zr_35 {post : Int32 → SX → Prop} (hS : fi_Stat ln dl xb kd so im na sa la yb) (hR : fi_Run fc dl ru oc pc kd na rg fr ys yb) (H : post ys (ln, ls, fc, dl, ru, oc, pc, xb, xs, kd, so, im, na, sa, la, ga, ce, rg, fr)) : wX_run_35 post ln ls fc dl ru oc pc xb xs kd so im na sa la ga ce rg fr := by
  unfold wX_run_35
  exact zo_where hS hR H
theorem zr_one {k : Nat} (hS : fi_Stat ln dl xb kd so im na sa la yb) (hR : fi_Run fc dl ru oc pc kd na rg fr ys yb) (hru : ru = 1) : fi_One k (ln, ls, fc, dl, ru, oc, pc, xb, xs, kd, so, im, na, sa, la, ga, ce, rg, fr) (fc, dl, ln, ys, yb, kd, ga, ce, rg, fr) := by
  rcases hR with ⟨a, _⟩ | ⟨_, s, p, f, d, ⟨p1, p2, p3, p4⟩, b1, b2, b3, b4, b5, b6, b7, b8, b9⟩
  · exact absurd (a.symm.trans hru) (by decide)
  · obtain ⟨ad, N, e1, e2, e3⟩ := zz_slot hS p1 p3
    have a := e3.1 p p2 p4
    rw [a.2.1] at b2
    exact zs_step hS p1 p2 p4 e1 e2 e3 b1 b2 b3 b4 b6 b5 b7 b8 b9 hru
theorem zr_go {k n : Nat} (hn : n ≤ 64) : ∀ (d i : Nat), i + d = n → ∀ (u : SX) (v : SY), i_Rel k u v → fi_Go k n d i u v := by
  intro d
  induction d with
  | zero =>
    intro i hi u v I
    refine zz_el (P := fun u v => fi_Go k n 0 i u v) ?_ I
    intro ln ls fc dl ru oc pc xb xs kd so im na sa la ga ce rg fr ys yb hS hR
    have e : i = n := by omega
    subst e
    exact ⟨ys, (ln, ls, fc, dl, ru, oc, pc, xb, xs, kd, so, im, na, sa, la, ga, ce, rg, fr), (fc, dl, ln, ys, yb, kd, ga, ce, rg, fr), zz_in hS hR, fun post H => br_t (nI_le (Nat.le_refl _) (by omega)) (zr_35 hS hR H), fun post H => br_t (nI_le (Nat.le_refl _) (by omega)) H⟩
  | succ d ih =>
    intro i hi u v I
    refine zz_el (P := fun u v => fi_Go k n (d + 1) i u v) ?_ I
    intro ln ls fc dl ru oc pc xb xs kd so im na sa la ga ce rg fr ys yb hS hR
    have hlt : ¬ nI n ≤ nI i := nI_ge (by omega) (by omega)
    rcases zo_ys hR with ⟨r1, r2, _, _, _⟩ | ⟨r1, r2, _⟩
    · exact ⟨ys, (ln, ls, fc, dl, ru, oc, pc, xb, xs, kd, so, im, na, sa, la, ga, ce, rg, fr), (fc, dl, ln, ys, yb, kd, ga, ce, rg, fr), zz_in hS hR, fun post H => br_f hlt (br_t r1 (zr_35 hS hR H)), fun post H => br_f hlt (br_t r2 H)⟩
    · obtain ⟨u1, w1, I1, hX, hY⟩ := zr_one (k := k) (ls := ls) (xs := xs) (ga := ga) (ce := ce) hS hR r1
      obtain ⟨r, u2, w2, I2, gX, gY⟩ := ih (i + 1) (by omega) u1 w1 I1
      obtain ⟨ln1, ls1, fc1, dl1, ru1, oc1, pc1, xb1, xs1, kd1, so1, im1, na1, sa1, la1, ga1, ce1, rg1, fr1⟩ := u1
      obtain ⟨yf1, yl1, yn1, ys1, yb1, yk1, yg1, ym1, yr1, yw1⟩ := w1
      refine ⟨r, u2, w2, I2, fun post H => br_f hlt (br_f (by rw [r1]; decide) (hX _ (nm_r (nI_1 i) (gX post H)))), fun post H => br_f hlt (br_f r2 (hY _ (nm_r (nI_1 i) (gY post H))))⟩
theorem i_vc_run {k : Nat} {u : SX} {v : SY} (I : i_Rel k u v) (hk : k + 4 ≤ 2049) (v1 : Int32) : wpX_run (fun r u' => wpY_run (fun r' v' => r' = r ∧ i_Rel (k + 4) u' v') v v1) u v1 := by
  by_cases h1 : v1 < 1
  · refine zz_el (P := fun u v => wpX_run (fun r u' => wpY_run (fun r' v' => r' = r ∧ i_Rel (k + 4) u' v') v v1) u v1) ?_ I
    intro ln ls fc dl ru oc pc xb xs kd so im na sa la ga ce rg fr ys yb hS hR
    exact br_t h1 (zr_35 hS hR (br_t h1 ⟨rfl, zz_in hS hR⟩))
  by_cases h64 : 64 < v1
  · refine zz_el (P := fun u v => wpX_run (fun r u' => wpY_run (fun r' v' => r' = r ∧ i_Rel (k + 4) u' v') v v1) u v1) ?_ I
    intro ln ls fc dl ru oc pc xb xs kd so im na sa la ga ce rg fr ys yb hS hR
    exact br_f h1 (br_t h64 (zr_35 hS hR (br_f h1 (br_f (Int32.not_le.mpr h64) ⟨rfl, zz_in hS hR⟩))))
  obtain ⟨n, hn, e⟩ := nI_of2 (M := 64) (n := 64) (by decide) (fun z => h1 (Int32.lt_trans z (by decide))) (Int32.not_lt.mp h64)
  subst e
  have G := zr_go (k := k + 4) hn n 0 (by omega) u v I
  obtain ⟨ln1, ls1, fc1, dl1, ru1, oc1, pc1, xb1, xs1, kd1, so1, im1, na1, sa1, la1, ga1, ce1, rg1, fr1⟩ := u
  obtain ⟨yf1, yl1, yn1, ys1, yb1, yk1, yg1, ym1, yr1, yw1⟩ := v
  obtain ⟨r, u2, w2, I2, gX, gY⟩ := G
  exact br_f h1 (br_f h64 ⟨n + 1, gX _ (br_f h1 (br_t (Int32.not_lt.mp h64) ⟨n + 1, gY _ ⟨rfl, I2⟩⟩))⟩)
end
end
