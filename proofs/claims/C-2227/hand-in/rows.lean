section
theorem pk_us {f : Nat → Int32} {k : Nat} {x : Int32} : upd f k x k = x := if_pos rfl
theorem pk_un {f : Nat → Int32} {k j : Nat} {x : Int32} (h : j ≠ k) : upd f k x j = f j := if_neg h
theorem pk_sub {a b : Nat} (h : b ≤ a) : nI a - nI b = nI (a - b) := by
  obtain ⟨c, rfl⟩ : ∃ c, a = c + b := ⟨a - b, by omega⟩
  rw [← nI_add, Int32.add_sub_cancel, Nat.add_sub_cancel]
theorem pk_m1 (n : Nat) : nI (n + 1) + (-1) = nI n := by
  rw [← nI_1, Int32.add_assoc, show (1 : Int32) + (-1) = 0 from rfl, Int32.add_zero]
theorem pk_mul (a b : Nat) : nI a * nI b = nI (a * b) := (Int32.ofNat_mul a b).symm
theorem pk_div {a d : Nat} (ha : a < 2 ^ 31) (h0 : 0 < d) (hd : d < 2 ^ 31) : nI a / nI d = nI (a / d) := by
  apply Int32.toInt_inj.mp
  rw [lg_idiv_nonneg (by rw [nI_toInt ha]; omega) (by rw [nI_toInt hd]; omega), nI_toInt ha, nI_toInt hd, nI_toInt (Nat.lt_of_le_of_lt (Nat.div_le_self a d) ha)]
  first | rfl | exact (Int.natCast_ediv _ _).symm
theorem pk_rem {a d : Nat} (ha : a < 2 ^ 31) (h0 : 0 < d) (hd : d < 2 ^ 31) : nI a - nI a / nI d * nI d = nI (a % d) := by
  rw [pk_div ha h0 hd, pk_mul, pk_sub (Nat.div_mul_le_self a d)]
  exact congrArg nI (by have := Nat.div_add_mod' a d; omega)
theorem pk_ix (x : Int32) {n : Nat} (hn : n < 2 ^ 31) : x < 0 ∨ nI n ≤ x ∨ ∃ j : Nat, j < n ∧ x = nI j := by
  by_cases h : x < 0
  · exact Or.inl h
  · obtain ⟨j, hj, rfl⟩ := nI_of h
    by_cases h2 : j < n
    · exact Or.inr (Or.inr ⟨j, h2, rfl⟩)
    · exact Or.inr (Or.inl (nI_le (by omega) hj))
theorem pk_le {x y : Int32} {A B : Prop} (a b : Nat) (f : a ≤ b → A) (g : b < a → B) (hx : x = nI a := by rfl) (hy : y = nI b := by rfl) (ha : a < 2 ^ 31 := by omega) (hb : b < 2 ^ 31 := by omega) : (x ≤ y → A) ∧ (¬ x ≤ y → B) := by
  subst hx hy
  rw [nI_leI ha hb]
  exact ⟨f, fun z => g (by omega)⟩
theorem pk_lt {x y : Int32} {A B : Prop} (a b : Nat) (f : a < b → A) (g : b ≤ a → B) (hx : x = nI a := by rfl) (hy : y = nI b := by rfl) (ha : a < 2 ^ 31 := by omega) (hb : b < 2 ^ 31 := by omega) : (x < y → A) ∧ (¬ x < y → B) := by
  subst hx hy
  rw [nI_ltI ha hb]
  exact ⟨f, fun z => g (by omega)⟩
theorem pk_eq {x y : Int32} {A B : Prop} (a b : Nat) (f : a = b → A) (g : a ≠ b → B) (hx : x = nI a := by rfl) (hy : y = nI b := by rfl) (ha : a < 2 ^ 31 := by omega) (hb : b < 2 ^ 31 := by omega) : (x = y → A) ∧ (¬ x = y → B) := by
  subst hx hy
  rw [nI_eq ha hb]
  exact ⟨f, g⟩
theorem pk_in {x : Int32} (n N : Nat) (h : n < N) (hx : x = nI n := by rfl) (hN : N < 2 ^ 31 := by omega) : vp_in x N := by
  subst hx
  exact vp_in_nI h hN
theorem pk_cl {x : Int32} (n : Nat) (hx : x = nI n := by rfl) (h : n < 2 ^ 31 := by omega) : x.toNatClampNeg = n := by
  subst hx
  exact nI_clamp h
theorem pk_tn {n : Nat} (h : n < 2 ^ 32) : (nI n).toBitVec.toNat = n := Nat.mod_eq_of_lt h
theorem pk_and (x : Int32) {m : Int32} (k : Nat) (hm : m.toBitVec.toNat = 2 ^ k - 1) : x &&& m = nI (x.toBitVec.toNat % 2 ^ k) := by
  apply Int32.toBitVec_inj.mp
  apply BitVec.eq_of_toNat_eq
  rw [Int32.toBitVec_and, BitVec.toNat_and, hm, Nat.and_two_pow_sub_one_eq_mod]
  show _ = (BitVec.ofNat 32 _).toNat
  rw [BitVec.toNat_ofNat]
  exact (Nat.mod_eq_of_lt (Nat.lt_of_le_of_lt (Nat.mod_le _ _) x.toBitVec.isLt)).symm
theorem pk_andN {n : Nat} (h : n < 2 ^ 32) {m : Int32} (k : Nat) (hm : m.toBitVec.toNat = 2 ^ k - 1) : nI n &&& m = nI (n % 2 ^ k) := by
  rw [pk_and _ k hm, pk_tn h]
theorem pk_shl (a s : Int32) (k : Nat) (hs : (s.toBitVec.smod 32).toNat = k) : (a <<< s).toBitVec.toNat = a.toBitVec.toNat * 2 ^ k % 2 ^ 32 := by
  show (a.toBitVec <<< (s.toBitVec.smod 32).toNat).toNat = _
  rw [hs, BitVec.toNat_shiftLeft, Nat.shiftLeft_eq]
theorem pk_shlN {n : Nat} (s : Int32) (k : Nat) (hs : (s.toBitVec.smod 32).toNat = k) (h : n * 2 ^ k < 2 ^ 32) : nI n <<< s = nI (n * 2 ^ k) := by
  apply Int32.toBitVec_inj.mp
  apply BitVec.eq_of_toNat_eq
  have hn : n < 2 ^ 32 := Nat.lt_of_le_of_lt (Nat.le_mul_of_pos_right n (Nat.two_pow_pos k)) h
  rw [pk_shl _ _ k hs, pk_tn hn, pk_tn h, Nat.mod_eq_of_lt h]
theorem pk_shr (a s : Int32) (k : Nat) (hs : (s.toBitVec.smod 32).toNat = k) : (a >>> s).toInt = a.toInt >>> k := by
  show (a.toBitVec.sshiftRight (s.toBitVec.smod 32).toNat).toInt = _
  rw [hs, BitVec.toInt_sshiftRight]
  rfl
theorem pk_shrN {n : Nat} (h : n < 2 ^ 31) (s : Int32) (k : Nat) (hs : (s.toBitVec.smod 32).toNat = k) : nI n >>> s = nI (n / 2 ^ k) := by
  apply Int32.toInt_inj.mp
  have h2 : n / 2 ^ k ≤ n := Nat.div_le_self _ _
  rw [pk_shr _ _ k hs, nI_toInt h, nI_toInt (by omega), Int.shiftRight_eq_div_pow]
  rfl
end
section
/-! views: what a place is seen as, the representative of a cell, finer views; plain numbers -/
def oc_sA (l a : Nat) : Nat := if l = 0 then a else if l = 1 then a / 2 else 0
def oc_sB (l b : Nat) : Nat := if l = 0 then b else if l = 1 then b / 2 else if l = 2 then b / 3 else 0
def oc_sC (l c : Nat) : Nat := if l = 0 then c else if l = 1 then c / 2 else if l = 2 then c / 4 else 0
def oc_fl (w p : Nat) : Nat := 48 * oc_sA (w / 16) (p / 48) + 8 * oc_sB (w / 4 % 4) (p / 8 % 6) + oc_sC (w % 4) (p % 8)
def oc_bA (l : Nat) : Nat := if l = 2 then 0 else l + 1
def oc_bB (l : Nat) : Nat := if l = 3 then 0 else l + 1
def oc_bC (l : Nat) : Nat := if l = 3 then 0 else 2 ^ l
def oc_rp (f d : Nat) : Nat := 48 * (oc_bA (f / 16) * (d / 48)) + 8 * (oc_bB (f / 4 % 4) * (d / 8 % 6)) + oc_bC (f % 4) * (d % 8)
def oc_fi (f w : Nat) : Prop := f / 16 ≤ w / 16 ∧ f % 4 ≤ w % 4 ∧ f / 4 % 4 ≤ w / 4 % 4 ∧ ¬ (f / 4 % 4 = 1 ∧ w / 4 % 4 = 2)
/-- a coordinate divided by k, or 0 -/
def oc_co (v k : Nat) : Nat := if 0 < k then v / k else 0
theorem oc_sA_le (l a : Nat) : oc_sA l a ≤ a := by unfold oc_sA; (repeat' split) <;> omega
theorem oc_sB_le (l a : Nat) : oc_sB l a ≤ a := by unfold oc_sB; (repeat' split) <;> omega
theorem oc_sC_le (l a : Nat) : oc_sC l a ≤ a := by unfold oc_sC; (repeat' split) <;> omega
theorem oc_coA {l : Nat} (hl : l < 3) (a : Nat) : oc_co a (oc_bA l) = oc_sA l a := by
  match l, hl with
  | 0, _ => exact Nat.div_one a
  | 1, _ => rfl
  | 2, _ => rfl
theorem oc_coB {l : Nat} (hl : l < 4) (a : Nat) : oc_co a (oc_bB l) = oc_sB l a := by
  match l, hl with
  | 0, _ => exact Nat.div_one a
  | 1, _ => rfl
  | 2, _ => rfl
  | 3, _ => rfl
theorem oc_coC {l : Nat} (hl : l < 4) (a : Nat) : oc_co a (oc_bC l) = oc_sC l a := by
  match l, hl with
  | 0, _ => exact Nat.div_one a
  | 1, _ => rfl
  | 2, _ => rfl
  | 3, _ => rfl
theorem oc_dA : ∀ f, f < 3 → ∀ w, w < 3 → ∀ a, a < 4 → f ≤ w → oc_sA w (oc_bA f * oc_sA f a) = oc_sA w a ∧ oc_bA f * oc_sA f a ≤ a := by decide +kernel
def oc_kB (f w b : Nat) : Bool := decide (oc_sB w (oc_bB f * oc_sB f b) = oc_sB w b) || (decide (w < f) || decide (f = 1 ∧ w = 2))
theorem oc_dB1 : ∀ f, f < 4 → ∀ w, w < 4 → ∀ b, b < 6 → oc_kB f w b = true := by decide +kernel
theorem oc_dB2 : ∀ f, f < 4 → ∀ b, b < 6 → oc_bB f * oc_sB f b ≤ b := by decide +kernel
theorem oc_dB (f : Nat) (hf : f < 4) (w : Nat) (hw : w < 4) (b : Nat) (hb : b < 6) (h : f ≤ w ∧ ¬ (f = 1 ∧ w = 2)) : oc_sB w (oc_bB f * oc_sB f b) = oc_sB w b ∧ oc_bB f * oc_sB f b ≤ b := by
  refine ⟨?_, oc_dB2 f hf b hb⟩
  have k := oc_dB1 f hf w hw b hb
  unfold oc_kB at k
  rw [Bool.or_eq_true, Bool.or_eq_true, decide_eq_true_iff, decide_eq_true_iff, decide_eq_true_iff] at k
  rcases k with k | k
  · exact k
  · omega
theorem oc_dC : ∀ f, f < 4 → ∀ w, w < 4 → ∀ c, c < 8 → f ≤ w → oc_sC w (oc_bC f * oc_sC f c) = oc_sC w c ∧ oc_bC f * oc_sC f c ≤ c := by decide +kernel
theorem oc_nA : ∀ f, f < 3 → ∀ w, w < 3 → ¬ f ≤ w → ∃ a, a < 4 ∧ ∃ b, b < a ∧ oc_sA f b = oc_sA f a ∧ ¬ oc_sA w b = oc_sA w a := by decide +kernel
theorem oc_nB : ∀ f, f < 4 → ∀ w, w < 4 → ¬ (f ≤ w ∧ ¬ (f = 1 ∧ w = 2)) → ∃ a, a < 6 ∧ ∃ b, b < a ∧ oc_sB f b = oc_sB f a ∧ ¬ oc_sB w b = oc_sB w a := by decide +kernel
theorem oc_nC : ∀ f, f < 4 → ∀ w, w < 4 → ¬ f ≤ w → ∃ a, a < 8 ∧ ∃ b, b < a ∧ oc_sC f b = oc_sC f a ∧ ¬ oc_sC w b = oc_sC w a := by decide +kernel
theorem oc_dc {A B C : Nat} (hB : B < 6) (hC : C < 8) : (48 * A + 8 * B + C) / 48 = A ∧ (48 * A + 8 * B + C) / 8 % 6 = B ∧ (48 * A + 8 * B + C) % 8 = C :=
  ⟨by omega, by omega, by omega⟩
theorem oc_fl_lt (w : Nat) {p : Nat} (hp : p < 192) : oc_fl w p < 192 := by
  have a1 := oc_sA_le (w / 16) (p / 48)
  have a2 := oc_sB_le (w / 4 % 4) (p / 8 % 6)
  have a3 := oc_sC_le (w % 4) (p % 8)
  unfold oc_fl
  omega
theorem oc_fl0 {p : Nat} (hp : p < 192) : oc_fl 0 p = p := by
  show 48 * (p / 48) + 8 * (p / 8 % 6) + p % 8 = p
  omega
theorem oc_rpf {f w p : Nat} (hf : f < 48) (hw : w < 48) (hp : p < 192) (h : oc_fi f w) : oc_fl w (oc_rp f (oc_fl f p)) = oc_fl w p := by
  have a1 := oc_sA_le (f / 16) (p / 48)
  have a2 := oc_sB_le (f / 4 % 4) (p / 8 % 6)
  have a3 := oc_sC_le (f % 4) (p % 8)
  obtain ⟨d1, d2, d3⟩ := oc_dc (A := oc_sA (f / 16) (p / 48)) (B := oc_sB (f / 4 % 4) (p / 8 % 6)) (C := oc_sC (f % 4) (p % 8)) (by omega) (by omega)
  obtain ⟨h1, h2, h3, h4⟩ := h
  obtain ⟨x1, y1⟩ := oc_dA (f / 16) (by omega) (w / 16) (by omega) (p / 48) (by omega) h1
  obtain ⟨x2, y2⟩ := oc_dB (f / 4 % 4) (by omega) (w / 4 % 4) (by omega) (p / 8 % 6) (by omega) ⟨h3, h4⟩
  obtain ⟨x3, y3⟩ := oc_dC (f % 4) (by omega) (w % 4) (by omega) (p % 8) (by omega) h2
  have er : oc_rp f (oc_fl f p) = 48 * (oc_bA (f / 16) * oc_sA (f / 16) (p / 48)) + 8 * (oc_bB (f / 4 % 4) * oc_sB (f / 4 % 4) (p / 8 % 6)) + oc_bC (f % 4) * oc_sC (f % 4) (p % 8) := by
    unfold oc_rp oc_fl
    rw [d1, d2, d3]
  obtain ⟨g1, g2, g3⟩ := oc_dc (A := oc_bA (f / 16) * oc_sA (f / 16) (p / 48)) (B := oc_bB (f / 4 % 4) * oc_sB (f / 4 % 4) (p / 8 % 6)) (C := oc_bC (f % 4) * oc_sC (f % 4) (p % 8)) (by omega) (by omega)
  rw [er]
  unfold oc_fl
  rw [g1, g2, g3, x1, x2, x3]
theorem oc_fi_eq {f w p q : Nat} (hf : f < 48) (hw : w < 48) (hp : p < 192) (hq : q < 192) (h : oc_fi f w) (e : oc_fl f q = oc_fl f p) : oc_fl w q = oc_fl w p := by
  rw [← oc_rpf hf hw hq h, ← oc_rpf hf hw hp h, e]
theorem oc_s0 (l : Nat) : oc_sA l 0 = 0 ∧ oc_sB l 0 = 0 ∧ oc_sC l 0 = 0 := by
  have a := oc_sA_le l 0
  have b := oc_sB_le l 0
  have c := oc_sC_le l 0
  omega
theorem oc_flA (w a : Nat) : oc_fl w (48 * a) = 48 * oc_sA (w / 16) a := by
  have e1 : 48 * a / 48 = a := by omega
  have e2 : 48 * a / 8 % 6 = 0 := by omega
  have e3 : 48 * a % 8 = 0 := by omega
  unfold oc_fl
  rw [e1, e2, e3, (oc_s0 _).2.1, (oc_s0 _).2.2]
  omega
theorem oc_flB (w : Nat) {a : Nat} (h : a < 6) : oc_fl w (8 * a) = 8 * oc_sB (w / 4 % 4) a := by
  have e1 : 8 * a / 48 = 0 := by omega
  have e2 : 8 * a / 8 % 6 = a := by omega
  have e3 : 8 * a % 8 = 0 := by omega
  unfold oc_fl
  rw [e1, e2, e3, (oc_s0 _).1, (oc_s0 _).2.2]
  omega
theorem oc_flC (w : Nat) {a : Nat} (h : a < 8) : oc_fl w a = oc_sC (w % 4) a := by
  have e1 : a / 48 = 0 := by omega
  have e2 : a / 8 % 6 = 0 := by omega
  have e3 : a % 8 = a := by omega
  unfold oc_fl
  rw [e1, e2, e3, (oc_s0 _).1, (oc_s0 _).2.1]
  omega
theorem oc_nfi {f w : Nat} (hf : f < 48) (hw : w < 48) (h : ¬ oc_fi f w) : ∃ p, p < 192 ∧ ∃ q, q < p ∧ oc_fl f q = oc_fl f p ∧ ¬ oc_fl w q = oc_fl w p := by
  by_cases h1 : f / 16 ≤ w / 16
  · by_cases h2 : f % 4 ≤ w % 4
    · have h3 : ¬ (f / 4 % 4 ≤ w / 4 % 4 ∧ ¬ (f / 4 % 4 = 1 ∧ w / 4 % 4 = 2)) := fun z => h ⟨h1, h2, z⟩
      obtain ⟨a, ha, b, hb, e, ne⟩ := oc_nB (f / 4 % 4) (by omega) (w / 4 % 4) (by omega) h3
      refine ⟨8 * a, by omega, 8 * b, by omega, ?_, ?_⟩
      · rw [oc_flB f ha, oc_flB f (by omega), e]
      · rw [oc_flB w ha, oc_flB w (by omega)]
        omega
    · obtain ⟨a, ha, b, hb, e, ne⟩ := oc_nC (f % 4) (by omega) (w % 4) (by omega) h2
      refine ⟨a, by omega, b, by omega, ?_, ?_⟩
      · rw [oc_flC f ha, oc_flC f (by omega), e]
      · rw [oc_flC w ha, oc_flC w (by omega)]
        exact ne
  · obtain ⟨a, ha, b, hb, e, ne⟩ := oc_nA (f / 16) (by omega) (w / 16) (by omega) h1
    refine ⟨48 * a, by omega, 48 * b, by omega, ?_, ?_⟩
    · rw [oc_flA f, oc_flA f, e]
    · rw [oc_flA w, oc_flA w]
      omega
end
section
/-! counts, sums, least and most over the facts that a test picks; full cells -/
def oc_mn (x y : Int32) : Int32 := if x < y then x else y
def oc_mx (x y : Int32) : Int32 := if y < x then x else y
theorem oc_mnI (x y : Int32) : (oc_mn x y).toInt = min x.toInt y.toInt := by
  unfold oc_mn
  split
  · rename_i h
    rw [Int32.lt_iff_toInt_lt] at h
    omega
  · rename_i h
    rw [Int32.lt_iff_toInt_lt] at h
    omega
theorem oc_mxI (x y : Int32) : (oc_mx x y).toInt = max x.toInt y.toInt := by
  unfold oc_mx
  split
  · rename_i h
    rw [Int32.lt_iff_toInt_lt] at h
    omega
  · rename_i h
    rw [Int32.lt_iff_toInt_lt] at h
    omega
def oc_ct (q : Nat → Bool) : Nat → Nat
  | 0 => 0
  | n + 1 => if q n = true then oc_ct q n + 1 else oc_ct q n
def oc_sm (q : Nat → Bool) (M : Nat → Int32) : Nat → Int32
  | 0 => 0
  | n + 1 => if q n = true then oc_sm q M n + M n else oc_sm q M n
def oc_lo (q : Nat → Bool) (M : Nat → Int32) : Nat → Int32
  | 0 => 10000
  | n + 1 => if q n = true then oc_mn (M n) (oc_lo q M n) else oc_lo q M n
def oc_hi (q : Nat → Bool) (M : Nat → Int32) : Nat → Int32
  | 0 => -10000
  | n + 1 => if q n = true then oc_mx (M n) (oc_hi q M n) else oc_hi q M n
/-- the four numbers of a cell agree -/
def oc_E4 (q q' : Nat → Bool) (M M' : Nat → Int32) (n : Nat) : Prop :=
  oc_ct q n = oc_ct q' n ∧ oc_sm q M n = oc_sm q' M' n ∧ oc_lo q M n = oc_lo q' M' n ∧ oc_hi q M n = oc_hi q' M' n
theorem oc_cg {q q' : Nat → Bool} {M M' : Nat → Int32} : ∀ n : Nat, (∀ j, j < n → q j = q' j ∧ M j = M' j) → oc_E4 q q' M M' n := by
  intro n
  induction n with
  | zero => exact fun _ => ⟨rfl, rfl, rfl, rfl⟩
  | succ n ih =>
    intro h
    obtain ⟨a, b, c, d⟩ := ih (fun j hj => h j (by omega))
    obtain ⟨e, f⟩ := h n (by omega)
    refine ⟨?_, ?_, ?_, ?_⟩
    · show (if q n = true then _ else _) = (if q' n = true then _ else _)
      rw [e, a]
    · show (if q n = true then _ else _) = (if q' n = true then _ else _)
      rw [e, b, f]
    · show (if q n = true then _ else _) = (if q' n = true then _ else _)
      rw [e, c, f]
    · show (if q n = true then _ else _) = (if q' n = true then _ else _)
      rw [e, d, f]
theorem oc_ct_le (q : Nat → Bool) : ∀ n : Nat, oc_ct q n ≤ n := by
  intro n
  induction n with
  | zero => exact Nat.le_refl 0
  | succ n ih =>
    show (if q n = true then oc_ct q n + 1 else oc_ct q n) ≤ n + 1
    split <;> omega
theorem oc_ct_0 {q : Nat → Bool} : ∀ n : Nat, oc_ct q n = 0 → ∀ j, j < n → q j = false := by
  intro n
  induction n with
  | zero => exact fun _ j hj => absurd hj (Nat.not_lt_zero j)
  | succ n ih =>
    intro h j hj
    have h' : (if q n = true then oc_ct q n + 1 else oc_ct q n) = 0 := h
    by_cases z : q n = true
    · rw [if_pos z] at h'
      omega
    · rw [if_neg z] at h'
      by_cases e : j = n
      · rw [e]
        exact Bool.eq_false_iff.mpr z
      · exact ih h' j (by omega)
theorem oc_ct_pos {q : Nat → Bool} : ∀ n : Nat, 0 < oc_ct q n → ∃ j, j < n ∧ q j = true := by
  intro n
  induction n with
  | zero => exact fun h => absurd h (Nat.lt_irrefl 0)
  | succ n ih =>
    intro h
    have h' : 0 < (if q n = true then oc_ct q n + 1 else oc_ct q n) := h
    by_cases z : q n = true
    · exact ⟨n, by omega, z⟩
    · rw [if_neg z] at h'
      obtain ⟨j, hj, e⟩ := ih h'
      exact ⟨j, by omega, e⟩
/-- the step from n to n + 1 facts -/
theorem oc_st1 {q : Nat → Bool} {M : Nat → Int32} {n : Nat} (h : q n = true) : oc_ct q (n + 1) = oc_ct q n + 1 ∧ oc_sm q M (n + 1) = oc_sm q M n + M n ∧ oc_lo q M (n + 1) = oc_mn (M n) (oc_lo q M n) ∧ oc_hi q M (n + 1) = oc_mx (M n) (oc_hi q M n) :=
  ⟨if_pos h, if_pos h, if_pos h, if_pos h⟩
theorem oc_st0 {q : Nat → Bool} {M : Nat → Int32} {n : Nat} (h : ¬ q n = true) : oc_ct q (n + 1) = oc_ct q n ∧ oc_sm q M (n + 1) = oc_sm q M n ∧ oc_lo q M (n + 1) = oc_lo q M n ∧ oc_hi q M (n + 1) = oc_hi q M n :=
  ⟨if_neg h, if_neg h, if_neg h, if_neg h⟩
/-- two tests that never hold both: the numbers of the one and the numbers of the other -/
theorem oc_un {q q1 q2 : Nat → Bool} {M : Nat → Int32} : ∀ n : Nat, (∀ j, j < n → (q j = true ↔ (q1 j = true ∨ q2 j = true)) ∧ ¬ (q1 j = true ∧ q2 j = true)) →
    oc_ct q n = oc_ct q2 n + oc_ct q1 n ∧ oc_sm q M n = oc_sm q2 M n + oc_sm q1 M n ∧ oc_lo q M n = oc_mn (oc_lo q1 M n) (oc_lo q2 M n) ∧ oc_hi q M n = oc_mx (oc_hi q1 M n) (oc_hi q2 M n) := by
  intro n
  induction n with
  | zero => exact fun _ => ⟨rfl, (by decide : (0 : Int32) = 0 + 0), (by decide : (10000 : Int32) = oc_mn 10000 10000), (by decide : (-10000 : Int32) = oc_mx (-10000) (-10000))⟩
  | succ n ih =>
    intro h
    obtain ⟨a, b, c, d⟩ := ih (fun j hj => h j (by omega))
    obtain ⟨e, f⟩ := h n (by omega)
    by_cases h1 : q1 n = true
    · have h2 : ¬ q2 n = true := fun z => f ⟨h1, z⟩
      have h0 : q n = true := e.mpr (Or.inl h1)
      obtain ⟨a0, b0, c0, d0⟩ := oc_st1 (M := M) h0
      obtain ⟨a1, b1, c1, d1⟩ := oc_st1 (M := M) h1
      obtain ⟨a2, b2, c2, d2⟩ := oc_st0 (M := M) h2
      rw [a0, b0, c0, d0, a1, b1, c1, d1, a2, b2, c2, d2, a, b, c, d]
      refine ⟨by omega, by rw [Int32.add_assoc], ?_, ?_⟩
      · apply Int32.toInt_inj.mp
        simp only [oc_mnI]
        omega
      · apply Int32.toInt_inj.mp
        simp only [oc_mxI]
        omega
    · by_cases h2 : q2 n = true
      · have h0 : q n = true := e.mpr (Or.inr h2)
        obtain ⟨a0, b0, c0, d0⟩ := oc_st1 (M := M) h0
        obtain ⟨a1, b1, c1, d1⟩ := oc_st0 (M := M) h1
        obtain ⟨a2, b2, c2, d2⟩ := oc_st1 (M := M) h2
        rw [a0, b0, c0, d0, a1, b1, c1, d1, a2, b2, c2, d2, a, b, c, d]
        refine ⟨by omega, by rw [Int32.add_assoc, Int32.add_assoc, Int32.add_comm (M n)], ?_, ?_⟩
        · apply Int32.toInt_inj.mp
          simp only [oc_mnI]
          omega
        · apply Int32.toInt_inj.mp
          simp only [oc_mxI]
          omega
      · have h0 : ¬ q n = true := fun z => (e.mp z).elim h1 h2
        obtain ⟨a0, b0, c0, d0⟩ := oc_st0 (M := M) h0
        obtain ⟨a1, b1, c1, d1⟩ := oc_st0 (M := M) h1
        obtain ⟨a2, b2, c2, d2⟩ := oc_st0 (M := M) h2
        rw [a0, b0, c0, d0, a1, b1, c1, d1, a2, b2, c2, d2]
        exact ⟨a, b, c, d⟩
theorem oc_none {q : Nat → Bool} {M : Nat → Int32} : ∀ n : Nat, (∀ j, j < n → ¬ q j = true) → oc_ct q n = 0 ∧ oc_sm q M n = 0 ∧ oc_lo q M n = 10000 ∧ oc_hi q M n = -10000 := by
  intro n
  induction n with
  | zero => exact fun _ => ⟨rfl, rfl, rfl, rfl⟩
  | succ n ih =>
    intro h
    obtain ⟨a, b, c, d⟩ := ih (fun j hj => h j (by omega))
    obtain ⟨a0, b0, c0, d0⟩ := oc_st0 (M := M) (h n (by omega))
    exact ⟨a0.trans a, b0.trans b, c0.trans c, d0.trans d⟩
/-- the number of full cells below N -/
def oc_nf (g : Nat → Nat) : Nat → Nat
  | 0 => 0
  | n + 1 => if g n = 0 then oc_nf g n else oc_nf g n + 1
theorem oc_nf_cg {g g' : Nat → Nat} : ∀ n : Nat, (∀ c, c < n → g c = g' c) → oc_nf g n = oc_nf g' n := by
  intro n
  induction n with
  | zero => exact fun _ => rfl
  | succ n ih =>
    intro h
    show (if g n = 0 then _ else _) = (if g' n = 0 then _ else _)
    rw [h n (by omega), ih (fun c hc => h c (by omega))]
theorem oc_nf_le (g : Nat → Nat) : ∀ n : Nat, oc_nf g n ≤ n := by
  intro n
  induction n with
  | zero => exact Nat.le_refl 0
  | succ n ih =>
    show (if g n = 0 then oc_nf g n else oc_nf g n + 1) ≤ n + 1
    split <;> omega
theorem oc_nf_0 {g : Nat → Nat} : ∀ n : Nat, (∀ c, c < n → g c = 0) → oc_nf g n = 0 := by
  intro n
  induction n with
  | zero => exact fun _ => rfl
  | succ n ih =>
    intro h
    exact (if_pos (h n (by omega))).trans (ih (fun c hc => h c (by omega)))
theorem oc_nf_up {g g' : Nat → Nat} {c : Nat} (h0 : g' c ≠ 0) : ∀ n : Nat, c < n → (∀ d, d < n → d ≠ c → g' d = g d) → oc_nf g' n = oc_nf g n + (if g c = 0 then 1 else 0) := by
  intro n
  induction n with
  | zero => exact fun h => absurd h (Nat.not_lt_zero c)
  | succ n ih =>
    intro hc h
    show (if g' n = 0 then oc_nf g' n else oc_nf g' n + 1) = (if g n = 0 then oc_nf g n else oc_nf g n + 1) + (if g c = 0 then 1 else 0)
    by_cases e : c = n
    · subst e
      rw [if_neg h0, oc_nf_cg c (fun d hd => h d (by omega) (by omega))]
      split <;> omega
    · rw [h n (by omega) (fun z => e z.symm), ih (by omega) (fun d hd => h d (by omega))]
      split <;> omega
/-- the test of a view: fact j falls into cell c -/
def oc_q (w : Nat) (P : Nat → Int32) (c j : Nat) : Bool := decide (oc_fl w (P j).toNatClampNeg = c)
theorem oc_q_t {w : Nat} {P : Nat → Int32} {c j : Nat} : oc_q w P c j = true ↔ oc_fl w (P j).toNatClampNeg = c := decide_eq_true_iff
/-- the next full cell from i on -/
def oc_Nx (g : Nat → Nat) (i : Nat) (r : Int32) : Prop :=
  (r = -2 ∧ ∀ c, i ≤ c → c < 192 → g c = 0) ∨ (∃ c, r = nI c ∧ i ≤ c ∧ c < 192 ∧ 0 < g c ∧ ∀ d, i ≤ d → d < c → g d = 0)
theorem oc_Nx_un {g : Nat → Nat} {i : Nat} {r r' : Int32} (h : oc_Nx g i r) (h' : oc_Nx g i r') : r' = r := by
  rcases h with ⟨e, h⟩ | ⟨c, e, h1, h2, h3, h4⟩
  · rcases h' with ⟨e', _⟩ | ⟨c', e', h1', h2', h3', h4'⟩
    · rw [e, e']
    · have := h c' h1' h2'
      omega
  · rcases h' with ⟨e', h'⟩ | ⟨c', e', h1', h2', h3', h4'⟩
    · have := h' c h1 h2
      omega
    · by_cases z : c < c'
      · have := h4' c h1 z
        omega
      · by_cases z' : c' < c
        · have := h4 c' h1' z'
          omega
        · rw [e, e', show c' = c from by omega]
theorem oc_Nx_skip {g : Nat → Nat} {i : Nat} {r : Int32} (h : oc_Nx g i r) (hz : g i = 0) : oc_Nx g (i + 1) r := by
  rcases h with ⟨e, h⟩ | ⟨c, e, h1, h2, h3, h4⟩
  · exact Or.inl ⟨e, fun c hc => h c (by omega)⟩
  · have : c ≠ i := fun z => by rw [z, hz] at h3; omega
    exact Or.inr ⟨c, e, by omega, h2, h3, fun d hd => h4 d (by omega)⟩
theorem oc_Nx_here {g : Nat → Nat} {i : Nat} {r : Int32} (h : oc_Nx g i r) (hi : i < 192) (hz : 0 < g i) : r = nI i := by
  rcases h with ⟨e, h⟩ | ⟨c, e, h1, h2, h3, h4⟩
  · have := h i (Nat.le_refl i) hi
    omega
  · by_cases z : i < c
    · have := h4 i (Nat.le_refl i) z
      omega
    · rw [e, show c = i from by omega]
theorem oc_Nx_end {g : Nat → Nat} {r : Int32} (h : oc_Nx g 192 r) : r = -2 := by
  rcases h with ⟨e, _⟩ | ⟨c, e, h1, h2, _⟩
  · exact e
  · omega
/-- best cell, cells above a bound, views with a number of full cells: what stands after i steps -/
def oc_bs (g : Nat → Nat) (s : Nat → Int32) : Nat → Int32 × Int32
  | 0 => (-2, 0)
  | i + 1 => if g i = 0 then oc_bs g s i else if (oc_bs g s i).1 < 0 then (nI i, s i) else if s i ≤ (oc_bs g s i).2 then oc_bs g s i else (nI i, s i)
def oc_hv (g : Nat → Nat) (s : Nat → Int32) (b : Int32) : Nat → Int32
  | 0 => 0
  | i + 1 => if g i = 0 then oc_hv g s b i else if s i < b then oc_hv g s b i else oc_hv g s b i + 1
def oc_vw (f : Nat → Nat) (x : Int32) : Nat → Int32
  | 0 => 0
  | i + 1 => if nI (f i) = x then oc_vw f x i + 1 else oc_vw f x i
theorem oc_bs_i (g : Nat → Nat) (s : Nat → Int32) : ∀ i : Nat, i ≤ 192 → (oc_bs g s i = (-2, 0) ∨ ∃ c, c < i ∧ oc_bs g s i = (nI c, s c)) := by
  intro i
  induction i with
  | zero => exact fun _ => Or.inl rfl
  | succ i ih =>
    intro hi
    have k : oc_bs g s i = (-2, 0) ∨ ∃ c, c < i + 1 ∧ oc_bs g s i = (nI c, s c) := by
      rcases ih (by omega) with h | ⟨c, hc, h⟩
      · exact Or.inl h
      · exact Or.inr ⟨c, by omega, h⟩
    show (if g i = 0 then _ else _) = _ ∨ ∃ c, c < i + 1 ∧ (if g i = 0 then _ else _) = _
    split
    · exact k
    · split
      · exact Or.inr ⟨i, by omega, rfl⟩
      · split
        · exact k
        · exact Or.inr ⟨i, by omega, rfl⟩
end
section
/-! slots of the component: what a slot holds, enter, wipe -/
def oc_Sl (s : Nat) (gc : Nat → Nat) (gs gl gh : Nat → Int32) (F C S L H : Nat → Int32) : Prop :=
  F s = nI (oc_nf gc 192) ∧ ∀ c, c < 192 → C (192 * s + c) = nI (gc c) ∧ S (192 * s + c) = gs c ∧ L (192 * s + c) = gl c ∧ H (192 * s + c) = gh c
/-- slot s is the same -/
def oc_Sm (s : Nat) (F C S L H F' C' S' L' H' : Nat → Int32) : Prop :=
  F' s = F s ∧ ∀ c, c < 192 → C' (192 * s + c) = C (192 * s + c) ∧ S' (192 * s + c) = S (192 * s + c) ∧ L' (192 * s + c) = L (192 * s + c) ∧ H' (192 * s + c) = H (192 * s + c)
section
variable {F C S L H F' C' S' L' H' F'' C'' S'' L'' H'' : Nat → Int32}
theorem oc_Sm_rf (s : Nat) : oc_Sm s F C S L H F C S L H := ⟨rfl, fun _ _ => ⟨rfl, rfl, rfl, rfl⟩⟩
theorem oc_Sm_tr {s : Nat} (h : oc_Sm s F C S L H F' C' S' L' H') (h' : oc_Sm s F' C' S' L' H' F'' C'' S'' L'' H'') : oc_Sm s F C S L H F'' C'' S'' L'' H'' := by
  refine ⟨h'.1.trans h.1, fun c hc => ?_⟩
  obtain ⟨a, b, d, e⟩ := h.2 c hc
  obtain ⟨a', b', d', e'⟩ := h'.2 c hc
  exact ⟨a'.trans a, b'.trans b, d'.trans d, e'.trans e⟩
theorem oc_Sl_Sm {s : Nat} {gc : Nat → Nat} {gs gl gh : Nat → Int32} (h : oc_Sl s gc gs gl gh F C S L H) (h' : oc_Sm s F C S L H F' C' S' L' H') : oc_Sl s gc gs gl gh F' C' S' L' H' := by
  refine ⟨h'.1.trans h.1, fun c hc => ?_⟩
  obtain ⟨a, b, d, e⟩ := h.2 c hc
  obtain ⟨a', b', d', e'⟩ := h'.2 c hc
  exact ⟨a'.trans a, b'.trans b, d'.trans d, e'.trans e⟩
theorem oc_Sl_cg {s : Nat} {gc gc' : Nat → Nat} {gs gl gh gs' gl' gh' : Nat → Int32} (h : oc_Sl s gc gs gl gh F C S L H) (e : ∀ c, c < 192 → gc c = gc' c ∧ gs c = gs' c ∧ gl c = gl' c ∧ gh c = gh' c) : oc_Sl s gc' gs' gl' gh' F C S L H := by
  refine ⟨h.1.trans (congrArg nI (oc_nf_cg 192 (fun c hc => (e c hc).1))), fun c hc => ?_⟩
  obtain ⟨a, b, d, f⟩ := h.2 c hc
  obtain ⟨a', b', d', f'⟩ := e c hc
  exact ⟨a.trans (congrArg nI a'), b.trans b', d.trans d', f.trans f'⟩
end
theorem oc_ix {s c s' c' : Nat} (hc : c < 192) (hc' : c' < 192) (h : s' ≠ s) : 192 * s' + c' ≠ 192 * s + c := by omega
section
variable {post : SX → Prop} {fs fk : Int32} {P M V F U C S L H : Nat → Int32}
theorem oc_e86 {h z : Int32} {a : Nat} (ha : a < 960) (K : post (fs, fk, P, M, V, F, U, C, S, upd L a z, upd H a (oc_mx h (H a)))) :
    wX_enter_86 post h (nI a) z (nI a) fs fk P M V F U C S L H := by
  have hv : vp_in (nI a) 960 := vp_in_nI ha (by decide)
  have hc : (nI a).toNatClampNeg = a := nI_clamp (by omega)
  unfold wX_enter_86
  rw [hc]
  refine ⟨hv, nm_e ⟨hv, br_c (fun q => ⟨hv, hv, nm_e ?_⟩) (fun q => ⟨hv, nm_e ?_⟩)⟩⟩
  · rw [oc_mx, if_neg (Int32.not_lt.mpr q)] at K
    exact K
  · rw [oc_mx, if_pos (Int32.not_le.mp q)] at K
    exact K
theorem oc_e31 {m t l h z0 z1 : Int32} {a s : Nat} (ha : a < 960) (hs : s < 5) (K : post (fs, fk, P, M, V, upd F s (z1 + z0), U, upd C a (C a + m), upd S a (S a + t), upd L a (oc_mn l (L a)), upd H a (oc_mx h (H a)))) :
    wX_enter_31 post m t l h (nI a) z0 z1 (nI s) fs fk P M V F U C S L H := by
  have hv : vp_in (nI a) 960 := vp_in_nI ha (by decide)
  have hw : vp_in (nI s) 5 := vp_in_nI hs (by decide)
  have hc : (nI a).toNatClampNeg = a := nI_clamp (by omega)
  have hd : (nI s).toNatClampNeg = s := nI_clamp (by omega)
  unfold wX_enter_31
  rw [hc, hd]
  refine ⟨hw, nm_e ⟨hv, hv, nm_e ⟨hv, hv, nm_e ⟨hv, br_c (fun q => ⟨hv, oc_e86 ha ?_⟩) (fun q => oc_e86 ha ?_)⟩⟩⟩⟩
  · rw [oc_mn, if_neg (Int32.not_lt.mpr q)] at K
    exact K
  · rw [oc_mn, if_pos (Int32.not_le.mp q)] at K
    exact K
theorem oc_en1 {m t l h : Int32} {s c : Nat} (hs : s < 5) (hc : c < 192) (K : post (fs, fk, P, M, V, upd F s (F s + (if C (192 * s + c) = 0 then 1 else 0)), U, upd C (192 * s + c) (C (192 * s + c) + m), upd S (192 * s + c) (S (192 * s + c) + t), upd L (192 * s + c) (oc_mn l (L (192 * s + c))), upd H (192 * s + c) (oc_mx h (H (192 * s + c))))) :
    wpX_enter post (fs, fk, P, M, V, F, U, C, S, L, H) (nI s) (nI c) m t l h := by
  have ha : 192 * s + c < 960 := by omega
  have hv : vp_in (nI (192 * s + c)) 960 := vp_in_nI ha (by decide)
  have hw : vp_in (nI s) 5 := vp_in_nI hs (by decide)
  have hx : (192 : Int32) * nI s + nI c = nI (192 * s + c) := by
    rw [show (192 : Int32) * nI s = nI (192 * s) from pk_mul 192 s, nI_add]
  have e1 : (nI (192 * s + c)).toNatClampNeg = 192 * s + c := nI_clamp (by omega)
  have e2 : (nI s).toNatClampNeg = s := nI_clamp (by omega)
  unfold wpX_enter
  refine nm_r hx ⟨hw, hv, ?_⟩
  rw [e1, e2]
  refine br_c (fun q => oc_e31 ha hs ?_) (fun q => oc_e31 ha hs ?_)
  · rw [if_pos q] at K
    exact K
  · rw [if_neg q] at K
    exact K
theorem oc_enter {s c m : Nat} {m' t l h : Int32} {gc gc' : Nat → Nat} {gs gl gh gs' gl' gh' : Nat → Int32} (hs : s < 5) (hc : c < 192) (h0 : 0 < m) (hb : gc c + m < 2 ^ 31)
    (hG : oc_Sl s gc gs gl gh F C S L H) (em : m' = nI m)
    (e1 : gc' c = gc c + m ∧ gs' c = gs c + t ∧ gl' c = oc_mn l (gl c) ∧ gh' c = oc_mx h (gh c))
    (ne : ∀ d, d < 192 → d ≠ c → gc' d = gc d ∧ gs' d = gs d ∧ gl' d = gl d ∧ gh' d = gh d)
    (K : ∀ F' C' S' L' H' : Nat → Int32, oc_Sl s gc' gs' gl' gh' F' C' S' L' H' → (∀ s', s' ≠ s → oc_Sm s' F C S L H F' C' S' L' H') → post (fs, fk, P, M, V, F', U, C', S', L', H')) :
    wpX_enter post (fs, fk, P, M, V, F, U, C, S, L, H) (nI s) (nI c) m' t l h := by
  subst em
  refine oc_en1 hs hc (K _ _ _ _ _ ?_ ?_)
  · obtain ⟨x1, x2, x3, x4⟩ := e1
    obtain ⟨y1, y2, y3, y4⟩ := hG.2 c hc
    refine ⟨?_, fun d hd => ?_⟩
    · rw [pk_us, hG.1, y1, oc_nf_up (g := gc) (g' := gc') (c := c) (by omega) 192 hc (fun d hd hn => (ne d hd hn).1)]
      by_cases z : gc c = 0
      · rw [z, if_pos rfl, if_pos nI_0, nI_1]
      · rw [if_neg z, if_neg (nI_ne0 (by omega) (by omega)), Int32.add_zero, Nat.add_zero]
    · by_cases e : d = c
      · subst e
        rw [pk_us, pk_us, pk_us, pk_us, y1, y2, y3, y4, x1, x2, x3, x4, nI_add]
        exact ⟨rfl, rfl, rfl, rfl⟩
      · have k : 192 * s + d ≠ 192 * s + c := by omega
        rw [pk_un k, pk_un k, pk_un k, pk_un k]
        obtain ⟨z1, z2, z3, z4⟩ := ne d hd e
        rw [z1, z2, z3, z4]
        exact hG.2 d hd
  · intro s' hn
    refine ⟨pk_un hn, fun d hd => ?_⟩
    have k := oc_ix hc hd hn
    exact ⟨pk_un k, pk_un k, pk_un k, pk_un k⟩
/-- the contents of a wiped slot -/
def oc_Z (s : Nat) (F C S L H : Nat → Int32) : Prop := oc_Sl s (fun _ => 0) (fun _ => 0) (fun _ => 10000) (fun _ => -10000) F C S L H
theorem oc_wp13 {s : Nat} (hs : s < 5) {C0 S0 L0 H0 : Nat → Int32} (hF : F s = 0)
    (K : ∀ C' S' L' H' : Nat → Int32, oc_Z s F C' S' L' H' → (∀ s', s' ≠ s → oc_Sm s' F C0 S0 L0 H0 F C' S' L' H') → post (fs, fk, P, M, V, F, U, C', S', L', H')) :
    ∀ (d i n : Nat) (C S L H : Nat → Int32), i + d = 192 → d < n → (∀ c, c < i → C (192 * s + c) = 0 ∧ S (192 * s + c) = 0 ∧ L (192 * s + c) = 10000 ∧ H (192 * s + c) = -10000) →
      (∀ s', s' ≠ s → oc_Sm s' F C0 S0 L0 H0 F C S L H) → wX_wipe_13 post (nI s) fs fk n (nI (192 * s + i)) P M V F U C S L H := by
  have hm : (192 : Int32) * nI s + 192 = nI (192 * s + 192) := by
    rw [show (192 : Int32) * nI s = nI (192 * s) from pk_mul 192 s]
    exact nI_add (192 * s) 192
  intro d
  induction d with
  | zero =>
    intro i n C S L H hi hn hc hf
    obtain ⟨n, rfl⟩ : ∃ k, n = k + 1 := ⟨n - 1, by omega⟩
    have e : i = 192 := by omega
    subst e
    unfold wX_wipe_13
    rw [hm]
    refine br_t (nI_le (Nat.le_refl _) (by omega)) (K C S L H ⟨?_, fun c hd => hc c hd⟩ hf)
    rw [hF, oc_nf_0 192 (fun _ _ => rfl)]
    exact nI_0.symm
  | succ d ih =>
    intro i n C S L H hi hn hc hf
    obtain ⟨n, rfl⟩ : ∃ k, n = k + 1 := ⟨n - 1, by omega⟩
    have hv : vp_in (nI (192 * s + i)) 960 := vp_in_nI (by omega) (by decide)
    have e1 : (nI (192 * s + i)).toNatClampNeg = 192 * s + i := nI_clamp (by omega)
    unfold wX_wipe_13
    rw [hm, e1]
    refine br_f (nI_ge (by omega) (by omega)) ⟨hv, nm_e ⟨hv, nm_e ⟨hv, nm_e ⟨hv, nm_e (nm_r (nI_1 _) ?_)⟩⟩⟩⟩
    refine ih (i + 1) n _ _ _ _ (by omega) (by omega) (fun c h => ?_) (fun s' hn' => ?_)
    · by_cases e : c = i
      · subst e
        rw [pk_us, pk_us, pk_us, pk_us]
        exact ⟨rfl, rfl, rfl, rfl⟩
      · have k : 192 * s + c ≠ 192 * s + i := by omega
        rw [pk_un k, pk_un k, pk_un k, pk_un k]
        exact hc c (by omega)
    · refine oc_Sm_tr (hf s' hn') ⟨rfl, fun c h => ?_⟩
      have k := oc_ix (c := i) (by omega) h hn'
      exact ⟨pk_un k, pk_un k, pk_un k, pk_un k⟩
theorem oc_wipe {s : Nat} (hs : s < 5)
    (K : ∀ F' C' S' L' H' : Nat → Int32, oc_Z s F' C' S' L' H' → (∀ s', s' ≠ s → oc_Sm s' F C S L H F' C' S' L' H') → post (fs, fk, P, M, V, F', U, C', S', L', H')) :
    wpX_wipe post (fs, fk, P, M, V, F, U, C, S, L, H) (nI s) := by
  have e2 : (nI s).toNatClampNeg = s := nI_clamp (by omega)
  unfold wpX_wipe
  refine ⟨vp_in_nI hs (by decide), nm_e (nm_r (pk_mul 192 s) ⟨193, ?_⟩)⟩
  rw [e2]
  refine oc_wp13 hs (C0 := C) (S0 := S) (L0 := L) (H0 := H) pk_us (fun C' S' L' H' hz hf => K _ _ _ _ _ hz (fun s' hn => ?_)) 192 0 193 C S L H (by omega) (by omega) (fun c hc => absurd hc (Nat.not_lt_zero c)) (fun s' _ => oc_Sm_rf s')
  exact oc_Sm_tr (F' := upd F s 0) ⟨pk_un hn, fun _ _ => ⟨rfl, rfl, rfl, rfl⟩⟩ (hf s' hn)
end
end
section
/-! the component's small methods: levels, seenAs, isFiner, cellFrom; the reference's fall -/
theorem oc_shr4 {w : Nat} (hw : w < 2 ^ 31) : nI w >>> ((4 : Int32) &&& 31) = nI (w / 16) := pk_shrN hw _ 4 (by decide)
theorem oc_shr2 {w : Nat} (hw : w < 2 ^ 31) : nI w >>> ((2 : Int32) &&& 31) = nI (w / 4) := pk_shrN hw _ 2 (by decide)
theorem oc_and3 {w : Nat} (hw : w < 2 ^ 31) : nI w &&& 3 = nI (w % 4) := pk_andN (by omega) 2 (by decide)
theorem oc_lvB {w : Nat} (hw : w < 2 ^ 31) : (nI w >>> ((2 : Int32) &&& 31)) &&& 3 = nI (w / 4 % 4) := by
  rw [oc_shr2 hw, oc_and3 (w := w / 4) (by omega)]
theorem oc_shl1 : ∀ l, l < 3 → (1 : Int32) <<< (nI l &&& 31) = nI (2 ^ l) := by decide +kernel
theorem oc_d48 {p : Nat} (h : p < 2 ^ 31) : nI p / 48 = nI (p / 48) := pk_div (d := 48) h (by decide) (by decide)
theorem oc_d8 {p : Nat} (h : p < 2 ^ 31) : nI p / 8 = nI (p / 8) := pk_div (d := 8) h (by decide) (by decide)
theorem oc_d16 {p : Nat} (h : p < 2 ^ 31) : nI p / 16 = nI (p / 16) := pk_div (d := 16) h (by decide) (by decide)
theorem oc_d4 {p : Nat} (h : p < 2 ^ 31) : nI p / 4 = nI (p / 4) := pk_div (d := 4) h (by decide) (by decide)
theorem oc_r8 {p : Nat} (h : p < 2 ^ 31) : nI p - nI p / 8 * 8 = nI (p % 8) := pk_rem (d := 8) h (by decide) (by decide)
theorem oc_r6 {p : Nat} (h : p < 2 ^ 31) : nI p - nI p / 6 * 6 = nI (p % 6) := pk_rem (d := 6) h (by decide) (by decide)
theorem oc_r4 {p : Nat} (h : p < 2 ^ 31) : nI p - nI p / 4 * 4 = nI (p % 4) := pk_rem (d := 4) h (by decide) (by decide)
section
variable {post : Int32 → Prop}
theorem oc_byA {w : Nat} (hw : w < 48) (K : post (nI (oc_bA (w / 16)))) : wpX_byA post (nI w) := by
  unfold wpX_byA
  refine nm_r (oc_shr4 (by omega)) (pk_eq (w / 16) 2 (fun h => ?_) (fun h => ?_))
  · rw [oc_bA, if_pos h] at K
    exact K
  · rw [oc_bA, if_neg h] at K
    rw [nI_1]
    exact K
theorem oc_byB {w : Nat} (hw : w < 48) (K : post (nI (oc_bB (w / 4 % 4)))) : wpX_byB post (nI w) := by
  unfold wpX_byB
  refine nm_r (oc_lvB (by omega)) (pk_eq (w / 4 % 4) 3 (fun h => ?_) (fun h => ?_))
  · rw [oc_bB, if_pos h] at K
    exact K
  · rw [oc_bB, if_neg h] at K
    rw [nI_1]
    exact K
theorem oc_byC {w : Nat} (hw : w < 48) (K : post (nI (oc_bC (w % 4)))) : wpX_byC post (nI w) := by
  unfold wpX_byC
  refine nm_r (oc_and3 (by omega)) (pk_eq (w % 4) 3 (fun h => ?_) (fun h => ?_))
  · rw [oc_bC, if_pos h] at K
    exact K
  · rw [oc_bC, if_neg h] at K
    rw [oc_shl1 (w % 4) (by omega)]
    exact K
theorem oc_coar {v k : Nat} (hv : v < 2 ^ 31) (hk : k < 2 ^ 31) (K : post (nI (oc_co v k))) : wpX_coarser post (nI v) (nI k) := by
  unfold wpX_coarser
  refine pk_le k 0 (fun h => ?_) (fun h => ⟨nI_ne0 h hk, ?_⟩)
  · rw [oc_co, if_neg (by omega)] at K
    exact K
  · rw [oc_co, if_pos h] at K
    rw [pk_div hv h hk]
    exact K
theorem oc_bA_lt (l : Nat) (h : l < 4) : oc_bA l < 5 := by unfold oc_bA; split <;> omega
theorem oc_bB_lt (l : Nat) (h : l < 4) : oc_bB l < 5 := by unfold oc_bB; split <;> omega
theorem oc_bC_lt : ∀ l : Nat, l < 4 → oc_bC l < 5 := by decide
theorem oc_seen {w p : Nat} (hw : w < 48) (hp : p < 2 ^ 20) (K : post (nI (oc_fl w p))) : wpX_seenAs post (nI w) (nI p) := by
  have b1 := oc_bA_lt (w / 16) (by omega)
  have b2 := oc_bB_lt (w / 4 % 4) (by omega)
  have b3 := oc_bC_lt (w % 4) (by omega)
  unfold wpX_seenAs
  rw [oc_r8 (p := p) (by omega), oc_d8 (p := p) (by omega), oc_r6 (p := p / 8) (by omega), oc_d48 (p := p) (by omega)]
  refine ⟨by decide, oc_byA hw (oc_coar (by omega) (by omega) ⟨by decide, by decide, oc_byB hw (oc_coar (by omega) (by omega) ⟨by decide, oc_byC hw (oc_coar (by omega) (by omega) ?_)⟩)⟩)⟩
  rw [oc_coA (l := w / 16) (by omega), oc_coB (l := w / 4 % 4) (by omega), oc_coC (l := w % 4) (by omega)]
  rw [show (48 : Int32) * nI (oc_sA (w / 16) (p / 48)) = nI (48 * oc_sA (w / 16) (p / 48)) from pk_mul 48 _, show (8 : Int32) * nI (oc_sB (w / 4 % 4) (p / 8 % 6)) = nI (8 * oc_sB (w / 4 % 4) (p / 8 % 6)) from pk_mul 8 _, nI_add, nI_add]
  exact K
theorem oc_f32 {f w : Nat} {z : Int32} (hf : f < 48) (hw : w < 48) (K1 : f / 16 ≤ w / 16 → f % 4 ≤ w % 4 → z ≠ 0 → post 1) (K0 : ¬ (f / 16 ≤ w / 16 ∧ f % 4 ≤ w % 4 ∧ z ≠ 0) → post 0) : wX_isFiner_32 post (nI f) (nI w) z := by
  unfold wX_isFiner_32
  rw [oc_shr4 (w := w) (by omega), oc_shr4 (w := f) (by omega), oc_and3 (w := w) (by omega), oc_and3 (w := f) (by omega)]
  refine pk_lt (w / 16) (f / 16) (fun h => K0 (fun k => by omega)) (fun h => pk_lt (w % 4) (f % 4) (fun h' => K0 (fun k => by omega)) (fun h' => br_c (fun e => K0 (fun k => k.2.2 e)) (fun e => K1 h h' e)))
theorem oc_isF {f w : Nat} (hf : f < 48) (hw : w < 48) (K1 : oc_fi f w → post 1) (K0 : ¬ oc_fi f w → post 0) : wpX_isFiner post (nI f) (nI w) := by
  have k31 : ¬ (f / 4 % 4 ≤ w / 4 % 4 ∧ ¬ (f / 4 % 4 = 1 ∧ w / 4 % 4 = 2)) → wX_isFiner_31 post (nI f) (nI w) := fun h => by
    unfold wX_isFiner_31
    exact oc_f32 hf hw (fun _ _ z => absurd rfl z) (fun _ => K0 (fun k => h k.2.2))
  have k27 : (f / 4 % 4 ≤ w / 4 % 4 ∧ ¬ (f / 4 % 4 = 1 ∧ w / 4 % 4 = 2)) → wX_isFiner_27 post (nI f) (nI w) := fun h => by
    unfold wX_isFiner_27
    exact oc_f32 hf hw (fun a b _ => K1 ⟨a, b, h⟩) (fun k => K0 (fun z => k ⟨z.1, z.2.1, by decide⟩))
  unfold wpX_isFiner
  refine nm_r (oc_lvB (by omega)) (nm_r (oc_lvB (by omega)) (pk_lt (w / 4 % 4) (f / 4 % 4) (fun h => k31 (fun k => by omega)) (fun h => pk_eq (f / 4 % 4) 1 (fun h1 => pk_eq (w / 4 % 4) 2 (fun h2 => k31 (fun k => k.2 ⟨h1, h2⟩)) (fun h2 => k27 ⟨h, fun k => h2 k.2⟩)) (fun h1 => k27 ⟨h, fun k => h1 k.1⟩))))
theorem oc_cellF {f d w : Nat} (hf : f < 48) (hw : w < 48) (hd : d < 192) (K : post (nI (oc_fl w (oc_rp f d)))) : wpX_cellFrom post (nI f) (nI d) (nI w) := by
  have b1 := oc_bA_lt (f / 16) (by omega)
  have b2 := oc_bB_lt (f / 4 % 4) (by omega)
  have b3 := oc_bC_lt (f % 4) (by omega)
  have c1 : oc_bA (f / 16) * (d / 48) ≤ 4 * 4 := Nat.mul_le_mul (by omega) (by omega)
  have c2 : oc_bB (f / 4 % 4) * (d / 8 % 6) ≤ 4 * 6 := Nat.mul_le_mul (by omega) (by omega)
  have c3 : oc_bC (f % 4) * (d % 8) ≤ 4 * 8 := Nat.mul_le_mul (by omega) (by omega)
  unfold wpX_cellFrom
  rw [oc_r8 (p := d) (by omega), oc_d8 (p := d) (by omega), oc_r6 (p := d / 8) (by omega), oc_d48 (p := d) (by omega)]
  refine oc_byA hf ⟨by decide, nm_r (pk_mul _ _) (oc_byB hf ⟨by decide, by decide, nm_r (pk_mul _ _) (oc_byC hf ⟨by decide, nm_r (pk_mul _ _) ?_⟩)⟩)⟩
  rw [show (48 : Int32) * nI (oc_bA (f / 16) * (d / 48)) = nI (48 * (oc_bA (f / 16) * (d / 48))) from pk_mul 48 _, show (8 : Int32) * nI (oc_bB (f / 4 % 4) * (d / 8 % 6)) = nI (8 * (oc_bB (f / 4 % 4) * (d / 8 % 6))) from pk_mul 8 _, nI_add, nI_add]
  exact oc_seen hw (by omega) K
theorem oc_m1_ne {w : Nat} (hw : w < 2 ^ 31) : ¬ nI w = -1 := fun h => by
  have := congrArg Int32.toInt h
  rw [nI_toInt hw, show (-1 : Int32).toInt = -1 from by decide] at this
  omega
theorem oc_isView {x : Int32} (K0 : ¬ (∃ w, w < 48 ∧ x = nI w) → post 0) (K1 : ∀ w, w < 48 → x = nI w → post 1) : wpX_isView post x := by
  unfold wpX_isView
  refine br_c (fun h => K0 (fun ⟨w, hw, e⟩ => nI_pos (n := w) (by omega) (e ▸ h))) (fun h => ?_)
  obtain ⟨j, hj, rfl⟩ := nI_of h
  exact pk_le 48 j (fun h' => K0 (fun ⟨w, hw, e⟩ => by rw [nI_eq hj (by omega)] at e; omega)) (fun h' => K1 j h' rfl)
theorem oc_isCell {x : Int32} (K0 : ¬ (∃ w, w < 192 ∧ x = nI w) → post 0) (K1 : ∀ w, w < 192 → x = nI w → post 1) : wpX_isCell post x := by
  unfold wpX_isCell
  refine br_c (fun h => K0 (fun ⟨w, hw, e⟩ => nI_pos (n := w) (by omega) (e ▸ h))) (fun h => ?_)
  obtain ⟨j, hj, rfl⟩ := nI_of h
  exact pk_le 192 j (fun h' => K0 (fun ⟨w, hw, e⟩ => by rw [nI_eq hj (by omega)] at e; omega)) (fun h' => K1 j h' rfl)
def oc_ms (x : Int32) : Prop := ¬ x < (-1000) ∧ x ≤ 1000
theorem oc_isMea {x : Int32} (K0 : ¬ oc_ms x → post 0) (K1 : oc_ms x → post 1) : wpX_isMeasure post x := by
  unfold wpX_isMeasure
  exact br_c (fun h => K0 (fun k => k.1 h)) (fun h => br_c (fun h' => K0 (fun k => Int32.not_lt.mpr k.2 h')) (fun h' => K1 ⟨h, Int32.not_lt.mp h'⟩))
theorem oc_isFact {x fk : Int32} {P M V F U C S L H : Nat → Int32} {n : Nat} (hn : n < 2 ^ 31) (K0 : ¬ (∃ w, w < n ∧ x = nI w) → post 0) (K1 : ∀ w, w < n → x = nI w → post 1) : wpX_isFact post (nI n, fk, P, M, V, F, U, C, S, L, H) x := by
  unfold wpX_isFact
  refine br_c (fun h => K0 (fun ⟨w, hw, e⟩ => nI_pos (n := w) (by omega) (e ▸ h))) (fun h => ?_)
  obtain ⟨j, hj, rfl⟩ := nI_of h
  exact pk_le n j (fun h' => K0 (fun ⟨w, hw, e⟩ => by rw [nI_eq hj (by omega)] at e; omega)) (fun h' => K1 j h' rfl)
end
end
section
/-! the component's invariant; add, startAnew, the constructor -/
def oc_V (n : Nat) (P M : Nat → Int32) (w s : Nat) (F C S L H : Nat → Int32) : Prop :=
  oc_Sl s (fun c => oc_ct (oc_q w P c) n) (fun c => oc_sm (oc_q w P c) M n) (fun c => oc_lo (oc_q w P c) M n) (fun c => oc_hi (oc_q w P c) M n) F C S L H
def oc_G (n : Nat) (P M : Nat → Int32) (s : Nat) (V F C S L H : Nat → Int32) : Prop :=
  V s = -1 ∨ ∃ w, w < 48 ∧ V s = nI w ∧ oc_V n P M w s F C S L H
def oc_Pl (n : Nat) (P : Nat → Int32) : Prop := n ≤ 40 ∧ ∀ j, j < n → ∃ p, p < 192 ∧ P j = nI p
def oc_I (n : Nat) (P M V F C S L H : Nat → Int32) : Prop :=
  oc_Pl n P ∧ V 0 = 0 ∧ ∀ s, s < 5 → oc_G n P M s V F C S L H
theorem oc_pl {n : Nat} {P : Nat → Int32} (h : oc_Pl n P) {j : Nat} (hj : j < n) : (P j).toNatClampNeg < 192 ∧ P j = nI (P j).toNatClampNeg := by
  obtain ⟨p, hp, e⟩ := h.2 j hj
  rw [e, nI_clamp (by omega)]
  exact ⟨hp, rfl⟩
section
variable {P M P' M' V V' F C S L H F' C' S' L' H' : Nat → Int32}
theorem oc_V_cg {n w s : Nat} (h : oc_V n P M w s F C S L H) (e : ∀ j, j < n → P j = P' j ∧ M j = M' j) : oc_V n P' M' w s F C S L H := by
  refine oc_Sl_cg h (fun c _ => oc_cg n (fun j hj => ⟨?_, (e j hj).2⟩))
  unfold oc_q
  rw [(e j hj).1]
theorem oc_G_cg {n s : Nat} (h : oc_G n P M s V F C S L H) (e : ∀ j, j < n → P j = P' j ∧ M j = M' j) : oc_G n P' M' s V F C S L H := by
  rcases h with h | ⟨w, hw, ev, h⟩
  · exact Or.inl h
  · exact Or.inr ⟨w, hw, ev, oc_V_cg h e⟩
theorem oc_G_Sm {n s : Nat} (h : oc_G n P M s V F C S L H) (e : V' s = V s) (h' : oc_Sm s F C S L H F' C' S' L' H') : oc_G n P M s V' F' C' S' L' H' := by
  rcases h with h | ⟨w, hw, ev, h⟩
  · exact Or.inl (e.trans h)
  · exact Or.inr ⟨w, hw, e.trans ev, oc_Sl_Sm h h'⟩
end
section
variable {post : SX → Prop} {fs fk : Int32} {P M V F U C S L H : Nat → Int32}
theorem oc_enV {w s p n : Nat} (hs : s < 5) (hp : p < 192) (hn : n < 2 ^ 30) (eP : P n = nI p) (hV : oc_V n P M w s F C S L H)
    (K : ∀ F' C' S' L' H' : Nat → Int32, oc_V (n + 1) P M w s F' C' S' L' H' → (∀ s', s' ≠ s → oc_Sm s' F C S L H F' C' S' L' H') → post (fs, fk, P, M, V, F', U, C', S', L', H')) :
    wpX_enter post (fs, fk, P, M, V, F, U, C, S, L, H) (nI s) (nI (oc_fl w p)) 1 (M n) (M n) (M n) := by
  have ec : (P n).toNatClampNeg = p := by rw [eP]; exact nI_clamp (by omega)
  have hb := oc_ct_le (oc_q w P (oc_fl w p)) n
  refine oc_enter hs (oc_fl_lt w hp) (m := 1) (by decide) ?_ hV (by decide) ?_ ?_ K
  · show oc_ct (oc_q w P (oc_fl w p)) n + 1 < 2 ^ 31
    omega
  · exact oc_st1 (oc_q_t.mpr (by rw [ec]))
  · intro d _ hd
    exact oc_st0 (fun z => hd (by rw [← oc_q_t.mp z, ec]))
theorem oc_add32 {n p : Nat} {m : Int32} (hp : p < 192) (hn : n < 40) (eP : P n = nI p) (eM : M n = m)
    (K : ∀ F' C' S' L' H' : Nat → Int32, (∀ s, s < 5 → oc_G (n + 1) P M s V F' C' S' L' H') → post (fs, fk, P, M, V, F', U, C', S', L', H')) :
    ∀ (d i k : Nat) (F C S L H : Nat → Int32), i + d = 5 → d < k → (∀ s, s < i → oc_G (n + 1) P M s V F C S L H) → (∀ s, i ≤ s → s < 5 → oc_G n P M s V F C S L H) →
      wX_add_32 post (nI p) m k (nI i) fs fk P M V F U C S L H := by
  subst eM
  intro d
  induction d with
  | zero =>
    intro i k F C S L H hi hk h1 h2
    obtain ⟨k, rfl⟩ : ∃ k', k = k' + 1 := ⟨k - 1, by omega⟩
    have e : i = 5 := by omega
    subst e
    unfold wX_add_32
    exact br_t (nI_le (a := 5) (b := 5) (by omega) (by omega)) (K F C S L H h1)
  | succ d ih =>
    intro i k F C S L H hi hk h1 h2
    obtain ⟨k, rfl⟩ : ∃ k', k = k' + 1 := ⟨k - 1, by omega⟩
    have hv : vp_in (nI i) 5 := vp_in_nI (by omega) (by decide)
    have e1 : (nI i).toNatClampNeg = i := nI_clamp (by omega)
    unfold wX_add_32
    rw [e1]
    refine br_f (nI_ge (b := 5) (by omega) (by omega)) ⟨hv, ?_⟩
    rcases h2 i (Nat.le_refl i) (by omega) with h | ⟨w, hw, ev, h⟩
    · refine br_t h (nm_r (nI_1 i) (ih (i + 1) k F C S L H (by omega) (by omega) (fun s hs => ?_) (fun s hs => h2 s (by omega))))
      by_cases e : s = i
      · subst e
        exact Or.inl h
      · exact h1 s (by omega)
    · rw [ev]
      refine br_f (oc_m1_ne (by omega)) ⟨hv, oc_seen hw (by omega) ?_⟩
      refine oc_enV (s := i) (by omega) hp (by omega) eP h (fun F' C' S' L' H' hV hS => nm_r (nI_1 i) (ih (i + 1) k F' C' S' L' H' (by omega) (by omega) (fun s hs => ?_) (fun s hs h5 => oc_G_Sm (h2 s (by omega) h5) rfl (hS s (by omega)))))
      by_cases e : s = i
      · subst e
        exact Or.inr ⟨w, hw, ev, hV⟩
      · exact oc_G_Sm (h1 s (by omega)) rfl (hS s e)
theorem oc_Pl_up {n p : Nat} (hP : oc_Pl n P) (hn : n < 40) (hp : p < 192) : oc_Pl (n + 1) (upd P n (nI p)) := by
  refine ⟨by omega, fun j hj => ?_⟩
  by_cases e : j = n
  · subst e
    exact ⟨p, hp, pk_us⟩
  · rw [pk_un e]
    exact hP.2 j (by omega)
theorem oc_add {n p : Nat} {m : Int32} (hI : oc_I n P M V F C S L H) (hn : n < 40) (hp : p < 192)
    (K : ∀ F' C' S' L' H' : Nat → Int32, oc_I (n + 1) (upd P n (nI p)) (upd M n m) V F' C' S' L' H' → post (nI (n + 1), fk, upd P n (nI p), upd M n m, V, F', U, C', S', L', H')) :
    wpX_add post (nI n, fk, P, M, V, F, U, C, S, L, H) (nI p) m := by
  obtain ⟨hP, hV0, hG⟩ := hI
  have hv : vp_in (nI n) 40 := vp_in_nI hn (by decide)
  have e1 : (nI n).toNatClampNeg = n := nI_clamp (by omega)
  unfold wpX_add
  refine ⟨hv, nm_e ⟨hv, nm_e (nm_r (nI_1 n) ⟨6, ?_⟩)⟩⟩
  rw [e1]
  refine oc_add32 (n := n) hp hn pk_us pk_us (fun F' C' S' L' H' h => K F' C' S' L' H' ⟨oc_Pl_up hP hn hp, hV0, h⟩) 5 0 6 F C S L H (by omega) (by omega) (fun s hs => absurd hs (Nat.not_lt_zero s)) (fun s _ h5 => oc_G_cg (hG s h5) (fun j hj => ?_))
  exact ⟨(pk_un (by omega)).symm, (pk_un (by omega)).symm⟩
theorem oc_sa27 {n : Nat} (hP : oc_Pl n P) (hV0 : V 0 = 0) (hV1 : ∀ j, 1 ≤ j → j < 5 → V j = -1)
    (K : ∀ F' C' S' L' H' : Nat → Int32, oc_I n P M V F' C' S' L' H' → post (nI n, fk, P, M, V, F', U, C', S', L', H')) :
    ∀ (d i k : Nat) (F C S L H : Nat → Int32), i + d = n → d < k → oc_V i P M 0 0 F C S L H → wX_startAnew_27 post k (nI i) (nI n) fk P M V F U C S L H := by
  have h40 := hP.1
  intro d
  induction d with
  | zero =>
    intro i k F C S L H hi hk h
    obtain ⟨k, rfl⟩ : ∃ k', k = k' + 1 := ⟨k - 1, by omega⟩
    have e : i = n := by omega
    subst e
    unfold wX_startAnew_27
    refine br_t (nI_le (Nat.le_refl _) (by omega)) (K F C S L H ⟨hP, hV0, fun s hs => ?_⟩)
    by_cases e : s = 0
    · subst e
      exact Or.inr ⟨0, by decide, hV0, h⟩
    · exact Or.inl (hV1 s (by omega) hs)
  | succ d ih =>
    intro i k F C S L H hi hk h
    obtain ⟨k, rfl⟩ : ∃ k', k = k' + 1 := ⟨k - 1, by omega⟩
    have hv : vp_in (nI i) 40 := vp_in_nI (by omega) (by decide)
    have e1 : (nI i).toNatClampNeg = i := nI_clamp (by omega)
    obtain ⟨p, hp, eP⟩ := hP.2 i (by omega)
    have eP' : P i = nI (oc_fl 0 p) := by rw [oc_fl0 hp]; exact eP
    unfold wX_startAnew_27
    rw [e1, eP']
    refine br_f (nI_ge (by omega) (by omega)) ⟨hv, hv, hv, hv, ?_⟩
    exact oc_enV (s := 0) (by decide) hp (by omega) eP h (fun F' C' S' L' H' hV _ => nm_r (nI_1 i) (ih (i + 1) k F' C' S' L' H' (by omega) (by omega) hV))
theorem oc_sa2 {n : Nat} (hP : oc_Pl n P)
    (K : ∀ V' F' C' S' L' H' : Nat → Int32, oc_I n P M V' F' C' S' L' H' → post (nI n, fk, P, M, V', F', U, C', S', L', H')) :
    ∀ (d i k : Nat) (V : Nat → Int32), 1 ≤ i → i + d = 5 → d < k → V 0 = 0 → (∀ j, 1 ≤ j → j < i → V j = -1) → wX_startAnew_2 post (nI n) fk k (nI i) P M V F U C S L H := by
  intro d
  induction d with
  | zero =>
    intro i k V h1 hi hk h0 h
    obtain ⟨k, rfl⟩ : ∃ k', k = k' + 1 := ⟨k - 1, by omega⟩
    have e : i = 5 := by omega
    subst e
    unfold wX_startAnew_2
    refine br_t (nI_le (a := 5) (b := 5) (by omega) (by omega)) (oc_wipe (s := 0) (by decide) (fun F' C' S' L' H' hz _ => ⟨n + 1, ?_⟩))
    exact oc_sa27 hP h0 h (fun F' C' S' L' H' hI => K V F' C' S' L' H' hI) n 0 (n + 1) F' C' S' L' H' (by omega) (by omega) hz
  | succ d ih =>
    intro i k V h1 hi hk h0 h
    obtain ⟨k, rfl⟩ : ∃ k', k = k' + 1 := ⟨k - 1, by omega⟩
    have hv : vp_in (nI i) 5 := vp_in_nI (by omega) (by decide)
    have e1 : (nI i).toNatClampNeg = i := nI_clamp (by omega)
    unfold wX_startAnew_2
    rw [e1]
    refine br_f (nI_ge (b := 5) (by omega) (by omega)) ⟨hv, nm_e (nm_r (nI_1 i) (ih (i + 1) k _ (by omega) (by omega) (by omega) ((pk_un (by omega)).trans h0) (fun j hj hj' => ?_)))⟩
    by_cases e : j = i
    · subst e
      exact pk_us
    · rw [pk_un e]
      exact h j hj (by omega)
theorem oc_anew {n : Nat} (hP : oc_Pl n P) (hV0 : V 0 = 0)
    (K : ∀ V' F' C' S' L' H' : Nat → Int32, oc_I n P M V' F' C' S' L' H' → post (nI n, fk, P, M, V', F', U, C', S', L', H')) :
    wpX_startAnew post (nI n, fk, P, M, V, F, U, C, S, L, H) := by
  unfold wpX_startAnew
  exact ⟨5, oc_sa2 hP K 4 1 5 V (by omega) (by omega) (by omega) hV0 (fun j h1 h2 => by omega)⟩
theorem oc_in79 (K : ∀ V' F' C' S' L' H' : Nat → Int32, oc_I 0 P M V' F' C' S' L' H' → post (0, fk, P, M, V', F', U, C', S', L', H')) :
    ∀ (d i k : Nat) (V : Nat → Int32), 1 ≤ i → i + d = 5 → d < k → V 0 = 0 → (∀ j, 1 ≤ j → j < i → V j = -1) → wX_init_79 post 0 fk k (nI i) P M V F U C S L H := by
  intro d
  induction d with
  | zero =>
    intro i k V h1 hi hk h0 h
    obtain ⟨k, rfl⟩ : ∃ k', k = k' + 1 := ⟨k - 1, by omega⟩
    have e : i = 5 := by omega
    subst e
    unfold wX_init_79
    refine br_t (nI_le (a := 5) (b := 5) (by omega) (by omega)) (oc_wipe (s := 0) (by decide) (fun F' C' S' L' H' hz _ => K V F' C' S' L' H' ⟨⟨by omega, fun j hj => absurd hj (Nat.not_lt_zero j)⟩, h0, fun s hs => ?_⟩))
    by_cases e : s = 0
    · subst e
      exact Or.inr ⟨0, by decide, h0, hz⟩
    · exact Or.inl (h s (by omega) hs)
  | succ d ih =>
    intro i k V h1 hi hk h0 h
    obtain ⟨k, rfl⟩ : ∃ k', k = k' + 1 := ⟨k - 1, by omega⟩
    have hv : vp_in (nI i) 5 := vp_in_nI (by omega) (by decide)
    have e1 : (nI i).toNatClampNeg = i := nI_clamp (by omega)
    unfold wX_init_79
    rw [e1]
    refine br_f (nI_ge (b := 5) (by omega) (by omega)) ⟨hv, nm_e (nm_r (nI_1 i) (ih (i + 1) k _ (by omega) (by omega) (by omega) ((pk_un (by omega)).trans h0) (fun j hj hj' => ?_)))⟩
    by_cases e : j = i
    · subst e
      exact pk_us
    · rw [pk_un e]
      exact h j hj (by omega)
end
end
section
/-! workOut and slotFor -/
/-- fact j falls into cell c of view w and its cell of view f is below i -/
def oc_pq (f w : Nat) (P : Nat → Int32) (i c j : Nat) : Bool := decide (oc_fl f (P j).toNatClampNeg < i ∧ oc_fl w (P j).toNatClampNeg = c)
theorem oc_pq_t {f w : Nat} {P : Nat → Int32} {i c j : Nat} : oc_pq f w P i c j = true ↔ (oc_fl f (P j).toNatClampNeg < i ∧ oc_fl w (P j).toNatClampNeg = c) := decide_eq_true_iff
def oc_W (n : Nat) (P M : Nat → Int32) (f w i t : Nat) (F C S L H : Nat → Int32) : Prop :=
  oc_Sl t (fun c => oc_ct (oc_pq f w P i c) n) (fun c => oc_sm (oc_pq f w P i c) M n) (fun c => oc_lo (oc_pq f w P i c) M n) (fun c => oc_hi (oc_pq f w P i c) M n) F C S L H
theorem oc_bool {a b : Bool} (h : a = true ↔ b = true) : a = b := by
  cases a <;> cases b <;> simp_all
section
variable {P M F C S L H : Nat → Int32}
theorem oc_W0 {n f w t : Nat} (h : oc_Z t F C S L H) : oc_W n P M f w 0 t F C S L H := by
  refine oc_Sl_cg h (fun c _ => ?_)
  obtain ⟨a, b, d, e⟩ := oc_none (q := oc_pq f w P 0 c) (M := M) n (fun j _ z => by have := (oc_pq_t.mp z).1; omega)
  exact ⟨a.symm, b.symm, d.symm, e.symm⟩
theorem oc_W192 {n f w t : Nat} (hP : oc_Pl n P) (h : oc_W n P M f w 192 t F C S L H) : oc_V n P M w t F C S L H := by
  refine oc_Sl_cg h (fun c _ => oc_cg n (fun j hj => ⟨oc_bool ?_, rfl⟩))
  rw [oc_pq_t, oc_q_t]
  exact ⟨fun z => z.2, fun z => ⟨oc_fl_lt f (oc_pl hP hj).1, z⟩⟩
theorem oc_W_skip {n f w t i : Nat} (h : oc_W n P M f w i t F C S L H) (h0 : oc_ct (oc_q f P i) n = 0) : oc_W n P M f w (i + 1) t F C S L H := by
  refine oc_Sl_cg h (fun c _ => oc_cg n (fun j hj => ⟨oc_bool ?_, rfl⟩))
  have k : ¬ oc_q f P i j = true := by rw [oc_ct_0 n h0 j hj]; decide
  rw [oc_q_t] at k
  rw [oc_pq_t, oc_pq_t]
  omega
end
section
variable {post : SX → Prop} {fs fk : Int32} {P M V F U C S L H : Nat → Int32}
theorem oc_w25 {n f w s t : Nat} (hf : f < 48) (hw : w < 48) (hfi : oc_fi f w) (hs : s < 5) (ht : t < 5) (hne : t ≠ s) (hP : oc_Pl n P) (eV : V s = nI f)
    (F0 C0 S0 L0 H0 : Nat → Int32)
    (K : ∀ F' C' S' L' H' : Nat → Int32, oc_V n P M w t F' C' S' L' H' → (∀ s', s' ≠ t → oc_Sm s' F0 C0 S0 L0 H0 F' C' S' L' H') → post (fs, fk, P, M, V, F', U, C', S', L', H')) :
    ∀ (d i k : Nat) (F C S L H : Nat → Int32), i + d = 192 → d < k → oc_V n P M f s F C S L H → oc_W n P M f w i t F C S L H → (∀ s', s' ≠ t → oc_Sm s' F0 C0 S0 L0 H0 F C S L H) →
      wX_workOut_25 post (nI w) (nI s) (nI t) k (nI i) fs fk P M V F U C S L H := by
  have h40 := hP.1
  intro d
  induction d with
  | zero =>
    intro i k F C S L H hi hk hV hW hS
    obtain ⟨k, rfl⟩ : ∃ k', k = k' + 1 := ⟨k - 1, by omega⟩
    have e : i = 192 := by omega
    subst e
    unfold wX_workOut_25
    exact br_t (nI_le (a := 192) (b := 192) (by omega) (by omega)) (K F C S L H (oc_W192 hP hW) hS)
  | succ d ih =>
    intro i k F C S L H hi hk hV hW hS
    obtain ⟨k, rfl⟩ : ∃ k', k = k' + 1 := ⟨k - 1, by omega⟩
    have hi' : i < 192 := by omega
    have hx : (192 : Int32) * nI s + nI i = nI (192 * s + i) := by
      rw [show (192 : Int32) * nI s = nI (192 * s) from pk_mul 192 s, nI_add]
    have hv : vp_in (nI (192 * s + i)) 960 := vp_in_nI (by omega) (by decide)
    have hvs : vp_in (nI s) 5 := vp_in_nI hs (by decide)
    have e1 : (nI (192 * s + i)).toNatClampNeg = 192 * s + i := nI_clamp (by omega)
    have e2 : (nI s).toNatClampNeg = s := nI_clamp (by omega)
    obtain ⟨y1, y2, y3, y4⟩ := hV.2 i hi'
    have hm := oc_ct_le (oc_q f P i) n
    unfold wX_workOut_25
    refine br_f (nI_ge (b := 192) hi' (by omega)) (nm_r hx ⟨hv, ?_⟩)
    rw [e1, e2, y1, y2, y3, y4, eV]
    refine pk_le (oc_ct (oc_q f P i) n) 0 (fun h0 => nm_r (nI_1 i) (ih (i + 1) k F C S L H (by omega) (by omega) hV (oc_W_skip hW (by omega)) hS)) (fun h0 => ⟨hvs, oc_cellF hf hw hi' ⟨hv, hv, hv, hv, ?_⟩⟩)
    obtain ⟨j0, hj0, hq0⟩ := oc_ct_pos n h0
    rw [oc_q_t] at hq0
    have key : ∀ j, j < n → oc_fl f (P j).toNatClampNeg = i → oc_fl w (P j).toNatClampNeg = oc_fl w (oc_rp f i) := fun j hj e => by
      rw [← oc_rpf hf hw (oc_pl hP hj).1 hfi, e]
    have hto : oc_fl w (oc_rp f i) < 192 := by
      rw [← key j0 hj0 hq0]
      exact oc_fl_lt w (oc_pl hP hj0).1
    have hb := oc_ct_le (oc_pq f w P i (oc_fl w (oc_rp f i))) n
    refine oc_enter (gc' := fun c => oc_ct (oc_pq f w P (i + 1) c) n) (gs' := fun c => oc_sm (oc_pq f w P (i + 1) c) M n) (gl' := fun c => oc_lo (oc_pq f w P (i + 1) c) M n) (gh' := fun c => oc_hi (oc_pq f w P (i + 1) c) M n) ht hto (m := oc_ct (oc_q f P i) n) h0 ?_ hW rfl ?_ ?_ (fun F' C' S' L' H' hW' hS' => nm_r (nI_1 i) (ih (i + 1) k F' C' S' L' H' (by omega) (by omega) (oc_Sl_Sm hV (hS' s (fun z => hne z.symm))) hW' (fun s' hs' => oc_Sm_tr (hS s' hs') (hS' s' hs'))))
    · show oc_ct (oc_pq f w P i (oc_fl w (oc_rp f i))) n + oc_ct (oc_q f P i) n < 2 ^ 31
      omega
    · refine oc_un n (fun j hj => ⟨?_, ?_⟩)
      · rw [oc_pq_t, oc_q_t, oc_pq_t]
        have := key j hj
        constructor
        · intro z
          by_cases e : oc_fl f (P j).toNatClampNeg = i
          · exact Or.inl e
          · exact Or.inr ⟨by omega, z.2⟩
        · intro z
          rcases z with z | z
          · exact ⟨by omega, this z⟩
          · exact ⟨by omega, z.2⟩
      · rw [oc_q_t, oc_pq_t]
        omega
    · intro c hc hcn
      refine oc_cg n (fun j hj => ⟨oc_bool ?_, rfl⟩)
      rw [oc_pq_t, oc_pq_t]
      have := key j hj
      constructor
      · intro z
        refine ⟨?_, z.2⟩
        by_cases e : oc_fl f (P j).toNatClampNeg = i
        · exact absurd (z.2.symm.trans (this e)) hcn
        · omega
      · intro z
        exact ⟨by omega, z.2⟩
theorem oc_work {n f w s t : Nat} (hf : f < 48) (hw : w < 48) (hfi : oc_fi f w) (hs : s < 5) (ht : t < 5) (hne : t ≠ s) (hP : oc_Pl n P) (eV : V s = nI f) (hV : oc_V n P M f s F C S L H)
    (K : ∀ F' C' S' L' H' : Nat → Int32, oc_V n P M w t F' C' S' L' H' → (∀ s', s' ≠ t → oc_Sm s' F C S L H F' C' S' L' H') → post (fs, fk, P, M, upd V t (nI w), F', upd U t fk, C', S', L', H')) :
    wpX_workOut post (fs, fk, P, M, V, F, U, C, S, L, H) (nI w) (nI s) (nI t) := by
  have e1 : (nI t).toNatClampNeg = t := nI_clamp (by omega)
  have hv : vp_in (nI t) 5 := vp_in_nI ht (by decide)
  unfold wpX_workOut
  rw [e1]
  refine oc_wipe ht (fun F' C' S' L' H' hz hS => ⟨hv, nm_e ⟨hv, nm_e ⟨193, ?_⟩⟩⟩)
  exact oc_w25 hf hw hfi hs ht hne hP ((pk_un (fun z => hne z.symm)).trans eV) F C S L H K 192 0 193 F' C' S' L' H' (by omega) (by omega) (oc_Sl_Sm hV (hS s (fun z => hne z.symm))) (oc_W0 hz) hS
end
section
variable {post : Int32 → SX → Prop} {J : Int32 → Int32 → Prop} {fs fk : Int32} {P M V F U C S L H : Nat → Int32}
theorem oc_169 {x1 x2 : Int32} {t i : Nat} (ht : t < 5) (h1 : J (nI t) (nI (i + 1))) (h2 : J (nI i) (nI (i + 1))) : wX_slotFor_169 post J x1 x2 (nI t) (nI i) fs fk P M V F U C S L H := by
  unfold wX_slotFor_169
  exact ⟨vp_in_nI ht (by decide), br_c (fun _ => nm_r (nI_1 i) h1) (fun _ => nm_r (nI_1 i) h2)⟩
theorem oc_82 {x1 z : Int32} {s i : Nat} (hs : s < 5) (hi : i < 5) (h1 : J (nI s) (nI (i + 1))) (h2 : ¬ z = 0 → J (nI i) (nI (i + 1))) : wX_slotFor_82 post J x1 (nI s) (nI i) z fs fk P M V F U C S L H := by
  unfold wX_slotFor_82
  exact br_c (fun _ => nm_r (nI_1 i) h1) (fun hz => ⟨vp_in_nI hi (by decide), vp_in_nI hs (by decide), br_c (fun _ => nm_r (nI_1 i) h1) (fun _ => nm_r (nI_1 i) (h2 hz))⟩)
theorem oc_130 {n f w s : Nat} (hf : f < 48) (hw : w < 48) (hfi : oc_fi f w) (hs : s < 5) (hP : oc_Pl n P) (eV : V s = nI f) (hV : oc_V n P M f s F C S L H)
    (K : ∀ (t : Nat) (F' C' S' L' H' : Nat → Int32), t < 5 → t ≠ 0 → t ≠ s → oc_V n P M w t F' C' S' L' H' → (∀ s', s' ≠ t → oc_Sm s' F C S L H F' C' S' L' H') → post (nI t) (fs, fk, P, M, upd V t (nI w), F', upd U t fk, C', S', L', H')) :
    ∀ (d i t k : Nat), i + d = 5 → d < k → 1 ≤ i → t < 5 → t ≠ 0 → t ≠ s → wX_slotFor_130 post (nI w) (nI s) fs fk P M V F U C S L H k (nI t) (nI i) := by
  intro d
  induction d with
  | zero =>
    intro i t k hi hk h1 ht ht0 hts
    obtain ⟨k, rfl⟩ : ∃ k', k = k' + 1 := ⟨k - 1, by omega⟩
    have e : i = 5 := by omega
    subst e
    unfold wX_slotFor_130
    exact br_t (nI_le (a := 5) (b := 5) (by omega) (by omega)) (oc_work hf hw hfi hs ht hts hP eV hV (fun F' C' S' L' H' a b => K t F' C' S' L' H' ht ht0 hts a b))
  | succ d ih =>
    intro i t k hi hk h1 ht ht0 hts
    obtain ⟨k, rfl⟩ : ∃ k', k = k' + 1 := ⟨k - 1, by omega⟩
    have hv : vp_in (nI i) 5 := vp_in_nI (by omega) (by decide)
    have hvt : vp_in (nI t) 5 := vp_in_nI ht (by decide)
    have k1 : wX_slotFor_130 post (nI w) (nI s) fs fk P M V F U C S L H k (nI t) (nI (i + 1)) := ih (i + 1) t k (by omega) (by omega) (by omega) ht ht0 hts
    unfold wX_slotFor_130
    refine br_f (nI_ge (b := 5) (by omega) (by omega)) (pk_eq i s (fun _ => nm_r (nI_1 i) k1) (fun hn => ⟨hv, ?_⟩))
    have k2 : wX_slotFor_130 post (nI w) (nI s) fs fk P M V F U C S L H k (nI i) (nI (i + 1)) := ih (i + 1) i k (by omega) (by omega) (by omega) (by omega) (by omega) hn
    exact br_c (fun _ => oc_169 ht k1 k2) (fun _ => ⟨hv, hvt, br_c (fun _ => nm_r (nI_1 i) k1) (fun _ => oc_169 ht k1 k2)⟩)
/-- slot s can be the source of view w -/
def oc_Src (n : Nat) (P M V F C S L H : Nat → Int32) (w s : Nat) : Prop := s < 5 ∧ ∃ f, f < 48 ∧ V s = nI f ∧ oc_fi f w ∧ oc_V n P M f s F C S L H
theorem oc_49 {n w : Nat} (hw : w < 48) (hP : oc_Pl n P) (hG : ∀ s, s < 5 → oc_G n P M s V F C S L H)
    (K : ∀ (t : Nat) (F' C' S' L' H' : Nat → Int32), t < 5 → t ≠ 0 → oc_V n P M w t F' C' S' L' H' → (∀ s', s' ≠ t → oc_Sm s' F C S L H F' C' S' L' H') → post (nI t) (fs, fk, P, M, upd V t (nI w), F', upd U t fk, C', S', L', H')) :
    ∀ (d i s k : Nat), i + d = 5 → d < k → oc_Src n P M V F C S L H w s → wX_slotFor_49 post (nI w) fs fk P M V F U C S L H k (nI s) (nI i) := by
  intro d
  induction d with
  | zero =>
    intro i s k hi hk hS
    obtain ⟨k, rfl⟩ : ∃ k', k = k' + 1 := ⟨k - 1, by omega⟩
    have e : i = 5 := by omega
    subst e
    obtain ⟨hs, f, hf, eV, hfi, hV⟩ := hS
    have k1 := oc_130 (fs := fs) (fk := fk) (U := U) (post := post) hf hw hfi hs hP eV hV (fun t F' C' S' L' H' h1 h2 _ h3 h4 => K t F' C' S' L' H' h1 h2 h3 h4) 4 1
    unfold wX_slotFor_49
    exact br_t (nI_le (a := 5) (b := 5) (by omega) (by omega)) (pk_eq s 1 (fun h => ⟨5, k1 2 5 (by omega) (by omega) (by omega) (by omega) (by omega) (by omega)⟩) (fun h => ⟨5, k1 1 5 (by omega) (by omega) (by omega) (by omega) (by omega) (fun z => h z.symm)⟩))
  | succ d ih =>
    intro i s k hi hk hS
    obtain ⟨k, rfl⟩ : ∃ k', k = k' + 1 := ⟨k - 1, by omega⟩
    have hi5 : i < 5 := by omega
    have hv : vp_in (nI i) 5 := vp_in_nI hi5 (by decide)
    have e1 : (nI i).toNatClampNeg = i := nI_clamp (by omega)
    have k1 : wX_slotFor_49 post (nI w) fs fk P M V F U C S L H k (nI s) (nI (i + 1)) := ih (i + 1) s k (by omega) (by omega) hS
    have k81 : wX_slotFor_81 post (wX_slotFor_49 post (nI w) fs fk P M V F U C S L H k) (nI w) (nI s) (nI i) fs fk P M V F U C S L H := by
      unfold wX_slotFor_81
      exact oc_82 hS.1 hi5 k1 (fun z => absurd rfl z)
    unfold wX_slotFor_49
    rw [e1]
    refine br_f (nI_ge (b := 5) hi5 (by omega)) ⟨hv, ?_⟩
    rcases hG i hi5 with h | ⟨f, hf, eV, h⟩
    · exact br_t h k81
    · rw [eV]
      refine br_f (oc_m1_ne (by omega)) ⟨hv, oc_isF hf hw (fun hfi => br_f (by decide) ?_) (fun _ => br_t rfl k81)⟩
      exact oc_82 hS.1 hi5 k1 (fun _ => ih (i + 1) i k (by omega) (by omega) ⟨hi5, f, hf, eV, hfi, h⟩)
theorem oc_12 {n w : Nat} (hw : w < 48) (hI : oc_I n P M V F C S L H)
    (K : ∀ (s : Nat) (V' F' U' C' S' L' H' : Nat → Int32), s < 5 → oc_I n P M V' F' C' S' L' H' → oc_V n P M w s F' C' S' L' H' → post (nI s) (fs, fk, P, M, V', F', U', C', S', L', H')) :
    ∀ (d i k : Nat), i + d = 5 → d < k → wX_slotFor_12 post (nI w) fs fk P M V F U C S L H k (nI i) := by
  intro d
  induction d with
  | zero =>
    intro i k hi hk
    obtain ⟨k, rfl⟩ : ∃ k', k = k' + 1 := ⟨k - 1, by omega⟩
    have e : i = 5 := by omega
    subst e
    obtain ⟨hP, hV0, hG⟩ := hI
    unfold wX_slotFor_12
    refine br_t (nI_le (a := 5) (b := 5) (by omega) (by omega)) ⟨5, oc_49 hw hP hG (fun t F' C' S' L' H' h1 h2 h3 h4 => K t _ F' _ C' S' L' H' h1 ⟨hP, (pk_un (fun z => h2 z.symm)).trans hV0, fun s hs => ?_⟩ h3) 4 1 0 5 (by omega) (by omega) ?_⟩
    · by_cases e : s = t
      · subst e
        exact Or.inr ⟨w, hw, pk_us, h3⟩
      · exact oc_G_Sm (hG s hs) (pk_un e) (h4 s e)
    · refine ⟨by decide, 0, by decide, hV0, ⟨by omega, by omega, by omega, by omega⟩, ?_⟩
      rcases hG 0 (by decide) with h | ⟨f, hf, eV, h⟩
      · rw [hV0] at h
        exact absurd h (by decide)
      · rw [hV0] at eV
        have e0 : f = 0 := ((nI_eq (a := 0) (b := f) (by omega) (by omega)).mp eV).symm
        subst e0
        exact h
  | succ d ih =>
    intro i k hi hk
    obtain ⟨k, rfl⟩ : ∃ k', k = k' + 1 := ⟨k - 1, by omega⟩
    have hi5 : i < 5 := by omega
    have hv : vp_in (nI i) 5 := vp_in_nI hi5 (by decide)
    have e1 : (nI i).toNatClampNeg = i := nI_clamp (by omega)
    unfold wX_slotFor_12
    rw [e1]
    refine br_f (nI_ge (b := 5) hi5 (by omega)) ⟨hv, br_c (fun h => ⟨hv, nm_e (K i V F _ C S L H hi5 hI ?_)⟩) (fun _ => nm_r (nI_1 i) (ih (i + 1) k (by omega) (by omega)))⟩
    rcases hI.2.2 i hi5 with h' | ⟨f, hf, eV, h'⟩
    · rw [h] at h'
      exact absurd h' (oc_m1_ne (by omega))
    · rw [h] at eV
      have e0 : f = w := ((nI_eq (by omega) (by omega)).mp eV).symm
      subst e0
      exact h'
theorem oc_slot {n w : Nat} (hw : w < 48) (hI : oc_I n P M V F C S L H)
    (K : ∀ (s : Nat) (fk' : Int32) (V' F' U' C' S' L' H' : Nat → Int32), s < 5 → oc_I n P M V' F' C' S' L' H' → oc_V n P M w s F' C' S' L' H' → post (nI s) (fs, fk', P, M, V', F', U', C', S', L', H')) :
    wpX_slotFor post (fs, fk, P, M, V, F, U, C, S, L, H) (nI w) := by
  unfold wpX_slotFor
  exact nm_e ⟨6, oc_12 hw hI (fun s V' F' U' C' S' L' H' => K s _ V' F' U' C' S' L' H') 5 0 6 (by omega) (by omega)⟩
end
end
section
/-! the reference: fall, next, count, sum, least, most, full, best, having, finer, viewsWith -/
def oc_g (n : Nat) (P : Nat → Int32) (w c : Nat) : Nat := oc_ct (oc_q w P c) n
def oc_s (n : Nat) (P M : Nat → Int32) (w c : Nat) : Int32 := oc_sm (oc_q w P c) M n
theorem oc_Nx_low {g g' : Nat → Nat} {i c0 : Nat} {r : Int32} (h : oc_Nx g i r) (hc : c0 < i) (hg : ∀ d, d ≠ c0 → g' d = g d) : oc_Nx g' i r := by
  rcases h with ⟨e, h⟩ | ⟨c, e, h1, h2, h3, h4⟩
  · exact Or.inl ⟨e, fun c a b => by rw [hg c (by omega)]; exact h c a b⟩
  · exact Or.inr ⟨c, e, h1, h2, by rw [hg c (by omega)]; exact h3, fun d a b => by rw [hg d (by omega)]; exact h4 d a b⟩
section
variable {post : Int32 → Prop} {fh : Int32} {P M : Nat → Int32}
theorem oc_seA {l a : Nat} (hl : l < 2 ^ 31) (ha : a < 2 ^ 31) (K : post (nI (oc_sA l a))) : wpY_seenA post (fh, P, M) (nI l) (nI a) := by
  unfold wpY_seenA
  refine pk_eq l 0 (fun h => ?_) (fun h => pk_eq l 1 (fun h1 => ⟨by decide, ?_⟩) (fun h1 => ?_))
  · rw [oc_sA, if_pos h] at K
    exact K
  · rw [oc_sA, if_neg h, if_pos h1] at K
    rw [show nI a / 2 = nI (a / 2) from pk_div (d := 2) ha (by decide) (by decide)]
    exact K
  · rw [oc_sA, if_neg h, if_neg h1] at K
    exact K
theorem oc_seB {l a : Nat} (hl : l < 2 ^ 31) (ha : a < 2 ^ 31) (K : post (nI (oc_sB l a))) : wpY_seenB post (fh, P, M) (nI l) (nI a) := by
  unfold wpY_seenB
  refine pk_eq l 0 (fun h => ?_) (fun h => pk_eq l 1 (fun h1 => ⟨by decide, ?_⟩) (fun h1 => pk_eq l 2 (fun h2 => ⟨by decide, ?_⟩) (fun h2 => ?_)))
  · rw [oc_sB, if_pos h] at K
    exact K
  · rw [oc_sB, if_neg h, if_pos h1] at K
    rw [show nI a / 2 = nI (a / 2) from pk_div (d := 2) ha (by decide) (by decide)]
    exact K
  · rw [oc_sB, if_neg h, if_neg h1, if_pos h2] at K
    rw [show nI a / 3 = nI (a / 3) from pk_div (d := 3) ha (by decide) (by decide)]
    exact K
  · rw [oc_sB, if_neg h, if_neg h1, if_neg h2] at K
    exact K
theorem oc_seC {l a : Nat} (hl : l < 2 ^ 31) (ha : a < 2 ^ 31) (K : post (nI (oc_sC l a))) : wpY_seenC post (fh, P, M) (nI l) (nI a) := by
  unfold wpY_seenC
  refine pk_eq l 0 (fun h => ?_) (fun h => pk_eq l 1 (fun h1 => ⟨by decide, ?_⟩) (fun h1 => pk_eq l 2 (fun h2 => ⟨by decide, ?_⟩) (fun h2 => ?_)))
  · rw [oc_sC, if_pos h] at K
    exact K
  · rw [oc_sC, if_neg h, if_pos h1] at K
    rw [show nI a / 2 = nI (a / 2) from pk_div (d := 2) ha (by decide) (by decide)]
    exact K
  · rw [oc_sC, if_neg h, if_neg h1, if_pos h2] at K
    rw [show nI a / 4 = nI (a / 4) from pk_div (d := 4) ha (by decide) (by decide)]
    exact K
  · rw [oc_sC, if_neg h, if_neg h1, if_neg h2] at K
    exact K
theorem oc_fall {w p : Nat} (hw : w < 48) (hp : p < 192) (K : post (nI (oc_fl w p))) : wpY_fall post (fh, P, M) (nI w) (nI p) := by
  unfold wpY_fall
  dsimp only
  rw [oc_r4 (p := w) (by omega), oc_d4 (p := w) (by omega), oc_r4 (p := w / 4) (by omega), oc_r8 (p := p) (by omega), oc_d8 (p := p) (by omega), oc_r6 (p := p / 8) (by omega), oc_d48 (p := p) (by omega), oc_d16 (p := w) (by omega)]
  refine ⟨by decide, by decide, oc_seA (by omega) (by omega) ⟨by decide, by decide, by decide, by decide, oc_seB (by omega) (by omega) ⟨by decide, by decide, oc_seC (by omega) (by omega) ?_⟩⟩⟩
  rw [show (48 : Int32) * nI (oc_sA (w / 16) (p / 48)) = nI (48 * oc_sA (w / 16) (p / 48)) from pk_mul 48 _, show (8 : Int32) * nI (oc_sB (w / 4 % 4) (p / 8 % 6)) = nI (8 * oc_sB (w / 4 % 4) (p / 8 % 6)) from pk_mul 8 _, nI_add, nI_add]
  exact K
theorem oc_bView {x : Int32} (K0 : ∀ w, w < 48 → x = nI w → post 0) (K1 : ¬ (∃ w, w < 48 ∧ x = nI w) → post 1) : wpY_badView post (fh, P, M) x := by
  unfold wpY_badView
  refine br_c (fun h => K1 (fun ⟨w, hw, e⟩ => nI_pos (n := w) (by omega) (e ▸ h))) (fun h => ?_)
  obtain ⟨j, hj, rfl⟩ := nI_of h
  exact pk_le j 47 (fun h' => K0 j (by omega) rfl) (fun h' => K1 (fun ⟨w, hw, e⟩ => by rw [nI_eq hj (by omega)] at e; omega))
theorem oc_bCell {x : Int32} (K0 : ∀ w, w < 192 → x = nI w → post 0) (K1 : ¬ (∃ w, w < 192 ∧ x = nI w) → post 1) : wpY_badCell post (fh, P, M) x := by
  unfold wpY_badCell
  refine br_c (fun h => K1 (fun ⟨w, hw, e⟩ => nI_pos (n := w) (by omega) (e ▸ h))) (fun h => ?_)
  obtain ⟨j, hj, rfl⟩ := nI_of h
  exact pk_le j 191 (fun h' => K0 j (by omega) rfl) (fun h' => K1 (fun ⟨w, hw, e⟩ => by rw [nI_eq hj (by omega)] at e; omega))
theorem oc_bFact {x : Int32} {n : Nat} (hn : n < 2 ^ 31) (K0 : ∀ w, w < n → x = nI w → post 0) (K1 : ¬ (∃ w, w < n ∧ x = nI w) → post 1) : wpY_badFact post (nI n, P, M) x := by
  unfold wpY_badFact
  refine br_c (fun h => K1 (fun ⟨w, hw, e⟩ => nI_pos (n := w) (by omega) (e ▸ h))) (fun h => ?_)
  obtain ⟨j, hj, rfl⟩ := nI_of h
  exact pk_lt j n (fun h' => K0 j h' rfl) (fun h' => K1 (fun ⟨w, hw, e⟩ => by rw [nI_eq hj (by omega)] at e; omega))
theorem oc_bv {w : Nat} (hw : w < 48) (K : post 0) : wpY_badView post (fh, P, M) (nI w) := oc_bView (fun _ _ _ => K) (fun h => absurd ⟨w, hw, rfl⟩ h)
theorem oc_bc {w : Nat} (hw : w < 192) (K : post 0) : wpY_badCell post (fh, P, M) (nI w) := oc_bCell (fun _ _ _ => K) (fun h => absurd ⟨w, hw, rfl⟩ h)
theorem oc_ynx {n w i : Nat} {x2 : Int32} (hw : w < 48) (hP : oc_Pl n P) (hA : ∀ c, c < 192 → (nI c ≤ x2 ↔ c < i)) (K : ∀ r, oc_Nx (oc_g n P w) i r → post r) :
    ∀ (d j k : Nat) (r : Int32), j + d = n → d < k → oc_Nx (oc_g j P w) i r → wY_next_16 post (nI w) x2 (nI n) P M k r (nI j) := by
  have h40 := hP.1
  intro d
  induction d with
  | zero =>
    intro j k r hj hk h
    obtain ⟨k, rfl⟩ : ∃ k', k = k' + 1 := ⟨k - 1, by omega⟩
    have e : j = n := by omega
    subst e
    unfold wY_next_16
    exact br_t (nI_le (Nat.le_refl _) (by omega)) (K r h)
  | succ d ih =>
    intro j k r hj hk h
    obtain ⟨k, rfl⟩ : ∃ k', k = k' + 1 := ⟨k - 1, by omega⟩
    have hv : vp_in (nI j) 40 := vp_in_nI (by omega) (by decide)
    have e1 : (nI j).toNatClampNeg = j := nI_clamp (by omega)
    obtain ⟨p, hp, eP⟩ := hP.2 j (by omega)
    have ec : (P j).toNatClampNeg = p := by rw [eP]; exact nI_clamp (by omega)
    have hc0 := oc_fl_lt w hp
    have g1 : oc_g (j + 1) P w (oc_fl w p) = oc_g j P w (oc_fl w p) + 1 := (oc_st1 (M := M) (oc_q_t.mpr (by rw [ec]))).1
    have g2 : ∀ d, d ≠ oc_fl w p → oc_g (j + 1) P w d = oc_g j P w d := fun d hd => (oc_st0 (M := M) (fun z => hd (by rw [← oc_q_t.mp z, ec]))).1
    have nw : i ≤ oc_fl w p → (∀ d, i ≤ d → d < oc_fl w p → oc_g j P w d = 0) → oc_Nx (oc_g (j + 1) P w) i (nI (oc_fl w p)) := fun a b =>
      Or.inr ⟨_, rfl, a, hc0, by rw [g1]; omega, fun d x y => by rw [g2 d (by omega)]; exact b d x y⟩
    unfold wY_next_16
    rw [e1, eP]
    refine br_f (nI_ge (by omega) (by omega)) ⟨hv, oc_fall hw hp (br_c (fun hl => ?_) (fun hl => ?_))⟩
    · exact nm_r (nI_1 j) (ih (j + 1) k r (by omega) (by omega) (oc_Nx_low h ((hA _ hc0).mp hl) g2))
    · have hi : i ≤ oc_fl w p := by
        rw [hA _ hc0] at hl
        omega
      rcases h with ⟨e, h⟩ | ⟨c, e, h1, h2, h3, h4⟩
      · subst e
        exact br_t (by decide) (nm_r (nI_1 j) (ih (j + 1) k _ (by omega) (by omega) (nw hi (fun d x y => h d x (by omega)))))
      · subst e
        refine br_f (nI_pos (by omega)) (pk_le c (oc_fl w p) (fun hle => nm_r (nI_1 j) (ih (j + 1) k _ (by omega) (by omega) (Or.inr ⟨c, rfl, h1, h2, ?_, fun d x y => ?_⟩))) (fun hlt => nm_r (nI_1 j) (ih (j + 1) k _ (by omega) (by omega) (nw hi (fun d x y => h4 d x (by omega))))))
        · by_cases z : c = oc_fl w p
          · rw [z, g1]
            omega
          · rw [g2 c z]
            exact h3
        · rw [g2 d (by omega)]
          exact h4 d x y
theorem oc_next {n w i : Nat} {x2 : Int32} (hw : w < 48) (hP : oc_Pl n P) (hA : ∀ c, c < 192 → (nI c ≤ x2 ↔ c < i)) (K : ∀ r, oc_Nx (oc_g n P w) i r → post r) : wpY_next post (nI n, P, M) (nI w) x2 := by
  unfold wpY_next
  exact oc_bv hw (br_t rfl ⟨n + 1, oc_ynx hw hP hA K n 0 (n + 1) (-2) (by omega) (by omega) (Or.inl ⟨rfl, fun _ _ _ => rfl⟩)⟩)
theorem oc_hAm : ∀ c, c < 192 → (nI c ≤ (-1 : Int32) ↔ c < 0) := by
  intro c hc
  rw [Int32.le_iff_toInt_le, nI_toInt (by omega), show (-1 : Int32).toInt = -1 from by decide]
  omega
theorem oc_hAn {i : Nat} (hi : i < 2 ^ 31) : ∀ c, c < 192 → (nI c ≤ nI i ↔ c < i + 1) := by
  intro c hc
  rw [nI_leI (by omega) hi]
  omega
theorem oc_ysum {n w c : Nat} (hw : w < 48) (hc : c < 192) (hP : oc_Pl n P) (K : post (oc_s n P M w c)) :
    ∀ (d j k : Nat), j + d = n → d < k → wY_sum_23 post (nI w) (nI c) (nI n) P M k (oc_s j P M w c) (nI j) := by
  have h40 := hP.1
  intro d
  induction d with
  | zero =>
    intro j k hj hk
    obtain ⟨k, rfl⟩ : ∃ k', k = k' + 1 := ⟨k - 1, by omega⟩
    have e : j = n := by omega
    subst e
    unfold wY_sum_23
    exact br_t (nI_le (Nat.le_refl _) (by omega)) K
  | succ d ih =>
    intro j k hj hk
    obtain ⟨k, rfl⟩ : ∃ k', k = k' + 1 := ⟨k - 1, by omega⟩
    have hv : vp_in (nI j) 40 := vp_in_nI (by omega) (by decide)
    have e1 : (nI j).toNatClampNeg = j := nI_clamp (by omega)
    obtain ⟨p, hp, eP⟩ := hP.2 j (by omega)
    have ec : (P j).toNatClampNeg = p := by rw [eP]; exact nI_clamp (by omega)
    have hc0 := oc_fl_lt w hp
    have k1 := ih (j + 1) k (by omega) (by omega)
    unfold wY_sum_23
    rw [e1, eP]
    refine br_f (nI_ge (by omega) (by omega)) ⟨hv, oc_fall hw hp (pk_eq (oc_fl w p) c (fun h => ⟨hv, nm_r ?_ (nm_r (nI_1 j) k1)⟩) (fun h => nm_r (nI_1 j) ?_))⟩
    · exact (oc_st1 (M := M) (oc_q_t.mpr (by rw [ec]; exact h))).2.1.symm
    · rw [show oc_s (j + 1) P M w c = oc_s j P M w c from (oc_st0 (M := M) (fun z => h (by rw [← oc_q_t.mp z, ec]))).2.1] at k1
      exact k1
theorem oc_sumw {n w c : Nat} (hw : w < 48) (hc : c < 192) (hP : oc_Pl n P) (K : post (oc_s n P M w c)) : wpY_sum post (nI n, P, M) (nI w) (nI c) := by
  unfold wpY_sum
  exact oc_bv hw (br_t rfl (oc_bc hc (br_t rfl ⟨n + 1, oc_ysum hw hc hP K n 0 (n + 1) (by omega) (by omega)⟩)))
theorem oc_ycnt {n w c : Nat} (hw : w < 48) (hc : c < 192) (hP : oc_Pl n P) (K : post (nI (oc_g n P w c))) :
    ∀ (d j k : Nat), j + d = n → d < k → wY_count_26 post (nI w) (nI c) (nI n) P M k (nI (oc_g j P w c)) (nI j) := by
  have h40 := hP.1
  intro d
  induction d with
  | zero =>
    intro j k hj hk
    obtain ⟨k, rfl⟩ : ∃ k', k = k' + 1 := ⟨k - 1, by omega⟩
    have e : j = n := by omega
    subst e
    unfold wY_count_26
    exact br_t (nI_le (Nat.le_refl _) (by omega)) K
  | succ d ih =>
    intro j k hj hk
    obtain ⟨k, rfl⟩ : ∃ k', k = k' + 1 := ⟨k - 1, by omega⟩
    have hv : vp_in (nI j) 40 := vp_in_nI (by omega) (by decide)
    have e1 : (nI j).toNatClampNeg = j := nI_clamp (by omega)
    obtain ⟨p, hp, eP⟩ := hP.2 j (by omega)
    have ec : (P j).toNatClampNeg = p := by rw [eP]; exact nI_clamp (by omega)
    have hc0 := oc_fl_lt w hp
    have k1 := ih (j + 1) k (by omega) (by omega)
    unfold wY_count_26
    rw [e1, eP]
    refine br_f (nI_ge (by omega) (by omega)) ⟨hv, oc_fall hw hp (pk_eq (oc_fl w p) c (fun h => nm_r (nI_1 _) (nm_r (nI_1 j) ?_)) (fun h => nm_r (nI_1 j) ?_))⟩
    · rw [show oc_g (j + 1) P w c = oc_g j P w c + 1 from (oc_st1 (M := M) (oc_q_t.mpr (by rw [ec]; exact h))).1] at k1
      exact k1
    · rw [show oc_g (j + 1) P w c = oc_g j P w c from (oc_st0 (M := M) (fun z => h (by rw [← oc_q_t.mp z, ec]))).1] at k1
      exact k1
theorem oc_cntw {n w c : Nat} (hw : w < 48) (hc : c < 192) (hP : oc_Pl n P) (K : post (nI (oc_g n P w c))) : wpY_count post (nI n, P, M) (nI w) (nI c) := by
  unfold wpY_count
  exact oc_bv hw (br_t rfl (oc_bc hc (br_t rfl ⟨n + 1, oc_ycnt hw hc hP K n 0 (n + 1) (by omega) (by omega)⟩)))
theorem oc_ylea {n w c : Nat} (hw : w < 48) (hc : c < 192) (hP : oc_Pl n P) (K : post (oc_lo (oc_q w P c) M n)) :
    ∀ (d j k : Nat), j + d = n → d < k → wY_least_27 post (nI w) (nI c) (nI n) P M k (oc_lo (oc_q w P c) M j) (nI j) := by
  have h40 := hP.1
  intro d
  induction d with
  | zero =>
    intro j k hj hk
    obtain ⟨k, rfl⟩ : ∃ k', k = k' + 1 := ⟨k - 1, by omega⟩
    have e : j = n := by omega
    subst e
    unfold wY_least_27
    exact br_t (nI_le (Nat.le_refl _) (by omega)) K
  | succ d ih =>
    intro j k hj hk
    obtain ⟨k, rfl⟩ : ∃ k', k = k' + 1 := ⟨k - 1, by omega⟩
    have hv : vp_in (nI j) 40 := vp_in_nI (by omega) (by decide)
    have e1 : (nI j).toNatClampNeg = j := nI_clamp (by omega)
    obtain ⟨p, hp, eP⟩ := hP.2 j (by omega)
    have ec : (P j).toNatClampNeg = p := by rw [eP]; exact nI_clamp (by omega)
    have hc0 := oc_fl_lt w hp
    have k1 := ih (j + 1) k (by omega) (by omega)
    unfold wY_least_27
    rw [e1, eP]
    refine br_f (nI_ge (by omega) (by omega)) ⟨hv, oc_fall hw hp (pk_eq (oc_fl w p) c (fun h => ⟨hv, ?_⟩) (fun h => nm_r (nI_1 j) ?_))⟩
    · rw [(oc_st1 (M := M) (oc_q_t.mpr (by rw [ec]; exact h))).2.2.1] at k1
      refine br_c (fun q => nm_r (nI_1 j) ?_) (fun q => ⟨hv, nm_e (nm_r (nI_1 j) ?_)⟩)
      · rw [oc_mn, if_neg (Int32.not_lt.mpr q)] at k1
        exact k1
      · rw [oc_mn, if_pos (Int32.not_le.mp q)] at k1
        exact k1
    · rw [(oc_st0 (q := oc_q w P c) (M := M) (fun z => h (by rw [← oc_q_t.mp z, ec]))).2.2.1] at k1
      exact k1
theorem oc_leaw {n w c : Nat} (hw : w < 48) (hc : c < 192) (hP : oc_Pl n P) (K : post (oc_lo (oc_q w P c) M n)) : wpY_least post (nI n, P, M) (nI w) (nI c) := by
  unfold wpY_least
  exact oc_bv hw (br_t rfl (oc_bc hc (br_t rfl ⟨n + 1, oc_ylea hw hc hP K n 0 (n + 1) (by omega) (by omega)⟩)))
theorem oc_ymos {n w c : Nat} (hw : w < 48) (hc : c < 192) (hP : oc_Pl n P) (K : post (oc_hi (oc_q w P c) M n)) :
    ∀ (d j k : Nat), j + d = n → d < k → wY_most_27 post (nI w) (nI c) (nI n) P M k (oc_hi (oc_q w P c) M j) (nI j) := by
  have h40 := hP.1
  intro d
  induction d with
  | zero =>
    intro j k hj hk
    obtain ⟨k, rfl⟩ : ∃ k', k = k' + 1 := ⟨k - 1, by omega⟩
    have e : j = n := by omega
    subst e
    unfold wY_most_27
    exact br_t (nI_le (Nat.le_refl _) (by omega)) K
  | succ d ih =>
    intro j k hj hk
    obtain ⟨k, rfl⟩ : ∃ k', k = k' + 1 := ⟨k - 1, by omega⟩
    have hv : vp_in (nI j) 40 := vp_in_nI (by omega) (by decide)
    have e1 : (nI j).toNatClampNeg = j := nI_clamp (by omega)
    obtain ⟨p, hp, eP⟩ := hP.2 j (by omega)
    have ec : (P j).toNatClampNeg = p := by rw [eP]; exact nI_clamp (by omega)
    have hc0 := oc_fl_lt w hp
    have k1 := ih (j + 1) k (by omega) (by omega)
    unfold wY_most_27
    rw [e1, eP]
    refine br_f (nI_ge (by omega) (by omega)) ⟨hv, oc_fall hw hp (pk_eq (oc_fl w p) c (fun h => ⟨hv, ?_⟩) (fun h => nm_r (nI_1 j) ?_))⟩
    · rw [(oc_st1 (M := M) (oc_q_t.mpr (by rw [ec]; exact h))).2.2.2] at k1
      refine br_c (fun q => nm_r (nI_1 j) ?_) (fun q => ⟨hv, nm_e (nm_r (nI_1 j) ?_)⟩)
      · rw [oc_mx, if_neg (Int32.not_lt.mpr q)] at k1
        exact k1
      · rw [oc_mx, if_pos (Int32.not_le.mp q)] at k1
        exact k1
    · rw [(oc_st0 (q := oc_q w P c) (M := M) (fun z => h (by rw [← oc_q_t.mp z, ec]))).2.2.2] at k1
      exact k1
theorem oc_mosw {n w c : Nat} (hw : w < 48) (hc : c < 192) (hP : oc_Pl n P) (K : post (oc_hi (oc_q w P c) M n)) : wpY_most post (nI n, P, M) (nI w) (nI c) := by
  unfold wpY_most
  exact oc_bv hw (br_t rfl (oc_bc hc (br_t rfl ⟨n + 1, oc_ymos hw hc hP K n 0 (n + 1) (by omega) (by omega)⟩)))
end
end
section
/-! loops over cells: the reference's full, best, having, finer, viewsWith; the component's next, best, having, viewsWith -/
theorem oc_nf_z {g : Nat → Nat} {i : Nat} (h : g i = 0) : oc_nf g (i + 1) = oc_nf g i := if_pos h
theorem oc_nf_s {g : Nat → Nat} {i : Nat} (h : ¬ g i = 0) : oc_nf g (i + 1) = oc_nf g i + 1 := if_neg h
section
variable {g : Nat → Nat} {s : Nat → Int32} {b : Int32} {i : Nat}
theorem oc_bs0 (h : g i = 0) : oc_bs g s (i + 1) = oc_bs g s i := if_pos h
theorem oc_bs1 (h : ¬ g i = 0) (h1 : (oc_bs g s i).1 < 0) : oc_bs g s (i + 1) = (nI i, s i) := (if_neg h).trans (if_pos h1)
theorem oc_bs2 (h : ¬ g i = 0) (h1 : ¬ (oc_bs g s i).1 < 0) (h2 : s i ≤ (oc_bs g s i).2) : oc_bs g s (i + 1) = oc_bs g s i := (if_neg h).trans ((if_neg h1).trans (if_pos h2))
theorem oc_bs3 (h : ¬ g i = 0) (h1 : ¬ (oc_bs g s i).1 < 0) (h2 : ¬ s i ≤ (oc_bs g s i).2) : oc_bs g s (i + 1) = (nI i, s i) := (if_neg h).trans ((if_neg h1).trans (if_neg h2))
theorem oc_hv0 (h : g i = 0) : oc_hv g s b (i + 1) = oc_hv g s b i := if_pos h
theorem oc_hv1 (h : ¬ g i = 0) (h1 : s i < b) : oc_hv g s b (i + 1) = oc_hv g s b i := (if_neg h).trans (if_pos h1)
theorem oc_hv2 (h : ¬ g i = 0) (h1 : ¬ s i < b) : oc_hv g s b (i + 1) = oc_hv g s b i + 1 := (if_neg h).trans (if_neg h1)
end
section
variable {post : Int32 → Prop} {P M : Nat → Int32}
theorem oc_yfull {n w : Nat} (hw : w < 48) (hP : oc_Pl n P) (K : post (nI (oc_nf (oc_g n P w) 192))) :
    ∀ (d i k : Nat) (r : Int32), i + d = 192 → d < k → oc_Nx (oc_g n P w) i r → wY_full_19 post (nI w) (nI n) P M k (nI (oc_nf (oc_g n P w) i)) r := by
  intro d
  induction d with
  | zero =>
    intro i k r hi hk h
    obtain ⟨k, rfl⟩ : ∃ k', k = k' + 1 := ⟨k - 1, by omega⟩
    have e : i = 192 := by omega
    subst e
    have er := oc_Nx_end h
    subst er
    unfold wY_full_19
    exact br_t (by decide) K
  | succ d ih =>
    intro i k r hi hk h
    by_cases z : oc_g n P w i = 0
    · have k1 := ih (i + 1) k r (by omega) (by omega) (oc_Nx_skip h z)
      rw [oc_nf_z z] at k1
      exact k1
    · obtain ⟨k, rfl⟩ : ∃ k', k = k' + 1 := ⟨k - 1, by omega⟩
      have er := oc_Nx_here h (by omega) (by omega)
      subst er
      have hl := oc_nf_le (oc_g n P w) i
      unfold wY_full_19
      refine br_f (nI_pos (by omega)) (br_f (nI_ge (b := 192) (by omega) (by omega)) (nm_r (nI_1 _) (oc_next hw hP (oc_hAn (i := i) (by omega)) (fun r' h' => ?_))))
      have k1 := ih (i + 1) k r' (by omega) (by omega) h'
      rw [oc_nf_s z] at k1
      exact k1
theorem oc_fullw {n w : Nat} (hw : w < 48) (hP : oc_Pl n P) (K : post (nI (oc_nf (oc_g n P w) 192))) : wpY_full post (nI n, P, M) (nI w) := by
  unfold wpY_full
  exact oc_bv hw (br_t rfl (oc_next hw hP oc_hAm (fun r h => ⟨193, oc_yfull hw hP K 192 0 193 r (by omega) (by omega) h⟩)))
theorem oc_ybest {n w : Nat} (hw : w < 48) (hP : oc_Pl n P) (K : post (oc_bs (oc_g n P w) (oc_s n P M w) 192).1) :
    ∀ (d i k : Nat) (r : Int32), i + d = 192 → d < k → oc_Nx (oc_g n P w) i r → wY_best_23 post (nI w) (nI n) P M k (oc_bs (oc_g n P w) (oc_s n P M w) i).1 (oc_bs (oc_g n P w) (oc_s n P M w) i).2 r := by
  intro d
  induction d with
  | zero =>
    intro i k r hi hk h
    obtain ⟨k, rfl⟩ : ∃ k', k = k' + 1 := ⟨k - 1, by omega⟩
    have e : i = 192 := by omega
    subst e
    have er := oc_Nx_end h
    subst er
    unfold wY_best_23
    exact br_t (by decide) K
  | succ d ih =>
    intro i k r hi hk h
    by_cases z : oc_g n P w i = 0
    · have k1 := ih (i + 1) k r (by omega) (by omega) (oc_Nx_skip h z)
      rw [oc_bs0 z] at k1
      exact k1
    · obtain ⟨k, rfl⟩ : ∃ k', k = k' + 1 := ⟨k - 1, by omega⟩
      have er := oc_Nx_here h (by omega) (by omega)
      subst er
      have k47 : oc_bs (oc_g n P w) (oc_s n P M w) (i + 1) = (nI i, oc_s n P M w i) → wY_best_47 post (wY_best_23 post (nI w) (nI n) P M k) (nI w) (nI i) (oc_s n P M w i) (nI n) P M := fun e => by
        unfold wY_best_47 wY_best_53
        refine oc_next hw hP (oc_hAn (i := i) (by omega)) (fun r' h' => ?_)
        have k1 := ih (i + 1) k r' (by omega) (by omega) h'
        rw [e] at k1
        exact k1
      unfold wY_best_23
      refine br_f (nI_pos (by omega)) (oc_sumw hw (by omega) hP (br_c (fun h1 => k47 (oc_bs1 z h1)) (fun h1 => br_c (fun h2 => ?_) (fun h2 => k47 (oc_bs3 z h1 h2)))))
      unfold wY_best_53
      refine oc_next hw hP (oc_hAn (i := i) (by omega)) (fun r' h' => ?_)
      have k1 := ih (i + 1) k r' (by omega) (by omega) h'
      rw [oc_bs2 z h1 h2] at k1
      exact k1
theorem oc_bestw {n w : Nat} (hw : w < 48) (hP : oc_Pl n P) (K : post (oc_bs (oc_g n P w) (oc_s n P M w) 192).1) : wpY_best post (nI n, P, M) (nI w) := by
  unfold wpY_best
  exact oc_bv hw (br_t rfl (oc_next hw hP oc_hAm (fun r h => ⟨193, oc_ybest hw hP K 192 0 193 r (by omega) (by omega) h⟩)))
theorem oc_yhav {n w : Nat} {b : Int32} (hw : w < 48) (hP : oc_Pl n P) (K : post (oc_hv (oc_g n P w) (oc_s n P M w) b 192)) :
    ∀ (d i k : Nat) (r : Int32), i + d = 192 → d < k → oc_Nx (oc_g n P w) i r → wY_having_20 post (nI w) b (nI n) P M k (oc_hv (oc_g n P w) (oc_s n P M w) b i) r := by
  intro d
  induction d with
  | zero =>
    intro i k r hi hk h
    obtain ⟨k, rfl⟩ : ∃ k', k = k' + 1 := ⟨k - 1, by omega⟩
    have e : i = 192 := by omega
    subst e
    have er := oc_Nx_end h
    subst er
    unfold wY_having_20
    exact br_t (by decide) K
  | succ d ih =>
    intro i k r hi hk h
    by_cases z : oc_g n P w i = 0
    · have k1 := ih (i + 1) k r (by omega) (by omega) (oc_Nx_skip h z)
      rw [oc_hv0 z] at k1
      exact k1
    · obtain ⟨k, rfl⟩ : ∃ k', k = k' + 1 := ⟨k - 1, by omega⟩
      have er := oc_Nx_here h (by omega) (by omega)
      subst er
      have k43 : ∀ x, oc_hv (oc_g n P w) (oc_s n P M w) b (i + 1) = x → wY_having_43 post (wY_having_20 post (nI w) b (nI n) P M k) (nI w) b x (nI i) (nI n) P M := fun x e => by
        unfold wY_having_43
        refine oc_next hw hP (oc_hAn (i := i) (by omega)) (fun r' h' => ?_)
        have k1 := ih (i + 1) k r' (by omega) (by omega) h'
        rw [e] at k1
        exact k1
      unfold wY_having_20
      exact br_f (nI_pos (by omega)) (oc_sumw hw (by omega) hP (br_c (fun h1 => k43 _ (oc_hv1 z h1)) (fun h1 => nm_e (k43 _ (oc_hv2 z h1)))))
theorem oc_havw {n w : Nat} {b : Int32} (hw : w < 48) (hP : oc_Pl n P) (K : post (oc_hv (oc_g n P w) (oc_s n P M w) b 192)) : wpY_having post (nI n, P, M) (nI w) b := by
  unfold wpY_having
  exact oc_bv hw (br_t rfl (oc_next hw hP oc_hAm (fun r h => ⟨193, oc_yhav hw hP K 192 0 193 r (by omega) (by omega) h⟩)))
theorem oc_yvw {n : Nat} {x : Int32} (hP : oc_Pl n P) (K : post (oc_vw (fun w => oc_nf (oc_g n P w) 192) x 48)) :
    ∀ (d i k : Nat), i + d = 48 → d < k → wY_viewsWith_17 post x (nI n) P M k (oc_vw (fun w => oc_nf (oc_g n P w) 192) x i) (nI i) := by
  intro d
  induction d with
  | zero =>
    intro i k hi hk
    obtain ⟨k, rfl⟩ : ∃ k', k = k' + 1 := ⟨k - 1, by omega⟩
    have e : i = 48 := by omega
    subst e
    unfold wY_viewsWith_17
    exact br_t (nI_le (a := 48) (b := 48) (by omega) (by omega)) K
  | succ d ih =>
    intro i k hi hk
    obtain ⟨k, rfl⟩ : ∃ k', k = k' + 1 := ⟨k - 1, by omega⟩
    have k1 := ih (i + 1) k (by omega) (by omega)
    unfold wY_viewsWith_17
    refine br_f (nI_ge (b := 48) (by omega) (by omega)) (oc_fullw (by omega) hP (br_c (fun h => nm_e (nm_r (nI_1 i) ?_)) (fun h => nm_r (nI_1 i) ?_)))
    · rw [show oc_vw (fun w => oc_nf (oc_g n P w) 192) x (i + 1) = oc_vw (fun w => oc_nf (oc_g n P w) 192) x i + 1 from if_pos h] at k1
      exact k1
    · rw [show oc_vw (fun w => oc_nf (oc_g n P w) 192) x (i + 1) = oc_vw (fun w => oc_nf (oc_g n P w) 192) x i from if_neg h] at k1
      exact k1
/-- p and q fall together in f and apart in w -/
def oc_cf (f w p q : Nat) : Prop := oc_fl f q = oc_fl f p ∧ ¬ oc_fl w q = oc_fl w p
theorem oc_y46 {f w p : Nat} {fh : Int32} {J : Int32 → Prop} (hf : f < 48) (hw : w < 48) (hp : p < 192) (K0 : (∃ q, q < p ∧ oc_cf f w p q) → post 0) (KJ : (∀ q, q < p → ¬ oc_cf f w p q) → J (nI (p + 1))) :
    ∀ (d i k : Nat), i + d = p → d < k → (∀ q, q < i → ¬ oc_cf f w p q) → wY_finer_46 post J (nI f) (nI w) (nI p) (nI (oc_fl f p)) (nI (oc_fl w p)) fh P M k (nI i) := by
  have l1 := oc_fl_lt f hp
  have l2 := oc_fl_lt w hp
  intro d
  induction d with
  | zero =>
    intro i k hi hk h
    obtain ⟨k, rfl⟩ : ∃ k', k = k' + 1 := ⟨k - 1, by omega⟩
    have e : i = p := by omega
    subst e
    unfold wY_finer_46
    exact br_t (nI_le (Nat.le_refl _) (by omega)) (nm_r (nI_1 i) (KJ h))
  | succ d ih =>
    intro i k hi hk h
    obtain ⟨k, rfl⟩ : ∃ k', k = k' + 1 := ⟨k - 1, by omega⟩
    have l3 := oc_fl_lt f (p := i) (by omega)
    have l4 := oc_fl_lt w (p := i) (by omega)
    have go : ¬ oc_cf f w p i → wY_finer_46 post J (nI f) (nI w) (nI p) (nI (oc_fl f p)) (nI (oc_fl w p)) fh P M k (nI (i + 1)) := fun hn => by
      refine ih (i + 1) k (by omega) (by omega) (fun q hq => ?_)
      by_cases e : q = i
      · rw [e]
        exact hn
      · exact h q (by omega)
    unfold wY_finer_46
    exact br_f (nI_ge (by omega) (by omega)) (oc_fall hf (by omega) (pk_eq (oc_fl f i) (oc_fl f p) (fun a => oc_fall hw (by omega) (pk_eq (oc_fl w i) (oc_fl w p) (fun b => nm_r (nI_1 i) (go (fun z => z.2 b))) (fun b => K0 ⟨i, by omega, a, b⟩))) (fun a => nm_r (nI_1 i) (go (fun z => a z.1)))))
theorem oc_y20 {f w : Nat} {fh : Int32} (hf : f < 48) (hw : w < 48) (K0 : (∃ p, p < 192 ∧ ∃ q, q < p ∧ oc_cf f w p q) → post 0) (K1 : (∀ p, p < 192 → ∀ q, q < p → ¬ oc_cf f w p q) → post 1) :
    ∀ (d i k : Nat), i + d = 192 → d < k → (∀ p, p < i → ∀ q, q < p → ¬ oc_cf f w p q) → wY_finer_20 post (nI f) (nI w) fh P M k (nI i) := by
  intro d
  induction d with
  | zero =>
    intro i k hi hk h
    obtain ⟨k, rfl⟩ : ∃ k', k = k' + 1 := ⟨k - 1, by omega⟩
    have e : i = 192 := by omega
    subst e
    unfold wY_finer_20
    exact br_t (nI_le (a := 192) (b := 192) (by omega) (by omega)) (K1 h)
  | succ d ih =>
    intro i k hi hk h
    obtain ⟨k, rfl⟩ : ∃ k', k = k' + 1 := ⟨k - 1, by omega⟩
    unfold wY_finer_20
    refine br_f (nI_ge (b := 192) (by omega) (by omega)) (oc_fall hf (by omega) (oc_fall hw (by omega) ⟨i + 1, oc_y46 hf hw (by omega) (fun ⟨q, a, c⟩ => K0 ⟨i, by omega, q, a, c⟩) (fun hn => ih (i + 1) k (by omega) (by omega) (fun p hp => ?_)) i 0 (i + 1) (by omega) (by omega) (fun q hq => absurd hq (Nat.not_lt_zero q))⟩))
    by_cases e : p = i
    · rw [e]
      exact hn
    · exact h p (by omega)
theorem oc_finw {f w : Nat} {fh : Int32} (hf : f < 48) (hw : w < 48) (K0 : ¬ oc_fi f w → post 0) (K1 : oc_fi f w → post 1) : wpY_finer post (fh, P, M) (nI f) (nI w) := by
  unfold wpY_finer
  refine oc_bv hf (br_t rfl (oc_bv hw (br_t rfl ⟨193, oc_y20 hf hw (fun ⟨p, hp, q, hq, c⟩ => K0 (fun z => c.2 (oc_fi_eq hf hw hp (by omega) z c.1))) (fun h => ?_) 192 0 193 (by omega) (by omega) (fun p hp => absurd hp (Nat.not_lt_zero p))⟩)))
  by_cases z : oc_fi f w
  · exact K1 z
  · obtain ⟨p, hp, q, hq, c⟩ := oc_nfi hf hw z
    exact absurd c (h p hp q hq)
end
section
variable {post : Int32 → SX → Prop} {fs fk : Int32} {P M V F U C S L H : Nat → Int32}
theorem oc_xat (s c : Nat) : (192 : Int32) * nI s + nI c = nI (192 * s + c) := by
  rw [show (192 : Int32) * nI s = nI (192 * s) from pk_mul 192 s, nI_add]
theorem oc_xnx {n w s i0 : Nat} {x4 : Int32} (hs : s < 5) (hn : n ≤ 40) (hV : oc_V n P M w s F C S L H) (hA : ∀ c, c < 192 → (nI c ≤ x4 ↔ c < i0)) (K : ∀ r, oc_Nx (oc_g n P w) i0 r → post r (fs, fk, P, M, V, F, U, C, S, L, H)) :
    ∀ (d i k : Nat), i + d = 192 → d < k → (∀ c, i0 ≤ c → c < i → oc_g n P w c = 0) → wX_next_30 post (nI s) x4 fs fk P M V F U C S L H k (nI i) := by
  intro d
  induction d with
  | zero =>
    intro i k hi hk h
    obtain ⟨k, rfl⟩ : ∃ k', k = k' + 1 := ⟨k - 1, by omega⟩
    have e : i = 192 := by omega
    subst e
    unfold wX_next_30
    exact br_t (nI_le (a := 192) (b := 192) (by omega) (by omega)) (K _ (Or.inl ⟨rfl, h⟩))
  | succ d ih =>
    intro i k hi hk h
    obtain ⟨k, rfl⟩ : ∃ k', k = k' + 1 := ⟨k - 1, by omega⟩
    have hi' : i < 192 := by omega
    have hv : vp_in (nI (192 * s + i)) 960 := vp_in_nI (by omega) (by decide)
    have e1 : (nI (192 * s + i)).toNatClampNeg = 192 * s + i := nI_clamp (by omega)
    have hm : oc_g n P w i ≤ n := oc_ct_le _ n
    have y1 : C (192 * s + i) = nI (oc_g n P w i) := (hV.2 i hi').1
    unfold wX_next_30
    rw [oc_xat, e1, y1]
    refine br_f (nI_ge (b := 192) hi' (by omega)) (br_c (fun hl => nm_r (nI_1 i) (ih (i + 1) k (by omega) (by omega) (fun c a b => ?_))) (fun hl => ⟨hv, pk_le (oc_g n P w i) 0 (fun h0 => nm_r (nI_1 i) (ih (i + 1) k (by omega) (by omega) (fun c a b => ?_))) (fun h0 => K _ (Or.inr ⟨i, rfl, ?_, hi', h0, h⟩))⟩))
    · rw [hA i hi'] at hl
      exact h c a (by omega)
    · by_cases e : c = i
      · rw [e]
        omega
      · exact h c a (by omega)
    · rw [hA i hi'] at hl
      omega
theorem oc_xbest {n w s : Nat} (hs : s < 5) (hn : n ≤ 40) (hV : oc_V n P M w s F C S L H) (K : post (oc_bs (oc_g n P w) (oc_s n P M w) 192).1 (fs, fk, P, M, V, F, U, C, S, L, H)) :
    ∀ (d i k : Nat), i + d = 192 → d < k → wX_best_21 post (nI s) fs fk P M V F U C S L H k (oc_bs (oc_g n P w) (oc_s n P M w) i).1 (nI i) := by
  intro d
  induction d with
  | zero =>
    intro i k hi hk
    obtain ⟨k, rfl⟩ : ∃ k', k = k' + 1 := ⟨k - 1, by omega⟩
    have e : i = 192 := by omega
    subst e
    unfold wX_best_21
    exact br_t (nI_le (a := 192) (b := 192) (by omega) (by omega)) K
  | succ d ih =>
    intro i k hi hk
    obtain ⟨k, rfl⟩ : ∃ k', k = k' + 1 := ⟨k - 1, by omega⟩
    have hi' : i < 192 := by omega
    have hv : vp_in (nI (192 * s + i)) 960 := vp_in_nI (by omega) (by decide)
    have e1 : (nI (192 * s + i)).toNatClampNeg = 192 * s + i := nI_clamp (by omega)
    have hm : oc_g n P w i ≤ n := oc_ct_le _ n
    have y1 : C (192 * s + i) = nI (oc_g n P w i) := (hV.2 i hi').1
    have y2 : S (192 * s + i) = oc_s n P M w i := (hV.2 i hi').2.1
    have k1 := ih (i + 1) k (by omega) (by omega)
    unfold wX_best_21
    refine br_f (nI_ge (b := 192) hi' (by omega)) (nm_r (oc_xat s i) ⟨hv, ?_⟩)
    rw [e1, y1, y2]
    refine pk_le (oc_g n P w i) 0 (fun h0 => nm_r (nI_1 i) ?_) (fun h0 => ?_)
    · rw [oc_bs0 (by omega)] at k1
      exact k1
    · have z : ¬ oc_g n P w i = 0 := by omega
      rcases oc_bs_i (oc_g n P w) (oc_s n P M w) i (by omega) with h | ⟨c, hc, h⟩
      · have h1 : (oc_bs (oc_g n P w) (oc_s n P M w) i).1 < 0 := by rw [h]; decide
        rw [oc_bs1 z h1] at k1
        exact br_t h1 (nm_r (nI_1 i) k1)
      · have h1 : ¬ (oc_bs (oc_g n P w) (oc_s n P M w) i).1 < 0 := by rw [h]; exact nI_pos (by omega)
        have f1 : (oc_bs (oc_g n P w) (oc_s n P M w) i).1 = nI c := by rw [h]
        have f2 : (oc_bs (oc_g n P w) (oc_s n P M w) i).2 = S (192 * s + c) := by
          rw [h]
          exact ((hV.2 c (by omega)).2.1).symm
        have hvc : vp_in (nI (192 * s + c)) 960 := vp_in_nI (by omega) (by decide)
        have ec : (nI (192 * s + c)).toNatClampNeg = 192 * s + c := nI_clamp (by omega)
        refine br_f h1 ⟨hv, ?_⟩
        rw [f1, oc_xat s c, ec]
        refine ⟨hvc, br_c (fun h2 => nm_r (nI_1 i) ?_) (fun h2 => nm_r (nI_1 i) ?_)⟩
        · rw [← f2] at h2
          rw [oc_bs2 z h1 h2, f1] at k1
          exact k1
        · rw [← f2] at h2
          rw [oc_bs3 z h1 h2] at k1
          exact k1
theorem oc_xhav {n w s : Nat} {b : Int32} (hs : s < 5) (hn : n ≤ 40) (hV : oc_V n P M w s F C S L H) (K : post (oc_hv (oc_g n P w) (oc_s n P M w) b 192) (fs, fk, P, M, V, F, U, C, S, L, H)) :
    ∀ (d i k : Nat), i + d = 192 → d < k → wX_having_25 post b (nI s) fs fk P M V F U C S L H k (oc_hv (oc_g n P w) (oc_s n P M w) b i) (nI (192 * s + i)) := by
  have hm : (192 : Int32) * nI s + 192 = nI (192 * s + 192) := oc_xat s 192
  intro d
  induction d with
  | zero =>
    intro i k hi hk
    obtain ⟨k, rfl⟩ : ∃ k', k = k' + 1 := ⟨k - 1, by omega⟩
    have e : i = 192 := by omega
    subst e
    unfold wX_having_25
    rw [hm]
    exact br_t (nI_le (Nat.le_refl _) (by omega)) K
  | succ d ih =>
    intro i k hi hk
    obtain ⟨k, rfl⟩ : ∃ k', k = k' + 1 := ⟨k - 1, by omega⟩
    have hi' : i < 192 := by omega
    have hv : vp_in (nI (192 * s + i)) 960 := vp_in_nI (by omega) (by decide)
    have e1 : (nI (192 * s + i)).toNatClampNeg = 192 * s + i := nI_clamp (by omega)
    have hg : oc_g n P w i ≤ n := oc_ct_le _ n
    have y1 : C (192 * s + i) = nI (oc_g n P w i) := (hV.2 i hi').1
    have y2 : S (192 * s + i) = oc_s n P M w i := (hV.2 i hi').2.1
    have k1 := ih (i + 1) k (by omega) (by omega)
    unfold wX_having_25
    rw [hm, e1, y1, y2]
    refine br_f (nI_ge (by omega) (by omega)) ⟨hv, pk_le (oc_g n P w i) 0 (fun h0 => nm_r (Int32.add_zero _) (nm_r (nI_1 _) ?_)) (fun h0 => ⟨hv, br_c (fun h1 => nm_r (Int32.add_zero _) (nm_r (nI_1 _) ?_)) (fun h1 => nm_e (nm_r (nI_1 _) ?_))⟩)⟩
    · rw [oc_hv0 (by omega)] at k1
      exact k1
    · rw [oc_hv1 (by omega) h1] at k1
      exact k1
    · rw [oc_hv2 (by omega) h1] at k1
      exact k1
theorem oc_xvw {n : Nat} {x : Int32} 
    (K : ∀ (fk' : Int32) (V' F' U' C' S' L' H' : Nat → Int32), oc_I n P M V' F' C' S' L' H' → post (oc_vw (fun w => oc_nf (oc_g n P w) 192) x 48) (fs, fk', P, M, V', F', U', C', S', L', H')) :
    ∀ (d i k : Nat) (fk : Int32) (V F U C S L H : Nat → Int32), i + d = 48 → d < k → oc_I n P M V F C S L H → wX_viewsWith_17 post x k (oc_vw (fun w => oc_nf (oc_g n P w) 192) x i) (nI i) fs fk P M V F U C S L H := by
  intro d
  induction d with
  | zero =>
    intro i k fk V F U C S L H hi hk hI
    obtain ⟨k, rfl⟩ : ∃ k', k = k' + 1 := ⟨k - 1, by omega⟩
    have e : i = 48 := by omega
    subst e
    unfold wX_viewsWith_17
    exact br_t (nI_le (a := 48) (b := 48) (by omega) (by omega)) (K fk V F U C S L H hI)
  | succ d ih =>
    intro i k fk V F U C S L H hi hk hI
    obtain ⟨k, rfl⟩ : ∃ k', k = k' + 1 := ⟨k - 1, by omega⟩
    unfold wX_viewsWith_17
    refine br_f (nI_ge (b := 48) (by omega) (by omega)) (oc_slot (by omega) hI (fun s fk' V' F' U' C' S' L' H' hs hI' hV => ?_))
    have e1 : (nI s).toNatClampNeg = s := nI_clamp (by omega)
    have hv : vp_in (nI s) 5 := vp_in_nI hs (by decide)
    have y : F' s = nI (oc_nf (oc_g n P i) 192) := hV.1
    have k1 := ih (i + 1) k fk' V' F' U' C' S' L' H' (by omega) (by omega) hI'
    dsimp only
    rw [e1, y]
    refine ⟨hv, br_c (fun h => nm_e (nm_r (nI_1 i) ?_)) (fun h => nm_r (Int32.add_zero _) (nm_r (nI_1 i) ?_))⟩
    · rw [show oc_vw (fun w => oc_nf (oc_g n P w) 192) x (i + 1) = oc_vw (fun w => oc_nf (oc_g n P w) 192) x i + 1 from if_pos h] at k1
      exact k1
    · rw [show oc_vw (fun w => oc_nf (oc_g n P w) 192) x (i + 1) = oc_vw (fun w => oc_nf (oc_g n P w) 192) x i from if_neg h] at k1
      exact k1
end
end
section
/-! methods that store facts: put, sow, drop on both sides -/
section
variable {A B : Prop}
theorem oc_y191 {x : Int32} (KA : ∀ p, p < 192 → x = nI p → A) (KB : ¬ (∃ p, p < 192 ∧ x = nI p) → B) : (x < 0 → B) ∧ (¬ x < 0 → ((x ≤ 191 → A) ∧ (¬ x ≤ 191 → B))) := by
  refine br_c (fun h => KB (fun ⟨w, hw, e⟩ => nI_pos (n := w) (by omega) (e ▸ h))) (fun h => ?_)
  obtain ⟨j, hj, rfl⟩ := nI_of h
  exact pk_le j 191 (fun h' => KA j (by omega) rfl) (fun h' => KB (fun ⟨w, hw, e⟩ => by rw [nI_eq hj (by omega)] at e; omega))
theorem oc_yms {y : Int32} (KA : oc_ms y → A) (KB : ¬ oc_ms y → B) : (y < (-1000) → B) ∧ (¬ y < (-1000) → ((y ≤ 1000 → A) ∧ (¬ y ≤ 1000 → B))) :=
  br_c (fun h => KB (fun k => k.1 h)) (fun h => br_c (fun h' => KA ⟨h, h'⟩) (fun h' => KB (fun k => h' k.2)))
end
section
variable {post : SY → Prop} {P M : Nat → Int32}
theorem oc_yapp {n : Nat} {x y : Int32} (hn : n < 40) (K : post (nI (n + 1), upd P n x, upd M n y)) : wpY_append post (nI n, P, M) x y := by
  have hv : vp_in (nI n) 40 := vp_in_nI hn (by decide)
  have e1 : (nI n).toNatClampNeg = n := nI_clamp (by omega)
  unfold wpY_append
  refine ⟨hv, nm_e ⟨hv, nm_e (nm_r (nI_1 n) ?_)⟩⟩
  rw [e1]
  exact K
end
/-- the place and the measure that sow makes -/
def oc_sp (a b k : Nat) : Nat := (a + k * b) % 192
def oc_sv (a k : Nat) : Int32 := (((nI a * 7) + ((nI k * nI k) * 11)) - ((nI a * 7) + ((nI k * nI k) * 11)) / 300 * 300) - 100
theorem oc_spE {a b k : Nat} (ha : a < 192) (hb : b < 192) (hk : k ≤ 40) : (nI a + (nI k * nI b)) - (nI a + (nI k * nI b)) / 192 * 192 = nI (oc_sp a b k) := by
  have h1 : k * b ≤ 40 * 191 := Nat.mul_le_mul hk (by omega)
  rw [pk_mul, nI_add]
  exact pk_rem (d := 192) (by omega) (by decide) (by decide)
theorem oc_sp_lt (a b k : Nat) : oc_sp a b k < 192 := Nat.mod_lt _ (by decide)
def oc_sw (a b : Nat) : Nat → Nat → Nat → (Nat → Int32) → (Nat → Int32) → Nat × (Nat → Int32) × (Nat → Int32)
  | 0, _, n, P, M => (n, P, M)
  | d + 1, k, n, P, M => if n < 40 then oc_sw a b d (k + 1) (n + 1) (upd P n (nI (oc_sp a b k))) (upd M n (oc_sv a k)) else (n, P, M)
theorem oc_sw40 {a b n : Nat} {P M : Nat → Int32} (h : ¬ n < 40) : ∀ d k : Nat, oc_sw a b d k n P M = (n, P, M) := by
  intro d
  cases d with
  | zero => exact fun _ => rfl
  | succ d => exact fun _ => if_neg h
section
variable {fk : Int32} {V U : Nat → Int32}
theorem oc_xsow {post : Int32 → SX → Prop} {a b c : Nat} {R : Nat × (Nat → Int32) × (Nat → Int32)} (ha : a < 192) (hb : b < 192) (hc : c ≤ 40)
    (K : ∀ F' C' S' L' H' : Nat → Int32, oc_I R.1 R.2.1 R.2.2 V F' C' S' L' H' → post (nI R.1) (nI R.1, fk, R.2.1, R.2.2, V, F', U, C', S', L', H')) :
    ∀ (d i k n : Nat) (P M F C S L H : Nat → Int32), i + d = c → d < k → oc_sw a b d i n P M = R → oc_I n P M V F C S L H → wX_sow_36 post (nI a) (nI b) (nI c) k (nI i) (nI n) fk P M V F U C S L H := by
  intro d
  induction d with
  | zero =>
    intro i k n P M F C S L H hi hk hR hI
    obtain ⟨k, rfl⟩ : ∃ k', k = k' + 1 := ⟨k - 1, by omega⟩
    have e : i = c := by omega
    subst e
    subst hR
    unfold wX_sow_36
    exact br_t (nI_le (Nat.le_refl _) (by omega)) (K F C S L H hI)
  | succ d ih =>
    intro i k n P M F C S L H hi hk hR hI
    obtain ⟨k, rfl⟩ : ∃ k', k = k' + 1 := ⟨k - 1, by omega⟩
    have h40 := hI.1.1
    unfold wX_sow_36
    rw [oc_spE ha hb (k := i) (by omega)]
    refine br_f (nI_ge (by omega) (by omega)) (pk_le 40 n (fun h => ?_) (fun h => ⟨by decide, by decide, oc_add hI h (oc_sp_lt a b i) (fun F' C' S' L' H' hI' => nm_r (nI_1 i) (ih (i + 1) k (n + 1) _ _ F' C' S' L' H' (by omega) (by omega) ?_ hI'))⟩))
    · rw [oc_sw40 (by omega)] at hR
      subst hR
      exact K F C S L H hI
    · rw [← hR]
      exact (if_pos h).symm
theorem oc_ysow {post : Int32 → SY → Prop} {a b c : Nat} {R : Nat × (Nat → Int32) × (Nat → Int32)} (ha : a < 192) (hb : b < 192) (hc : c ≤ 40)
    (K : post (nI R.1) (nI R.1, R.2.1, R.2.2)) :
    ∀ (d i k n : Nat) (P M : Nat → Int32), i + d = c → d < k → n ≤ 40 → oc_sw a b d i n P M = R → wY_sow_44 post (nI a) (nI b) (nI c) k (nI i) (nI n) P M := by
  intro d
  induction d with
  | zero =>
    intro i k n P M hi hk h40 hR
    obtain ⟨k, rfl⟩ : ∃ k', k = k' + 1 := ⟨k - 1, by omega⟩
    have e : i = c := by omega
    subst e
    subst hR
    unfold wY_sow_44
    exact br_t (nI_le (Nat.le_refl _) (by omega)) K
  | succ d ih =>
    intro i k n P M hi hk h40 hR
    obtain ⟨k, rfl⟩ : ∃ k', k = k' + 1 := ⟨k - 1, by omega⟩
    unfold wY_sow_44
    rw [oc_spE ha hb (k := i) (by omega)]
    refine br_f (nI_ge (by omega) (by omega)) (pk_le 40 n (fun h => nm_r (nI_1 i) (ih (i + 1) k n P M (by omega) (by omega) h40 ?_)) (fun h => ⟨by decide, by decide, oc_yapp h (nm_r (nI_1 i) (ih (i + 1) k (n + 1) _ _ (by omega) (by omega) (by omega) ?_))⟩))
    · rw [oc_sw40 (by omega)] at hR
      rw [oc_sw40 (by omega)]
      exact hR
    · rw [← hR]
      exact (if_pos h).symm
end
/-- what drop leaves: from i on each cell takes the next one's -/
def oc_sh : Nat → Nat → (Nat → Int32) → Nat → Int32
  | 0, _, P => P
  | d + 1, i, P => oc_sh d (i + 1) (upd P i (P (i + 1)))
section
variable {fk : Int32} {V F U C S L H : Nat → Int32}
theorem oc_xdrop {post : Int32 → SX → Prop} {n : Nat} {P' M' : Nat → Int32} (hn : n ≤ 40) (h0 : V 0 = 0)
    (K : ∀ V' F' C' S' L' H' : Nat → Int32, oc_I (n - 1) P' M' V' F' C' S' L' H' → post (nI (n - 1)) (nI (n - 1), fk, P', M', V', F', U, C', S', L', H')) :
    ∀ (d i k : Nat) (P M : Nat → Int32), i + 1 + d = n → d < k → oc_sh d i P = P' → oc_sh d i M = M' → (∀ j, j < n → ∃ p, p < 192 ∧ P j = nI p) → wX_drop_14 post (nI n) fk k (nI (i + 1)) P M V F U C S L H := by
  intro d
  induction d with
  | zero =>
    intro i k P M hi hk eP eM hP
    obtain ⟨k, rfl⟩ : ∃ k', k = k' + 1 := ⟨k - 1, by omega⟩
    subst eP
    subst eM
    have e : nI n - 1 = nI (n - 1) := pk_sub (a := n) (b := 1) (by omega)
    unfold wX_drop_14
    refine br_t (nI_le (by omega) (by omega)) (nm_r e (oc_anew ⟨by omega, fun j hj => hP j (by omega)⟩ h0 (fun V' F' C' S' L' H' hI => K V' F' C' S' L' H' hI)))
  | succ d ih =>
    intro i k P M hi hk eP eM hP
    obtain ⟨k, rfl⟩ : ∃ k', k = k' + 1 := ⟨k - 1, by omega⟩
    have e1 : (nI (i + 1)).toNatClampNeg = i + 1 := nI_clamp (by omega)
    have e2 : (nI i).toNatClampNeg = i := nI_clamp (by omega)
    have hv1 : vp_in (nI (i + 1)) 40 := vp_in_nI (by omega) (by decide)
    have hv2 : vp_in (nI i) 40 := vp_in_nI (by omega) (by decide)
    unfold wX_drop_14
    rw [nI_pred, e1, e2]
    refine br_f (nI_ge (by omega) (by omega)) ⟨hv1, hv2, nm_e ⟨hv1, hv2, nm_e (nm_r (nI_1 (i + 1)) (ih (i + 1) k _ _ (by omega) (by omega) eP eM (fun j hj => ?_)))⟩⟩
    by_cases e : j = i
    · subst e
      rw [pk_us]
      exact hP (j + 1) (by omega)
    · rw [pk_un e]
      exact hP j hj
theorem oc_ydrop {post : Int32 → SY → Prop} {n : Nat} {P' M' : Nat → Int32} (hn : n ≤ 40)
    (K : post (nI (n - 1)) (nI (n - 1), P', M')) :
    ∀ (d i k : Nat) (P M : Nat → Int32), i + 1 + d = n → d < k → oc_sh d i P = P' → oc_sh d i M = M' → wY_drop_12 post (nI n) k (nI i) P M := by
  intro d
  induction d with
  | zero =>
    intro i k P M hi hk eP eM
    obtain ⟨k, rfl⟩ : ∃ k', k = k' + 1 := ⟨k - 1, by omega⟩
    subst eP
    subst eM
    have e : nI n - 1 = nI (n - 1) := pk_sub (a := n) (b := 1) (by omega)
    unfold wY_drop_12
    rw [nI_1 i]
    exact br_t (nI_le (by omega) (by omega)) (nm_r e K)
  | succ d ih =>
    intro i k P M hi hk eP eM
    obtain ⟨k, rfl⟩ : ∃ k', k = k' + 1 := ⟨k - 1, by omega⟩
    have e1 : (nI (i + 1)).toNatClampNeg = i + 1 := nI_clamp (by omega)
    have e2 : (nI i).toNatClampNeg = i := nI_clamp (by omega)
    have hv1 : vp_in (nI (i + 1)) 40 := vp_in_nI (by omega) (by decide)
    have hv2 : vp_in (nI i) 40 := vp_in_nI (by omega) (by decide)
    unfold wY_drop_12
    rw [nI_1 i, e1, e2]
    exact br_f (nI_ge (by omega) (by omega)) ⟨hv1, hv2, nm_e ⟨hv1, hv2, nm_e (nm_e (ih (i + 1) k _ _ (by omega) (by omega) eP eM))⟩⟩
end
end
section
/-! what is owed: the relation, and one statement a method -/
def i_Rel (k : Nat) (u : SX) (v : SY) : Prop :=
  ∃ (n : Nat) (fk : Int32) (P M V F U C S L H : Nat → Int32), u = (nI n, fk, P, M, V, F, U, C, S, L, H) ∧ v = (nI n, P, M) ∧ oc_I n P M V F C S L H
theorem oc_mk {k n : Nat} {fk : Int32} {P M V F U C S L H : Nat → Int32} (hI : oc_I n P M V F C S L H) : i_Rel k (nI n, fk, P, M, V, F, U, C, S, L, H) (nI n, P, M) :=
  ⟨n, fk, P, M, V, F, U, C, S, L, H, rfl, rfl, hI⟩
theorem i_up {k : Nat} {u : SX} {v : SY} (h : i_Rel k u v) : i_Rel (k + 4) u v := h
theorem i_vc0 : wpX_init (fun u => wpY_init (fun v => i_Rel 0 u v)) := by
  unfold wpX_init
  exact ⟨5, oc_in79 (fun V' F' C' S' L' H' hI => oc_mk (k := 0) (n := 0) hI) 4 1 5 _ (by omega) (by omega) (by omega) rfl (fun j h1 h2 => by omega)⟩
theorem i_vc_put {k : Nat} {u : SX} {v : SY} (I : i_Rel k u v) (hk : k + 4 ≤ 2048) (v1 : Int32) (v2 : Int32) : wpX_put (fun r u' => wpY_put (fun r' v' => r' = r ∧ i_Rel (k + 4) u' v') v v1 v2) u v1 v2 := by
  obtain ⟨n, fk, P, M, V, F, U, C, S, L, H, rfl, rfl, hI⟩ := I
  unfold wpX_put
  have h40 := hI.1.1
  refine oc_isCell (fun h => br_t rfl ?_) (fun p hp e => br_f (by decide) (oc_isMea (fun h => br_t rfl ?_) (fun h => br_f (by decide) (pk_eq n 40 (fun h1 => ?_) (fun h1 => ?_)))))
  · unfold wpY_put
    exact oc_y191 (fun p hp e => absurd ⟨p, hp, e⟩ h) (fun _ => ⟨rfl, oc_mk hI⟩)
  · unfold wpY_put
    exact oc_y191 (fun p hp e => oc_yms (fun z => absurd z h) (fun _ => ⟨rfl, oc_mk hI⟩)) (fun z => absurd ⟨p, hp, e⟩ z)
  · unfold wpY_put
    exact oc_y191 (fun p hp e => oc_yms (fun _ => pk_lt n 40 (fun z => absurd h1 (by omega)) (fun _ => ⟨rfl, oc_mk hI⟩)) (fun z => absurd h z)) (fun z => absurd ⟨p, hp, e⟩ z)
  · subst e
    refine oc_add hI (by omega) hp (fun F' C' S' L' H' hI' => ?_)
    unfold wpY_put
    exact oc_y191 (fun _ _ _ => oc_yms (fun _ => pk_lt n 40 (fun z => oc_yapp z ⟨rfl, oc_mk hI'⟩) (fun z => absurd z (by omega))) (fun z => absurd h z)) (fun z => absurd ⟨p, hp, rfl⟩ z)
theorem i_vc_sow {k : Nat} {u : SX} {v : SY} (I : i_Rel k u v) (hk : k + 4 ≤ 2048) (v1 : Int32) (v2 : Int32) (v3 : Int32) : wpX_sow (fun r u' => wpY_sow (fun r' v' => r' = r ∧ i_Rel (k + 4) u' v') v v1 v2 v3) u v1 v2 v3 := by
  obtain ⟨n, fk, P, M, V, F, U, C, S, L, H, rfl, rfl, hI⟩ := I
  unfold wpX_sow
  refine oc_isCell (fun h => br_t rfl ?_) (fun a ha ea => br_f (by decide) (oc_isCell (fun h => br_t rfl ?_) (fun b hb eb => br_f (by decide) (br_c (fun h1 => ?_) (fun h1 => br_c (fun h2 => ?_) (fun h2 => ?_))))))
  · unfold wpY_sow
    exact oc_y191 (fun p hp e => absurd ⟨p, hp, e⟩ h) (fun _ => ⟨rfl, oc_mk hI⟩)
  · unfold wpY_sow
    exact oc_y191 (fun _ _ _ => oc_y191 (fun p hp e => absurd ⟨p, hp, e⟩ h) (fun _ => ⟨rfl, oc_mk hI⟩)) (fun z => absurd ⟨a, ha, ea⟩ z)
  · unfold wpY_sow
    exact oc_y191 (fun _ _ _ => oc_y191 (fun _ _ _ => br_t h1 ⟨rfl, oc_mk hI⟩) (fun z => absurd ⟨b, hb, eb⟩ z)) (fun z => absurd ⟨a, ha, ea⟩ z)
  · subst ea
    subst eb
    obtain ⟨c, hc, rfl⟩ : ∃ c, c ≤ 40 ∧ v3 = nI c := by
      rw [Int32.lt_iff_toInt_lt, show (1 : Int32).toInt = 1 from by decide] at h1
      exact nI_of2 (M := 40) (n := 40) (by decide) (by rw [Int32.lt_iff_toInt_lt, show (0 : Int32).toInt = 0 from by decide]; omega) h2
    refine ⟨c + 1, oc_xsow (R := oc_sw a b c 0 n P M) ha hb hc (fun F' C' S' L' H' hI' => ?_) c 0 (c + 1) n P M F C S L H (by omega) (by omega) rfl hI⟩
    unfold wpY_sow
    exact oc_y191 (fun _ _ _ => oc_y191 (fun _ _ _ => br_f h1 (br_t h2 ⟨c + 1, oc_ysow (R := oc_sw a b c 0 n P M) ha hb hc ⟨rfl, oc_mk hI'⟩ c 0 (c + 1) n P M (by omega) (by omega) hI.1.1 rfl⟩)) (fun z => absurd ⟨b, hb, rfl⟩ z)) (fun z => absurd ⟨a, ha, rfl⟩ z)
  · unfold wpY_sow
    exact oc_y191 (fun _ _ _ => oc_y191 (fun _ _ _ => br_f h1 (br_f h2 ⟨rfl, oc_mk hI⟩)) (fun z => absurd ⟨b, hb, eb⟩ z)) (fun z => absurd ⟨a, ha, ea⟩ z)
theorem i_vc_measure {k : Nat} {u : SX} {v : SY} (I : i_Rel k u v) (hk : k + 4 ≤ 2048) (v1 : Int32) (v2 : Int32) : wpX_measure (fun r u' => wpY_measure (fun r' v' => r' = r ∧ i_Rel (k + 4) u' v') v v1 v2) u v1 v2 := by
  obtain ⟨n, fk, P, M, V, F, U, C, S, L, H, rfl, rfl, hI⟩ := I
  have h40 := hI.1.1
  unfold wpX_measure
  refine oc_isFact (by omega) (fun h => br_t rfl ?_) (fun f hf e => br_f (by decide) (oc_isMea (fun h => br_t rfl ?_) (fun h => br_f (by decide) ?_)))
  · unfold wpY_measure
    exact oc_bFact (by omega) (fun w hw e => absurd ⟨w, hw, e⟩ h) (fun _ => br_f (by decide) ⟨rfl, oc_mk hI⟩)
  · unfold wpY_measure
    exact oc_bFact (by omega) (fun _ _ _ => br_t rfl (oc_yms (fun z => absurd z h) (fun _ => ⟨rfl, oc_mk hI⟩))) (fun z => absurd ⟨f, hf, e⟩ z)
  · subst e
    have hv : vp_in (nI f) 40 := vp_in_nI (by omega) (by decide)
    refine ⟨hv, nm_e ⟨hv, nm_e (oc_anew hI.1 hI.2.1 (fun V' F' C' S' L' H' hI' => ?_))⟩⟩
    unfold wpY_measure
    exact oc_bFact (by omega) (fun _ _ _ => br_t rfl (oc_yms (fun _ => ⟨hv, nm_e ⟨hv, nm_e ⟨rfl, oc_mk hI'⟩⟩⟩) (fun z => absurd h z))) (fun z => absurd ⟨f, hf, rfl⟩ z)
theorem i_vc_drop {k : Nat} {u : SX} {v : SY} (I : i_Rel k u v) (hk : k + 4 ≤ 2048) (v1 : Int32) : wpX_drop (fun r u' => wpY_drop (fun r' v' => r' = r ∧ i_Rel (k + 4) u' v') v v1) u v1 := by
  obtain ⟨n, fk, P, M, V, F, U, C, S, L, H, rfl, rfl, hI⟩ := I
  have h40 := hI.1.1
  unfold wpX_drop
  refine oc_isFact (by omega) (fun h => br_t rfl ?_) (fun f hf e => br_f (by decide) ?_)
  · unfold wpY_drop
    exact oc_bFact (by omega) (fun w hw e => absurd ⟨w, hw, e⟩ h) (fun _ => br_f (by decide) ⟨rfl, oc_mk hI⟩)
  · subst e
    refine nm_r (nI_1 f) ⟨n - 1 - f + 1, oc_xdrop (P' := oc_sh (n - 1 - f) f P) (M' := oc_sh (n - 1 - f) f M) h40 hI.2.1 (fun V' F' C' S' L' H' hI' => ?_) (n - 1 - f) f (n - 1 - f + 1) P M (by omega) (by omega) rfl rfl hI.1.2⟩
    unfold wpY_drop
    exact oc_bFact (by omega) (fun _ _ _ => br_t rfl ⟨n - 1 - f + 1, oc_ydrop (P' := oc_sh (n - 1 - f) f P) (M' := oc_sh (n - 1 - f) f M) h40 ⟨rfl, oc_mk hI'⟩ (n - 1 - f) f (n - 1 - f + 1) P M (by omega) (by omega) rfl rfl⟩) (fun z => absurd ⟨f, hf, rfl⟩ z)
theorem i_vc_prepare {k : Nat} {u : SX} {v : SY} (I : i_Rel k u v) (hk : k + 4 ≤ 2048) (v1 : Int32) : wpX_prepare (fun r u' => wpY_prepare (fun r' => r' = r ∧ i_Rel (k + 4) u' v) v v1) u v1 := by
  obtain ⟨n, fk, P, M, V, F, U, C, S, L, H, rfl, rfl, hI⟩ := I
  unfold wpX_prepare wpX_full
  refine oc_isView (fun h => br_t rfl ?_) (fun w hw e => br_f (by decide) ?_)
  · unfold wpY_prepare wpY_full
    exact oc_bView (fun w hw e => absurd ⟨w, hw, e⟩ h) (fun _ => br_f (by decide) ⟨rfl, oc_mk hI⟩)
  · subst e
    refine oc_slot hw hI (fun s fk' V' F' U' C' S' L' H' hs hI' hV => ⟨vp_in_nI hs (by decide), ?_⟩)
    dsimp only
    rw [nI_clamp (n := s) (by omega), show F' s = nI (oc_nf (oc_g n P w) 192) from hV.1]
    unfold wpY_prepare
    exact oc_fullw hw hI.1 ⟨rfl, oc_mk hI'⟩
theorem i_vc_facts {k : Nat} {u : SX} {v : SY} (I : i_Rel k u v) (hk : k + 4 ≤ 2048) : wpX_facts (fun r => wpY_facts (fun r' => r' = r ∧ i_Rel (k + 4) u v) v) u := by
  obtain ⟨n, fk, P, M, V, F, U, C, S, L, H, rfl, rfl, hI⟩ := I
  unfold wpX_facts wpY_facts
  exact ⟨rfl, oc_mk hI⟩
theorem i_vc_cellOf {k : Nat} {u : SX} {v : SY} (I : i_Rel k u v) (hk : k + 4 ≤ 2048) (v1 : Int32) (v2 : Int32) : wpX_cellOf (fun r => wpY_cellOf (fun r' => r' = r ∧ i_Rel (k + 4) u v) v v1 v2) u v1 v2 := by
  obtain ⟨n, fk, P, M, V, F, U, C, S, L, H, rfl, rfl, hI⟩ := I
  have h40 := hI.1.1
  unfold wpX_cellOf
  refine oc_isView (fun h => br_t rfl ?_) (fun w hw e => br_f (by decide) (oc_isFact (by omega) (fun h => br_t rfl ?_) (fun f hf ef => br_f (by decide) ?_)))
  · unfold wpY_cellOf
    exact oc_bView (fun w hw e => absurd ⟨w, hw, e⟩ h) (fun _ => br_f (by decide) ⟨rfl, oc_mk hI⟩)
  · subst e
    unfold wpY_cellOf
    exact oc_bv hw (br_t rfl (oc_bFact (by omega) (fun f hf e => absurd ⟨f, hf, e⟩ h) (fun _ => br_f (by decide) ⟨rfl, oc_mk hI⟩)))
  · subst e
    subst ef
    have hv : vp_in (nI f) 40 := vp_in_nI (by omega) (by decide)
    obtain ⟨p, hp, eP⟩ := hI.1.2 f hf
    rw [nI_clamp (n := f) (by omega), eP]
    refine ⟨hv, oc_seen hw (by omega) ?_⟩
    unfold wpY_cellOf
    refine oc_bv hw (br_t rfl (oc_bFact (by omega) (fun _ _ _ => br_t rfl ⟨hv, ?_⟩) (fun z => absurd ⟨f, hf, rfl⟩ z)))
    rw [nI_clamp (n := f) (by omega), eP]
    exact oc_fall hw hp ⟨rfl, oc_mk hI⟩
theorem i_vc_full {k : Nat} {u : SX} {v : SY} (I : i_Rel k u v) (hk : k + 4 ≤ 2048) (v1 : Int32) : wpX_full (fun r u' => wpY_full (fun r' => r' = r ∧ i_Rel (k + 4) u' v) v v1) u v1 := by
  obtain ⟨n, fk, P, M, V, F, U, C, S, L, H, rfl, rfl, hI⟩ := I
  unfold wpX_full
  refine oc_isView (fun h => br_t rfl ?_) (fun w hw e => br_f (by decide) ?_)
  · unfold wpY_full
    exact oc_bView (fun w hw e => absurd ⟨w, hw, e⟩ h) (fun _ => br_f (by decide) ⟨rfl, oc_mk hI⟩)
  · subst e
    refine oc_slot hw hI (fun s fk' V' F' U' C' S' L' H' hs hI' hV => ⟨vp_in_nI hs (by decide), ?_⟩)
    dsimp only
    rw [nI_clamp (n := s) (by omega), show F' s = nI (oc_nf (oc_g n P w) 192) from hV.1]
    exact oc_fullw hw hI.1 ⟨rfl, oc_mk hI'⟩
theorem i_vc_count {k : Nat} {u : SX} {v : SY} (I : i_Rel k u v) (hk : k + 4 ≤ 2048) (v1 : Int32) (v2 : Int32) : wpX_count (fun r u' => wpY_count (fun r' => r' = r ∧ i_Rel (k + 4) u' v) v v1 v2) u v1 v2 := by
  obtain ⟨n, fk, P, M, V, F, U, C, S, L, H, rfl, rfl, hI⟩ := I
  unfold wpX_count
  refine oc_isView (fun h => br_t rfl ?_) (fun w hw e => br_f (by decide) (oc_isCell (fun h => br_t rfl ?_) (fun c hc ec => br_f (by decide) ?_)))
  · unfold wpY_count
    exact oc_bView (fun w hw e => absurd ⟨w, hw, e⟩ h) (fun _ => br_f (by decide) ⟨rfl, oc_mk hI⟩)
  · subst e
    unfold wpY_count
    exact oc_bv hw (br_t rfl (oc_bCell (fun c hc e => absurd ⟨c, hc, e⟩ h) (fun _ => br_f (by decide) ⟨rfl, oc_mk hI⟩)))
  · subst e
    subst ec
    refine oc_slot hw hI (fun s fk' V' F' U' C' S' L' H' hs hI' hV => ?_)
    dsimp only
    rw [oc_xat, nI_clamp (n := 192 * s + c) (by omega), show C' (192 * s + c) = nI (oc_g n P w c) from (hV.2 c hc).1]
    exact ⟨vp_in_nI (by omega) (by decide), oc_cntw hw hc hI.1 ⟨rfl, oc_mk hI'⟩⟩
theorem i_vc_sum {k : Nat} {u : SX} {v : SY} (I : i_Rel k u v) (hk : k + 4 ≤ 2048) (v1 : Int32) (v2 : Int32) : wpX_sum (fun r u' => wpY_sum (fun r' => r' = r ∧ i_Rel (k + 4) u' v) v v1 v2) u v1 v2 := by
  obtain ⟨n, fk, P, M, V, F, U, C, S, L, H, rfl, rfl, hI⟩ := I
  unfold wpX_sum
  refine oc_isView (fun h => br_t rfl ?_) (fun w hw e => br_f (by decide) (oc_isCell (fun h => br_t rfl ?_) (fun c hc ec => br_f (by decide) ?_)))
  · unfold wpY_sum
    exact oc_bView (fun w hw e => absurd ⟨w, hw, e⟩ h) (fun _ => br_f (by decide) ⟨rfl, oc_mk hI⟩)
  · subst e
    unfold wpY_sum
    exact oc_bv hw (br_t rfl (oc_bCell (fun c hc e => absurd ⟨c, hc, e⟩ h) (fun _ => br_f (by decide) ⟨rfl, oc_mk hI⟩)))
  · subst e
    subst ec
    refine oc_slot hw hI (fun s fk' V' F' U' C' S' L' H' hs hI' hV => ?_)
    dsimp only
    rw [oc_xat, nI_clamp (n := 192 * s + c) (by omega), show S' (192 * s + c) = oc_s n P M w c from (hV.2 c hc).2.1]
    exact ⟨vp_in_nI (by omega) (by decide), oc_sumw hw hc hI.1 ⟨rfl, oc_mk hI'⟩⟩
theorem i_vc_least {k : Nat} {u : SX} {v : SY} (I : i_Rel k u v) (hk : k + 4 ≤ 2048) (v1 : Int32) (v2 : Int32) : wpX_least (fun r u' => wpY_least (fun r' => r' = r ∧ i_Rel (k + 4) u' v) v v1 v2) u v1 v2 := by
  obtain ⟨n, fk, P, M, V, F, U, C, S, L, H, rfl, rfl, hI⟩ := I
  unfold wpX_least
  refine oc_isView (fun h => br_t rfl ?_) (fun w hw e => br_f (by decide) (oc_isCell (fun h => br_t rfl ?_) (fun c hc ec => br_f (by decide) ?_)))
  · unfold wpY_least
    exact oc_bView (fun w hw e => absurd ⟨w, hw, e⟩ h) (fun _ => br_f (by decide) ⟨rfl, oc_mk hI⟩)
  · subst e
    unfold wpY_least
    exact oc_bv hw (br_t rfl (oc_bCell (fun c hc e => absurd ⟨c, hc, e⟩ h) (fun _ => br_f (by decide) ⟨rfl, oc_mk hI⟩)))
  · subst e
    subst ec
    refine oc_slot hw hI (fun s fk' V' F' U' C' S' L' H' hs hI' hV => ?_)
    dsimp only
    rw [oc_xat, nI_clamp (n := 192 * s + c) (by omega), show L' (192 * s + c) = oc_lo (oc_q w P c) M n from (hV.2 c hc).2.2.1]
    exact ⟨vp_in_nI (by omega) (by decide), oc_leaw hw hc hI.1 ⟨rfl, oc_mk hI'⟩⟩
theorem i_vc_most {k : Nat} {u : SX} {v : SY} (I : i_Rel k u v) (hk : k + 4 ≤ 2048) (v1 : Int32) (v2 : Int32) : wpX_most (fun r u' => wpY_most (fun r' => r' = r ∧ i_Rel (k + 4) u' v) v v1 v2) u v1 v2 := by
  obtain ⟨n, fk, P, M, V, F, U, C, S, L, H, rfl, rfl, hI⟩ := I
  unfold wpX_most
  refine oc_isView (fun h => br_t rfl ?_) (fun w hw e => br_f (by decide) (oc_isCell (fun h => br_t rfl ?_) (fun c hc ec => br_f (by decide) ?_)))
  · unfold wpY_most
    exact oc_bView (fun w hw e => absurd ⟨w, hw, e⟩ h) (fun _ => br_f (by decide) ⟨rfl, oc_mk hI⟩)
  · subst e
    unfold wpY_most
    exact oc_bv hw (br_t rfl (oc_bCell (fun c hc e => absurd ⟨c, hc, e⟩ h) (fun _ => br_f (by decide) ⟨rfl, oc_mk hI⟩)))
  · subst e
    subst ec
    refine oc_slot hw hI (fun s fk' V' F' U' C' S' L' H' hs hI' hV => ?_)
    dsimp only
    rw [oc_xat, nI_clamp (n := 192 * s + c) (by omega), show H' (192 * s + c) = oc_hi (oc_q w P c) M n from (hV.2 c hc).2.2.2]
    exact ⟨vp_in_nI (by omega) (by decide), oc_mosw hw hc hI.1 ⟨rfl, oc_mk hI'⟩⟩
theorem i_vc_next {k : Nat} {u : SX} {v : SY} (I : i_Rel k u v) (hk : k + 4 ≤ 2048) (v1 : Int32) (v2 : Int32) : wpX_next (fun r u' => wpY_next (fun r' => r' = r ∧ i_Rel (k + 4) u' v) v v1 v2) u v1 v2 := by
  obtain ⟨n, fk, P, M, V, F, U, C, S, L, H, rfl, rfl, hI⟩ := I
  have h40 := hI.1.1
  have hA : ∀ c, c < 192 → (nI c ≤ v2 ↔ c < (v2.toInt + 1).toNat) := fun c hc => by
    rw [Int32.le_iff_toInt_le, nI_toInt (by omega)]
    omega
  unfold wpX_next
  refine oc_isView (fun h => br_t rfl ?_) (fun w hw e => br_f (by decide) ?_)
  · unfold wpY_next
    exact oc_bView (fun w hw e => absurd ⟨w, hw, e⟩ h) (fun _ => br_f (by decide) ⟨rfl, oc_mk hI⟩)
  · subst e
    refine oc_slot hw hI (fun s fk' V' F' U' C' S' L' H' hs hI' hV => br_c (fun h1 => ?_) (fun h1 => ?_))
    · exact ⟨193, oc_xnx hs h40 hV hA (fun r h => oc_next hw hI.1 hA (fun r' h' => ⟨oc_Nx_un h h', oc_mk hI'⟩)) 192 0 193 (by omega) (by omega) (fun c _ hc => absurd hc (Nat.not_lt_zero c))⟩
    · have e0 : (v2.toInt + 1).toNat = 0 := by
        rw [Int32.le_iff_toInt_le, show (-1 : Int32).toInt = -1 from by decide] at h1
        omega
      rw [e0] at hA
      exact ⟨193, oc_xnx hs h40 hV oc_hAm (fun r h => oc_next hw hI.1 hA (fun r' h' => ⟨oc_Nx_un h h', oc_mk hI'⟩)) 192 0 193 (by omega) (by omega) (fun c _ hc => absurd hc (Nat.not_lt_zero c))⟩
theorem i_vc_best {k : Nat} {u : SX} {v : SY} (I : i_Rel k u v) (hk : k + 4 ≤ 2048) (v1 : Int32) : wpX_best (fun r u' => wpY_best (fun r' => r' = r ∧ i_Rel (k + 4) u' v) v v1) u v1 := by
  obtain ⟨n, fk, P, M, V, F, U, C, S, L, H, rfl, rfl, hI⟩ := I
  have h40 := hI.1.1
  unfold wpX_best
  refine oc_isView (fun h => br_t rfl ?_) (fun w hw e => br_f (by decide) ?_)
  · unfold wpY_best
    exact oc_bView (fun w hw e => absurd ⟨w, hw, e⟩ h) (fun _ => br_f (by decide) ⟨rfl, oc_mk hI⟩)
  · subst e
    refine oc_slot hw hI (fun s fk' V' F' U' C' S' L' H' hs hI' hV => ⟨193, ?_⟩)
    exact oc_xbest hs h40 hV (oc_bestw hw hI.1 ⟨rfl, oc_mk hI'⟩) 192 0 193 (by omega) (by omega)
theorem i_vc_having {k : Nat} {u : SX} {v : SY} (I : i_Rel k u v) (hk : k + 4 ≤ 2048) (v1 : Int32) (v2 : Int32) : wpX_having (fun r u' => wpY_having (fun r' => r' = r ∧ i_Rel (k + 4) u' v) v v1 v2) u v1 v2 := by
  obtain ⟨n, fk, P, M, V, F, U, C, S, L, H, rfl, rfl, hI⟩ := I
  have h40 := hI.1.1
  unfold wpX_having
  refine oc_isView (fun h => br_t rfl ?_) (fun w hw e => br_f (by decide) ?_)
  · unfold wpY_having
    exact oc_bView (fun w hw e => absurd ⟨w, hw, e⟩ h) (fun _ => br_f (by decide) ⟨rfl, oc_mk hI⟩)
  · subst e
    refine oc_slot hw hI (fun s fk' V' F' U' C' S' L' H' hs hI' hV => nm_r (pk_mul 192 s) ⟨193, ?_⟩)
    exact oc_xhav hs h40 hV (oc_havw hw hI.1 ⟨rfl, oc_mk hI'⟩) 192 0 193 (by omega) (by omega)
theorem i_vc_finer {k : Nat} {u : SX} {v : SY} (I : i_Rel k u v) (hk : k + 4 ≤ 2048) (v1 : Int32) (v2 : Int32) : wpX_finer (fun r => wpY_finer (fun r' => r' = r ∧ i_Rel (k + 4) u v) v v1 v2) u v1 v2 := by
  obtain ⟨n, fk, P, M, V, F, U, C, S, L, H, rfl, rfl, hI⟩ := I
  unfold wpX_finer
  refine oc_isView (fun h => br_t rfl ?_) (fun f hf e => br_f (by decide) (oc_isView (fun h => br_t rfl ?_) (fun w hw ew => br_f (by decide) ?_)))
  · unfold wpY_finer
    exact oc_bView (fun w hw e => absurd ⟨w, hw, e⟩ h) (fun _ => br_f (by decide) ⟨rfl, oc_mk hI⟩)
  · subst e
    unfold wpY_finer
    exact oc_bv hf (br_t rfl (oc_bView (fun w hw e => absurd ⟨w, hw, e⟩ h) (fun _ => br_f (by decide) ⟨rfl, oc_mk hI⟩)))
  · subst e
    subst ew
    exact oc_isF hf hw (fun z => br_f (by decide) (oc_finw hf hw (fun z' => absurd z z') (fun _ => ⟨rfl, oc_mk hI⟩))) (fun z => br_t rfl (oc_finw hf hw (fun _ => ⟨rfl, oc_mk hI⟩) (fun z' => absurd z' z)))
theorem i_vc_viewsWith {k : Nat} {u : SX} {v : SY} (I : i_Rel k u v) (hk : k + 4 ≤ 2048) (v1 : Int32) : wpX_viewsWith (fun r u' => wpY_viewsWith (fun r' => r' = r ∧ i_Rel (k + 4) u' v) v v1) u v1 := by
  obtain ⟨n, fk, P, M, V, F, U, C, S, L, H, rfl, rfl, hI⟩ := I
  unfold wpX_viewsWith
  refine br_c (fun h => ?_) (fun h => br_c (fun h' => ⟨49, ?_⟩) (fun h' => ?_))
  · unfold wpY_viewsWith
    exact br_t h ⟨rfl, oc_mk hI⟩
  · refine oc_xvw (fun fk' V' F' U' C' S' L' H' hI' => ?_) 48 0 49 fk V F U C S L H (by omega) (by omega) hI
    unfold wpY_viewsWith
    exact br_f h (br_t h' ⟨49, oc_yvw hI.1 ⟨rfl, oc_mk hI'⟩ 48 0 49 (by omega) (by omega)⟩)
  · unfold wpY_viewsWith
    exact br_f h (br_f h' ⟨rfl, oc_mk hI⟩)
end
